section
/-! pure rows to paste: stores, nI and lN arithmetic, masks, shifts, narrowing, branches by naturals (pk_le, pk_lt, pk_eq), loops (lp1 .. lp16: the measure of the state; rp1 ..: recursion), negatives. Take what you need -/
theorem pk_us {f : Nat → Int32} {k : Nat} {x : Int32} : upd f k x k = x := if_pos rfl
theorem pk_un {f : Nat → Int32} {k j : Nat} {x : Int32} (h : j ≠ k) : upd f k x j = f j := if_neg h
theorem pk_uLs {f : Nat → Int64} {k : Nat} {x : Int64} : vp_updL f k x k = x := if_pos rfl
theorem pk_uLn {f : Nat → Int64} {k j : Nat} {x : Int64} (h : j ≠ k) : vp_updL f k x j = f j := if_neg h
theorem pk_sub {a b : Nat} (h : b ≤ a) : nI a - nI b = nI (a - b) := by
  obtain ⟨c, rfl⟩ : ∃ c, a = c + b := ⟨a - b, by omega⟩
  rw [← nI_add, Int32.add_sub_cancel, Nat.add_sub_cancel]
theorem pk_m1 (n : Nat) : nI (n + 1) + (-1) = nI n := by
  rw [← nI_1, Int32.add_assoc, show (1 : Int32) + (-1) = 0 from rfl, Int32.add_zero]
theorem pk_mul (a b : Nat) : nI a * nI b = nI (a * b) := (Int32.ofNat_mul a b).symm
theorem pk_div {a d : Nat} (ha : a < 2 ^ 31) (h0 : 0 < d) (hd : d < 2 ^ 31) : nI a / nI d = nI (a / d) := by
  apply Int32.toInt_inj.mp
  rw [lg_idiv_nonneg (by rw [nI_toInt ha]; omega) (by rw [nI_toInt hd]; omega), nI_toInt ha, nI_toInt hd, nI_toInt (Nat.lt_of_le_of_lt (Nat.div_le_self a d) ha)]
  first | rfl | exact (Int.natCast_ediv _ _).symm
theorem pk_rem {a d : Nat} (ha : a < 2 ^ 31) (h0 : 0 < d) (hd : d < 2 ^ 31) : nI a - nI a / nI d * nI d = nI (a % d) := by
  rw [pk_div ha h0 hd, pk_mul, pk_sub (Nat.div_mul_le_self a d)]
  exact congrArg nI (by have := Nat.div_add_mod' a d; omega)
theorem pk_sub_toInt {a b : Nat} (ha : a < 2 ^ 30) (hb : b < 2 ^ 30) : (nI a - nI b).toInt = (a : Int) - b := by
  rw [Int32.toInt_sub, nI_toInt (by omega), nI_toInt (by omega)]
  exact Int.bmod_eq_of_le (by omega) (by omega)
theorem pk_sneg {a b : Nat} (hb : b < 2 ^ 30) (h : a < b) : nI a - nI b < 0 := by
  rw [Int32.lt_iff_toInt_lt, pk_sub_toInt (by omega) hb, show (0 : Int32).toInt = 0 from by decide]
  omega
theorem pk_ix (x : Int32) {n : Nat} (hn : n < 2 ^ 31) : x < 0 ∨ nI n ≤ x ∨ ∃ j : Nat, j < n ∧ x = nI j := by
  by_cases h : x < 0
  · exact Or.inl h
  · obtain ⟨j, hj, rfl⟩ := nI_of h
    by_cases h2 : j < n
    · exact Or.inr (Or.inr ⟨j, h2, rfl⟩)
    · exact Or.inr (Or.inl (nI_le (by omega) hj))
theorem pk_le {x y : Int32} {A B : Prop} (a b : Nat) (f : a ≤ b → A) (g : b < a → B) (hx : x = nI a := by rfl) (hy : y = nI b := by rfl) (ha : a < 2 ^ 31 := by omega) (hb : b < 2 ^ 31 := by omega) : (x ≤ y → A) ∧ (¬ x ≤ y → B) := by
  subst hx hy
  rw [nI_leI ha hb]
  exact ⟨f, fun z => g (by omega)⟩
theorem pk_lt {x y : Int32} {A B : Prop} (a b : Nat) (f : a < b → A) (g : b ≤ a → B) (hx : x = nI a := by rfl) (hy : y = nI b := by rfl) (ha : a < 2 ^ 31 := by omega) (hb : b < 2 ^ 31 := by omega) : (x < y → A) ∧ (¬ x < y → B) := by
  subst hx hy
  rw [nI_ltI ha hb]
  exact ⟨f, fun z => g (by omega)⟩
theorem pk_eq {x y : Int32} {A B : Prop} (a b : Nat) (f : a = b → A) (g : a ≠ b → B) (hx : x = nI a := by rfl) (hy : y = nI b := by rfl) (ha : a < 2 ^ 31 := by omega) (hb : b < 2 ^ 31 := by omega) : (x = y → A) ∧ (¬ x = y → B) := by
  subst hx hy
  rw [nI_eq ha hb]
  exact ⟨f, g⟩
theorem pk_in {x : Int32} (n N : Nat) (h : n < N) (hx : x = nI n := by rfl) (hN : N < 2 ^ 31 := by omega) : vp_in x N := by
  subst hx
  exact vp_in_nI h hN
theorem pk_cl {x : Int32} (n : Nat) (hx : x = nI n := by rfl) (h : n < 2 ^ 31 := by omega) : x.toNatClampNeg = n := by
  subst hx
  exact nI_clamp h
theorem pk_tn {n : Nat} (h : n < 2 ^ 32) : (nI n).toBitVec.toNat = n := Nat.mod_eq_of_lt h
theorem pk_and (x : Int32) {m : Int32} (k : Nat) (hm : m.toBitVec.toNat = 2 ^ k - 1) : x &&& m = nI (x.toBitVec.toNat % 2 ^ k) := by
  apply Int32.toBitVec_inj.mp
  apply BitVec.eq_of_toNat_eq
  rw [Int32.toBitVec_and, BitVec.toNat_and, hm, Nat.and_two_pow_sub_one_eq_mod]
  show _ = (BitVec.ofNat 32 _).toNat
  rw [BitVec.toNat_ofNat]
  exact (Nat.mod_eq_of_lt (Nat.lt_of_le_of_lt (Nat.mod_le _ _) x.toBitVec.isLt)).symm
theorem pk_andN {n : Nat} (h : n < 2 ^ 32) {m : Int32} (k : Nat) (hm : m.toBitVec.toNat = 2 ^ k - 1) : nI n &&& m = nI (n % 2 ^ k) := by
  rw [pk_and _ k hm, pk_tn h]
theorem pk_andE (x : Int32) {m : Int32} (k : Nat) (hm : m.toBitVec.toNat = 2 ^ k - 1) : ∃ j : Nat, j < 2 ^ k ∧ x &&& m = nI j := ⟨_, Nat.mod_lt _ (Nat.two_pow_pos k), pk_and x k hm⟩
theorem pk_andIn (x : Int32) {m : Int32} (k : Nat) (hm : m.toBitVec.toNat = 2 ^ k - 1) (hk : k ≤ 30) : vp_in (x &&& m) (2 ^ k) := by
  obtain ⟨j, hj, e⟩ := pk_andE x k hm
  rw [e]
  exact vp_in_nI hj (Nat.lt_of_le_of_lt (Nat.pow_le_pow_right (by decide) hk) (by decide))
theorem pk_shl (a s : Int32) (k : Nat) (hs : (s.toBitVec.smod 32).toNat = k) : (a <<< s).toBitVec.toNat = a.toBitVec.toNat * 2 ^ k % 2 ^ 32 := by
  show (a.toBitVec <<< (s.toBitVec.smod 32).toNat).toNat = _
  rw [hs, BitVec.toNat_shiftLeft, Nat.shiftLeft_eq]
theorem pk_shlN {n : Nat} (s : Int32) (k : Nat) (hs : (s.toBitVec.smod 32).toNat = k) (h : n * 2 ^ k < 2 ^ 32) : nI n <<< s = nI (n * 2 ^ k) := by
  apply Int32.toBitVec_inj.mp
  apply BitVec.eq_of_toNat_eq
  have hn : n < 2 ^ 32 := Nat.lt_of_le_of_lt (Nat.le_mul_of_pos_right n (Nat.two_pow_pos k)) h
  rw [pk_shl _ _ k hs, pk_tn hn, pk_tn h, Nat.mod_eq_of_lt h]
theorem pk_shr (a s : Int32) (k : Nat) (hs : (s.toBitVec.smod 32).toNat = k) : (a >>> s).toInt = a.toInt >>> k := by
  show (a.toBitVec.sshiftRight (s.toBitVec.smod 32).toNat).toInt = _
  rw [hs, BitVec.toInt_sshiftRight]
  rfl
theorem pk_shrN {n : Nat} (h : n < 2 ^ 31) (s : Int32) (k : Nat) (hs : (s.toBitVec.smod 32).toNat = k) : nI n >>> s = nI (n / 2 ^ k) := by
  apply Int32.toInt_inj.mp
  have h2 : n / 2 ^ k ≤ n := Nat.div_le_self _ _
  rw [pk_shr _ _ k hs, nI_toInt h, nI_toInt (by omega), Int.shiftRight_eq_div_pow]
  rfl
theorem pk_ushr (x s : Int32) (k : Nat) (hs : ((s.toUInt32 &&& Int32.toUInt32 31).toBitVec % 32).toNat = k) : (x.toUInt32 >>> (s.toUInt32 &&& Int32.toUInt32 31)).toInt32.toBitVec.toNat = x.toBitVec.toNat / 2 ^ k := by
  have e : (x.toUInt32 >>> (s.toUInt32 &&& Int32.toUInt32 31)).toInt32.toBitVec = x.toBitVec >>> k := by
    rw [← hs]
    exact UInt32.toBitVec_shiftRight _ _
  rw [e, BitVec.toNat_ushiftRight, Nat.shiftRight_eq_div_pow]
theorem pk_ushrN {n : Nat} (hn : n < 2 ^ 32) (s : Int32) (k : Nat) (hs : ((s.toUInt32 &&& Int32.toUInt32 31).toBitVec % 32).toNat = k) : ((nI n).toUInt32 >>> (s.toUInt32 &&& Int32.toUInt32 31)).toInt32 = nI (n / 2 ^ k) := by
  apply Int32.toBitVec_inj.mp
  apply BitVec.eq_of_toNat_eq
  rw [pk_ushr _ s k hs, pk_tn hn, pk_tn (Nat.lt_of_le_of_lt (Nat.div_le_self _ _) hn)]
theorem pk_nb (z : Int32) : narrow .byte (.int z.toInt8.toInt32) = .int z.toInt8.toInt32 := congrArg Value.int (by simp)
theorem pk_ns (z : Int32) : narrow .short (.int z.toInt16.toInt32) = .int z.toInt16.toInt32 := congrArg Value.int (by simp)
theorem pk_fb (r : Int32) : fits .byte (.int r.toInt8.toInt32) = true := by
  have ⟨a, b⟩ := lg_i2b_range r
  have h1 : (-128 : Int32).toInt = -128 := by decide
  have h2 : (127 : Int32).toInt = 127 := by decide
  simp only [fits, Bool.and_eq_true, decide_eq_true_eq, Int32.le_iff_toInt_le, h1, h2]
  omega
theorem pk_fs (r : Int32) : fits .short (.int r.toInt16.toInt32) = true := by
  have ⟨a, b⟩ := lg_i2s_range r
  have h1 : (-32768 : Int32).toInt = -32768 := by decide
  have h2 : (32767 : Int32).toInt = 32767 := by decide
  simp only [fits, Bool.and_eq_true, decide_eq_true_eq, Int32.le_iff_toInt_le, h1, h2]
  omega
theorem pk_charN {q : Nat} (hq : q < 65536) : narrow .char (.int (nI q)) = .int (nI q) ∧ fits .char (.int (nI q)) = true := by
  constructor
  · have e : (nI q).toUInt32.toUInt16.toUInt32.toInt32 = nI q := by
      apply Int32.toBitVec_inj.mp
      apply BitVec.eq_of_toNat_eq
      show (nI q).toUInt32.toUInt16.toUInt32.toNat = q % 2 ^ 32
      rw [UInt16.toNat_toUInt32, UInt32.toNat_toUInt16, show (nI q).toUInt32.toNat = q % 2 ^ 32 from rfl]
      omega
    exact congrArg Value.int e
  · have a : (0 : Int32) ≤ nI q := nI_pos' (by omega)
    have b : nI q ≤ 65535 := nI_le (b := 65535) (by omega) (by decide)
    show (decide ((0 : Int32) ≤ nI q) && decide (nI q ≤ 65535)) = true
    rw [decide_eq_true a, decide_eq_true b]
    rfl
theorem pk_char (x : Int32) : (x.toUInt32 % 65536).toInt32 = nI (x.toBitVec.toNat % 65536) := by
  apply Int32.toBitVec_inj.mp
  apply BitVec.eq_of_toNat_eq
  rw [pk_tn (by omega)]
  show (x.toUInt32 % 65536).toNat = _
  rw [UInt32.toNat_mod]
  rfl
theorem pk_nc (x : Int32) : narrow .char (.int (x.toUInt32 % 65536).toInt32) = .int (x.toUInt32 % 65536).toInt32 := by
  rw [pk_char]
  exact (pk_charN (Nat.mod_lt _ (by decide))).1
theorem pk_fc (x : Int32) : fits .char (.int (x.toUInt32 % 65536).toInt32) = true := by
  rw [pk_char]
  exact (pk_charN (Nat.mod_lt _ (by decide))).2
theorem pk_vb (z : Int32) : vp_nar .byte z.toInt8.toInt32 = z.toInt8.toInt32 := by rw [vp_nar_byte]; simp
theorem pk_vs (z : Int32) : vp_nar .short z.toInt16.toInt32 = z.toInt16.toInt32 := by rw [vp_nar_short]; simp
theorem pk_vc (z : Int32) : vp_nar .char (z.toUInt32 % 65536).toInt32 = (z.toUInt32 % 65536).toInt32 := Value.int.inj (pk_nc z)
theorem pk_lT {n : Nat} (h : n < 2 ^ 63) : (lN n).toInt = (n : Int) := lg_ofNat_toInt h
theorem pk_lLT {a b : Nat} (ha : a < 2 ^ 63) (hb : b < 2 ^ 63) : lN a < lN b ↔ a < b := by
  rw [Int64.lt_iff_toInt_lt, pk_lT ha, pk_lT hb]; omega
theorem pk_lLE {a b : Nat} (ha : a < 2 ^ 63) (hb : b < 2 ^ 63) : lN a ≤ lN b ↔ a ≤ b := by
  rw [Int64.le_iff_toInt_le, pk_lT ha, pk_lT hb]; omega
theorem pk_lEQ {a b : Nat} (ha : a < 2 ^ 63) (hb : b < 2 ^ 63) : lN a = lN b ↔ a = b := by
  rw [← Int64.toInt_inj, pk_lT ha, pk_lT hb]; omega
theorem pk_lOf {x : Int64} (h : ¬ x < 0) : ∃ k : Nat, k < 2 ^ 63 ∧ x = lN k := by
  rw [Int64.lt_iff_toInt_lt] at h
  have h0 : (0 : Int64).toInt = 0 := by decide
  have hx := Int64.toInt_lt x
  refine ⟨x.toInt.toNat, by omega, Int64.toInt_inj.mp ?_⟩
  rw [pk_lT (by omega)]
  omega
theorem pk_lDiv {a b : Nat} (ha : a < 2 ^ 63) (h0 : 0 < b) (hb : b < 2 ^ 63) : lN a / lN b = lN (a / b) := by
  apply Int64.toInt_inj.mp
  rw [lg_ldiv_nonneg (by rw [pk_lT ha]; omega) (by rw [pk_lT hb]; omega), pk_lT ha, pk_lT hb, pk_lT (Nat.lt_of_le_of_lt (Nat.div_le_self a b) ha)]
  rfl
theorem pk_lRem {a b : Nat} (ha : a < 2 ^ 63) (h0 : 0 < b) (hb : b < 2 ^ 63) : lN a - lN a / lN b * lN b = lN (a % b) := by
  rw [pk_lDiv ha h0 hb, lN_mul, lN_sub (Nat.div_mul_le_self a b)]
  exact congrArg lN (by have := Nat.div_add_mod' a b; omega)
theorem pk_loop {σ : Type} (W : Nat → Nat → σ → Prop) (I : Nat → σ → Prop) (e i0 : Nat) (s : σ) (hi : i0 ≤ e) (h0 : I i0 s) (hx : ∀ n s, I e s → W (n + 1) e s)
    (hs : ∀ n i s, i < e → I i s → (∀ s', I (i + 1) s' → W n (i + 1) s') → W (n + 1) i s) : ∃ n, W n i0 s :=
  ⟨e + 1, loop_i W I e hx hs (e + 1) i0 s hi (by omega) h0⟩
theorem pk_loopD {σ : Type} (W : Nat → Nat → σ → Prop) (I : Nat → σ → Prop) (hx : ∀ n s, I 0 s → W (n + 1) 0 s)
    (hs : ∀ n i s, I (i + 1) s → (∀ s', I i s' → W n i s') → W (n + 1) (i + 1) s) : ∀ (e : Nat) (s : σ), I e s → W (e + 1) e s := by
  intro e
  induction e with
  | zero => exact fun s h => hx 0 s h
  | succ e ih => exact fun s h => hs (e + 1) e s h (fun s' h' => ih s' h')
theorem lp1 {A1 : Type} (W : Nat → A1 → Prop) (I : A1 → Prop) (μ : A1 → Nat) (hs : ∀ (n : Nat) (a1 : A1), I a1 → (∀ (b1 : A1), I b1 → μ b1 < μ a1 → W n b1) → W (n + 1) a1) (a1 : A1) (h : I a1) : ∃ n, W n a1 :=
  loop_m (σ := A1) (fun n s => W n s) (fun s => I s) (fun s => μ s) (fun n s hI hk => hs n s hI (fun b1 h9 hm => hk b1 h9 hm)) a1 h
theorem lp2 {A1 A2 : Type} (W : Nat → A1 → A2 → Prop) (I : A1 → A2 → Prop) (μ : A1 → A2 → Nat) (hs : ∀ (n : Nat) (a1 : A1) (a2 : A2), I a1 a2 → (∀ (b1 : A1) (b2 : A2), I b1 b2 → μ b1 b2 < μ a1 a2 → W n b1 b2) → W (n + 1) a1 a2) (a1 : A1) (a2 : A2) (h : I a1 a2) : ∃ n, W n a1 a2 :=
  loop_m (σ := A1 × A2) (fun n s => W n s.1 s.2) (fun s => I s.1 s.2) (fun s => μ s.1 s.2) (fun n s hI hk => hs n s.1 s.2 hI (fun b1 b2 h9 hm => hk (b1, b2) h9 hm)) (a1, a2) h
theorem lp3 {A1 A2 A3 : Type} (W : Nat → A1 → A2 → A3 → Prop) (I : A1 → A2 → A3 → Prop) (μ : A1 → A2 → A3 → Nat) (hs : ∀ (n : Nat) (a1 : A1) (a2 : A2) (a3 : A3), I a1 a2 a3 → (∀ (b1 : A1) (b2 : A2) (b3 : A3), I b1 b2 b3 → μ b1 b2 b3 < μ a1 a2 a3 → W n b1 b2 b3) → W (n + 1) a1 a2 a3) (a1 : A1) (a2 : A2) (a3 : A3) (h : I a1 a2 a3) : ∃ n, W n a1 a2 a3 :=
  loop_m (σ := A1 × A2 × A3) (fun n s => W n s.1 s.2.1 s.2.2) (fun s => I s.1 s.2.1 s.2.2) (fun s => μ s.1 s.2.1 s.2.2) (fun n s hI hk => hs n s.1 s.2.1 s.2.2 hI (fun b1 b2 b3 h9 hm => hk (b1, b2, b3) h9 hm)) (a1, a2, a3) h
theorem lp4 {A1 A2 A3 A4 : Type} (W : Nat → A1 → A2 → A3 → A4 → Prop) (I : A1 → A2 → A3 → A4 → Prop) (μ : A1 → A2 → A3 → A4 → Nat) (hs : ∀ (n : Nat) (a1 : A1) (a2 : A2) (a3 : A3) (a4 : A4), I a1 a2 a3 a4 → (∀ (b1 : A1) (b2 : A2) (b3 : A3) (b4 : A4), I b1 b2 b3 b4 → μ b1 b2 b3 b4 < μ a1 a2 a3 a4 → W n b1 b2 b3 b4) → W (n + 1) a1 a2 a3 a4) (a1 : A1) (a2 : A2) (a3 : A3) (a4 : A4) (h : I a1 a2 a3 a4) : ∃ n, W n a1 a2 a3 a4 :=
  loop_m (σ := A1 × A2 × A3 × A4) (fun n s => W n s.1 s.2.1 s.2.2.1 s.2.2.2) (fun s => I s.1 s.2.1 s.2.2.1 s.2.2.2) (fun s => μ s.1 s.2.1 s.2.2.1 s.2.2.2) (fun n s hI hk => hs n s.1 s.2.1 s.2.2.1 s.2.2.2 hI (fun b1 b2 b3 b4 h9 hm => hk (b1, b2, b3, b4) h9 hm)) (a1, a2, a3, a4) h
theorem lp5 {A1 A2 A3 A4 A5 : Type} (W : Nat → A1 → A2 → A3 → A4 → A5 → Prop) (I : A1 → A2 → A3 → A4 → A5 → Prop) (μ : A1 → A2 → A3 → A4 → A5 → Nat) (hs : ∀ (n : Nat) (a1 : A1) (a2 : A2) (a3 : A3) (a4 : A4) (a5 : A5), I a1 a2 a3 a4 a5 → (∀ (b1 : A1) (b2 : A2) (b3 : A3) (b4 : A4) (b5 : A5), I b1 b2 b3 b4 b5 → μ b1 b2 b3 b4 b5 < μ a1 a2 a3 a4 a5 → W n b1 b2 b3 b4 b5) → W (n + 1) a1 a2 a3 a4 a5) (a1 : A1) (a2 : A2) (a3 : A3) (a4 : A4) (a5 : A5) (h : I a1 a2 a3 a4 a5) : ∃ n, W n a1 a2 a3 a4 a5 :=
  loop_m (σ := A1 × A2 × A3 × A4 × A5) (fun n s => W n s.1 s.2.1 s.2.2.1 s.2.2.2.1 s.2.2.2.2) (fun s => I s.1 s.2.1 s.2.2.1 s.2.2.2.1 s.2.2.2.2) (fun s => μ s.1 s.2.1 s.2.2.1 s.2.2.2.1 s.2.2.2.2) (fun n s hI hk => hs n s.1 s.2.1 s.2.2.1 s.2.2.2.1 s.2.2.2.2 hI (fun b1 b2 b3 b4 b5 h9 hm => hk (b1, b2, b3, b4, b5) h9 hm)) (a1, a2, a3, a4, a5) h
theorem lp6 {A1 A2 A3 A4 A5 A6 : Type} (W : Nat → A1 → A2 → A3 → A4 → A5 → A6 → Prop) (I : A1 → A2 → A3 → A4 → A5 → A6 → Prop) (μ : A1 → A2 → A3 → A4 → A5 → A6 → Nat) (hs : ∀ (n : Nat) (a1 : A1) (a2 : A2) (a3 : A3) (a4 : A4) (a5 : A5) (a6 : A6), I a1 a2 a3 a4 a5 a6 → (∀ (b1 : A1) (b2 : A2) (b3 : A3) (b4 : A4) (b5 : A5) (b6 : A6), I b1 b2 b3 b4 b5 b6 → μ b1 b2 b3 b4 b5 b6 < μ a1 a2 a3 a4 a5 a6 → W n b1 b2 b3 b4 b5 b6) → W (n + 1) a1 a2 a3 a4 a5 a6) (a1 : A1) (a2 : A2) (a3 : A3) (a4 : A4) (a5 : A5) (a6 : A6) (h : I a1 a2 a3 a4 a5 a6) : ∃ n, W n a1 a2 a3 a4 a5 a6 :=
  loop_m (σ := A1 × A2 × A3 × A4 × A5 × A6) (fun n s => W n s.1 s.2.1 s.2.2.1 s.2.2.2.1 s.2.2.2.2.1 s.2.2.2.2.2) (fun s => I s.1 s.2.1 s.2.2.1 s.2.2.2.1 s.2.2.2.2.1 s.2.2.2.2.2) (fun s => μ s.1 s.2.1 s.2.2.1 s.2.2.2.1 s.2.2.2.2.1 s.2.2.2.2.2) (fun n s hI hk => hs n s.1 s.2.1 s.2.2.1 s.2.2.2.1 s.2.2.2.2.1 s.2.2.2.2.2 hI (fun b1 b2 b3 b4 b5 b6 h9 hm => hk (b1, b2, b3, b4, b5, b6) h9 hm)) (a1, a2, a3, a4, a5, a6) h
theorem lp7 {A1 A2 A3 A4 A5 A6 A7 : Type} (W : Nat → A1 → A2 → A3 → A4 → A5 → A6 → A7 → Prop) (I : A1 → A2 → A3 → A4 → A5 → A6 → A7 → Prop) (μ : A1 → A2 → A3 → A4 → A5 → A6 → A7 → Nat) (hs : ∀ (n : Nat) (a1 : A1) (a2 : A2) (a3 : A3) (a4 : A4) (a5 : A5) (a6 : A6) (a7 : A7), I a1 a2 a3 a4 a5 a6 a7 → (∀ (b1 : A1) (b2 : A2) (b3 : A3) (b4 : A4) (b5 : A5) (b6 : A6) (b7 : A7), I b1 b2 b3 b4 b5 b6 b7 → μ b1 b2 b3 b4 b5 b6 b7 < μ a1 a2 a3 a4 a5 a6 a7 → W n b1 b2 b3 b4 b5 b6 b7) → W (n + 1) a1 a2 a3 a4 a5 a6 a7) (a1 : A1) (a2 : A2) (a3 : A3) (a4 : A4) (a5 : A5) (a6 : A6) (a7 : A7) (h : I a1 a2 a3 a4 a5 a6 a7) : ∃ n, W n a1 a2 a3 a4 a5 a6 a7 :=
  loop_m (σ := A1 × A2 × A3 × A4 × A5 × A6 × A7) (fun n s => W n s.1 s.2.1 s.2.2.1 s.2.2.2.1 s.2.2.2.2.1 s.2.2.2.2.2.1 s.2.2.2.2.2.2) (fun s => I s.1 s.2.1 s.2.2.1 s.2.2.2.1 s.2.2.2.2.1 s.2.2.2.2.2.1 s.2.2.2.2.2.2) (fun s => μ s.1 s.2.1 s.2.2.1 s.2.2.2.1 s.2.2.2.2.1 s.2.2.2.2.2.1 s.2.2.2.2.2.2) (fun n s hI hk => hs n s.1 s.2.1 s.2.2.1 s.2.2.2.1 s.2.2.2.2.1 s.2.2.2.2.2.1 s.2.2.2.2.2.2 hI (fun b1 b2 b3 b4 b5 b6 b7 h9 hm => hk (b1, b2, b3, b4, b5, b6, b7) h9 hm)) (a1, a2, a3, a4, a5, a6, a7) h
theorem lp8 {A1 A2 A3 A4 A5 A6 A7 A8 : Type} (W : Nat → A1 → A2 → A3 → A4 → A5 → A6 → A7 → A8 → Prop) (I : A1 → A2 → A3 → A4 → A5 → A6 → A7 → A8 → Prop) (μ : A1 → A2 → A3 → A4 → A5 → A6 → A7 → A8 → Nat) (hs : ∀ (n : Nat) (a1 : A1) (a2 : A2) (a3 : A3) (a4 : A4) (a5 : A5) (a6 : A6) (a7 : A7) (a8 : A8), I a1 a2 a3 a4 a5 a6 a7 a8 → (∀ (b1 : A1) (b2 : A2) (b3 : A3) (b4 : A4) (b5 : A5) (b6 : A6) (b7 : A7) (b8 : A8), I b1 b2 b3 b4 b5 b6 b7 b8 → μ b1 b2 b3 b4 b5 b6 b7 b8 < μ a1 a2 a3 a4 a5 a6 a7 a8 → W n b1 b2 b3 b4 b5 b6 b7 b8) → W (n + 1) a1 a2 a3 a4 a5 a6 a7 a8) (a1 : A1) (a2 : A2) (a3 : A3) (a4 : A4) (a5 : A5) (a6 : A6) (a7 : A7) (a8 : A8) (h : I a1 a2 a3 a4 a5 a6 a7 a8) : ∃ n, W n a1 a2 a3 a4 a5 a6 a7 a8 :=
  loop_m (σ := A1 × A2 × A3 × A4 × A5 × A6 × A7 × A8) (fun n s => W n s.1 s.2.1 s.2.2.1 s.2.2.2.1 s.2.2.2.2.1 s.2.2.2.2.2.1 s.2.2.2.2.2.2.1 s.2.2.2.2.2.2.2) (fun s => I s.1 s.2.1 s.2.2.1 s.2.2.2.1 s.2.2.2.2.1 s.2.2.2.2.2.1 s.2.2.2.2.2.2.1 s.2.2.2.2.2.2.2) (fun s => μ s.1 s.2.1 s.2.2.1 s.2.2.2.1 s.2.2.2.2.1 s.2.2.2.2.2.1 s.2.2.2.2.2.2.1 s.2.2.2.2.2.2.2) (fun n s hI hk => hs n s.1 s.2.1 s.2.2.1 s.2.2.2.1 s.2.2.2.2.1 s.2.2.2.2.2.1 s.2.2.2.2.2.2.1 s.2.2.2.2.2.2.2 hI (fun b1 b2 b3 b4 b5 b6 b7 b8 h9 hm => hk (b1, b2, b3, b4, b5, b6, b7, b8) h9 hm)) (a1, a2, a3, a4, a5, a6, a7, a8) h
theorem lp9 {A1 A2 A3 A4 A5 A6 A7 A8 A9 : Type} (W : Nat → A1 → A2 → A3 → A4 → A5 → A6 → A7 → A8 → A9 → Prop) (I : A1 → A2 → A3 → A4 → A5 → A6 → A7 → A8 → A9 → Prop) (μ : A1 → A2 → A3 → A4 → A5 → A6 → A7 → A8 → A9 → Nat) (hs : ∀ (n : Nat) (a1 : A1) (a2 : A2) (a3 : A3) (a4 : A4) (a5 : A5) (a6 : A6) (a7 : A7) (a8 : A8) (a9 : A9), I a1 a2 a3 a4 a5 a6 a7 a8 a9 → (∀ (b1 : A1) (b2 : A2) (b3 : A3) (b4 : A4) (b5 : A5) (b6 : A6) (b7 : A7) (b8 : A8) (b9 : A9), I b1 b2 b3 b4 b5 b6 b7 b8 b9 → μ b1 b2 b3 b4 b5 b6 b7 b8 b9 < μ a1 a2 a3 a4 a5 a6 a7 a8 a9 → W n b1 b2 b3 b4 b5 b6 b7 b8 b9) → W (n + 1) a1 a2 a3 a4 a5 a6 a7 a8 a9) (a1 : A1) (a2 : A2) (a3 : A3) (a4 : A4) (a5 : A5) (a6 : A6) (a7 : A7) (a8 : A8) (a9 : A9) (h : I a1 a2 a3 a4 a5 a6 a7 a8 a9) : ∃ n, W n a1 a2 a3 a4 a5 a6 a7 a8 a9 :=
  loop_m (σ := A1 × A2 × A3 × A4 × A5 × A6 × A7 × A8 × A9) (fun n s => W n s.1 s.2.1 s.2.2.1 s.2.2.2.1 s.2.2.2.2.1 s.2.2.2.2.2.1 s.2.2.2.2.2.2.1 s.2.2.2.2.2.2.2.1 s.2.2.2.2.2.2.2.2) (fun s => I s.1 s.2.1 s.2.2.1 s.2.2.2.1 s.2.2.2.2.1 s.2.2.2.2.2.1 s.2.2.2.2.2.2.1 s.2.2.2.2.2.2.2.1 s.2.2.2.2.2.2.2.2) (fun s => μ s.1 s.2.1 s.2.2.1 s.2.2.2.1 s.2.2.2.2.1 s.2.2.2.2.2.1 s.2.2.2.2.2.2.1 s.2.2.2.2.2.2.2.1 s.2.2.2.2.2.2.2.2) (fun n s hI hk => hs n s.1 s.2.1 s.2.2.1 s.2.2.2.1 s.2.2.2.2.1 s.2.2.2.2.2.1 s.2.2.2.2.2.2.1 s.2.2.2.2.2.2.2.1 s.2.2.2.2.2.2.2.2 hI (fun b1 b2 b3 b4 b5 b6 b7 b8 b9 h9 hm => hk (b1, b2, b3, b4, b5, b6, b7, b8, b9) h9 hm)) (a1, a2, a3, a4, a5, a6, a7, a8, a9) h
theorem lp10 {A1 A2 A3 A4 A5 A6 A7 A8 A9 A10 : Type} (W : Nat → A1 → A2 → A3 → A4 → A5 → A6 → A7 → A8 → A9 → A10 → Prop) (I : A1 → A2 → A3 → A4 → A5 → A6 → A7 → A8 → A9 → A10 → Prop) (μ : A1 → A2 → A3 → A4 → A5 → A6 → A7 → A8 → A9 → A10 → Nat) (hs : ∀ (n : Nat) (a1 : A1) (a2 : A2) (a3 : A3) (a4 : A4) (a5 : A5) (a6 : A6) (a7 : A7) (a8 : A8) (a9 : A9) (a10 : A10), I a1 a2 a3 a4 a5 a6 a7 a8 a9 a10 → (∀ (b1 : A1) (b2 : A2) (b3 : A3) (b4 : A4) (b5 : A5) (b6 : A6) (b7 : A7) (b8 : A8) (b9 : A9) (b10 : A10), I b1 b2 b3 b4 b5 b6 b7 b8 b9 b10 → μ b1 b2 b3 b4 b5 b6 b7 b8 b9 b10 < μ a1 a2 a3 a4 a5 a6 a7 a8 a9 a10 → W n b1 b2 b3 b4 b5 b6 b7 b8 b9 b10) → W (n + 1) a1 a2 a3 a4 a5 a6 a7 a8 a9 a10) (a1 : A1) (a2 : A2) (a3 : A3) (a4 : A4) (a5 : A5) (a6 : A6) (a7 : A7) (a8 : A8) (a9 : A9) (a10 : A10) (h : I a1 a2 a3 a4 a5 a6 a7 a8 a9 a10) : ∃ n, W n a1 a2 a3 a4 a5 a6 a7 a8 a9 a10 :=
  loop_m (σ := A1 × A2 × A3 × A4 × A5 × A6 × A7 × A8 × A9 × A10) (fun n s => W n s.1 s.2.1 s.2.2.1 s.2.2.2.1 s.2.2.2.2.1 s.2.2.2.2.2.1 s.2.2.2.2.2.2.1 s.2.2.2.2.2.2.2.1 s.2.2.2.2.2.2.2.2.1 s.2.2.2.2.2.2.2.2.2) (fun s => I s.1 s.2.1 s.2.2.1 s.2.2.2.1 s.2.2.2.2.1 s.2.2.2.2.2.1 s.2.2.2.2.2.2.1 s.2.2.2.2.2.2.2.1 s.2.2.2.2.2.2.2.2.1 s.2.2.2.2.2.2.2.2.2) (fun s => μ s.1 s.2.1 s.2.2.1 s.2.2.2.1 s.2.2.2.2.1 s.2.2.2.2.2.1 s.2.2.2.2.2.2.1 s.2.2.2.2.2.2.2.1 s.2.2.2.2.2.2.2.2.1 s.2.2.2.2.2.2.2.2.2) (fun n s hI hk => hs n s.1 s.2.1 s.2.2.1 s.2.2.2.1 s.2.2.2.2.1 s.2.2.2.2.2.1 s.2.2.2.2.2.2.1 s.2.2.2.2.2.2.2.1 s.2.2.2.2.2.2.2.2.1 s.2.2.2.2.2.2.2.2.2 hI (fun b1 b2 b3 b4 b5 b6 b7 b8 b9 b10 h9 hm => hk (b1, b2, b3, b4, b5, b6, b7, b8, b9, b10) h9 hm)) (a1, a2, a3, a4, a5, a6, a7, a8, a9, a10) h
theorem lp11 {A1 A2 A3 A4 A5 A6 A7 A8 A9 A10 A11 : Type} (W : Nat → A1 → A2 → A3 → A4 → A5 → A6 → A7 → A8 → A9 → A10 → A11 → Prop) (I : A1 → A2 → A3 → A4 → A5 → A6 → A7 → A8 → A9 → A10 → A11 → Prop) (μ : A1 → A2 → A3 → A4 → A5 → A6 → A7 → A8 → A9 → A10 → A11 → Nat) (hs : ∀ (n : Nat) (a1 : A1) (a2 : A2) (a3 : A3) (a4 : A4) (a5 : A5) (a6 : A6) (a7 : A7) (a8 : A8) (a9 : A9) (a10 : A10) (a11 : A11), I a1 a2 a3 a4 a5 a6 a7 a8 a9 a10 a11 → (∀ (b1 : A1) (b2 : A2) (b3 : A3) (b4 : A4) (b5 : A5) (b6 : A6) (b7 : A7) (b8 : A8) (b9 : A9) (b10 : A10) (b11 : A11), I b1 b2 b3 b4 b5 b6 b7 b8 b9 b10 b11 → μ b1 b2 b3 b4 b5 b6 b7 b8 b9 b10 b11 < μ a1 a2 a3 a4 a5 a6 a7 a8 a9 a10 a11 → W n b1 b2 b3 b4 b5 b6 b7 b8 b9 b10 b11) → W (n + 1) a1 a2 a3 a4 a5 a6 a7 a8 a9 a10 a11) (a1 : A1) (a2 : A2) (a3 : A3) (a4 : A4) (a5 : A5) (a6 : A6) (a7 : A7) (a8 : A8) (a9 : A9) (a10 : A10) (a11 : A11) (h : I a1 a2 a3 a4 a5 a6 a7 a8 a9 a10 a11) : ∃ n, W n a1 a2 a3 a4 a5 a6 a7 a8 a9 a10 a11 :=
  loop_m (σ := A1 × A2 × A3 × A4 × A5 × A6 × A7 × A8 × A9 × A10 × A11) (fun n s => W n s.1 s.2.1 s.2.2.1 s.2.2.2.1 s.2.2.2.2.1 s.2.2.2.2.2.1 s.2.2.2.2.2.2.1 s.2.2.2.2.2.2.2.1 s.2.2.2.2.2.2.2.2.1 s.2.2.2.2.2.2.2.2.2.1 s.2.2.2.2.2.2.2.2.2.2) (fun s => I s.1 s.2.1 s.2.2.1 s.2.2.2.1 s.2.2.2.2.1 s.2.2.2.2.2.1 s.2.2.2.2.2.2.1 s.2.2.2.2.2.2.2.1 s.2.2.2.2.2.2.2.2.1 s.2.2.2.2.2.2.2.2.2.1 s.2.2.2.2.2.2.2.2.2.2) (fun s => μ s.1 s.2.1 s.2.2.1 s.2.2.2.1 s.2.2.2.2.1 s.2.2.2.2.2.1 s.2.2.2.2.2.2.1 s.2.2.2.2.2.2.2.1 s.2.2.2.2.2.2.2.2.1 s.2.2.2.2.2.2.2.2.2.1 s.2.2.2.2.2.2.2.2.2.2) (fun n s hI hk => hs n s.1 s.2.1 s.2.2.1 s.2.2.2.1 s.2.2.2.2.1 s.2.2.2.2.2.1 s.2.2.2.2.2.2.1 s.2.2.2.2.2.2.2.1 s.2.2.2.2.2.2.2.2.1 s.2.2.2.2.2.2.2.2.2.1 s.2.2.2.2.2.2.2.2.2.2 hI (fun b1 b2 b3 b4 b5 b6 b7 b8 b9 b10 b11 h9 hm => hk (b1, b2, b3, b4, b5, b6, b7, b8, b9, b10, b11) h9 hm)) (a1, a2, a3, a4, a5, a6, a7, a8, a9, a10, a11) h
theorem lp12 {A1 A2 A3 A4 A5 A6 A7 A8 A9 A10 A11 A12 : Type} (W : Nat → A1 → A2 → A3 → A4 → A5 → A6 → A7 → A8 → A9 → A10 → A11 → A12 → Prop) (I : A1 → A2 → A3 → A4 → A5 → A6 → A7 → A8 → A9 → A10 → A11 → A12 → Prop) (μ : A1 → A2 → A3 → A4 → A5 → A6 → A7 → A8 → A9 → A10 → A11 → A12 → Nat) (hs : ∀ (n : Nat) (a1 : A1) (a2 : A2) (a3 : A3) (a4 : A4) (a5 : A5) (a6 : A6) (a7 : A7) (a8 : A8) (a9 : A9) (a10 : A10) (a11 : A11) (a12 : A12), I a1 a2 a3 a4 a5 a6 a7 a8 a9 a10 a11 a12 → (∀ (b1 : A1) (b2 : A2) (b3 : A3) (b4 : A4) (b5 : A5) (b6 : A6) (b7 : A7) (b8 : A8) (b9 : A9) (b10 : A10) (b11 : A11) (b12 : A12), I b1 b2 b3 b4 b5 b6 b7 b8 b9 b10 b11 b12 → μ b1 b2 b3 b4 b5 b6 b7 b8 b9 b10 b11 b12 < μ a1 a2 a3 a4 a5 a6 a7 a8 a9 a10 a11 a12 → W n b1 b2 b3 b4 b5 b6 b7 b8 b9 b10 b11 b12) → W (n + 1) a1 a2 a3 a4 a5 a6 a7 a8 a9 a10 a11 a12) (a1 : A1) (a2 : A2) (a3 : A3) (a4 : A4) (a5 : A5) (a6 : A6) (a7 : A7) (a8 : A8) (a9 : A9) (a10 : A10) (a11 : A11) (a12 : A12) (h : I a1 a2 a3 a4 a5 a6 a7 a8 a9 a10 a11 a12) : ∃ n, W n a1 a2 a3 a4 a5 a6 a7 a8 a9 a10 a11 a12 :=
  loop_m (σ := A1 × A2 × A3 × A4 × A5 × A6 × A7 × A8 × A9 × A10 × A11 × A12) (fun n s => W n s.1 s.2.1 s.2.2.1 s.2.2.2.1 s.2.2.2.2.1 s.2.2.2.2.2.1 s.2.2.2.2.2.2.1 s.2.2.2.2.2.2.2.1 s.2.2.2.2.2.2.2.2.1 s.2.2.2.2.2.2.2.2.2.1 s.2.2.2.2.2.2.2.2.2.2.1 s.2.2.2.2.2.2.2.2.2.2.2) (fun s => I s.1 s.2.1 s.2.2.1 s.2.2.2.1 s.2.2.2.2.1 s.2.2.2.2.2.1 s.2.2.2.2.2.2.1 s.2.2.2.2.2.2.2.1 s.2.2.2.2.2.2.2.2.1 s.2.2.2.2.2.2.2.2.2.1 s.2.2.2.2.2.2.2.2.2.2.1 s.2.2.2.2.2.2.2.2.2.2.2) (fun s => μ s.1 s.2.1 s.2.2.1 s.2.2.2.1 s.2.2.2.2.1 s.2.2.2.2.2.1 s.2.2.2.2.2.2.1 s.2.2.2.2.2.2.2.1 s.2.2.2.2.2.2.2.2.1 s.2.2.2.2.2.2.2.2.2.1 s.2.2.2.2.2.2.2.2.2.2.1 s.2.2.2.2.2.2.2.2.2.2.2) (fun n s hI hk => hs n s.1 s.2.1 s.2.2.1 s.2.2.2.1 s.2.2.2.2.1 s.2.2.2.2.2.1 s.2.2.2.2.2.2.1 s.2.2.2.2.2.2.2.1 s.2.2.2.2.2.2.2.2.1 s.2.2.2.2.2.2.2.2.2.1 s.2.2.2.2.2.2.2.2.2.2.1 s.2.2.2.2.2.2.2.2.2.2.2 hI (fun b1 b2 b3 b4 b5 b6 b7 b8 b9 b10 b11 b12 h9 hm => hk (b1, b2, b3, b4, b5, b6, b7, b8, b9, b10, b11, b12) h9 hm)) (a1, a2, a3, a4, a5, a6, a7, a8, a9, a10, a11, a12) h
theorem lp13 {A1 A2 A3 A4 A5 A6 A7 A8 A9 A10 A11 A12 A13 : Type} (W : Nat → A1 → A2 → A3 → A4 → A5 → A6 → A7 → A8 → A9 → A10 → A11 → A12 → A13 → Prop) (I : A1 → A2 → A3 → A4 → A5 → A6 → A7 → A8 → A9 → A10 → A11 → A12 → A13 → Prop) (μ : A1 → A2 → A3 → A4 → A5 → A6 → A7 → A8 → A9 → A10 → A11 → A12 → A13 → Nat) (hs : ∀ (n : Nat) (a1 : A1) (a2 : A2) (a3 : A3) (a4 : A4) (a5 : A5) (a6 : A6) (a7 : A7) (a8 : A8) (a9 : A9) (a10 : A10) (a11 : A11) (a12 : A12) (a13 : A13), I a1 a2 a3 a4 a5 a6 a7 a8 a9 a10 a11 a12 a13 → (∀ (b1 : A1) (b2 : A2) (b3 : A3) (b4 : A4) (b5 : A5) (b6 : A6) (b7 : A7) (b8 : A8) (b9 : A9) (b10 : A10) (b11 : A11) (b12 : A12) (b13 : A13), I b1 b2 b3 b4 b5 b6 b7 b8 b9 b10 b11 b12 b13 → μ b1 b2 b3 b4 b5 b6 b7 b8 b9 b10 b11 b12 b13 < μ a1 a2 a3 a4 a5 a6 a7 a8 a9 a10 a11 a12 a13 → W n b1 b2 b3 b4 b5 b6 b7 b8 b9 b10 b11 b12 b13) → W (n + 1) a1 a2 a3 a4 a5 a6 a7 a8 a9 a10 a11 a12 a13) (a1 : A1) (a2 : A2) (a3 : A3) (a4 : A4) (a5 : A5) (a6 : A6) (a7 : A7) (a8 : A8) (a9 : A9) (a10 : A10) (a11 : A11) (a12 : A12) (a13 : A13) (h : I a1 a2 a3 a4 a5 a6 a7 a8 a9 a10 a11 a12 a13) : ∃ n, W n a1 a2 a3 a4 a5 a6 a7 a8 a9 a10 a11 a12 a13 :=
  loop_m (σ := A1 × A2 × A3 × A4 × A5 × A6 × A7 × A8 × A9 × A10 × A11 × A12 × A13) (fun n s => W n s.1 s.2.1 s.2.2.1 s.2.2.2.1 s.2.2.2.2.1 s.2.2.2.2.2.1 s.2.2.2.2.2.2.1 s.2.2.2.2.2.2.2.1 s.2.2.2.2.2.2.2.2.1 s.2.2.2.2.2.2.2.2.2.1 s.2.2.2.2.2.2.2.2.2.2.1 s.2.2.2.2.2.2.2.2.2.2.2.1 s.2.2.2.2.2.2.2.2.2.2.2.2) (fun s => I s.1 s.2.1 s.2.2.1 s.2.2.2.1 s.2.2.2.2.1 s.2.2.2.2.2.1 s.2.2.2.2.2.2.1 s.2.2.2.2.2.2.2.1 s.2.2.2.2.2.2.2.2.1 s.2.2.2.2.2.2.2.2.2.1 s.2.2.2.2.2.2.2.2.2.2.1 s.2.2.2.2.2.2.2.2.2.2.2.1 s.2.2.2.2.2.2.2.2.2.2.2.2) (fun s => μ s.1 s.2.1 s.2.2.1 s.2.2.2.1 s.2.2.2.2.1 s.2.2.2.2.2.1 s.2.2.2.2.2.2.1 s.2.2.2.2.2.2.2.1 s.2.2.2.2.2.2.2.2.1 s.2.2.2.2.2.2.2.2.2.1 s.2.2.2.2.2.2.2.2.2.2.1 s.2.2.2.2.2.2.2.2.2.2.2.1 s.2.2.2.2.2.2.2.2.2.2.2.2) (fun n s hI hk => hs n s.1 s.2.1 s.2.2.1 s.2.2.2.1 s.2.2.2.2.1 s.2.2.2.2.2.1 s.2.2.2.2.2.2.1 s.2.2.2.2.2.2.2.1 s.2.2.2.2.2.2.2.2.1 s.2.2.2.2.2.2.2.2.2.1 s.2.2.2.2.2.2.2.2.2.2.1 s.2.2.2.2.2.2.2.2.2.2.2.1 s.2.2.2.2.2.2.2.2.2.2.2.2 hI (fun b1 b2 b3 b4 b5 b6 b7 b8 b9 b10 b11 b12 b13 h9 hm => hk (b1, b2, b3, b4, b5, b6, b7, b8, b9, b10, b11, b12, b13) h9 hm)) (a1, a2, a3, a4, a5, a6, a7, a8, a9, a10, a11, a12, a13) h
theorem lp14 {A1 A2 A3 A4 A5 A6 A7 A8 A9 A10 A11 A12 A13 A14 : Type} (W : Nat → A1 → A2 → A3 → A4 → A5 → A6 → A7 → A8 → A9 → A10 → A11 → A12 → A13 → A14 → Prop) (I : A1 → A2 → A3 → A4 → A5 → A6 → A7 → A8 → A9 → A10 → A11 → A12 → A13 → A14 → Prop) (μ : A1 → A2 → A3 → A4 → A5 → A6 → A7 → A8 → A9 → A10 → A11 → A12 → A13 → A14 → Nat) (hs : ∀ (n : Nat) (a1 : A1) (a2 : A2) (a3 : A3) (a4 : A4) (a5 : A5) (a6 : A6) (a7 : A7) (a8 : A8) (a9 : A9) (a10 : A10) (a11 : A11) (a12 : A12) (a13 : A13) (a14 : A14), I a1 a2 a3 a4 a5 a6 a7 a8 a9 a10 a11 a12 a13 a14 → (∀ (b1 : A1) (b2 : A2) (b3 : A3) (b4 : A4) (b5 : A5) (b6 : A6) (b7 : A7) (b8 : A8) (b9 : A9) (b10 : A10) (b11 : A11) (b12 : A12) (b13 : A13) (b14 : A14), I b1 b2 b3 b4 b5 b6 b7 b8 b9 b10 b11 b12 b13 b14 → μ b1 b2 b3 b4 b5 b6 b7 b8 b9 b10 b11 b12 b13 b14 < μ a1 a2 a3 a4 a5 a6 a7 a8 a9 a10 a11 a12 a13 a14 → W n b1 b2 b3 b4 b5 b6 b7 b8 b9 b10 b11 b12 b13 b14) → W (n + 1) a1 a2 a3 a4 a5 a6 a7 a8 a9 a10 a11 a12 a13 a14) (a1 : A1) (a2 : A2) (a3 : A3) (a4 : A4) (a5 : A5) (a6 : A6) (a7 : A7) (a8 : A8) (a9 : A9) (a10 : A10) (a11 : A11) (a12 : A12) (a13 : A13) (a14 : A14) (h : I a1 a2 a3 a4 a5 a6 a7 a8 a9 a10 a11 a12 a13 a14) : ∃ n, W n a1 a2 a3 a4 a5 a6 a7 a8 a9 a10 a11 a12 a13 a14 :=
  loop_m (σ := A1 × A2 × A3 × A4 × A5 × A6 × A7 × A8 × A9 × A10 × A11 × A12 × A13 × A14) (fun n s => W n s.1 s.2.1 s.2.2.1 s.2.2.2.1 s.2.2.2.2.1 s.2.2.2.2.2.1 s.2.2.2.2.2.2.1 s.2.2.2.2.2.2.2.1 s.2.2.2.2.2.2.2.2.1 s.2.2.2.2.2.2.2.2.2.1 s.2.2.2.2.2.2.2.2.2.2.1 s.2.2.2.2.2.2.2.2.2.2.2.1 s.2.2.2.2.2.2.2.2.2.2.2.2.1 s.2.2.2.2.2.2.2.2.2.2.2.2.2) (fun s => I s.1 s.2.1 s.2.2.1 s.2.2.2.1 s.2.2.2.2.1 s.2.2.2.2.2.1 s.2.2.2.2.2.2.1 s.2.2.2.2.2.2.2.1 s.2.2.2.2.2.2.2.2.1 s.2.2.2.2.2.2.2.2.2.1 s.2.2.2.2.2.2.2.2.2.2.1 s.2.2.2.2.2.2.2.2.2.2.2.1 s.2.2.2.2.2.2.2.2.2.2.2.2.1 s.2.2.2.2.2.2.2.2.2.2.2.2.2) (fun s => μ s.1 s.2.1 s.2.2.1 s.2.2.2.1 s.2.2.2.2.1 s.2.2.2.2.2.1 s.2.2.2.2.2.2.1 s.2.2.2.2.2.2.2.1 s.2.2.2.2.2.2.2.2.1 s.2.2.2.2.2.2.2.2.2.1 s.2.2.2.2.2.2.2.2.2.2.1 s.2.2.2.2.2.2.2.2.2.2.2.1 s.2.2.2.2.2.2.2.2.2.2.2.2.1 s.2.2.2.2.2.2.2.2.2.2.2.2.2) (fun n s hI hk => hs n s.1 s.2.1 s.2.2.1 s.2.2.2.1 s.2.2.2.2.1 s.2.2.2.2.2.1 s.2.2.2.2.2.2.1 s.2.2.2.2.2.2.2.1 s.2.2.2.2.2.2.2.2.1 s.2.2.2.2.2.2.2.2.2.1 s.2.2.2.2.2.2.2.2.2.2.1 s.2.2.2.2.2.2.2.2.2.2.2.1 s.2.2.2.2.2.2.2.2.2.2.2.2.1 s.2.2.2.2.2.2.2.2.2.2.2.2.2 hI (fun b1 b2 b3 b4 b5 b6 b7 b8 b9 b10 b11 b12 b13 b14 h9 hm => hk (b1, b2, b3, b4, b5, b6, b7, b8, b9, b10, b11, b12, b13, b14) h9 hm)) (a1, a2, a3, a4, a5, a6, a7, a8, a9, a10, a11, a12, a13, a14) h
theorem lp15 {A1 A2 A3 A4 A5 A6 A7 A8 A9 A10 A11 A12 A13 A14 A15 : Type} (W : Nat → A1 → A2 → A3 → A4 → A5 → A6 → A7 → A8 → A9 → A10 → A11 → A12 → A13 → A14 → A15 → Prop) (I : A1 → A2 → A3 → A4 → A5 → A6 → A7 → A8 → A9 → A10 → A11 → A12 → A13 → A14 → A15 → Prop) (μ : A1 → A2 → A3 → A4 → A5 → A6 → A7 → A8 → A9 → A10 → A11 → A12 → A13 → A14 → A15 → Nat) (hs : ∀ (n : Nat) (a1 : A1) (a2 : A2) (a3 : A3) (a4 : A4) (a5 : A5) (a6 : A6) (a7 : A7) (a8 : A8) (a9 : A9) (a10 : A10) (a11 : A11) (a12 : A12) (a13 : A13) (a14 : A14) (a15 : A15), I a1 a2 a3 a4 a5 a6 a7 a8 a9 a10 a11 a12 a13 a14 a15 → (∀ (b1 : A1) (b2 : A2) (b3 : A3) (b4 : A4) (b5 : A5) (b6 : A6) (b7 : A7) (b8 : A8) (b9 : A9) (b10 : A10) (b11 : A11) (b12 : A12) (b13 : A13) (b14 : A14) (b15 : A15), I b1 b2 b3 b4 b5 b6 b7 b8 b9 b10 b11 b12 b13 b14 b15 → μ b1 b2 b3 b4 b5 b6 b7 b8 b9 b10 b11 b12 b13 b14 b15 < μ a1 a2 a3 a4 a5 a6 a7 a8 a9 a10 a11 a12 a13 a14 a15 → W n b1 b2 b3 b4 b5 b6 b7 b8 b9 b10 b11 b12 b13 b14 b15) → W (n + 1) a1 a2 a3 a4 a5 a6 a7 a8 a9 a10 a11 a12 a13 a14 a15) (a1 : A1) (a2 : A2) (a3 : A3) (a4 : A4) (a5 : A5) (a6 : A6) (a7 : A7) (a8 : A8) (a9 : A9) (a10 : A10) (a11 : A11) (a12 : A12) (a13 : A13) (a14 : A14) (a15 : A15) (h : I a1 a2 a3 a4 a5 a6 a7 a8 a9 a10 a11 a12 a13 a14 a15) : ∃ n, W n a1 a2 a3 a4 a5 a6 a7 a8 a9 a10 a11 a12 a13 a14 a15 :=
  loop_m (σ := A1 × A2 × A3 × A4 × A5 × A6 × A7 × A8 × A9 × A10 × A11 × A12 × A13 × A14 × A15) (fun n s => W n s.1 s.2.1 s.2.2.1 s.2.2.2.1 s.2.2.2.2.1 s.2.2.2.2.2.1 s.2.2.2.2.2.2.1 s.2.2.2.2.2.2.2.1 s.2.2.2.2.2.2.2.2.1 s.2.2.2.2.2.2.2.2.2.1 s.2.2.2.2.2.2.2.2.2.2.1 s.2.2.2.2.2.2.2.2.2.2.2.1 s.2.2.2.2.2.2.2.2.2.2.2.2.1 s.2.2.2.2.2.2.2.2.2.2.2.2.2.1 s.2.2.2.2.2.2.2.2.2.2.2.2.2.2) (fun s => I s.1 s.2.1 s.2.2.1 s.2.2.2.1 s.2.2.2.2.1 s.2.2.2.2.2.1 s.2.2.2.2.2.2.1 s.2.2.2.2.2.2.2.1 s.2.2.2.2.2.2.2.2.1 s.2.2.2.2.2.2.2.2.2.1 s.2.2.2.2.2.2.2.2.2.2.1 s.2.2.2.2.2.2.2.2.2.2.2.1 s.2.2.2.2.2.2.2.2.2.2.2.2.1 s.2.2.2.2.2.2.2.2.2.2.2.2.2.1 s.2.2.2.2.2.2.2.2.2.2.2.2.2.2) (fun s => μ s.1 s.2.1 s.2.2.1 s.2.2.2.1 s.2.2.2.2.1 s.2.2.2.2.2.1 s.2.2.2.2.2.2.1 s.2.2.2.2.2.2.2.1 s.2.2.2.2.2.2.2.2.1 s.2.2.2.2.2.2.2.2.2.1 s.2.2.2.2.2.2.2.2.2.2.1 s.2.2.2.2.2.2.2.2.2.2.2.1 s.2.2.2.2.2.2.2.2.2.2.2.2.1 s.2.2.2.2.2.2.2.2.2.2.2.2.2.1 s.2.2.2.2.2.2.2.2.2.2.2.2.2.2) (fun n s hI hk => hs n s.1 s.2.1 s.2.2.1 s.2.2.2.1 s.2.2.2.2.1 s.2.2.2.2.2.1 s.2.2.2.2.2.2.1 s.2.2.2.2.2.2.2.1 s.2.2.2.2.2.2.2.2.1 s.2.2.2.2.2.2.2.2.2.1 s.2.2.2.2.2.2.2.2.2.2.1 s.2.2.2.2.2.2.2.2.2.2.2.1 s.2.2.2.2.2.2.2.2.2.2.2.2.1 s.2.2.2.2.2.2.2.2.2.2.2.2.2.1 s.2.2.2.2.2.2.2.2.2.2.2.2.2.2 hI (fun b1 b2 b3 b4 b5 b6 b7 b8 b9 b10 b11 b12 b13 b14 b15 h9 hm => hk (b1, b2, b3, b4, b5, b6, b7, b8, b9, b10, b11, b12, b13, b14, b15) h9 hm)) (a1, a2, a3, a4, a5, a6, a7, a8, a9, a10, a11, a12, a13, a14, a15) h
theorem lp16 {A1 A2 A3 A4 A5 A6 A7 A8 A9 A10 A11 A12 A13 A14 A15 A16 : Type} (W : Nat → A1 → A2 → A3 → A4 → A5 → A6 → A7 → A8 → A9 → A10 → A11 → A12 → A13 → A14 → A15 → A16 → Prop) (I : A1 → A2 → A3 → A4 → A5 → A6 → A7 → A8 → A9 → A10 → A11 → A12 → A13 → A14 → A15 → A16 → Prop) (μ : A1 → A2 → A3 → A4 → A5 → A6 → A7 → A8 → A9 → A10 → A11 → A12 → A13 → A14 → A15 → A16 → Nat) (hs : ∀ (n : Nat) (a1 : A1) (a2 : A2) (a3 : A3) (a4 : A4) (a5 : A5) (a6 : A6) (a7 : A7) (a8 : A8) (a9 : A9) (a10 : A10) (a11 : A11) (a12 : A12) (a13 : A13) (a14 : A14) (a15 : A15) (a16 : A16), I a1 a2 a3 a4 a5 a6 a7 a8 a9 a10 a11 a12 a13 a14 a15 a16 → (∀ (b1 : A1) (b2 : A2) (b3 : A3) (b4 : A4) (b5 : A5) (b6 : A6) (b7 : A7) (b8 : A8) (b9 : A9) (b10 : A10) (b11 : A11) (b12 : A12) (b13 : A13) (b14 : A14) (b15 : A15) (b16 : A16), I b1 b2 b3 b4 b5 b6 b7 b8 b9 b10 b11 b12 b13 b14 b15 b16 → μ b1 b2 b3 b4 b5 b6 b7 b8 b9 b10 b11 b12 b13 b14 b15 b16 < μ a1 a2 a3 a4 a5 a6 a7 a8 a9 a10 a11 a12 a13 a14 a15 a16 → W n b1 b2 b3 b4 b5 b6 b7 b8 b9 b10 b11 b12 b13 b14 b15 b16) → W (n + 1) a1 a2 a3 a4 a5 a6 a7 a8 a9 a10 a11 a12 a13 a14 a15 a16) (a1 : A1) (a2 : A2) (a3 : A3) (a4 : A4) (a5 : A5) (a6 : A6) (a7 : A7) (a8 : A8) (a9 : A9) (a10 : A10) (a11 : A11) (a12 : A12) (a13 : A13) (a14 : A14) (a15 : A15) (a16 : A16) (h : I a1 a2 a3 a4 a5 a6 a7 a8 a9 a10 a11 a12 a13 a14 a15 a16) : ∃ n, W n a1 a2 a3 a4 a5 a6 a7 a8 a9 a10 a11 a12 a13 a14 a15 a16 :=
  loop_m (σ := A1 × A2 × A3 × A4 × A5 × A6 × A7 × A8 × A9 × A10 × A11 × A12 × A13 × A14 × A15 × A16) (fun n s => W n s.1 s.2.1 s.2.2.1 s.2.2.2.1 s.2.2.2.2.1 s.2.2.2.2.2.1 s.2.2.2.2.2.2.1 s.2.2.2.2.2.2.2.1 s.2.2.2.2.2.2.2.2.1 s.2.2.2.2.2.2.2.2.2.1 s.2.2.2.2.2.2.2.2.2.2.1 s.2.2.2.2.2.2.2.2.2.2.2.1 s.2.2.2.2.2.2.2.2.2.2.2.2.1 s.2.2.2.2.2.2.2.2.2.2.2.2.2.1 s.2.2.2.2.2.2.2.2.2.2.2.2.2.2.1 s.2.2.2.2.2.2.2.2.2.2.2.2.2.2.2) (fun s => I s.1 s.2.1 s.2.2.1 s.2.2.2.1 s.2.2.2.2.1 s.2.2.2.2.2.1 s.2.2.2.2.2.2.1 s.2.2.2.2.2.2.2.1 s.2.2.2.2.2.2.2.2.1 s.2.2.2.2.2.2.2.2.2.1 s.2.2.2.2.2.2.2.2.2.2.1 s.2.2.2.2.2.2.2.2.2.2.2.1 s.2.2.2.2.2.2.2.2.2.2.2.2.1 s.2.2.2.2.2.2.2.2.2.2.2.2.2.1 s.2.2.2.2.2.2.2.2.2.2.2.2.2.2.1 s.2.2.2.2.2.2.2.2.2.2.2.2.2.2.2) (fun s => μ s.1 s.2.1 s.2.2.1 s.2.2.2.1 s.2.2.2.2.1 s.2.2.2.2.2.1 s.2.2.2.2.2.2.1 s.2.2.2.2.2.2.2.1 s.2.2.2.2.2.2.2.2.1 s.2.2.2.2.2.2.2.2.2.1 s.2.2.2.2.2.2.2.2.2.2.1 s.2.2.2.2.2.2.2.2.2.2.2.1 s.2.2.2.2.2.2.2.2.2.2.2.2.1 s.2.2.2.2.2.2.2.2.2.2.2.2.2.1 s.2.2.2.2.2.2.2.2.2.2.2.2.2.2.1 s.2.2.2.2.2.2.2.2.2.2.2.2.2.2.2) (fun n s hI hk => hs n s.1 s.2.1 s.2.2.1 s.2.2.2.1 s.2.2.2.2.1 s.2.2.2.2.2.1 s.2.2.2.2.2.2.1 s.2.2.2.2.2.2.2.1 s.2.2.2.2.2.2.2.2.1 s.2.2.2.2.2.2.2.2.2.1 s.2.2.2.2.2.2.2.2.2.2.1 s.2.2.2.2.2.2.2.2.2.2.2.1 s.2.2.2.2.2.2.2.2.2.2.2.2.1 s.2.2.2.2.2.2.2.2.2.2.2.2.2.1 s.2.2.2.2.2.2.2.2.2.2.2.2.2.2.1 s.2.2.2.2.2.2.2.2.2.2.2.2.2.2.2 hI (fun b1 b2 b3 b4 b5 b6 b7 b8 b9 b10 b11 b12 b13 b14 b15 b16 h9 hm => hk (b1, b2, b3, b4, b5, b6, b7, b8, b9, b10, b11, b12, b13, b14, b15, b16) h9 hm)) (a1, a2, a3, a4, a5, a6, a7, a8, a9, a10, a11, a12, a13, a14, a15, a16) h
theorem pk_least (P : Nat → Prop) (h : ∃ k, P k) : ∃ k, P k ∧ ∀ j, j < k → ¬ P j := by
  obtain ⟨k, hk⟩ := h
  induction k using Nat.strongRecOn with
  | ind k ih =>
    by_cases e : ∃ j, j < k ∧ P j
    · obtain ⟨j, hj, pj⟩ := e
      exact ih j hj pj
    · exact ⟨k, hk, fun j hj pj => e ⟨j, hj, pj⟩⟩
theorem rp1 {ρ A1 : Type} (W : Nat → (ρ → Prop) → A1 → Prop) (ok : A1 → Prop) (μ : A1 → Nat) (val : A1 → ρ)
    (hs : ∀ (d : Nat) (post : ρ → Prop) (a1 : A1), ok a1 → post (val a1) → (∀ (post' : ρ → Prop) (b1 : A1), ok b1 → μ b1 < μ a1 → post' (val b1) → W d post' b1) → W (d + 1) post a1) :
    ∀ (d : Nat) (post : ρ → Prop) (a1 : A1), ok a1 → μ a1 < d → post (val a1) → W d post a1 := by
  intro d
  induction d with
  | zero => intro post a1 _ h; omega
  | succ d ih =>
    intro post a1 ho hm hp
    exact hs d post a1 ho hp (fun post' b1 ho' hm' hp' => ih post' b1 ho' (by omega) hp')
theorem rp2 {ρ A1 A2 : Type} (W : Nat → (ρ → Prop) → A1 → A2 → Prop) (ok : A1 → A2 → Prop) (μ : A1 → A2 → Nat) (val : A1 → A2 → ρ)
    (hs : ∀ (d : Nat) (post : ρ → Prop) (a1 : A1) (a2 : A2), ok a1 a2 → post (val a1 a2) → (∀ (post' : ρ → Prop) (b1 : A1) (b2 : A2), ok b1 b2 → μ b1 b2 < μ a1 a2 → post' (val b1 b2) → W d post' b1 b2) → W (d + 1) post a1 a2) :
    ∀ (d : Nat) (post : ρ → Prop) (a1 : A1) (a2 : A2), ok a1 a2 → μ a1 a2 < d → post (val a1 a2) → W d post a1 a2 := by
  intro d
  induction d with
  | zero => intro post a1 a2 _ h; omega
  | succ d ih =>
    intro post a1 a2 ho hm hp
    exact hs d post a1 a2 ho hp (fun post' b1 b2 ho' hm' hp' => ih post' b1 b2 ho' (by omega) hp')
theorem rp3 {ρ A1 A2 A3 : Type} (W : Nat → (ρ → Prop) → A1 → A2 → A3 → Prop) (ok : A1 → A2 → A3 → Prop) (μ : A1 → A2 → A3 → Nat) (val : A1 → A2 → A3 → ρ)
    (hs : ∀ (d : Nat) (post : ρ → Prop) (a1 : A1) (a2 : A2) (a3 : A3), ok a1 a2 a3 → post (val a1 a2 a3) → (∀ (post' : ρ → Prop) (b1 : A1) (b2 : A2) (b3 : A3), ok b1 b2 b3 → μ b1 b2 b3 < μ a1 a2 a3 → post' (val b1 b2 b3) → W d post' b1 b2 b3) → W (d + 1) post a1 a2 a3) :
    ∀ (d : Nat) (post : ρ → Prop) (a1 : A1) (a2 : A2) (a3 : A3), ok a1 a2 a3 → μ a1 a2 a3 < d → post (val a1 a2 a3) → W d post a1 a2 a3 := by
  intro d
  induction d with
  | zero => intro post a1 a2 a3 _ h; omega
  | succ d ih =>
    intro post a1 a2 a3 ho hm hp
    exact hs d post a1 a2 a3 ho hp (fun post' b1 b2 b3 ho' hm' hp' => ih post' b1 b2 b3 ho' (by omega) hp')
theorem rp4 {ρ A1 A2 A3 A4 : Type} (W : Nat → (ρ → Prop) → A1 → A2 → A3 → A4 → Prop) (ok : A1 → A2 → A3 → A4 → Prop) (μ : A1 → A2 → A3 → A4 → Nat) (val : A1 → A2 → A3 → A4 → ρ)
    (hs : ∀ (d : Nat) (post : ρ → Prop) (a1 : A1) (a2 : A2) (a3 : A3) (a4 : A4), ok a1 a2 a3 a4 → post (val a1 a2 a3 a4) → (∀ (post' : ρ → Prop) (b1 : A1) (b2 : A2) (b3 : A3) (b4 : A4), ok b1 b2 b3 b4 → μ b1 b2 b3 b4 < μ a1 a2 a3 a4 → post' (val b1 b2 b3 b4) → W d post' b1 b2 b3 b4) → W (d + 1) post a1 a2 a3 a4) :
    ∀ (d : Nat) (post : ρ → Prop) (a1 : A1) (a2 : A2) (a3 : A3) (a4 : A4), ok a1 a2 a3 a4 → μ a1 a2 a3 a4 < d → post (val a1 a2 a3 a4) → W d post a1 a2 a3 a4 := by
  intro d
  induction d with
  | zero => intro post a1 a2 a3 a4 _ h; omega
  | succ d ih =>
    intro post a1 a2 a3 a4 ho hm hp
    exact hs d post a1 a2 a3 a4 ho hp (fun post' b1 b2 b3 b4 ho' hm' hp' => ih post' b1 b2 b3 b4 ho' (by omega) hp')
theorem rp5 {ρ A1 A2 A3 A4 A5 : Type} (W : Nat → (ρ → Prop) → A1 → A2 → A3 → A4 → A5 → Prop) (ok : A1 → A2 → A3 → A4 → A5 → Prop) (μ : A1 → A2 → A3 → A4 → A5 → Nat) (val : A1 → A2 → A3 → A4 → A5 → ρ)
    (hs : ∀ (d : Nat) (post : ρ → Prop) (a1 : A1) (a2 : A2) (a3 : A3) (a4 : A4) (a5 : A5), ok a1 a2 a3 a4 a5 → post (val a1 a2 a3 a4 a5) → (∀ (post' : ρ → Prop) (b1 : A1) (b2 : A2) (b3 : A3) (b4 : A4) (b5 : A5), ok b1 b2 b3 b4 b5 → μ b1 b2 b3 b4 b5 < μ a1 a2 a3 a4 a5 → post' (val b1 b2 b3 b4 b5) → W d post' b1 b2 b3 b4 b5) → W (d + 1) post a1 a2 a3 a4 a5) :
    ∀ (d : Nat) (post : ρ → Prop) (a1 : A1) (a2 : A2) (a3 : A3) (a4 : A4) (a5 : A5), ok a1 a2 a3 a4 a5 → μ a1 a2 a3 a4 a5 < d → post (val a1 a2 a3 a4 a5) → W d post a1 a2 a3 a4 a5 := by
  intro d
  induction d with
  | zero => intro post a1 a2 a3 a4 a5 _ h; omega
  | succ d ih =>
    intro post a1 a2 a3 a4 a5 ho hm hp
    exact hs d post a1 a2 a3 a4 a5 ho hp (fun post' b1 b2 b3 b4 b5 ho' hm' hp' => ih post' b1 b2 b3 b4 b5 ho' (by omega) hp')
theorem rp6 {ρ A1 A2 A3 A4 A5 A6 : Type} (W : Nat → (ρ → Prop) → A1 → A2 → A3 → A4 → A5 → A6 → Prop) (ok : A1 → A2 → A3 → A4 → A5 → A6 → Prop) (μ : A1 → A2 → A3 → A4 → A5 → A6 → Nat) (val : A1 → A2 → A3 → A4 → A5 → A6 → ρ)
    (hs : ∀ (d : Nat) (post : ρ → Prop) (a1 : A1) (a2 : A2) (a3 : A3) (a4 : A4) (a5 : A5) (a6 : A6), ok a1 a2 a3 a4 a5 a6 → post (val a1 a2 a3 a4 a5 a6) → (∀ (post' : ρ → Prop) (b1 : A1) (b2 : A2) (b3 : A3) (b4 : A4) (b5 : A5) (b6 : A6), ok b1 b2 b3 b4 b5 b6 → μ b1 b2 b3 b4 b5 b6 < μ a1 a2 a3 a4 a5 a6 → post' (val b1 b2 b3 b4 b5 b6) → W d post' b1 b2 b3 b4 b5 b6) → W (d + 1) post a1 a2 a3 a4 a5 a6) :
    ∀ (d : Nat) (post : ρ → Prop) (a1 : A1) (a2 : A2) (a3 : A3) (a4 : A4) (a5 : A5) (a6 : A6), ok a1 a2 a3 a4 a5 a6 → μ a1 a2 a3 a4 a5 a6 < d → post (val a1 a2 a3 a4 a5 a6) → W d post a1 a2 a3 a4 a5 a6 := by
  intro d
  induction d with
  | zero => intro post a1 a2 a3 a4 a5 a6 _ h; omega
  | succ d ih =>
    intro post a1 a2 a3 a4 a5 a6 ho hm hp
    exact hs d post a1 a2 a3 a4 a5 a6 ho hp (fun post' b1 b2 b3 b4 b5 b6 ho' hm' hp' => ih post' b1 b2 b3 b4 b5 b6 ho' (by omega) hp')
theorem rec_p {σ ρ : Type} (W : Nat → (ρ → Prop) → σ → Prop) (ok : σ → Prop) (μ : σ → Nat) (val : σ → ρ)
    (hs : ∀ d s post, ok s → post (val s) → (∀ s' post', ok s' → μ s' < μ s → post' (val s') → W d post' s') → W (d + 1) post s) :
    ∀ d s post, ok s → μ s < d → post (val s) → W d post s := by
  intro d
  induction d with
  | zero => intro s post _ h; omega
  | succ d ih =>
    intro s post ho hm hp
    exact hs d s post ho hp (fun s' post' ho' hm' hp' => ih s' post' ho' (by omega) hp')
theorem rec_q {σ ρ : Type} (W : Nat → (ρ → Prop) → σ → Prop) (ok : σ → Prop) (μ : σ → Nat) (Q : σ → ρ → Prop)
    (hs : ∀ d s post, ok s → (∀ r, Q s r → post r) → (∀ s' post', ok s' → μ s' < μ s → (∀ r, Q s' r → post' r) → W d post' s') → W (d + 1) post s) :
    ∀ d s post, ok s → μ s < d → (∀ r, Q s r → post r) → W d post s := by
  intro d
  induction d with
  | zero => intro s post _ h; omega
  | succ d ih =>
    intro s post ho hm hp
    exact hs d s post ho hp (fun s' post' ho' hm' hp' => ih s' post' ho' (by omega) hp')
def bx_sum (f : Nat → Int32) : Nat → Int32
  | 0 => 0
  | n + 1 => bx_sum f n + f n
theorem ek_u {A : Prop} {B : Nat → Prop} {k N : Nat} (hk : k < N) (h : B k) : (some k = none → A) ∧ (∀ y : Nat, some k = some y → (y < N ∧ B y)) :=
  ⟨fun z => absurd z (Option.some_ne_none k), fun _ e => (by cases e; exact ⟨hk, h⟩)⟩
theorem ek_nu {A : Prop} {B : Nat → Prop} (h : A) : ((none : Option Nat) = none → A) ∧ (∀ y : Nat, (none : Option Nat) = some y → B y) :=
  ⟨fun _ => h, fun _ e => (by cases e)⟩
theorem ek_if {c d A B : Prop} (e : c ↔ d) (f : d → A) (g : ¬ d → B) : (c → A) ∧ (¬ c → B) :=
  ⟨fun z => f (e.mp z), fun z => g (fun y => z (e.mpr y))⟩
theorem ek_v {α : Sort _} {P : α → Prop} {a b : α} (e : a = b) (h : P b) : P a := e ▸ h
theorem co_some {x : Option Nat} {A : Prop} {B : Nat → Prop} (i : Nat) (h : B i) (hx : x = some i := by rfl) : (x = none → A) ∧ (∀ y : Nat, x = some y → B y) := by
  subst hx
  exact ⟨fun e => (nomatch e), fun y e => Option.some.inj e ▸ h⟩
theorem co_none {x : Option Nat} {A : Prop} {B : Nat → Prop} (h : A) (hx : x = none := by rfl) : (x = none → A) ∧ (∀ y : Nat, x = some y → B y) := by
  subst hx
  exact ⟨fun _ => h, fun y e => (nomatch e)⟩
theorem co_any {x : Option Nat} {A : Prop} {B : Nat → Prop} (hn : x = none → A) (hs : ∀ i : Nat, x = some i → B i) : (x = none → A) ∧ (∀ y : Nat, x = some y → B y) := ⟨hn, hs⟩
theorem co_2 {P : Nat → Prop} (h0 : P 0) (h1 : P 1) {i : Nat} (hi : i < 2) : P i :=
  match i, hi with
  | 0, _ => h0
  | 1, _ => h1
theorem co_3 {P : Nat → Prop} (h0 : P 0) (h1 : P 1) (h2 : P 2) {i : Nat} (hi : i < 3) : P i :=
  match i, hi with
  | 0, _ => h0
  | 1, _ => h1
  | 2, _ => h2
theorem co_4 {P : Nat → Prop} (h0 : P 0) (h1 : P 1) (h2 : P 2) (h3 : P 3) {i : Nat} (hi : i < 4) : P i :=
  match i, hi with
  | 0, _ => h0
  | 1, _ => h1
  | 2, _ => h2
  | 3, _ => h3
theorem co_dec {N : Nat} {P : Nat → Prop} [DecidablePred P] (h : (List.range N).all (fun i => decide (P i)) = true) {i : Nat} (hi : i < N) : P i := by
  have := List.all_eq_true.mp h i (List.mem_range.mpr hi)
  exact of_decide_eq_true this
theorem co_tab {α : Type} {l : List α} {d : α} {P : α → Prop} (h : ∀ a, a ∈ l → P a) {i : Nat} (hi : i < l.length) : P (l.getD i d) := by
  rw [List.getD_eq_getElem?_getD, List.getElem?_eq_getElem hi]
  exact h _ (List.getElem_mem hi)
theorem pk_mu {x : Int32} {L : Nat} (h0 : ¬ x < 0) (h : ¬ nI L ≤ x) (hL : L < 2 ^ 31) : ∃ j : Nat, j < L ∧ x = nI j ∧ x + 1 = nI (j + 1) ∧ x.toNatClampNeg = j ∧ L - (x + 1).toNatClampNeg < L - x.toNatClampNeg := by
  obtain ⟨j, hj, rfl⟩ := nI_of h0
  have hl : j < L := Nat.not_le.mp fun q => h (nI_le q hj)
  refine ⟨j, hl, rfl, nI_1 j, nI_clamp hj, ?_⟩
  rw [nI_1, nI_clamp (by omega), nI_clamp hj]
  omega
theorem op_s {α : Type} {r : Option α} {A : Prop} {B : α → Prop} {y : α} (h : r = some y) (b : B y) : (r = none → A) ∧ ∀ z, r = some z → B z :=
  ⟨fun e => (by rw [h] at e; cases e), fun z e => (by rw [h] at e; cases e; exact b)⟩
def l_holds {α : Type} (a : Nat → Option Nat) (LP : List Nat) (p : Nat → α) (c : Nat) (b : Nat → α) : Prop :=
  ∀ j, j < c → ∃ y, a j = some y ∧ y ∈ LP ∧ p y = b j
theorem l_holds_0 {α : Type} {a : Nat → Option Nat} {LP : List Nat} {p b : Nat → α} : l_holds a LP p 0 b := fun j h => absurd h (Nat.not_lt_zero j)
theorem l_in_new (LP : List Nat) (q : Nat) : q ∈ LP ++ [q] := List.mem_append.mpr (Or.inr (List.mem_singleton.mpr rfl))
def l_sum (b : Nat → Int32) : Nat → Int32
  | 0 => 0
  | k + 1 => l_sum b k + b k
theorem sb_shr0 (x : Int32) : x >>> ((0 : Int32) &&& 31) = x := by
  rw [show ((0 : Int32) &&& 31) = 0 by decide]
  simp
theorem sb_shl0 (x : Int32) : x <<< ((0 : Int32) &&& 31) = x := by
  rw [show ((0 : Int32) &&& 31) = 0 by decide]
  simp
theorem sb_cl0 : (0 : Int32).toNatClampNeg = 0 := by decide
theorem sb_m1 {p : Nat} (h : 0 < p) : nI p + (-1) = nI (p - 1) := by
  obtain ⟨q, rfl⟩ : ∃ q, p = q + 1 := ⟨p - 1, by omega⟩
  exact pk_m1 q
def sb_b (c : Nat) : Int32 := (nI c).toInt8.toInt32
theorem sb_byte : ∀ c, c < 256 → sb_b c &&& 255 = nI c ∧ ((nI c).toUInt32 % 65536).toInt32 = nI c ∧ nI c ≤ 255 := by decide +kernel
def sb_Fit (a : Nat → Int32) : Prop := ∀ j, fits .byte (.int (a j)) = true
def sb_Lat (t : Nat → Nat) (n : Nat) (a : Nat → Int32) : Prop := ∀ j, j < n → t j < 256 ∧ a j = sb_b (t j)
theorem sb_fitB (c : Nat) : fits .byte (.int (sb_b c)) = true := pk_fb _
theorem sb_fit0 : sb_Fit (fun _ => 0) := fun _ => by
  show fits .byte (.int 0) = true
  decide
theorem sb_fitU {a : Nat → Int32} {k : Nat} {x : Int32} (h : sb_Fit a) (hx : fits .byte (.int x) = true) : sb_Fit (upd a k x) := by
  intro j
  by_cases e : j = k
  · subst e
    rw [pk_us]
    exact hx
  · rw [pk_un e]
    exact h j
def sb_cat (t : Nat → Nat) (n : Nat) (s : Nat → Nat) : Nat → Nat := fun j => if j < n then t j else s (j - n)
theorem sb_cat_lo {t s : Nat → Nat} {n j : Nat} (h : j < n) : sb_cat t n s j = t j := if_pos h
theorem sb_cat_hi {t s : Nat → Nat} {n j : Nat} : sb_cat t n s (n + j) = s j := by
  show (if n + j < n then t (n + j) else s (n + j - n)) = s j
  rw [if_neg (by omega), Nat.add_sub_cancel_left]
theorem sb_latPut {t s : Nat → Nat} {n w : Nat} {a a' : Nat → Int32} (h : sb_Lat t n a) (hk : ∀ j, j < n → a' j = a j) (hs : ∀ i, i < w → s i < 256 ∧ a' (n + i) = sb_b (s i)) : sb_Lat (sb_cat t n s) (n + w) a' := by
  intro j hj
  by_cases e : j < n
  · rw [sb_cat_lo e, hk j e]
    exact h j e
  · obtain ⟨i, rfl⟩ : ∃ i, j = n + i := ⟨j - n, by omega⟩
    rw [sb_cat_hi]
    exact hs i (by omega)
theorem sb_latKeep {t : Nat → Nat} {n : Nat} {a a' : Nat → Int32} (h : sb_Lat t n a) (hk : ∀ j, j < n → a' j = a j) : sb_Lat t n a' := fun j hj => by
  rw [hk j hj]
  exact h j hj
def sb_cap (q m : Nat) : Nat := if q ≤ m then m else if 2 * m + 2 < q then q else 2 * m + 2
def sb_Room (q m mc ms : Nat) : Prop := q ≤ m ∨ (1 ≤ mc ∧ sb_cap q m ≤ ms ∧ sb_cap q m ≤ 65536)
theorem sb_cap_ge (q m : Nat) : q ≤ sb_cap q m := by
  unfold sb_cap
  split
  · omega
  · split <;> omega
theorem sb_cap_gem (q m : Nat) : m ≤ sb_cap q m := by
  unfold sb_cap
  split
  · omega
  · split <;> omega
theorem sb_cap_le {q m mc ms : Nat} (hm : m ≤ 65536) (hr : sb_Room q m mc ms) : sb_cap q m ≤ 65536 := by
  rcases hr with h | h
  · rw [sb_cap, if_pos h]
    exact hm
  · exact h.2.2
theorem sb_at {P : Int32 → Prop} {x y : Int32} (e : x = y) (h : P y) : P x := e ▸ h
def sb_dg (w : Nat) : Nat := if w < 10 then 1 else if w < 100 then 2 else if w < 1000 then 3 else if w < 10000 then 4 else if w < 100000 then 5 else if w < 1000000 then 6 else if w < 10000000 then 7 else if w < 100000000 then 8 else if w < 1000000000 then 9 else 10
def sb_dec (v : Nat) : Nat → Nat := fun i => 48 + v / 10 ^ (sb_dg v - 1 - i) % 10
theorem sb_dg_in (w : Nat) : 1 ≤ sb_dg w ∧ sb_dg w ≤ 10 := by
  unfold sb_dg
  constructor <;> (repeat' split) <;> omega
theorem sb_dg100 {w : Nat} (h : 100 ≤ w) (hw : w < 2 ^ 31) : sb_dg w = sb_dg (w / 100) + 2 := by
  rw [sb_dg, sb_dg, if_neg (show ¬ w < 10 by omega), if_neg (show ¬ w < 100 by omega)]
  by_cases h3 : w < 1000
  · rw [if_pos h3, if_pos (show w / 100 < 10 by omega)]
  rw [if_neg h3, if_neg (show ¬ w / 100 < 10 by omega)]
  by_cases h4 : w < 10000
  · rw [if_pos h4, if_pos (show w / 100 < 100 by omega)]
  rw [if_neg h4, if_neg (show ¬ w / 100 < 100 by omega)]
  by_cases h5 : w < 100000
  · rw [if_pos h5, if_pos (show w / 100 < 1000 by omega)]
  rw [if_neg h5, if_neg (show ¬ w / 100 < 1000 by omega)]
  by_cases h6 : w < 1000000
  · rw [if_pos h6, if_pos (show w / 100 < 10000 by omega)]
  rw [if_neg h6, if_neg (show ¬ w / 100 < 10000 by omega)]
  by_cases h7 : w < 10000000
  · rw [if_pos h7, if_pos (show w / 100 < 100000 by omega)]
  rw [if_neg h7, if_neg (show ¬ w / 100 < 100000 by omega)]
  by_cases h8 : w < 100000000
  · rw [if_pos h8, if_pos (show w / 100 < 1000000 by omega)]
  rw [if_neg h8, if_neg (show ¬ w / 100 < 1000000 by omega)]
  by_cases h9 : w < 1000000000
  · rw [if_pos h9, if_pos (show w / 100 < 10000000 by omega)]
  rw [if_neg h9, if_neg (show ¬ w / 100 < 10000000 by omega)]
  rw [if_pos (show w / 100 < 100000000 by omega)]
theorem sb_negT {w : Nat} (h : w < 2 ^ 31) : (-nI w).toInt = -(w : Int) := by
  rw [Int32.toInt_neg, nI_toInt h]
  exact Int.bmod_eq_of_le (by omega) (by omega)
theorem sb_nle {a b : Nat} (ha : a < 2 ^ 31) (hb : b < 2 ^ 31) : -nI a ≤ -nI b ↔ b ≤ a := by
  rw [Int32.le_iff_toInt_le, sb_negT ha, sb_negT hb]
  omega
theorem sb_nlt {a b : Nat} (ha : a < 2 ^ 31) (hb : b < 2 ^ 31) : -nI a < -nI b ↔ b < a := by
  rw [Int32.lt_iff_toInt_lt, sb_negT ha, sb_negT hb]
  omega
theorem sb_cmp {A B : Prop} {x : Int32} (v c : Nat) (f : c ≤ v → A) (g : v < c → B) (hv : v < 2 ^ 31) (hx : x = -nI c := by rfl) (hc : c < 2 ^ 31 := by omega) : (-nI v ≤ x → A) ∧ (¬ -nI v ≤ x → B) := by
  subst hx
  rw [sb_nle hv hc]
  exact ⟨f, fun z => g (by omega)⟩
theorem sb_ndiv {w : Nat} (hw : w < 2 ^ 31) : (-nI w) / 100 = -nI (w / 100) := by
  apply Int32.toInt_inj.mp
  have h100 : (100 : Int32).toInt = 100 := by decide
  rw [Int32.toInt_div, sb_negT hw, h100, sb_negT (by omega), Int.neg_tdiv, Int.tdiv_eq_ediv_of_nonneg (by omega), Int.bmod_eq_of_le (by omega) (by omega)]
  omega
theorem sb_nrem {w : Nat} (hw : w < 2 ^ 31) : (-nI (w / 100)) * 100 - (-nI w) = nI (w % 100) := by
  have h := pk_rem (a := w) (d := 100) hw (by decide) (by decide)
  rw [pk_div hw (by decide) (by decide)] at h
  rw [← h]
  show (-nI (w / 100)) * nI 100 - (-nI w) = nI w - nI (w / 100) * nI 100
  rw [Int32.neg_mul, Int32.sub_neg, Int32.add_comm, ← Int32.sub_eq_add_neg]
end
section
/-! rows on bits, shifts and unsigned numbers, to paste: each family out of a closed proof of our own, whole with what it rests on; each by itself clean at Lean in its own claim (generation 39, form 5). Take a family whole -/
/-! ===== Int32 by its bits: bt x i ===== -/
def bt (x : Int32) (i : Nat) : Bool := x.toBitVec.getLsbD i
theorem b_ext {x y : Int32} (h : ∀ i, i < 32 → bt x i = bt y i) : x = y := Int32.toBitVec_inj.mp (BitVec.eq_of_getLsbD_eq (fun i hi => h i hi))
theorem b_or (x y : Int32) (i : Nat) : bt (x ||| y) i = (bt x i || bt y i) := by unfold bt; rw [Int32.toBitVec_or, BitVec.getLsbD_or]
theorem b_and (x y : Int32) (i : Nat) : bt (x &&& y) i = (bt x i && bt y i) := by unfold bt; rw [Int32.toBitVec_and, BitVec.getLsbD_and]
theorem b_xor (x y : Int32) (i : Nat) : bt (x ^^^ y) i = (bt x i ^^ bt y i) := by unfold bt; rw [Int32.toBitVec_xor, BitVec.getLsbD_xor]
theorem b_big {x : Int32} {i : Nat} (h : 32 ≤ i) : bt x i = false := BitVec.getLsbD_of_ge _ _ h
theorem b_255 (i : Nat) : bt 255 i = decide (i < 8) := by
  rcases Nat.lt_or_ge i 32 with h | h
  · exact (by decide +kernel : ∀ i, i < 32 → bt 255 i = decide (i < 8)) i h
  · rw [b_big h, decide_eq_false (by omega)]
theorem b_65535 (i : Nat) : bt 65535 i = decide (i < 16) := by
  rcases Nat.lt_or_ge i 32 with h | h
  · exact (by decide +kernel : ∀ i, i < 32 → bt 65535 i = decide (i < 16)) i h
  · rw [b_big h, decide_eq_false (by omega)]
theorem b_m1 : ∀ i, i < 32 → bt (-1) i = true := by decide +kernel
theorem b_0 (i : Nat) : bt 0 i = false := BitVec.getLsbD_zero
theorem s_l : ∀ n, n < 32 → ((nI n &&& 31).toBitVec.smod 32).toNat = n := by decide +kernel
theorem s_u : ∀ n, n < 32 → (((nI n).toUInt32 &&& Int32.toUInt32 31).toBitVec % 32).toNat = n := by decide +kernel
theorem b_shl (n : Nat) (hn : n < 32) (x : Int32) {i : Nat} (hi : i < 32) : bt (x <<< (nI n &&& 31)) i = (decide (n ≤ i) && bt x (i - n)) := by
  unfold bt
  rw [Int32.toBitVec_shiftLeft]
  show (x.toBitVec <<< ((nI n &&& 31).toBitVec.smod 32).toNat).getLsbD i = _
  rw [s_l n hn, BitVec.getLsbD_shiftLeft]
  rcases Nat.lt_or_ge i n with h | h
  · simp [h, Nat.not_le.mpr h]
  · simp [hi, h, Nat.not_lt.mpr h]
theorem b_ushr (n : Nat) (hn : n < 32) (x : Int32) (i : Nat) : bt ((x.toUInt32 >>> ((nI n).toUInt32 &&& Int32.toUInt32 31)).toInt32) i = bt x (n + i) := by
  show (x.toUInt32 >>> ((nI n).toUInt32 &&& Int32.toUInt32 31)).toBitVec.getLsbD i = x.toUInt32.toBitVec.getLsbD (n + i)
  rw [UInt32.toBitVec_shiftRight]
  show (x.toUInt32.toBitVec >>> (((nI n).toUInt32 &&& Int32.toUInt32 31).toBitVec % 32).toNat).getLsbD i = _
  rw [s_u n hn, BitVec.getLsbD_ushiftRight]
theorem b_sshr (n : Nat) (hn : n < 32) (x : Int32) {i : Nat} (hi : i < 32) : bt (x >>> (nI n &&& 31)) i = if n + i < 32 then bt x (n + i) else bt x 31 := by
  unfold bt
  rw [Int32.toBitVec_shiftRight]
  show (x.toBitVec.sshiftRight ((nI n &&& 31).toBitVec.smod 32).toNat).getLsbD i = _
  rw [s_l n hn, BitVec.getLsbD_sshiftRight, BitVec.msb_eq_getLsbD_last]
  simp [hi]
theorem b_shl8 (x : Int32) {i : Nat} (hi : i < 32) : bt (x <<< ((8 : Int32) &&& 31)) i = (decide (8 ≤ i) && bt x (i - 8)) := b_shl 8 (by omega) x hi
theorem b_shl16 (x : Int32) {i : Nat} (hi : i < 32) : bt (x <<< ((16 : Int32) &&& 31)) i = (decide (16 ≤ i) && bt x (i - 16)) := b_shl 16 (by omega) x hi
theorem b_shl24 (x : Int32) {i : Nat} (hi : i < 32) : bt (x <<< ((24 : Int32) &&& 31)) i = (decide (24 ≤ i) && bt x (i - 24)) := b_shl 24 (by omega) x hi
theorem b_sshr8 (x : Int32) {i : Nat} (hi : i < 32) : bt (x >>> ((8 : Int32) &&& 31)) i = if 8 + i < 32 then bt x (8 + i) else bt x 31 := b_sshr 8 (by omega) x hi
/-! ===== nI under and, xor, >>>, one bit, 65535 ===== -/
theorem nx_and (a b : Nat) : nI a &&& nI b = nI (a &&& b) := by
  apply Int32.toBitVec_inj.1
  show BitVec.ofNat 32 a &&& BitVec.ofNat 32 b = BitVec.ofNat 32 (a &&& b)
  apply BitVec.eq_of_getLsbD_eq
  intro i hi
  simp [hi]
theorem nx_xor (a b : Nat) : nI a ^^^ nI b = nI (a ^^^ b) := by
  apply Int32.toBitVec_inj.1
  show BitVec.ofNat 32 a ^^^ BitVec.ofNat 32 b = BitVec.ofNat 32 (a ^^^ b)
  apply BitVec.eq_of_getLsbD_eq
  intro i hi
  simp [hi]
theorem nx_cnt : ∀ j : Fin 32, (UInt32.ofNat j.val &&& Int32.toUInt32 31).toNat % 32 = j.val := by decide +kernel
theorem nx_ush {k j : Nat} (hk : k < 65536) (hj : j < 32) : ((nI k).toUInt32 >>> ((nI j).toUInt32 &&& Int32.toUInt32 31)).toInt32 = nI (k >>> j) := by
  have hs : k >>> j ≤ k := by
    rw [Nat.shiftRight_eq_div_pow]
    exact Nat.div_le_self _ _
  have e2 : UInt32.ofNat k >>> (UInt32.ofNat j &&& Int32.toUInt32 31) = UInt32.ofNat (k >>> j) := by
    apply UInt32.toNat_inj.1
    have h1 : (UInt32.ofNat k).toNat = k := Nat.mod_eq_of_lt (by omega)
    have h2 : (UInt32.ofNat (k >>> j)).toNat = k >>> j := Nat.mod_eq_of_lt (by omega)
    rw [UInt32.toNat_shiftRight, nx_cnt ⟨j, hj⟩, h1, h2]
  show (UInt32.ofNat k >>> (UInt32.ofNat j &&& Int32.toUInt32 31)).toInt32 = _
  rw [e2]
  rfl
theorem nx_bit {k j : Nat} (hk : k < 65536) (hj : j < 16) : (((nI k).toUInt32 >>> ((nI j).toUInt32 &&& Int32.toUInt32 31)).toInt32 &&& 1) = 0 ↔ k.testBit j = false := by
  rw [nx_ush hk (by omega)]
  show nI (k >>> j) &&& nI 1 = 0 ↔ _
  rw [nx_and, Nat.and_one_is_mod, ← nI_0, nI_eq (by omega) (by omega), Nat.testBit_eq_decide_div_mod_eq, Nat.shiftRight_eq_div_pow, decide_eq_false_iff_not]
  generalize k / 2 ^ j = z
  omega
theorem nx_mod (k : Nat) : nI k &&& 65535 = nI (k % 65536) := by
  show nI k &&& nI 65535 = _
  rw [nx_and, show (65535 : Nat) = 2 ^ 16 - 1 from rfl, Nat.and_two_pow_sub_one_eq_mod]
theorem nx_m16 {k : Nat} (h : k < 65536) : nI k &&& 65535 = nI k := by rw [nx_mod, Nat.mod_eq_of_lt h]
theorem nx_mask (x : Int32) : ∃ k, k < 65536 ∧ x &&& 65535 = nI k := by
  have e : x = nI x.toBitVec.toNat := by
    apply Int32.toBitVec_inj.1
    show x.toBitVec = BitVec.ofNat 32 x.toBitVec.toNat
    simp
  refine ⟨x.toBitVec.toNat % 65536, Nat.mod_lt _ (by omega), ?_⟩
  rw [← nx_mod, ← e]
/-! ===== Int32 as a set of bits: test, set ===== -/
def nf_M (m : Int32) : Nat := 4294967296 - m.toBitVec.toNat
theorem nf_sh : ∀ l, l < 32 → ((1 : Int32) <<< (nI l &&& 31)).toBitVec = BitVec.twoPow 32 l := by decide +kernel
theorem nf_sl : ∀ l, l < 32 → (((nI l).toUInt32 &&& Int32.toUInt32 31).toBitVec % 32).toNat = l := by decide +kernel
theorem nf_tp : ∀ l, l < 32 → BitVec.twoPow 32 l ≠ 0#32 := by decide +kernel
theorem nf_bit (m : Int32) (l : Nat) (hl : l < 32) : ((m.toUInt32 >>> ((nI l).toUInt32 &&& Int32.toUInt32 31)).toInt32 &&& 1) = 0 ↔ (m &&& ((1 : Int32) <<< (nI l &&& 31))) = 0 := by
  have e : ((m.toUInt32 >>> ((nI l).toUInt32 &&& Int32.toUInt32 31)).toInt32).toBitVec = m.toBitVec >>> l := by
    show m.toBitVec >>> (((nI l).toUInt32 &&& Int32.toUInt32 31).toBitVec % 32) = m.toBitVec >>> l
    rw [BitVec.ushiftRight_eq', nf_sl l hl]
  rw [← Int32.toBitVec_inj, ← Int32.toBitVec_inj, Int32.toBitVec_and, Int32.toBitVec_and, nf_sh l hl, e, BitVec.and_twoPow]
  show (m.toBitVec >>> l &&& 1#32) = 0#32 ↔ _ = 0#32
  rw [BitVec.and_one_eq_setWidth_ofBool_getLsbD, BitVec.getLsbD_ushiftRight, Nat.add_zero]
  cases hb : m.toBitVec.getLsbD l
  · exact ⟨fun _ => by simp, fun _ => by decide⟩
  · exact ⟨fun z => absurd z (by decide), fun z => absurd ((if_pos rfl).symm.trans z) (nf_tp l hl)⟩
theorem nf_gr (m k : Int32) (h : m &&& k = 0) (hk : k ≠ 0) : nf_M (m ||| k) < nf_M m := by
  have hm := m.toBitVec.isLt
  have hm' := (m ||| k).toBitVec.isLt
  have h1 : m.toBitVec.toNat ≤ (m ||| k).toBitVec.toNat := by
    rw [Int32.toBitVec_or, BitVec.toNat_or]
    exact Nat.left_le_or
  have h2 : m.toBitVec.toNat ≠ (m ||| k).toBitVec.toNat := by
    intro e
    have e2 : m = m ||| k := Int32.toBitVec_inj.mp (BitVec.eq_of_toNat_eq e)
    apply hk
    apply Int32.toBitVec_inj.mp
    show k.toBitVec = 0#32
    apply BitVec.eq_of_getLsbD_eq
    intro i hi
    have a : m.toBitVec.getLsbD i = (m.toBitVec.getLsbD i || k.toBitVec.getLsbD i) := by rw [← BitVec.getLsbD_or, ← Int32.toBitVec_or, ← e2]
    have b : (m.toBitVec.getLsbD i && k.toBitVec.getLsbD i) = false := by
      rw [← BitVec.getLsbD_and, ← Int32.toBitVec_and, h]
      exact BitVec.getLsbD_zero
    rw [BitVec.getLsbD_zero]
    revert a b
    cases m.toBitVec.getLsbD i <;> cases k.toBitVec.getLsbD i <;> simp
  unfold nf_M
  omega
/-! ===== a byte read unsigned ===== -/
theorem bp_b (x : Int32) : x.toInt8.toInt32 &&& 255 = x &&& 255 := by
  apply Int32.toBitVec_inj.mp
  rw [Int32.toBitVec_and, Int32.toBitVec_and, Int8.toBitVec_toInt32, Int32.toBitVec_toInt8]
  apply BitVec.eq_of_getLsbD_eq
  intro i hi
  rw [BitVec.getLsbD_and, BitVec.getLsbD_and]
  have hm : ∀ i < 32, 8 ≤ i → (255 : Int32).toBitVec.getLsbD i = false := by decide
  rcases Nat.lt_or_ge i 8 with z | z
  · rw [BitVec.getLsbD_signExtend, BitVec.getLsbD_signExtend, if_pos z, if_pos hi]
    simp only [z, hi, decide_true, Bool.true_and]
  · rw [hm i hi z]; simp
/-! ===== the char cast and 65535 ===== -/
theorem em_w (v : Int32) : ∃ w : Nat, w < 65536 ∧ (v.toUInt32 % 65536).toInt32 = nI w ∧ v &&& 65535 = nI w := by
  have hr := lw_u16_r v
  have h0 : (0 : Int32).toInt = 0 := by decide
  obtain ⟨w, h1, h2⟩ := nI_of (x := lw_u16 v) (by rw [Int32.lt_iff_toInt_lt]; omega)
  have h3 : (v.toUInt32 % 65536).toInt32 = nI w := h2
  rw [h2, nI_toInt h1] at hr
  exact ⟨w, by omega, h3, by rw [← lg_i2c_mask, ← lg_i2c_nf, h3]⟩
/-! ===== Int64 as a set of bits: test, set, clear ===== -/
theorem ts_nf {x : Bool} (h : ¬ x = false) : x = true := by cases x <;> first | rfl | exact absurd rfl h
theorem ts_nt {x : Bool} (h : ¬ x = true) : x = false := by cases x <;> first | rfl | exact absurd rfl h
theorem ts_bit {w : Int64} {s : UInt64} {j : Nat} (hj : j < 64) (hs : s.toNat = j) : ((w.toUInt64 >>> s).toInt64 &&& 1) = 0 ↔ w.toBitVec.getLsbD j = false := by
  have e : (w.toUInt64 >>> s).toInt64.toBitVec = w.toBitVec >>> j := by
    apply BitVec.eq_of_toNat_eq
    show (w.toUInt64 >>> s).toNat = _
    rw [UInt64.toNat_shiftRight, hs, Nat.mod_eq_of_lt hj, BitVec.toNat_ushiftRight]
    rfl
  rw [← Int64.toBitVec_inj, Int64.toBitVec_and, e]
  show w.toBitVec >>> j &&& 1#64 = 0#64 ↔ _
  constructor
  · intro h
    have t := congrArg (fun x => x.getLsbD 0) h
    simpa using t
  · intro h
    apply BitVec.eq_of_getLsbD_eq
    intro i hi
    cases i with
    | zero => simp [h]
    | succ i => simp
theorem ts_or {w m : Int64} {j : Nat} (hj : j < 64) (hm : m.toBitVec = BitVec.twoPow 64 j) : (w ||| m) = w ↔ w.toBitVec.getLsbD j = true := by
  rw [← Int64.toBitVec_inj, Int64.toBitVec_or, hm]
  constructor
  · intro h
    have t := congrArg (fun x => x.getLsbD j) h
    simp only [BitVec.getLsbD_or, BitVec.getLsbD_twoPow] at t
    simpa [hj] using t.symm
  · intro h
    apply BitVec.eq_of_getLsbD_eq
    intro i hi
    rw [BitVec.getLsbD_or, BitVec.getLsbD_twoPow]
    by_cases e : j = i
    · subst e; rw [h, Bool.true_or]
    · simp [e]
theorem ts_and {w m : Int64} {j : Nat} (hj : j < 64) (hm : m.toBitVec = BitVec.twoPow 64 j) : (w &&& (m ^^^ (-1))) = w ↔ w.toBitVec.getLsbD j = false := by
  have ha : (-1 : Int64).toBitVec = BitVec.allOnes 64 := by decide
  rw [← Int64.toBitVec_inj, Int64.toBitVec_and, Int64.toBitVec_xor, hm, ha]
  constructor
  · intro h
    have t := congrArg (fun x => x.getLsbD j) h
    simp only [BitVec.getLsbD_and, BitVec.getLsbD_xor, BitVec.getLsbD_twoPow, BitVec.getLsbD_allOnes] at t
    simpa [hj] using t.symm
  · intro h
    apply BitVec.eq_of_getLsbD_eq
    intro i hi
    rw [BitVec.getLsbD_and, BitVec.getLsbD_xor, BitVec.getLsbD_twoPow, BitVec.getLsbD_allOnes]
    by_cases e : j = i
    · subst e; rw [h, Bool.false_and]
    · simp [e, hi]
/-! ===== lN n to 2^64: shifts, and, or, masks, one bit ===== -/
theorem wb_tb (n : Nat) : (lN n).toBitVec = BitVec.ofNat 64 n := rfl
theorem wb_inj {a b : Int64} (h : a.toBitVec = b.toBitVec) : a = b := Int64.toBitVec_inj.mp h
theorem wb_tn {n : Nat} (h : n < 2 ^ 64) : (lN n).toBitVec.toNat = n := by rw [wb_tb, BitVec.toNat_ofNat, Nat.mod_eq_of_lt h]
theorem wb_of (x : Int64) : ∃ n, n < 2 ^ 64 ∧ x = lN n := ⟨x.toBitVec.toNat, x.toBitVec.isLt, wb_inj (by rw [wb_tb]; simp)⟩
theorem wb_of32 (x : Int32) : ∃ n, n < 2 ^ 32 ∧ x = nI n := ⟨x.toBitVec.toNat, x.toBitVec.isLt, Int32.toBitVec_inj.mp (by show _ = BitVec.ofNat 32 _; simp)⟩
theorem wb_c : ∀ k, k < 64 → ((nI k).toInt64 &&& 63) = lN k := by decide +kernel
theorem wb_cu : ∀ k, k < 64 → ((nI k).toInt64.toUInt64 &&& Int64.toUInt64 63) = UInt64.ofNat k := by decide +kernel
theorem wb_sm : ∀ k, k < 64 → (BitVec.ofNat 64 k).smod 64 = BitVec.ofNat 64 k := by decide +kernel
theorem wb_pw {a b : Nat} (h : a ≤ b) : 2 ^ b = 2 ^ a * 2 ^ (b - a) := by rw [← Nat.pow_add]; congr 1; omega
theorem wb_lt2 {a b : Nat} (h : a < b) : 2 ^ a < 2 ^ b := Nat.pow_lt_pow_right (by decide) h
theorem wb_mod (n : Nat) : lN n = lN (n % 2 ^ 64) := wb_inj (by rw [wb_tb, wb_tb]; apply BitVec.eq_of_toNat_eq; rw [BitVec.toNat_ofNat, BitVec.toNat_ofNat, Nat.mod_mod])
theorem wb_shr {n k : Nat} (hn : n < 2 ^ 64) (hk : k < 64) : ((lN n).toUInt64 >>> ((nI k).toInt64.toUInt64 &&& Int64.toUInt64 63)).toInt64 = lN (n / 2 ^ k) := by
  rw [wb_cu k hk]
  apply wb_inj
  apply BitVec.eq_of_toNat_eq
  show ((lN n).toUInt64 >>> UInt64.ofNat k).toNat = (BitVec.ofNat 64 _).toNat
  have h1 : (UInt64.ofNat k).toNat = k := by
    show (BitVec.ofNat 64 k).toNat = k
    rw [BitVec.toNat_ofNat, Nat.mod_eq_of_lt (by omega)]
  have h2 : (lN n).toUInt64.toNat = n := wb_tn hn
  rw [UInt64.toNat_shiftRight, h1, h2, Nat.mod_eq_of_lt hk, Nat.shiftRight_eq_div_pow, BitVec.toNat_ofNat, Nat.mod_eq_of_lt (Nat.lt_of_le_of_lt (Nat.div_le_self _ _) hn)]
theorem wb_shl (n : Nat) {k : Nat} (hk : k < 64) : lN n <<< ((nI k).toInt64 &&& 63) = lN (n * 2 ^ k) := by
  rw [wb_c k hk]
  apply wb_inj
  rw [Int64.toBitVec_shiftLeft, wb_tb, wb_tb, wb_tb, wb_sm k hk]
  apply BitVec.eq_of_toNat_eq
  rw [BitVec.shiftLeft_eq', BitVec.toNat_shiftLeft, BitVec.toNat_ofNat, BitVec.toNat_ofNat, BitVec.toNat_ofNat, Nat.mod_eq_of_lt (show k < 2 ^ 64 by omega), Nat.shiftLeft_eq, Nat.mul_mod, Nat.mod_mod, ← Nat.mul_mod]
theorem wb_and {a b : Nat} (ha : a < 2 ^ 64) (hb : b < 2 ^ 64) : lN a &&& lN b = lN (a &&& b) := by
  apply wb_inj
  rw [Int64.toBitVec_and, wb_tb, wb_tb, wb_tb]
  apply BitVec.eq_of_toNat_eq
  rw [BitVec.toNat_and, BitVec.toNat_ofNat, BitVec.toNat_ofNat, BitVec.toNat_ofNat, Nat.mod_eq_of_lt ha, Nat.mod_eq_of_lt hb, Nat.mod_eq_of_lt (Nat.and_lt_two_pow _ hb)]
theorem wb_or {a b : Nat} (ha : a < 2 ^ 64) (hb : b < 2 ^ 64) : lN a ||| lN b = lN (a ||| b) := by
  apply wb_inj
  rw [Int64.toBitVec_or, wb_tb, wb_tb, wb_tb]
  apply BitVec.eq_of_toNat_eq
  rw [BitVec.toNat_or, BitVec.toNat_ofNat, BitVec.toNat_ofNat, BitVec.toNat_ofNat, Nat.mod_eq_of_lt ha, Nat.mod_eq_of_lt hb, Nat.mod_eq_of_lt (Nat.or_lt_two_pow ha hb)]
theorem wb_mask {n k : Nat} (hn : n < 2 ^ 64) (hk : k < 64) : lN n &&& lN (2 ^ k - 1) = lN (n % 2 ^ k) := by
  rw [wb_and hn (by have := wb_lt2 hk; omega), Nat.and_two_pow_sub_one_eq_mod]
theorem wb_a1 {n : Nat} (hn : n < 2 ^ 64) : lN n &&& 1 = lN (n % 2) := wb_mask (k := 1) hn (by decide)
theorem wb_bit {n k : Nat} (hn : n < 2 ^ 64) (hk : k < 64) : ((lN n).toUInt64 >>> ((nI k).toInt64.toUInt64 &&& Int64.toUInt64 63)).toInt64 &&& 1 = lN (n / 2 ^ k % 2) := by
  rw [wb_shr hn hk, wb_a1 (Nat.lt_of_le_of_lt (Nat.div_le_self _ _) hn)]
theorem wb_xor {q k : Nat} (hk : k < 63) (h : 2 ^ k ≤ q) (h2 : q < 2 ^ (k + 1)) : lN q ^^^ lN (2 ^ k) = lN (q - 2 ^ k) := by
  obtain ⟨r, rfl⟩ : ∃ r, q = 2 ^ k + r := ⟨q - 2 ^ k, by omega⟩
  have hr : r < 2 ^ k := by rw [Nat.pow_succ] at h2; omega
  have hx : (2 ^ k + r) ^^^ 2 ^ k = r := by
    apply Nat.eq_of_testBit_eq
    intro i
    rw [Nat.testBit_xor, Nat.testBit_two_pow]
    rcases Nat.lt_trichotomy i k with h | h | h
    · rw [Nat.testBit_two_pow_add_gt h]
      simp [show ¬ k = i by omega]
    · subst h
      rw [Nat.testBit_two_pow_add_eq]
      simp
    · have a1 : 2 ^ (k + 1) ≤ 2 ^ i := Nat.pow_le_pow_right (by decide) h
      rw [Nat.testBit_lt_two_pow (show 2 ^ k + r < 2 ^ i by omega), Nat.testBit_lt_two_pow (show r < 2 ^ i by omega)]
      simp [show ¬ k = i by omega]
  have b1 := wb_lt2 (show k + 1 < 64 by omega)
  have b2 := wb_lt2 (show k < 64 by omega)
  apply wb_inj
  rw [Int64.toBitVec_xor, wb_tb, wb_tb, wb_tb]
  apply BitVec.eq_of_toNat_eq
  rw [BitVec.toNat_xor, BitVec.toNat_ofNat, BitVec.toNat_ofNat, BitVec.toNat_ofNat, Nat.mod_eq_of_lt (by omega : 2 ^ k + r < 2 ^ 64), Nat.mod_eq_of_lt b2, hx, Nat.add_sub_cancel_left, Nat.mod_eq_of_lt (by omega)]
/-! ===== lN: masks, 'or' of parts that don't overlap is a sum ===== -/
theorem u_tn {n : Nat} (h : n < 2 ^ 64) : (UInt64.ofNat n).toNat = n := Nat.mod_eq_of_lt h
theorem g_and {a b c : Nat} (ha : a < 2 ^ 64) (hb : b < 2 ^ 64) (hc : a &&& b = c) : lN a &&& lN b = lN c := by
  subst hc
  have h : UInt64.ofNat a &&& UInt64.ofNat b = UInt64.ofNat (a &&& b) := UInt64.toNat_inj.mp (by rw [UInt64.toNat_and, u_tn ha, u_tn hb, u_tn (Nat.and_lt_two_pow a hb)])
  have h2 := congrArg UInt64.toInt64 h
  exact h2
theorem g_and1 {a : Nat} (ha : a < 2 ^ 64) : lN a &&& 1 = lN (a % 2) := g_and (b := 1) ha (by decide) (Nat.and_two_pow_sub_one_eq_mod a 1)
theorem g_mask {a s p : Nat} (hp : 2 ^ s = p) (hs : s < 64) (ha : a < 2 ^ 64) : lN a &&& lN (p - 1) = lN (a % p) := by
  subst hp
  have := Nat.pow_lt_pow_right (show 1 < 2 by decide) hs
  exact g_and ha (by omega) (Nat.and_two_pow_sub_one_eq_mod a s)
theorem g_or {k p a b : Nat} (hp : 2 ^ k = p) (ha : a < p) (h : b * p + a < 2 ^ 64) : lN (b * p) ||| lN a = lN (b * p + a) := by
  subst hp
  have h1 : b * 2 ^ k ||| a = b * 2 ^ k + a := by rw [← Nat.shiftLeft_eq, Nat.shiftLeft_add_eq_or_of_lt ha]
  have h3 : UInt64.ofNat (b * 2 ^ k) ||| UInt64.ofNat a = UInt64.ofNat (b * 2 ^ k + a) := UInt64.toNat_inj.mp (by rw [UInt64.toNat_or, u_tn (by omega), u_tn (by omega), u_tn h, h1])
  have h2 := congrArg UInt64.toInt64 h3
  exact h2
theorem g_or' {k p a b : Nat} (hp : 2 ^ k = p) (ha : a < p) (h : a + b * p < 2 ^ 64) : lN a ||| lN (b * p) = lN (a + b * p) := by
  rw [Int64.or_comm, g_or hp ha (by omega), Nat.add_comm]
theorem g_ushr {a k p : Nat} {y : UInt64} (hy : y = UInt64.ofNat k) (hk : k < 64) (hp : 2 ^ k = p) (ha : a < 2 ^ 64) : ((lN a).toUInt64 >>> y).toInt64 = lN (a / p) := by
  subst hy hp
  have h : UInt64.ofNat a >>> UInt64.ofNat k = UInt64.ofNat (a / 2 ^ k) := UInt64.toNat_inj.mp (by rw [UInt64.toNat_shiftRight, u_tn ha, u_tn (by omega), u_tn (Nat.lt_of_le_of_lt (Nat.div_le_self _ _) ha), Nat.mod_eq_of_lt hk, Nat.shiftRight_eq_div_pow])
  have h2 := congrArg UInt64.toInt64 h
  exact h2
theorem g_shl {a k p : Nat} {y : Int64} (hy : y.toBitVec.smod 64 = BitVec.ofNat 64 k) (hk : k < 64) (hp : 2 ^ k = p) (ha : a < 2 ^ 64) : lN a <<< y = lN (a * p) := by
  subst hp
  apply Int64.toBitVec_inj.mp
  rw [Int64.toBitVec_shiftLeft, hy]
  apply BitVec.eq_of_toNat_eq
  have hb : (lN a).toBitVec.toNat = a := Nat.mod_eq_of_lt ha
  have hk' : (BitVec.ofNat 64 k).toNat = k := Nat.mod_eq_of_lt (by omega)
  have h : ((lN a).toBitVec <<< BitVec.ofNat 64 k).toNat = (a * 2 ^ k) % 2 ^ 64 := by simp only [BitVec.shiftLeft_eq', BitVec.toNat_shiftLeft, hb, hk', Nat.shiftLeft_eq]
  exact h
/-! ===== lN to 2^62 under >> and >>> ===== -/
theorem pf_lI {a : Nat} (h : a < 2 ^ 63) : (lN a).toInt = (a : Int) := lg_ofNat_toInt h
theorem pf_shr {a d : Nat} {D : Int64} (hD : (D.toBitVec.smod 64).toNat = d) (h : a < 2 ^ 62) : lN a >>> D = lN (a / 2 ^ d) := by
  have hd : a / 2 ^ d ≤ a := Nat.div_le_self _ _
  apply Int64.toInt_inj.mp
  have e : (lN a >>> D).toInt = (lN a).toInt >>> d := by
    rw [← hD]
    exact BitVec.toInt_sshiftRight ..
  rw [e, Int.shiftRight_eq_div_pow, pf_lI (by omega), pf_lI (by omega)]
  rfl
theorem pf_ushr {a d : Nat} {D : UInt64} (hD : D.toNat % 64 = d) (h : a < 2 ^ 62) : ((lN a).toUInt64 >>> D).toInt64 = lN (a / 2 ^ d) := by
  have hd : a / 2 ^ d ≤ a := Nat.div_le_self _ _
  have e : (lN a).toUInt64 >>> D = UInt64.ofNat (a / 2 ^ d) := UInt64.toNat_inj.mp (by
    rw [UInt64.toNat_shiftRight, hD, Nat.shiftRight_eq_div_pow, UInt64.toNat_ofNat']
    show (UInt64.ofNat a).toNat / 2 ^ d = _
    rw [UInt64.toNat_ofNat', Nat.mod_eq_of_lt (by omega), Nat.mod_eq_of_lt (by omega)])
  rw [e]
  rfl
theorem pf_andw (x : Int64) : ∃ m, m < 2 ^ 32 ∧ x &&& 4294967295 = lN m := ⟨x.toBitVec.toNat % 2 ^ 32, Nat.mod_lt _ (by decide), Int64.toBitVec_inj.mp (BitVec.eq_of_toNat_eq (by
  show (x.toBitVec &&& 4294967295#64).toNat = (BitVec.ofNat 64 (x.toBitVec.toNat % 2 ^ 32)).toNat
  rw [BitVec.toNat_and, show (4294967295#64).toNat = 2 ^ 32 - 1 from by decide, Nat.and_two_pow_sub_one_eq_mod, BitVec.toNat_ofNat]
  omega))⟩
/-! ===== Int64 as an unsigned number: uN x ===== -/
def uN (x : Int64) : Nat := x.toUInt64.toNat
theorem uN_lt (x : Int64) : uN x < 18446744073709551616 := x.toUInt64.toNat_lt
theorem uN_inj {x y : Int64} (h : uN x = uN y) : x = y := congrArg UInt64.toInt64 (UInt64.toNat_inj.mp h)
theorem uN_add (x y : Int64) : uN (x + y) = (uN x + uN y) % 18446744073709551616 := by
  show (x.toUInt64 + y.toUInt64).toNat = _
  exact UInt64.toNat_add _ _
theorem uN_mul (x y : Int64) : uN (x * y) = (uN x * uN y) % 18446744073709551616 := by
  show (x.toUInt64 * y.toUInt64).toNat = _
  exact UInt64.toNat_mul _ _
theorem uN_shl (x : Int64) : uN (x <<< ((1 : Int32).toInt64 &&& 63)) = (2 * uN x) % 18446744073709551616 := by
  have h : (((1 : Int32).toInt64 &&& 63).toBitVec.smod 64).toNat = 1 := by decide
  show (x.toBitVec <<< (((1 : Int32).toInt64 &&& 63).toBitVec.smod 64).toNat).toNat = _
  rw [h, BitVec.toNat_shiftLeft, Nat.shiftLeft_eq, Nat.mul_comm]
  rfl
theorem uN_shr (x : Int64) (s : UInt64) : uN (x.toUInt64 >>> s).toInt64 = uN x / 2 ^ (s.toNat % 64) := by
  show (x.toUInt64 >>> s).toNat = _
  rw [UInt64.toNat_shiftRight, Nat.shiftRight_eq_div_pow]
  rfl
theorem uN_s32 (x : Int64) : uN (x.toUInt64 >>> ((32 : Int32).toInt64.toUInt64 &&& Int64.toUInt64 63)).toInt64 = uN x / 4294967296 := by
  have h : ((32 : Int32).toInt64.toUInt64 &&& Int64.toUInt64 63).toNat % 64 = 32 := by decide
  rw [uN_shr, h]
theorem uN_s63 (x : Int64) : uN (x.toUInt64 >>> ((63 : Int32).toInt64.toUInt64 &&& Int64.toUInt64 63)).toInt64 = uN x / 9223372036854775808 := by
  have h : ((63 : Int32).toInt64.toUInt64 &&& Int64.toUInt64 63).toNat % 64 = 63 := by decide
  rw [uN_shr, h]
theorem uN_lo (x : Int64) : uN (x &&& 4294967295) = uN x % 4294967296 := by
  show (x.toUInt64 &&& Int64.toUInt64 4294967295).toNat = _
  rw [UInt64.toNat_and]
  exact Nat.and_two_pow_sub_one_eq_mod _ 32
theorem uN_bit (x : Int64) : (x &&& 1) = 0 ↔ uN x % 2 = 0 := by
  have h : uN (x &&& 1) = uN x % 2 := by
    show (x.toUInt64 &&& Int64.toUInt64 1).toNat = _
    rw [UInt64.toNat_and]
    exact Nat.and_two_pow_sub_one_eq_mod _ 1
  rw [← h]
  exact ⟨fun z => by rw [z]; rfl, fun z => uN_inj (z.trans rfl)⟩
theorem uN_or {x y : Int64} (hy : uN y < 2) : uN ((x <<< ((1 : Int32).toInt64 &&& 63)) ||| y) = (2 * uN x) % 18446744073709551616 + uN y := by
  have h1 : uN ((x <<< ((1 : Int32).toInt64 &&& 63)) ||| y) = uN (x <<< ((1 : Int32).toInt64 &&& 63)) ||| uN y := UInt64.toNat_or _ _
  have h2 : (2 * uN x) % 18446744073709551616 = 2 ^ 1 * (uN x % 9223372036854775808) := by omega
  rw [h1, uN_shl, h2]
  exact (Nat.two_pow_add_eq_or_of_lt (i := 1) hy _).symm
theorem nat_xor {a : Nat} (h : a < 18446744073709551616) : a ^^^ 2 ^ 63 = (a + 9223372036854775808) % 18446744073709551616 := by
  have h1 : (a ^^^ 2 ^ 63) % 2 ^ 63 = a % 2 ^ 63 := by rw [Nat.xor_mod_two_pow, Nat.mod_self, Nat.xor_zero]
  have h2 : (a ^^^ 2 ^ 63) / 2 ^ 63 = (a / 2 ^ 63) ^^^ 1 := by rw [Nat.xor_div_two_pow, Nat.div_self (Nat.two_pow_pos 63)]
  have h3 : a / 2 ^ 63 = 0 ∨ a / 2 ^ 63 = 1 := by omega
  generalize a ^^^ 2 ^ 63 = t at h1 h2
  rcases h3 with h3 | h3
  · rw [h3] at h2
    have h2 : t / 2 ^ 63 = 1 := h2
    omega
  · rw [h3] at h2
    have h2 : t / 2 ^ 63 = 0 := h2
    omega
theorem uN_xor (x : Int64) : uN (x ^^^ (-9223372036854775808)) = (uN x + 9223372036854775808) % 18446744073709551616 := by
  rw [← nat_xor (uN_lt x)]
  exact UInt64.toNat_xor _ _
theorem uN_int (x : Int64) : x.toInt = if 2 * uN x < 18446744073709551616 then (uN x : Int) else (uN x : Int) - 18446744073709551616 := BitVec.toInt_eq_toNat_cond _
theorem uN_le (x y : Int64) : (x ^^^ (-9223372036854775808)) ≤ (y ^^^ (-9223372036854775808)) ↔ uN x ≤ uN y := by
  have hx := uN_lt x
  have hy := uN_lt y
  rw [Int64.le_iff_toInt_le, uN_int, uN_int, uN_xor, uN_xor]
  omega
theorem uN_sk (x : Int64) {k : Nat} (hk : k < 64) : uN (x.toUInt64 >>> ((nI k).toInt64.toUInt64 &&& Int64.toUInt64 63)).toInt64 = uN x / 2 ^ k := by
  have h : ((nI k).toInt64.toUInt64 &&& Int64.toUInt64 63).toNat % 64 = k := by
    rw [nI_l (by omega), UInt64.toNat_and]
    have e : (lN k).toUInt64.toNat = k % 2 ^ 64 := rfl
    have e2 : (Int64.toUInt64 63).toNat = 2 ^ 6 - 1 := by decide
    rw [e, e2, Nat.and_two_pow_sub_one_eq_mod]
    omega
  rw [uN_shr, h]
/-! ===== unsigned comparison by xor with the least ===== -/
theorem lN_bv (n : Nat) : (lN n).toBitVec = BitVec.ofNat 64 n := rfl
theorem lN_nat {n : Nat} (h : n < 2 ^ 64) : (lN n).toBitVec.toNat = n := by rw [lN_bv, BitVec.toNat_ofNat]; exact Nat.mod_eq_of_lt h
theorem lN_xor (a b : Nat) : lN a ^^^ lN b = lN (a ^^^ b) := by
  apply Int64.toBitVec_inj.mp; rw [Int64.toBitVec_xor, lN_bv, lN_bv, lN_bv]; apply BitVec.eq_of_getLsbD_eq; intro i hi; simp [BitVec.getLsbD_ofNat, Nat.testBit_xor, hi]
theorem lN_ti {m : Nat} (h : m < 2 ^ 64) : (lN m).toInt = if m < 2 ^ 63 then (m : Int) else (m : Int) - 2 ^ 64 := by
  have c := BitVec.toInt_eq_toNat_cond (lN m).toBitVec
  rw [lN_nat h] at c
  show (lN m).toBitVec.toInt = _
  rw [c]
  split <;> split <;> omega
theorem xor63 {x : Nat} (h : x < 2 ^ 63) : x ^^^ 2 ^ 63 = 2 ^ 63 + x := by
  apply Nat.eq_of_testBit_eq
  intro i
  rw [Nat.testBit_xor, Nat.testBit_two_pow]
  rcases Nat.lt_trichotomy i 63 with z | z | z
  · rw [Nat.testBit_two_pow_add_gt z, decide_eq_false (by omega)]; simp
  · subst z; rw [Nat.testBit_two_pow_add_eq]; simp
  · have hp : 2 ^ 64 ≤ 2 ^ i := Nat.pow_le_pow_right (by decide) z
    rw [Nat.testBit_lt_two_pow (show x < 2 ^ i by omega), Nat.testBit_lt_two_pow (show 2 ^ 63 + x < 2 ^ i by omega), decide_eq_false (by omega)]; rfl
theorem xorS {a : Nat} (h : a < 2 ^ 64) : (lN a ^^^ (-9223372036854775808)).toInt = (a : Int) - 2 ^ 63 := by
  rw [show (-9223372036854775808 : Int64) = lN (2 ^ 63) from by decide +kernel, lN_xor]
  rcases Nat.lt_or_ge a (2 ^ 63) with z | z
  · rw [xor63 z, lN_ti (by omega), if_neg (by omega)]; omega
  · obtain ⟨x, rfl⟩ : ∃ x, a = 2 ^ 63 + x := ⟨a - 2 ^ 63, by omega⟩
    rw [← xor63 (by omega), Nat.xor_assoc, Nat.xor_self, Nat.xor_zero, lN_ti (by omega), if_pos (by omega), xor63 (by omega)]; omega
theorem ultL {a b : Nat} (ha : a < 2 ^ 64) (hb : b < 2 ^ 64) : ((lN b ^^^ (-9223372036854775808)) ≤ (lN a ^^^ (-9223372036854775808))) ↔ b ≤ a := by
  rw [Int64.le_iff_toInt_le, xorS ha, xorS hb]; omega
/-! ===== Int64 masks of n low bits ===== -/
theorem cr_bits (W U M : BitVec 64) : ((W &&& U) &&& (U &&& (M ^^^ BitVec.allOnes 64))) = 0#64 ↔ (W &&& U) &&& M = W &&& U := by
  constructor
  · intro h
    apply BitVec.eq_of_getLsbD_eq
    intro i hi
    have e := congrArg (fun x => BitVec.getLsbD x i) h
    simp only [BitVec.getLsbD_and, BitVec.getLsbD_xor, BitVec.getLsbD_allOnes, BitVec.getLsbD_zero, hi, decide_true] at e ⊢
    revert e
    cases W.getLsbD i <;> cases U.getLsbD i <;> cases M.getLsbD i <;> decide
  · intro h
    apply BitVec.eq_of_getLsbD_eq
    intro i hi
    have e := congrArg (fun x => BitVec.getLsbD x i) h
    simp only [BitVec.getLsbD_and, BitVec.getLsbD_xor, BitVec.getLsbD_allOnes, BitVec.getLsbD_zero, hi, decide_true] at e ⊢
    revert e
    cases W.getLsbD i <;> cases U.getLsbD i <;> cases M.getLsbD i <;> decide
theorem cr_mask (w U m : Int64) (n : Nat) (hm : m.toBitVec.toNat = 2 ^ n - 1) : ((w &&& U) &&& (U &&& (m ^^^ (-1)))) = 0 ↔ (w &&& U).toBitVec.toNat < 2 ^ n := by
  have e0 : (-1 : Int64).toBitVec = BitVec.allOnes 64 := by decide
  have z0 : (0 : Int64).toBitVec = 0#64 := by decide
  rw [← Int64.toBitVec_inj, z0, Int64.toBitVec_and, Int64.toBitVec_and, Int64.toBitVec_and, Int64.toBitVec_xor, e0, cr_bits]
  generalize w.toBitVec &&& U.toBitVec = T
  rw [← BitVec.toNat_inj, BitVec.toNat_and, hm, Nat.and_two_pow_sub_one_eq_mod]
  constructor
  · intro h
    have t := Nat.mod_lt T.toNat (Nat.two_pow_pos n)
    rw [h] at t
    exact t
  · exact Nat.mod_eq_of_lt
theorem cr_shr (t : Int64) (x : UInt64) (n : Nat) (hx : x.toNat % 64 = n) : (t.toUInt64 >>> x).toInt64 = 0 ↔ t.toBitVec.toNat < 2 ^ n := by
  rw [← Int64.toBitVec_inj, ← BitVec.toNat_inj]
  show (t.toUInt64 >>> x).toNat = 0 ↔ t.toUInt64.toNat < 2 ^ n
  rw [UInt64.toNat_shiftRight, hx, Nat.shiftRight_eq_div_pow]
  constructor
  · intro h
    have d : t.toUInt64.toNat / 2 ^ n < 1 := by
      rw [h]
      decide
    have e := (Nat.div_lt_iff_lt_mul (Nat.two_pow_pos n)).mp d
    rw [Nat.one_mul] at e
    exact e
  · exact Nat.div_eq_of_lt
theorem cr_amt (s : Int64) : ∃ n, n < 64 ∧ s &&& 63 = lN n ∧ (s.toUInt64 &&& Int64.toUInt64 63).toNat % 64 = n := by
  have e : (s.toUInt64 &&& Int64.toUInt64 63).toNat = s.toUInt64.toNat % 2 ^ 6 := by
    rw [UInt64.toNat_and, show (Int64.toUInt64 63).toNat = 2 ^ 6 - 1 from by decide, Nat.and_two_pow_sub_one_eq_mod]
  refine ⟨s.toUInt64.toNat % 2 ^ 6, by omega, ?_, by omega⟩
  rw [← Int64.toBitVec_inj, ← BitVec.toNat_inj]
  show (s.toUInt64 &&& Int64.toUInt64 63).toNat = (BitVec.ofNat 64 (s.toUInt64.toNat % 2 ^ 6)).toNat
  rw [e, BitVec.toNat_ofNat]
  omega
end
section
/-! ===== arrays of naturals, masks as sets of bits ===== -/
def zn_A (f : Nat → Nat) : Nat → Int32 := fun j => nI (f j)
def zn_u {α : Type} (f : Nat → α) (k : Nat) (v : α) : Nat → α := fun j => if j = k then v else f j
theorem zn_us {α : Type} {f : Nat → α} {k : Nat} {v : α} : zn_u f k v k = v := if_pos rfl
theorem zn_un {α : Type} {f : Nat → α} {k j : Nat} {v : α} (h : j ≠ k) : zn_u f k v j = f j := if_neg h
theorem zn_rd {f : Nat → Nat} {x : Nat} (hx : x < 2 ^ 31) : zn_A f (nI x).toNatClampNeg = nI (f x) := by
  rw [nI_clamp hx]; rfl
theorem zn_up {f : Nat → Nat} {x v : Nat} (hx : x < 2 ^ 31) : upd (zn_A f) (nI x).toNatClampNeg (nI v) = zn_A (zn_u f x v) := by
  rw [nI_clamp hx]
  funext j
  unfold upd zn_A zn_u
  by_cases h : j = x
  · rw [if_pos h, if_pos h]
  · rw [if_neg h, if_neg h]
theorem zn_upk {f : Nat → Nat} {k v : Nat} : upd (zn_A f) k (nI v) = zn_A (zn_u f k v) := by
  funext j
  unfold upd zn_A zn_u
  by_cases h : j = k
  · rw [if_pos h, if_pos h]
  · rw [if_neg h, if_neg h]
theorem zn_z : (fun _ => (0 : Int32)) = zn_A (fun _ => 0) := rfl
theorem zn_uu {α : Type} {f : Nat → α} {k : Nat} {v w : α} : zn_u (zn_u f k v) k w = zn_u f k w := by
  funext j
  unfold zn_u
  by_cases h : j = k
  · rw [if_pos h, if_pos h]
  · rw [if_neg h, if_neg h, if_neg h]
theorem zn_id {α : Type} {f : Nat → α} {k : Nat} : zn_u f k (f k) = f := by
  funext j
  unfold zn_u
  by_cases h : j = k
  · rw [if_pos h, h]
  · rw [if_neg h]
/-- the masks -/
def zb_t (w : Int64) (i : Nat) : Bool := w.toBitVec.getLsbD i
theorem zb_one : ∀ k, k < 64 → ((1 : Int64) <<< ((nI k).toInt64 &&& 63)).toBitVec = BitVec.twoPow 64 k := by decide +kernel
theorem zb_or {w : Int64} {k i : Nat} (hk : k < 64) : zb_t (w ||| ((1 : Int64) <<< ((nI k).toInt64 &&& 63))) i = (zb_t w i || decide (k = i)) := by
  unfold zb_t
  rw [Int64.toBitVec_or, zb_one k hk, BitVec.getLsbD_or, BitVec.getLsbD_twoPow]
  simp [hk]
theorem zb_an {w : Int64} {k i : Nat} (hk : k < 64) (hi : i < 64) : zb_t (w &&& (((1 : Int64) <<< ((nI k).toInt64 &&& 63)) ^^^ (-1))) i = (zb_t w i && !decide (k = i)) := by
  have ha : (-1 : Int64).toBitVec = BitVec.allOnes 64 := by decide
  unfold zb_t
  rw [Int64.toBitVec_and, Int64.toBitVec_xor, zb_one k hk, ha, BitVec.getLsbD_and, BitVec.getLsbD_xor, BitVec.getLsbD_twoPow, BitVec.getLsbD_allOnes]
  simp [hk, hi]
theorem zb_ext {w v : Int64} (h : ∀ i, i < 64 → zb_t w i = zb_t v i) : w = v := by
  apply Int64.toBitVec_inj.mp
  apply BitVec.eq_of_getLsbD_eq
  intro i hi
  exact h i hi
theorem zb_z (i : Nat) : zb_t 0 i = false := by
  unfold zb_t
  show (0#64).getLsbD i = false
  simp
theorem zb_0 {w : Int64} : w = 0 ↔ ∀ i, i < 64 → zb_t w i = false := by
  constructor
  · intro h i _
    rw [h]; exact zb_z i
  · intro h
    apply zb_ext
    intro i hi
    rw [h i hi, zb_z]
theorem zb_n0 {w : Int64} {i : Nat} (hi : i < 64) (h : zb_t w i = true) : ¬ w = 0 := by
  intro e
  rw [zb_0.mp e i hi] at h
  cases h
/-- a mask that isn't empty has a least bit -/
theorem zb_least {w : Int64} (h : ¬ w = 0) : ∃ k, k < 64 ∧ zb_t w k = true ∧ ∀ j, j < k → zb_t w j = false := by
  have : ∃ k, k < 64 ∧ zb_t w k = true := by
    apply Classical.byContradiction
    intro hn
    apply h
    rw [zb_0]
    intro i hi
    apply ts_nt
    intro ht
    exact hn ⟨i, hi, ht⟩
  obtain ⟨k, ⟨h1, h2⟩, h3⟩ := pk_least _ this
  refine ⟨k, h1, h2, fun j hj => ts_nt fun ht => h3 j hj ⟨by omega, ht⟩⟩
theorem zb_is {w : Int64} {k : Nat} (hk : k < 64) : ((w.toUInt64 >>> ((nI k).toInt64.toUInt64 &&& Int64.toUInt64 63)).toInt64 &&& 1) = 0 ↔ zb_t w k = false := by
  rw [wb_cu k hk]
  exact ts_bit hk (u_tn (by omega))
theorem zb_ml : ∀ m, m < 6 → (((1 : Int64) <<< ((nI (2 ^ m)).toInt64 &&& 63)) - 1).toBitVec = BitVec.ofNat 64 (2 ^ 2 ^ m - 1) := by decide +kernel
theorem zb_mk {w : Int64} {m : Nat} (hm : m < 6) : (w &&& (((1 : Int64) <<< ((nI (2 ^ m)).toInt64 &&& 63)) - 1)) = 0 ↔ ∀ j, j < 2 ^ m → zb_t w j = false := by
  have hb : 2 ^ m ≤ 32 := Nat.pow_le_pow_right (n := 2) (by decide) (show m ≤ 5 by omega)
  have e : ∀ i, i < 64 → zb_t (w &&& (((1 : Int64) <<< ((nI (2 ^ m)).toInt64 &&& 63)) - 1)) i = (zb_t w i && decide (i < 2 ^ m)) := by
    intro i hi
    unfold zb_t
    rw [Int64.toBitVec_and, zb_ml m hm, BitVec.getLsbD_and, BitVec.getLsbD_ofNat, Nat.testBit_two_pow_sub_one]
    simp [hi]
  rw [zb_0]
  constructor
  · intro h j hj
    have t := h j (by omega)
    rw [e j (by omega)] at t
    simpa [hj] using t
  · intro h i hi
    rw [e i hi]
    by_cases c : i < 2 ^ m
    · rw [h i c, Bool.false_and]
    · simp [c]
theorem zb_sh {w : Int64} {k i : Nat} (hk : k < 64) : zb_t ((w.toUInt64 >>> ((nI k).toInt64.toUInt64 &&& Int64.toUInt64 63)).toInt64) i = zb_t w (k + i) := by
  rw [wb_cu k hk]
  have e : (w.toUInt64 >>> UInt64.ofNat k).toInt64.toBitVec = w.toBitVec >>> k := by
    apply BitVec.eq_of_toNat_eq
    show (w.toUInt64 >>> UInt64.ofNat k).toNat = _
    rw [UInt64.toNat_shiftRight, u_tn (by omega), Nat.mod_eq_of_lt hk, BitVec.toNat_ushiftRight]
    rfl
  unfold zb_t
  rw [e, BitVec.getLsbD_ushiftRight]
section
variable {xc1 xc2 xc3 xc4 xc5 xc6 xrd xod xtd : Int32} {xli xle xsz xcu xfn xst xrt : Nat} {xlv xhr xlo xrT : Int64} {na nb sy ow bl sp fT lT sh sc sn sv dh dc dn dv pa de oc wa me qu wo co : Nat → Nat} {rR : Nat → Int64} {te : Nat → Int32}
/-- X's lowestBit: the loop over the widths 32, 16, .., 1 -/
theorem zb_lowL {post : Int32 → Prop} {w : Int64} {k : Nat} (hk : k < 64) (h1 : zb_t w k = true) (h0 : ∀ j, j < k → zb_t w j = false) (hp : post (nI k)) :
    ∀ (m : Nat), m ≤ 6 → ∀ (x : Int64) (p : Nat), (∀ j, zb_t x j = zb_t w (p + j)) → p ≤ k → k < p + 2 ^ m →
      wX_lowestBit_9 post xc1 xc2 xc3 xc4 xc5 xc6 (nI xli) (nI xle) (nI xsz) (nI xcu) (nI xfn) (nI xst) xlv xhr xlo (nI xrt) xrT xrd xod xtd (zn_A na) (zn_A nb) (zn_A sy) (zn_A ow) (zn_A bl) (zn_A sp) (zn_A fT) (zn_A lT) (zn_A sh) (zn_A sc) (zn_A sn) (zn_A sv) (zn_A dh) (zn_A dc) (zn_A dn) (zn_A dv) rR (zn_A pa) (zn_A de) (zn_A oc) (zn_A wa) te (zn_A me) (zn_A qu) (zn_A wo) (zn_A co) (m + 1) x (nI p) (nI (2 ^ m / 2)) := by
  intro m
  induction m with
  | zero =>
    intro _ x p _ h2 h3
    have e : p = k := by
      have : 2 ^ 0 = 1 := rfl
      omega
    subst e
    rw [wX_lowestBit_9]
    exact br_t (show nI (2 ^ 0 / 2) ≤ 0 by decide) hp
  | succ m ih =>
    intro hm x p hx h2 h3
    have hb : 2 ^ m ≤ 32 := Nat.pow_le_pow_right (n := 2) (by decide) (show m ≤ 5 by omega)
    have hb0 : 0 < 2 ^ m := Nat.two_pow_pos m
    have e2 : 2 ^ (m + 1) / 2 = 2 ^ m := by rw [Nat.pow_succ]; omega
    have e3 : nI (2 ^ m) >>> ((1 : Int32) &&& 31) = nI (2 ^ m / 2) := pk_shrN (by omega) _ 1 (by decide)
    rw [e2, wX_lowestBit_9]
    refine br_f (nI_nle hb0 (by omega)) ?_
    rw [e3]
    by_cases c : p + 2 ^ m ≤ k
    · refine br_t ((zb_mk (by omega)).mpr fun j hj => by rw [hx]; exact h0 _ (by omega)) ?_
      intro x' ex p' ep q' eq
      rw [eq, ep, ex, nI_add]
      refine ih (by omega) _ _ (fun j => ?_) (by omega) (by rw [Nat.pow_succ] at h3; omega)
      rw [zb_sh (by omega), hx]
      exact congrArg (zb_t w) (by omega)
    · refine br_f (fun z => ?_) ?_
      · have t := (zb_mk (by omega)).mp z (k - p) (by omega)
        rw [hx, show p + (k - p) = k by omega, h1] at t
        cases t
      · intro q' eq
        rw [eq]
        exact ih (by omega) _ _ hx h2 (by omega)
theorem zb_low {post : Int32 → Prop} {w : Int64} (k : Nat) (hk : k < 64) (h1 : zb_t w k = true) (h0 : ∀ j, j < k → zb_t w j = false) (hp : post (nI k)) : wpX_lowestBit post (xc1, xc2, xc3, xc4, xc5, xc6, nI xli, nI xle, nI xsz, nI xcu, nI xfn, nI xst, xlv, xhr, xlo, nI xrt, xrT, xrd, xod, xtd, zn_A na, zn_A nb, zn_A sy, zn_A ow, zn_A bl, zn_A sp, zn_A fT, zn_A lT, zn_A sh, zn_A sc, zn_A sn, zn_A sv, zn_A dh, zn_A dc, zn_A dn, zn_A dv, rR, zn_A pa, zn_A de, zn_A oc, zn_A wa, te, zn_A me, zn_A qu, zn_A wo, zn_A co) w := by
  unfold wpX_lowestBit
  refine ⟨7, ?_⟩
  exact zb_lowL hk h1 h0 hp 6 (Nat.le_refl _) w 0 (fun j => by rw [Nat.zero_add]) (Nat.zero_le _) (by omega)
end
end
section
/-! ===== doubly linked lists over two arrays, families of lists ===== -/
def zl_dl (nx pv : Nat → Nat) : Nat → List Nat → Prop
  | _, [] => True
  | p, x :: t => pv x = p ∧ nx x = t.headD 0 ∧ zl_dl nx pv x t
theorem zl_fr {nx pv nx' pv' : Nat → Nat} : ∀ (L : List Nat) (p : Nat), (∀ x ∈ L, nx' x = nx x) → (∀ x ∈ L, pv' x = pv x) → zl_dl nx pv p L → zl_dl nx' pv' p L
  | [], _, _, _, _ => True.intro
  | x :: t, p, h1, h2, h => by
    refine ⟨?_, ?_, zl_fr t x (fun y hy => h1 y (List.mem_cons_of_mem _ hy)) (fun y hy => h2 y (List.mem_cons_of_mem _ hy)) h.2.2⟩
    · rw [h2 x List.mem_cons_self]; exact h.1
    · rw [h1 x List.mem_cons_self]; exact h.2.1
theorem zl_ins {nx pv : Nat → Nat} {L : List Nat} {x : Nat} (h : zl_dl nx pv 0 L) (hn : L.Nodup) (hx : x ∉ L) (h0 : ∀ y ∈ L, 0 < y) :
    zl_dl (zn_u nx x (L.headD 0)) (if L.headD 0 = 0 then zn_u pv x 0 else zn_u (zn_u pv x 0) (L.headD 0) x) 0 (x :: L) := by
  cases L with
  | nil =>
    refine ⟨?_, zn_us, True.intro⟩
    rw [if_pos (show ([] : List Nat).headD 0 = 0 from rfl)]; exact zn_us
  | cons y t =>
    have hy : 0 < y := h0 y List.mem_cons_self
    have hxy : x ≠ y := fun e => hx (by rw [e]; exact List.mem_cons_self)
    have hxt : x ∉ t := fun e => hx (List.mem_cons_of_mem _ e)
    have hyt : y ∉ t := (List.nodup_cons.mp hn).1
    rw [show (y :: t).headD 0 = y from rfl, if_neg (by omega)]
    refine ⟨?_, zn_us, zn_us, ?_, ?_⟩
    · rw [zn_un hxy, zn_us]
    · rw [zn_un (fun e => hxy e.symm)]; exact h.2.1
    · refine zl_fr t y (fun z hz => ?_) (fun z hz => ?_) h.2.2
      · exact zn_un (fun e => hxt (e ▸ hz))
      · rw [zn_un (fun e : z = y => hyt (e ▸ hz)), zn_un (fun e : z = x => hxt (e ▸ hz))]
theorem zl_gl : ∀ (l : List Nat) (a : Nat), l.getLastD a ∈ a :: l
  | [], a => List.mem_cons_self
  | b :: l, a => by
    rw [List.getLastD_cons]
    exact List.mem_cons_of_mem _ (zl_gl l b)
/-- what the node x in the middle reads, and the list without it -/
theorem zl_rem {nx pv : Nat → Nat} : ∀ (l1 : List Nat) (p x : Nat) (l2 : List Nat), zl_dl nx pv p (l1 ++ x :: l2) →
    pv x = l1.getLastD p ∧ nx x = l2.headD 0 ∧
    ∀ nx' pv' : Nat → Nat, (∀ z ∈ l1 ++ l2, l1.getLastD p ≠ z → nx' z = nx z) → (l1 ≠ [] → nx' (l1.getLastD p) = l2.headD 0) →
      (∀ z ∈ l1 ++ l2, l2.headD 0 ≠ z → pv' z = pv z) → (l2 ≠ [] → pv' (l2.headD 0) = l1.getLastD p) →
      (∀ z ∈ l2, p ≠ z) → (l1 ++ l2).Nodup → (∀ z ∈ l1 ++ l2, 0 < z) → zl_dl nx' pv' p (l1 ++ l2)
  | [], p, x, l2, h => by
    refine ⟨h.1, h.2.1, ?_⟩
    intro nx' pv' h1 _ h3 h4 h5 hn hz
    cases l2 with
    | nil => exact True.intro
    | cons y t =>
      have hyt : y ∉ t := (List.nodup_cons.mp hn).1
      refine ⟨h4 (by simp), ?_, ?_⟩
      · rw [h1 y (by simp) (h5 y (by simp))]; exact h.2.2.2.1
      · refine zl_fr t y (fun z hz => ?_) (fun z hz => ?_) h.2.2.2.2
        · exact h1 z (by simp [hz]) (h5 z (by simp [hz]))
        · exact h3 z (by simp [hz]) (fun e => hyt (by have e' : y = z := e; rw [e']; exact hz))
  | w :: t, p, x, l2, h => by
    have hr := zl_rem t w x l2 h.2.2
    have hl : (w :: t).getLastD p = t.getLastD w := List.getLastD_cons ..
    rw [hl]
    refine ⟨hr.1, hr.2.1, ?_⟩
    intro nx' pv' h1 h2 h3 h4 h5 hn hz
    have hn' := List.nodup_cons.mp hn
    refine ⟨?_, ?_, ?_⟩
    · by_cases c : l2.headD 0 = w
      · exfalso
        cases l2 with
        | nil =>
          have := hz w (by simp)
          have e : (0 : Nat) = w := c
          omega
        | cons y l => exact hn'.1 (by have e : y = w := c; rw [e]; simp)
      · rw [h3 w (by simp) c]; exact h.1
    · cases t with
      | nil => exact h2 (by simp)
      | cons y l =>
        have hne : (y :: l).getLastD w ≠ w := by
          intro e
          apply hn'.1
          have : (y :: l).getLastD w ∈ y :: l := by
            rw [List.getLastD_cons]
            exact zl_gl l y
          rw [e] at this
          exact List.mem_append_left _ this
        rw [h1 w (by simp) hne]; exact h.2.1
    · refine hr.2.2 nx' pv' (fun z hz' => h1 z (List.mem_cons_of_mem _ hz')) (fun hne => h2 (by simp)) (fun z hz' => h3 z (List.mem_cons_of_mem _ hz')) h4 ?_ hn'.2 (fun z hz' => hz z (List.mem_cons_of_mem _ hz'))
      intro z hz' e
      exact hn'.1 (by rw [e]; exact List.mem_append_right _ hz')
/-- different numbers below n are at most n -/
theorem zl_ph : ∀ (n : Nat) (L : List Nat), L.Nodup → (∀ x ∈ L, x < n) → L.length ≤ n
  | 0, L, _, h => by
    cases L with
    | nil => exact Nat.le_refl _
    | cons y t => exact absurd (h y List.mem_cons_self) (by omega)
  | n + 1, L, hn, h => by
    have ih := zl_ph n (L.erase n) (hn.erase n) (fun x hx => by
      have q := (List.Nodup.mem_erase_iff hn).mp hx
      have := h x q.2
      have := q.1
      omega)
    rw [List.length_erase] at ih
    by_cases c : n ∈ L
    · rw [if_pos c] at ih; omega
    · rw [if_neg c] at ih; omega
/-- a family of lists: heads, counts, links; no node in two of them -/
def zl_FM (hd ct nx pv : Nat → Nat) (K : Nat) (L : Nat → List Nat) : Prop :=
  (∀ k, k < K → hd k = (L k).headD 0 ∧ ct k = (L k).length ∧ zl_dl nx pv 0 (L k) ∧ (L k).Nodup ∧ ∀ x ∈ L k, 0 < x ∧ x < 128) ∧
  (∀ j k, j < K → k < K → ∀ x, x ∈ L j → x ∈ L k → j = k)
theorem zl_hm {L : List Nat} (h : L.headD 0 ≠ 0) : L.headD 0 ∈ L := by
  cases L with
  | nil => exact absurd rfl h
  | cons y t => exact List.mem_cons_self
theorem zl_FMi {hd ct nx pv : Nat → Nat} {K : Nat} {L : Nat → List Nat} {k x : Nat} (h : zl_FM hd ct nx pv K L) (hk : k < K) (hx : 0 < x ∧ x < 128) (hf : ∀ j, j < K → x ∉ L j) :
    zl_FM (zn_u hd k x) (zn_u ct k (ct k + 1)) (zn_u nx x (hd k)) (if hd k = 0 then zn_u pv x 0 else zn_u (zn_u pv x 0) (hd k) x) K (zn_u L k (x :: L k)) := by
  obtain ⟨hA, hD⟩ := h
  obtain ⟨e1, e2, e3, e4, e5⟩ := hA k hk
  refine ⟨fun j hj => ?_, ?_⟩
  · by_cases c : j = k
    · subst c
      rw [zn_us, zn_us, zn_us]
      refine ⟨rfl, by rw [e2]; rfl, ?_, List.nodup_cons.mpr ⟨hf j hj, e4⟩, ?_⟩
      · rw [e1]; exact zl_ins e3 e4 (hf j hj) (fun y hy => (e5 y hy).1)
      · intro y hy
        rcases List.mem_cons.mp hy with z | z
        · rw [z]; exact hx
        · exact e5 y z
    · rw [zn_un c, zn_un c, zn_un c]
      obtain ⟨f1, f2, f3, f4, f5⟩ := hA j hj
      refine ⟨f1, f2, zl_fr _ _ (fun z hz => ?_) (fun z hz => ?_) f3, f4, f5⟩
      · exact zn_un (fun e => hf j hj (e ▸ hz))
      · by_cases c2 : hd k = 0
        · rw [if_pos c2]; exact zn_un (fun e => hf j hj (e ▸ hz))
        · rw [if_neg c2, zn_un, zn_un (fun e : z = x => hf j hj (e ▸ hz))]
          intro e
          apply c
          refine hD j k hj hk z hz ?_
          rw [e, e1]
          exact zl_hm (by rw [← e1]; exact c2)
  · intro i j hi hj z z1 z2
    by_cases ci : i = k
    · by_cases cj : j = k
      · rw [ci, cj]
      · rw [zn_un cj] at z2
        rw [ci, zn_us] at z1
        rcases List.mem_cons.mp z1 with e | e
        · exact absurd (e ▸ z2) (hf j hj)
        · rw [ci]; exact hD k j hk hj z e z2
    · rw [zn_un ci] at z1
      by_cases cj : j = k
      · rw [cj, zn_us] at z2
        rcases List.mem_cons.mp z2 with e | e
        · exact absurd (e ▸ z1) (hf i hi)
        · rw [cj]; exact hD i k hi hk z z1 e
      · rw [zn_un cj] at z2
        exact hD i j hi hj z z1 z2
theorem zl_FMr {hd ct nx pv : Nat → Nat} {K : Nat} {L : Nat → List Nat} {k x : Nat} {l1 l2 : List Nat} (h : zl_FM hd ct nx pv K L) (hk : k < K) (e : L k = l1 ++ x :: l2) :
    pv x = l1.getLastD 0 ∧ nx x = l2.headD 0 ∧
    zl_FM (if pv x = 0 then zn_u hd k (nx x) else hd) (zn_u ct k (ct k - 1)) (if pv x = 0 then nx else zn_u nx (pv x) (nx x)) (if nx x = 0 then pv else zn_u pv (nx x) (pv x)) K (zn_u L k (l1 ++ l2)) := by
  obtain ⟨hA, hD⟩ := h
  obtain ⟨e1, e2, e3, e4, e5⟩ := hA k hk
  rw [e] at e1 e2 e3 e4 e5
  obtain ⟨g1, g2, g3⟩ := zl_rem l1 0 x l2 e3
  refine ⟨g1, g2, ?_, ?_⟩
  · have hn : (l1 ++ l2).Nodup := List.Nodup.sublist (List.Sublist.append (List.Sublist.refl l1) (List.sublist_cons_self x l2)) e4
    have hp' : ∀ z ∈ l1 ++ l2, 0 < z ∧ z < 128 := fun z hz => e5 z (by
      rcases List.mem_append.mp hz with q | q
      · exact List.mem_append_left _ q
      · exact List.mem_append_right _ (List.mem_cons_of_mem _ q))
    have hp : ∀ z ∈ l1 ++ l2, 0 < z := fun z hz => (hp' z hz).1
    have hxn : x ∉ l1 ++ l2 := by
      intro q
      have w := List.nodup_append.mp e4
      rcases List.mem_append.mp q with q | q
      · exact w.2.2 x q x List.mem_cons_self rfl
      · exact (List.nodup_cons.mp w.2.1).1 q
    -- the last of l1 and the first of l2
    have hl1 : l1 ≠ [] → l1.getLastD 0 ∈ l1 := by
      intro hne
      cases l1 with
      | nil => exact absurd rfl hne
      | cons a b => rw [List.getLastD_cons]; exact zl_gl b a
    have hl2 : l2 ≠ [] → l2.headD 0 ∈ l2 := by
      intro hne
      cases l2 with
      | nil => exact absurd rfl hne
      | cons a b => exact List.mem_cons_self
    have c1 : pv x = 0 ↔ l1 = [] := by
      rw [g1]
      constructor
      · intro z
        apply Classical.byContradiction
        intro hne
        have := hp _ (List.mem_append_left l2 (hl1 hne))
        omega
      · intro z; rw [z]; rfl
    have c2 : nx x = 0 ↔ l2 = [] := by
      rw [g2]
      constructor
      · intro z
        apply Classical.byContradiction
        intro hne
        have := hp _ (List.mem_append_right l1 (hl2 hne))
        omega
      · intro z; rw [z]; rfl
    intro j hj
    by_cases c : j = k
    · subst c
      rw [zn_us, zn_us]
      refine ⟨?_, ?_, ?_, hn, hp'⟩
      · by_cases q : pv x = 0
        · rw [if_pos q, zn_us, g2, c1.mp q]; rfl
        · rw [if_neg q, e1]
          cases l1 with
          | nil => exact absurd (c1.mpr rfl) q
          | cons a b => rfl
      · rw [e2, List.length_append, List.length_append, List.length_cons]; omega
      · apply g3
        · intro z hz q
          by_cases w : pv x = 0
          · rw [if_pos w]
          · rw [if_neg w, zn_un]
            rw [g1]; exact fun e => q e.symm
        · intro hne
          rw [if_neg (fun w => hne (c1.mp w)), g1, zn_us, g2]
        · intro z hz q
          by_cases w : nx x = 0
          · rw [if_pos w]
          · rw [if_neg w, zn_un]
            rw [g2]; exact fun e => q e.symm
        · intro hne
          rw [if_neg (fun w => hne (c2.mp w)), g2, zn_us, g1]
        · intro z hz w
          have := hp z (List.mem_append_right l1 hz)
          omega
        · exact hn
        · exact hp
    · rw [zn_un c, zn_un c]
      obtain ⟨f1, f2, f3, f4, f5⟩ := hA j hj
      have ndj : ∀ z, z ∈ L j → z ∉ L k := fun z z1 z2 => c (hD j k hj hk z z1 z2)
      rw [e] at ndj
      refine ⟨?_, f2, zl_fr _ _ (fun z hz => ?_) (fun z hz => ?_) f3, f4, f5⟩
      · by_cases q : pv x = 0
        · rw [if_pos q, zn_un c]; exact f1
        · rw [if_neg q]; exact f1
      · by_cases w : pv x = 0
        · rw [if_pos w]
        · rw [if_neg w, zn_un]
          intro q
          refine ndj z hz (List.mem_append_left _ ?_)
          rw [q, g1]
          exact hl1 (fun t => w (c1.mpr t))
      · by_cases w : nx x = 0
        · rw [if_pos w]
        · rw [if_neg w, zn_un]
          intro q
          refine ndj z hz (List.mem_append_right _ (List.mem_cons_of_mem _ ?_))
          rw [q, g2]
          exact hl2 (fun t => w (c2.mpr t))
  · have sub : ∀ i, i < K → ∀ z, z ∈ zn_u L k (l1 ++ l2) i → z ∈ L i := by
      intro i hi z hz
      by_cases c : i = k
      · rw [c, zn_us] at hz
        rw [c, e]
        rcases List.mem_append.mp hz with q | q
        · exact List.mem_append_left _ q
        · exact List.mem_append_right _ (List.mem_cons_of_mem _ q)
      · rw [zn_un c] at hz; exact hz
    intro i j hi hj z z1 z2
    exact hD i j hi hj z (sub i hi z z1) (sub j hj z z2)
theorem zl_ct {hd ct nx pv : Nat → Nat} {K : Nat} {L : Nat → List Nat} {k : Nat} (h : zl_FM hd ct nx pv K L) (hk : k < K) : ct k ≤ 128 := by
  obtain ⟨_, e2, _, e4, e5⟩ := h.1 k hk
  rw [e2]
  exact zl_ph 128 _ e4 (fun x hx => (e5 x hx).2)
theorem zl_hd {hd ct nx pv : Nat → Nat} {K : Nat} {L : Nat → List Nat} {k : Nat} (h : zl_FM hd ct nx pv K L) (hk : k < K) : hd k < 128 := by
  obtain ⟨e1, _, _, e4, e5⟩ := h.1 k hk
  rw [e1]
  cases e : L k with
  | nil => exact (by decide : (0 : Nat) < 128)
  | cons y t => exact (e5 y (by rw [e]; exact List.mem_cons_self)).2
end
section
/-! ===== the occurrence index of X: symbols ===== -/
section
variable {xc1 xc2 xc3 xc4 xc5 xc6 xrd xod xtd : Int32} {xli xle xsz xcu xfn xst xrt : Nat} {xlv xhr xlo xrT : Int64} {na nb sy ow bl sp fT lT sh sc sn sv dh dc dn dv pa de oc wa me qu wo co : Nat → Nat} {rR : Nat → Int64} {te : Nat → Int32}
theorem zs_lone {post : SX → Prop} {id : Nat} (hid : id < 48) (hc : sc id < 2 ^ 31)
    (K : ∀ lo' : Int64, (∀ i, i < 64 → zb_t lo' i = if 16 < id ∧ i + 16 = id then decide (sc id = 1) else zb_t xlo i) → post (xc1, xc2, xc3, xc4, xc5, xc6, nI xli, nI xle, nI xsz, nI xcu, nI xfn, nI xst, xlv, xhr, lo', nI xrt, xrT, xrd, xod, xtd, zn_A na, zn_A nb, zn_A sy, zn_A ow, zn_A bl, zn_A sp, zn_A fT, zn_A lT, zn_A sh, zn_A sc, zn_A sn, zn_A sv, zn_A dh, zn_A dc, zn_A dn, zn_A dv, rR, zn_A pa, zn_A de, zn_A oc, zn_A wa, te, zn_A me, zn_A qu, zn_A wo, zn_A co)) :
    wpX_refreshLone post (xc1, xc2, xc3, xc4, xc5, xc6, nI xli, nI xle, nI xsz, nI xcu, nI xfn, nI xst, xlv, xhr, xlo, nI xrt, xrT, xrd, xod, xtd, zn_A na, zn_A nb, zn_A sy, zn_A ow, zn_A bl, zn_A sp, zn_A fT, zn_A lT, zn_A sh, zn_A sc, zn_A sn, zn_A sv, zn_A dh, zn_A dc, zn_A dn, zn_A dv, rR, zn_A pa, zn_A de, zn_A oc, zn_A wa, te, zn_A me, zn_A qu, zn_A wo, zn_A co) (nI id) := by
  unfold wpX_refreshLone
  refine pk_lt 16 id (fun h16 => ?_) (fun h16 => ?_)
  · refine nm_r (e' := (1 : Int64) <<< ((nI (id - 16)).toInt64 &&& 63)) ?_ ⟨vp_in_nI hid (by decide), ?_⟩
    · rw [show (16 : Int32) = nI 16 from rfl, pk_sub (by omega)]
    rw [zn_rd (by omega)]
    refine pk_eq (sc id) 1 (fun h1 => ?_) (fun h1 => ?_)
    · refine nm_e (K _ fun i hi => ?_)
      rw [zb_or (by omega), h1]
      by_cases c : id - 16 = i
      · rw [if_pos (by omega)]; simp [c]
      · rw [if_neg (by omega)]; simp [c]
    · refine nm_e (K _ fun i hi => ?_)
      rw [zb_an (by omega) hi]
      by_cases c : id - 16 = i
      · rw [if_pos (by omega)]; simp [c, h1]
      · rw [if_neg (by omega)]; simp [c]
  · exact K _ fun i hi => by rw [if_neg (by omega)]
end
def zs_SI (U : Nat → Prop) (sy sh sc sn sv : Nat → Nat) (lo : Int64) : Prop :=
  ∃ L : Nat → List Nat, zl_FM sh sc sn sv 48 L ∧ (∀ k, k < 48 → ∀ x, x ∈ L k ↔ (U x ∧ sy x = k)) ∧
    (∀ r, 0 < r → r < 32 → (zb_t lo r = true ↔ sc (16 + r) = 1)) ∧ (∀ i, i < 64 → zb_t lo i = true → 0 < i ∧ i < 32)
section
variable {xc1 xc2 xc3 xc4 xc5 xc6 xrd xod xtd : Int32} {xli xle xsz xcu xfn xst xrt : Nat} {xlv xhr xlo xrT : Int64} {na nb sy ow bl sp fT lT sh sc sn sv dh dc dn dv pa de oc wa me qu wo co : Nat → Nat} {rR : Nat → Int64} {te : Nat → Int32}
theorem zs_add {post : SX → Prop} {U : Nat → Prop} {x id : Nat} (hx : 32 ≤ x ∧ x < 128) (hid : id < 48) (hU : ¬ U x) (h : zs_SI U sy sh sc sn sv xlo)
    (K : ∀ (sh' sc' sn' sv' : Nat → Nat) (lo' : Int64), zs_SI (fun y => U y ∨ y = x) (zn_u sy x id) sh' sc' sn' sv' lo' → post (xc1, xc2, xc3, xc4, xc5, xc6, nI xli, nI xle, nI xsz, nI xcu, nI xfn, nI xst, xlv, xhr, lo', nI xrt, xrT, xrd, xod, xtd, zn_A na, zn_A nb, zn_A (zn_u sy x id), zn_A ow, zn_A bl, zn_A sp, zn_A fT, zn_A lT, zn_A sh', zn_A sc', zn_A sn', zn_A sv', zn_A dh, zn_A dc, zn_A dn, zn_A dv, rR, zn_A pa, zn_A de, zn_A oc, zn_A wa, te, zn_A me, zn_A qu, zn_A wo, zn_A co)) :
    wpX_addSymbol post (xc1, xc2, xc3, xc4, xc5, xc6, nI xli, nI xle, nI xsz, nI xcu, nI xfn, nI xst, xlv, xhr, xlo, nI xrt, xrT, xrd, xod, xtd, zn_A na, zn_A nb, zn_A sy, zn_A ow, zn_A bl, zn_A sp, zn_A fT, zn_A lT, zn_A sh, zn_A sc, zn_A sn, zn_A sv, zn_A dh, zn_A dc, zn_A dn, zn_A dv, rR, zn_A pa, zn_A de, zn_A oc, zn_A wa, te, zn_A me, zn_A qu, zn_A wo, zn_A co) (nI x) (nI id) := by
  obtain ⟨L, hF, hm, hl1, hl2⟩ := h
  have hf : ∀ j, j < 48 → x ∉ L j := fun j hj z => hU ((hm j hj x).mp z).1
  have F := zl_FMi hF hid (show 0 < x ∧ x < 128 by omega) hf
  have hct := zl_ct hF hid
  have hhd := zl_hd hF hid
  have fin : ∀ (sv' : Nat → Nat), zl_FM (zn_u sh id x) (zn_u sc id (sc id + 1)) (zn_u sn x (sh id)) sv' 48 (zn_u L id (x :: L id)) →
      wX_addSymbol_39 post (nI x) (nI id) xc1 xc2 xc3 xc4 xc5 xc6 (nI xli) (nI xle) (nI xsz) (nI xcu) (nI xfn) (nI xst) xlv xhr xlo (nI xrt) xrT xrd xod xtd (zn_A na) (zn_A nb) (zn_A (zn_u sy x id)) (zn_A ow) (zn_A bl) (zn_A sp) (zn_A fT) (zn_A lT) (zn_A sh) (zn_A sc) (zn_A (zn_u sn x (sh id))) (zn_A sv') (zn_A dh) (zn_A dc) (zn_A dn) (zn_A dv) rR (zn_A pa) (zn_A de) (zn_A oc) (zn_A wa) te (zn_A me) (zn_A qu) (zn_A wo) (zn_A co) := by
    intro sv' F
    unfold wX_addSymbol_39
    refine ⟨vp_in_nI hid (by decide), nm_r (zn_up (by omega)) ⟨vp_in_nI hid (by decide), vp_in_nI hid (by decide), nm_r (e' := zn_A (zn_u sc id (sc id + 1))) ?_ ?_⟩⟩
    · rw [zn_rd (by omega), nI_1, zn_up (by omega)]
    · refine zs_lone hid (by rw [zn_us]; omega) ?_
      intro lo' hlo
      refine K _ _ _ _ _ ⟨_, F, ?_, ?_, ?_⟩
      · intro k hk y
        by_cases c : y = x
        · subst c
          rw [zn_us]
          by_cases ck : k = id
          · subst ck; rw [zn_us]; simp
          · rw [zn_un ck]
            constructor
            · intro z; exact absurd z (hf k hk)
            · intro z; exact absurd z.2.symm ck
        · rw [zn_un c]
          by_cases ck : k = id
          · subst ck; rw [zn_us, List.mem_cons, hm k hk y]; simp [c]
          · rw [zn_un ck, hm k hk y]; simp [c]
      · intro r h0 h32
        rw [hlo r (by omega)]
        by_cases c : 16 + r = id
        · rw [if_pos (by omega), c, zn_us]; simp
        · rw [if_neg (by omega), zn_un c]; exact hl1 r h0 h32
      · intro i hi
        rw [hlo i hi]
        by_cases c : 16 < id ∧ i + 16 = id
        · intro _; omega
        · rw [if_neg c]; exact hl2 i hi
  unfold wpX_addSymbol
  refine ⟨vp_in_nI hid (by decide), nm_r (zn_rd (by omega)) ⟨vp_in_nI hx.2 (by decide), nm_r (zn_up (by omega)) ⟨vp_in_nI hx.2 (by decide), nm_r (zn_up (v := 0) (by omega)) ⟨vp_in_nI hx.2 (by decide), nm_r (zn_up (by omega)) ?_⟩⟩⟩⟩
  by_cases c : sh id = 0
  · rw [if_pos c] at F
    refine br_t (by rw [c]; rfl) ?_
    exact fin _ F
  · rw [if_neg c] at F
    refine br_f (nI_ne0 (by omega) (by omega)) ⟨vp_in_nI hhd (by decide), nm_r (zn_up (by omega)) ?_⟩
    exact fin _ F
theorem zs_drop {post : SX → Prop} {U : Nat → Prop} {x : Nat} (hx : 32 ≤ x ∧ x < 128) (hid : sy x < 48) (hU : U x) (h : zs_SI U sy sh sc sn sv xlo)
    (K : ∀ (sh' sc' sn' sv' : Nat → Nat) (lo' : Int64), zs_SI (fun y => U y ∧ y ≠ x) sy sh' sc' sn' sv' lo' → post (xc1, xc2, xc3, xc4, xc5, xc6, nI xli, nI xle, nI xsz, nI xcu, nI xfn, nI xst, xlv, xhr, lo', nI xrt, xrT, xrd, xod, xtd, zn_A na, zn_A nb, zn_A sy, zn_A ow, zn_A bl, zn_A sp, zn_A fT, zn_A lT, zn_A sh', zn_A sc', zn_A sn', zn_A sv', zn_A dh, zn_A dc, zn_A dn, zn_A dv, rR, zn_A pa, zn_A de, zn_A oc, zn_A wa, te, zn_A me, zn_A qu, zn_A wo, zn_A co)) :
    wpX_dropSymbol post (xc1, xc2, xc3, xc4, xc5, xc6, nI xli, nI xle, nI xsz, nI xcu, nI xfn, nI xst, xlv, xhr, xlo, nI xrt, xrT, xrd, xod, xtd, zn_A na, zn_A nb, zn_A sy, zn_A ow, zn_A bl, zn_A sp, zn_A fT, zn_A lT, zn_A sh, zn_A sc, zn_A sn, zn_A sv, zn_A dh, zn_A dc, zn_A dn, zn_A dv, rR, zn_A pa, zn_A de, zn_A oc, zn_A wa, te, zn_A me, zn_A qu, zn_A wo, zn_A co) (nI x) := by
  obtain ⟨L, hF, hm, hl1, hl2⟩ := h
  have hxm : x ∈ L (sy x) := (hm _ hid x).mpr ⟨hU, rfl⟩
  obtain ⟨l1, l2, eL⟩ := List.append_of_mem hxm
  obtain ⟨g1, g2, F⟩ := zl_FMr hF hid eL
  have hct := zl_ct hF hid
  have hlen : sc (sy x) = (l1 ++ x :: l2).length := by rw [← eL]; exact (hF.1 _ hid).2.1
  have hpos : 1 ≤ sc (sy x) := by rw [hlen, List.length_append, List.length_cons]; omega
  have hb := (hF.1 _ hid).2.2.2.2
  have hsv : sv x < 128 := by
    rw [g1]
    have q := zl_gl l1 0
    rcases List.mem_cons.mp q with e | e
    · rw [e]; decide
    · exact (hb _ (by rw [eL]; exact List.mem_append_left _ e)).2
  have hsn : sn x < 128 := by
    rw [g2]
    cases e : l2 with
    | nil => exact (by decide : (0 : Nat) < 128)
    | cons y t => exact (hb y (by rw [eL, e]; simp)).2
  have hnd := (hF.1 _ hid).2.2.2.1
  have hxn : x ∉ l1 ++ l2 := by
    rw [eL] at hnd
    intro q
    have w := List.nodup_append.mp hnd
    rcases List.mem_append.mp q with q | q
    · exact w.2.2 x q x List.mem_cons_self rfl
    · exact (List.nodup_cons.mp w.2.1).1 q
  have fin : ∀ (sh' sn' sv' : Nat → Nat), zl_FM sh' (zn_u sc (sy x) (sc (sy x) - 1)) sn' sv' 48 (zn_u L (sy x) (l1 ++ l2)) →
      wX_dropSymbol_58 post (nI (sy x)) xc1 xc2 xc3 xc4 xc5 xc6 (nI xli) (nI xle) (nI xsz) (nI xcu) (nI xfn) (nI xst) xlv xhr xlo (nI xrt) xrT xrd xod xtd (zn_A na) (zn_A nb) (zn_A sy) (zn_A ow) (zn_A bl) (zn_A sp) (zn_A fT) (zn_A lT) (zn_A sh') (zn_A sc) (zn_A sn') (zn_A sv') (zn_A dh) (zn_A dc) (zn_A dn) (zn_A dv) rR (zn_A pa) (zn_A de) (zn_A oc) (zn_A wa) te (zn_A me) (zn_A qu) (zn_A wo) (zn_A co) := by
    intro sh' sn' sv' F
    unfold wX_dropSymbol_58
    refine ⟨vp_in_nI hid (by decide), vp_in_nI hid (by decide), nm_r (e' := zn_A (zn_u sc (sy x) (sc (sy x) - 1))) ?_ ?_⟩
    · rw [zn_rd (by omega), show (1 : Int32) = nI 1 from rfl, pk_sub hpos, zn_up (by omega)]
    · refine zs_lone hid (by rw [zn_us]; omega) ?_
      intro lo' hlo
      refine K _ _ _ _ _ ⟨_, F, ?_, ?_, ?_⟩
      · intro k hk y
        by_cases ck : k = sy x
        · subst ck
          rw [zn_us]
          have e1 := hm _ hk y
          rw [eL] at e1
          by_cases c : y = x
          · subst c
            constructor
            · intro z; exact absurd z hxn
            · intro z; exact absurd rfl z.1.2
          · have : y ∈ l1 ++ l2 ↔ y ∈ l1 ++ x :: l2 := by simp [c]
            rw [this, e1]
            simp [c]
        · rw [zn_un ck, hm k hk y]
          constructor
          · intro z; exact ⟨⟨z.1, fun e => ck (by rw [← z.2, e])⟩, z.2⟩
          · intro z; exact ⟨z.1.1, z.2⟩
      · intro r h0 h32
        rw [hlo r (by omega)]
        by_cases c : 16 + r = sy x
        · rw [if_pos (by omega), c, zn_us]; simp
        · rw [if_neg (by omega), zn_un c]; exact hl1 r h0 h32
      · intro i hi
        rw [hlo i hi]
        by_cases c : 16 < sy x ∧ i + 16 = sy x
        · intro _; omega
        · rw [if_neg c]; exact hl2 i hi
  have fin2 : ∀ (sh' sn' : Nat → Nat), zl_FM sh' (zn_u sc (sy x) (sc (sy x) - 1)) sn' (if sn x = 0 then sv else zn_u sv (sn x) (sv x)) 48 (zn_u L (sy x) (l1 ++ l2)) →
      wX_dropSymbol_45 post (nI (sy x)) (nI (sv x)) (nI (sn x)) xc1 xc2 xc3 xc4 xc5 xc6 (nI xli) (nI xle) (nI xsz) (nI xcu) (nI xfn) (nI xst) xlv xhr xlo (nI xrt) xrT xrd xod xtd (zn_A na) (zn_A nb) (zn_A sy) (zn_A ow) (zn_A bl) (zn_A sp) (zn_A fT) (zn_A lT) (zn_A sh') (zn_A sc) (zn_A sn') (zn_A sv) (zn_A dh) (zn_A dc) (zn_A dn) (zn_A dv) rR (zn_A pa) (zn_A de) (zn_A oc) (zn_A wa) te (zn_A me) (zn_A qu) (zn_A wo) (zn_A co) := by
    intro sh' sn' F
    unfold wX_dropSymbol_45
    by_cases c : sn x = 0
    · rw [if_pos c] at F
      exact br_t (by rw [c]; rfl) (fin _ _ _ F)
    · rw [if_neg c] at F
      exact br_f (nI_ne0 (by omega) (by omega)) ⟨vp_in_nI hsn (by decide), nm_r (zn_up (by omega)) (fin _ _ _ F)⟩
  unfold wpX_dropSymbol
  refine ⟨vp_in_nI hx.2 (by decide), nm_r (zn_rd (by omega)) ⟨vp_in_nI hx.2 (by decide), nm_r (zn_rd (by omega)) ⟨vp_in_nI hx.2 (by decide), nm_r (zn_rd (by omega)) ?_⟩⟩⟩
  by_cases c : sv x = 0
  · rw [if_pos c, if_pos c] at F
    exact br_t (by rw [c]; rfl) ⟨vp_in_nI hid (by decide), nm_r (zn_up (by omega)) (fin2 _ _ F)⟩
  · rw [if_neg c, if_neg c] at F
    exact br_f (nI_ne0 (by omega) (by omega)) ⟨vp_in_nI hsv (by decide), nm_r (zn_up (by omega)) (fin2 _ _ F)⟩
end
end
section
/-! ===== the occurrence index of X: digrams, and the set of repeated ones ===== -/
theorem zd_key {a b : Nat} : nI a * 48 + nI b = nI (a * 48 + b) := by
  rw [show (48 : Int32) = nI 48 from rfl, pk_mul, nI_add]
def zd_rp (na : Nat → Nat) (a b : Nat) (l : List Nat) : Prop :=
  2 ≤ l.length ∧ (l.length = 2 → a = b → na (l.headD 0) ≠ l.tail.headD 0 ∧ na (l.tail.headD 0) ≠ l.headD 0)
def zd_ub (rep : Prop) (a b : Nat) (rR rR' : Nat → Int64) (rT rT' : Int64) : Prop :=
  (∀ i, i < 64 → i ≠ b → zb_t (rR' a) i = zb_t (rR a) i) ∧ (zb_t (rR' a) b = true ↔ rep) ∧ (∀ j, j ≠ a → rR' j = rR j) ∧
  (∀ i, i < 64 → i ≠ a → zb_t rT' i = zb_t rT i) ∧ (zb_t rT' a = true ↔ rR' a ≠ 0)
theorem zd_rdL {f : Nat → Int64} {x : Nat} (hx : x < 2 ^ 31) : f (nI x).toNatClampNeg = f x := by rw [nI_clamp hx]
section
variable {xc1 xc2 xc3 xc4 xc5 xc6 xrd xod xtd : Int32} {xli xle xsz xcu xfn xst xrt : Nat} {xlv xhr xlo xrT : Int64} {na nb sy ow bl sp fT lT sh sc sn sv dh dc dn dv pa de oc wa me qu wo co : Nat → Nat} {rR : Nat → Int64} {te : Nat → Int32}
theorem zd_87 {post : SX → Prop} {a b : Nat} {z : Int32} {rep : Prop} (hz : z = 0 ↔ ¬ rep) (ha : a < 48) (hb : b < 48) (hT : zb_t xrT a = true ↔ rR a ≠ 0)
    (K : ∀ (rR' : Nat → Int64) (rT' : Int64), zd_ub rep a b rR rR' xrT rT' → post (xc1, xc2, xc3, xc4, xc5, xc6, nI xli, nI xle, nI xsz, nI xcu, nI xfn, nI xst, xlv, xhr, xlo, nI xrt, rT', xrd, xod, xtd, zn_A na, zn_A nb, zn_A sy, zn_A ow, zn_A bl, zn_A sp, zn_A fT, zn_A lT, zn_A sh, zn_A sc, zn_A sn, zn_A sv, zn_A dh, zn_A dc, zn_A dn, zn_A dv, rR', zn_A pa, zn_A de, zn_A oc, zn_A wa, te, zn_A me, zn_A qu, zn_A wo, zn_A co)) :
    wX_refreshRepeat_87 post (nI a) (nI b) z xc1 xc2 xc3 xc4 xc5 xc6 (nI xli) (nI xle) (nI xsz) (nI xcu) (nI xfn) (nI xst) xlv xhr xlo (nI xrt) xrT xrd xod xtd (zn_A na) (zn_A nb) (zn_A sy) (zn_A ow) (zn_A bl) (zn_A sp) (zn_A fT) (zn_A lT) (zn_A sh) (zn_A sc) (zn_A sn) (zn_A sv) (zn_A dh) (zn_A dc) (zn_A dn) (zn_A dv) rR (zn_A pa) (zn_A de) (zn_A oc) (zn_A wa) te (zn_A me) (zn_A qu) (zn_A wo) (zn_A co) := by
  have ea : (nI a).toNatClampNeg = a := nI_clamp (by omega)
  unfold wX_refreshRepeat_87
  rw [ea]
  refine br_c (fun h => ?_) (fun h => ?_)
  · have hr := hz.mp h
    refine ⟨vp_in_nI ha (by decide), vp_in_nI ha (by decide), nm_e ⟨vp_in_nI ha (by decide), ?_⟩⟩
    rw [pk_uLs]
    have e1 : ∀ i, i < 64 → zb_t (vp_updL rR a (rR a &&& (((1 : Int64) <<< ((nI b).toInt64 &&& 63)) ^^^ (-1))) a) i = (zb_t (rR a) i && !decide (b = i)) := by
      intro i hi
      rw [pk_uLs, zb_an (by omega) hi]
    refine br_c (fun h0 => nm_e (K _ _ ⟨?_, ?_, ?_, ?_, ?_⟩)) (fun h0 => K _ _ ⟨?_, ?_, ?_, ?_, ?_⟩)
    · intro i hi hib
      rw [e1 i hi]; simp [Ne.symm hib]
    · rw [e1 b (by omega)]; simp [hr]
    · intro j hj; exact pk_uLn hj
    · intro i hi hia
      rw [zb_an (by omega) hi]; simp [Ne.symm hia]
    · rw [zb_an (by omega) (by omega), pk_uLs]
      exact ⟨fun q => by simp at q, fun q => absurd h0 q⟩
    · intro i hi hib
      rw [e1 i hi]; simp [Ne.symm hib]
    · rw [e1 b (by omega)]; simp [hr]
    · intro j hj; exact pk_uLn hj
    · intro i hi hia; rfl
    · rw [pk_uLs, hT]
      constructor
      · intro _; exact h0
      · intro _ e
        apply h0
        rw [e]
        apply zb_0.mpr
        intro i hi
        rw [zb_an (by omega) hi, zb_z]; rfl
  · have hr : rep := Classical.byContradiction fun q => h (hz.mpr q)
    refine ⟨vp_in_nI ha (by decide), vp_in_nI ha (by decide), nm_e (nm_e (K _ _ ⟨?_, ?_, ?_, ?_, ?_⟩))⟩
    · intro i hi hib
      rw [pk_uLs, zb_or (by omega)]; simp [Ne.symm hib]
    · rw [pk_uLs, zb_or (by omega)]; simp [hr]
    · intro j hj; exact pk_uLn hj
    · intro i hi hia
      rw [zb_or (by omega)]; simp [Ne.symm hia]
    · rw [zb_or (by omega), pk_uLs]
      constructor
      · intro _
        exact zb_n0 (i := b) (by omega) (by rw [zb_or (by omega)]; simp)
      · intro _; simp
theorem zd_rr {post : SX → Prop} {a b : Nat} {L : Nat → List Nat} (ha : a < 48) (hb : b < 48) (hna : ∀ y, y < 128 → na y < 128) (hF : zl_FM dh dc dn dv 2304 L)
    (hT : zb_t xrT a = true ↔ rR a ≠ 0)
    (K : ∀ (rR' : Nat → Int64) (rT' : Int64), zd_ub (zd_rp na a b (L (a * 48 + b))) a b rR rR' xrT rT' → post (xc1, xc2, xc3, xc4, xc5, xc6, nI xli, nI xle, nI xsz, nI xcu, nI xfn, nI xst, xlv, xhr, xlo, nI xrt, rT', xrd, xod, xtd, zn_A na, zn_A nb, zn_A sy, zn_A ow, zn_A bl, zn_A sp, zn_A fT, zn_A lT, zn_A sh, zn_A sc, zn_A sn, zn_A sv, zn_A dh, zn_A dc, zn_A dn, zn_A dv, rR', zn_A pa, zn_A de, zn_A oc, zn_A wa, te, zn_A me, zn_A qu, zn_A wo, zn_A co)) :
    wpX_refreshRepeat post (xc1, xc2, xc3, xc4, xc5, xc6, nI xli, nI xle, nI xsz, nI xcu, nI xfn, nI xst, xlv, xhr, xlo, nI xrt, xrT, xrd, xod, xtd, zn_A na, zn_A nb, zn_A sy, zn_A ow, zn_A bl, zn_A sp, zn_A fT, zn_A lT, zn_A sh, zn_A sc, zn_A sn, zn_A sv, zn_A dh, zn_A dc, zn_A dn, zn_A dv, rR, zn_A pa, zn_A de, zn_A oc, zn_A wa, te, zn_A me, zn_A qu, zn_A wo, zn_A co) (nI a) (nI b) := by
  have hk : a * 48 + b < 2304 := by omega
  obtain ⟨e1, e2, e3, e4, e5⟩ := hF.1 _ hk
  have hct := zl_ct hF hk
  have hhd := zl_hd hF hk
  have k26 : ∀ z : Int32, (z = 0 ↔ (L (a * 48 + b)).length < 2) →
      wX_refreshRepeat_26 post (nI a) (nI b) (nI (a * 48 + b)) (nI (dc (a * 48 + b))) z xc1 xc2 xc3 xc4 xc5 xc6 (nI xli) (nI xle) (nI xsz) (nI xcu) (nI xfn) (nI xst) xlv xhr xlo (nI xrt) xrT xrd xod xtd (zn_A na) (zn_A nb) (zn_A sy) (zn_A ow) (zn_A bl) (zn_A sp) (zn_A fT) (zn_A lT) (zn_A sh) (zn_A sc) (zn_A sn) (zn_A sv) (zn_A dh) (zn_A dc) (zn_A dn) (zn_A dv) rR (zn_A pa) (zn_A de) (zn_A oc) (zn_A wa) te (zn_A me) (zn_A qu) (zn_A wo) (zn_A co) := by
    intro z hz
    unfold wX_refreshRepeat_26
    refine pk_eq (dc (a * 48 + b)) 2 (fun h2 => ?_) (fun h2 => ?_)
    · rw [e2] at h2
      refine pk_eq a b (fun hab => ?_) (fun hab => ?_)
      · generalize hL : L (a * 48 + b) = l at *
        match l, h2, e1, e3, e5 with
        | [x, y], _, e1, e3, e5 =>
          have hx : x < 128 := (e5 x (by simp)).2
          have hy : y < 128 := (e5 y (by simp)).2
          have exy : dn x = y := e3.2.1
          have e1' : dh (a * 48 + b) = x := e1
          have hnx := hna x hx
          have hny := hna y hy
          refine ⟨vp_in_nI hk (by decide), nm_r (e' := nI x) (by rw [zn_rd (by omega), e1']) ⟨vp_in_nI hx (by decide), nm_r (e' := nI y) (by rw [zn_rd (by omega), exy]) ⟨vp_in_nI hx (by decide), ?_⟩⟩⟩
          rw [zn_rd (by omega), zn_rd (by omega)]
          refine pk_eq (na x) y (fun h3 => ?_) (fun h3 => ⟨vp_in_nI hy (by decide), pk_eq (na y) x (fun h4 => ?_) (fun h4 => ?_)⟩)
          · refine zd_87 (rep := zd_rp na a b [x, y]) ?_ ha hb hT K
            refine ⟨fun _ q => ?_, fun _ => rfl⟩
            exact (q.2 rfl hab).1 h3
          · refine zd_87 (rep := zd_rp na a b [x, y]) ?_ ha hb hT K
            refine ⟨fun _ q => ?_, fun _ => rfl⟩
            exact (q.2 rfl hab).2 h4
          · refine zd_87 (rep := zd_rp na a b [x, y]) ?_ ha hb hT K
            refine ⟨fun q => absurd q (by decide), fun q => absurd ⟨Nat.le_refl _, fun _ _ => ⟨h3, h4⟩⟩ q⟩
      · refine zd_87 ?_ ha hb hT K
        rw [hz]
        constructor
        · intro q; omega
        · intro q; exact absurd ⟨by omega, fun _ e => absurd e hab⟩ q
    · rw [e2] at h2
      refine zd_87 ?_ ha hb hT K
      rw [hz]
      constructor
      · intro q w; have := w.1; omega
      · intro q
        apply Classical.byContradiction
        intro w
        exact q ⟨by omega, fun e => absurd e h2⟩
  unfold wpX_refreshRepeat
  refine nm_r zd_key ⟨vp_in_nI hk (by decide), nm_r (zn_rd (by omega)) (pk_lt (dc (a * 48 + b)) 2 (fun h => ?_) (fun h => ?_))⟩
  · exact k26 0 ⟨fun _ => by rw [← e2]; exact h, fun _ => rfl⟩
  · refine k26 1 ⟨fun q => absurd q (by decide), fun q => ?_⟩
    rw [← e2] at q; omega
end
def zd_DI (P : Nat → Prop) (na sy dh dc dn dv : Nat → Nat) (rR : Nat → Int64) (rT : Int64) : Prop :=
  ∃ L : Nat → List Nat, zl_FM dh dc dn dv 2304 L ∧ (∀ a b, a < 48 → b < 48 → ∀ x, x ∈ L (a * 48 + b) ↔ (P x ∧ sy x = a ∧ sy (na x) = b)) ∧
    (∀ a b, a < 48 → b < 48 → (zb_t (rR a) b = true ↔ zd_rp na a b (L (a * 48 + b)))) ∧ (∀ a, a < 48 → ∀ i, i < 64 → zb_t (rR a) i = true → i < 48) ∧
    (∀ a, a < 48 → (zb_t rT a = true ↔ rR a ≠ 0)) ∧ (∀ i, i < 64 → zb_t rT i = true → i < 48)
theorem zd_cg {P P' : Nat → Prop} {na sy dh dc dn dv : Nat → Nat} {rR : Nat → Int64} {rT : Int64} (h : zd_DI P na sy dh dc dn dv rR rT) (e : ∀ y, P y ↔ P' y) : zd_DI P' na sy dh dc dn dv rR rT := by
  have : P = P' := funext fun y => propext (e y)
  rw [← this]; exact h
theorem zs_cg {U U' : Nat → Prop} {sy sh sc sn sv : Nat → Nat} {lo : Int64} (h : zs_SI U sy sh sc sn sv lo) (e : ∀ y, U y ↔ U' y) : zs_SI U' sy sh sc sn sv lo := by
  have : U = U' := funext fun y => propext (e y)
  rw [← this]; exact h
theorem zd_fr {P : Nat → Prop} {na sy na' sy' dh dc dn dv : Nat → Nat} {rR : Nat → Int64} {rT : Int64} (h : zd_DI P na sy dh dc dn dv rR rT)
    (e : ∀ y, P y → na' y = na y ∧ sy' y = sy y ∧ sy' (na y) = sy (na y)) : zd_DI P na' sy' dh dc dn dv rR rT := by
  obtain ⟨L, h1, h2, h3, h4, h5, h6⟩ := h
  refine ⟨L, h1, ?_, ?_, h4, h5, h6⟩
  · intro a b ha hb x
    rw [h2 a b ha hb x]
    constructor
    · intro q
      obtain ⟨q1, q2, q3⟩ := e x q.1
      exact ⟨q.1, by rw [q2]; exact q.2.1, by rw [q1, q3]; exact q.2.2⟩
    · intro q
      obtain ⟨q1, q2, q3⟩ := e x q.1
      rw [q1, q2, q3] at q
      exact q
  · intro a b ha hb
    rw [h3 a b ha hb]
    have hm := h2 a b ha hb
    generalize L (a * 48 + b) = l at *
    unfold zd_rp
    match l, hm with
    | [], _ => exact ⟨fun q => absurd q.1 (by simp), fun q => absurd q.1 (by simp)⟩
    | [x], _ => exact ⟨fun q => absurd q.1 (by simp), fun q => absurd q.1 (by simp)⟩
    | x :: y :: t, hm =>
      have ex : na' x = na x := (e x ((hm x).mp (by simp)).1).1
      have ey : na' y = na y := (e y ((hm y).mp (by simp)).1).1
      show (_ ∧ (_ → _ → na x ≠ y ∧ na y ≠ x)) ↔ (_ ∧ (_ → _ → na' x ≠ y ∧ na' y ≠ x))
      rw [ex, ey]
theorem zd_kk {a b a' b' : Nat} (hb : b < 48) (hb' : b' < 48) (h : a' * 48 + b' = a * 48 + b) : a' = a ∧ b' = b := by omega
/-- the index with one more or one less node, once the bits of (a, b) are right again -/
theorem zd_nw {P P' : Nat → Prop} {na sy dh' dc' dn' dv' : Nat → Nat} {rR rR' : Nat → Int64} {rT rT' : Int64} {L : Nat → List Nat} {l : List Nat} {a b : Nat} (ha : a < 48) (hb : b < 48)
    (h2 : ∀ a b, a < 48 → b < 48 → ∀ x, x ∈ L (a * 48 + b) ↔ (P x ∧ sy x = a ∧ sy (na x) = b))
    (h3 : ∀ a b, a < 48 → b < 48 → (zb_t (rR a) b = true ↔ zd_rp na a b (L (a * 48 + b)))) (h4 : ∀ a, a < 48 → ∀ i, i < 64 → zb_t (rR a) i = true → i < 48)
    (h5 : ∀ a, a < 48 → (zb_t rT a = true ↔ rR a ≠ 0)) (h6 : ∀ i, i < 64 → zb_t rT i = true → i < 48)
    (F : zl_FM dh' dc' dn' dv' 2304 (zn_u L (a * 48 + b) l)) (hl : ∀ x, x ∈ l ↔ (P' x ∧ sy x = a ∧ sy (na x) = b))
    (hP : ∀ x, ¬ (sy x = a ∧ sy (na x) = b) → (P' x ↔ P x)) (hu : zd_ub (zd_rp na a b l) a b rR rR' rT rT') :
    zd_DI P' na sy dh' dc' dn' dv' rR' rT' := by
  obtain ⟨u1, u2, u3, u4, u5⟩ := hu
  refine ⟨_, F, ?_, ?_, ?_, ?_, ?_⟩
  · intro a' b' ha' hb' x
    by_cases c : a' * 48 + b' = a * 48 + b
    · obtain ⟨rfl, rfl⟩ := zd_kk hb hb' c
      rw [zn_us]; exact hl x
    · rw [zn_un c, h2 a' b' ha' hb' x]
      constructor
      · intro q
        refine ⟨(hP x fun w => c ?_).mpr q.1, q.2⟩
        rw [← q.2.1, ← q.2.2, w.1, w.2]
      · intro q
        refine ⟨(hP x fun w => c ?_).mp q.1, q.2⟩
        rw [← q.2.1, ← q.2.2, w.1, w.2]
  · intro a' b' ha' hb'
    by_cases c : a' = a
    · subst c
      by_cases d : b' = b
      · subst d; rw [zn_us]; exact u2
      · rw [zn_un (by omega), u1 b' (by omega) d]; exact h3 _ _ ha' hb'
    · rw [zn_un (by omega), u3 a' c]; exact h3 _ _ ha' hb'
  · intro a' ha' i hi
    by_cases c : a' = a
    · subst c
      by_cases d : i = b
      · intro _; omega
      · rw [u1 i hi d]; exact h4 _ ha' i hi
    · rw [u3 a' c]; exact h4 _ ha' i hi
  · intro a' ha'
    by_cases c : a' = a
    · subst c; exact u5
    · rw [u3 a' c, u4 a' (by omega) c]; exact h5 _ ha'
  · intro i hi
    by_cases c : i = a
    · intro _; omega
    · rw [u4 i hi c]; exact h6 i hi
section
variable {xc1 xc2 xc3 xc4 xc5 xc6 xrd xod xtd : Int32} {xli xle xsz xcu xfn xst xrt : Nat} {xlv xhr xlo xrT : Int64} {na nb sy ow bl sp fT lT sh sc sn sv dh dc dn dv pa de oc wa me qu wo co : Nat → Nat} {rR : Nat → Int64} {te : Nat → Int32}
theorem zd_add {post : SX → Prop} {P : Nat → Prop} {x : Nat} (hx : x < 128) (hna : ∀ y, y < 128 → na y < 128) (hP : ¬ P x) (hs : 32 ≤ x → 32 ≤ na x → sy x < 48 ∧ sy (na x) < 48)
    (h : zd_DI P na sy dh dc dn dv rR xrT)
    (K : ∀ (dh' dc' dn' dv' : Nat → Nat) (rR' : Nat → Int64) (rT' : Int64), zd_DI (fun y => P y ∨ (y = x ∧ 32 ≤ x ∧ 32 ≤ na x)) na sy dh' dc' dn' dv' rR' rT' → post (xc1, xc2, xc3, xc4, xc5, xc6, nI xli, nI xle, nI xsz, nI xcu, nI xfn, nI xst, xlv, xhr, xlo, nI xrt, rT', xrd, xod, xtd, zn_A na, zn_A nb, zn_A sy, zn_A ow, zn_A bl, zn_A sp, zn_A fT, zn_A lT, zn_A sh, zn_A sc, zn_A sn, zn_A sv, zn_A dh', zn_A dc', zn_A dn', zn_A dv', rR', zn_A pa, zn_A de, zn_A oc, zn_A wa, te, zn_A me, zn_A qu, zn_A wo, zn_A co)) :
    wpX_addDigram post (xc1, xc2, xc3, xc4, xc5, xc6, nI xli, nI xle, nI xsz, nI xcu, nI xfn, nI xst, xlv, xhr, xlo, nI xrt, xrT, xrd, xod, xtd, zn_A na, zn_A nb, zn_A sy, zn_A ow, zn_A bl, zn_A sp, zn_A fT, zn_A lT, zn_A sh, zn_A sc, zn_A sn, zn_A sv, zn_A dh, zn_A dc, zn_A dn, zn_A dv, rR, zn_A pa, zn_A de, zn_A oc, zn_A wa, te, zn_A me, zn_A qu, zn_A wo, zn_A co) (nI x) := by
  have hn := hna x hx
  unfold wpX_addDigram
  refine pk_le x 31 (fun c => ?_) (fun c => ⟨vp_in_nI hx (by decide), ?_⟩)
  · exact K _ _ _ _ _ _ (zd_cg h fun y => ⟨Or.inl, fun q => q.elim id (fun w => by omega)⟩)
  rw [zn_rd (by omega)]
  refine pk_lt 31 (na x) (fun c2 => ?_) (fun c2 => ?_)
  · obtain ⟨ha, hb⟩ := hs (by omega) (by omega)
    obtain ⟨L, hF, h2, h3, h4, h5, h6⟩ := h
    have hk : sy x * 48 + sy (na x) < 2304 := by omega
    have hf : ∀ j, j < 2304 → x ∉ L j := by
      intro j hj q
      have e : j = (j / 48) * 48 + j % 48 := by omega
      rw [e] at q
      exact hP ((h2 _ _ (by omega) (by omega) x).mp q).1
    have F := zl_FMi hF hk (show 0 < x ∧ x < 128 by omega) hf
    have hct := zl_ct hF hk
    have hhd := zl_hd hF hk
    have fin : ∀ dv' : Nat → Nat, zl_FM (zn_u dh (sy x * 48 + sy (na x)) x) (zn_u dc (sy x * 48 + sy (na x)) (dc (sy x * 48 + sy (na x)) + 1)) (zn_u dn x (dh (sy x * 48 + sy (na x)))) dv' 2304 (zn_u L (sy x * 48 + sy (na x)) (x :: L (sy x * 48 + sy (na x)))) →
        wX_addDigram_82 post (nI x) (nI (sy x)) (nI (sy (na x))) (nI (sy x * 48 + sy (na x))) xc1 xc2 xc3 xc4 xc5 xc6 (nI xli) (nI xle) (nI xsz) (nI xcu) (nI xfn) (nI xst) xlv xhr xlo (nI xrt) xrT xrd xod xtd (zn_A na) (zn_A nb) (zn_A sy) (zn_A ow) (zn_A bl) (zn_A sp) (zn_A fT) (zn_A lT) (zn_A sh) (zn_A sc) (zn_A sn) (zn_A sv) (zn_A dh) (zn_A dc) (zn_A (zn_u dn x (dh (sy x * 48 + sy (na x))))) (zn_A dv') rR (zn_A pa) (zn_A de) (zn_A oc) (zn_A wa) te (zn_A me) (zn_A qu) (zn_A wo) (zn_A co) := by
      intro dv' F
      unfold wX_addDigram_82
      refine ⟨vp_in_nI hk (by decide), nm_r (zn_up (by omega)) ⟨vp_in_nI hk (by decide), vp_in_nI hk (by decide), nm_r (e' := zn_A (zn_u dc (sy x * 48 + sy (na x)) (dc (sy x * 48 + sy (na x)) + 1))) ?_ ?_⟩⟩
      · rw [zn_rd (by omega), nI_1, zn_up (by omega)]
      · refine zd_rr ha hb hna F (h5 _ ha) ?_
        intro rR' rT' hu
        rw [zn_us] at hu
        refine K _ _ _ _ _ _ (zd_nw ha hb h2 h3 h4 h5 h6 F ?_ ?_ hu)
        · intro y
          rw [List.mem_cons, h2 _ _ ha hb y]
          constructor
          · rintro (q | q)
            · rw [q]; exact ⟨Or.inr ⟨rfl, by omega, by omega⟩, rfl, rfl⟩
            · exact ⟨Or.inl q.1, q.2⟩
          · rintro ⟨q | q, w⟩
            · exact Or.inr ⟨q, w⟩
            · exact Or.inl q.1
        · intro y hy
          constructor
          · rintro (q | q)
            · exact q
            · exact absurd ⟨by rw [q.1], by rw [q.1]⟩ hy
          · exact Or.inl
    refine ⟨vp_in_nI hx (by decide), nm_r (zn_rd (by omega)) ⟨vp_in_nI hx (by decide), vp_in_nI hn (by decide), nm_r (zn_rd (by omega)) (nm_r zd_key ⟨vp_in_nI hk (by decide), nm_r (zn_rd (by omega)) ⟨vp_in_nI hx (by decide), nm_r (zn_up (v := 0) (by omega)) ⟨vp_in_nI hx (by decide), nm_r (zn_up (by omega)) ?_⟩⟩⟩)⟩⟩
    by_cases c3 : dh (sy x * 48 + sy (na x)) = 0
    · rw [if_pos c3] at F
      exact br_t (by rw [c3]; rfl) (fin _ F)
    · rw [if_neg c3] at F
      exact br_f (nI_ne0 (by omega) (by omega)) ⟨vp_in_nI hhd (by decide), nm_r (zn_up (by omega)) (fin _ F)⟩
  · exact K _ _ _ _ _ _ (zd_cg h fun y => ⟨Or.inl, fun q => q.elim id (fun w => by omega)⟩)
end
end
section
section
variable {xc1 xc2 xc3 xc4 xc5 xc6 xrd xod xtd : Int32} {xli xle xsz xcu xfn xst xrt : Nat} {xlv xhr xlo xrT : Int64} {na nb sy ow bl sp fT lT sh sc sn sv dh dc dn dv pa de oc wa me qu wo co : Nat → Nat} {rR : Nat → Int64} {te : Nat → Int32}
theorem zd_drop {post : SX → Prop} {P : Nat → Prop} {x : Nat} (hx : x < 128) (hna : ∀ y, y < 128 → na y < 128) (hP : P x ↔ (32 ≤ x ∧ 32 ≤ na x)) (hs : 32 ≤ x → 32 ≤ na x → sy x < 48 ∧ sy (na x) < 48)
    (h : zd_DI P na sy dh dc dn dv rR xrT)
    (K : ∀ (dh' dc' dn' dv' : Nat → Nat) (rR' : Nat → Int64) (rT' : Int64), zd_DI (fun y => P y ∧ y ≠ x) na sy dh' dc' dn' dv' rR' rT' → post (xc1, xc2, xc3, xc4, xc5, xc6, nI xli, nI xle, nI xsz, nI xcu, nI xfn, nI xst, xlv, xhr, xlo, nI xrt, rT', xrd, xod, xtd, zn_A na, zn_A nb, zn_A sy, zn_A ow, zn_A bl, zn_A sp, zn_A fT, zn_A lT, zn_A sh, zn_A sc, zn_A sn, zn_A sv, zn_A dh', zn_A dc', zn_A dn', zn_A dv', rR', zn_A pa, zn_A de, zn_A oc, zn_A wa, te, zn_A me, zn_A qu, zn_A wo, zn_A co)) :
    wpX_dropDigram post (xc1, xc2, xc3, xc4, xc5, xc6, nI xli, nI xle, nI xsz, nI xcu, nI xfn, nI xst, xlv, xhr, xlo, nI xrt, xrT, xrd, xod, xtd, zn_A na, zn_A nb, zn_A sy, zn_A ow, zn_A bl, zn_A sp, zn_A fT, zn_A lT, zn_A sh, zn_A sc, zn_A sn, zn_A sv, zn_A dh, zn_A dc, zn_A dn, zn_A dv, rR, zn_A pa, zn_A de, zn_A oc, zn_A wa, te, zn_A me, zn_A qu, zn_A wo, zn_A co) (nI x) := by
  have hn := hna x hx
  have h0 : ¬ (32 ≤ x ∧ 32 ≤ na x) → ∀ y, P y ↔ (P y ∧ y ≠ x) := by
    intro c y
    exact ⟨fun q => ⟨q, fun e => c (hP.mp (e ▸ q))⟩, fun q => q.1⟩
  unfold wpX_dropDigram
  refine pk_le x 31 (fun c => ?_) (fun c => ⟨vp_in_nI hx (by decide), ?_⟩)
  · exact K _ _ _ _ _ _ (zd_cg h (h0 (by omega)))
  rw [zn_rd (by omega)]
  refine pk_lt 31 (na x) (fun c2 => ?_) (fun c2 => ?_)
  · obtain ⟨ha, hb⟩ := hs (by omega) (by omega)
    have hPx : P x := hP.mpr ⟨by omega, by omega⟩
    obtain ⟨L, hF, h2, h3, h4, h5, h6⟩ := h
    generalize hkk : sy x * 48 + sy (na x) = k
    have hk : k < 2304 := by omega
    have hxm : x ∈ L k := by rw [← hkk]; exact (h2 _ _ ha hb x).mpr ⟨hPx, rfl, rfl⟩
    obtain ⟨l1, l2, eL⟩ := List.append_of_mem hxm
    obtain ⟨g1, g2, F⟩ := zl_FMr hF hk eL
    have hct := zl_ct hF hk
    have hlen : dc k = (l1 ++ x :: l2).length := by rw [← eL]; exact (hF.1 _ hk).2.1
    have hpos : 1 ≤ dc k := by rw [hlen, List.length_append, List.length_cons]; omega
    have hbb := (hF.1 _ hk).2.2.2.2
    have hdv : dv x < 128 := by
      rw [g1]
      have q := zl_gl l1 0
      rcases List.mem_cons.mp q with e | e
      · rw [e]; decide
      · exact (hbb _ (by rw [eL]; exact List.mem_append_left _ e)).2
    have hdn : dn x < 128 := by
      rw [g2]
      cases e : l2 with
      | nil => exact (by decide : (0 : Nat) < 128)
      | cons y t => exact (hbb y (by rw [eL, e]; simp)).2
    have hnd := (hF.1 _ hk).2.2.2.1
    have hxn : x ∉ l1 ++ l2 := by
      rw [eL] at hnd
      intro q
      have w := List.nodup_append.mp hnd
      rcases List.mem_append.mp q with q | q
      · exact w.2.2 x q x List.mem_cons_self rfl
      · exact (List.nodup_cons.mp w.2.1).1 q
    have fin : ∀ dh' dn' dv' : Nat → Nat, zl_FM dh' (zn_u dc k (dc k - 1)) dn' dv' 2304 (zn_u L k (l1 ++ l2)) →
        wX_dropDigram_101 post (nI (sy x)) (nI (sy (na x))) (nI k) xc1 xc2 xc3 xc4 xc5 xc6 (nI xli) (nI xle) (nI xsz) (nI xcu) (nI xfn) (nI xst) xlv xhr xlo (nI xrt) xrT xrd xod xtd (zn_A na) (zn_A nb) (zn_A sy) (zn_A ow) (zn_A bl) (zn_A sp) (zn_A fT) (zn_A lT) (zn_A sh) (zn_A sc) (zn_A sn) (zn_A sv) (zn_A dh') (zn_A dc) (zn_A dn') (zn_A dv') rR (zn_A pa) (zn_A de) (zn_A oc) (zn_A wa) te (zn_A me) (zn_A qu) (zn_A wo) (zn_A co) := by
      intro dh' dn' dv' F
      unfold wX_dropDigram_101
      refine ⟨vp_in_nI hk (by decide), vp_in_nI hk (by decide), nm_r (e' := zn_A (zn_u dc k (dc k - 1))) ?_ ?_⟩
      · rw [zn_rd (by omega), show (1 : Int32) = nI 1 from rfl, pk_sub hpos, zn_up (by omega)]
      · refine zd_rr ha hb hna F (h5 _ ha) ?_
        intro rR' rT' hu
        rw [hkk, zn_us] at hu
        refine K _ _ _ _ _ _ (zd_nw (l := l1 ++ l2) ha hb h2 h3 h4 h5 h6 (by rw [hkk]; exact F) ?_ ?_ hu)
        · intro y
          have e1 := h2 _ _ ha hb y
          rw [hkk, eL] at e1
          by_cases c : y = x
          · subst c
            exact ⟨fun z => absurd z hxn, fun z => absurd rfl z.1.2⟩
          · have : y ∈ l1 ++ l2 ↔ y ∈ l1 ++ x :: l2 := by simp [c]
            rw [this, e1]
            simp [c]
        · intro y hy
          exact ⟨fun q => q.1, fun q => ⟨q, fun e => hy ⟨by rw [e], by rw [e]⟩⟩⟩
    have fin2 : ∀ dh' dn' : Nat → Nat, zl_FM dh' (zn_u dc k (dc k - 1)) dn' (if dn x = 0 then dv else zn_u dv (dn x) (dv x)) 2304 (zn_u L k (l1 ++ l2)) →
        wX_dropDigram_87 post (nI (sy x)) (nI (sy (na x))) (nI k) (nI (dv x)) (nI (dn x)) xc1 xc2 xc3 xc4 xc5 xc6 (nI xli) (nI xle) (nI xsz) (nI xcu) (nI xfn) (nI xst) xlv xhr xlo (nI xrt) xrT xrd xod xtd (zn_A na) (zn_A nb) (zn_A sy) (zn_A ow) (zn_A bl) (zn_A sp) (zn_A fT) (zn_A lT) (zn_A sh) (zn_A sc) (zn_A sn) (zn_A sv) (zn_A dh') (zn_A dc) (zn_A dn') (zn_A dv) rR (zn_A pa) (zn_A de) (zn_A oc) (zn_A wa) te (zn_A me) (zn_A qu) (zn_A wo) (zn_A co) := by
      intro dh' dn' F
      unfold wX_dropDigram_87
      by_cases c : dn x = 0
      · rw [if_pos c] at F
        exact br_t (by rw [c]; rfl) (fin _ _ _ F)
      · rw [if_neg c] at F
        exact br_f (nI_ne0 (by omega) (by omega)) ⟨vp_in_nI hdn (by decide), nm_r (zn_up (by omega)) (fin _ _ _ F)⟩
    refine ⟨vp_in_nI hx (by decide), nm_r (zn_rd (by omega)) ⟨vp_in_nI hx (by decide), vp_in_nI hn (by decide), nm_r (zn_rd (by omega)) (nm_r (e' := nI k) (by rw [zd_key, hkk]) ⟨vp_in_nI hx (by decide), nm_r (zn_rd (by omega)) ⟨vp_in_nI hx (by decide), nm_r (zn_rd (by omega)) ?_⟩⟩)⟩⟩
    by_cases c3 : dv x = 0
    · rw [if_pos c3, if_pos c3] at F
      exact br_t (by rw [c3]; rfl) ⟨vp_in_nI hk (by decide), nm_r (zn_up (by omega)) (fin2 _ _ F)⟩
    · rw [if_neg c3, if_neg c3] at F
      exact br_f (nI_ne0 (by omega) (by omega)) ⟨vp_in_nI hdv (by decide), nm_r (zn_up (by omega)) (fin2 _ _ F)⟩
  · exact K _ _ _ _ _ _ (zd_cg h (h0 (by omega)))
end
end
section
/-! ===== bodies as circles of nodes, the free chain, sums ===== -/
def zx_lk (na nb : Nat → Nat) : Nat → List Nat → Nat → Prop
  | x, [], y => na x = y ∧ nb y = x
  | x, z :: t, y => na x = z ∧ nb z = x ∧ zx_lk na nb z t y
theorem zx_lkf {na nb na' nb' : Nat → Nat} : ∀ (L : List Nat) (x y : Nat), (∀ v, v = x ∨ v ∈ L → na' v = na v) → (∀ v, v ∈ L ∨ v = y → nb' v = nb v) → zx_lk na nb x L y → zx_lk na' nb' x L y
  | [], x, y, h1, h2, h => by
    refine ⟨?_, ?_⟩
    · rw [h1 x (Or.inl rfl)]; exact h.1
    · rw [h2 y (Or.inr rfl)]; exact h.2
  | z :: t, x, y, h1, h2, h => by
    refine ⟨?_, ?_, zx_lkf t z y (fun v hv => h1 v (Or.inr ?_)) (fun v hv => h2 v ?_) h.2.2⟩
    · rw [h1 x (Or.inl rfl)]; exact h.1
    · rw [h2 z (Or.inl List.mem_cons_self)]; exact h.2.1
    · rcases hv with e | e
      · rw [e]; exact List.mem_cons_self
      · exact List.mem_cons_of_mem _ e
    · rcases hv with e | e
      · exact Or.inl (List.mem_cons_of_mem _ e)
      · exact Or.inr e
theorem zx_lka {na nb : Nat → Nat} : ∀ (l1 : List Nat) (x z : Nat) (l2 : List Nat) (y : Nat), zx_lk na nb x (l1 ++ z :: l2) y ↔ (zx_lk na nb x l1 z ∧ zx_lk na nb z l2 y)
  | [], x, z, l2, y => by
    show (na x = z ∧ nb z = x ∧ zx_lk na nb z l2 y) ↔ ((na x = z ∧ nb z = x) ∧ zx_lk na nb z l2 y)
    exact ⟨fun h => ⟨⟨h.1, h.2.1⟩, h.2.2⟩, fun h => ⟨h.1.1, h.1.2, h.2⟩⟩
  | w :: t, x, z, l2, y => by
    show (na x = w ∧ nb w = x ∧ zx_lk na nb w (t ++ z :: l2) y) ↔ ((na x = w ∧ nb w = x ∧ zx_lk na nb w t z) ∧ zx_lk na nb z l2 y)
    rw [zx_lka t w z l2 y]
    exact ⟨fun h => ⟨⟨h.1, h.2.1, h.2.2.1⟩, h.2.2.2⟩, fun h => ⟨h.1.1, h.1.2.1, h.1.2.2, h.2⟩⟩
theorem zx_lkh {na nb : Nat → Nat} : ∀ (L : List Nat) (x y : Nat), zx_lk na nb x L y → na x = L.headD y ∧ nb y = L.getLastD x
  | [], x, y, h => h
  | z :: t, x, y, h => by
    refine ⟨h.1, ?_⟩
    rw [List.getLastD_cons]
    exact (zx_lkh t z y h.2.2).2
/-- before is the inverse of after -/
theorem zx_lkn {na nb : Nat → Nat} : ∀ (L : List Nat) (x y : Nat), zx_lk na nb x L y → ∀ v, v = x ∨ v ∈ L → nb (na v) = v ∧ (na v = y ∨ na v ∈ L)
  | [], x, y, h, v, hv => by
    rcases hv with e | e
    · rw [e, h.1]; exact ⟨h.2, Or.inl rfl⟩
    · cases e
  | z :: t, x, y, h, v, hv => by
    rcases hv with e | e
    · rw [e, h.1]; exact ⟨h.2.1, Or.inr List.mem_cons_self⟩
    · have q := zx_lkn t z y h.2.2 v (List.mem_cons.mp e)
      exact ⟨q.1, q.2.elim Or.inl (fun w => Or.inr (List.mem_cons_of_mem _ w))⟩
theorem zx_lkp {na nb : Nat → Nat} : ∀ (L : List Nat) (x y : Nat), zx_lk na nb x L y → ∀ v, v ∈ L ∨ v = y → na (nb v) = v ∧ (nb v = x ∨ nb v ∈ L)
  | [], x, y, h, v, hv => by
    rcases hv with e | e
    · cases e
    · rw [e, h.2]; exact ⟨h.1, Or.inl rfl⟩
  | z :: t, x, y, h, v, hv => by
    by_cases c : v = z
    · rw [c, h.2.1]; exact ⟨h.1, Or.inl rfl⟩
    · have hv' : v ∈ t ∨ v = y := by
        rcases hv with e | e
        · rcases List.mem_cons.mp e with w | w
          · exact absurd w c
          · exact Or.inl w
        · exact Or.inr e
      have q := zx_lkp t z y h.2.2 v hv'
      refine ⟨q.1, Or.inr ?_⟩
      rcases q.2 with w | w
      · rw [w]; exact List.mem_cons_self
      · exact List.mem_cons_of_mem _ w
def zx_fc (na : Nat → Nat) : List Nat → Prop
  | [] => True
  | x :: t => na x = t.headD 0 ∧ zx_fc na t
theorem zx_fcf {na na' : Nat → Nat} : ∀ (L : List Nat), (∀ v ∈ L, na' v = na v) → zx_fc na L → zx_fc na' L
  | [], _, _ => True.intro
  | x :: t, h, q => ⟨by rw [h x List.mem_cons_self]; exact q.1, zx_fcf t (fun v hv => h v (List.mem_cons_of_mem _ hv)) q.2⟩
def zx_su (f : Nat → Nat) : Nat → Nat
  | 0 => 0
  | n + 1 => zx_su f n + f n
theorem zx_suc {f g : Nat → Nat} : ∀ (n : Nat), (∀ i, i < n → f i = g i) → zx_su f n = zx_su g n
  | 0, _ => rfl
  | n + 1, h => by
    show zx_su f n + f n = zx_su g n + g n
    rw [zx_suc n (fun i hi => h i (by omega)), h n (by omega)]
theorem zx_suu {f : Nat → Nat} {k v : Nat} : ∀ (n : Nat), k < n → zx_su (zn_u f k v) n + f k = zx_su f n + v
  | 0, h => absurd h (by omega)
  | n + 1, h => by
    show zx_su (zn_u f k v) n + zn_u f k v n + f k = zx_su f n + f n + v
    by_cases c : n = k
    · subst c
      rw [zn_us, zx_suc (g := f) n (fun i hi => zn_un (by omega))]; omega
    · rw [zn_un c]
      have := zx_suu (f := f) (k := k) (v := v) n (by omega)
      omega
theorem zx_sul {f : Nat → Nat} : ∀ (n k : Nat), k < n → f k ≤ zx_su f n
  | 0, _, h => absurd h (by omega)
  | n + 1, k, h => by
    show f k ≤ zx_su f n + f n
    by_cases c : k = n
    · rw [c]; omega
    · have := zx_sul (f := f) n k (by omega); omega
theorem zx_sul2 {f : Nat → Nat} : ∀ (n k j : Nat), k < n → j < n → k ≠ j → f k + f j ≤ zx_su f n
  | 0, _, _, h, _, _ => absurd h (by omega)
  | n + 1, k, j, h, h', hn => by
    show f k + f j ≤ zx_su f n + f n
    by_cases c : k = n
    · have := zx_sul (f := f) n j (by omega); rw [c]; omega
    · by_cases d : j = n
      · have := zx_sul (f := f) n k (by omega); rw [d]; omega
      · have := zx_sul2 (f := f) n k j (by omega) (by omega) hn; omega
theorem zx_ulen {B : Nat → List Nat} {r : Nat} {l : List Nat} : (fun q => (zn_u B r l q).length) = zn_u (fun q => (B q).length) r l.length := by
  funext q
  by_cases c : q = r
  · subst c; rw [zn_us, zn_us]
  · rw [zn_un c, zn_un c]
/-- X's bodies: circles through the guards; F: the free nodes -/
def zx_ST (na nb ow bl : Nat → Nat) (fn st : Nat) (B : Nat → List Nat) (F : List Nat) : Prop :=
  (∀ r, r < 32 → zx_lk na nb r (B r) r ∧ (B r).Nodup ∧ (∀ x ∈ B r, 32 ≤ x ∧ x < 128 ∧ ow x = r) ∧ bl r = (B r).length) ∧
  F.Nodup ∧ (∀ x ∈ F, 32 ≤ x ∧ x < 128 ∧ ∀ r, r < 32 → x ∉ B r) ∧ fn = F.headD 0 ∧ zx_fc na F ∧
  st = zx_su (fun r => (B r).length) 32 ∧ st + F.length = 96 ∧ (∀ x, x < 128 → na x < 128 ∧ nb x < 128)
def zx_U (B : Nat → List Nat) (x : Nat) : Prop := ∃ r, r < 32 ∧ x ∈ B r
theorem zx_Ub {na nb ow bl : Nat → Nat} {fn st : Nat} {B : Nat → List Nat} {F : List Nat} (h : zx_ST na nb ow bl fn st B F) {x : Nat} (hx : zx_U B x) : 32 ≤ x ∧ x < 128 ∧ ow x < 32 ∧ x ∈ B (ow x) := by
  obtain ⟨r, hr, hm⟩ := hx
  obtain ⟨q1, q2, q3⟩ := (h.1 r hr).2.2.1 x hm
  rw [q3]
  exact ⟨q1, q2, hr, hm⟩
theorem zx_nn {na nb ow bl : Nat → Nat} {fn st : Nat} {B : Nat → List Nat} {F : List Nat} (h : zx_ST na nb ow bl fn st B F) {x : Nat} (hx : x < 32 ∨ zx_U B x) :
    nb (na x) = x ∧ na (nb x) = x ∧ (na x < 32 ∨ zx_U B (na x)) ∧ (nb x < 32 ∨ zx_U B (nb x)) := by
  have key : ∀ r, r < 32 → x = r ∨ x ∈ B r → nb (na x) = x ∧ na (nb x) = x ∧ (na x < 32 ∨ zx_U B (na x)) ∧ (nb x < 32 ∨ zx_U B (nb x)) := by
    intro r hr hm
    have q1 := zx_lkn _ _ _ (h.1 r hr).1 x hm
    have q2 := zx_lkp _ _ _ (h.1 r hr).1 x (hm.elim Or.inr Or.inl)
    refine ⟨q1.1, q2.1, ?_, ?_⟩
    · rcases q1.2 with e | e
      · rw [e]; exact Or.inl hr
      · exact Or.inr ⟨r, hr, e⟩
    · rcases q2.2 with e | e
      · rw [e]; exact Or.inl hr
      · exact Or.inr ⟨r, hr, e⟩
  rcases hx with hx | ⟨r, hr, hm⟩
  · exact key x hx (Or.inl rfl)
  · exact key r hr (Or.inr hm)
/-- one node more at the end of a body -/
theorem zx_app {na nb ow bl : Nat → Nat} {fn st : Nat} {B : Nat → List Nat} {x : Nat} {F : List Nat} {r : Nat} (h : zx_ST na nb ow bl fn st B (x :: F)) (hr : r < 32) :
    zx_ST (zn_u (zn_u na (nb r) x) x r) (zn_u (zn_u nb x (nb r)) r x) (zn_u ow x r) (zn_u bl r (bl r + 1)) (na x) (st + 1) (zn_u B r (B r ++ [x])) F := by
  obtain ⟨h1, h2, h3, h4, h5, h6, h7, h8⟩ := h
  obtain ⟨x32, x128, xB⟩ := h3 x List.mem_cons_self
  have hxF : x ∉ F := (List.nodup_cons.mp h2).1
  have hl := (zx_lkh _ _ _ (h1 r hr).1).2
  have hlr : nb r = r ∨ nb r ∈ B r := by
    rw [hl]; exact List.mem_cons.mp (zl_gl _ _)
  have lq : ∀ q, q < 32 → q ≠ r → nb r ≠ q ∧ nb r ∉ B q := by
    intro q hq hqr
    rcases hlr with e | e
    · rw [e]
      refine ⟨fun w => hqr w.symm, fun w => ?_⟩
      have := ((h1 q hq).2.2.1 r w).1; omega
    · have w := (h1 r hr).2.2.1 _ e
      refine ⟨fun z => by omega, fun z => ?_⟩
      have := ((h1 q hq).2.2.1 _ z).2.2
      omega
  refine ⟨fun q hq => ?_, (List.nodup_cons.mp h2).2, ?_, h5.1, ?_, ?_, ?_, ?_⟩
  · by_cases c : q = r
    · subst c
      rw [zn_us, zn_us]
      obtain ⟨g1, g2, g3, g4⟩ := h1 q hq
      refine ⟨?_, ?_, ?_, ?_⟩
      · rcases List.eq_nil_or_concat (B q) with e | ⟨l, y, e⟩
        · rw [e] at hl ⊢
          have hl' : nb q = q := hl
          rw [hl']
          refine ⟨?_, ?_, ?_, ?_⟩
          · rw [zn_un (by omega), zn_us]
          · rw [zn_un (by omega), zn_us]
          · rw [zn_us]
          · rw [zn_us]
        · rw [List.concat_eq_append] at e
          rw [e] at hl g1 g2 g3 ⊢
          rw [List.getLastD_concat] at hl
          rw [zx_lka] at g1
          rw [List.append_assoc, hl]
          show zx_lk _ _ q (l ++ y :: [x]) q
          rw [zx_lka]
          have yb := g3 y (by simp)
          have nd := List.nodup_append.mp g2
          have xnl : x ∉ l ++ [y] := by rw [← e]; exact xB q hq
          refine ⟨zx_lkf _ _ _ (fun v hv => ?_) (fun v hv => ?_) g1.1, ?_, ?_, ?_, ?_⟩
          · have v1 : v ≠ x := by
              rcases hv with w | w
              · omega
              · exact fun z => xnl (List.mem_append_left _ (z ▸ w))
            have v2 : v ≠ y := by
              rcases hv with w | w
              · omega
              · exact nd.2.2 v w y (by simp)
            rw [zn_un v1, zn_un v2]
          · have v1 : v ≠ x := by
              rcases hv with w | w
              · exact fun z => xnl (List.mem_append_left _ (z ▸ w))
              · exact fun z => xnl (by rw [← z, w]; simp)
            have v2 : v ≠ q := by
              rcases hv with w | w
              · have := (g3 v (by simp [w])).1; omega
              · omega
            rw [zn_un v2, zn_un v1]
          · rw [zn_un (fun z : y = x => xnl (by rw [← z]; simp)), zn_us]
          · rw [zn_un (by omega), zn_us]
          · rw [zn_us]
          · rw [zn_us]
      · rw [List.nodup_append]
        refine ⟨g2, by simp, ?_⟩
        intro a ha b hb e
        have : b = x := by simpa using hb
        exact xB q hq (by rw [← this, ← e]; exact ha)
      · intro v hv
        rcases List.mem_append.mp hv with w | w
        · rw [zn_un (fun z : v = x => xB q hq (z ▸ w))]; exact g3 v w
        · have : v = x := by simpa using w
          rw [this, zn_us]; exact ⟨x32, x128, rfl⟩
      · rw [List.length_append, g4]; rfl
    · rw [zn_un c, zn_un c]
      obtain ⟨g1, g2, g3, g4⟩ := h1 q hq
      obtain ⟨l1, l2⟩ := lq q hq c
      refine ⟨zx_lkf _ _ _ (fun v hv => ?_) (fun v hv => ?_) g1, g2, fun v hv => ?_, g4⟩
      · have v1 : v ≠ x := by
          rcases hv with w | w
          · omega
          · exact fun z => xB q hq (z ▸ w)
        have v2 : v ≠ nb r := by
          rcases hv with w | w
          · exact fun z => l1 (z.symm.trans w)
          · exact fun z => l2 (z ▸ w)
        rw [zn_un v1, zn_un v2]
      · have v1 : v ≠ x := by
          rcases hv with w | w
          · exact fun z => xB q hq (z ▸ w)
          · omega
        have v2 : v ≠ r := by
          rcases hv with w | w
          · have := (g3 v w).1; omega
          · omega
        rw [zn_un v2, zn_un v1]
      · rw [zn_un (fun z : v = x => xB q hq (z ▸ hv))]; exact g3 v hv
  · intro v hv
    obtain ⟨w1, w2, w3⟩ := h3 v (List.mem_cons_of_mem _ hv)
    refine ⟨w1, w2, fun q hq => ?_⟩
    by_cases c : q = r
    · subst c
      rw [zn_us]
      intro z
      rcases List.mem_append.mp z with z | z
      · exact w3 q hq z
      · have : v = x := by simpa using z
        exact hxF (this ▸ hv)
    · rw [zn_un c]; exact w3 q hq
  · refine zx_fcf _ (fun v hv => ?_) h5.2
    have v1 : v ≠ x := fun z => hxF (z ▸ hv)
    have v2 : v ≠ nb r := by
      intro z
      rcases hlr with e | e
      · have := (h3 v (List.mem_cons_of_mem _ hv)).1; omega
      · exact (h3 v (List.mem_cons_of_mem _ hv)).2.2 r hr (by rw [z]; exact e)
    rw [zn_un v1, zn_un v2]
  · rw [zx_ulen, List.length_append]
    have := zx_suu (f := fun q => (B q).length) (k := r) (v := (B r).length + [x].length) 32 hr
    have e : [x].length = 1 := rfl
    rw [e] at this ⊢
    show st + 1 = _
    have this' : zx_su (zn_u (fun q => (B q).length) r ((B r).length + 1)) 32 + (B r).length = zx_su (fun q => (B q).length) 32 + ((B r).length + 1) := this
    omega
  · rw [List.length_cons] at h7; omega
  · intro v hv
    obtain ⟨w1, w2⟩ := h8 v hv
    have w3 := (h8 r (by omega)).2
    refine ⟨?_, ?_⟩
    · by_cases c : v = x
      · rw [c, zn_us]; omega
      · rw [zn_un c]
        by_cases d : v = nb r
        · rw [d, zn_us]; exact x128
        · rw [zn_un d]; exact w1
    · by_cases c : v = r
      · rw [c, zn_us]; exact x128
      · rw [zn_un c]
        by_cases d : v = x
        · rw [d, zn_us]; exact w3
        · rw [zn_un d]; exact w2
end
section
/-- a pair becomes one node: y, the node behind x, is freed -/
theorem zx_fold {na nb ow bl : Nat → Nat} {fn st : Nat} {B : Nat → List Nat} {F : List Nat} {r x y : Nat} {l1 l2 : List Nat} (h : zx_ST na nb ow bl fn st B F) (hr : r < 32)
    (e : B r = l1 ++ x :: y :: l2) :
    zx_ST (zn_u (zn_u na y fn) x (na y)) (zn_u nb (na y) x) ow (zn_u bl r (bl r - 1)) y (st - 1) (zn_u B r (l1 ++ x :: l2)) (y :: F) := by
  obtain ⟨h1, h2, h3, h4, h5, h6, h7, h8⟩ := h
  obtain ⟨g1, g2, g3, g4⟩ := h1 r hr
  rw [e] at g1 g2 g3 g4
  have hx := g3 x (by simp)
  have hy := g3 y (by simp)
  obtain ⟨k1, k2⟩ := (zx_lka _ _ _ _ _).mp g1
  obtain ⟨k2, k3, k4⟩ := k2
  have hbd := (zx_lkh _ _ _ k4).1
  have nd := List.nodup_append.mp g2
  have nd2 := List.nodup_cons.mp nd.2.1
  have nd3 := List.nodup_cons.mp nd2.2
  have hxy : x ≠ y := fun z => nd2.1 (by rw [z]; simp)
  have x1 : x ∉ l1 := fun z => nd.2.2 x z x (by simp) rfl
  have y1 : y ∉ l1 := fun z => nd.2.2 y z y (by simp) rfl
  have x2 : x ∉ l2 := fun z => nd2.1 (by simp [z])
  have y2 : y ∉ l2 := nd3.1
  have hbm : na y = r ∨ na y ∈ l2 := by
    rw [hbd]
    cases l2 with
    | nil => exact Or.inl rfl
    | cons a b => exact Or.inr List.mem_cons_self
  have yB : ∀ q, q < 32 → q ≠ r → y ∉ B q := fun q hq c z => c ((((h1 q hq).2.2.1 y z).2.2).symm.trans hy.2.2)
  have xB : ∀ q, q < 32 → q ≠ r → x ∉ B q := fun q hq c z => c ((((h1 q hq).2.2.1 x z).2.2).symm.trans hx.2.2)
  have bB : ∀ q, q < 32 → q ≠ r → na y ≠ q ∧ na y ∉ B q := by
    intro q hq c
    rcases hbm with z | z
    · rw [z]
      refine ⟨fun w => c w.symm, fun w => ?_⟩
      have := ((h1 q hq).2.2.1 r w).1; omega
    · have w := g3 (na y) (by simp [z])
      refine ⟨fun t => by omega, fun t => c ?_⟩
      exact (((h1 q hq).2.2.1 _ t).2.2).symm.trans w.2.2
  have yF : y ∉ F := fun z => (h3 y z).2.2 r hr (by rw [e]; simp)
  have xF : x ∉ F := fun z => (h3 x z).2.2 r hr (by rw [e]; simp)
  have hlen : (B r).length = l1.length + (l2.length + 2) := by rw [e, List.length_append, List.length_cons, List.length_cons]
  have hfn : fn < 128 := by
    rw [h4]
    cases F with
    | nil => exact (by decide : (0 : Nat) < 128)
    | cons a b => exact (h3 a List.mem_cons_self).2.1
  refine ⟨fun q hq => ?_, List.nodup_cons.mpr ⟨yF, h2⟩, ?_, rfl, ?_, ?_, ?_, ?_⟩
  · by_cases c : q = r
    · subst c
      rw [zn_us, zn_us]
      refine ⟨?_, ?_, ?_, ?_⟩
      · rw [zx_lka]
        refine ⟨zx_lkf _ _ _ (fun v hv => ?_) (fun v hv => ?_) k1, ?_⟩
        · have v1 : v ≠ x := by
            rcases hv with w | w
            · omega
            · exact fun z => x1 (z ▸ w)
          have v2 : v ≠ y := by
            rcases hv with w | w
            · omega
            · exact fun z => y1 (z ▸ w)
          rw [zn_un v1, zn_un v2]
        · have v1 : v ≠ na y := by
            intro z
            rcases hbm with t | t
            · rcases hv with w | w
              · have := (g3 v (by simp [w])).1; omega
              · omega
            · rcases hv with w | w
              · exact nd.2.2 v w (na y) (by simp [t]) z
              · exact x2 (by rw [← w, z]; exact t)
          rw [zn_un v1]
        · cases l2 with
          | nil =>
            have t : na y = q := hbd
            rw [t]
            exact ⟨zn_us, zn_us⟩
          | cons a b =>
            have t : na y = a := hbd
            obtain ⟨m1, m2, m3⟩ := k4
            rw [t]
            refine ⟨zn_us, zn_us, zx_lkf _ _ _ (fun v hv => ?_) (fun v hv => ?_) m3⟩
            · have v1 : v ≠ x := by
                intro z
                rcases hv with w | w
                · exact x2 (by rw [← z, w]; simp)
                · exact x2 (by rw [← z]; simp [w])
              have v2 : v ≠ y := by
                intro z
                rcases hv with w | w
                · exact y2 (by rw [← z, w]; simp)
                · exact y2 (by rw [← z]; simp [w])
              rw [zn_un v1, zn_un v2]
            · have v1 : v ≠ a := by
                intro z
                rcases hv with w | w
                · exact (List.nodup_cons.mp nd3.2).1 (z ▸ w)
                · have := (g3 a (by simp)).1; omega
              rw [zn_un v1]
      · refine List.Nodup.sublist ?_ g2
        exact List.Sublist.append (List.Sublist.refl l1) (List.Sublist.cons_cons x (List.sublist_cons_self y l2))
      · intro v hv
        exact g3 v (by
          rcases List.mem_append.mp hv with w | w
          · simp [w]
          · rcases List.mem_cons.mp w with w | w
            · simp [w]
            · simp [w])
      · rw [g4, List.length_append, List.length_append, List.length_cons, List.length_cons, List.length_cons]; omega
    · rw [zn_un c, zn_un c]
      obtain ⟨i1, i2, i3, i4⟩ := h1 q hq
      obtain ⟨b1, b2⟩ := bB q hq c
      refine ⟨zx_lkf _ _ _ (fun v hv => ?_) (fun v hv => ?_) i1, i2, i3, i4⟩
      · have v1 : v ≠ x := by
          rcases hv with w | w
          · omega
          · exact fun z => xB q hq c (z ▸ w)
        have v2 : v ≠ y := by
          rcases hv with w | w
          · omega
          · exact fun z => yB q hq c (z ▸ w)
        rw [zn_un v1, zn_un v2]
      · have v1 : v ≠ na y := by
          rcases hv with w | w
          · exact fun z => b2 (z ▸ w)
          · exact fun z => b1 (z.symm.trans w)
        rw [zn_un v1]
  · intro v hv
    rcases List.mem_cons.mp hv with w | w
    · rw [w]
      refine ⟨hy.1, hy.2.1, fun q hq => ?_⟩
      by_cases c : q = r
      · subst c
        rw [zn_us]
        intro z
        rcases List.mem_append.mp z with z | z
        · exact y1 z
        · rcases List.mem_cons.mp z with z | z
          · exact hxy z.symm
          · exact y2 z
      · rw [zn_un c]; exact yB q hq c
    · obtain ⟨w1, w2, w3⟩ := h3 v w
      refine ⟨w1, w2, fun q hq => ?_⟩
      by_cases c : q = r
      · subst c
        rw [zn_us]
        intro z
        apply w3 q hq
        rw [e]
        rcases List.mem_append.mp z with z | z
        · simp [z]
        · rcases List.mem_cons.mp z with z | z
          · simp [z]
          · simp [z]
      · rw [zn_un c]; exact w3 q hq
  · refine ⟨?_, zx_fcf _ (fun v hv => ?_) h5⟩
    · rw [zn_un (fun z => hxy z.symm), zn_us]; exact h4
    · have v1 : v ≠ x := fun z => xF (z ▸ hv)
      have v2 : v ≠ y := fun z => yF (z ▸ hv)
      rw [zn_un v1, zn_un v2]
  · rw [zx_ulen]
    have t : zx_su (zn_u (fun q => (B q).length) r (l1 ++ x :: l2).length) 32 + (B r).length = zx_su (fun q => (B q).length) 32 + (l1 ++ x :: l2).length := zx_suu (f := fun q => (B q).length) 32 hr
    rw [hlen] at t
    have t2 : (l1 ++ x :: l2).length = l1.length + (l2.length + 1) := by rw [List.length_append, List.length_cons]
    rw [t2] at t ⊢
    omega
  · have t := zx_sul (f := fun q => (B q).length) 32 r hr
    rw [← h6] at t
    have t' : (B r).length ≤ st := t
    rw [List.length_cons]; omega
  · intro v hv
    obtain ⟨w1, w2⟩ := h8 v hv
    have w3 := (h8 y (by omega)).1
    refine ⟨?_, ?_⟩
    · by_cases c : v = x
      · rw [c, zn_us]; exact w3
      · rw [zn_un c]
        by_cases d : v = y
        · rw [d, zn_us]; exact hfn
        · rw [zn_un d]; exact w1
    · by_cases c : v = na y
      · rw [c, zn_us]; omega
      · rw [zn_un c]; exact w2
/-- a body of one node is emptied -/
theorem zx_dis {na nb ow bl : Nat → Nat} {fn st : Nat} {B : Nat → List Nat} {F : List Nat} {p x : Nat} (h : zx_ST na nb ow bl fn st B F) (hp : p < 32) (e : B p = [x]) :
    zx_ST (zn_u (zn_u na x fn) p p) (zn_u nb p p) ow (zn_u (zn_u bl p (bl p - 1)) p 0) x (st - 1) (zn_u B p []) (x :: F) := by
  obtain ⟨h1, h2, h3, h4, h5, h6, h7, h8⟩ := h
  obtain ⟨g1, g2, g3, g4⟩ := h1 p hp
  rw [e] at g1 g2 g3 g4
  have hx := g3 x (by simp)
  have xB : ∀ q, q < 32 → q ≠ p → x ∉ B q := fun q hq c z => c ((((h1 q hq).2.2.1 x z).2.2).symm.trans hx.2.2)
  have xF : x ∉ F := fun z => (h3 x z).2.2 p hp (by rw [e]; simp)
  have hfn : fn < 128 := by
    rw [h4]
    cases F with
    | nil => exact (by decide : (0 : Nat) < 128)
    | cons a b => exact (h3 a List.mem_cons_self).2.1
  refine ⟨fun q hq => ?_, List.nodup_cons.mpr ⟨xF, h2⟩, ?_, rfl, ?_, ?_, ?_, ?_⟩
  · by_cases c : q = p
    · subst c
      rw [zn_us, zn_us]
      refine ⟨⟨zn_us, zn_us⟩, List.nodup_nil, ?_, rfl⟩
      intro v hv; cases hv
    · rw [zn_un c, zn_un c, zn_un c]
      obtain ⟨i1, i2, i3, i4⟩ := h1 q hq
      refine ⟨zx_lkf _ _ _ (fun v hv => ?_) (fun v hv => ?_) i1, i2, i3, i4⟩
      · have v1 : v ≠ x := by
          rcases hv with w | w
          · omega
          · exact fun z => xB q hq c (z ▸ w)
        have v2 : v ≠ p := by
          rcases hv with w | w
          · omega
          · have := (i3 v w).1; omega
        rw [zn_un v2, zn_un v1]
      · have v2 : v ≠ p := by
          rcases hv with w | w
          · have := (i3 v w).1; omega
          · omega
        rw [zn_un v2]
  · intro v hv
    rcases List.mem_cons.mp hv with w | w
    · rw [w]
      refine ⟨hx.1, hx.2.1, fun q hq => ?_⟩
      by_cases c : q = p
      · subst c
        rw [zn_us]; exact List.not_mem_nil
      · rw [zn_un c]; exact xB q hq c
    · obtain ⟨w1, w2, w3⟩ := h3 v w
      refine ⟨w1, w2, fun q hq => ?_⟩
      by_cases c : q = p
      · subst c
        rw [zn_us]; exact List.not_mem_nil
      · rw [zn_un c]; exact w3 q hq
  · refine ⟨?_, zx_fcf _ (fun v hv => ?_) h5⟩
    · rw [zn_un (by omega), zn_us]; exact h4
    · have v1 : v ≠ x := fun z => xF (z ▸ hv)
      have v2 : v ≠ p := by have := (h3 v hv).1; omega
      rw [zn_un v2, zn_un v1]
  · rw [zx_ulen]
    have t : zx_su (zn_u (fun q => (B q).length) p ([] : List Nat).length) 32 + (B p).length = zx_su (fun q => (B q).length) 32 + ([] : List Nat).length := zx_suu (f := fun q => (B q).length) 32 hp
    rw [e] at t
    have t1 : [x].length = 1 := rfl
    have t2 : ([] : List Nat).length = 0 := rfl
    rw [t1, t2] at t
    rw [t2]
    omega
  · have t := zx_sul (f := fun q => (B q).length) 32 p hp
    rw [← h6] at t
    have t' : (B p).length ≤ st := t
    rw [e] at t'
    have t1 : [x].length = 1 := rfl
    rw [t1] at t'
    rw [List.length_cons]; omega
  · intro v hv
    obtain ⟨w1, w2⟩ := h8 v hv
    refine ⟨?_, ?_⟩
    · by_cases c : v = p
      · rw [c, zn_us]; omega
      · rw [zn_un c]
        by_cases d : v = x
        · rw [d, zn_us]; exact hfn
        · rw [zn_un d]; exact w1
    · by_cases c : v = p
      · rw [c, zn_us]; omega
      · rw [zn_un c]; exact w2
end
section
theorem zx_lke {na nb na' nb' : Nat → Nat} {z : Nat} : ∀ (l : List Nat) (a x : Nat), zx_lk na nb a l x → (∀ v, v = a ∨ v ∈ l → v ≠ l.getLastD a → na' v = na v) → na' (l.getLastD a) = z →
    (∀ v ∈ l, nb' v = nb v) → nb' z = l.getLastD a → (a :: l).Nodup → zx_lk na' nb' a l z
  | [], a, x, h, h1, h2, h3, h4, hn => ⟨h2, h4⟩
  | w :: t, a, x, h, h1, h2, h3, h4, hn => by
    rw [List.getLastD_cons] at h1 h2 h4
    have hn' := List.nodup_cons.mp hn
    refine ⟨?_, ?_, zx_lke t w x h.2.2 (fun v hv => h1 v (Or.inr (List.mem_cons.mpr hv))) h2 (fun v hv => h3 v (List.mem_cons_of_mem _ hv)) h4 hn'.2⟩
    · rw [h1 a (Or.inl rfl) (fun e => hn'.1 (by rw [e]; exact zl_gl t w))]; exact h.1
    · rw [h3 w List.mem_cons_self]; exact h.2.1
/-- the body of p in the place of the node x -/
theorem zx_exp {na nb ow ow' bl bl' : Nat → Nat} {fn st : Nat} {B : Nat → List Nat} {F : List Nat} {g p x : Nat} {l1 l2 : List Nat} (h : zx_ST na nb ow bl fn st B F) (hg : g < 32) (hp : p < 32) (hgp : g ≠ p)
    (e : B g = l1 ++ x :: l2) (ne : B p ≠ []) (ho1 : ∀ v ∈ B p, ow' v = g) (ho2 : ∀ v, v ∉ B p → ow' v = ow v)
    (hb1 : bl' g = bl g - 1 + bl p) (hb2 : bl' p = 0) (hb3 : ∀ q, q ≠ g → q ≠ p → bl' q = bl q) :
    zx_ST (zn_u (zn_u (zn_u (zn_u na x fn) (nb x) (na p)) (nb p) (na x)) p p) (zn_u (zn_u (zn_u nb (na p) (nb x)) (na x) (nb p)) p p) ow' bl' x (st - 1) (zn_u (zn_u B g (l1 ++ B p ++ l2)) p []) (x :: F) := by
  obtain ⟨h1, h2, h3, h4, h5, h6, h7, h8⟩ := h
  obtain ⟨g1, g2, g3, g4⟩ := h1 g hg
  obtain ⟨p1, p2, p3, p4⟩ := h1 p hp
  rw [e] at g1 g2 g3 g4
  have hx := g3 x (by simp)
  obtain ⟨k1, k2⟩ := (zx_lka _ _ _ _ _).mp g1
  have hl : nb x = l1.getLastD g := (zx_lkh _ _ _ k1).2
  have hrt : na x = l2.headD g := (zx_lkh _ _ _ k2).1
  have nd := List.nodup_append.mp g2
  have nd2 := List.nodup_cons.mp nd.2.1
  have x1 : x ∉ l1 := fun z => nd.2.2 x z x (by simp) rfl
  have x2 : x ∉ l2 := nd2.1
  have xB : ∀ q, q < 32 → q ≠ g → x ∉ B q := fun q hq c z => c ((((h1 q hq).2.2.1 x z).2.2).symm.trans hx.2.2)
  have xF : x ∉ F := fun z => (h3 x z).2.2 g hg (by rw [e]; simp)
  have pB : ∀ q, q < 32 → q ≠ p → ∀ v ∈ B p, v ∉ B q := fun q hq c v hv z => c ((((h1 q hq).2.2.1 v z).2.2).symm.trans (p3 v hv).2.2)
  have hfn : fn < 128 := by
    rw [h4]
    cases F with
    | nil => exact (by decide : (0 : Nat) < 128)
    | cons a b => exact (h3 a List.mem_cons_self).2.1
  obtain ⟨f, t, ep⟩ : ∃ f t, B p = f :: t := by
    cases q : B p with
    | nil => exact absurd q ne
    | cons f t => exact ⟨f, t, rfl⟩
  rw [ep] at p1 p2 p3 p4 pB ho1 ho2
  obtain ⟨m1, m2, m3⟩ := p1
  have hla : nb p = t.getLastD f := (zx_lkh _ _ _ m3).2
  have hlm : nb p ∈ f :: t := by rw [hla]; exact zl_gl t f
  have hf3 := p3 f (by simp)
  have hlast3 := p3 (nb p) hlm
  -- the four nodes at the seams
  have lm : nb x = g ∨ nb x ∈ l1 := by rw [hl]; exact List.mem_cons.mp (zl_gl l1 g)
  have rm : na x = g ∨ na x ∈ l2 := by
    rw [hrt]
    cases l2 with
    | nil => exact Or.inl rfl
    | cons a b => exact Or.inr List.mem_cons_self
  have gl : ∀ v, v ∈ l1 ∨ v ∈ l2 → 32 ≤ v ∧ v < 128 ∧ ow v = g ∧ v ≠ x ∧ v ∉ f :: t := by
    intro v hv
    have hm : v ∈ B g := by rw [e]; rcases hv with w | w <;> simp [w]
    have q := g3 v (by rw [← e]; exact hm)
    refine ⟨q.1, q.2.1, q.2.2, ?_, fun z => pB g hg hgp v z hm⟩
    intro z
    rcases hv with w | w
    · exact x1 (z ▸ w)
    · exact x2 (z ▸ w)
  have lP : nb x ∉ f :: t := by
    rcases lm with w | w
    · rw [w]; intro z; have := (p3 g z).1; omega
    · exact (gl _ (Or.inl w)).2.2.2.2
  have lx : nb x ≠ x ∧ nb x ≠ p ∧ nb x ≠ nb p := by
    refine ⟨?_, ?_, fun z => lP (by rw [z]; exact hlm)⟩
    · rcases lm with w | w
      · omega
      · exact (gl _ (Or.inl w)).2.2.2.1
    · rcases lm with w | w
      · omega
      · have := (gl _ (Or.inl w)).1; omega
  have rP : na x ∉ f :: t := by
    rcases rm with w | w
    · rw [w]; intro z; have := (p3 g z).1; omega
    · exact (gl _ (Or.inr w)).2.2.2.2
  have rx : na x ≠ p := by
    rcases rm with w | w
    · omega
    · have := (gl _ (Or.inr w)).1; omega
  have xP : x ∉ f :: t := by rw [← ep]; exact xB p hp (fun z => hgp z.symm)
  -- the new links, read off
  have A1 : ∀ v, v ≠ x → v ≠ nb x → v ≠ nb p → v ≠ p → zn_u (zn_u (zn_u (zn_u na x fn) (nb x) (na p)) (nb p) (na x)) p p v = na v := by
    intro v v1 v2 v3 v4
    rw [zn_un v4, zn_un v3, zn_un v2, zn_un v1]
  have A2 : zn_u (zn_u (zn_u (zn_u na x fn) (nb x) (na p)) (nb p) (na x)) p p (nb x) = f := by
    rw [zn_un lx.2.1, zn_un lx.2.2, zn_us]; exact m1
  have A3 : zn_u (zn_u (zn_u (zn_u na x fn) (nb x) (na p)) (nb p) (na x)) p p (nb p) = na x := by
    rw [zn_un (by omega), zn_us]
  have C1 : ∀ v, v ≠ f → v ≠ na x → v ≠ p → zn_u (zn_u (zn_u nb (na p) (nb x)) (na x) (nb p)) p p v = nb v := by
    intro v v1 v2 v3
    rw [zn_un v3, zn_un v2, m1, zn_un v1]
  have C2 : zn_u (zn_u (zn_u nb (na p) (nb x)) (na x) (nb p)) p p f = nb x := by
    rw [zn_un (by omega), zn_un (fun z : f = na x => rP (by rw [← z]; simp)), m1, zn_us]
  have C3 : zn_u (zn_u (zn_u nb (na p) (nb x)) (na x) (nb p)) p p (na x) = nb p := by
    rw [zn_un rx, zn_us]
  refine ⟨fun q hq => ?_, List.nodup_cons.mpr ⟨xF, h2⟩, ?_, rfl, ?_, ?_, ?_, ?_⟩
  · by_cases cp : q = p
    · subst cp
      rw [zn_us]
      refine ⟨⟨zn_us, zn_us⟩, List.nodup_nil, ?_, hb2⟩
      intro v hv; cases hv
    · rw [zn_un cp]
      by_cases c : q = g
      · subst c
        rw [zn_us, ep]
        have ndl : (q :: l1).Nodup := List.nodup_cons.mpr ⟨fun z => by have := (gl q (Or.inl z)).1; omega, nd.1⟩
        refine ⟨?_, ?_, ?_, ?_⟩
        · rw [List.append_assoc]
          show zx_lk _ _ q (l1 ++ f :: (t ++ l2)) q
          rw [zx_lka]
          refine ⟨?_, ?_⟩
          · refine zx_lke l1 q x k1 (fun v hv hne => ?_) ?_ (fun v hv => ?_) ?_ ndl
            · rw [← hl] at hne
              refine A1 v ?_ hne ?_ ?_
              · rcases hv with w | w
                · omega
                · exact (gl v (Or.inl w)).2.2.2.1
              · rcases hv with w | w
                · omega
                · exact fun z => (gl v (Or.inl w)).2.2.2.2 (by rw [z]; exact hlm)
              · rcases hv with w | w
                · omega
                · have := (gl v (Or.inl w)).1; omega
            · rw [← hl]; exact A2
            · refine C1 v (fun z => (gl v (Or.inl hv)).2.2.2.2 (by rw [z]; simp)) ?_ (by have := (gl v (Or.inl hv)).1; omega)
              intro z
              rcases rm with w | w
              · have := (gl v (Or.inl hv)).1; omega
              · exact nd.2.2 v hv (na x) (by simp [w]) z
            · rw [← hl]; exact C2
          · have part : zx_lk (zn_u (zn_u (zn_u (zn_u na x fn) (nb x) (na p)) (nb p) (na x)) p p) (zn_u (zn_u (zn_u nb (na p) (nb x)) (na x) (nb p)) p p) f t (na x) := by
              refine zx_lke t f p m3 (fun v hv hne => ?_) ?_ (fun v hv => ?_) ?_ p2
              · rw [← hla] at hne
                have hv' : v ∈ f :: t := List.mem_cons.mpr hv
                have hv3 := p3 v hv'
                exact A1 v (fun z => xP (z ▸ hv')) (fun z => lP (z ▸ hv')) hne (by omega)
              · rw [← hla]; exact A3
              · have hv' : v ∈ f :: t := List.mem_cons_of_mem _ hv
                have hv3 := p3 v hv'
                exact C1 v (fun z => (List.nodup_cons.mp p2).1 (z ▸ hv)) (fun z => rP (z ▸ hv')) (by omega)
              · rw [← hla]; exact C3
            cases l2 with
            | nil =>
              rw [List.append_nil]
              have w : na x = q := hrt
              rw [w] at part ⊢
              exact part
            | cons a b =>
              have w : na x = a := hrt
              rw [zx_lka]
              rw [w] at part C1 A1 ⊢
              refine ⟨part, ?_⟩
              have k3 := k2.2.2
              have nda := List.nodup_cons.mp nd2.2
              refine zx_lkf _ _ _ (fun v hv => ?_) (fun v hv => ?_) k3
              · have hv' : v ∈ a :: b := List.mem_cons.mpr hv
                have q3 := gl v (Or.inr hv')
                refine A1 v q3.2.2.2.1 ?_ (fun z => q3.2.2.2.2 (by rw [z]; exact hlm)) (by omega)
                intro z
                rcases lm with u | u
                · omega
                · exact nd.2.2 (nb x) u v (List.mem_cons_of_mem _ hv') z.symm
              · rcases hv with u | u
                · have q3 := gl v (Or.inr (List.mem_cons_of_mem _ u))
                  exact C1 v (fun z => q3.2.2.2.2 (by rw [z]; simp)) (fun z => nda.1 (z ▸ u)) (by omega)
                · have q3 := gl a (Or.inr List.mem_cons_self)
                  exact C1 v (by omega) (by omega) (by omega)
        · rw [List.append_assoc, List.nodup_append]
          refine ⟨nd.1, ?_, ?_⟩
          · rw [List.nodup_append]
            refine ⟨p2, nd2.2, ?_⟩
            intro a ha b hb z
            exact (gl b (Or.inr hb)).2.2.2.2 (z ▸ ha)
          · intro a ha b hb z
            rcases List.mem_append.mp hb with w | w
            · exact (gl a (Or.inl ha)).2.2.2.2 (z ▸ w)
            · exact nd.2.2 a ha b (by simp [w]) z
        · intro v hv
          rcases List.mem_append.mp hv with w | w
          · rcases List.mem_append.mp w with w | w
            · have q3 := gl v (Or.inl w)
              exact ⟨q3.1, q3.2.1, by rw [ho2 v q3.2.2.2.2]; exact q3.2.2.1⟩
            · have q3 := p3 v w
              exact ⟨q3.1, q3.2.1, ho1 v w⟩
          · have q3 := gl v (Or.inr w)
            exact ⟨q3.1, q3.2.1, by rw [ho2 v q3.2.2.2.2]; exact q3.2.2.1⟩
        · rw [hb1, g4, p4]
          simp only [List.length_append, List.length_cons]
          omega
      · rw [zn_un c, hb3 q c cp]
        obtain ⟨i1, i2, i3, i4⟩ := h1 q hq
        have av : ∀ v, v = q ∨ v ∈ B q → v ≠ x ∧ v ≠ nb x ∧ v ≠ nb p ∧ v ≠ p ∧ v ≠ f ∧ v ≠ na x := by
          intro v hv
          have av1 : ∀ w, w ∈ f :: t → v ≠ w := by
            intro w hw z
            have w3 := p3 w hw
            rcases hv with u | u
            · omega
            · exact cp ((i3 v u).2.2.symm.trans (by rw [z]; exact w3.2.2))
          have av2 : ∀ w, w = g ∨ (w ∈ l1 ∨ w ∈ l2) → v ≠ w := by
            intro w hw z
            rcases hw with hw | hw
            · rcases hv with u | u
              · omega
              · have := (i3 v u).1; omega
            · have w3 := gl w hw
              rcases hv with u | u
              · omega
              · exact c ((i3 v u).2.2.symm.trans (by rw [z]; exact w3.2.2.1))
          refine ⟨?_, av2 _ (lm.elim Or.inl (fun u => Or.inr (Or.inl u))), av1 _ hlm, ?_, av1 _ (by simp), av2 _ (rm.elim Or.inl (fun u => Or.inr (Or.inr u)))⟩
          · rcases hv with u | u
            · omega
            · exact fun z => xB q hq c (z ▸ u)
          · rcases hv with u | u
            · omega
            · have := (i3 v u).1; omega
        refine ⟨zx_lkf _ _ _ (fun v hv => ?_) (fun v hv => ?_) i1, i2, fun v hv => ?_, i4⟩
        · obtain ⟨a1, a2, a3, a4, a5, a6⟩ := av v hv
          exact A1 v a1 a2 a3 a4
        · obtain ⟨a1, a2, a3, a4, a5, a6⟩ := av v (hv.elim Or.inr Or.inl)
          exact C1 v a5 a6 a4
        · rw [ho2 v (fun z => pB q hq cp v z hv)]; exact i3 v hv
  · intro v hv
    have step : ∀ q, q < 32 → v ∉ l1 → v ∉ l2 → v ∉ f :: t → (q ≠ g → v ∉ B q) → v ∉ zn_u (zn_u B g (l1 ++ B p ++ l2)) p [] q := by
      intro q hq n1 n2 n3 n4
      by_cases cp : q = p
      · rw [cp, zn_us]; exact List.not_mem_nil
      · rw [zn_un cp]
        by_cases c : q = g
        · rw [c, zn_us, ep]
          intro z
          rcases List.mem_append.mp z with w | w
          · rcases List.mem_append.mp w with w | w
            · exact n1 w
            · exact n3 w
          · exact n2 w
        · rw [zn_un c]; exact n4 c
    rcases List.mem_cons.mp hv with w | w
    · rw [w] at step ⊢
      exact ⟨hx.1, hx.2.1, fun q hq => step q hq x1 x2 xP (xB q hq)⟩
    · obtain ⟨w1, w2, w3⟩ := h3 v w
      have wg := w3 g hg
      rw [e] at wg
      have wp := w3 p hp
      rw [ep] at wp
      exact ⟨w1, w2, fun q hq => step q hq (fun z => wg (by simp [z])) (fun z => wg (by simp [z])) wp (fun _ => w3 q hq)⟩
  · refine ⟨?_, zx_fcf _ (fun v hv => ?_) h5⟩
    · rw [zn_un (by omega), zn_un (fun z : x = nb p => xP (by rw [z]; exact hlm)), zn_un (fun z : x = nb x => lx.1 z.symm), zn_us]; exact h4
    · obtain ⟨w1, w2, w3⟩ := h3 v hv
      have wg := w3 g hg
      rw [e] at wg
      have wp := w3 p hp
      rw [ep] at wp
      refine A1 v (fun z => xF (z ▸ hv)) ?_ (fun z => wp (by rw [z]; exact hlm)) (by omega)
      intro z
      rcases lm with u | u
      · omega
      · exact wg (by rw [z]; simp [u])
  · rw [zx_ulen, zx_ulen]
    have t1 : zx_su (zn_u (fun q => (B q).length) g (l1 ++ B p ++ l2).length) 32 + (B g).length = zx_su (fun q => (B q).length) 32 + (l1 ++ B p ++ l2).length := zx_suu (f := fun q => (B q).length) 32 hg
    have t2 : zx_su (zn_u (zn_u (fun q => (B q).length) g (l1 ++ B p ++ l2).length) p ([] : List Nat).length) 32 + zn_u (fun q => (B q).length) g (l1 ++ B p ++ l2).length p = zx_su (zn_u (fun q => (B q).length) g (l1 ++ B p ++ l2).length) 32 + ([] : List Nat).length := zx_suu 32 hp
    rw [zn_un (fun z => hgp z.symm)] at t2
    have t2' : zx_su (zn_u (zn_u (fun q => (B q).length) g (l1 ++ B p ++ l2).length) p ([] : List Nat).length) 32 + (B p).length = zx_su (zn_u (fun q => (B q).length) g (l1 ++ B p ++ l2).length) 32 + ([] : List Nat).length := t2
    have t3 : (B g).length = l1.length + (l2.length + 1) := by rw [e, List.length_append, List.length_cons]
    have t4 : (l1 ++ B p ++ l2).length = l1.length + (B p).length + l2.length := by rw [List.length_append, List.length_append]
    have t5 : ([] : List Nat).length = 0 := rfl
    rw [t4] at t1 t2' ⊢
    rw [t5] at t2' ⊢
    omega
  · have u1 := zx_sul (f := fun q => (B q).length) 32 g hg
    rw [← h6] at u1
    have u1' : (B g).length ≤ st := u1
    have t3 : (B g).length = l1.length + (l2.length + 1) := by rw [e, List.length_append, List.length_cons]
    rw [List.length_cons]; omega
  · intro v hv
    obtain ⟨w1, w2⟩ := h8 v hv
    have bp := h8 p (by omega)
    have bx := h8 x (by omega)
    refine ⟨?_, ?_⟩
    · by_cases c : v = p
      · rw [c, zn_us]; omega
      · rw [zn_un c]
        by_cases d : v = nb p
        · rw [d, zn_us]; exact bx.1
        · rw [zn_un d]
          by_cases i : v = nb x
          · rw [i, zn_us]; exact bp.1
          · rw [zn_un i]
            by_cases j : v = x
            · rw [j, zn_us]; exact hfn
            · rw [zn_un j]; exact w1
    · by_cases c : v = p
      · rw [c, zn_us]; omega
      · rw [zn_un c]
        by_cases d : v = na x
        · rw [d, zn_us]; exact bp.2
        · rw [zn_un d]
          by_cases i : v = na p
          · rw [i, zn_us]; exact bx.2
          · rw [zn_un i]; exact w2
end
section
/-! ===== X's small operations on bodies ===== -/
def zx_XC (B : Nat → List Nat) (F : List Nat) (fn st : Nat) (lo : Int64) (na nb sy ow bl sh sc sn sv dh dc dn dv : Nat → Nat) (rR : Nat → Int64) (rT : Int64) : Prop :=
  zx_ST na nb ow bl fn st B F ∧ (∀ x, zx_U B x → sy x < 48) ∧ zs_SI (zx_U B) sy sh sc sn sv lo ∧ zd_DI (fun x => zx_U B x ∧ 32 ≤ na x) na sy dh dc dn dv rR rT
theorem zx_Uapp {B : Nat → List Nat} {r x v : Nat} (hr : r < 32) : zx_U (zn_u B r (B r ++ [x])) v ↔ (zx_U B v ∨ v = x) := by
  constructor
  · rintro ⟨q, hq, hm⟩
    by_cases c : q = r
    · rw [c, zn_us] at hm
      rcases List.mem_append.mp hm with w | w
      · exact Or.inl ⟨r, hr, w⟩
      · exact Or.inr (by simpa using w)
    · rw [zn_un c] at hm
      exact Or.inl ⟨q, hq, hm⟩
  · rintro (⟨q, hq, hm⟩ | w)
    · by_cases c : q = r
      · exact ⟨r, hr, by rw [zn_us]; exact List.mem_append_left _ (c ▸ hm)⟩
      · exact ⟨q, hq, by rw [zn_un c]; exact hm⟩
    · exact ⟨r, hr, by rw [zn_us, w]; simp⟩
section
variable {xc1 xc2 xc3 xc4 xc5 xc6 xrd xod xtd : Int32} {xli xle xsz xcu xfn xst xrt : Nat} {xlv xhr xlo xrT : Int64} {na nb sy ow bl sp fT lT sh sc sn sv dh dc dn dv pa de oc wa me qu wo co : Nat → Nat} {rR : Nat → Int64} {te : Nat → Int32}
theorem zx_join {post : SX → Prop} {l r : Nat} (hl : l < 128) (hr : r < 128) (h : post (xc1, xc2, xc3, xc4, xc5, xc6, nI xli, nI xle, nI xsz, nI xcu, nI xfn, nI xst, xlv, xhr, xlo, nI xrt, xrT, xrd, xod, xtd, zn_A (zn_u na l r), zn_A (zn_u nb r l), zn_A sy, zn_A ow, zn_A bl, zn_A sp, zn_A fT, zn_A lT, zn_A sh, zn_A sc, zn_A sn, zn_A sv, zn_A dh, zn_A dc, zn_A dn, zn_A dv, rR, zn_A pa, zn_A de, zn_A oc, zn_A wa, te, zn_A me, zn_A qu, zn_A wo, zn_A co)) : wpX_join post (xc1, xc2, xc3, xc4, xc5, xc6, nI xli, nI xle, nI xsz, nI xcu, nI xfn, nI xst, xlv, xhr, xlo, nI xrt, xrT, xrd, xod, xtd, zn_A na, zn_A nb, zn_A sy, zn_A ow, zn_A bl, zn_A sp, zn_A fT, zn_A lT, zn_A sh, zn_A sc, zn_A sn, zn_A sv, zn_A dh, zn_A dc, zn_A dn, zn_A dv, rR, zn_A pa, zn_A de, zn_A oc, zn_A wa, te, zn_A me, zn_A qu, zn_A wo, zn_A co) (nI l) (nI r) := by
  unfold wpX_join
  exact ⟨vp_in_nI hl (by decide), nm_r (zn_up (by omega)) ⟨vp_in_nI hr (by decide), nm_r (zn_up (by omega)) h⟩⟩
theorem zx_retire {post : SX → Prop} {p : Nat} (hp : p < 32) (hrt : 1 ≤ xrt)
    (K : ∀ lv' hr' lo' : Int64, (∀ i, i < 64 → zb_t lv' i = (zb_t xlv i && !decide (p = i))) → (∀ i, i < 64 → zb_t hr' i = (zb_t xhr i && !decide (p = i))) → (∀ i, i < 64 → zb_t lo' i = (zb_t xlo i && !decide (p = i))) →
      post (xc1, xc2, xc3, xc4, xc5, xc6, nI xli, nI xle, nI xsz, nI xcu, nI xfn, nI xst, lv', hr', lo', nI (xrt - 1), xrT, xrd, xod, xtd, zn_A (zn_u na p p), zn_A (zn_u nb p p), zn_A sy, zn_A ow, zn_A (zn_u bl p 0), zn_A sp, zn_A fT, zn_A lT, zn_A sh, zn_A sc, zn_A sn, zn_A sv, zn_A dh, zn_A dc, zn_A dn, zn_A dv, rR, zn_A pa, zn_A de, zn_A oc, zn_A wa, te, zn_A me, zn_A qu, zn_A wo, zn_A co)) : wpX_retire post (xc1, xc2, xc3, xc4, xc5, xc6, nI xli, nI xle, nI xsz, nI xcu, nI xfn, nI xst, xlv, xhr, xlo, nI xrt, xrT, xrd, xod, xtd, zn_A na, zn_A nb, zn_A sy, zn_A ow, zn_A bl, zn_A sp, zn_A fT, zn_A lT, zn_A sh, zn_A sc, zn_A sn, zn_A sv, zn_A dh, zn_A dc, zn_A dn, zn_A dv, rR, zn_A pa, zn_A de, zn_A oc, zn_A wa, te, zn_A me, zn_A qu, zn_A wo, zn_A co) (nI p) := by
  unfold wpX_retire
  refine nm_e (nm_e (nm_e (nm_e ⟨vp_in_nI (by omega) (by decide), nm_r (zn_up (by omega)) ⟨vp_in_nI (by omega) (by decide), nm_r (zn_up (by omega)) ⟨vp_in_nI hp (by decide), nm_r (zn_up (v := 0) (by omega)) (nm_r (e' := nI (xrt - 1)) ?_ ?_)⟩⟩⟩)))
  · rw [show (1 : Int32) = nI 1 from rfl, pk_sub hrt]
  · exact K _ _ _ (fun i hi => zb_an (by omega) hi) (fun i hi => zb_an (by omega) hi) (fun i hi => zb_an (by omega) hi)
theorem zx_disc {post : SX → Prop} {U : Nat → Prop} {x r : Nat} (hx : 32 ≤ x ∧ x < 128) (hid : sy x < 48) (hU : U x) (ho : ow x = r) (hr : r < 32) (hb : 1 ≤ bl r) (hb2 : bl r < 2 ^ 31) (hst : 1 ≤ xst) (h : zs_SI U sy sh sc sn sv xlo)
    (K : ∀ (sh' sc' sn' sv' : Nat → Nat) (lo' : Int64), zs_SI (fun y => U y ∧ y ≠ x) sy sh' sc' sn' sv' lo' →
      post (xc1, xc2, xc3, xc4, xc5, xc6, nI xli, nI xle, nI xsz, nI xcu, nI x, nI (xst - 1), xlv, xhr, lo', nI xrt, xrT, xrd, xod, xtd, zn_A (zn_u na x xfn), zn_A nb, zn_A sy, zn_A ow, zn_A (zn_u bl r (bl r - 1)), zn_A sp, zn_A fT, zn_A lT, zn_A sh', zn_A sc', zn_A sn', zn_A sv', zn_A dh, zn_A dc, zn_A dn, zn_A dv, rR, zn_A pa, zn_A de, zn_A oc, zn_A wa, te, zn_A me, zn_A qu, zn_A wo, zn_A co)) :
    wpX_discard post (xc1, xc2, xc3, xc4, xc5, xc6, nI xli, nI xle, nI xsz, nI xcu, nI xfn, nI xst, xlv, xhr, xlo, nI xrt, xrT, xrd, xod, xtd, zn_A na, zn_A nb, zn_A sy, zn_A ow, zn_A bl, zn_A sp, zn_A fT, zn_A lT, zn_A sh, zn_A sc, zn_A sn, zn_A sv, zn_A dh, zn_A dc, zn_A dn, zn_A dv, rR, zn_A pa, zn_A de, zn_A oc, zn_A wa, te, zn_A me, zn_A qu, zn_A wo, zn_A co) (nI x) := by
  unfold wpX_discard
  refine zs_drop hx hid hU h ?_
  intro sh' sc' sn' sv' lo' h'
  have e1 : zn_A ow (nI x).toNatClampNeg = nI r := by rw [zn_rd (by omega), ho]
  dsimp only
  rw [e1]
  refine ⟨vp_in_nI hx.2 (by decide), vp_in_nI hr (by decide), vp_in_nI hr (by decide), nm_r (e' := zn_A (zn_u bl r (bl r - 1))) ?_ (nm_r (e' := nI (xst - 1)) ?_ ⟨vp_in_nI hx.2 (by decide), nm_r (zn_up (by omega)) ?_⟩)⟩
  · rw [zn_rd (by omega), show (1 : Int32) = nI 1 from rfl, pk_sub hb, zn_up (by omega)]
  · rw [show (1 : Int32) = nI 1 from rfl, pk_sub hst]
  · exact K _ _ _ _ _ h'
theorem zx_append {post : SX → Prop} {B : Nat → List Nat} {F : List Nat} {r id : Nat} (hr : r < 32) (hid : id < 48) (hst : xst < 96)
    (h : zx_XC B F xfn xst xlo na nb sy ow bl sh sc sn sv dh dc dn dv rR xrT)
    (K : ∀ (x fn' : Nat) (F' : List Nat) (na' nb' ow' bl' sh' sc' sn' sv' dh' dc' dn' dv' : Nat → Nat) (lo' rT' : Int64) (rR' : Nat → Int64), ¬ zx_U B x →
      zx_XC (zn_u B r (B r ++ [x])) F' fn' (xst + 1) lo' na' nb' (zn_u sy x id) ow' bl' sh' sc' sn' sv' dh' dc' dn' dv' rR' rT' →
      post (xc1, xc2, xc3, xc4, xc5, xc6, nI xli, nI xle, nI xsz, nI xcu, nI fn', nI (xst + 1), xlv, xhr, lo', nI xrt, rT', xrd, xod, xtd, zn_A na', zn_A nb', zn_A (zn_u sy x id), zn_A ow', zn_A bl', zn_A sp, zn_A fT, zn_A lT, zn_A sh', zn_A sc', zn_A sn', zn_A sv', zn_A dh', zn_A dc', zn_A dn', zn_A dv', rR', zn_A pa, zn_A de, zn_A oc, zn_A wa, te, zn_A me, zn_A qu, zn_A wo, zn_A co)) :
    wpX_appendSymbol post (xc1, xc2, xc3, xc4, xc5, xc6, nI xli, nI xle, nI xsz, nI xcu, nI xfn, nI xst, xlv, xhr, xlo, nI xrt, xrT, xrd, xod, xtd, zn_A na, zn_A nb, zn_A sy, zn_A ow, zn_A bl, zn_A sp, zn_A fT, zn_A lT, zn_A sh, zn_A sc, zn_A sn, zn_A sv, zn_A dh, zn_A dc, zn_A dn, zn_A dv, rR, zn_A pa, zn_A de, zn_A oc, zn_A wa, te, zn_A me, zn_A qu, zn_A wo, zn_A co) (nI r) (nI id) := by
  obtain ⟨hS, hsy, hI, hD⟩ := h
  have hS' := hS
  obtain ⟨h1, h2, h3, h4, h5, h6, h7, h8⟩ := hS'
  cases F with
  | nil => simp at h7; omega
  | cons x F' =>
    have ex : xfn = x := h4
    subst ex
    obtain ⟨x32, x128, xB⟩ := h3 xfn List.mem_cons_self
    have hbl : bl r < 2 ^ 31 := by
      rw [(h1 r hr).2.2.2]
      have := zx_sul (f := fun q => (B q).length) 32 r hr
      have this' : (B r).length ≤ zx_su (fun q => (B q).length) 32 := this
      omega
    have hnx : ¬ zx_U B xfn := fun ⟨q, hq, hm⟩ => xB q hq hm
    have hlast := h8 r (by omega)
    have hS2 := zx_app hS hr
    have hnn := zx_nn hS (x := r) (Or.inl hr)
    have hna2 : ∀ y, y < 128 → zn_u (zn_u na (nb r) xfn) xfn r y < 128 := fun y hy => (hS2.2.2.2.2.2.2.2 y hy).1
    have hlx : nb r ≠ xfn := by
      intro z
      rcases hnn.2.2.2 with w | w
      · omega
      · exact hnx (z ▸ w)
    have eP : ∀ y, ((zx_U B y ∧ 32 ≤ na y) ∨ (y = nb r ∧ 32 ≤ nb r ∧ 32 ≤ zn_u (zn_u na (nb r) xfn) xfn r (nb r))) ↔ (zx_U (zn_u B r (B r ++ [xfn])) y ∧ 32 ≤ zn_u (zn_u na (nb r) xfn) xfn r y) := by
      intro y
      rw [zx_Uapp hr]
      by_cases c : y = xfn
      · subst c
        rw [zn_us]
        constructor
        · rintro (w | w)
          · exact absurd w.1 hnx
          · exact absurd w.1.symm hlx
        · intro w; omega
      · rw [zn_un c, zn_un hlx, zn_us]
        by_cases d : y = nb r
        · rw [d, zn_us]
          rcases hnn.2.2.2 with w | w
          · constructor
            · rintro (z | z)
              · have := (zx_Ub hS z.1).1; omega
              · omega
            · rintro ⟨z | z, _⟩
              · have := (zx_Ub hS z).1; omega
              · exact absurd z hlx
          · constructor
            · intro _; exact ⟨Or.inl w, x32⟩
            · intro _; exact Or.inr ⟨rfl, (zx_Ub hS w).1, x32⟩
        · rw [zn_un d]
          constructor
          · rintro (z | z)
            · exact ⟨Or.inl z.1, z.2⟩
            · exact absurd z.1 d
          · rintro ⟨z | z, w⟩
            · exact Or.inl ⟨z, w⟩
            · exact absurd z c
    unfold wpX_appendSymbol
    refine ⟨vp_in_nI (by omega) (by decide), nm_r (zn_rd (by omega)) ⟨vp_in_nI x128 (by decide), nm_r (zn_rd (by omega)) (nm_r (nI_1 _) ⟨vp_in_nI x128 (by decide), nm_r (zn_up (by omega)) ⟨vp_in_nI hr (by decide), vp_in_nI hr (by decide), nm_r (e' := zn_A (zn_u bl r (bl r + 1))) ?_ ?_⟩⟩)⟩⟩
    · rw [zn_rd (by omega), nI_1, zn_up (by omega)]
    · refine zx_join hlast.2 x128 (zx_join x128 (by omega) ?_)
      refine zs_add ⟨x32, x128⟩ hid hnx hI ?_
      intro sh' sc' sn' sv' lo' hI'
      have hD' : zd_DI (fun y => zx_U B y ∧ 32 ≤ na y) (zn_u (zn_u na (nb r) xfn) xfn r) (zn_u sy xfn id) dh dc dn dv rR xrT := by
        refine zd_fr hD ?_
        intro y hy
        have yx : y ≠ xfn := fun z => hnx (z ▸ hy.1)
        have yl : y ≠ nb r := by
          intro z
          have := hnn.2.1
          rw [← z] at this
          omega
        have nx : na y ≠ xfn := by
          intro z
          rcases (zx_nn hS (Or.inr hy.1)).2.2.1 with w | w
          · omega
          · exact hnx (z ▸ w)
        exact ⟨by rw [zn_un yx, zn_un yl], zn_un yx, zn_un nx⟩
      refine zd_add hlast.2 hna2 ?_ ?_ hD' ?_
      · intro z
        have := hnn.2.1
        have w := z.2
        omega
      · intro z _
        rw [zn_un hlx, zn_un hlx, zn_us, zn_us]
        refine ⟨?_, hid⟩
        rcases hnn.2.2.2 with w | w
        · omega
        · exact hsy _ w
      · intro dh' dc' dn' dv' rR' rT' hD2
        refine K xfn _ F' _ _ _ _ _ _ _ _ _ _ _ _ _ _ _ hnx ⟨hS2, ?_, zs_cg hI' (fun y => (zx_Uapp hr).symm), zd_cg hD2 eP⟩
        intro y hy
        rcases (zx_Uapp hr).mp hy with w | w
        · rw [zn_un (fun z : y = xfn => hnx (z ▸ w))]; exact hsy y w
        · rw [w, zn_us]; exact hid
end
end
section
theorem zx_spl {na nb ow bl : Nat → Nat} {fn st : Nat} {B : Nat → List Nat} {F : List Nat} {r x : Nat} {l1 l2 : List Nat} (h : zx_ST na nb ow bl fn st B F) (hr : r < 32) (e : B r = l1 ++ x :: l2) :
    nb x = l1.getLastD r ∧ na x = l2.headD r ∧ x ∉ l1 ∧ x ∉ l2 ∧ nb x ≠ x ∧ na x ≠ x := by
  obtain ⟨g1, g2, g3, _⟩ := h.1 r hr
  rw [e] at g1 g2 g3
  obtain ⟨k1, k2⟩ := (zx_lka _ _ _ _ _).mp g1
  have q1 := (zx_lkh _ _ _ k1).2
  have q2 := (zx_lkh _ _ _ k2).1
  have nd := List.nodup_append.mp g2
  have x1 : x ∉ l1 := fun z => nd.2.2 x z x (by simp) rfl
  have x2 : x ∉ l2 := (List.nodup_cons.mp nd.2.1).1
  have hx := (g3 x (by simp)).1
  refine ⟨q1, q2, x1, x2, ?_, ?_⟩
  · rw [q1]
    intro z
    rcases List.mem_cons.mp (zl_gl l1 r) with w | w
    · omega
    · exact x1 (z ▸ w)
  · rw [q2]
    intro z
    cases l2 with
    | nil => have w : r = x := z; omega
    | cons a b => have w : a = x := z; exact x2 (by rw [w]; simp)
theorem zx_ne {na nb ow bl : Nat → Nat} {fn st : Nat} {B : Nat → List Nat} {F : List Nat} {x : Nat} (h : zx_ST na nb ow bl fn st B F) (hx : zx_U B x) : nb x ≠ x ∧ na x ≠ x := by
  obtain ⟨r, hr, hm⟩ := hx
  obtain ⟨l1, l2, e⟩ := List.append_of_mem hm
  exact (zx_spl h hr e).2.2.2.2
theorem zx_PP {na nb ow bl : Nat → Nat} {fn st : Nat} {B : Nat → List Nat} {F : List Nat} {x : Nat} (h : zx_ST na nb ow bl fn st B F) (hx : x < 32 ∨ zx_U B x) : (zx_U B x ∧ 32 ≤ na x) ↔ (32 ≤ x ∧ 32 ≤ na x) := by
  constructor
  · intro z; exact ⟨(zx_Ub h z.1).1, z.2⟩
  · intro z
    rcases hx with w | w
    · omega
    · exact ⟨w, z.2⟩
/-- bounds of the symbols at a node and behind it -/
theorem zx_sb {na nb ow bl sy : Nat → Nat} {fn st : Nat} {B : Nat → List Nat} {F : List Nat} {x : Nat} (h : zx_ST na nb ow bl fn st B F) (hsy : ∀ x, zx_U B x → sy x < 48) (hx : x < 32 ∨ zx_U B x) :
    32 ≤ x → 32 ≤ na x → sy x < 48 ∧ sy (na x) < 48 := by
  intro a b
  rcases hx with w | w
  · omega
  · refine ⟨hsy _ w, ?_⟩
    rcases (zx_nn h (Or.inr w)).2.2.1 with v | v
    · omega
    · exact hsy _ v
section
variable {xc1 xc2 xc3 xc4 xc5 xc6 xrd xod xtd : Int32} {xli xle xsz xcu xfn xst xrt : Nat} {xlv xhr xlo xrT : Int64} {na nb sy ow bl sp fT lT sh sc sn sv dh dc dn dv pa de oc wa me qu wo co : Nat → Nat} {rR : Nat → Int64} {te : Nat → Int32}
theorem zx_relabel {post : SX → Prop} {B : Nat → List Nat} {F : List Nat} {x id : Nat} (hU : zx_U B x) (hid : id < 48)
    (h : zx_XC B F xfn xst xlo na nb sy ow bl sh sc sn sv dh dc dn dv rR xrT)
    (K : ∀ (sh' sc' sn' sv' dh' dc' dn' dv' : Nat → Nat) (lo' rT' : Int64) (rR' : Nat → Int64),
      zx_XC B F xfn xst lo' na nb (zn_u sy x id) ow bl sh' sc' sn' sv' dh' dc' dn' dv' rR' rT' →
      post (xc1, xc2, xc3, xc4, xc5, xc6, nI xli, nI xle, nI xsz, nI xcu, nI xfn, nI xst, xlv, xhr, lo', nI xrt, rT', xrd, xod, xtd, zn_A na, zn_A nb, zn_A (zn_u sy x id), zn_A ow, zn_A bl, zn_A sp, zn_A fT, zn_A lT, zn_A sh', zn_A sc', zn_A sn', zn_A sv', zn_A dh', zn_A dc', zn_A dn', zn_A dv', rR', zn_A pa, zn_A de, zn_A oc, zn_A wa, te, zn_A me, zn_A qu, zn_A wo, zn_A co)) :
    wpX_relabel post (xc1, xc2, xc3, xc4, xc5, xc6, nI xli, nI xle, nI xsz, nI xcu, nI xfn, nI xst, xlv, xhr, xlo, nI xrt, xrT, xrd, xod, xtd, zn_A na, zn_A nb, zn_A sy, zn_A ow, zn_A bl, zn_A sp, zn_A fT, zn_A lT, zn_A sh, zn_A sc, zn_A sn, zn_A sv, zn_A dh, zn_A dc, zn_A dn, zn_A dv, rR, zn_A pa, zn_A de, zn_A oc, zn_A wa, te, zn_A me, zn_A qu, zn_A wo, zn_A co) (nI x) (nI id) := by
  obtain ⟨hS, hsy, hI, hD⟩ := h
  have hx := zx_Ub hS hU
  have hb := hS.2.2.2.2.2.2.2
  have hna : ∀ y, y < 128 → na y < 128 := fun y hy => (hb y hy).1
  have hl128 := (hb x hx.2.1).2
  have hnn := zx_nn hS (Or.inr hU)
  have hlg := hnn.2.2.2
  have hne := (zx_ne hS hU).1
  have hnl : na (nb x) = x := hnn.2.1
  have hsy' : ∀ y, zx_U B y → zn_u sy x id y < 48 := by
    intro y hy
    by_cases c : y = x
    · rw [c, zn_us]; exact hid
    · rw [zn_un c]; exact hsy y hy
  unfold wpX_relabel
  refine ⟨vp_in_nI hx.2.1 (by decide), nm_r (zn_rd (by omega)) ?_⟩
  refine zd_drop hl128 hna (zx_PP hS hlg) (zx_sb hS hsy hlg) hD ?_
  intro dh1 dc1 dn1 dv1 rR1 rT1 hD1
  refine zd_drop hx.2.1 hna ?_ (zx_sb hS hsy (Or.inr hU)) hD1 ?_
  · rw [← zx_PP hS (Or.inr hU)]
    exact ⟨fun z => z.1, fun z => ⟨z, fun w => hne w.symm⟩⟩
  intro dh2 dc2 dn2 dv2 rR2 rT2 hD2
  refine zs_drop ⟨hx.1, hx.2.1⟩ (hsy x hU) hU hI ?_
  intro sh1 sc1 sn1 sv1 lo1 hI1
  refine zs_add ⟨hx.1, hx.2.1⟩ hid (fun z => z.2 rfl) hI1 ?_
  intro sh2 sc2 sn2 sv2 lo2 hI2
  have hD3 := zd_fr (na' := na) (sy' := zn_u sy x id) hD2 (by
    intro y hy
    have yx : y ≠ x := hy.2
    refine ⟨rfl, zn_un yx, zn_un fun z => ?_⟩
    have := (zx_nn hS (Or.inr hy.1.1.1)).1
    rw [z] at this
    exact hy.1.2 this.symm)
  refine zd_add hl128 hna (fun z => z.1.2 rfl) (zx_sb hS hsy' hlg) hD3 ?_
  intro dh4 dc4 dn4 dv4 rR4 rT4 hD4
  refine zd_add hx.2.1 hna ?_ (zx_sb hS hsy' (Or.inr hU)) hD4 ?_
  · rintro (z | z)
    · exact z.2 rfl
    · exact hne z.1.symm
  intro dh5 dc5 dn5 dv5 rR5 rT5 hD5
  refine K _ _ _ _ _ _ _ _ _ _ _ ⟨hS, hsy', zs_cg hI2 ?_, zd_cg hD5 ?_⟩
  · intro y
    constructor
    · rintro (z | z)
      · exact z.1
      · rw [z]; exact hU
    · intro z
      by_cases c : y = x
      · exact Or.inr c
      · exact Or.inl ⟨z, c⟩
  · intro y
    constructor
    · rintro ((z | z) | z)
      · exact z.1.1
      · rw [z.1]
        exact (zx_PP hS hlg).mpr ⟨z.2.1, z.2.2⟩
      · rw [z.1]
        exact ⟨hU, z.2.2⟩
    · intro z
      by_cases c : y = x
      · exact Or.inr ⟨c, hx.1, by rw [← c]; exact z.2⟩
      · by_cases d : y = nb x
        · exact Or.inl (Or.inr ⟨d, by rw [← d]; exact (zx_Ub hS z.1).1, by rw [← d]; exact z.2⟩)
        · exact Or.inl (Or.inl ⟨⟨z, d⟩, c⟩)
end
theorem zx_Ufold {na nb ow bl : Nat → Nat} {fn st : Nat} {B : Nat → List Nat} {F : List Nat} {r x y v : Nat} {l1 l2 : List Nat} (h : zx_ST na nb ow bl fn st B F) (hr : r < 32) (e : B r = l1 ++ x :: y :: l2) :
    zx_U (zn_u B r (l1 ++ x :: l2)) v ↔ (zx_U B v ∧ v ≠ y) := by
  have hy : y ∈ B r := by rw [e]; simp
  have ho := ((h.1 r hr).2.2.1 y hy).2.2
  have nd := (h.1 r hr).2.1
  rw [e] at nd
  have nd1 := List.nodup_append.mp nd
  have nd2 := List.nodup_cons.mp nd1.2.1
  have nd3 := List.nodup_cons.mp nd2.2
  constructor
  · rintro ⟨q, hq, hm⟩
    by_cases c : q = r
    · rw [c, zn_us] at hm
      refine ⟨⟨r, hr, ?_⟩, ?_⟩
      · rw [e]
        rcases List.mem_append.mp hm with w | w
        · simp [w]
        · rcases List.mem_cons.mp w with w | w
          · simp [w]
          · simp [w]
      · intro z
        rw [z] at hm
        rcases List.mem_append.mp hm with w | w
        · exact nd1.2.2 y w y (by simp) rfl
        · rcases List.mem_cons.mp w with w | w
          · exact nd2.1 (by rw [w]; simp)
          · exact nd3.1 w
    · rw [zn_un c] at hm
      refine ⟨⟨q, hq, hm⟩, fun z => c ?_⟩
      rw [z] at hm
      exact (((h.1 q hq).2.2.1 y hm).2.2).symm.trans ho
  · rintro ⟨⟨q, hq, hm⟩, hv⟩
    by_cases c : q = r
    · refine ⟨r, hr, ?_⟩
      rw [zn_us]
      rw [c, e] at hm
      rcases List.mem_append.mp hm with w | w
      · simp [w]
      · rcases List.mem_cons.mp w with w | w
        · simp [w]
        · rcases List.mem_cons.mp w with w | w
          · exact absurd w hv
          · simp [w]
    · exact ⟨q, hq, by rw [zn_un c]; exact hm⟩
section
variable {xc1 xc2 xc3 xc4 xc5 xc6 xrd xod xtd : Int32} {xli xle xsz xcu xfn xst xrt : Nat} {xlv xhr xlo xrT : Int64} {na nb sy ow bl sp fT lT sh sc sn sv dh dc dn dv pa de oc wa me qu wo co : Nat → Nat} {rR : Nat → Int64} {te : Nat → Int32}
theorem zx_foldPair {post : Int32 → SX → Prop} {B : Nat → List Nat} {F : List Nat} {r x y n : Nat} {l1 l2 : List Nat} (hr : r < 32) (hn : n < 32) (e : B r = l1 ++ x :: y :: l2)
    (h : zx_XC B F xfn xst xlo na nb sy ow bl sh sc sn sv dh dc dn dv rR xrT)
    (K : ∀ (na' nb' bl' sh' sc' sn' sv' dh' dc' dn' dv' : Nat → Nat) (hr' lo' rT' : Int64) (rR' : Nat → Int64),
      (∀ i, i < 64 → zb_t hr' i = (zb_t xhr i || decide (i = r ∧ r ≠ 0 ∧ (l1 ++ x :: l2).length = 1))) →
      (∀ v, v ≠ x → v ≠ y → na' v = na v) → na' x = na y → (∀ v, v ≠ na y → nb' v = nb v) → nb' (na y) = x →
      zx_XC (zn_u B r (l1 ++ x :: l2)) (y :: F) y (xst - 1) lo' na' nb' (zn_u sy x (16 + n)) ow bl' sh' sc' sn' sv' dh' dc' dn' dv' rR' rT' →
      post (nI (l2.headD r)) (xc1, xc2, xc3, xc4, xc5, xc6, nI xli, nI xle, nI xsz, nI xcu, nI y, nI (xst - 1), xlv, hr', lo', nI xrt, rT', xrd, xod, xtd, zn_A na', zn_A nb', zn_A (zn_u sy x (16 + n)), zn_A ow, zn_A bl', zn_A sp, zn_A fT, zn_A lT, zn_A sh', zn_A sc', zn_A sn', zn_A sv', zn_A dh', zn_A dc', zn_A dn', zn_A dv', rR', zn_A pa, zn_A de, zn_A oc, zn_A wa, te, zn_A me, zn_A qu, zn_A wo, zn_A co)) :
    wpX_foldPair post (xc1, xc2, xc3, xc4, xc5, xc6, nI xli, nI xle, nI xsz, nI xcu, nI xfn, nI xst, xlv, xhr, xlo, nI xrt, xrT, xrd, xod, xtd, zn_A na, zn_A nb, zn_A sy, zn_A ow, zn_A bl, zn_A sp, zn_A fT, zn_A lT, zn_A sh, zn_A sc, zn_A sn, zn_A sv, zn_A dh, zn_A dc, zn_A dn, zn_A dv, rR, zn_A pa, zn_A de, zn_A oc, zn_A wa, te, zn_A me, zn_A qu, zn_A wo, zn_A co) (nI x) (nI n) := by
  obtain ⟨hS, hsy, hI, hD⟩ := h
  have hUx : zx_U B x := ⟨r, hr, by rw [e]; simp⟩
  have hUy : zx_U B y := ⟨r, hr, by rw [e]; simp⟩
  have hx := zx_Ub hS hUx
  have hy := zx_Ub hS hUy
  have hox : ow x = r := ((hS.1 r hr).2.2.1 x (by rw [e]; simp)).2.2
  have hoy : ow y = r := ((hS.1 r hr).2.2.1 y (by rw [e]; simp)).2.2
  obtain ⟨a1, a2, a3, a4, a5, a6⟩ := zx_spl hS hr e
  have e' : B r = (l1 ++ [x]) ++ y :: l2 := by rw [e]; simp
  obtain ⟨b1, b2, b3, b4, b5, b6⟩ := zx_spl hS hr e'
  have nax : na x = y := a2
  have nby : nb y = x := by rw [b1, List.getLastD_concat]
  have nay : na y = l2.headD r := b2
  have hxy : x ≠ y := fun z => b3 (by rw [← z]; simp)
  have hb := hS.2.2.2.2.2.2.2
  have hna : ∀ v, v < 128 → na v < 128 := fun v hv => (hb v hv).1
  have hl128 := (hb x hx.2.1).2
  have hd128 := (hb y hy.2.1).1
  have hnx := zx_nn hS (Or.inr hUx)
  have hny := zx_nn hS (Or.inr hUy)
  have hlg := hnx.2.2.2
  have hnl : na (nb x) = x := hnx.2.1
  have hly : nb x ≠ y := by
    intro z
    rw [z, nay] at hnl
    cases l2 with
    | nil => have w : r = x := hnl; omega
    | cons a b =>
      have w : a = x := hnl
      exact a4 (by rw [w]; simp)
  have hdx : na y ≠ x := by
    intro z
    rw [nay] at z
    cases l2 with
    | nil => have w : r = x := z; omega
    | cons a b =>
      have w : a = x := z
      exact a4 (by rw [w]; simp)
  have hlen : (B r).length = l1.length + (l2.length + 2) := by rw [e, List.length_append, List.length_cons, List.length_cons]
  have hblr : bl r = l1.length + (l2.length + 2) := by rw [(hS.1 r hr).2.2.2, hlen]
  have hstl : (B r).length ≤ xst := by
    have t := zx_sul (f := fun q => (B q).length) 32 r hr
    rw [← hS.2.2.2.2.2.1] at t
    exact t
  have hst96 := hS.2.2.2.2.2.2.1
  have hS2 := zx_fold hS hr e
  have hU2 : ∀ v, zx_U (zn_u B r (l1 ++ x :: l2)) v ↔ (zx_U B v ∧ v ≠ y) := fun v => zx_Ufold hS hr e
  have hb2 := hS2.2.2.2.2.2.2.2
  have hna2 : ∀ v, v < 128 → zn_u (zn_u na y xfn) x (na y) v < 128 := fun v hv => (hb2 v hv).1
  have hsy2 : ∀ v, zx_U (zn_u B r (l1 ++ x :: l2)) v → zn_u sy x (16 + n) v < 48 := by
    intro v hv
    by_cases c : v = x
    · rw [c, zn_us]; omega
    · rw [zn_un c]; exact hsy v ((hU2 v).mp hv).1
  have hlg2 : nb x < 32 ∨ zx_U (zn_u B r (l1 ++ x :: l2)) (nb x) := by
    rcases hlg with w | w
    · exact Or.inl w
    · exact Or.inr ((hU2 _).mpr ⟨w, hly⟩)
  have hUx2 : zx_U (zn_u B r (l1 ++ x :: l2)) x := (hU2 x).mpr ⟨hUx, hxy⟩
  have nl2 : zn_u (zn_u na y xfn) x (na y) (nb x) = x := by rw [zn_un a5, zn_un hly, hnl]
  unfold wpX_foldPair
  refine ⟨vp_in_nI hx.2.1 (by decide), nm_r (zn_rd (by omega)) ⟨vp_in_nI hx.2.1 (by decide), nm_r (e' := nI y) (by rw [zn_rd (by omega), nax]) ⟨vp_in_nI hy.2.1 (by decide), nm_r (e' := nI (l2.headD r)) (by rw [zn_rd (by omega), nay]) ⟨vp_in_nI hx.2.1 (by decide), nm_r (e' := nI r) (by rw [zn_rd (by omega), hox]) ?_⟩⟩⟩⟩
  refine zd_drop hl128 hna (zx_PP hS hlg) (zx_sb hS hsy hlg) hD ?_
  intro dh1 dc1 dn1 dv1 rR1 rT1 hD1
  refine zd_drop hx.2.1 hna ?_ (zx_sb hS hsy (Or.inr hUx)) hD1 ?_
  · rw [← zx_PP hS (Or.inr hUx)]
    exact ⟨fun z => z.1, fun z => ⟨z, fun w => a5 w.symm⟩⟩
  intro dh2 dc2 dn2 dv2 rR2 rT2 hD2
  refine zd_drop hy.2.1 hna ?_ (zx_sb hS hsy (Or.inr hUy)) hD2 ?_
  · rw [← zx_PP hS (Or.inr hUy)]
    exact ⟨fun z => z.1.1, fun z => ⟨⟨z, fun w => hly w.symm⟩, fun w => hxy w.symm⟩⟩
  intro dh3 dc3 dn3 dv3 rR3 rT3 hD3
  refine zx_disc ⟨hy.1, hy.2.1⟩ (hsy y hUy) hUy hoy hr (by omega) (by omega) (by omega) hI ?_
  intro sh1 sc1 sn1 sv1 lo1 hI1
  rw [← nay]
  refine zx_join hx.2.1 hd128 ?_
  refine zs_drop ⟨hx.1, hx.2.1⟩ (hsy x hUx) ⟨hUx, hxy⟩ hI1 ?_
  intro sh2 sc2 sn2 sv2 lo2 hI2
  rw [show (16 : Int32) = nI 16 from rfl, nI_add]
  refine zs_add ⟨hx.1, hx.2.1⟩ (by omega) (fun z => z.2 rfl) hI2 ?_
  intro sh3 sc3 sn3 sv3 lo3 hI3
  have hD3' := zd_fr (na' := zn_u (zn_u na y xfn) x (na y)) (sy' := zn_u sy x (16 + n)) hD3 (by
    intro v hv
    have vx : v ≠ x := hv.1.2
    have vy : v ≠ y := hv.2
    refine ⟨by rw [zn_un vx, zn_un vy], zn_un vx, zn_un fun z => ?_⟩
    have := (zx_nn hS (Or.inr hv.1.1.1.1)).1
    rw [z] at this
    exact hv.1.1.2 this.symm)
  refine zd_add hl128 hna2 (fun z => z.1.1.2 rfl) ?_ hD3' ?_
  · intro z1 z2
    rw [nl2, zn_us, zn_un a5]
    refine ⟨?_, by omega⟩
    rcases hlg with w | w
    · omega
    · exact hsy _ w
  intro dh4 dc4 dn4 dv4 rR4 rT4 hD4
  refine zd_add hx.2.1 hna2 ?_ ?_ hD4 ?_
  · rintro (z | z)
    · exact z.1.2 rfl
    · exact a5 z.1.symm
  · intro z1 z2
    rw [zn_us] at z2
    rw [zn_us, zn_us, zn_un hdx]
    refine ⟨by omega, ?_⟩
    rcases hny.2.2.1 with w | w
    · omega
    · exact hsy _ w
  intro dh5 dc5 dn5 dv5 rR5 rT5 hD5
  have XC2 : zx_XC (zn_u B r (l1 ++ x :: l2)) (y :: F) y (xst - 1) lo3 (zn_u (zn_u na y xfn) x (na y)) (zn_u nb (na y) x) (zn_u sy x (16 + n)) ow (zn_u bl r (bl r - 1)) sh3 sc3 sn3 sv3 dh5 dc5 dn5 dv5 rR5 rT5 := by
    refine ⟨hS2, hsy2, zs_cg hI3 ?_, zd_cg hD5 ?_⟩
    · intro v
      rw [hU2 v]
      constructor
      · rintro (z | z)
        · exact z.1
        · rw [z]; exact ⟨hUx, hxy⟩
      · intro z
        by_cases c : v = x
        · exact Or.inr c
        · exact Or.inl ⟨z, c⟩
    · intro v
      rw [hU2 v]
      by_cases c : v = x
      · rw [c, zn_us]
        constructor
        · rintro ((z | z) | z)
          · exact absurd rfl z.1.2
          · exact absurd z.1.symm a5
          · exact ⟨⟨hUx, hxy⟩, z.2.2⟩
        · intro z; exact Or.inr ⟨rfl, hx.1, z.2⟩
      · by_cases d : v = nb x
        · rw [d, nl2]
          constructor
          · rintro ((z | z) | z)
            · exact absurd rfl z.1.1.2
            · rcases hlg with w | w
              · omega
              · exact ⟨⟨w, hly⟩, hx.1⟩
            · exact absurd z.1 a5
          · intro z
            exact Or.inl (Or.inr ⟨rfl, (zx_Ub hS z.1.1).1, hx.1⟩)
        · by_cases i : v = y
          · constructor
            · rintro ((z | z) | z)
              · exact absurd i z.2
              · exact absurd z.1 d
              · exact absurd z.1 c
            · intro z; exact absurd i z.1.2
          · rw [zn_un c, zn_un i]
            constructor
            · rintro ((z | z) | z)
              · exact ⟨⟨z.1.1.1.1, i⟩, z.1.1.1.2⟩
              · exact absurd z.1 d
              · exact absurd z.1 c
            · intro z
              exact Or.inl (Or.inl ⟨⟨⟨⟨z.1.1, z.2⟩, d⟩, c⟩, i⟩)
  have eL : (l1 ++ x :: l2).length = l1.length + (l2.length + 1) := by rw [List.length_append, List.length_cons]
  have fa1 : ∀ v, v ≠ x → v ≠ y → zn_u (zn_u na y xfn) x (na y) v = na v := fun v h1 h2 => by rw [zn_un h1, zn_un h2]
  have fa2 : zn_u (zn_u na y xfn) x (na y) x = na y := zn_us
  have fb1 : ∀ v, v ≠ na y → zn_u nb (na y) x v = nb v := fun v h1 => zn_un h1
  have fb2 : zn_u nb (na y) x (na y) = x := zn_us
  dsimp only
  rw [show nI (na y) = nI (l2.headD r) by rw [nay]]
  refine pk_eq r 0 (fun c => ?_) (fun c => ⟨vp_in_nI hr (by decide), ?_⟩)
  · refine K _ _ _ _ _ _ _ _ _ _ _ _ _ _ _ ?_ fa1 fa2 fb1 fb2 XC2
    intro i hi
    simp [c]
  · rw [zn_rd (by omega), zn_us]
    refine pk_eq (bl r - 1) 1 (fun d => ?_) (fun d => ?_)
    · refine nm_e (K _ _ _ _ _ _ _ _ _ _ _ _ _ _ _ ?_ fa1 fa2 fb1 fb2 XC2)
      intro i hi
      rw [zb_or (by omega)]
      have t : (r = i) = (i = r ∧ r ≠ 0 ∧ (l1 ++ x :: l2).length = 1) := by
        apply propext
        constructor
        · intro q; exact ⟨q.symm, c, by omega⟩
        · intro q; exact q.1.symm
      simp only [t]
    · refine K _ _ _ _ _ _ _ _ _ _ _ _ _ _ _ ?_ fa1 fa2 fb1 fb2 XC2
      intro i hi
      have t : ¬ (i = r ∧ r ≠ 0 ∧ (l1 ++ x :: l2).length = 1) := by
        intro q; omega
      simp only [t, decide_false, Bool.or_false]
end
end
section
/-! ===== step 1 in X: dissolve ===== -/
theorem zl_pm {L M : List Nat} (h1 : L.Nodup) (h2 : M.Nodup) (h : ∀ x, x ∈ L ↔ x ∈ M) : L.length = M.length := ((List.perm_ext_iff_of_nodup h1 h2).mpr h).length_eq
theorem zs_c1 {U : Nat → Prop} {sy sh sc sn sv sh' sc' sn' sv' : Nat → Nat} {lo lo' : Int64} {x k h : Nat} (hk : k < 48) (hU : U x) (hx : sy x = k) (hh : h ≠ k)
    (h1 : zs_SI U sy sh sc sn sv lo) (h2 : zs_SI U (zn_u sy x h) sh' sc' sn' sv' lo') : sc' k + 1 = sc k := by
  obtain ⟨L, F, m, _, _⟩ := h1
  obtain ⟨L', F', m', _, _⟩ := h2
  obtain ⟨_, e2, _, e4, _⟩ := F.1 k hk
  obtain ⟨_, f2, _, f4, _⟩ := F'.1 k hk
  have hn : x ∉ L' k := by
    intro z
    have := ((m' k hk x).mp z).2
    rw [zn_us] at this
    exact hh this
  rw [e2, f2]
  refine (zl_pm e4 (List.nodup_cons.mpr ⟨hn, f4⟩) fun y => ?_).symm
  rw [List.mem_cons, m k hk y, m' k hk y]
  by_cases c : y = x
  · subst c; simp [hU, hx]
  · rw [zn_un c]; simp [c]
/-- a head that is one of the nodes -/
theorem zs_hd {U : Nat → Prop} {sy sh sc sn sv : Nat → Nat} {lo : Int64} {k : Nat} (hk : k < 48) (h : zs_SI U sy sh sc sn sv lo) (hc : sc k ≠ 0) : U (sh k) ∧ sy (sh k) = k := by
  obtain ⟨L, F, m, _, _⟩ := h
  obtain ⟨e1, e2, _, _, _⟩ := F.1 k hk
  rw [e2] at hc
  apply (m k hk _).mp
  rw [e1]
  cases e : L k with
  | nil => rw [e] at hc; exact absurd rfl hc
  | cons y t => exact List.mem_cons_self
theorem zs_no {U : Nat → Prop} {sy sh sc sn sv : Nat → Nat} {lo : Int64} {k x : Nat} (hk : k < 48) (h : zs_SI U sy sh sc sn sv lo) (hc : sc k = 0) (hU : U x) : sy x ≠ k := by
  obtain ⟨L, F, m, _, _⟩ := h
  obtain ⟨_, e2, _, _, _⟩ := F.1 k hk
  rw [e2] at hc
  intro z
  have := (m k hk x).mpr ⟨hU, z⟩
  rw [List.length_eq_zero_iff.mp hc] at this
  cases this
theorem zs_sb {U : Nat → Prop} {sy sh sc sn sv : Nat → Nat} {lo : Int64} {k : Nat} (hk : k < 48) (h : zs_SI U sy sh sc sn sv lo) : sc k ≤ 128 ∧ sh k < 128 := by
  obtain ⟨L, F, m, _, _⟩ := h
  exact ⟨zl_ct F hk, zl_hd F hk⟩
theorem zx_Udis {B : Nat → List Nat} {p x v : Nat} {na nb ow bl : Nat → Nat} {fn st : Nat} {F : List Nat} (h : zx_ST na nb ow bl fn st B F) (hp : p < 32) (e : B p = [x]) : zx_U (zn_u B p []) v ↔ (zx_U B v ∧ v ≠ x) := by
  have ho := ((h.1 p hp).2.2.1 x (by rw [e]; simp)).2.2
  constructor
  · rintro ⟨q, hq, hm⟩
    by_cases c : q = p
    · rw [c, zn_us] at hm; cases hm
    · rw [zn_un c] at hm
      refine ⟨⟨q, hq, hm⟩, fun z => c ?_⟩
      rw [z] at hm
      exact (((h.1 q hq).2.2.1 x hm).2.2).symm.trans ho
  · rintro ⟨⟨q, hq, hm⟩, hv⟩
    have c : q ≠ p := by
      intro c
      rw [c, e] at hm
      exact hv (by simpa using hm)
    exact ⟨q, hq, by rw [zn_un c]; exact hm⟩
/-- what retire does to the bits of lone rules changes nothing -/
theorem zs_lo {U : Nat → Prop} {sy sh sc sn sv : Nat → Nat} {lo lo' : Int64} {p : Nat} (h : zs_SI U sy sh sc sn sv lo) (hc : 0 < p → p < 32 → sc (16 + p) = 0) (hl : ∀ i, i < 64 → zb_t lo' i = (zb_t lo i && !decide (p = i))) : zs_SI U sy sh sc sn sv lo' := by
  have e : lo' = lo := by
    apply zb_ext
    intro i hi
    rw [hl i hi]
    by_cases c : p = i
    · subst c
      obtain ⟨L, F, m, q1, q2⟩ := h
      have : zb_t lo p = false := by
        apply ts_nt
        intro z
        obtain ⟨z1, z2⟩ := q2 p hi z
        have w := (q1 p z1 z2).mp z
        have := hc z1 z2
        omega
      rw [this]; rfl
    · simp [c]
  rw [e]; exact h
section
variable {xc1 xc2 xc3 xc4 xc5 xc6 xrd xod xtd : Int32} {xli xle xsz xcu xfn xst xrt : Nat} {xlv xhr xlo xrT : Int64} {na nb sy ow bl sp fT lT sh sc sn sv dh dc dn dv pa de oc wa me qu wo co : Nat → Nat} {rR : Nat → Int64} {te : Nat → Int32}
theorem zx_dissL {post : SX → Prop} {B : Nat → List Nat} {F : List Nat} {p x h : Nat} (hp : 0 < p ∧ p < 32) (eB : B p = [x]) (hh : h < 48) (hhp : h ≠ 16 + p) (hrt : 1 ≤ xrt) :
    ∀ (c : Nat) (sy sh sc sn sv dh dc dn dv : Nat → Nat) (lo rT : Int64) (rR : Nat → Int64), sc (16 + p) = c →
    zx_XC B F xfn xst lo na nb sy ow bl sh sc sn sv dh dc dn dv rR rT →
    (∀ (na' nb' sy' bl' sh' sc' sn' sv' dh' dc' dn' dv' : Nat → Nat) (lv' hr' lo' rT' : Int64) (rR' : Nat → Int64),
      (∀ i, i < 64 → zb_t lv' i = (zb_t xlv i && !decide (p = i))) → (∀ i, i < 64 → zb_t hr' i = (zb_t xhr i && !decide (p = i))) →
      (∀ v, zx_U B v → sy' v = if sy v = 16 + p then h else sy v) →
      zx_XC (zn_u B p []) (x :: F) x (xst - 1) lo' na' nb' sy' ow bl' sh' sc' sn' sv' dh' dc' dn' dv' rR' rT' →
      post (xc1, xc2, xc3, xc4, xc5, xc6, nI xli, nI xle, nI xsz, nI xcu, nI x, nI (xst - 1), lv', hr', lo', nI (xrt - 1), rT', xrd, xod, xtd, zn_A na', zn_A nb', zn_A sy', zn_A ow, zn_A bl', zn_A sp, zn_A fT, zn_A lT, zn_A sh', zn_A sc', zn_A sn', zn_A sv', zn_A dh', zn_A dc', zn_A dn', zn_A dv', rR', zn_A pa, zn_A de, zn_A oc, zn_A wa, te, zn_A me, zn_A qu, zn_A wo, zn_A co)) →
    wX_dissolve_29 post (nI p) (nI x) (nI h) (nI (16 + p)) (c + 1) (nI c) xc1 xc2 xc3 xc4 xc5 xc6 (nI xli) (nI xle) (nI xsz) (nI xcu) (nI xfn) (nI xst) xlv xhr lo (nI xrt) rT xrd xod xtd (zn_A na) (zn_A nb) (zn_A sy) (zn_A ow) (zn_A bl) (zn_A sp) (zn_A fT) (zn_A lT) (zn_A sh) (zn_A sc) (zn_A sn) (zn_A sv) (zn_A dh) (zn_A dc) (zn_A dn) (zn_A dv) rR (zn_A pa) (zn_A de) (zn_A oc) (zn_A wa) te (zn_A me) (zn_A qu) (zn_A wo) (zn_A co) := by
  intro c
  induction c with
  | zero =>
    intro sy sh sc sn sv dh dc dn dv lo rT rR hc hX K
    obtain ⟨hS, hsy, hI, hD⟩ := hX
    have hUx : zx_U B x := ⟨p, hp.2, by rw [eB]; simp⟩
    have hx := zx_Ub hS hUx
    have hox : ow x = p := ((hS.1 p hp.2).2.2.1 x (by rw [eB]; simp)).2.2
    have hbl : bl p = 1 := by rw [(hS.1 p hp.2).2.2.2, eB]; rfl
    have hst : 1 ≤ xst := by
      have t := zx_sul (f := fun q => (B q).length) 32 p hp.2
      rw [← hS.2.2.2.2.2.1] at t
      have t' : (B p).length ≤ xst := t
      rw [eB] at t'
      exact t'
    obtain ⟨s1, s2, s3, s4, s5, s6⟩ := zx_spl (l1 := []) (l2 := []) hS hp.2 eB
    have nax : na x = p := s2
    rw [wX_dissolve_29]
    refine br_t (show nI 0 ≤ 0 by decide) ?_
    refine zx_disc ⟨hx.1, hx.2.1⟩ (hsy x hUx) hUx hox hp.2 (by omega) (by omega) hst hI ?_
    intro sh1 sc1 sn1 sv1 lo1 hI1
    refine zx_retire hp.2 hrt ?_
    intro lv' hr' lo' q1 q2 q3
    have hU2 : ∀ v, zx_U (zn_u B p []) v ↔ (zx_U B v ∧ v ≠ x) := fun v => zx_Udis hS hp.2 eB
    refine K _ _ sy _ _ _ _ _ _ _ _ _ _ _ _ _ _ q1 q2 ?_ ⟨zx_dis hS hp.2 eB, ?_, zs_cg (zs_lo hI1 ?_ q3) (fun v => (hU2 v).symm), zd_cg (zd_fr hD ?_) ?_⟩
    · intro v hv
      rw [if_neg (zs_no (by omega) hI hc hv)]
    · intro v hv
      exact hsy v ((hU2 v).mp hv).1
    · intro _ _
      obtain ⟨L, FL, m, _, _⟩ := hI1
      obtain ⟨_, e2, _, _, _⟩ := FL.1 (16 + p) (by omega)
      rw [e2, List.length_eq_zero_iff]
      apply List.eq_nil_iff_forall_not_mem.mpr
      intro v hv
      have w := (m _ (by omega) v).mp hv
      exact zs_no (by omega) hI hc w.1.1 w.2
    · intro v hv
      have v1 : v ≠ x := fun z => by rw [z, nax] at hv; omega
      have v2 : v ≠ p := by have := (zx_Ub hS hv.1).1; omega
      exact ⟨by rw [zn_un v2, zn_un v1], rfl, rfl⟩
    · intro v
      rw [hU2 v]
      constructor
      · intro z
        have v1 : v ≠ x := fun w => by rw [w, nax] at z; omega
        have v2 : v ≠ p := by have := (zx_Ub hS z.1).1; omega
        exact ⟨⟨z.1, v1⟩, by rw [zn_un v2, zn_un v1]; exact z.2⟩
      · intro z
        have v2 : v ≠ p := by have := (zx_Ub hS z.1.1).1; omega
        rw [zn_un v2, zn_un z.1.2] at z
        exact ⟨z.1.1, z.2⟩
  | succ c ih =>
    intro sy sh sc sn sv dh dc dn dv lo rT rR hc hX K
    have hX' := hX
    obtain ⟨hS, hsy, hI, hD⟩ := hX'
    obtain ⟨hU, hk⟩ := zs_hd (by omega) hI (show sc (16 + p) ≠ 0 by omega)
    have hb := zs_sb (show 16 + p < 48 by omega) hI
    rw [wX_dissolve_29]
    refine br_f (nI_nle (by omega) (by omega)) ⟨vp_in_nI (by omega) (by decide), ?_⟩
    rw [zn_rd (by omega)]
    refine zx_relabel hU hh hX ?_
    intro sh' sc' sn' sv' dh' dc' dn' dv' lo' rT' rR' hX2
    have hc2 := zs_c1 (by omega) hU hk hhp hI hX2.2.2.1
    refine nm_r (pk_m1 c) ?_
    refine ih _ _ _ _ _ _ _ _ _ _ _ _ (by omega) hX2 ?_
    intro na3 nb3 sy3 bl3 sh3 sc3 sn3 sv3 dh3 dc3 dn3 dv3 lv3 hr3 lo3 rT3 rR3 q1 q2 q3 hX3
    refine K _ _ _ _ _ _ _ _ _ _ _ _ _ _ _ _ _ q1 q2 ?_ hX3
    intro v hv
    rw [q3 v hv]
    by_cases d : v = sh (16 + p)
    · rw [d, zn_us, hk, if_pos rfl, if_neg hhp]
    · rw [zn_un d]
theorem zx_dissolve {post : SX → Prop} {B : Nat → List Nat} {F : List Nat} {p x : Nat} (hp : 0 < p ∧ p < 32) (eB : B p = [x]) (hhp : sy x ≠ 16 + p) (hrt : 1 ≤ xrt)
    (h : zx_XC B F xfn xst xlo na nb sy ow bl sh sc sn sv dh dc dn dv rR xrT)
    (K : ∀ (na' nb' sy' bl' sh' sc' sn' sv' dh' dc' dn' dv' : Nat → Nat) (lv' hr' lo' rT' : Int64) (rR' : Nat → Int64),
      (∀ i, i < 64 → zb_t lv' i = (zb_t xlv i && !decide (p = i))) → (∀ i, i < 64 → zb_t hr' i = (zb_t xhr i && !decide (p = i))) →
      (∀ v, zx_U B v → sy' v = if sy v = 16 + p then sy x else sy v) →
      zx_XC (zn_u B p []) (x :: F) x (xst - 1) lo' na' nb' sy' ow bl' sh' sc' sn' sv' dh' dc' dn' dv' rR' rT' →
      post (xc1, xc2, xc3, xc4, xc5, xc6, nI xli, nI xle, nI xsz, nI xcu, nI x, nI (xst - 1), lv', hr', lo', nI (xrt - 1), rT', xrd, xod, xtd, zn_A na', zn_A nb', zn_A sy', zn_A ow, zn_A bl', zn_A sp, zn_A fT, zn_A lT, zn_A sh', zn_A sc', zn_A sn', zn_A sv', zn_A dh', zn_A dc', zn_A dn', zn_A dv', rR', zn_A pa, zn_A de, zn_A oc, zn_A wa, te, zn_A me, zn_A qu, zn_A wo, zn_A co)) :
    wpX_dissolve post (xc1, xc2, xc3, xc4, xc5, xc6, nI xli, nI xle, nI xsz, nI xcu, nI xfn, nI xst, xlv, xhr, xlo, nI xrt, xrT, xrd, xod, xtd, zn_A na, zn_A nb, zn_A sy, zn_A ow, zn_A bl, zn_A sp, zn_A fT, zn_A lT, zn_A sh, zn_A sc, zn_A sn, zn_A sv, zn_A dh, zn_A dc, zn_A dn, zn_A dv, rR, zn_A pa, zn_A de, zn_A oc, zn_A wa, te, zn_A me, zn_A qu, zn_A wo, zn_A co) (nI p) := by
  have hX := h
  obtain ⟨hS, hsy, hI, hD⟩ := h
  have hUx : zx_U B x := ⟨p, hp.2, by rw [eB]; simp⟩
  have hx := zx_Ub hS hUx
  have nap : na p = x := by
    have := (zx_lkh _ _ _ (hS.1 p hp.2).1).1
    rw [eB] at this
    exact this
  have hb := zs_sb (show 16 + p < 48 by omega) hI
  unfold wpX_dissolve
  refine ⟨vp_in_nI (by omega) (by decide), nm_r (e' := nI x) (by rw [zn_rd (by omega), nap]) ⟨vp_in_nI hx.2.1 (by decide), nm_r (zn_rd (by omega)) (nm_r (e' := nI (16 + p)) (by rw [show (16 : Int32) = nI 16 from rfl, nI_add]) ⟨vp_in_nI (by omega) (by decide), nm_r (zn_rd (by omega)) ⟨sc (16 + p) + 1, ?_⟩⟩)⟩⟩
  exact zx_dissL hp eB (hsy x hUx) hhp hrt _ _ _ _ _ _ _ _ _ _ _ _ _ rfl hX K
end
end
section
/-! ===== step 2 in X: expand ===== -/
theorem zx_Uexp {B : Nat → List Nat} {g p x v : Nat} {l1 l2 : List Nat} {na nb ow bl : Nat → Nat} {fn st : Nat} {F : List Nat} (h : zx_ST na nb ow bl fn st B F) (hg : g < 32) (hp : p < 32) (hgp : g ≠ p) (e : B g = l1 ++ x :: l2) :
    zx_U (zn_u (zn_u B g (l1 ++ B p ++ l2)) p []) v ↔ (zx_U B v ∧ v ≠ x) := by
  have ho := ((h.1 g hg).2.2.1 x (by rw [e]; simp)).2.2
  obtain ⟨_, _, x1, x2, _, _⟩ := zx_spl h hg e
  constructor
  · rintro ⟨q, hq, hm⟩
    by_cases c : q = p
    · rw [c, zn_us] at hm; cases hm
    · rw [zn_un c] at hm
      by_cases d : q = g
      · rw [d, zn_us] at hm
        rcases List.mem_append.mp hm with w | w
        · rcases List.mem_append.mp w with w | w
          · exact ⟨⟨g, hg, by rw [e]; simp [w]⟩, fun z => x1 (z ▸ w)⟩
          · refine ⟨⟨p, hp, w⟩, fun z => hgp ?_⟩
            rw [z] at w
            exact ho.symm.trans (((h.1 p hp).2.2.1 x w).2.2)
        · exact ⟨⟨g, hg, by rw [e]; simp [w]⟩, fun z => x2 (z ▸ w)⟩
      · rw [zn_un d] at hm
        refine ⟨⟨q, hq, hm⟩, fun z => d ?_⟩
        rw [z] at hm
        exact (((h.1 q hq).2.2.1 x hm).2.2).symm.trans ho
  · rintro ⟨⟨q, hq, hm⟩, hv⟩
    by_cases c : q = p
    · refine ⟨g, hg, ?_⟩
      rw [zn_un hgp, zn_us]
      rw [c] at hm
      simp [hm]
    · by_cases d : q = g
      · refine ⟨g, hg, ?_⟩
        rw [zn_un hgp, zn_us]
        rw [d, e] at hm
        rcases List.mem_append.mp hm with w | w
        · simp [w]
        · rcases List.mem_cons.mp w with w | w
          · exact absurd w hv
          · simp [w]
      · exact ⟨q, hq, by rw [zn_un c, zn_un d]; exact hm⟩
section
variable {xc1 xc2 xc3 xc4 xc5 xc6 xrd xod xtd : Int32} {xli xle xsz xcu xfn xst xrt : Nat} {xlv xhr xlo xrT : Int64} {na nb sy ow bl sp fT lT sh sc sn sv dh dc dn dv pa de oc wa me qu wo co : Nat → Nat} {rR : Nat → Int64} {te : Nat → Int32}
theorem zx_expL {post : SX → Prop} {B0 : List Nat} {p g l r f e : Nat} {ow0 : Nat → Nat} (hp : p < 32) (hg : g < 32) (hbl : bl p = B0.length) (hlen : B0.length < 2 ^ 31) (hn : ∀ d z t, B0 = d ++ z :: t → na z = t.headD p ∧ z < 128)
    (K : ∀ ow' : Nat → Nat, (∀ v ∈ B0, ow' v = g) → (∀ v, v ∉ B0 → ow' v = ow0 v) →
      wX_expand_71 post (nI p) (nI l) (nI r) (nI g) (nI f) (nI e) xc1 xc2 xc3 xc4 xc5 xc6 (nI xli) (nI xle) (nI xsz) (nI xcu) (nI xfn) (nI xst) xlv xhr xlo (nI xrt) xrT xrd xod xtd 1 (nI p) (nI B0.length) (zn_A na) (zn_A nb) (zn_A sy) (zn_A ow') (zn_A bl) (zn_A sp) (zn_A fT) (zn_A lT) (zn_A sh) (zn_A sc) (zn_A sn) (zn_A sv) (zn_A dh) (zn_A dc) (zn_A dn) (zn_A dv) rR (zn_A pa) (zn_A de) (zn_A oc) (zn_A wa) te (zn_A me) (zn_A qu) (zn_A wo) (zn_A co)) :
    ∀ (t d : List Nat) (ow' : Nat → Nat), B0 = d ++ t → (∀ v ∈ d, ow' v = g) → (∀ v, v ∉ d → ow' v = ow0 v) →
      wX_expand_71 post (nI p) (nI l) (nI r) (nI g) (nI f) (nI e) xc1 xc2 xc3 xc4 xc5 xc6 (nI xli) (nI xle) (nI xsz) (nI xcu) (nI xfn) (nI xst) xlv xhr xlo (nI xrt) xrT xrd xod xtd (t.length + 1) (nI (t.headD p)) (nI d.length) (zn_A na) (zn_A nb) (zn_A sy) (zn_A ow') (zn_A bl) (zn_A sp) (zn_A fT) (zn_A lT) (zn_A sh) (zn_A sc) (zn_A sn) (zn_A sv) (zn_A dh) (zn_A dc) (zn_A dn) (zn_A dv) rR (zn_A pa) (zn_A de) (zn_A oc) (zn_A wa) te (zn_A me) (zn_A qu) (zn_A wo) (zn_A co) := by
  intro t
  induction t with
  | nil =>
    intro d ow' eB h1 h2
    rw [List.append_nil] at eB
    subst eB
    exact K ow' h1 h2
  | cons z t ih =>
    intro d ow' eB h1 h2
    obtain ⟨n1, n2⟩ := hn d z t eB
    have hl : B0.length = d.length + (t.length + 1) := by rw [eB, List.length_append, List.length_cons]
    show wX_expand_71 post (nI p) (nI l) (nI r) (nI g) (nI f) (nI e) xc1 xc2 xc3 xc4 xc5 xc6 (nI xli) (nI xle) (nI xsz) (nI xcu) (nI xfn) (nI xst) xlv xhr xlo (nI xrt) xrT xrd xod xtd ((t.length + 1) + 1) (nI z) (nI d.length) (zn_A na) (zn_A nb) (zn_A sy) (zn_A ow') (zn_A bl) (zn_A sp) (zn_A fT) (zn_A lT) (zn_A sh) (zn_A sc) (zn_A sn) (zn_A sv) (zn_A dh) (zn_A dc) (zn_A dn) (zn_A dv) rR (zn_A pa) (zn_A de) (zn_A oc) (zn_A wa) te (zn_A me) (zn_A qu) (zn_A wo) (zn_A co)
    rw [wX_expand_71]
    refine ⟨vp_in_nI hp (by decide), ?_⟩
    rw [zn_rd (by omega)]
    refine br_f ?_ ⟨vp_in_nI n2 (by decide), nm_r (zn_up (by omega)) ⟨vp_in_nI n2 (by decide), nm_r (e' := nI (t.headD p)) (by rw [zn_rd (by omega), n1]) (nm_r (nI_1 _) ?_)⟩⟩
    · rw [nI_leI (by omega) (by omega)]; omega
    · have e2 : d.length + 1 = (d ++ [z]).length := by simp
      rw [e2]
      refine ih (d ++ [z]) _ (by rw [eB]; simp) ?_ ?_
      · intro v hv
        by_cases c : v = z
        · rw [c, zn_us]
        · rw [zn_un c]
          refine h1 v ?_
          rcases List.mem_append.mp hv with w | w
          · exact w
          · exact absurd (by simpa using w) c
      · intro v hv
        have c : v ≠ z := fun w => hv (by rw [w]; simp)
        rw [zn_un c]
        exact h2 v fun w => hv (List.mem_append_left _ w)
theorem zx_expand {post : SX → Prop} {B : Nat → List Nat} {F : List Nat} {g p x : Nat} {l1 l2 : List Nat} (hp : 0 < p ∧ p < 32) (hg : g < 32) (hgp : g ≠ p) (eB : B g = l1 ++ x :: l2) (ne : B p ≠ []) (hx : sh (16 + p) = x) (hsx : sy x = 16 + p) (hc : sc (16 + p) = 1) (hrt : 1 ≤ xrt)
    (h : zx_XC B F xfn xst xlo na nb sy ow bl sh sc sn sv dh dc dn dv rR xrT)
    (K : ∀ (na' nb' ow' bl' sh' sc' sn' sv' dh' dc' dn' dv' : Nat → Nat) (lv' hr' lo' rT' : Int64) (rR' : Nat → Int64),
      (∀ i, i < 64 → zb_t lv' i = (zb_t xlv i && !decide (p = i))) → (∀ i, i < 64 → zb_t hr' i = (zb_t xhr i && !decide (p = i))) →
      zx_XC (zn_u (zn_u B g (l1 ++ B p ++ l2)) p []) (x :: F) x (xst - 1) lo' na' nb' sy ow' bl' sh' sc' sn' sv' dh' dc' dn' dv' rR' rT' →
      post (xc1, xc2, xc3, xc4, xc5, xc6, nI xli, nI xle, nI xsz, nI xcu, nI x, nI (xst - 1), lv', hr', lo', nI (xrt - 1), rT', xrd, xod, xtd, zn_A na', zn_A nb', zn_A sy, zn_A ow', zn_A bl', zn_A sp, zn_A fT, zn_A lT, zn_A sh', zn_A sc', zn_A sn', zn_A sv', zn_A dh', zn_A dc', zn_A dn', zn_A dv', rR', zn_A pa, zn_A de, zn_A oc, zn_A wa, te, zn_A me, zn_A qu, zn_A wo, zn_A co)) :
    wpX_expand post (xc1, xc2, xc3, xc4, xc5, xc6, nI xli, nI xle, nI xsz, nI xcu, nI xfn, nI xst, xlv, xhr, xlo, nI xrt, xrT, xrd, xod, xtd, zn_A na, zn_A nb, zn_A sy, zn_A ow, zn_A bl, zn_A sp, zn_A fT, zn_A lT, zn_A sh, zn_A sc, zn_A sn, zn_A sv, zn_A dh, zn_A dc, zn_A dn, zn_A dv, rR, zn_A pa, zn_A de, zn_A oc, zn_A wa, te, zn_A me, zn_A qu, zn_A wo, zn_A co) (nI p) := by
  obtain ⟨hS, hsy, hI, hD⟩ := h
  have hUx : zx_U B x := ⟨g, hg, by rw [eB]; simp⟩
  have hxb := zx_Ub hS hUx
  have hox : ow x = g := ((hS.1 g hg).2.2.1 x (by rw [eB]; simp)).2.2
  obtain ⟨a1, a2, a3, a4, a5, a6⟩ := zx_spl hS hg eB
  have hb := hS.2.2.2.2.2.2.2
  have hna : ∀ v, v < 128 → na v < 128 := fun v hv => (hb v hv).1
  have hl128 := (hb x hxb.2.1).2
  have hr128 := (hb x hxb.2.1).1
  have hf128 := (hb p (by omega)).1
  have he128 := (hb p (by omega)).2
  have hnx := zx_nn hS (Or.inr hUx)
  have hnp := zx_nn hS (x := p) (Or.inl hp.2)
  have hlg := hnx.2.2.2
  have hrg := hnx.2.2.1
  have hnl : na (nb x) = x := hnx.2.1
  have hpl := (hS.1 p hp.2).1
  have hp3 := (hS.1 p hp.2).2.2.1
  have hlenp := (hS.1 p hp.2).2.2.2
  have hleng := (hS.1 g hg).2.2.2
  have hsum2 : (B g).length + (B p).length ≤ xst := by
    have t := zx_sul2 (f := fun q => (B q).length) 32 g p hg hp.2 hgp
    rw [← hS.2.2.2.2.2.1] at t
    exact t
  have hst96 := hS.2.2.2.2.2.2.1
  have hglen : (B g).length = l1.length + (l2.length + 1) := by rw [eB, List.length_append, List.length_cons]
  -- first and last of p's body
  have hfm : na p ∈ B p := by
    have := (zx_lkh _ _ _ hpl).1
    rw [this]
    cases q : B p with
    | nil => exact absurd q ne
    | cons a b => exact List.mem_cons_self
  have hem : nb p ∈ B p := by
    have := (zx_lkh _ _ _ hpl).2
    rw [this]
    cases q : B p with
    | nil => exact absurd q ne
    | cons a b => rw [List.getLastD_cons]; exact zl_gl b a
  have hUf : zx_U B (na p) := ⟨p, hp.2, hfm⟩
  have hUe : zx_U B (nb p) := ⟨p, hp.2, hem⟩
  have nae : na (nb p) = p := hnp.2.1
  have xnp : x ∉ B p := fun z => hgp (hox.symm.trans (hp3 x z).2.2)
  have hlp : nb x ∉ B p := by
    intro z
    have w := (hp3 _ z).2.2
    have w1 := (hp3 _ z).1
    rcases List.mem_cons.mp (zl_gl l1 g) with q | q
    · rw [a1] at w1; omega
    · have := ((hS.1 g hg).2.2.1 (nb x) (by rw [eB, a1]; exact List.mem_append_left _ q)).2.2
      omega
  have hle : nb x ≠ nb p := fun z => hlp (by rw [z]; exact hem)
  have hlf : nb x ≠ na p := fun z => hlp (by rw [z]; exact hfm)
  have hxe : x ≠ nb p := fun z => xnp (by rw [z]; exact hem)
  have hlxp : nb x ≠ p := by
    intro z
    rcases List.mem_cons.mp (zl_gl l1 g) with q | q
    · rw [a1] at z; omega
    · have := ((hS.1 g hg).2.2.1 (nb x) (by rw [eB, a1]; exact List.mem_append_left _ q)).1
      omega
  have hU2 : ∀ v, zx_U (zn_u (zn_u B g (l1 ++ B p ++ l2)) p []) v ↔ (zx_U B v ∧ v ≠ x) := fun v => zx_Uexp hS hg hp.2 hgp eB
  unfold wpX_expand
  rw [show (16 : Int32) = nI 16 from rfl, nI_add]
  refine ⟨vp_in_nI (by omega) (by decide), nm_r (e' := nI x) (by rw [zn_rd (by omega), hx]) ⟨vp_in_nI hxb.2.1 (by decide), nm_r (zn_rd (by omega)) ⟨vp_in_nI hxb.2.1 (by decide), nm_r (zn_rd (by omega)) ⟨vp_in_nI hxb.2.1 (by decide), nm_r (e' := nI g) (by rw [zn_rd (by omega), hox]) ⟨vp_in_nI (by omega) (by decide), nm_r (zn_rd (by omega)) ⟨vp_in_nI (by omega) (by decide), nm_r (zn_rd (by omega)) ?_⟩⟩⟩⟩⟩⟩
  refine zd_drop hl128 hna (zx_PP hS hlg) (zx_sb hS hsy hlg) hD ?_
  intro dh1 dc1 dn1 dv1 rR1 rT1 hD1
  refine zd_drop hxb.2.1 hna ?_ (zx_sb hS hsy (Or.inr hUx)) hD1 ?_
  · rw [← zx_PP hS (Or.inr hUx)]
    exact ⟨fun z => z.1, fun z => ⟨z, fun w => a5 w.symm⟩⟩
  intro dh2 dc2 dn2 dv2 rR2 rT2 hD2
  refine zx_disc ⟨hxb.1, hxb.2.1⟩ (hsy x hUx) hUx hox hg (by omega) (by omega) (by omega) hI ?_
  intro sh1 sc1 sn1 sv1 lo1 hI1
  refine ⟨(B p).length + 1, ?_⟩
  have hh0 : na p = (B p).headD p := (zx_lkh _ _ _ hpl).1
  have blp : zn_u bl g (bl g - 1) p = (B p).length := by rw [zn_un (fun z => hgp z.symm), hlenp]
  have fin : ∀ ow' : Nat → Nat, (∀ v ∈ B p, ow' v = g) → (∀ v, v ∉ B p → ow' v = ow v) →
      wX_expand_71 post (nI p) (nI (nb x)) (nI (na x)) (nI g) (nI (na p)) (nI (nb p)) xc1 xc2 xc3 xc4 xc5 xc6 (nI xli) (nI xle) (nI xsz) (nI xcu) (nI x) (nI (xst - 1)) xlv xhr lo1 (nI xrt) rT2 xrd xod xtd 1 (nI p) (nI (B p).length) (zn_A (zn_u na x xfn)) (zn_A nb) (zn_A sy) (zn_A ow') (zn_A (zn_u bl g (bl g - 1))) (zn_A sp) (zn_A fT) (zn_A lT) (zn_A sh1) (zn_A sc1) (zn_A sn1) (zn_A sv1) (zn_A dh2) (zn_A dc2) (zn_A dn2) (zn_A dv2) rR2 (zn_A pa) (zn_A de) (zn_A oc) (zn_A wa) te (zn_A me) (zn_A qu) (zn_A wo) (zn_A co) := by
    intro ow' ho1 ho2
    have hS2 := zx_exp (bl' := zn_u (zn_u (zn_u bl g (bl g - 1)) g (zn_u bl g (bl g - 1) g + zn_u bl g (bl g - 1) p)) p 0) hS hg hp.2 hgp eB ne ho1 ho2
      (by rw [zn_un hgp, zn_us, zn_us, zn_un (fun z => hgp z.symm)]) zn_us (by intro q q1 q2; rw [zn_un q2, zn_un q1, zn_un q1])
    have hb2 := hS2.2.2.2.2.2.2.2
    rw [wX_expand_71]
    refine ⟨vp_in_nI hp.2 (by decide), ?_⟩
    rw [zn_rd (by omega), blp]
    refine br_t (nI_le (Nat.le_refl _) (by omega)) ⟨vp_in_nI hg (by decide), vp_in_nI hp.2 (by decide), vp_in_nI hg (by decide), nm_r (e' := zn_A (zn_u (zn_u bl g (bl g - 1)) g (zn_u bl g (bl g - 1) g + zn_u bl g (bl g - 1) p))) ?_ ?_⟩
    · rw [zn_rd (by omega), nI_add, zn_up (by omega), blp]
    refine zx_join hl128 hf128 (zx_join he128 hr128 ?_)
    -- the links as they are now
    have hna3 : ∀ v, v < 128 → zn_u (zn_u (zn_u na x xfn) (nb x) (na p)) (nb p) (na x) v < 128 := by
      intro v hv
      by_cases c : v = p
      · rw [zn_un (show v ≠ nb p by have := (zx_Ub hS hUe).1; omega), zn_un (show v ≠ nb x by rw [c]; exact fun z => hlxp z.symm), zn_un (show v ≠ x by have := hxb.1; omega)]
        exact hna v hv
      · have := (hb2 v hv).1
        rw [zn_un c] at this
        exact this
    have nl3 : zn_u (zn_u (zn_u na x xfn) (nb x) (na p)) (nb p) (na x) (nb x) = na p := by rw [zn_un hle, zn_us]
    have ne3 : zn_u (zn_u (zn_u na x xfn) (nb x) (na p)) (nb p) (na x) (nb p) = na x := zn_us
    have no3 : ∀ v, v ≠ x → v ≠ nb x → v ≠ nb p → zn_u (zn_u (zn_u na x xfn) (nb x) (na p)) (nb p) (na x) v = na v := by
      intro v v1 v2 v3
      rw [zn_un v3, zn_un v2, zn_un v1]
    have hD3 := zd_fr (na' := zn_u (zn_u (zn_u na x xfn) (nb x) (na p)) (nb p) (na x)) (sy' := sy) hD2 (by
      intro v hv
      refine ⟨no3 v hv.2 hv.1.2 ?_, rfl, rfl⟩
      intro z
      have := hv.1.1.2
      rw [z, nae] at this
      omega)
    refine zd_add hl128 hna3 (fun z => z.1.2 rfl) ?_ hD3 ?_
    · intro z1 z2
      rw [nl3]
      refine ⟨?_, hsy _ hUf⟩
      rcases hlg with w | w
      · omega
      · exact hsy _ w
    intro dh4 dc4 dn4 dv4 rR4 rT4 hD4
    refine zd_add he128 hna3 ?_ ?_ hD4 ?_
    · rintro (z | z)
      · have := z.1.1.2
        rw [nae] at this
        omega
      · exact hle z.1.symm
    · intro z1 z2
      rw [ne3] at z2 ⊢
      refine ⟨hsy _ hUe, ?_⟩
      rcases hrg with w | w
      · omega
      · exact hsy _ w
    intro dh5 dc5 dn5 dv5 rR5 rT5 hD5
    refine zx_retire hp.2 hrt ?_
    intro lv' hr' lo' q1 q2 q3
    refine K _ _ _ _ _ _ _ _ _ _ _ _ _ _ _ _ _ q1 q2 ⟨hS2, ?_, zs_cg (zs_lo hI1 ?_ q3) (fun v => (hU2 v).symm), zd_cg (zd_fr hD5 ?_) ?_⟩
    · intro v hv
      exact hsy v ((hU2 v).mp hv).1
    · intro _ _
      obtain ⟨L, FL, m, _, _⟩ := hI1
      obtain ⟨_, e2, _, _, _⟩ := FL.1 (16 + p) (by omega)
      obtain ⟨L', FL', m', _, _⟩ := hI
      obtain ⟨f1, f2, _, _, _⟩ := FL'.1 (16 + p) (by omega)
      rw [e2, List.length_eq_zero_iff]
      apply List.eq_nil_iff_forall_not_mem.mpr
      intro v hv
      have w := (m _ (by omega) v).mp hv
      have w' := (m' _ (by omega) v).mpr ⟨w.1.1, w.2⟩
      have wx := (m' _ (by omega) x).mpr ⟨hUx, hsx⟩
      rw [f2] at hc
      match q : L' (16 + p), hc with
      | [y], _ =>
        rw [q] at w' wx
        have z1 : v = y := by simpa using w'
        have z2 : x = y := by simpa using wx
        exact w.1.2 (z1.trans z2.symm)
    · intro v hv
      have v2 : v ≠ p := by
        rcases hv with (z | z) | z
        · have := (zx_Ub hS z.1.1.1).1; omega
        · rw [z.1]; exact hlxp
        · rw [z.1]; have := (zx_Ub hS hUe).1; omega
      exact ⟨zn_un v2, rfl, rfl⟩
    · intro v
      rw [hU2 v]
      constructor
      · rintro ((z | z) | z)
        · have v2 : v ≠ p := by have := (zx_Ub hS z.1.1.1).1; omega
          have v3 : v ≠ nb p := by
            intro w
            have := z.1.1.2
            rw [w, nae] at this
            omega
          refine ⟨⟨z.1.1.1, z.2⟩, ?_⟩
          rw [zn_un v2, no3 v z.2 z.1.2 v3]; exact z.1.1.2
        · rcases hlg with w | w
          · omega
          · rw [z.1, zn_un hlxp, nl3]
            exact ⟨⟨w, a5⟩, (zx_Ub hS hUf).1⟩
        · rw [z.1]
          refine ⟨⟨hUe, fun w => hxe w.symm⟩, ?_⟩
          rw [zn_un (by have := (zx_Ub hS hUe).1; omega)]; exact z.2.2
      · intro z
        have v2 : v ≠ p := by have := (zx_Ub hS z.1.1).1; omega
        rw [zn_un v2] at z
        by_cases d : v = nb p
        · exact Or.inr ⟨d, by rw [← d]; exact (zx_Ub hS z.1.1).1, by have w := z.2; rw [d] at w; exact w⟩
        · by_cases c : v = nb x
          · exact Or.inl (Or.inr ⟨c, by rw [← c]; exact (zx_Ub hS z.1.1).1, by have w := z.2; rw [c] at w; exact w⟩)
          · rw [no3 v z.1.2 c d] at z
            exact Or.inl (Or.inl ⟨⟨⟨z.1.1, z.2⟩, c⟩, z.1.2⟩)
  have L := zx_expL (post := post) (B0 := B p) (p := p) (g := g) (l := nb x) (r := na x) (f := na p) (e := nb p) (ow0 := ow) (na := zn_u na x xfn) (bl := zn_u bl g (bl g - 1)) hp.2 hg blp (by omega) (by
    intro d z t eq
    obtain ⟨_, w2, _, _, _, _⟩ := zx_spl hS hp.2 eq
    have zp : z ∈ B p := by rw [eq]; simp
    refine ⟨?_, (hp3 z zp).2.1⟩
    rw [zn_un (fun w : z = x => xnp (w ▸ zp))]; exact w2) fin (B p) [] ow rfl (by intro v hv; cases hv) (fun _ _ => rfl)
  rw [← hh0] at L
  exact L
end
end
section
/-! ===== step 3, the pure side: the greedy replacement ===== -/
def zg_rp (a b N : Nat) : List Nat → List Nat
  | [] => []
  | [x] => [x]
  | x :: y :: t => if x = a ∧ y = b then N :: zg_rp a b N t else x :: zg_rp a b N (y :: t)
theorem zg_rp2 {a b N x y : Nat} {t : List Nat} : zg_rp a b N (x :: y :: t) = if x = a ∧ y = b then N :: zg_rp a b N t else x :: zg_rp a b N (y :: t) := by
  rw [zg_rp]
theorem zg_rpA {a b N : Nat} (ha : N ≠ a) (hb : N ≠ b) (l2 : List Nat) : ∀ (k : Nat) (l1 : List Nat), l1.length ≤ k → zg_rp a b N (l1 ++ N :: l2) = zg_rp a b N l1 ++ N :: zg_rp a b N l2 := by
  intro k
  induction k with
  | zero =>
    intro l1 hl
    have : l1 = [] := List.length_eq_zero_iff.mp (by omega)
    subst this
    show zg_rp a b N (N :: l2) = N :: zg_rp a b N l2
    cases l2 with
    | nil => rfl
    | cons y t => rw [zg_rp2, if_neg (fun z => ha z.1)]
  | succ k ih =>
    intro l1 hl
    match l1, hl with
    | [], _ => exact ih [] (by simp)
    | [x], _ =>
      show zg_rp a b N (x :: N :: l2) = x :: N :: zg_rp a b N l2
      rw [zg_rp2, if_neg (fun z => hb z.2)]
      exact congrArg (x :: ·) (ih [] (by simp))
    | x :: y :: t, hl =>
      simp only [List.length_cons] at hl
      show zg_rp a b N (x :: y :: (t ++ N :: l2)) = zg_rp a b N (x :: y :: t) ++ N :: zg_rp a b N l2
      rw [zg_rp2, zg_rp2]
      by_cases c : x = a ∧ y = b
      · rw [if_pos c, if_pos c, ih t (by omega)]; rfl
      · rw [if_neg c, if_neg c]
        have := ih (y :: t) (by simp only [List.length_cons]; omega)
        rw [List.cons_append] at this
        rw [this]; rfl
theorem zg_rpB {a b N : Nat} (l2 : List Nat) : ∀ (k : Nat) (l1 : List Nat), l1.length ≤ k → (a = b → l1 = [] ∨ l1.getLastD 0 ≠ a) → zg_rp a b N (l1 ++ a :: b :: l2) = zg_rp a b N l1 ++ N :: zg_rp a b N l2 := by
  intro k
  induction k with
  | zero =>
    intro l1 hl _
    have : l1 = [] := List.length_eq_zero_iff.mp (by omega)
    subst this
    show zg_rp a b N (a :: b :: l2) = N :: zg_rp a b N l2
    rw [zg_rp2, if_pos ⟨rfl, rfl⟩]
  | succ k ih =>
    intro l1 hl h
    match l1, hl, h with
    | [], _, h => exact ih [] (by simp) h
    | [x], _, h =>
      show zg_rp a b N (x :: a :: b :: l2) = x :: N :: zg_rp a b N l2
      have c : ¬ (x = a ∧ a = b) := by
        intro z
        rcases h z.2 with w | w
        · cases w
        · exact w z.1
      rw [zg_rp2, if_neg c]
      exact congrArg (x :: ·) (ih [] (by simp) (fun _ => Or.inl rfl))
    | x :: y :: t, hl, h =>
      simp only [List.length_cons] at hl
      show zg_rp a b N (x :: y :: (t ++ a :: b :: l2)) = zg_rp a b N (x :: y :: t) ++ N :: zg_rp a b N l2
      rw [List.getLastD_cons, List.getLastD_cons] at h
      rw [zg_rp2, zg_rp2]
      by_cases c : x = a ∧ y = b
      · rw [if_pos c, if_pos c, ih t (by omega) ?_]
        · rfl
        · intro z
          rcases h z with w | w
          · cases w
          · cases t with
            | nil => exact Or.inl rfl
            | cons u v => rw [List.getLastD_cons] at w ⊢; exact Or.inr w
      · rw [if_neg c, if_neg c]
        have := ih (y :: t) (by simp only [List.length_cons]; omega) (fun z => by
          rcases h z with w | w
          · cases w
          · rw [List.getLastD_cons]; exact Or.inr w)
        rw [List.cons_append] at this
        rw [this]; rfl
theorem zg_rpM {a b N : Nat} (ha : N ≠ a) (hb : N ≠ b) {l1 l2 : List Nat} (h : a = b → l1 = [] ∨ l1.getLastD 0 ≠ a) : zg_rp a b N (l1 ++ N :: l2) = zg_rp a b N (l1 ++ a :: b :: l2) := by
  rw [zg_rpA ha hb l2 _ l1 (Nat.le_refl _), zg_rpB l2 _ l1 (Nat.le_refl _) h]
theorem zg_rpN {a b N : Nat} : ∀ (l : List Nat), (∀ l1 l2, l ≠ l1 ++ a :: b :: l2) → zg_rp a b N l = l
  | [], _ => rfl
  | [x], _ => rfl
  | x :: y :: t, h => by
    rw [zg_rp2, if_neg]
    · rw [zg_rpN (y :: t) (fun l1 l2 e => h (x :: l1) l2 (by rw [e]; rfl))]
    · intro z
      exact h [] t (by rw [z.1, z.2]; rfl)
/-- the places where a run of pairs begins -/
def zf_RS (U : Nat → Prop) (na nb sy ow : Nat → Nat) (a b n x : Nat) : Prop :=
  U x ∧ 32 ≤ na x ∧ sy x = a ∧ sy (na x) = b ∧ ow x ≠ n ∧ (a = b → nb x < 32 ∨ sy (nb x) ≠ a)
def zf_sd (na sy : Nat → Nat) (a b v : Nat) : Prop := 32 ≤ v ∧ 32 ≤ na v ∧ sy v = a ∧ sy (na v) = b
theorem zf_RSp {na nb ow bl sy na' nb' : Nat → Nat} {fn st : Nat} {B : Nat → List Nat} {F : List Nat} {r x y n a b N : Nat} {l1 l2 : List Nat} {U' : Nat → Prop} (h : zx_ST na nb ow bl fn st B F) (hr : r < 32) (hrn : r ≠ n) (e : B r = l1 ++ x :: y :: l2)
    (hx : sy x = a) (hy : sy y = b) (hab : a = b → nb x < 32 ∨ sy (nb x) ≠ a) (hNa : N ≠ a) (hNb : N ≠ b) (hU' : ∀ v, U' v ↔ (zx_U B v ∧ v ≠ y))
    (f1 : ∀ v, v ≠ x → v ≠ y → na' v = na v) (f2 : na' x = na y) (f3 : ∀ v, v ≠ na y → nb' v = nb v) (f4 : nb' (na y) = x) :
    ∀ z, zf_RS U' na' nb' (zn_u sy x N) ow a b n z ↔ ((zf_RS (zx_U B) na nb sy ow a b n z ∧ z ≠ x) ∨ (z = na y ∧ zf_sd na sy a b (na y))) := by
  have hUx : zx_U B x := ⟨r, hr, by rw [e]; simp⟩
  have hUy : zx_U B y := ⟨r, hr, by rw [e]; simp⟩
  have bx := zx_Ub h hUx
  have byy := zx_Ub h hUy
  obtain ⟨a1, a2, a3, a4, a5, a6⟩ := zx_spl h hr e
  have e' : B r = (l1 ++ [x]) ++ y :: l2 := by rw [e]; simp
  obtain ⟨b1, b2, b3, b4, b5, b6⟩ := zx_spl h hr e'
  have nax : na x = y := a2
  have nby : nb y = x := by rw [b1, List.getLastD_concat]
  have hxy : x ≠ y := fun z => b3 (by rw [← z]; simp)
  have nnx := zx_nn h (Or.inr hUx)
  have nny := zx_nn h (Or.inr hUy)
  have nlx : na (nb x) = x := nnx.2.1
  have bdx : na y ≠ x := by
    intro z
    rw [b2] at z
    cases l2 with
    | nil => have w : r = x := z; omega
    | cons u v => have w : u = x := z; exact a4 (by rw [w]; simp)
  have nbb : nb (na y) = y := nny.1
  have lbd : 32 ≤ na y → na y ≠ nb x := by
    intro q z
    rw [b2, a1] at z
    rw [b2] at q
    have nd := (h.1 r hr).2.1
    rw [e] at nd
    cases l2 with
    | nil => have w : 32 ≤ r := q; omega
    | cons u v =>
      have w : u = l1.getLastD r := z
      rcases List.mem_cons.mp (zl_gl l1 r) with m | m
      · have : 32 ≤ u := q
        omega
      · exact (List.nodup_append.mp nd).2.2 u (w ▸ m) u (by simp) rfl
  intro z
  by_cases c1 : z = x
  · subst c1
    constructor
    · intro q; exact absurd (by have := q.2.2.1; rw [zn_us] at this; exact this) hNa
    · rintro (q | q)
      · exact absurd rfl q.2
      · exact absurd q.1.symm bdx
  by_cases c2 : z = y
  · subst c2
    constructor
    · intro q; exact absurd rfl ((hU' _).mp q.1).2
    · rintro (q | q)
      · obtain ⟨⟨_, _, q3, _, _, q6⟩, _⟩ := q
        have ab : a = b := q3.symm.trans hy
        rcases q6 ab with w | w
        · omega
        · rw [nby] at w; exact absurd hx w
      · exact absurd q.1.symm b6
  by_cases c3 : z = nb x
  · subst c3
    constructor
    · intro q
      have w := q.2.2.2.1
      rw [f1 _ c1 c2, nlx, zn_us] at w
      exact absurd w hNb
    · rintro (q | q)
      · obtain ⟨⟨q1, _, q3, q4, _, _⟩, _⟩ := q
        rw [nlx, hx] at q4
        rcases hab q4 with w | w
        · have := (zx_Ub h q1).1; omega
        · exact absurd q3 w
      · exact absurd q.1.symm (lbd q.2.1)
  by_cases c4 : z = na y
  · constructor
    · intro q
      right
      have qU := ((hU' z).mp q.1).1
      have ge := (zx_Ub h qU).1
      have nz : na z ≠ x := by
        intro w
        have := (zx_nn h (Or.inr qU)).1
        rw [w] at this
        exact c3 this.symm
      obtain ⟨_, q2, q3, q4, _, _⟩ := q
      rw [f1 z c1 c2] at q2 q4
      rw [zn_un c1] at q3
      rw [zn_un nz] at q4
      rw [c4] at q2 q3 q4 ge
      exact ⟨c4, ge, q2, q3, q4⟩
    · intro q
      have key : zf_sd na sy a b z := by
        rcases q with q | q
        · obtain ⟨⟨q1, q2, q3, q4, _, _⟩, _⟩ := q
          exact ⟨(zx_Ub h q1).1, q2, q3, q4⟩
        · rw [c4]; exact q.2
      obtain ⟨k1, k2, k3, k4⟩ := key
      have qU : zx_U B z := by
        rcases nny.2.2.1 with w | w
        · omega
        · rw [c4]; exact w
      have nz : na z ≠ x := by
        intro w
        have := (zx_nn h (Or.inr qU)).1
        rw [w] at this
        exact c3 this.symm
      have oz : ow z = r := by
        have mz : z ∈ B r := by
          rw [c4, b2] at k1 ⊢
          rw [e]
          cases l2 with
          | nil => have w : 32 ≤ r := k1; omega
          | cons u v => show u ∈ _; simp
        exact ((h.1 r hr).2.2.1 z mz).2.2
      refine ⟨(hU' z).mpr ⟨qU, c2⟩, ?_, ?_, ?_, ?_, ?_⟩
      · rw [f1 z c1 c2]; exact k2
      · rw [zn_un c1]; exact k3
      · rw [f1 z c1 c2, zn_un nz]; exact k4
      · rw [oz]; exact hrn
      · intro _
        right
        rw [c4, f4, zn_us]; exact hNa
  · have c4' := c4
    constructor
    · rintro ⟨q1, q2, q3, q4, q5, q6⟩
      have qU := ((hU' z).mp q1).1
      have nz := zx_nn h (Or.inr qU)
      have nzx : na z ≠ x := fun w => c3 (by rw [← w]; exact nz.1.symm)
      have nbx : nb z ≠ x := fun w => c2 (by rw [← nax, ← w]; exact nz.2.1.symm)
      rw [f1 z c1 c2] at q2 q4
      rw [zn_un c1] at q3
      rw [zn_un nzx] at q4
      rw [f3 z c4, zn_un nbx] at q6
      exact Or.inl ⟨⟨qU, q2, q3, q4, q5, q6⟩, c1⟩
    · rintro (⟨⟨q1, q2, q3, q4, q5, q6⟩, _⟩ | q)
      · have nz := zx_nn h (Or.inr q1)
        have nzx : na z ≠ x := fun w => c3 (by rw [← w]; exact nz.1.symm)
        have nbx : nb z ≠ x := fun w => c2 (by rw [← nax, ← w]; exact nz.2.1.symm)
        refine ⟨(hU' z).mpr ⟨q1, c2⟩, ?_, ?_, ?_, q5, ?_⟩
        · rw [f1 z c1 c2]; exact q2
        · rw [zn_un c1]; exact q3
        · rw [f1 z c1 c2, zn_un nzx]; exact q4
        · rw [f3 z c4, zn_un nbx]; exact q6
      · exact absurd q.1 c4
/-- no run begins anywhere: no pair is left -/
theorem zf_none {na nb ow bl sy : Nat → Nat} {fn st : Nat} {B : Nat → List Nat} {F : List Nat} {n a b : Nat} (h : zx_ST na nb ow bl fn st B F) (hn : ∀ z, ¬ zf_RS (zx_U B) na nb sy ow a b n z) {r : Nat} (hr : r < 32) (hrn : r ≠ n) :
    ∀ (k : Nat) (l1 : List Nat) (x y : Nat) (l2 : List Nat), l1.length ≤ k → B r = l1 ++ x :: y :: l2 → sy x = a → sy y = b → False := by
  intro k
  induction k with
  | zero =>
    intro l1 x y l2 hl e hx hy
    have : l1 = [] := List.length_eq_zero_iff.mp (by omega)
    subst this
    obtain ⟨a1, a2, _⟩ := zx_spl h hr e
    have b3 := (h.1 r hr).2.2.1 x (by rw [e]; simp)
    have b4 := (h.1 r hr).2.2.1 y (by rw [e]; simp)
    have a2' : na x = y := a2
    refine hn x ⟨⟨r, hr, by rw [e]; simp⟩, by omega, hx, by rw [a2']; exact hy, by omega, fun _ => Or.inl ?_⟩
    have a1' : nb x = r := a1
    omega
  | succ k ih =>
    intro l1 x y l2 hl e hx hy
    obtain ⟨a1, a2, _⟩ := zx_spl h hr e
    have b3 := (h.1 r hr).2.2.1 x (by rw [e]; simp)
    have b4 := (h.1 r hr).2.2.1 y (by rw [e]; simp)
    have a2' : na x = y := a2
    by_cases c : a = b → nb x < 32 ∨ sy (nb x) ≠ a
    · exact hn x ⟨⟨r, hr, by rw [e]; simp⟩, by omega, hx, by rw [a2']; exact hy, by omega, c⟩
    · have ab : a = b := Classical.byContradiction fun w => c (fun q => absurd q w)
      have c' : ¬ (nb x < 32 ∨ sy (nb x) ≠ a) := fun w => c (fun _ => w)
      rcases List.eq_nil_or_concat l1 with q | ⟨l, z, q⟩
      · rw [q] at a1
        have a1' : nb x = r := a1
        exact c' (Or.inl (by omega))
      · rw [List.concat_eq_append] at q
        rw [q, List.getLastD_concat] at a1
        have sz : sy z = a := Classical.byContradiction fun w => c' (Or.inr (by rw [a1]; exact w))
        refine ih l z x (y :: l2) ?_ ?_ sz (by rw [hx]; exact ab)
        · rw [q, List.length_append] at hl
          have : [z].length = 1 := rfl
          omega
        · rw [e, q]; simp
end
section
/-! ===== step 3 in X: foldRun ===== -/
def zf_I (H : Nat → List Nat) (a b n : Nat) (B : Nat → List Nat) (F : List Nat) (fn st : Nat) (lo hr : Int64) (na nb sy ow bl sh sc sn sv dh dc dn dv : Nat → Nat) (rR : Nat → Int64) (rT : Int64) : Prop :=
  zx_XC B F fn st lo na nb sy ow bl sh sc sn sv dh dc dn dv rR rT ∧ (∀ i, i < 64 → (zb_t hr i = true ↔ (0 < i ∧ i < 32 ∧ (B i).length = 1))) ∧
  (∀ r, r < 32 → r ≠ n → zg_rp a b (16 + n) ((B r).map sy) = H r) ∧ (B n).map sy = [a, b]
theorem zf_mu {sy : Nat → Nat} {x v : Nat} {l : List Nat} (h : x ∉ l) : l.map (zn_u sy x v) = l.map sy := by
  apply List.map_congr_left
  intro y hy
  exact zn_un fun e => h (e ▸ hy)
theorem zf_gl {sy : Nat → Nat} {g : Nat} : ∀ (l : List Nat), l ≠ [] → (l.map sy).getLastD 0 = sy (l.getLastD g)
  | [], h => absurd rfl h
  | x :: t, _ => by
    rw [List.map_cons, List.getLastD_cons, List.getLastD_cons]
    cases t with
    | nil => rfl
    | cons y t =>
      have := zf_gl (sy := sy) (g := x) (y :: t) (by simp)
      rw [List.map_cons, List.getLastD_cons] at this ⊢
      exact this
section
variable {xc1 xc2 xc3 xc4 xc5 xc6 xrd xod xtd : Int32} {xli xle xsz xcu xfn xst xrt : Nat} {xlv xhr xlo xrT : Int64} {na nb sy ow bl sp fT lT sh sc sn sv dh dc dn dv pa de oc wa me qu wo co : Nat → Nat} {rR : Nat → Int64} {te : Nat → Int32}
theorem zx_stands {post : Int32 → Prop} {B : Nat → List Nat} {F : List Nat} {v a b : Nat} (hS : zx_ST na nb ow bl xfn xst B F) (hsy : ∀ x, zx_U B x → sy x < 48) (hv : v < 32 ∨ zx_U B v) (ha : a < 48) (hb : b < 48)
    (h1 : zf_sd na sy a b v → post 1) (h0 : ¬ zf_sd na sy a b v → post 0) : wpX_standsAt post (xc1, xc2, xc3, xc4, xc5, xc6, nI xli, nI xle, nI xsz, nI xcu, nI xfn, nI xst, xlv, xhr, xlo, nI xrt, xrT, xrd, xod, xtd, zn_A na, zn_A nb, zn_A sy, zn_A ow, zn_A bl, zn_A sp, zn_A fT, zn_A lT, zn_A sh, zn_A sc, zn_A sn, zn_A sv, zn_A dh, zn_A dc, zn_A dn, zn_A dv, rR, zn_A pa, zn_A de, zn_A oc, zn_A wa, te, zn_A me, zn_A qu, zn_A wo, zn_A co) (nI v) (nI a) (nI b) := by
  have hv128 : v < 128 := by
    rcases hv with w | w
    · omega
    · exact (zx_Ub hS w).2.1
  have hn := (hS.2.2.2.2.2.2.2 v hv128).1
  unfold wpX_standsAt
  refine pk_le v 31 (fun c => h0 fun z => ?_) (fun c => ⟨vp_in_nI hv128 (by decide), ?_⟩)
  · have := z.1; omega
  obtain hU : zx_U B v := by
    rcases hv with w | w
    · omega
    · exact w
  have sv := hsy v hU
  rw [zn_rd (by omega)]
  refine pk_lt 31 (na v) (fun c2 => ⟨vp_in_nI hv128 (by decide), ?_⟩) (fun c2 => h0 fun z => ?_)
  · have hU2 : zx_U B (na v) := by
      rcases (zx_nn hS (Or.inr hU)).2.2.1 with w | w
      · omega
      · exact w
    have sn := hsy _ hU2
    rw [zn_rd (by omega)]
    refine pk_eq (sy v) a (fun c3 => ⟨vp_in_nI hv128 (by decide), vp_in_nI hn (by decide), ?_⟩) (fun c3 => h0 fun z => c3 z.2.2.1)
    rw [zn_rd (by omega)]
    exact pk_eq (sy (na v)) b (fun c4 => h1 ⟨by omega, by omega, c3, c4⟩) (fun c4 => h0 fun z => c4 z.2.2.2)
  · have := z.2.1; omega
theorem zf_pair {post : Int32 → SX → Prop} {H : Nat → List Nat} {B : Nat → List Nat} {F : List Nat} {a b n x : Nat} (hn : n < 32) (hNa : 16 + n ≠ a) (hNb : 16 + n ≠ b)
    (h : zf_I H a b n B F xfn xst xlo xhr na nb sy ow bl sh sc sn sv dh dc dn dv rR xrT) (hx : zf_RS (zx_U B) na nb sy ow a b n x)
    (K : ∀ (B' : Nat → List Nat) (F' : List Nat) (fn' st' : Nat) (hr' lo' rT' : Int64) (rR' : Nat → Int64) (na' nb' sy' bl' sh' sc' sn' sv' dh' dc' dn' dv' : Nat → Nat), st' + 1 = xst → zf_I H a b n B' F' fn' st' lo' hr' na' nb' sy' ow bl' sh' sc' sn' sv' dh' dc' dn' dv' rR' rT' → (na (na x) < 32 ∨ zx_U B' (na (na x))) → (∀ z, zf_RS (zx_U B') na' nb' sy' ow a b n z ↔ ((zf_RS (zx_U B) na nb sy ow a b n z ∧ z ≠ x) ∨ (z = na (na x) ∧ zf_sd na sy a b (na (na x))))) →
      (zf_sd na' sy' a b (na (na x)) ↔ zf_sd na sy a b (na (na x))) → (a = b → ¬ zf_RS (zx_U B) na nb sy ow a b n (na (na x))) → na (na x) ≠ x →
      post (nI (na (na x))) (xc1, xc2, xc3, xc4, xc5, xc6, nI xli, nI xle, nI xsz, nI xcu, nI fn', nI st', xlv, hr', lo', nI xrt, rT', xrd, xod, xtd, zn_A na', zn_A nb', zn_A sy', zn_A ow, zn_A bl', zn_A sp, zn_A fT, zn_A lT, zn_A sh', zn_A sc', zn_A sn', zn_A sv', zn_A dh', zn_A dc', zn_A dn', zn_A dv', rR', zn_A pa, zn_A de, zn_A oc, zn_A wa, te, zn_A me, zn_A qu, zn_A wo, zn_A co)) :
    wpX_foldPair post (xc1, xc2, xc3, xc4, xc5, xc6, nI xli, nI xle, nI xsz, nI xcu, nI xfn, nI xst, xlv, xhr, xlo, nI xrt, xrT, xrd, xod, xtd, zn_A na, zn_A nb, zn_A sy, zn_A ow, zn_A bl, zn_A sp, zn_A fT, zn_A lT, zn_A sh, zn_A sc, zn_A sn, zn_A sv, zn_A dh, zn_A dc, zn_A dn, zn_A dv, rR, zn_A pa, zn_A de, zn_A oc, zn_A wa, te, zn_A me, zn_A qu, zn_A wo, zn_A co) (nI x) (nI n) := by
  obtain ⟨hX, hM, hH, hBn⟩ := h
  have hS := hX.1
  obtain ⟨hU, h32, hsx, hsy', hox, hab⟩ := hx
  obtain ⟨r, hr, hm⟩ := hU
  have hor := ((hS.1 r hr).2.2.1 x hm).2.2
  have hrn : r ≠ n := by rw [← hor]; exact hox
  obtain ⟨l1, l2, e⟩ := List.append_of_mem hm
  obtain ⟨a1, a2, a3, a4, a5, a6⟩ := zx_spl hS hr e
  cases l2 with
  | nil => have w : na x = r := a2; omega
  | cons y l2 =>
    have nax : na x = y := a2
    have e' : B r = (l1 ++ [x]) ++ y :: l2 := by rw [e]; simp
    obtain ⟨b1, b2, b3, b4, b5, b6⟩ := zx_spl hS hr e'
    have nby : nb y = x := by rw [b1, List.getLastD_concat]
    have hUx : zx_U B x := ⟨r, hr, hm⟩
    have hUy : zx_U B y := ⟨r, hr, by rw [e]; simp⟩
    have hxy : x ≠ y := fun z => b3 (by rw [← z]; simp)
    have nny := zx_nn hS (Or.inr hUy)
    have bdx : na y ≠ x := by
      intro z
      rw [b2] at z
      cases l2 with
      | nil => have w : r = x := z; have := (zx_Ub hS hUx).1; omega
      | cons u v => have w : u = x := z; exact a4 (by rw [w]; simp)
    rw [nax] at hsy' K
    refine zx_foldPair hr hn e hX ?_
    intro na' nb' bl' sh' sc' sn' sv' dh' dc' dn' dv' hr' lo' rT' rR' q1 f1 f2 f3 f4 hX2
    have hU2 : ∀ v, zx_U (zn_u B r (l1 ++ x :: l2)) v ↔ (zx_U B v ∧ v ≠ y) := fun v => zx_Ufold hS hr e
    have hRS := zf_RSp hS hr hrn e hsx hsy' hab hNa hNb hU2 f1 f2 f3 f4
    have hst1 : 1 ≤ xst := by
      have t := zx_sul (f := fun q => (B q).length) 32 r hr
      rw [← hS.2.2.2.2.2.1] at t
      have t' : (B r).length ≤ xst := t
      rw [e] at t'
      simp at t'
      omega
    have xo : ∀ q, q < 32 → q ≠ r → x ∉ B q := fun q hq c z => c ((((hS.1 q hq).2.2.1 x z).2.2).symm.trans hor)
    have hgb : na y < 32 ∨ zx_U (zn_u B r (l1 ++ x :: l2)) (na y) := by
      rcases nny.2.2.1 with w | w
      · exact Or.inl w
      · exact Or.inr ((hU2 _).mpr ⟨w, b6⟩)
    rw [← b2]
    refine K _ _ _ _ _ _ _ _ _ _ _ _ _ _ _ _ _ _ _ _ (by omega) ⟨hX2, ?_, ?_, ?_⟩ hgb hRS ?_ ?_ bdx
    · intro i hi
      rw [q1 i hi]
      by_cases c : i = r
      · subst c
        rw [zn_us]
        have hb : zb_t xhr i = false := by
          apply ts_nt
          intro z
          have w := (hM i hi).mp z
          rw [e] at w
          simp at w
          omega
        rw [hb, Bool.false_or, decide_eq_true_eq]
        constructor
        · intro z; exact ⟨by omega, hr, z.2.2⟩
        · intro z; exact ⟨rfl, by omega, z.2.2⟩
      · rw [zn_un c, Bool.or_eq_true, decide_eq_true_eq, hM i hi]
        constructor
        · rintro (z | z)
          · exact z
          · exact absurd z.1 c
        · exact Or.inl
    · intro q hq hqn
      by_cases c : q = r
      · subst c
        rw [zn_us, ← hH q hq hqn, e]
        rw [List.map_append, List.map_cons, zn_us, zf_mu a3, zf_mu (fun z => a4 (List.mem_cons_of_mem _ z)), List.map_append, List.map_cons, List.map_cons, hsx, hsy']
        apply zg_rpM hNa hNb
        intro ab
        cases l1 with
        | nil => exact Or.inl rfl
        | cons u v =>
          right
          rw [zf_gl (g := q) (u :: v) (by simp), ← a1]
          rcases hab ab with w | w
          · have hm2 : nb x ∈ B q := by
              rw [e, a1, List.getLastD_cons]
              exact List.mem_append_left _ (zl_gl v u)
            have := ((hS.1 q hq).2.2.1 _ hm2).1
            omega
          · exact w
      · rw [zn_un c, zf_mu (xo q hq c)]
        exact hH q hq hqn
    · rw [zn_un (fun z => hrn z.symm), zf_mu (xo n hn (fun z => hrn z.symm))]
      exact hBn
    · by_cases c : 32 ≤ na y
      · have hUb : zx_U B (na y) := by
          rcases nny.2.2.1 with w | w
          · omega
          · exact w
        have nz : na (na y) ≠ x := by
          intro w
          have t := (zx_nn hS (Or.inr hUb)).1
          rw [w, a1] at t
          have nd := (hS.1 r hr).2.1
          rw [e] at nd
          rw [b2] at t c
          cases l2 with
          | nil => have w : 32 ≤ r := c; omega
          | cons u v =>
            have w : l1.getLastD r = u := t
            rcases List.mem_cons.mp (zl_gl l1 r) with m | m
            · have : 32 ≤ u := c
              omega
            · exact (List.nodup_append.mp nd).2.2 u (w ▸ m) u (by simp) rfl
        unfold zf_sd
        rw [f1 _ bdx b6, zn_un bdx, zn_un nz]
      · constructor
        · intro z; exact absurd z.1 c
        · intro z; exact absurd z.1 c
    · intro ab z
      rcases z.2.2.2.2.2 ab with w | w
      · rw [nny.1] at w
        have := (zx_Ub hS hUy).1; omega
      · rw [nny.1] at w
        exact w (hsy'.trans ab.symm)
theorem zf_run {post : SX → Prop} {H : Nat → List Nat} {a b n : Nat} (ha : a < 48) (hb : b < 48) (hn : n < 32) (hNa : 16 + n ≠ a) (hNb : 16 + n ≠ b) :
    ∀ (s i x : Nat) (B : Nat → List Nat) (F : List Nat) (fn st : Nat) (hr lo rT : Int64) (rR : Nat → Int64) (na nb sy bl sh sc sn sv dh dc dn dv : Nat → Nat), st = s → i + s ≤ 96 → zf_I H a b n B F fn st lo hr na nb sy ow bl sh sc sn sv dh dc dn dv rR rT → zf_RS (zx_U B) na nb sy ow a b n x →
    (∀ (B' : Nat → List Nat) (F' : List Nat) (fn' st' : Nat) (hr' lo' rT' : Int64) (rR' : Nat → Int64) (na' nb' sy' bl' sh' sc' sn' sv' dh' dc' dn' dv' : Nat → Nat), zf_I H a b n B' F' fn' st' lo' hr' na' nb' sy' ow bl' sh' sc' sn' sv' dh' dc' dn' dv' rR' rT' → (∀ z, zf_RS (zx_U B') na' nb' sy' ow a b n z ↔ (zf_RS (zx_U B) na nb sy ow a b n z ∧ z ≠ x)) → post (xc1, xc2, xc3, xc4, xc5, xc6, nI xli, nI xle, nI xsz, nI xcu, nI fn', nI st', xlv, hr', lo', nI xrt, rT', xrd, xod, xtd, zn_A na', zn_A nb', zn_A sy', zn_A ow, zn_A bl', zn_A sp, zn_A fT, zn_A lT, zn_A sh', zn_A sc', zn_A sn', zn_A sv', zn_A dh', zn_A dc', zn_A dn', zn_A dv', rR', zn_A pa, zn_A de, zn_A oc, zn_A wa, te, zn_A me, zn_A qu, zn_A wo, zn_A co)) →
    wX_foldRun_6 post (nI a) (nI b) (nI n) (s + 1) (nI x) (nI i) xc1 xc2 xc3 xc4 xc5 xc6 (nI xli) (nI xle) (nI xsz) (nI xcu) (nI fn) (nI st) xlv hr lo (nI xrt) rT xrd xod xtd (zn_A na) (zn_A nb) (zn_A sy) (zn_A ow) (zn_A bl) (zn_A sp) (zn_A fT) (zn_A lT) (zn_A sh) (zn_A sc) (zn_A sn) (zn_A sv) (zn_A dh) (zn_A dc) (zn_A dn) (zn_A dv) rR (zn_A pa) (zn_A de) (zn_A oc) (zn_A wa) te (zn_A me) (zn_A qu) (zn_A wo) (zn_A co) := by
  intro s
  induction s with
  | zero =>
    intro i x B F fn st hr lo rT rR na nb sy bl sh sc sn sv dh dc dn dv hs hi hI hx K
    exfalso
    obtain ⟨r, hr, hm⟩ := hx.1
    have hS := hI.1.1
    have t := zx_sul (f := fun q => (B q).length) 32 r hr
    rw [← hS.2.2.2.2.2.1] at t
    have t' : (B r).length ≤ st := t
    have := List.length_pos_of_mem hm
    omega
  | succ s ih =>
    intro i x B F fn st hr lo rT rR na nb sy bl sh sc sn sv dh dc dn dv hs hi hI hx K
    rw [wX_foldRun_6]
    refine br_f ?_ ?_
    · rw [show (128 : Int32) = nI 128 from rfl, nI_leI (by omega) (by omega)]; omega
    refine zf_pair hn hNa hNb hI hx ?_
    intro B' F' fn' st' hr' lo' rT' rR' na' nb' sy' bl' sh' sc' sn' sv' dh' dc' dn' dv' hst hI2 hg hRS hsd hnb hne
    refine pk_eq a b (fun hab => ?_) (fun hab => ?_)
    · refine zx_stands hI2.1.1 hI2.1.2.1 hg ha hb (fun h1 => ?_) (fun h0 => ?_)
      · refine br_f (by decide) (nm_r (nI_1 _) ?_)
        refine ih (i + 1) _ _ _ _ _ _ _ _ _ _ _ _ _ _ _ _ _ _ _ _ _ (by omega) (by omega) hI2 ((hRS _).mpr (Or.inr ⟨rfl, hsd.mp h1⟩)) ?_
        intro B2 F2 fn2 st2 hr2 lo2 rT2 rR2 na2 nb2 sy2 bl2 sh2 sc2 sn2 sv2 dh2 dc2 dn2 dv2 hI3 hRS3
        refine K _ _ _ _ _ _ _ _ _ _ _ _ _ _ _ _ _ _ _ _ hI3 ?_
        intro z
        rw [hRS3 z, hRS z]
        constructor
        · rintro ⟨q | q, w⟩
          · exact q
          · exact absurd q.1 w
        · intro q
          refine ⟨Or.inl q, fun w => hnb hab ?_⟩
          rw [← w]; exact q.1
      · refine br_t rfl (K _ _ _ _ _ _ _ _ _ _ _ _ _ _ _ _ _ _ _ _ hI2 ?_)
        intro z
        rw [hRS z]
        constructor
        · rintro (q | q)
          · exact q
          · exact absurd (hsd.mpr q.2) h0
        · exact Or.inl
    · refine K _ _ _ _ _ _ _ _ _ _ _ _ _ _ _ _ _ _ _ _ hI2 ?_
      intro z
      rw [hRS z]
      constructor
      · rintro (q | q)
        · exact q
        · obtain ⟨q1, q2⟩ := q
          have r2 := (hRS z).mpr (Or.inr ⟨q1, q2⟩)
          rw [q1]
          obtain ⟨w1, w2, w3, w4⟩ := q2
          have hU : zx_U B (na (na x)) := by
            have hUx := hx.1
            have nnx := zx_nn hI.1.1 (Or.inr hUx)
            have hUy : zx_U B (na x) := by
              rcases nnx.2.2.1 with t | t
              · have := hx.2.1; omega
              · exact t
            rcases (zx_nn hI.1.1 (Or.inr hUy)).2.2.1 with t | t
            · omega
            · exact t
          rw [q1] at r2
          exact ⟨⟨hU, w2, w3, w4, r2.2.2.2.2.1, fun e => absurd e hab⟩, hne⟩
      · exact Or.inl
end
end
section
/-! ===== step 3 in X: gatherRuns and the loop over the runs ===== -/
section
variable {xc1 xc2 xc3 xc4 xc5 xc6 xrd xod xtd : Int32} {xli xle xsz xcu xfn xst xrt : Nat} {xlv xhr xlo xrT : Int64} {na nb sy ow bl sp fT lT sh sc sn sv dh dc dn dv pa de oc wa me qu wo co : Nat → Nat} {rR : Nat → Int64} {te : Nat → Int32}
theorem zf_71 {post : Int32 → SX → Prop} {J : Int32 → Int32 → Int32 → (Nat → Int32) → (Nat → Int32) → (Nat → Int32) → (Nat → Int32) → (Nat → Int32) → (Nat → Int32) → (Nat → Int32) → (Nat → Int32) → (Nat → Int32) → (Nat → Int32) → (Nat → Int32) → (Nat → Int32) → (Nat → Int32) → (Nat → Int32) → (Nat → Int32) → (Nat → Int32) → (Nat → Int64) → (Nat → Int32) → (Nat → Int32) → (Nat → Int32) → (Nat → Int32) → (Nat → Int32) → (Nat → Int32) → (Nat → Int32) → (Nat → Int32) → (Nat → Int32) → Prop}
    {z0 : Int32} {g : Prop} {a b n x k m : Nat} (hz : z0 = 0 ↔ ¬ g) (hx : x < 128) (ho : ow x < 32) (hn : n < 32) (hk : k < 128) (hm : m < 2 ^ 30)
    (h1 : g ∧ ow x ≠ n → J (nI (k + 1)) (nI (dn x)) (nI m) (zn_A na) (zn_A nb) (zn_A sy) (zn_A ow) (zn_A bl) (zn_A sp) (zn_A fT) (zn_A lT) (zn_A sh) (zn_A sc) (zn_A sn) (zn_A sv) (zn_A dh) (zn_A dc) (zn_A dn) (zn_A dv) rR (zn_A pa) (zn_A de) (zn_A oc) (zn_A wa) te (zn_A me) (zn_A qu) (zn_A (zn_u wo k x)) (zn_A co)) (h0 : ¬ (g ∧ ow x ≠ n) → J (nI k) (nI (dn x)) (nI m) (zn_A na) (zn_A nb) (zn_A sy) (zn_A ow) (zn_A bl) (zn_A sp) (zn_A fT) (zn_A lT) (zn_A sh) (zn_A sc) (zn_A sn) (zn_A sv) (zn_A dh) (zn_A dc) (zn_A dn) (zn_A dv) rR (zn_A pa) (zn_A de) (zn_A oc) (zn_A wa) te (zn_A me) (zn_A qu) (zn_A wo) (zn_A co)) :
    wX_gatherRuns_71 post J (nI a) (nI b) (nI n) (nI k) (nI x) (nI (m + 1)) z0 xc1 xc2 xc3 xc4 xc5 xc6 (nI xli) (nI xle) (nI xsz) (nI xcu) (nI xfn) (nI xst) xlv xhr xlo (nI xrt) xrT xrd xod xtd (zn_A na) (zn_A nb) (zn_A sy) (zn_A ow) (zn_A bl) (zn_A sp) (zn_A fT) (zn_A lT) (zn_A sh) (zn_A sc) (zn_A sn) (zn_A sv) (zn_A dh) (zn_A dc) (zn_A dn) (zn_A dv) rR (zn_A pa) (zn_A de) (zn_A oc) (zn_A wa) te (zn_A me) (zn_A qu) (zn_A wo) (zn_A co) := by
  unfold wX_gatherRuns_71
  refine br_c (fun c => ?_) (fun c => ⟨vp_in_nI hx (by decide), ?_⟩)
  · exact ⟨vp_in_nI hx (by decide), nm_r (zn_rd (by omega)) (nm_r (pk_m1 m) (h0 fun q => (hz.mp c) q.1))⟩
  · have hg : g := Classical.byContradiction fun q => c (hz.mpr q)
    rw [zn_rd (by omega)]
    refine pk_eq (ow x) n (fun d => ?_) (fun d => ?_)
    · exact ⟨vp_in_nI hx (by decide), nm_r (zn_rd (by omega)) (nm_r (pk_m1 m) (h0 fun q => q.2 d))⟩
    · refine br_f ?_ ⟨vp_in_nI hk (by decide), nm_r (zn_up (by omega)) (nm_r (nI_1 k) ⟨vp_in_nI hx (by decide), nm_r (zn_rd (by omega)) (nm_r (pk_m1 m) (h1 ⟨hg, d⟩))⟩)⟩
      rw [show (128 : Int32) = nI 128 from rfl, nI_leI (by omega) (by omega)]; omega
/-- the condition of gatherRuns at a node -/
def zf_c (nb sy ow : Nat → Nat) (a b n x : Nat) : Bool := decide ((a = b → nb x < 32 ∨ sy (nb x) ≠ a) ∧ ow x ≠ n)
theorem zf_gathL {post : Int32 → SX → Prop} {a b n : Nat} {L : List Nat} (ha : a < 48) (hb : b < 48) (hn : n < 32) (hlen : L.length ≤ 128)
    (hL : ∀ d x t, L = d ++ x :: t → 32 ≤ x ∧ x < 128 ∧ ow x < 32 ∧ dn x = t.headD 0 ∧ nb x < 128 ∧ (32 ≤ nb x → sy (nb x) < 48))
    (K : ∀ wo' : Nat → Nat, (∀ i, i < (L.filter (zf_c nb sy ow a b n)).length → wo' i = (L.filter (zf_c nb sy ow a b n)).getD i 0) → post (nI (L.filter (zf_c nb sy ow a b n)).length) (xc1, xc2, xc3, xc4, xc5, xc6, nI xli, nI xle, nI xsz, nI xcu, nI xfn, nI xst, xlv, xhr, xlo, nI xrt, xrT, xrd, xod, xtd, zn_A na, zn_A nb, zn_A sy, zn_A ow, zn_A bl, zn_A sp, zn_A fT, zn_A lT, zn_A sh, zn_A sc, zn_A sn, zn_A sv, zn_A dh, zn_A dc, zn_A dn, zn_A dv, rR, zn_A pa, zn_A de, zn_A oc, zn_A wa, te, zn_A me, zn_A qu, zn_A wo', zn_A co)) :
    ∀ (t d : List Nat) (wo' : Nat → Nat), L = d ++ t → (∀ i, i < (d.filter (zf_c nb sy ow a b n)).length → wo' i = (d.filter (zf_c nb sy ow a b n)).getD i 0) →
      wX_gatherRuns_29 post (nI a) (nI b) (nI n) xc1 xc2 xc3 xc4 xc5 xc6 (nI xli) (nI xle) (nI xsz) (nI xcu) (nI xfn) (nI xst) xlv xhr xlo (nI xrt) xrT xrd xod xtd (t.length + 1) (nI (d.filter (zf_c nb sy ow a b n)).length) (nI (t.headD 0)) (nI t.length) (zn_A na) (zn_A nb) (zn_A sy) (zn_A ow) (zn_A bl) (zn_A sp) (zn_A fT) (zn_A lT) (zn_A sh) (zn_A sc) (zn_A sn) (zn_A sv) (zn_A dh) (zn_A dc) (zn_A dn) (zn_A dv) rR (zn_A pa) (zn_A de) (zn_A oc) (zn_A wa) te (zn_A me) (zn_A qu) (zn_A wo') (zn_A co) := by
  intro t
  induction t with
  | nil =>
    intro d wo' e hw
    rw [List.append_nil] at e
    subst e
    rw [wX_gatherRuns_29]
    exact br_t (show nI 0 ≤ 0 by decide) (K wo' hw)
  | cons x t ih =>
    intro d wo' e hw
    obtain ⟨x32, x128, ho, hd, hnb, hsn⟩ := hL d x t e
    have hl : L.length = d.length + (t.length + 1) := by rw [e, List.length_append, List.length_cons]
    have hfl := List.length_filter_le (zf_c nb sy ow a b n) d
    show wX_gatherRuns_29 post (nI a) (nI b) (nI n) xc1 xc2 xc3 xc4 xc5 xc6 (nI xli) (nI xle) (nI xsz) (nI xcu) (nI xfn) (nI xst) xlv xhr xlo (nI xrt) xrT xrd xod xtd ((t.length + 1) + 1) (nI (d.filter (zf_c nb sy ow a b n)).length) (nI x) (nI (t.length + 1)) (zn_A na) (zn_A nb) (zn_A sy) (zn_A ow) (zn_A bl) (zn_A sp) (zn_A fT) (zn_A lT) (zn_A sh) (zn_A sc) (zn_A sn) (zn_A sv) (zn_A dh) (zn_A dc) (zn_A dn) (zn_A dv) rR (zn_A pa) (zn_A de) (zn_A oc) (zn_A wa) te (zn_A me) (zn_A qu) (zn_A wo') (zn_A co)
    rw [wX_gatherRuns_29]
    refine br_f (nI_nle (by omega) (by omega)) ⟨vp_in_nI x128 (by decide), nm_r (zn_rd (by omega)) ?_⟩
    have key : ∀ z0 : Int32, (z0 = 0 ↔ ¬ (a = b → nb x < 32 ∨ sy (nb x) ≠ a)) →
        wX_gatherRuns_71 post (wX_gatherRuns_29 post (nI a) (nI b) (nI n) xc1 xc2 xc3 xc4 xc5 xc6 (nI xli) (nI xle) (nI xsz) (nI xcu) (nI xfn) (nI xst) xlv xhr xlo (nI xrt) xrT xrd xod xtd (t.length + 1)) (nI a) (nI b) (nI n) (nI (d.filter (zf_c nb sy ow a b n)).length) (nI x) (nI (t.length + 1)) z0 xc1 xc2 xc3 xc4 xc5 xc6 (nI xli) (nI xle) (nI xsz) (nI xcu) (nI xfn) (nI xst) xlv xhr xlo (nI xrt) xrT xrd xod xtd (zn_A na) (zn_A nb) (zn_A sy) (zn_A ow) (zn_A bl) (zn_A sp) (zn_A fT) (zn_A lT) (zn_A sh) (zn_A sc) (zn_A sn) (zn_A sv) (zn_A dh) (zn_A dc) (zn_A dn) (zn_A dv) rR (zn_A pa) (zn_A de) (zn_A oc) (zn_A wa) te (zn_A me) (zn_A qu) (zn_A wo') (zn_A co) := by
      intro z0 hz
      refine zf_71 hz x128 ho hn (by omega) (by omega) (fun g => ?_) (fun g => ?_)
      · have fe : (d ++ [x]).filter (zf_c nb sy ow a b n) = d.filter (zf_c nb sy ow a b n) ++ [x] := by
          rw [List.filter_append, List.filter_cons_of_pos (by unfold zf_c; exact decide_eq_true g), List.filter_nil]
        have := ih (d ++ [x]) (zn_u wo' (d.filter (zf_c nb sy ow a b n)).length x) (by rw [e]; simp) (by
          rw [fe]
          intro i hi
          rw [List.length_append] at hi
          have h1 : [x].length = 1 := rfl
          by_cases c : i = (d.filter (zf_c nb sy ow a b n)).length
          · rw [c, zn_us, List.getD_eq_getElem?_getD, List.getElem?_append_right (Nat.le_refl _)]; simp
          · rw [zn_un c, hw i (by omega), List.getD_eq_getElem?_getD, List.getD_eq_getElem?_getD, List.getElem?_append_left (by omega)])
        rw [fe, List.length_append] at this
        rw [hd]
        exact this
      · have fe : (d ++ [x]).filter (zf_c nb sy ow a b n) = d.filter (zf_c nb sy ow a b n) := by
          rw [List.filter_append, List.filter_cons_of_neg (by unfold zf_c; rw [decide_eq_true_eq]; exact g), List.filter_nil, List.append_nil]
        have := ih (d ++ [x]) wo' (by rw [e]; simp) (by rw [fe]; exact hw)
        rw [fe] at this
        rw [hd]
        exact this
    refine pk_eq a b (fun ab => ?_) (fun ab => ?_)
    · refine pk_le (nb x) 31 (fun c => ?_) (fun c => ⟨vp_in_nI hnb (by decide), ?_⟩)
      · exact key 1 ⟨fun q => absurd q (by decide), fun q => absurd (fun _ => Or.inl (by omega)) q⟩
      · rw [zn_rd (by omega)]
        have := hsn (by omega)
        refine pk_eq (sy (nb x)) a (fun c2 => ?_) (fun c2 => ?_)
        · exact key 0 ⟨fun _ q => (q ab).elim (fun w => by omega) (fun w => w c2), fun _ => rfl⟩
        · exact key 1 ⟨fun q => absurd q (by decide), fun q => absurd (fun _ => Or.inr c2) q⟩
    · exact key 1 ⟨fun q => absurd q (by decide), fun q => absurd (fun w => absurd w ab) q⟩
theorem zl_nxt {nx pv : Nat → Nat} {p : Nat} {L d t : List Nat} {x : Nat} (h : zl_dl nx pv p L) (e : L = d ++ x :: t) : nx x = t.headD 0 := by
  rw [e] at h
  exact (zl_rem d p x t h).2.1
theorem zf_gath {post : Int32 → SX → Prop} {B : Nat → List Nat} {F : List Nat} {a b n : Nat} (ha : a < 48) (hb : b < 48) (hn : n < 32) (hX : zx_XC B F xfn xst xlo na nb sy ow bl sh sc sn sv dh dc dn dv rR xrT)
    (K : ∀ (wo' : Nat → Nat) (wl : List Nat), wl.Nodup → wl.length ≤ 128 → (∀ z, z ∈ wl ↔ zf_RS (zx_U B) na nb sy ow a b n z) → (∀ i, i < wl.length → wo' i = wl.getD i 0) → post (nI wl.length) (xc1, xc2, xc3, xc4, xc5, xc6, nI xli, nI xle, nI xsz, nI xcu, nI xfn, nI xst, xlv, xhr, xlo, nI xrt, xrT, xrd, xod, xtd, zn_A na, zn_A nb, zn_A sy, zn_A ow, zn_A bl, zn_A sp, zn_A fT, zn_A lT, zn_A sh, zn_A sc, zn_A sn, zn_A sv, zn_A dh, zn_A dc, zn_A dn, zn_A dv, rR, zn_A pa, zn_A de, zn_A oc, zn_A wa, te, zn_A me, zn_A qu, zn_A wo', zn_A co)) :
    wpX_gatherRuns post (xc1, xc2, xc3, xc4, xc5, xc6, nI xli, nI xle, nI xsz, nI xcu, nI xfn, nI xst, xlv, xhr, xlo, nI xrt, xrT, xrd, xod, xtd, zn_A na, zn_A nb, zn_A sy, zn_A ow, zn_A bl, zn_A sp, zn_A fT, zn_A lT, zn_A sh, zn_A sc, zn_A sn, zn_A sv, zn_A dh, zn_A dc, zn_A dn, zn_A dv, rR, zn_A pa, zn_A de, zn_A oc, zn_A wa, te, zn_A me, zn_A qu, zn_A wo, zn_A co) (nI a) (nI b) (nI n) := by
  obtain ⟨hS, hsy, hI, L, hF, hm, _⟩ := hX
  have hk : a * 48 + b < 2304 := by omega
  obtain ⟨e1, e2, e3, e4, e5⟩ := hF.1 _ hk
  have hct := zl_ct hF hk
  have hhd := zl_hd hF hk
  have hmm := hm a b ha hb
  unfold wpX_gatherRuns
  refine nm_r zd_key ⟨vp_in_nI hk (by decide), nm_r (e' := nI ((L (a * 48 + b)).headD 0)) (by rw [zn_rd (by omega), e1]) ⟨vp_in_nI hk (by decide), nm_r (e' := nI (L (a * 48 + b)).length) (by rw [zn_rd (by omega), e2]) ⟨(L (a * 48 + b)).length + 1, ?_⟩⟩⟩
  refine zf_gathL (L := L (a * 48 + b)) ha hb hn (by omega) ?_ ?_ (L (a * 48 + b)) [] wo rfl (by intro i hi; exact absurd hi (by simp))
  · intro d x t e
    have hx : x ∈ L (a * 48 + b) := by rw [e]; simp
    have q := ((hmm x).mp hx).1
    have w := zx_Ub hS q.1
    refine ⟨w.1, w.2.1, w.2.2.1, zl_nxt e3 e, (hS.2.2.2.2.2.2.2 x w.2.1).2, fun c => ?_⟩
    rcases (zx_nn hS (Or.inr q.1)).2.2.2 with v | v
    · omega
    · exact hsy _ v
  · intro wo' hw
    have hfl := List.length_filter_le (zf_c nb sy ow a b n) (L (a * 48 + b))
    refine K wo' _ (List.Nodup.sublist List.filter_sublist e4) (by omega) ?_ hw
    intro z
    rw [List.mem_filter, hmm z]
    unfold zf_c zf_RS
    rw [decide_eq_true_eq]
    constructor
    · rintro ⟨⟨⟨q1, q2⟩, q3, q4⟩, q5, q6⟩
      exact ⟨q1, q2, q3, q4, q6, q5⟩
    · rintro ⟨q1, q2, q3, q4, q5, q6⟩
      exact ⟨⟨⟨q1, q2⟩, q3, q4⟩, q6, q5⟩
theorem zf_loop {post : SX → Prop} {H : Nat → List Nat} {a b n : Nat} {wl : List Nat} (ha : a < 48) (hb : b < 48) (hn : n < 32) (hNa : 16 + n ≠ a) (hNb : 16 + n ≠ b) (hl : wl.length ≤ 128) (hnd : wl.Nodup) (hw : ∀ i, i < wl.length → wo i = wl.getD i 0) :
    ∀ (t d : List Nat) (B : Nat → List Nat) (F : List Nat) (fn st : Nat) (hr lo rT : Int64) (rR : Nat → Int64) (na nb sy bl sh sc sn sv dh dc dn dv : Nat → Nat), wl = d ++ t → zf_I H a b n B F fn st lo hr na nb sy ow bl sh sc sn sv dh dc dn dv rR rT → (∀ z, z ∈ t ↔ zf_RS (zx_U B) na nb sy ow a b n z) →
    (∀ (B' : Nat → List Nat) (F' : List Nat) (fn' st' : Nat) (hr' lo' rT' : Int64) (rR' : Nat → Int64) (na' nb' sy' bl' sh' sc' sn' sv' dh' dc' dn' dv' : Nat → Nat), zf_I H a b n B' F' fn' st' lo' hr' na' nb' sy' ow bl' sh' sc' sn' sv' dh' dc' dn' dv' rR' rT' → (∀ z, ¬ zf_RS (zx_U B') na' nb' sy' ow a b n z) → post (xc1, xc2, xc3, xc4, xc5, xc6, nI xli, nI xle, nI xsz, nI xcu, nI fn', nI st', xlv, hr', lo', nI xrt, rT', xrd, xod, xtd, zn_A na', zn_A nb', zn_A sy', zn_A ow, zn_A bl', zn_A sp, zn_A fT, zn_A lT, zn_A sh', zn_A sc', zn_A sn', zn_A sv', zn_A dh', zn_A dc', zn_A dn', zn_A dv', rR', zn_A pa, zn_A de, zn_A oc, zn_A wa, te, zn_A me, zn_A qu, zn_A wo, zn_A co)) →
    wX_fold_79 post (nI a) (nI b) (nI n) (nI wl.length) (t.length + 1) (nI d.length) xc1 xc2 xc3 xc4 xc5 xc6 (nI xli) (nI xle) (nI xsz) (nI xcu) (nI fn) (nI st) xlv hr lo (nI xrt) rT xrd xod xtd (zn_A na) (zn_A nb) (zn_A sy) (zn_A ow) (zn_A bl) (zn_A sp) (zn_A fT) (zn_A lT) (zn_A sh) (zn_A sc) (zn_A sn) (zn_A sv) (zn_A dh) (zn_A dc) (zn_A dn) (zn_A dv) rR (zn_A pa) (zn_A de) (zn_A oc) (zn_A wa) te (zn_A me) (zn_A qu) (zn_A wo) (zn_A co) := by
  intro t
  induction t with
  | nil =>
    intro d B F fn st hr lo rT rR na nb sy bl sh sc sn sv dh dc dn dv e hI hRS K
    rw [List.append_nil] at e
    rw [wX_fold_79, e]
    refine br_t (nI_le (Nat.le_refl _) (by rw [← e]; omega)) (K _ _ _ _ _ _ _ _ _ _ _ _ _ _ _ _ _ _ _ _ hI ?_)
    intro z q
    have := (hRS z).mpr q
    cases this
  | cons x t ih =>
    intro d B F fn st hr lo rT rR na nb sy bl sh sc sn sv dh dc dn dv e hI hRS K
    have hlen : wl.length = d.length + (t.length + 1) := by rw [e, List.length_append, List.length_cons]
    have hx : wo d.length = x := by
      rw [hw _ (by omega), e, List.getD_eq_getElem?_getD, List.getElem?_append_right (Nat.le_refl _)]; simp
    have hxt : x ∉ t := by
      rw [e] at hnd
      exact (List.nodup_cons.mp (List.nodup_append.mp hnd).2.1).1
    have hx128 := (zx_Ub hI.1.1 ((hRS x).mp (by simp)).1).2.1
    have hst := hI.1.1.2.2.2.2.2.2.1
    show wX_fold_79 post (nI a) (nI b) (nI n) (nI wl.length) ((t.length + 1) + 1) (nI d.length) xc1 xc2 xc3 xc4 xc5 xc6 (nI xli) (nI xle) (nI xsz) (nI xcu) (nI fn) (nI st) xlv hr lo (nI xrt) rT xrd xod xtd (zn_A na) (zn_A nb) (zn_A sy) (zn_A ow) (zn_A bl) (zn_A sp) (zn_A fT) (zn_A lT) (zn_A sh) (zn_A sc) (zn_A sn) (zn_A sv) (zn_A dh) (zn_A dc) (zn_A dn) (zn_A dv) rR (zn_A pa) (zn_A de) (zn_A oc) (zn_A wa) te (zn_A me) (zn_A qu) (zn_A wo) (zn_A co)
    rw [wX_fold_79]
    refine br_f (nI_ge (by omega) (by omega)) ⟨vp_in_nI (by omega) (by decide), ?_⟩
    rw [zn_rd (by omega), hx]
    unfold wpX_foldRun
    refine ⟨st + 1, ?_⟩
    refine zf_run ha hb hn hNa hNb st 0 x B F fn st hr lo rT rR na nb sy bl sh sc sn sv dh dc dn dv rfl (by omega) hI ((hRS x).mp (by simp)) ?_
    intro B' F' fn' st' hr' lo' rT' rR' na' nb' sy' bl' sh' sc' sn' sv' dh' dc' dn' dv' hI2 hRS2
    refine nm_r (nI_1 _) ?_
    have e2 : d.length + 1 = (d ++ [x]).length := by simp
    rw [e2]
    refine ih (d ++ [x]) _ _ _ _ _ _ _ _ _ _ _ _ _ _ _ _ _ _ _ _ (by rw [e]; simp) hI2 ?_ K
    intro z
    rw [hRS2 z, ← hRS z]
    constructor
    · intro q; exact ⟨List.mem_cons_of_mem _ q, fun w => hxt (w ▸ q)⟩
    · rintro ⟨q, w⟩
      rcases List.mem_cons.mp q with q | q
      · exact absurd q w
      · exact q
end
end
section
/-! ===== repeated digrams: X's bits against places in the bodies ===== -/
theorem zl_at : ∀ (l : List Nat) (i x : Nat), l[i]? = some x → ∃ l1 l2, l = l1 ++ x :: l2 ∧ l1.length = i
  | [], i, x, h => by simp at h
  | y :: t, 0, x, h => ⟨[], t, by simp at h; rw [h]; rfl, rfl⟩
  | y :: t, i + 1, x, h => by
    obtain ⟨l1, l2, e, hl⟩ := zl_at t i x (by simpa using h)
    exact ⟨y :: l1, l2, by rw [e]; rfl, by rw [List.length_cons, hl]⟩
theorem zl_at2 {l : List Nat} {i x y : Nat} (h1 : l[i]? = some x) (h2 : l[i + 1]? = some y) : ∃ l1 l2, l = l1 ++ x :: y :: l2 ∧ l1.length = i := by
  obtain ⟨l1, l2, e, hl⟩ := zl_at l i x h1
  rw [e, List.getElem?_append_right (by omega), hl, show i + 1 - i = 1 by omega] at h2
  cases l2 with
  | nil => simp at h2
  | cons z t =>
    have : z = y := by simpa using h2
    exact ⟨l1, t, by rw [e, this], hl⟩
theorem zl_a1 {l1 l2 : List Nat} {x : Nat} : (l1 ++ x :: l2)[l1.length]? = some x := by
  rw [List.getElem?_append_right (Nat.le_refl _)]; simp
theorem zl_a2 {l1 l2 : List Nat} {x y : Nat} : (l1 ++ x :: y :: l2)[l1.length + 1]? = some y := by
  rw [List.getElem?_append_right (by omega)]
  rw [show l1.length + 1 - l1.length = 1 by omega]; simp
theorem zl_nd {l : List Nat} {i j x : Nat} (hn : l.Nodup) (h1 : l[i]? = some x) (h2 : l[j]? = some x) : i = j := by
  obtain ⟨hi, _⟩ := List.getElem?_eq_some_iff.mp h1
  exact (List.getElem?_inj hi hn).mp (h1.trans h2.symm)
def zg_pl (G : Nat → List Nat) (a b r i : Nat) : Prop := r < 32 ∧ (G r)[i]? = some a ∧ (G r)[i + 1]? = some b
def zg_R2 (G : Nat → List Nat) (a b : Nat) : Prop := ∃ r i q j, zg_pl G a b r i ∧ zg_pl G a b q j ∧ (q ≠ r ∨ i + 2 ≤ j ∨ j + 2 ≤ i)
/-- a place of the grammar is two nodes -/
theorem zx_pln {na nb ow bl sy : Nat → Nat} {fn st : Nat} {B G : Nat → List Nat} {F : List Nat} {a b r i : Nat} (h : zx_ST na nb ow bl fn st B F) (hG : ∀ r, r < 32 → G r = (B r).map sy) (hp : zg_pl G a b r i) :
    ∃ x, (B r)[i]? = some x ∧ (B r)[i + 1]? = some (na x) ∧ zx_U B x ∧ zx_U B (na x) ∧ 32 ≤ na x ∧ sy x = a ∧ sy (na x) = b ∧ ow x = r := by
  obtain ⟨hr, h1, h2⟩ := hp
  rw [hG r hr, List.getElem?_map] at h1 h2
  rw [Option.map_eq_some_iff] at h1 h2
  obtain ⟨x, x1, x2⟩ := h1
  obtain ⟨y, y1, y2⟩ := h2
  obtain ⟨l1, l2, e, hl⟩ := zl_at2 x1 y1
  obtain ⟨_, a2, _⟩ := zx_spl h hr e
  have nax : na x = y := a2
  have hx : x ∈ B r := by rw [e]; simp
  have hy : y ∈ B r := by rw [e]; simp
  refine ⟨x, x1, ?_⟩
  rw [nax]
  exact ⟨y1, ⟨r, hr, hx⟩, ⟨r, hr, hy⟩, ((h.1 r hr).2.2.1 y hy).1, x2, y2, ((h.1 r hr).2.2.1 x hx).2.2⟩
theorem zx_npl {na nb ow bl : Nat → Nat} {fn st : Nat} {B : Nat → List Nat} {F : List Nat} {x : Nat} (h : zx_ST na nb ow bl fn st B F) (hU : zx_U B x) (hn : 32 ≤ na x) :
    ow x < 32 ∧ ∃ i, (B (ow x))[i]? = some x ∧ (B (ow x))[i + 1]? = some (na x) := by
  have hx := zx_Ub h hU
  obtain ⟨l1, l2, e⟩ := List.append_of_mem hx.2.2.2
  obtain ⟨_, a2, _⟩ := zx_spl h hx.2.2.1 e
  cases l2 with
  | nil => have w : na x = ow x := a2; omega
  | cons y l =>
    have w : na x = y := a2
    refine ⟨hx.2.2.1, l1.length, ?_, ?_⟩
    · rw [e]; exact zl_a1
    · rw [e, w]; exact zl_a2
theorem zx_R2 {B G : Nat → List Nat} {F : List Nat} {fn st : Nat} {lo rT : Int64} {na nb sy ow bl sh sc sn sv dh dc dn dv : Nat → Nat} {rR : Nat → Int64} (hX : zx_XC B F fn st lo na nb sy ow bl sh sc sn sv dh dc dn dv rR rT) (hG : ∀ r, r < 32 → G r = (B r).map sy) {a b : Nat} (ha : a < 48) (hb : b < 48) :
    zb_t (rR a) b = true ↔ zg_R2 G a b := by
  obtain ⟨hS, hsy, _, L, hF, hm, hbit, _⟩ := hX
  rw [hbit a b ha hb]
  have hmm := hm a b ha hb
  obtain ⟨_, _, _, e4, _⟩ := hF.1 (a * 48 + b) (by omega)
  generalize L (a * 48 + b) = l at *
  have two : ∀ x y, x ∈ l → y ∈ l → x ≠ y → (na x ≠ y ∧ na y ≠ x) → zg_R2 G a b := by
    intro x y hx hy hne hna
    have qx := (hmm x).mp hx
    have qy := (hmm y).mp hy
    obtain ⟨r1, i, i1, i2⟩ := zx_npl hS qx.1.1 qx.1.2
    obtain ⟨r2, j, j1, j2⟩ := zx_npl hS qy.1.1 qy.1.2
    refine ⟨ow x, i, ow y, j, ⟨r1, ?_, ?_⟩, ⟨r2, ?_, ?_⟩, ?_⟩
    · rw [hG _ r1, List.getElem?_map, i1, Option.map_some, qx.2.1]
    · rw [hG _ r1, List.getElem?_map, i2, Option.map_some, qx.2.2]
    · rw [hG _ r2, List.getElem?_map, j1, Option.map_some, qy.2.1]
    · rw [hG _ r2, List.getElem?_map, j2, Option.map_some, qy.2.2]
    · by_cases c : ow y = ow x
      · right
        rw [c] at j1 j2
        have n1 : i ≠ j := fun z => hne (by rw [z, j1] at i1; exact (Option.some.inj i1).symm)
        have n2 : j ≠ i + 1 := fun z => hna.1 (by rw [z, i2] at j1; exact Option.some.inj j1)
        have n3 : i ≠ j + 1 := fun z => hna.2 (by rw [z, j2] at i1; exact Option.some.inj i1)
        omega
      · exact Or.inl c
  constructor
  · rintro ⟨h2, hc⟩
    match l, h2, hc, e4, two with
    | [x, y], _, hc, e4, two =>
      have hxy : x ≠ y := fun z => (List.nodup_cons.mp e4).1 (by rw [z]; simp)
      by_cases ab : a = b
      · exact two x y (by simp) (by simp) hxy (hc rfl ab)
      · have qx := (hmm x).mp (by simp)
        have qy := (hmm y).mp (by simp)
        refine two x y (by simp) (by simp) hxy ⟨fun z => ab ?_, fun z => ab ?_⟩
        · rw [z] at qx; exact qy.2.1.symm.trans qx.2.2
        · rw [z] at qy; exact qx.2.1.symm.trans qy.2.2
    | x :: y :: z :: t, _, _, e4, two =>
      have e5 := List.nodup_cons.mp e4
      have e6 := List.nodup_cons.mp e5.2
      have hxy : x ≠ y := fun w => e5.1 (by rw [w]; simp)
      have hxz : x ≠ z := fun w => e5.1 (by rw [w]; simp)
      have hyz : y ≠ z := fun w => e6.1 (by rw [w]; simp)
      have qx := (hmm x).mp (by simp)
      have qy := (hmm y).mp (by simp)
      have qz := (hmm z).mp (by simp)
      by_cases c1 : na x ≠ y ∧ na y ≠ x
      · exact two x y (by simp) (by simp) hxy c1
      by_cases c2 : na x ≠ z ∧ na z ≠ x
      · exact two x z (by simp) (by simp) hxz c2
      by_cases c3 : na y ≠ z ∧ na z ≠ y
      · exact two y z (by simp) (by simp) hyz c3
      exfalso
      obtain ⟨r1, i, i1, i2⟩ := zx_npl hS qx.1.1 qx.1.2
      obtain ⟨r2, j, j1, j2⟩ := zx_npl hS qy.1.1 qy.1.2
      obtain ⟨r3, k, k1, k2⟩ := zx_npl hS qz.1.1 qz.1.2
      have adj : ∀ u v iu iv, ow u < 32 → (B (ow u))[iu]? = some u → (B (ow u))[iu + 1]? = some (na u) → ow v < 32 → (B (ow v))[iv]? = some v → na u = v → ow v = ow u ∧ iv = iu + 1 := by
        intro u v iu iv hu h1 h2 hv h3 huv
        have hm : v ∈ B (ow u) := by rw [← huv]; exact List.mem_of_getElem? h2
        have ov := ((hS.1 _ hu).2.2.1 v hm).2.2
        rw [ov] at h3
        rw [huv] at h2
        exact ⟨ov, zl_nd (hS.1 _ hu).2.1 h3 h2⟩
      have s1 : (ow y = ow x ∧ j = i + 1) ∨ (ow x = ow y ∧ i = j + 1) := by
        rcases Classical.em (na x = y) with w | w
        · exact Or.inl (adj x y i j r1 i1 i2 r2 j1 w)
        · exact Or.inr (adj y x j i r2 j1 j2 r1 i1 (Classical.byContradiction fun q => c1 ⟨w, q⟩))
      have s2 : (ow z = ow x ∧ k = i + 1) ∨ (ow x = ow z ∧ i = k + 1) := by
        rcases Classical.em (na x = z) with w | w
        · exact Or.inl (adj x z i k r1 i1 i2 r3 k1 w)
        · exact Or.inr (adj z x k i r3 k1 k2 r1 i1 (Classical.byContradiction fun q => c2 ⟨w, q⟩))
      have s3 : (ow z = ow y ∧ k = j + 1) ∨ (ow y = ow z ∧ j = k + 1) := by
        rcases Classical.em (na y = z) with w | w
        · exact Or.inl (adj y z j k r2 j1 j2 r3 k1 w)
        · exact Or.inr (adj z y k j r3 k1 k2 r2 j1 (Classical.byContradiction fun q => c3 ⟨w, q⟩))
      omega
  · rintro ⟨r, i, q, j, p1, p2, hap⟩
    obtain ⟨x, x1, x2, x3, x4, x5, x6, x7, x8⟩ := zx_pln hS hG p1
    obtain ⟨y, y1, y2, y3, y4, y5, y6, y7, y8⟩ := zx_pln hS hG p2
    have mx : x ∈ l := (hmm x).mpr ⟨⟨x3, x5⟩, x6, x7⟩
    have my : y ∈ l := (hmm y).mpr ⟨⟨y3, y5⟩, y6, y7⟩
    have hne : x ≠ y := by
      intro z
      have rq : r = q := by rw [← x8, ← y8, z]
      rw [← rq, ← z] at y1
      have := zl_nd (hS.1 r p1.1).2.1 x1 y1
      rcases hap with w | w | w
      · exact w rq.symm
      · omega
      · omega
    have nad : na x ≠ y ∧ na y ≠ x := by
      constructor
      · intro z
        rw [z] at x2
        have ry := ((hS.1 r p1.1).2.2.1 y (List.mem_of_getElem? x2)).2.2
        have rq : q = r := by rw [← y8, ry]
        rw [rq] at y1
        have := zl_nd (hS.1 r p1.1).2.1 x2 y1
        rcases hap with w | w | w
        · exact w rq
        · omega
        · omega
      · intro z
        rw [z] at y2
        have rx := ((hS.1 q p2.1).2.2.1 x (List.mem_of_getElem? y2)).2.2
        have rq : r = q := by rw [← x8, rx]
        rw [rq] at x1
        have := zl_nd (hS.1 q p2.1).2.1 y2 x1
        rcases hap with w | w | w
        · exact w rq.symm
        · omega
        · omega
    match l, mx, my, e4 with
    | [], mx, _, _ => cases mx
    | [u], mx, my, _ =>
      have z1 : x = u := by simpa using mx
      have z2 : y = u := by simpa using my
      exact absurd (z1.trans z2.symm) hne
    | [u, v], mx, my, e4 =>
      refine ⟨Nat.le_refl _, fun _ _ => ?_⟩
      show na u ≠ v ∧ na v ≠ u
      have z1 : x = u ∨ x = v := by simpa using mx
      have z2 : y = u ∨ y = v := by simpa using my
      rcases z1 with z1 | z1 <;> rcases z2 with z2 | z2
      · exact absurd (z1.trans z2.symm) hne
      · rw [← z1, ← z2]; exact nad
      · rw [← z1, ← z2]; exact ⟨nad.2, nad.1⟩
      · exact absurd (z1.trans z2.symm) hne
    | u :: v :: w :: t, _, _, _ =>
      refine ⟨by simp only [List.length_cons]; omega, fun z => ?_⟩
      simp only [List.length_cons] at z
      omega
end
section
/-! ===== step 3 in X: the rule ===== -/
def zf_Sp (ow bl : Nat → Nat) (d : List Nat) (m : Nat) : Prop :=
  m < 32 ∧ (m = 0 → ∀ x ∈ d, ow x ≠ 0 → bl (ow x) ≠ 2) ∧ (m ≠ 0 → (∃ x ∈ d, ow x = m ∧ bl m = 2) ∧ ∀ x ∈ d, ow x ≠ 0 → bl (ow x) = 2 → m ≤ ow x)
theorem zf_Sk {ow bl : Nat → Nat} {d : List Nat} {m x : Nat} (h : zf_Sp ow bl d m) (hx : ow x = 0 ∨ bl (ow x) ≠ 2 ∨ (m ≠ 0 ∧ m ≤ ow x)) : zf_Sp ow bl (d ++ [x]) m := by
  obtain ⟨h1, h2, h3⟩ := h
  refine ⟨h1, fun c y hy => ?_, fun c => ⟨?_, fun y hy => ?_⟩⟩
  · rcases List.mem_append.mp hy with w | w
    · exact h2 c y w
    · have : y = x := by simpa using w
      rw [this]
      rcases hx with q | q | q
      · intro z; exact absurd q z
      · intro _; exact q
      · exact absurd c q.1
  · obtain ⟨⟨y, hy, hz⟩, _⟩ := h3 c
    exact ⟨y, List.mem_append_left _ hy, hz⟩
  · rcases List.mem_append.mp hy with w | w
    · exact (h3 c).2 y w
    · have : y = x := by simpa using w
      rw [this]
      rcases hx with q | q | q
      · intro z; exact absurd q z
      · intro _ z; exact absurd z q
      · intro _ _; exact q.2
theorem zf_Sn {ow bl : Nat → Nat} {d : List Nat} {m x : Nat} (h : zf_Sp ow bl d m) (h0 : ow x ≠ 0) (ho : ow x < 32) (hb : bl (ow x) = 2) (hx : m = 0 ∨ ow x < m) : zf_Sp ow bl (d ++ [x]) (ow x) := by
  obtain ⟨h1, h2, h3⟩ := h
  refine ⟨ho, fun c => absurd c h0, fun _ => ⟨⟨x, by simp, rfl, hb⟩, fun y hy z1 z2 => ?_⟩⟩
  rcases List.mem_append.mp hy with w | w
  · by_cases c : m = 0
    · exact absurd z2 (h2 c y w z1)
    · have := (h3 c).2 y w z1 z2
      omega
  · have : y = x := by simpa using w
    rw [this]; exact Nat.le_refl _
section
variable {xc1 xc2 xc3 xc4 xc5 xc6 xrd xod xtd : Int32} {xli xle xsz xcu xfn xst xrt : Nat} {xlv xhr xlo xrT : Int64} {na nb sy ow bl sp fT lT sh sc sn sv dh dc dn dv pa de oc wa me qu wo co : Nat → Nat} {rR : Nat → Int64} {te : Nat → Int32}
theorem zf_rwbL {post : Int32 → Prop} {L : List Nat} (hlen : L.length ≤ 128) (hL : ∀ d x t, L = d ++ x :: t → x < 128 ∧ ow x < 32 ∧ dn x = t.headD 0) (hbl : ∀ r, r < 32 → bl r < 2 ^ 31)
    (K : ∀ m, zf_Sp ow bl L m → post (nI m)) :
    ∀ (t d : List Nat) (m : Nat), L = d ++ t → zf_Sp ow bl d m → wX_ruleWithBody_26 post xc1 xc2 xc3 xc4 xc5 xc6 (nI xli) (nI xle) (nI xsz) (nI xcu) (nI xfn) (nI xst) xlv xhr xlo (nI xrt) xrT xrd xod xtd (zn_A na) (zn_A nb) (zn_A sy) (zn_A ow) (zn_A bl) (zn_A sp) (zn_A fT) (zn_A lT) (zn_A sh) (zn_A sc) (zn_A sn) (zn_A sv) (zn_A dh) (zn_A dc) (zn_A dn) (zn_A dv) rR (zn_A pa) (zn_A de) (zn_A oc) (zn_A wa) te (zn_A me) (zn_A qu) (zn_A wo) (zn_A co) (t.length + 1) (nI m) (nI (t.headD 0)) (nI t.length) := by
  intro t
  induction t with
  | nil =>
    intro d m e hS
    rw [List.append_nil] at e
    subst e
    rw [wX_ruleWithBody_26]
    exact br_t (show nI 0 ≤ 0 by decide) (K m hS)
  | cons x t ih =>
    intro d m e hS
    obtain ⟨x128, ho, hd⟩ := hL d x t e
    have hl : L.length = d.length + (t.length + 1) := by rw [e, List.length_append, List.length_cons]
    have hm32 := hS.1
    have hbx := hbl _ ho
    have go : ∀ m', zf_Sp ow bl (d ++ [x]) m' → wX_ruleWithBody_26 post xc1 xc2 xc3 xc4 xc5 xc6 (nI xli) (nI xle) (nI xsz) (nI xcu) (nI xfn) (nI xst) xlv xhr xlo (nI xrt) xrT xrd xod xtd (zn_A na) (zn_A nb) (zn_A sy) (zn_A ow) (zn_A bl) (zn_A sp) (zn_A fT) (zn_A lT) (zn_A sh) (zn_A sc) (zn_A sn) (zn_A sv) (zn_A dh) (zn_A dc) (zn_A dn) (zn_A dv) rR (zn_A pa) (zn_A de) (zn_A oc) (zn_A wa) te (zn_A me) (zn_A qu) (zn_A wo) (zn_A co) (t.length + 1) (nI m') (nI (t.headD 0)) (nI t.length) := fun m' hS' => ih (d ++ [x]) m' (by rw [e]; simp) hS'
    have next : ∀ m', zf_Sp ow bl (d ++ [x]) m' → ∀ y, y = zn_A dn (nI x).toNatClampNeg → ∀ z, z = nI (t.length + 1) + -1 → wX_ruleWithBody_26 post xc1 xc2 xc3 xc4 xc5 xc6 (nI xli) (nI xle) (nI xsz) (nI xcu) (nI xfn) (nI xst) xlv xhr xlo (nI xrt) xrT xrd xod xtd (zn_A na) (zn_A nb) (zn_A sy) (zn_A ow) (zn_A bl) (zn_A sp) (zn_A fT) (zn_A lT) (zn_A sh) (zn_A sc) (zn_A sn) (zn_A sv) (zn_A dh) (zn_A dc) (zn_A dn) (zn_A dv) rR (zn_A pa) (zn_A de) (zn_A oc) (zn_A wa) te (zn_A me) (zn_A qu) (zn_A wo) (zn_A co) (t.length + 1) (nI m') y z :=
      fun m' hS' => nm_r (e' := nI (t.headD 0)) (by rw [zn_rd (by omega), hd]) (nm_r (pk_m1 _) (go m' hS'))
    show wX_ruleWithBody_26 post xc1 xc2 xc3 xc4 xc5 xc6 (nI xli) (nI xle) (nI xsz) (nI xcu) (nI xfn) (nI xst) xlv xhr xlo (nI xrt) xrT xrd xod xtd (zn_A na) (zn_A nb) (zn_A sy) (zn_A ow) (zn_A bl) (zn_A sp) (zn_A fT) (zn_A lT) (zn_A sh) (zn_A sc) (zn_A sn) (zn_A sv) (zn_A dh) (zn_A dc) (zn_A dn) (zn_A dv) rR (zn_A pa) (zn_A de) (zn_A oc) (zn_A wa) te (zn_A me) (zn_A qu) (zn_A wo) (zn_A co) ((t.length + 1) + 1) (nI m) (nI x) (nI (t.length + 1))
    rw [wX_ruleWithBody_26]
    refine br_f (nI_nle (by omega) (by omega)) ⟨vp_in_nI x128 (by decide), nm_r (zn_rd (by omega)) ?_⟩
    refine pk_eq (ow x) 0 (fun c => ⟨vp_in_nI x128 (by decide), next m (zf_Sk hS (Or.inl c))⟩) (fun c => ⟨vp_in_nI ho (by decide), ?_⟩)
    rw [zn_rd (by omega)]
    refine pk_eq (bl (ow x)) 2 (fun c2 => ?_) (fun c2 => ⟨vp_in_nI x128 (by decide), next m (zf_Sk hS (Or.inr (Or.inl c2)))⟩)
    refine pk_eq m 0 (fun c3 => ⟨vp_in_nI x128 (by decide), next (ow x) (zf_Sn hS c ho c2 (Or.inl c3))⟩) (fun c3 => ?_)
    exact pk_le m (ow x) (fun c4 => ⟨vp_in_nI x128 (by decide), next m (zf_Sk hS (Or.inr (Or.inr ⟨c3, c4⟩)))⟩) (fun c4 => ⟨vp_in_nI x128 (by decide), next (ow x) (zf_Sn hS c ho c2 (Or.inr c4))⟩)
end
def zg_BD (G : Nat → List Nat) (a b n : Nat) : Prop := 0 < n ∧ n < 32 ∧ G n = [a, b] ∧ ∀ m, 0 < m → m < n → G m ≠ [a, b]
def zg_FR (G : Nat → List Nat) (n : Nat) : Prop := 0 < n ∧ n < 32 ∧ G n = [] ∧ ∀ m, 0 < m → m < n → G m ≠ []
section
variable {xc1 xc2 xc3 xc4 xc5 xc6 xrd xod xtd : Int32} {xli xle xsz xcu xfn xst xrt : Nat} {xlv xhr xlo xrT : Int64} {na nb sy ow bl sp fT lT sh sc sn sv dh dc dn dv pa de oc wa me qu wo co : Nat → Nat} {rR : Nat → Int64} {te : Nat → Int32}
theorem zf_rwb {post : Int32 → Prop} {B G : Nat → List Nat} {F : List Nat} {a b : Nat} (ha : a < 48) (hb : b < 48) (hX : zx_XC B F xfn xst xlo na nb sy ow bl sh sc sn sv dh dc dn dv rR xrT) (hG : ∀ r, r < 32 → G r = (B r).map sy)
    (K0 : (∀ m, 0 < m → m < 32 → G m ≠ [a, b]) → post 0) (K1 : ∀ n, zg_BD G a b n → post (nI n)) : wpX_ruleWithBody post (xc1, xc2, xc3, xc4, xc5, xc6, nI xli, nI xle, nI xsz, nI xcu, nI xfn, nI xst, xlv, xhr, xlo, nI xrt, xrT, xrd, xod, xtd, zn_A na, zn_A nb, zn_A sy, zn_A ow, zn_A bl, zn_A sp, zn_A fT, zn_A lT, zn_A sh, zn_A sc, zn_A sn, zn_A sv, zn_A dh, zn_A dc, zn_A dn, zn_A dv, rR, zn_A pa, zn_A de, zn_A oc, zn_A wa, te, zn_A me, zn_A qu, zn_A wo, zn_A co) (nI a) (nI b) := by
  obtain ⟨hS, hsy, hI, L, hF, hm, _⟩ := hX
  have hk : a * 48 + b < 2304 := by omega
  obtain ⟨e1, e2, e3, e4, e5⟩ := hF.1 _ hk
  have hct := zl_ct hF hk
  have hhd := zl_hd hF hk
  have hmm := hm a b ha hb
  have hblb : ∀ r, r < 32 → bl r < 2 ^ 31 := by
    intro r hr
    rw [(hS.1 r hr).2.2.2]
    have t := zx_sul (f := fun q => (B q).length) 32 r hr
    rw [← hS.2.2.2.2.2.1] at t
    have t' : (B r).length ≤ xst := t
    have := hS.2.2.2.2.2.2.1
    omega
  have inL : ∀ m, m < 32 → G m = [a, b] → ∃ x, x ∈ L (a * 48 + b) ∧ ow x = m ∧ bl m = 2 := by
    intro m hm32 hg
    rw [hG m hm32] at hg
    match q : B m, hg with
    | [x, y], hg =>
      simp only [List.map_cons, List.map_nil] at hg
      have hgx : sy x = a := (List.cons.inj hg).1
      have hgy : sy y = b := (List.cons.inj (List.cons.inj hg).2).1
      have mx : x ∈ B m := by rw [q]; simp
      have my : y ∈ B m := by rw [q]; simp
      obtain ⟨_, a2, _⟩ := zx_spl (l1 := []) hS hm32 q
      have nax : na x = y := a2
      refine ⟨x, (hmm x).mpr ⟨⟨⟨m, hm32, mx⟩, ?_⟩, hgx, ?_⟩, ((hS.1 m hm32).2.2.1 x mx).2.2, ?_⟩
      · show 32 ≤ na x
        rw [nax]; exact ((hS.1 m hm32).2.2.1 y my).1
      · rw [nax]; exact hgy
      · rw [(hS.1 m hm32).2.2.2, q]; rfl
  unfold wpX_ruleWithBody
  refine nm_r zd_key ⟨vp_in_nI hk (by decide), nm_r (e' := nI ((L (a * 48 + b)).headD 0)) (by rw [zn_rd (by omega), e1]) ⟨vp_in_nI hk (by decide), nm_r (e' := nI (L (a * 48 + b)).length) (by rw [zn_rd (by omega), e2]) ⟨(L (a * 48 + b)).length + 1, ?_⟩⟩⟩
  refine zf_rwbL (L := L (a * 48 + b)) (by omega) ?_ hblb ?_ (L (a * 48 + b)) [] 0 rfl ⟨by decide, (by intro _ x hx; cases hx), (by intro z; exact absurd rfl z)⟩
  · intro d x t e
    have hx : x ∈ L (a * 48 + b) := by rw [e]; simp
    have q := ((hmm x).mp hx).1
    have w := zx_Ub hS q.1
    exact ⟨w.2.1, w.2.2.1, zl_nxt e3 e⟩
  · intro m ⟨s1, s2, s3⟩
    by_cases c : m = 0
    · rw [c]
      refine K0 fun m' h1 h2 hg => ?_
      obtain ⟨x, q1, q2, q3⟩ := inL m' h2 hg
      exact s2 c x q1 (by omega) (by rw [q2]; exact q3)
    · obtain ⟨⟨x, q1, q2, q3⟩, s4⟩ := s3 c
      refine K1 m ⟨by omega, s1, ?_, fun m' h1 h2 hg => ?_⟩
      · rw [hG m s1]
        have w := (hmm x).mp q1
        have wx := zx_Ub hS w.1.1
        rw [q2] at wx
        have hlen : (B m).length = 2 := by rw [← (hS.1 m s1).2.2.2]; exact q3
        match q : B m, hlen with
        | [u, v], _ =>
          have xm : x = u ∨ x = v := by
            have := wx.2.2.2
            rw [q] at this
            simpa using this
          obtain ⟨_, a2, _⟩ := zx_spl (l1 := []) hS s1 q
          have nau : na u = v := a2
          obtain ⟨_, b2, _⟩ := zx_spl (l1 := [u]) hS s1 q
          have nav : na v = m := b2
          rcases xm with z | z
          · rw [z] at w
            simp only [List.map_cons, List.map_nil]
            rw [w.2.1, ← nau, w.2.2]
          · exfalso
            have t := w.1.2
            rw [z, nav] at t
            omega
      · obtain ⟨x', p1, p2, p3⟩ := inL m' (by omega) hg
        have := s4 x' p1 (by omega) (by rw [p2]; exact p3)
        omega
theorem zx_make {post : SX → Prop} {B : Nat → List Nat} {F : List Nat} {a b n : Nat} (ha : a < 48) (hb : b < 48) (hn : n < 32) (eB : B n = []) (hst : xst + 2 ≤ 96) (h : zx_XC B F xfn xst xlo na nb sy ow bl sh sc sn sv dh dc dn dv rR xrT)
    (K : ∀ (x y fn' : Nat) (F' : List Nat) (na' nb' ow' bl' sh' sc' sn' sv' dh' dc' dn' dv' : Nat → Nat) (lv' lo' rT' : Int64) (rR' : Nat → Int64), ¬ zx_U B x → ¬ zx_U B y → x ≠ y →
      (∀ i, zb_t lv' i = (zb_t xlv i || decide (n = i))) →
      zx_XC (zn_u B n [x, y]) F' fn' (xst + 2) lo' na' nb' (zn_u (zn_u sy x a) y b) ow' bl' sh' sc' sn' sv' dh' dc' dn' dv' rR' rT' →
      post (xc1, xc2, xc3, xc4, xc5, xc6, nI xli, nI xle, nI xsz, nI xcu, nI fn', nI (xst + 2), lv', xhr, lo', nI (xrt + 1), rT', xrd, xod, xtd, zn_A na', zn_A nb', zn_A (zn_u (zn_u sy x a) y b), zn_A ow', zn_A bl', zn_A (zn_u sp (16 + n) (sp a + sp b)), zn_A (zn_u fT (16 + n) (fT a)), zn_A (zn_u lT (16 + n) (lT b)), zn_A sh', zn_A sc', zn_A sn', zn_A sv', zn_A dh', zn_A dc', zn_A dn', zn_A dv', rR', zn_A pa, zn_A de, zn_A oc, zn_A wa, te, zn_A me, zn_A qu, zn_A wo, zn_A co)) :
    wpX_makeRule post (xc1, xc2, xc3, xc4, xc5, xc6, nI xli, nI xle, nI xsz, nI xcu, nI xfn, nI xst, xlv, xhr, xlo, nI xrt, xrT, xrd, xod, xtd, zn_A na, zn_A nb, zn_A sy, zn_A ow, zn_A bl, zn_A sp, zn_A fT, zn_A lT, zn_A sh, zn_A sc, zn_A sn, zn_A sv, zn_A dh, zn_A dc, zn_A dn, zn_A dv, rR, zn_A pa, zn_A de, zn_A oc, zn_A wa, te, zn_A me, zn_A qu, zn_A wo, zn_A co) (nI n) (nI a) (nI b) := by
  unfold wpX_makeRule
  refine nm_r (e' := nI (16 + n)) (by rw [show (16 : Int32) = nI 16 from rfl, nI_add]) (nm_e (nm_r (nI_1 _) ⟨vp_in_nI ha (by decide), vp_in_nI hb (by decide), vp_in_nI (by omega) (by decide), nm_r (e' := zn_A (zn_u sp (16 + n) (sp a + sp b))) ?_ ⟨vp_in_nI ha (by decide), vp_in_nI (by omega) (by decide), nm_r (e' := zn_A (zn_u fT (16 + n) (fT a))) ?_ ⟨vp_in_nI hb (by decide), vp_in_nI (by omega) (by decide), nm_r (e' := zn_A (zn_u lT (16 + n) (lT b))) ?_ ?_⟩⟩⟩))
  · rw [zn_rd (by omega), zn_rd (by omega), nI_add, zn_up (by omega)]
  · rw [zn_rd (by omega), zn_up (by omega)]
  · rw [zn_rd (by omega), zn_up (by omega)]
  refine zx_append hn ha (by omega) h ?_
  intro x fn1 F1 na1 nb1 ow1 bl1 sh1 sc1 sn1 sv1 dh1 dc1 dn1 dv1 lo1 rT1 rR1 hx hX1
  refine zx_append hn hb (by omega) hX1 ?_
  intro y fn2 F2 na2 nb2 ow2 bl2 sh2 sc2 sn2 sv2 dh2 dc2 dn2 dv2 lo2 rT2 rR2 hy hX2
  rw [zx_Uapp hn] at hy
  rw [zn_us, zn_uu, eB] at hX2
  exact K x y _ _ _ _ _ _ _ _ _ _ _ _ _ _ _ _ _ _ hx (fun z => hy (Or.inl z)) (fun z => hy (Or.inr z.symm)) (fun i => zb_or (by omega)) hX2
end
end
section
/-! ===== the abstract grammar and X's picture of it ===== -/
def zg_sb (G : Nat → List Nat) (p : Nat) : Nat → List Nat := fun r => if r = p then [] else (G r).flatMap (fun id => if id = 16 + p then G p else [id])
def zg_fo (G : Nat → List Nat) (a b n : Nat) : Nat → List Nat := fun r => if r = n then [a, b] else zg_rp a b (16 + n) (G r)
def zg_lv : List Nat → Nat
  | [] => 0
  | _ :: _ => 1
def zg_R (G : Nat → List Nat) : Nat := zx_su (fun r => if r = 0 then 0 else zg_lv (G r)) 32
def zg_s (G : Nat → List Nat) : Nat := zx_su (fun r => (G r).length) 32
def zg_LR (G : Nat → List Nat) (a b : Nat) : Prop := zg_R2 G a b ∧ ∀ a' b', zg_R2 G a' b' → a < a' ∨ (a = a' ∧ b ≤ b')
theorem zg_lv1 {l : List Nat} (h : l ≠ []) : zg_lv l = 1 := by
  cases l with
  | nil => exact absurd rfl h
  | cons x t => rfl
theorem zg_lve {l m : List Nat} (h : l = [] ↔ m = []) : zg_lv l = zg_lv m := by
  cases l with
  | nil => rw [h.mp rfl]
  | cons x t =>
    cases m with
    | nil => exact absurd (h.mpr rfl) (by simp)
    | cons y u => rfl
theorem zg_fm1 {f : Nat → Nat} : ∀ (l : List Nat), l.flatMap (fun v => [f v]) = l.map f
  | [] => rfl
  | x :: t => by rw [List.flatMap_cons, zg_fm1 t]; rfl
theorem zg_fmc {f g : Nat → List Nat} : ∀ (l : List Nat), (∀ x ∈ l, f x = g x) → l.flatMap f = l.flatMap g
  | [], _ => rfl
  | x :: t, h => by rw [List.flatMap_cons, List.flatMap_cons, h x List.mem_cons_self, zg_fmc t (fun y hy => h y (List.mem_cons_of_mem _ hy))]
theorem zg_sbn {G : Nat → List Nat} {p r : Nat} (h : r ≠ p) : zg_sb G p r = (G r).flatMap (fun id => if id = 16 + p then G p else [id]) := if_neg h
theorem zg_sbp {G : Nat → List Nat} {p : Nat} : zg_sb G p p = [] := if_pos rfl
theorem zg_sbi {G : Nat → List Nat} {p r : Nat} (h : r ≠ p) (hn : 16 + p ∉ G r) : zg_sb G p r = G r := by
  have key : ∀ x ∈ G r, (if x = 16 + p then G p else [x]) = [x] := fun x hx => if_neg (fun e : x = 16 + p => hn (e ▸ hx))
  rw [zg_sbn h, zg_fmc (g := fun v => [v]) _ key, zg_fm1 (f := fun v => v)]
  simp
theorem zg_sbe {G : Nat → List Nat} {p r : Nat} (hp : G p ≠ []) (h : r ≠ p) : zg_sb G p r = [] ↔ G r = [] := by
  rw [zg_sbn h]
  constructor
  · intro z
    cases e : G r with
    | nil => rfl
    | cons x t =>
      rw [e, List.flatMap_cons] at z
      have z1 := (List.append_eq_nil_iff.mp z).1
      by_cases c : x = 16 + p
      · rw [if_pos c] at z1; exact absurd z1 hp
      · rw [if_neg c] at z1; cases z1
  · intro z; rw [z]; rfl
theorem zg_fon {G : Nat → List Nat} {a b n r : Nat} (h : r ≠ n) : zg_fo G a b n r = zg_rp a b (16 + n) (G r) := if_neg h
theorem zg_fop {G : Nat → List Nat} {a b n : Nat} : zg_fo G a b n n = [a, b] := if_pos rfl
theorem zg_rpe {a b N : Nat} : ∀ (l : List Nat), zg_rp a b N l = [] ↔ l = []
  | [] => ⟨fun _ => rfl, fun _ => rfl⟩
  | [x] => ⟨fun h => (by rw [zg_rp] at h; exact absurd h (by simp)), fun h => absurd h (by simp)⟩
  | x :: y :: t => by
    rw [zg_rp2]
    constructor
    · intro h
      by_cases c : x = a ∧ y = b
      · rw [if_pos c] at h; cases h
      · rw [if_neg c] at h; cases h
    · intro h; cases h
/-- R falls or grows by one -/
theorem zg_Rd {G G' : Nat → List Nat} {p : Nat} (hp : 0 < p ∧ p < 32) (h1 : G p ≠ []) (h2 : G' p = []) (h : ∀ r, r < 32 → r ≠ p → (G' r = [] ↔ G r = [])) : zg_R G' + 1 = zg_R G := by
  unfold zg_R
  have e : zx_su (fun r => if r = 0 then 0 else zg_lv (G' r)) 32 = zx_su (zn_u (fun r => if r = 0 then 0 else zg_lv (G r)) p 0) 32 := by
    apply zx_suc
    intro i hi
    by_cases c : i = p
    · rw [c, zn_us, if_neg (by omega), h2]; rfl
    · rw [zn_un c, zg_lve (h i hi c)]
  have t := zx_suu (f := fun r => if r = 0 then 0 else zg_lv (G r)) (k := p) (v := 0) 32 hp.2
  have w : (if p = 0 then 0 else zg_lv (G p)) = 1 := by
    rw [if_neg (by omega), zg_lv1 h1]
  rw [w] at t
  rw [e]; omega
theorem zg_Re {G G' : Nat → List Nat} (h : ∀ r, r < 32 → (G' r = [] ↔ G r = [])) : zg_R G' = zg_R G := by
  unfold zg_R
  apply zx_suc
  intro i hi
  rw [zg_lve (h i hi)]
def zx_XG (G B : Nat → List Nat) (F : List Nat) (fn st rt : Nat) (lv hr lo : Int64) (na nb sy ow bl sh sc sn sv dh dc dn dv : Nat → Nat) (rR : Nat → Int64) (rT : Int64) : Prop :=
  zx_XC B F fn st lo na nb sy ow bl sh sc sn sv dh dc dn dv rR rT ∧ (∀ r, r < 32 → G r = (B r).map sy) ∧
  (∀ i, i < 64 → (zb_t lv i = true ↔ (i = 0 ∨ (i < 32 ∧ G i ≠ [])))) ∧ (∀ i, i < 64 → (zb_t hr i = true ↔ (0 < i ∧ i < 32 ∧ (G i).length = 1))) ∧ rt = zg_R G
theorem zx_le {G B : Nat → List Nat} {sy : Nat → Nat} (hG : ∀ r, r < 32 → G r = (B r).map sy) {r : Nat} (hr : r < 32) : (G r).length = (B r).length ∧ (G r = [] ↔ B r = []) := by
  rw [hG r hr, List.length_map]
  exact ⟨rfl, List.map_eq_nil_iff⟩
section
variable {xc1 xc2 xc3 xc4 xc5 xc6 xrd xod xtd : Int32} {xli xle xsz xcu xfn xst xrt : Nat} {xlv xhr xlo xrT : Int64} {na nb sy ow bl sp fT lT sh sc sn sv dh dc dn dv pa de oc wa me qu wo co : Nat → Nat} {rR : Nat → Int64} {te : Nat → Int32}
theorem zx_s1 {post : SX → Prop} {G B : Nat → List Nat} {F : List Nat} {p : Nat} (h : zx_XG G B F xfn xst xrt xlv xhr xlo na nb sy ow bl sh sc sn sv dh dc dn dv rR xrT) (hp : 0 < p ∧ p < 32) (hl : (G p).length = 1) (hself : 16 + p ∉ G p)
    (K : ∀ (B' : Nat → List Nat) (F' : List Nat) (fn' st' rt' : Nat) (lv' hr' lo' rT' : Int64) (rR' : Nat → Int64) (na' nb' sy' ow' bl' sh' sc' sn' sv' dh' dc' dn' dv' wo' : Nat → Nat), zx_XG (zg_sb G p) B' F' fn' st' rt' lv' hr' lo' na' nb' sy' ow' bl' sh' sc' sn' sv' dh' dc' dn' dv' rR' rT' → post (xc1, xc2, xc3, xc4, xc5, xc6, nI xli, nI xle, nI xsz, nI xcu, nI fn', nI st', lv', hr', lo', nI rt', rT', xrd, xod, xtd, zn_A na', zn_A nb', zn_A sy', zn_A ow', zn_A bl', zn_A sp, zn_A fT, zn_A lT, zn_A sh', zn_A sc', zn_A sn', zn_A sv', zn_A dh', zn_A dc', zn_A dn', zn_A dv', rR', zn_A pa, zn_A de, zn_A oc, zn_A wa, te, zn_A me, zn_A qu, zn_A wo', zn_A co)) : wpX_dissolve post (xc1, xc2, xc3, xc4, xc5, xc6, nI xli, nI xle, nI xsz, nI xcu, nI xfn, nI xst, xlv, xhr, xlo, nI xrt, xrT, xrd, xod, xtd, zn_A na, zn_A nb, zn_A sy, zn_A ow, zn_A bl, zn_A sp, zn_A fT, zn_A lT, zn_A sh, zn_A sc, zn_A sn, zn_A sv, zn_A dh, zn_A dc, zn_A dn, zn_A dv, rR, zn_A pa, zn_A de, zn_A oc, zn_A wa, te, zn_A me, zn_A qu, zn_A wo, zn_A co) (nI p) := by
  obtain ⟨hX, hG, hlv, hhr, hrt⟩ := h
  have hlb := (zx_le hG hp.2).1
  have hGp : G p ≠ [] := fun z => by rw [z] at hl; cases hl
  match eB : B p, (show (B p).length = 1 by omega) with
  | [x], _ =>
    have eG : G p = [sy x] := by rw [hG p hp.2, eB]; rfl
    have hR : zg_R (zg_sb G p) + 1 = zg_R G := zg_Rd hp hGp zg_sbp (fun r hr c => zg_sbe hGp c)
    refine zx_dissolve hp eB (fun z => hself (by rw [eG, z]; simp)) (by omega) hX ?_
    intro na' nb' sy' bl' sh' sc' sn' sv' dh' dc' dn' dv' lv' hr' lo' rT' rR' q1 q2 q3 hX2
    have hG2 : ∀ r, r < 32 → zg_sb G p r = (zn_u B p [] r).map sy' := by
      intro r hr
      by_cases c : r = p
      · rw [c, zg_sbp, zn_us]; rfl
      · rw [zg_sbn c, zn_un c, hG r hr, List.flatMap_map, ← zg_fm1]
        apply zg_fmc
        intro v hv
        rw [q3 v ⟨r, hr, hv⟩]
        by_cases d : sy v = 16 + p
        · rw [if_pos d, if_pos d, eG]
        · rw [if_neg d, if_neg d]
    have hlen : ∀ r, r < 32 → r ≠ p → (zg_sb G p r).length = (G r).length := by
      intro r hr c
      rw [hG2 r hr, zn_un c, List.length_map, hG r hr, List.length_map]
    refine K (zn_u B p []) (x :: F) x (xst - 1) (xrt - 1) lv' hr' lo' rT' rR' na' nb' sy' ow bl' sh' sc' sn' sv' dh' dc' dn' dv' wo ⟨hX2, hG2, ?_, ?_, by omega⟩
    · intro i hi
      rw [q1 i hi]
      by_cases c : p = i
      · rw [← c, zg_sbp]
        simp
        omega
      · have c' : i ≠ p := fun z => c z.symm
        rw [show (!decide (p = i)) = true by simp [c], Bool.and_true, hlv i hi]
        constructor
        · rintro (z | z)
          · exact Or.inl z
          · exact Or.inr ⟨z.1, fun w => z.2 ((zg_sbe hGp c').mp w)⟩
        · rintro (z | z)
          · exact Or.inl z
          · exact Or.inr ⟨z.1, fun w => z.2 ((zg_sbe hGp c').mpr w)⟩
    · intro i hi
      rw [q2 i hi]
      by_cases c : p = i
      · rw [← c, zg_sbp]; simp
      · have c' : i ≠ p := fun z => c z.symm
        rw [show (!decide (p = i)) = true by simp [c], Bool.and_true, hhr i hi]
        constructor
        · intro z; exact ⟨z.1, z.2.1, by rw [hlen i z.2.1 c']; exact z.2.2⟩
        · intro z; exact ⟨z.1, z.2.1, by rw [← hlen i z.2.1 c']; exact z.2.2⟩
theorem zx_s2 {post : SX → Prop} {G B : Nat → List Nat} {F : List Nat} {p : Nat} (h : zx_XG G B F xfn xst xrt xlv xhr xlo na nb sy ow bl sh sc sn sv dh dc dn dv rR xrT) (hp : 0 < p ∧ p < 32) (hGp : G p ≠ []) (hself : 16 + p ∉ G p) (hns : ∀ i, 0 < i → i < 32 → (G i).length ≠ 1) (hlo : zb_t xlo p = true)
    (K : ∀ (B' : Nat → List Nat) (F' : List Nat) (fn' st' rt' : Nat) (lv' hr' lo' rT' : Int64) (rR' : Nat → Int64) (na' nb' sy' ow' bl' sh' sc' sn' sv' dh' dc' dn' dv' wo' : Nat → Nat), zx_XG (zg_sb G p) B' F' fn' st' rt' lv' hr' lo' na' nb' sy' ow' bl' sh' sc' sn' sv' dh' dc' dn' dv' rR' rT' → post (xc1, xc2, xc3, xc4, xc5, xc6, nI xli, nI xle, nI xsz, nI xcu, nI fn', nI st', lv', hr', lo', nI rt', rT', xrd, xod, xtd, zn_A na', zn_A nb', zn_A sy', zn_A ow', zn_A bl', zn_A sp, zn_A fT, zn_A lT, zn_A sh', zn_A sc', zn_A sn', zn_A sv', zn_A dh', zn_A dc', zn_A dn', zn_A dv', rR', zn_A pa, zn_A de, zn_A oc, zn_A wa, te, zn_A me, zn_A qu, zn_A wo', zn_A co)) : wpX_expand post (xc1, xc2, xc3, xc4, xc5, xc6, nI xli, nI xle, nI xsz, nI xcu, nI xfn, nI xst, xlv, xhr, xlo, nI xrt, xrT, xrd, xod, xtd, zn_A na, zn_A nb, zn_A sy, zn_A ow, zn_A bl, zn_A sp, zn_A fT, zn_A lT, zn_A sh, zn_A sc, zn_A sn, zn_A sv, zn_A dh, zn_A dc, zn_A dn, zn_A dv, rR, zn_A pa, zn_A de, zn_A oc, zn_A wa, te, zn_A me, zn_A qu, zn_A wo, zn_A co) (nI p) := by
  obtain ⟨hX, hG, hlv, hhr, hrt⟩ := h
  have hX' := hX
  obtain ⟨hS, hsy, hI, hD⟩ := hX'
  have hI' := hI
  obtain ⟨L, hF, hm, hb1, hb2⟩ := hI'
  have hc : sc (16 + p) = 1 := (hb1 p hp.1 hp.2).mp hlo
  obtain ⟨hUx, hsx⟩ := zs_hd (show 16 + p < 48 by omega) hI (by omega)
  generalize hx : sh (16 + p) = x at hUx hsx
  have hxb := zx_Ub hS hUx
  have uniq : ∀ v, zx_U B v → sy v = 16 + p → v = x := by
    intro v hv hs
    have f2 := (hF.1 (16 + p) (by omega)).2.1
    rw [hc] at f2
    have mv := (hm _ (by omega) v).mpr ⟨hv, hs⟩
    have mx := (hm _ (by omega) x).mpr ⟨hUx, hsx⟩
    match q : L (16 + p), f2 with
    | [y], _ =>
      rw [q] at mv mx
      have z1 : v = y := by simpa using mv
      have z2 : x = y := by simpa using mx
      exact z1.trans z2.symm
  generalize hg : ow x = g at hxb
  have hg32 := hxb.2.2.1
  have hgp : g ≠ p := by
    intro z
    apply hself
    rw [hG p hp.2, ← hsx]
    have w := hxb.2.2.2
    rw [z] at w
    exact List.mem_map_of_mem w
  obtain ⟨l1, l2, eB⟩ := List.append_of_mem hxb.2.2.2
  obtain ⟨_, _, x1, x2, _, _⟩ := zx_spl hS hg32 eB
  have hne : B p ≠ [] := fun z => hGp ((zx_le hG hp.2).2.mpr z)
  have hR : zg_R (zg_sb G p) + 1 = zg_R G := zg_Rd hp hGp zg_sbp (fun r hr c => zg_sbe hGp c)
  refine zx_expand hp hg32 hgp eB hne hx hsx hc (by omega) hX ?_
  intro na' nb' ow' bl' sh' sc' sn' sv' dh' dc' dn' dv' lv' hr' lo' rT' rR' q1 q2 hX2
  have no : ∀ l : List Nat, (∀ v ∈ l, zx_U B v ∧ v ≠ x) → (l.map sy).flatMap (fun id => if id = 16 + p then G p else [id]) = l.map sy := by
    intro l hl
    rw [List.flatMap_map, ← zg_fm1]
    apply zg_fmc
    intro v hv
    rw [if_neg (fun z => (hl v hv).2 (uniq v (hl v hv).1 z))]
  have hG2 : ∀ r, r < 32 → zg_sb G p r = (zn_u (zn_u B g (l1 ++ B p ++ l2)) p [] r).map sy := by
    intro r hr
    by_cases c : r = p
    · rw [c, zg_sbp, zn_us]; rfl
    · rw [zg_sbn c, zn_un c]
      by_cases d : r = g
      · rw [d, zn_us, hG g hg32, eB, List.map_append, List.map_cons, hsx, List.flatMap_append, List.flatMap_cons, if_pos rfl, no l1, no l2, List.map_append, List.map_append, hG p hp.2, List.append_assoc]
        · intro v hv; exact ⟨⟨g, hg32, by rw [eB]; simp [hv]⟩, fun z => x2 (z ▸ hv)⟩
        · intro v hv; exact ⟨⟨g, hg32, by rw [eB]; simp [hv]⟩, fun z => x1 (z ▸ hv)⟩
      · rw [zn_un d, hG r hr]
        apply no
        intro v hv
        refine ⟨⟨r, hr, hv⟩, fun z => d ?_⟩
        rw [z] at hv
        exact (((hS.1 r hr).2.2.1 x hv).2.2).symm.trans hg
  refine K _ (x :: F) x (xst - 1) (xrt - 1) lv' hr' lo' rT' rR' na' nb' sy ow' bl' sh' sc' sn' sv' dh' dc' dn' dv' wo ⟨hX2, hG2, ?_, ?_, by omega⟩
  · intro i hi
    rw [q1 i hi]
    by_cases c : p = i
    · rw [← c, zg_sbp]
      simp
      omega
    · have c' : i ≠ p := fun z => c z.symm
      rw [show (!decide (p = i)) = true by simp [c], Bool.and_true, hlv i hi]
      constructor
      · rintro (z | z)
        · exact Or.inl z
        · exact Or.inr ⟨z.1, fun w => z.2 ((zg_sbe hGp c').mp w)⟩
      · rintro (z | z)
        · exact Or.inl z
        · exact Or.inr ⟨z.1, fun w => z.2 ((zg_sbe hGp c').mpr w)⟩
  · intro i hi
    rw [q2 i hi]
    by_cases c : p = i
    · rw [← c, zg_sbp]; simp
    · have c' : i ≠ p := fun z => c z.symm
      rw [show (!decide (p = i)) = true by simp [c], Bool.and_true, hhr i hi]
      constructor
      · intro z; exact absurd z.2.2 (hns i z.1 z.2.1)
      · intro z
        exfalso
        have hl := z.2.2
        rw [hG2 i z.2.1, zn_un c', List.length_map] at hl
        by_cases d : i = g
        · rw [d, zn_us, List.length_append, List.length_append] at hl
          have t1 : (B g).length = l1.length + (l2.length + 1) := by rw [eB, List.length_append, List.length_cons]
          have t2 := hns g (by omega) hg32
          rw [(zx_le hG hg32).1] at t2
          have t3 := List.length_pos_iff.mpr hne
          omega
        · rw [zn_un d] at hl
          have t2 := hns i z.1 z.2.1
          rw [(zx_le hG z.2.1).1] at t2
          exact t2 hl
end
end
section
/-! ===== step 3 in X, in terms of the grammar ===== -/
theorem zb_fm : ∀ i, i < 64 → zb_t (4294967294 : Int64) i = decide (1 ≤ i ∧ i ≤ 31) := by decide +kernel
theorem zb_fr {w : Int64} {i : Nat} (hi : i < 64) : zb_t ((w ^^^ (-1)) &&& 4294967294) i = (!zb_t w i && decide (1 ≤ i ∧ i ≤ 31)) := by
  rw [← zb_fm i hi]
  have ha : (-1 : Int64).toBitVec = BitVec.allOnes 64 := by decide
  unfold zb_t
  rw [Int64.toBitVec_and, Int64.toBitVec_xor, ha, BitVec.getLsbD_and, BitVec.getLsbD_xor, BitVec.getLsbD_allOnes]
  simp [hi]
section
variable {xc1 xc2 xc3 xc4 xc5 xc6 xrd xod xtd : Int32} {xli xle xsz xcu xfn xst xrt : Nat} {xlv xhr xlo xrT : Int64} {na nb sy ow bl sp fT lT sh sc sn sv dh dc dn dv pa de oc wa me qu wo co : Nat → Nat} {rR : Nat → Int64} {te : Nat → Int32}
theorem zf_67 {post : SX → Prop} {B : Nat → List Nat} {F : List Nat} {a b n : Nat} (ha : a < 48) (hb : b < 48) (hn : n < 32) (hNa : 16 + n ≠ a) (hNb : 16 + n ≠ b) (hX : zx_XC B F xfn xst xlo na nb sy ow bl sh sc sn sv dh dc dn dv rR xrT)
    (hM : ∀ i, i < 64 → (zb_t xhr i = true ↔ (0 < i ∧ i < 32 ∧ (B i).length = 1))) (hBn : (B n).map sy = [a, b])
    (K : ∀ (B' : Nat → List Nat) (F' : List Nat) (fn' st' : Nat) (hr' lo' rT' : Int64) (rR' : Nat → Int64) (na' nb' sy' bl' sh' sc' sn' sv' dh' dc' dn' dv' : Nat → Nat) (wo' : Nat → Nat), zx_XC B' F' fn' st' lo' na' nb' sy' ow bl' sh' sc' sn' sv' dh' dc' dn' dv' rR' rT' → (∀ i, i < 64 → (zb_t hr' i = true ↔ (0 < i ∧ i < 32 ∧ (B' i).length = 1))) →
      (∀ r, r < 32 → r ≠ n → (B' r).map sy' = zg_rp a b (16 + n) ((B r).map sy)) → (B' n).map sy' = [a, b] → post (xc1, xc2, xc3, xc4, xc5, xc6, nI xli, nI xle, nI xsz, nI xcu, nI fn', nI st', xlv, hr', lo', nI xrt, rT', xrd, xod, xtd, zn_A na', zn_A nb', zn_A sy', zn_A ow, zn_A bl', zn_A sp, zn_A fT, zn_A lT, zn_A sh', zn_A sc', zn_A sn', zn_A sv', zn_A dh', zn_A dc', zn_A dn', zn_A dv', rR', zn_A pa, zn_A de, zn_A oc, zn_A wa, te, zn_A me, zn_A qu, zn_A wo', zn_A co)) :
    wX_fold_67 post (nI a) (nI b) (nI n) xc1 xc2 xc3 xc4 xc5 xc6 (nI xli) (nI xle) (nI xsz) (nI xcu) (nI xfn) (nI xst) xlv xhr xlo (nI xrt) xrT xrd xod xtd (zn_A na) (zn_A nb) (zn_A sy) (zn_A ow) (zn_A bl) (zn_A sp) (zn_A fT) (zn_A lT) (zn_A sh) (zn_A sc) (zn_A sn) (zn_A sv) (zn_A dh) (zn_A dc) (zn_A dn) (zn_A dv) rR (zn_A pa) (zn_A de) (zn_A oc) (zn_A wa) te (zn_A me) (zn_A qu) (zn_A wo) (zn_A co) := by
  unfold wX_fold_67
  refine zf_gath ha hb hn hX ?_
  intro wo' wl q1 q2 q3 q4
  refine ⟨wl.length + 1, ?_⟩
  refine zf_loop (H := fun r => zg_rp a b (16 + n) ((B r).map sy)) (wl := wl) ha hb hn hNa hNb q2 q1 q4 wl [] B F xfn xst xhr xlo xrT rR na nb sy bl sh sc sn sv dh dc dn dv rfl ⟨hX, hM, fun _ _ _ => rfl, hBn⟩ q3 ?_
  intro B' F' fn' st' hr' lo' rT' rR' na' nb' sy' bl' sh' sc' sn' sv' dh' dc' dn' dv' hI hRS
  obtain ⟨i1, i2, i3, i4⟩ := hI
  refine K _ _ _ _ _ _ _ _ _ _ _ _ _ _ _ _ _ _ _ _ _ i1 i2 ?_ i4
  intro r hr hrn
  refine Eq.trans ?_ (i3 r hr hrn)
  symm
  apply zg_rpN
  intro l1 l2 e
  obtain ⟨m1, m2, e1, e2, e3⟩ := List.map_eq_append_iff.mp e
  match m2, e3 with
  | x :: y :: t, e3 =>
    simp only [List.map_cons, List.cons.injEq] at e3
    exact zf_none i1.1 hRS hr hrn m1.length m1 x y t (Nat.le_refl _) e1 e3.1 e3.2.1
theorem zx_s3 {post : SX → Prop} {G B : Nat → List Nat} {F : List Nat} (h : zx_XG G B F xfn xst xrt xlv xhr xlo na nb sy ow bl sh sc sn sv dh dc dn dv rR xrT) (hrT : ¬ xrT = 0) (hself : ∀ p, p < 32 → 16 + p ∉ G p) (ho : ∀ r, r < 32 → ∀ id ∈ G r, id < 16 ∨ (17 ≤ id ∧ id < 48 ∧ G (id - 16) ≠ [])) (hst : xst + 2 ≤ 96)
    (Kst : ∀ a b, zg_LR G a b → (∀ m, 0 < m → m < 32 → G m ≠ [a, b]) → (∀ m, 0 < m → m < 32 → G m ≠ []) → post (xc1, xc2, xc3, xc4, xc5, xc6, nI xli, nI xle, nI xsz, nI xcu, nI xfn, nI xst, xlv, xhr, xlo, nI xrt, xrT, xrd, xod, xtd, zn_A na, zn_A nb, zn_A sy, zn_A ow, zn_A bl, zn_A sp, zn_A fT, zn_A lT, zn_A sh, zn_A sc, zn_A sn, zn_A sv, zn_A dh, zn_A dc, zn_A dn, zn_A dv, rR, zn_A pa, zn_A de, zn_A oc, zn_A wa, te, zn_A me, zn_A qu, zn_A wo, zn_A co))
    (Kold : ∀ a b n, zg_LR G a b → zg_BD G a b n → ∀ (B' : Nat → List Nat) (F' : List Nat) (fn' st' rt' : Nat) (lv' hr' lo' rT' : Int64) (rR' : Nat → Int64) (na' nb' sy' ow' bl' sh' sc' sn' sv' dh' dc' dn' dv' wo' : Nat → Nat), zx_XG (zg_fo G a b n) B' F' fn' st' rt' lv' hr' lo' na' nb' sy' ow' bl' sh' sc' sn' sv' dh' dc' dn' dv' rR' rT' → post (xc1, xc2, xc3, xc4, xc5, xc6, nI xli, nI xle, nI xsz, nI xcu, nI fn', nI st', lv', hr', lo', nI rt', rT', xrd, xod, xtd, zn_A na', zn_A nb', zn_A sy', zn_A ow', zn_A bl', zn_A sp, zn_A fT, zn_A lT, zn_A sh', zn_A sc', zn_A sn', zn_A sv', zn_A dh', zn_A dc', zn_A dn', zn_A dv', rR', zn_A pa, zn_A de, zn_A oc, zn_A wa, te, zn_A me, zn_A qu, zn_A wo', zn_A co))
    (Knew : ∀ a b n, a < 48 → b < 48 → zg_LR G a b → (∀ m, 0 < m → m < 32 → G m ≠ [a, b]) → zg_FR G n → ∀ (B' : Nat → List Nat) (F' : List Nat) (fn' st' rt' : Nat) (lv' hr' lo' rT' : Int64) (rR' : Nat → Int64) (na' nb' sy' ow' bl' sh' sc' sn' sv' dh' dc' dn' dv' wo' : Nat → Nat), zx_XG (zg_fo G a b n) B' F' fn' st' rt' lv' hr' lo' na' nb' sy' ow' bl' sh' sc' sn' sv' dh' dc' dn' dv' rR' rT' →
      post (xc1, xc2, xc3, xc4, xc5, xc6, nI xli, nI xle, nI xsz, nI xcu, nI fn', nI st', lv', hr', lo', nI rt', rT', xrd, xod, xtd, zn_A na', zn_A nb', zn_A sy', zn_A ow', zn_A bl', zn_A (zn_u sp (16 + n) (sp a + sp b)), zn_A (zn_u fT (16 + n) (fT a)), zn_A (zn_u lT (16 + n) (lT b)), zn_A sh', zn_A sc', zn_A sn', zn_A sv', zn_A dh', zn_A dc', zn_A dn', zn_A dv', rR', zn_A pa, zn_A de, zn_A oc, zn_A wa, te, zn_A me, zn_A qu, zn_A wo', zn_A co)) :
    wpX_fold post (xc1, xc2, xc3, xc4, xc5, xc6, nI xli, nI xle, nI xsz, nI xcu, nI xfn, nI xst, xlv, xhr, xlo, nI xrt, xrT, xrd, xod, xtd, zn_A na, zn_A nb, zn_A sy, zn_A ow, zn_A bl, zn_A sp, zn_A fT, zn_A lT, zn_A sh, zn_A sc, zn_A sn, zn_A sv, zn_A dh, zn_A dc, zn_A dn, zn_A dv, rR, zn_A pa, zn_A de, zn_A oc, zn_A wa, te, zn_A me, zn_A qu, zn_A wo, zn_A co) := by
  obtain ⟨hX, hG, hlv, hhr, hrt⟩ := h
  have hX' := hX
  obtain ⟨hS, hsy, hI, hD⟩ := hX'
  have hD' := hD
  obtain ⟨L, hF, hm, hb1, hb2, hb3, hb4⟩ := hD'
  obtain ⟨a, a64, at1, at0⟩ := zb_least hrT
  have ha : a < 48 := hb4 a a64 at1
  have hRa : rR a ≠ 0 := (hb3 a ha).mp at1
  obtain ⟨b, b64, bt1, bt0⟩ := zb_least hRa
  have hb : b < 48 := hb2 a ha b b64 bt1
  have bnd : ∀ a' b', zg_R2 G a' b' → a' < 48 ∧ b' < 48 := by
    rintro a' b' ⟨r, i, q, j, p1, _, _⟩
    obtain ⟨x, _, _, x3, x4, _, x6, x7, _⟩ := zx_pln hS hG p1
    exact ⟨by rw [← x6]; exact hsy x x3, by rw [← x7]; exact hsy _ x4⟩
  have hR2 : zg_R2 G a b := (zx_R2 hX hG ha hb).mp bt1
  have hLR : zg_LR G a b := by
    refine ⟨hR2, fun a' b' h' => ?_⟩
    obtain ⟨ha', hb'⟩ := bnd a' b' h'
    have t1 := (zx_R2 hX hG ha' hb').mpr h'
    have t2 : zb_t xrT a' = true := (hb3 a' ha').mpr (zb_n0 (by omega) t1)
    rcases Nat.lt_trichotomy a' a with c | c | c
    · rw [at0 a' c] at t2; cases t2
    · right
      refine ⟨c.symm, ?_⟩
      apply Classical.byContradiction
      intro w
      rw [c, bt0 b' (by omega)] at t1
      cases t1
    · exact Or.inl c
  -- a and b stand in bodies
  obtain ⟨hida, hidb⟩ : (a < 16 ∨ (17 ≤ a ∧ a < 48 ∧ G (a - 16) ≠ [])) ∧ (b < 16 ∨ (17 ≤ b ∧ b < 48 ∧ G (b - 16) ≠ [])) := by
    obtain ⟨r, i, q, j, p1, _, _⟩ := hR2
    exact ⟨ho r p1.1 a (List.mem_of_getElem? p1.2.1), ho r p1.1 b (List.mem_of_getElem? p1.2.2)⟩
  have hM : ∀ i, i < 64 → (zb_t xhr i = true ↔ (0 < i ∧ i < 32 ∧ (B i).length = 1)) := by
    intro i hi
    rw [hhr i hi]
    constructor
    · intro z; exact ⟨z.1, z.2.1, by rw [← (zx_le hG z.2.1).1]; exact z.2.2⟩
    · intro z; exact ⟨z.1, z.2.1, by rw [(zx_le hG z.2.1).1]; exact z.2.2⟩
  unfold wpX_fold
  refine zb_low a a64 at1 at0 ⟨vp_in_nI ha (by decide), ?_⟩
  rw [show (nI a).toNatClampNeg = a from nI_clamp (by omega)]
  refine zb_low b b64 bt1 bt0 ?_
  refine zf_rwb ha hb hX hG (fun hno => ?_) (fun n hBD => ?_)
  · refine br_t rfl (nm_e ?_)
    refine br_c (fun hz => ?_) (fun hz => ?_)
    · refine Kst a b hLR hno ?_
      intro m h0 h32 hm0
      have t := zb_0.mp hz m (by omega)
      rw [zb_fr (by omega)] at t
      have t2 : zb_t xlv m = false := by
        apply ts_nt
        intro w
        rcases (hlv m (by omega)).mp w with q | q
        · omega
        · exact q.2 hm0
      rw [t2] at t
      have t3 : decide (1 ≤ m ∧ m ≤ 31) = true := decide_eq_true (by omega)
      rw [t3] at t
      cases t
    · obtain ⟨n, n64, nt1, nt0⟩ := zb_least hz
      rw [zb_fr n64, Bool.and_eq_true, decide_eq_true_eq] at nt1
      have hn : n < 32 := by omega
      have hn0 : 0 < n := by omega
      have hGn : G n = [] := by
        apply Classical.byContradiction
        intro w
        have := (hlv n n64).mpr (Or.inr ⟨hn, w⟩)
        rw [this] at nt1
        exact absurd nt1.1 (by decide)
      have hFR : zg_FR G n := by
        refine ⟨hn0, hn, hGn, fun m m0 mn w => ?_⟩
        have t := nt0 m mn
        rw [zb_fr (by omega)] at t
        have t2 : zb_t xlv m = false := by
          apply ts_nt
          intro q
          rcases (hlv m (by omega)).mp q with q | q
          · omega
          · exact q.2 w
        rw [t2] at t
        have t3 : decide (1 ≤ m ∧ m ≤ 31) = true := decide_eq_true (by omega)
        rw [t3] at t
        cases t
      have hNa : 16 + n ≠ a := by
        intro z
        rcases hida with q | q
        · omega
        · rw [← z, show 16 + n - 16 = n by omega] at q; exact q.2.2 hGn
      have hNb : 16 + n ≠ b := by
        intro z
        rcases hidb with q | q
        · omega
        · rw [← z, show 16 + n - 16 = n by omega] at q; exact q.2.2 hGn
      have eB : B n = [] := (zx_le hG hn).2.mp hGn
      refine zb_low n n64 (by rw [zb_fr n64, Bool.and_eq_true, decide_eq_true_eq]; exact nt1) nt0 ?_
      refine zx_make ha hb hn eB (by omega) hX ?_
      intro x y fn1 F1 na1 nb1 ow1 bl1 sh1 sc1 sn1 sv1 dh1 dc1 dn1 dv1 lv1 lo1 rT1 rR1 hx hy hxy hlv1 hX1
      have m1 : ∀ r, r < 32 → r ≠ n → (zn_u B n [x, y] r).map (zn_u (zn_u sy x a) y b) = G r := by
        intro r hr c
        rw [zn_un c, zf_mu (fun z => hy ⟨r, hr, z⟩), zf_mu (fun z => hx ⟨r, hr, z⟩), hG r hr]
      have m2 : (zn_u B n [x, y] n).map (zn_u (zn_u sy x a) y b) = [a, b] := by
        rw [zn_us, List.map_cons, List.map_cons, zn_un hxy, zn_us, zn_us]; rfl
      refine zf_67 ha hb hn hNa hNb hX1 ?_ m2 ?_
      · intro i hi
        rw [hM i hi]
        by_cases c : i = n
        · rw [c, zn_us, eB]
          constructor
          · intro z; exact absurd z.2.2 (by decide)
          · intro z; exact absurd z.2.2 (by simp)
        · rw [zn_un c]
      · intro B' F' fn' st' hr' lo' rT' rR' na' nb' sy' bl' sh' sc' sn' sv' dh' dc' dn' dv' wo' hX2 hM2 k1 k2
        have hG2 : ∀ r, r < 32 → zg_fo G a b n r = (B' r).map sy' := by
          intro r hr
          by_cases c : r = n
          · rw [c, zg_fop, k2]
          · rw [zg_fon c, k1 r hr c, m1 r hr c]
        refine Knew a b n ha hb hLR hno hFR B' F' fn' st' (xrt + 1) lv1 hr' lo' rT' rR' na' nb' sy' ow1 bl' sh' sc' sn' sv' dh' dc' dn' dv' wo' ⟨hX2, hG2, ?_, ?_, ?_⟩
        · intro i hi
          rw [hlv1 i, Bool.or_eq_true, decide_eq_true_eq, hlv i hi]
          by_cases c : i = n
          · rw [c, zg_fop]
            exact ⟨fun _ => Or.inr ⟨hn, by simp⟩, fun _ => Or.inr rfl⟩
          · rw [zg_fon c]
            constructor
            · rintro ((z | z) | z)
              · exact Or.inl z
              · exact Or.inr ⟨z.1, fun w => z.2 ((zg_rpe _).mp w)⟩
              · exact absurd z.symm c
            · rintro (z | z)
              · exact Or.inl (Or.inl z)
              · exact Or.inl (Or.inr ⟨z.1, fun w => z.2 ((zg_rpe _).mpr w)⟩)
        · intro i hi
          rw [hM2 i hi]
          constructor
          · intro z; exact ⟨z.1, z.2.1, by rw [hG2 i z.2.1, List.length_map]; exact z.2.2⟩
          · intro z; exact ⟨z.1, z.2.1, by have w := z.2.2; rw [hG2 i z.2.1, List.length_map] at w; exact w⟩
        · have := zg_Rd (G := zg_fo G a b n) (G' := G) ⟨hn0, hn⟩ (by rw [zg_fop]; simp) hGn (fun r hr c => by rw [zg_fon c]; exact (zg_rpe _).symm)
          omega
  · have hn0 := hBD.1
    have hn := hBD.2.1
    have hGn := hBD.2.2.1
    have hs := hself n hn
    rw [hGn] at hs
    have hNa : 16 + n ≠ a := fun z => hs (by rw [z]; simp)
    have hNb : 16 + n ≠ b := fun z => hs (by rw [z]; simp)
    refine br_f (nI_ne0 hn0 (by omega)) ?_
    refine zf_67 ha hb hn hNa hNb hX hM (by rw [← hG n hn, hGn]) ?_
    intro B' F' fn' st' hr' lo' rT' rR' na' nb' sy' bl' sh' sc' sn' sv' dh' dc' dn' dv' wo' hX2 hM2 k1 k2
    have hG2 : ∀ r, r < 32 → zg_fo G a b n r = (B' r).map sy' := by
      intro r hr
      by_cases c : r = n
      · rw [c, zg_fop, k2]
      · rw [zg_fon c, k1 r hr c, hG r hr]
    have hnil : ∀ r, r < 32 → (zg_fo G a b n r = [] ↔ G r = []) := by
      intro r hr
      by_cases c : r = n
      · rw [c, zg_fop, hGn]
      · rw [zg_fon c]; exact zg_rpe _
    refine Kold a b n hLR hBD B' F' fn' st' xrt xlv hr' lo' rT' rR' na' nb' sy' ow bl' sh' sc' sn' sv' dh' dc' dn' dv' wo' ⟨hX2, hG2, ?_, ?_, ?_⟩
    · intro i hi
      rw [hlv i hi]
      constructor
      · rintro (z | z)
        · exact Or.inl z
        · exact Or.inr ⟨z.1, fun w => z.2 ((hnil i z.1).mp w)⟩
      · rintro (z | z)
        · exact Or.inl z
        · exact Or.inr ⟨z.1, fun w => z.2 ((hnil i z.1).mpr w)⟩
    · intro i hi
      rw [hM2 i hi]
      constructor
      · intro z; exact ⟨z.1, z.2.1, by rw [hG2 i z.2.1, List.length_map]; exact z.2.2⟩
      · intro z; exact ⟨z.1, z.2.1, by have w := z.2.2; rw [hG2 i z.2.1, List.length_map] at w; exact w⟩
    · rw [hrt]; exact (zg_Re hnil).symm
end
end
section
/-! ===== the grammar by itself: words, acyclicity, the falling measure ===== -/
def zg_w (W : Nat → List Nat) (id : Nat) : List Nat := if id < 16 then [id] else W (id - 16)
def zg_id (G : Nat → List Nat) (id : Nat) : Prop := id < 16 ∨ (17 ≤ id ∧ id < 48 ∧ G (id - 16) ≠ [])
def zg_OK (G W : Nat → List Nat) : Prop :=
  (∀ r, r < 32 → ∀ id ∈ G r, zg_id G id) ∧ (∀ r, r < 32 → W r = (G r).flatMap (zg_w W)) ∧ (∀ r, r < 32 → G r ≠ [] → W r ≠ []) ∧
  (∀ q, 0 < q → q < 32 → G q ≠ [] → ∃ r, r < 32 ∧ 16 + q ∈ G r) ∧ (∀ r q, 0 < r → r < 32 → G r = [16 + q] → (G q).length ≠ 1) ∧ zg_s G ≤ (W 0).length
theorem zg_fmg {f : Nat → List Nat} : ∀ (l : List Nat), (∀ x ∈ l, f x ≠ []) → l.length ≤ (l.flatMap f).length
  | [], _ => Nat.le_refl _
  | x :: t, h => by
    rw [List.flatMap_cons, List.length_append, List.length_cons]
    have h1 := zg_fmg t (fun y hy => h y (List.mem_cons_of_mem _ hy))
    have h2 := List.length_pos_iff.mpr (h x List.mem_cons_self)
    omega
theorem zg_fml {f : Nat → List Nat} : ∀ (l : List Nat) (v : Nat), v ∈ l → (∀ x ∈ l, f x ≠ []) → (f v).length + l.length ≤ (l.flatMap f).length + 1
  | [], v, h, _ => by cases h
  | x :: t, v, hv, h => by
    rw [List.flatMap_cons, List.length_append, List.length_cons]
    have h0 := zg_fmg t (fun y hy => h y (List.mem_cons_of_mem _ hy))
    have h2 := List.length_pos_iff.mpr (h x List.mem_cons_self)
    rcases List.mem_cons.mp hv with e | e
    · rw [e]; omega
    · have h1 := zg_fml t v e (fun y hy => h y (List.mem_cons_of_mem _ hy))
      omega
theorem zg_wr {W : Nat → List Nat} {q : Nat} : zg_w W (16 + q) = W q := by
  unfold zg_w
  rw [if_neg (by omega), show 16 + q - 16 = q by omega]
theorem zg_wn {G W : Nat → List Nat} (h : zg_OK G W) {r id : Nat} (hr : r < 32) (hid : id ∈ G r) : zg_w W id ≠ [] := by
  unfold zg_w
  rcases h.1 r hr id hid with c | c
  · rw [if_pos c]; simp
  · rw [if_neg (by omega)]
    exact h.2.2.1 _ (by omega) c.2.2
theorem zg_lt {G W : Nat → List Nat} (h : zg_OK G W) {r q : Nat} (hr : r < 32) (hq : 16 + q ∈ G r) : (W q).length + (G r).length ≤ (W r).length + 1 := by
  have t := zg_fml (f := zg_w W) (G r) (16 + q) hq (fun x hx => zg_wn h hr hx)
  rw [← h.2.1 r hr, zg_wr] at t
  exact t
theorem zg_self {G W : Nat → List Nat} (h : zg_OK G W) : ∀ p, p < 32 → 16 + p ∉ G p := by
  intro p hp hm
  by_cases c0 : p = 0
  · rcases h.1 p hp _ hm with c | c
    · omega
    · omega
  have t := zg_lt h hp hm
  match e : G p, hm with
  | [x], hm =>
    have : 16 + p = x := by simpa using hm
    exact h.2.2.2.2.1 p p (by omega) hp (by rw [e, this]) (by rw [e]; rfl)
  | x :: y :: l, _ =>
    rw [e] at t
    simp only [List.length_cons] at t
    omega
/-! sums -/
theorem zx_sua {f g : Nat → Nat} : ∀ (n : Nat), zx_su (fun i => f i + g i) n = zx_su f n + zx_su g n
  | 0 => rfl
  | n + 1 => by
    show zx_su (fun i => f i + g i) n + (f n + g n) = zx_su f n + f n + (zx_su g n + g n)
    rw [zx_sua n]; omega
theorem zx_sum {f : Nat → Nat} {c : Nat} : ∀ (n : Nat), zx_su (fun i => f i * c) n = zx_su f n * c
  | 0 => by show 0 = 0 * c; rw [Nat.zero_mul]
  | n + 1 => by
    show zx_su (fun i => f i * c) n + f n * c = (zx_su f n + f n) * c
    rw [zx_sum n, Nat.add_mul]
theorem zx_sui {k v : Nat} : ∀ (n : Nat), k < n → zx_su (fun i => if i = k then v else 0) n = v
  | 0, h => absurd h (by omega)
  | n + 1, h => by
    show zx_su (fun i => if i = k then v else 0) n + (if n = k then v else 0) = v
    by_cases c : n = k
    · have z : zx_su (fun i => if i = k then v else 0) n = zx_su (fun _ => 0) n := zx_suc n (fun i hi => if_neg (by omega))
      have z2 : ∀ m, zx_su (fun _ => 0) m = 0 := by
        intro m
        induction m with
        | zero => rfl
        | succ m ih => show zx_su (fun _ => 0) m + 0 = 0; rw [ih]
      rw [z, z2, if_pos c]; omega
    · rw [if_neg c, zx_sui n (by omega), Nat.add_zero]
/-! sub -/
def zg_u (G : Nat → List Nat) (k : Nat) : Nat := zx_su (fun r => (G r).count k) 32
theorem zg_fmk {M : List Nat} {k : Nat} : ∀ (l : List Nat), (l.flatMap (fun id => if id = k then M else [id])).length + l.count k = l.length + l.count k * M.length
  | [] => by simp
  | x :: t => by
    rw [List.flatMap_cons, List.length_append, List.length_cons]
    have ih := zg_fmk (M := M) (k := k) t
    by_cases c : x = k
    · rw [if_pos c, c, List.count_cons_self, Nat.add_mul]; omega
    · rw [if_neg c, List.count_cons_of_ne c]
      simp only [List.length_cons, List.length_nil]
      omega
theorem zg_ss {G W : Nat → List Nat} (h : zg_OK G W) {p : Nat} (hp : p < 32) : zg_s (zg_sb G p) + (G p).length + zg_u G (16 + p) = zg_s G + zg_u G (16 + p) * (G p).length := by
  unfold zg_s zg_u
  rw [← zx_sum, ← zx_sua, ← zx_sui (k := p) (v := (G p).length) 32 hp, ← zx_sua, ← zx_sua]
  apply zx_suc
  intro i hi
  by_cases c : i = p
  · rw [if_pos c, c, zg_sbp]
    have : (G p).count (16 + p) = 0 := List.count_eq_zero.mpr (zg_self h p hp)
    rw [this]
    simp
  · rw [if_neg c, zg_sbn c, Nat.add_zero, zg_fmk, zx_sui 32 hp]
theorem zg_sd {G W : Nat → List Nat} (h : zg_OK G W) {p : Nat} (hp : 0 < p ∧ p < 32) (hG : G p ≠ []) (hc : (G p).length = 1 ∨ zg_u G (16 + p) = 1) : zg_s (zg_sb G p) + 1 = zg_s G := by
  have t := zg_ss h hp.2
  rcases hc with c | c
  · rw [c, Nat.mul_one] at t; omega
  · rw [c, Nat.one_mul] at t; omega
theorem zg_w' {W : Nat → List Nat} {p id : Nat} {v : List Nat} (h : id ≠ 16 + p) : zg_w (zn_u W p v) id = zg_w W id := by
  unfold zg_w
  by_cases c : id < 16
  · rw [if_pos c, if_pos c]
  · rw [if_neg c, if_neg c, zn_un (by omega)]
theorem zg_sbm {G : Nat → List Nat} {p r id : Nat} (h : r ≠ p) : id ∈ zg_sb G p r ↔ (id ∈ G r ∧ id ≠ 16 + p) ∨ (16 + p ∈ G r ∧ id ∈ G p) := by
  rw [zg_sbn h, List.mem_flatMap]
  constructor
  · rintro ⟨x, hx, hi⟩
    by_cases c : x = 16 + p
    · rw [if_pos c] at hi
      exact Or.inr ⟨c ▸ hx, hi⟩
    · rw [if_neg c] at hi
      have : id = x := by simpa using hi
      rw [this]
      exact Or.inl ⟨hx, c⟩
  · rintro (z | z)
    · exact ⟨id, z.1, by rw [if_neg z.2]; simp⟩
    · exact ⟨16 + p, z.1, by rw [if_pos rfl]; exact z.2⟩
theorem zg_OKs {G W : Nat → List Nat} (h : zg_OK G W) {p : Nat} (hp : 0 < p ∧ p < 32) (hG : G p ≠ []) (hc : (G p).length = 1 ∨ ((∀ i, 0 < i → i < 32 → (G i).length ≠ 1) ∧ zg_u G (16 + p) = 1)) :
    zg_OK (zg_sb G p) (zn_u W p []) := by
  have hs := zg_self h
  have hsd := zg_sd h hp hG (hc.elim Or.inl (fun z => Or.inr z.2))
  obtain ⟨o1, o2, o3, o4, o5, o6⟩ := h
  have live : ∀ r, r < 32 → zg_sb G p r ≠ [] → r ≠ p ∧ G r ≠ [] := by
    intro r hr hn
    have c : r ≠ p := fun z => hn (by rw [z]; exact zg_sbp)
    exact ⟨c, fun z => hn ((zg_sbe hG c).mpr z)⟩
  refine ⟨?_, ?_, ?_, ?_, ?_, ?_⟩
  · intro r hr id hid
    have c : r ≠ p := fun z => by rw [z, zg_sbp] at hid; cases hid
    have key : ∀ q, q < 32 → id ∈ G q → id ≠ 16 + p → zg_id (zg_sb G p) id := by
      intro q hq hi hne
      rcases o1 q hq id hi with z | z
      · exact Or.inl z
      · exact Or.inr ⟨z.1, z.2.1, fun w => z.2.2 ((zg_sbe hG (by omega)).mp w)⟩
    rcases (zg_sbm c).mp hid with z | z
    · exact key r hr z.1 z.2
    · exact key p hp.2 z.2 (fun w => hs p hp.2 (w ▸ z.2))
  · intro r hr
    by_cases c : r = p
    · rw [c, zn_us, zg_sbp]; rfl
    · rw [zn_un c, zg_sbn c, List.flatMap_assoc, o2 r hr]
      apply zg_fmc
      intro x hx
      by_cases d : x = 16 + p
      · rw [if_pos d, d, zg_wr, o2 p hp.2]
        apply zg_fmc
        intro y hy
        exact (zg_w' (fun w => hs p hp.2 (w ▸ hy))).symm
      · rw [if_neg d]
        show zg_w W x = zg_w (zn_u W p []) x ++ []
        rw [zg_w' d, List.append_nil]
  · intro r hr hn
    obtain ⟨c, hg⟩ := live r hr hn
    rw [zn_un c]; exact o3 r hr hg
  · intro q h0 hq hn
    obtain ⟨c, hg⟩ := live q hq hn
    obtain ⟨r, hr, hm⟩ := o4 q h0 hq hg
    by_cases d : r = p
    · obtain ⟨r', hr', hm'⟩ := o4 p hp.1 hp.2 hG
      have e : r' ≠ p := fun z => hs p hp.2 (z ▸ hm')
      exact ⟨r', hr', (zg_sbm e).mpr (Or.inr ⟨hm', d ▸ hm⟩)⟩
    · exact ⟨r, hr, (zg_sbm d).mpr (Or.inl ⟨hm, by omega⟩)⟩
  · intro r q h0 hr he
    have hn : zg_sb G p r ≠ [] := by rw [he]; simp
    obtain ⟨c, hg⟩ := live r hr hn
    have hl : (zg_sb G p r).length = 1 := by rw [he]; rfl
    rcases hc with hc | hc
    · have t := zg_fmk (M := G p) (k := 16 + p) (G r)
      rw [← zg_sbn c, hl, hc, Nat.mul_one] at t
      match e : G r, (show (G r).length = 1 by omega) with
      | [y], _ =>
        have hy : y ≠ 16 + p := by
          intro w
          exact o5 r p h0 hr (by rw [e, w]) hc
        have e2 : zg_sb G p r = [y] := by
          rw [zg_sbi c (by rw [e]; simp; exact fun w => hy w.symm), e]
        rw [he] at e2
        have e3 : y = 16 + q := by simpa using e2.symm
        have hqp : q ≠ p := fun w => hy (by rw [e3, w])
        have t2 := zg_fmk (M := G p) (k := 16 + p) (G q)
        rw [← zg_sbn hqp, hc, Nat.mul_one] at t2
        have := o5 r q h0 hr (by rw [e, e3])
        omega
    · exfalso
      have t := zg_fmg (f := fun id => if id = 16 + p then G p else [id]) (G r) (by
        intro x _
        by_cases d : x = 16 + p
        · rw [if_pos d]; exact hG
        · rw [if_neg d]; simp)
      rw [← zg_sbn c, hl] at t
      have := hc.1 r h0 hr
      have := List.length_pos_iff.mpr hg
      omega
  · rw [zn_un (by omega)]; omega
end
section
/-! fold, the pure side -/
theorem zg_n0 {a b N : Nat} : ∀ (l : List Nat), (zg_rp a b N l).length ≤ l.length
  | [] => Nat.le_refl _
  | [x] => Nat.le_refl _
  | x :: y :: t => by
    rw [zg_rp2]
    by_cases c : x = a ∧ y = b
    · rw [if_pos c]
      have := zg_n0 (a := a) (b := b) (N := N) t
      simp only [List.length_cons]; omega
    · rw [if_neg c]
      have := zg_n0 (a := a) (b := b) (N := N) (y :: t)
      simp only [List.length_cons] at this ⊢; omega
theorem zg_n1 {a b N : Nat} : ∀ (l : List Nat) (i : Nat), l[i]? = some a → l[i + 1]? = some b → (zg_rp a b N l).length + 1 ≤ l.length
  | [], i, h, _ => by simp at h
  | [x], i, _, h => by simp at h
  | x :: y :: t, i, h1, h2 => by
    rw [zg_rp2]
    by_cases c : x = a ∧ y = b
    · rw [if_pos c]
      have := zg_n0 (a := a) (b := b) (N := N) t
      simp only [List.length_cons]; omega
    · rw [if_neg c]
      cases i with
      | zero =>
        exfalso
        apply c
        exact ⟨by simpa using h1, by simpa using h2⟩
      | succ i =>
        have := zg_n1 (a := a) (b := b) (N := N) (y :: t) i (by simpa using h1) (by simpa using h2)
        simp only [List.length_cons] at this ⊢; omega
theorem zg_n2 {a b N : Nat} : ∀ (l : List Nat) (i j : Nat), l[i]? = some a → l[i + 1]? = some b → l[j]? = some a → l[j + 1]? = some b → i + 2 ≤ j → (zg_rp a b N l).length + 2 ≤ l.length
  | [], i, j, h, _, _, _, _ => by simp at h
  | [x], i, j, _, h, _, _, _ => by simp at h
  | x :: y :: t, i, j, h1, h2, h3, h4, hij => by
    rw [zg_rp2]
    by_cases c : x = a ∧ y = b
    · rw [if_pos c]
      obtain ⟨k, rfl⟩ : ∃ k, j = k + 2 := ⟨j - 2, by omega⟩
      have := zg_n1 (a := a) (b := b) (N := N) t k (by simpa using h3) (by simpa using h4)
      simp only [List.length_cons]; omega
    · rw [if_neg c]
      cases i with
      | zero =>
        exfalso
        apply c
        exact ⟨by simpa using h1, by simpa using h2⟩
      | succ i =>
        obtain ⟨k, rfl⟩ : ∃ k, j = k + 1 := ⟨j - 1, by omega⟩
        have := zg_n2 (a := a) (b := b) (N := N) (y :: t) i k (by simpa using h1) (by simpa using h2) (by simpa using h3) (by simpa using h4) (by omega)
        simp only [List.length_cons] at this ⊢; omega
/-- the elements of the replaced list -/
theorem zg_rps {a b N v : Nat} : ∀ (l : List Nat), v ∈ zg_rp a b N l → v ∈ l ∨ v = N
  | [], h => Or.inl h
  | [x], h => Or.inl h
  | x :: y :: t, h => by
    rw [zg_rp2] at h
    by_cases c : x = a ∧ y = b
    · rw [if_pos c] at h
      rcases List.mem_cons.mp h with e | e
      · exact Or.inr e
      · rcases zg_rps t e with w | w
        · exact Or.inl (by simp [w])
        · exact Or.inr w
    · rw [if_neg c] at h
      rcases List.mem_cons.mp h with e | e
      · exact Or.inl (by simp [e])
      · rcases zg_rps (y :: t) e with w | w
        · exact Or.inl (List.mem_cons_of_mem _ w)
        · exact Or.inr w
theorem zg_rpk {a b N v : Nat} : ∀ (l : List Nat), v ∈ l → v ∈ zg_rp a b N l ∨ v = a ∨ v = b
  | [], h => Or.inl h
  | [x], h => Or.inl h
  | x :: y :: t, h => by
    rw [zg_rp2]
    by_cases c : x = a ∧ y = b
    · rw [if_pos c]
      rcases List.mem_cons.mp h with e | e
      · exact Or.inr (Or.inl (e.trans c.1))
      · rcases List.mem_cons.mp e with e | e
        · exact Or.inr (Or.inr (e.trans c.2))
        · rcases zg_rpk (N := N) t e with w | w
          · exact Or.inl (List.mem_cons_of_mem _ w)
          · exact Or.inr w
    · rw [if_neg c]
      rcases List.mem_cons.mp h with e | e
      · exact Or.inl (by rw [e]; exact List.mem_cons_self)
      · rcases zg_rpk (N := N) (y :: t) e with w | w
        · exact Or.inl (List.mem_cons_of_mem _ w)
        · exact Or.inr w
theorem zg_rpi {a b N : Nat} : ∀ (l : List Nat) (i : Nat), l[i]? = some a → l[i + 1]? = some b → N ∈ zg_rp a b N l
  | [], i, h, _ => by simp at h
  | [x], i, _, h => by simp at h
  | x :: y :: t, i, h1, h2 => by
    rw [zg_rp2]
    by_cases c : x = a ∧ y = b
    · rw [if_pos c]; exact List.mem_cons_self
    · rw [if_neg c]
      cases i with
      | zero =>
        exfalso
        apply c
        exact ⟨by simpa using h1, by simpa using h2⟩
      | succ i => exact List.mem_cons_of_mem _ (zg_rpi (y :: t) i (by simpa using h1) (by simpa using h2))
theorem zg_rpf {a b N : Nat} {f : Nat → List Nat} (hf : f N = f a ++ f b) : ∀ (l : List Nat), (zg_rp a b N l).flatMap f = l.flatMap f
  | [] => rfl
  | [x] => rfl
  | x :: y :: t => by
    rw [zg_rp2]
    by_cases c : x = a ∧ y = b
    · rw [if_pos c, List.flatMap_cons, List.flatMap_cons, List.flatMap_cons, zg_rpf hf t, hf, c.1, c.2, List.append_assoc]
    · rw [if_neg c, List.flatMap_cons, List.flatMap_cons, zg_rpf hf (y :: t)]
theorem zg_rp1 {a b N v : Nat} : ∀ (l : List Nat), zg_rp a b N l = [v] → l = [v] ∨ (l = [a, b] ∧ v = N)
  | [], h => by rw [zg_rp] at h; cases h
  | [x], h => Or.inl h
  | x :: y :: t, h => by
    rw [zg_rp2] at h
    by_cases c : x = a ∧ y = b
    · rw [if_pos c] at h
      have h1 := (List.cons.inj h).1
      have h2 := (zg_rpe _).mp (List.cons.inj h).2
      right
      rw [c.1, c.2, h2]
      exact ⟨rfl, h1.symm⟩
    · rw [if_neg c] at h
      have h2 := (zg_rpe _).mp (List.cons.inj h).2
      cases h2
theorem zg_fod {G : Nat → List Nat} {a b n : Nat} (hn : n < 32) :
    zg_s (zg_fo G a b n) + zx_su (fun r => if r = n then 0 else (G r).length - (zg_rp a b (16 + n) (G r)).length) 32 + (G n).length = zg_s G + 2 := by
  unfold zg_s
  rw [← zx_sui (k := n) (v := (G n).length) 32 hn, ← zx_sui (k := n) (v := 2) 32 hn, ← zx_sua, ← zx_sua, ← zx_sua]
  apply zx_suc
  intro i hi
  by_cases c : i = n
  · rw [if_pos c, if_pos c, if_pos c, c, zg_fop]
    simp only [List.length_cons, List.length_nil]; omega
  · rw [if_neg c, if_neg c, if_neg c, zg_fon c]
    have := zg_n0 (a := a) (b := b) (N := 16 + n) (G i)
    omega
/-- an old rule: the sum falls -/
theorem zg_fd1 {G : Nat → List Nat} {a b n : Nat} (hR : zg_R2 G a b) (hn : n < 32) (hG : G n = [a, b]) : zg_s (zg_fo G a b n) + 1 ≤ zg_s G ∧ ∃ r i, r ≠ n ∧ zg_pl G a b r i := by
  obtain ⟨r, i, q, j, p1, p2, hap⟩ := hR
  have ex : ∃ r i, r ≠ n ∧ zg_pl G a b r i := by
    by_cases c : r = n
    · by_cases d : q = n
      · exfalso
        have i0 : i = 0 := by
          have := p1.2.2
          rw [c, hG] at this
          obtain ⟨h, _⟩ := List.getElem?_eq_some_iff.mp this
          simp only [List.length_cons, List.length_nil] at h
          omega
        have j0 : j = 0 := by
          have := p2.2.2
          rw [d, hG] at this
          obtain ⟨h, _⟩ := List.getElem?_eq_some_iff.mp this
          simp only [List.length_cons, List.length_nil] at h
          omega
        rcases hap with w | w | w
        · exact w (d.trans c.symm)
        · omega
        · omega
      · exact ⟨q, j, d, p2⟩
    · exact ⟨r, i, c, p1⟩
  refine ⟨?_, ex⟩
  obtain ⟨r, i, hrn, p⟩ := ex
  have t := zg_fod (G := G) (a := a) (b := b) hn
  have t2 := zg_n1 (N := 16 + n) (G r) i p.2.1 p.2.2
  have t3 := zx_sul (f := fun r => if r = n then 0 else (G r).length - (zg_rp a b (16 + n) (G r)).length) 32 r p.1
  rw [if_neg hrn] at t3
  rw [hG] at t
  simp only [List.length_cons, List.length_nil] at t
  omega
/-- a new rule: the sum doesn't grow -/
theorem zg_fd2 {G : Nat → List Nat} {a b n : Nat} (hR : zg_R2 G a b) (hn : n < 32) (hG : G n = []) : zg_s (zg_fo G a b n) ≤ zg_s G ∧ ∃ r i, r ≠ n ∧ zg_pl G a b r i := by
  obtain ⟨r, i, q, j, p1, p2, hap⟩ := hR
  have ne : ∀ r i, zg_pl G a b r i → r ≠ n := by
    intro r i p c
    have := p.2.1
    rw [c, hG] at this
    simp at this
  have hrn := ne r i p1
  have hqn := ne q j p2
  refine ⟨?_, r, i, hrn, p1⟩
  have t := zg_fod (G := G) (a := a) (b := b) hn
  rw [hG] at t
  simp only [List.length_nil] at t
  by_cases c : q = r
  · rw [c] at p2
    have t3 := zx_sul (f := fun r => if r = n then 0 else (G r).length - (zg_rp a b (16 + n) (G r)).length) 32 r p1.1
    rw [if_neg hrn] at t3
    have t2 : (zg_rp a b (16 + n) (G r)).length + 2 ≤ (G r).length := by
      rcases hap with w | w | w
      · exact absurd c w
      · exact zg_n2 _ i j p1.2.1 p1.2.2 p2.2.1 p2.2.2 w
      · exact zg_n2 _ j i p2.2.1 p2.2.2 p1.2.1 p1.2.2 w
    omega
  · have t3 := zx_sul2 (f := fun r => if r = n then 0 else (G r).length - (zg_rp a b (16 + n) (G r)).length) 32 q r p2.1 p1.1 c
    rw [if_neg hrn, if_neg hqn] at t3
    have t4 := zg_n1 (N := 16 + n) (G r) i p1.2.1 p1.2.2
    have t5 := zg_n1 (N := 16 + n) (G q) j p2.2.1 p2.2.2
    omega
theorem zg_OKf {G W W' : Nat → List Nat} (h : zg_OK G W) {a b n : Nat} (hn : 0 < n ∧ n < 32) (hns : ∀ i, 0 < i → i < 32 → (G i).length ≠ 1) (hpl : ∃ r i, r ≠ n ∧ zg_pl G a b r i) (hs : zg_s (zg_fo G a b n) ≤ zg_s G)
    (hcase : (G n = [a, b] ∧ W' = W) ∨ (G n = [] ∧ W' = zn_u W n (zg_w W a ++ zg_w W b))) : zg_OK (zg_fo G a b n) W' ∧ (∀ r, r ≠ n → W' r = W r) ∧ W' n = zg_w W a ++ zg_w W b := by
  have hself := zg_self h
  have h' := h
  obtain ⟨o1, o2, o3, o4, o5, o6⟩ := h
  obtain ⟨r0, i0, hr0, p0⟩ := hpl
  have ida := o1 r0 p0.1 a (List.mem_of_getElem? p0.2.1)
  have idb := o1 r0 p0.1 b (List.mem_of_getElem? p0.2.2)
  have hNa : a ≠ 16 + n := by
    intro z
    rcases hcase with c | c
    · exact hself n hn.2 (by rw [c.1, z]; simp)
    · rcases ida with q | q
      · omega
      · rw [z, show 16 + n - 16 = n by omega] at q; exact q.2.2 c.1
  have hNb : b ≠ 16 + n := by
    intro z
    rcases hcase with c | c
    · exact hself n hn.2 (by rw [c.1, z]; simp)
    · rcases idb with q | q
      · omega
      · rw [z, show 16 + n - 16 = n by omega] at q; exact q.2.2 c.1
  have w1 : ∀ r, r ≠ n → W' r = W r := by
    intro r hr
    rcases hcase with c | c
    · rw [c.2]
    · rw [c.2, zn_un hr]
  have w2 : W' n = zg_w W a ++ zg_w W b := by
    rcases hcase with c | c
    · rw [c.2, o2 n hn.2, c.1]
      simp [List.flatMap_cons]
    · rw [c.2, zn_us]
  have w3 : ∀ id, id ≠ 16 + n → zg_w W' id = zg_w W id := by
    intro id hid
    unfold zg_w
    by_cases c : id < 16
    · rw [if_pos c, if_pos c]
    · rw [if_neg c, if_neg c, w1 _ (by omega)]
  have liv : ∀ r, G r ≠ [] → zg_fo G a b n r ≠ [] := by
    intro r hr
    by_cases c : r = n
    · rw [c, zg_fop]; simp
    · rw [zg_fon c]; exact fun z => hr ((zg_rpe _).mp z)
  have idk : ∀ id, zg_id G id → zg_id (zg_fo G a b n) id := by
    intro id hid
    rcases hid with z | z
    · exact Or.inl z
    · exact Or.inr ⟨z.1, z.2.1, liv _ z.2.2⟩
  refine ⟨⟨?_, ?_, ?_, ?_, ?_, ?_⟩, w1, w2⟩
  · intro r hr id hid
    by_cases c : r = n
    · rw [c, zg_fop] at hid
      have : id = a ∨ id = b := by simpa using hid
      rcases this with z | z
      · rw [z]; exact idk a ida
      · rw [z]; exact idk b idb
    · rw [zg_fon c] at hid
      rcases zg_rps _ hid with z | z
      · exact idk id (o1 r hr id z)
      · right
        refine ⟨by omega, by omega, ?_⟩
        rw [z, show 16 + n - 16 = n by omega, zg_fop]; simp
  · intro r hr
    by_cases c : r = n
    · rw [c, zg_fop, w2]
      simp [List.flatMap_cons, w3 a hNa, w3 b hNb]
    · rw [zg_fon c, zg_rpf, w1 r c, o2 r hr]
      · rcases hcase with d | d
        · rw [d.2]
        · apply zg_fmc
          intro x hx
          refine (w3 x ?_).symm
          intro z
          rcases o1 r hr x hx with q | q
          · omega
          · rw [z, show 16 + n - 16 = n by omega] at q; exact q.2.2 d.1
      · rw [zg_wr, w2, w3 a hNa, w3 b hNb]
  · intro r hr hg
    by_cases c : r = n
    · rw [c, w2]
      have := zg_wn h' p0.1 (List.mem_of_getElem? p0.2.1)
      intro z
      exact this (List.append_eq_nil_iff.mp z).1
    · rw [w1 r c]
      apply o3 r hr
      rw [zg_fon c] at hg
      exact fun z => hg ((zg_rpe _).mpr z)
  · intro q h0 hq hg
    by_cases c : q = n
    · refine ⟨r0, p0.1, ?_⟩
      rw [zg_fon hr0, c]
      exact zg_rpi _ i0 p0.2.1 p0.2.2
    · rw [zg_fon c] at hg
      have hg' : G q ≠ [] := fun z => hg ((zg_rpe _).mpr z)
      obtain ⟨r, hr, hm⟩ := o4 q h0 hq hg'
      have inn : (16 + q = a ∨ 16 + q = b) → ∃ r, r < 32 ∧ 16 + q ∈ zg_fo G a b n r := by
        intro z
        refine ⟨n, hn.2, ?_⟩
        rw [zg_fop]
        rcases z with z | z
        · rw [z]; simp
        · rw [z]; simp
      by_cases d : r = n
      · rcases hcase with e | e
        · rw [d, e.1] at hm
          exact inn (by simpa using hm)
        · rw [d, e.1] at hm; cases hm
      · rcases zg_rpk (N := 16 + n) (a := a) (b := b) _ hm with z | z
        · exact ⟨r, hr, by rw [zg_fon d]; exact z⟩
        · exact inn z
  · intro r q h0 hr he
    by_cases c : r = n
    · rw [c, zg_fop] at he; cases he
    · rw [zg_fon c] at he
      rcases zg_rp1 _ he with z | z
      · exact absurd (by rw [z]; rfl) (hns r h0 hr)
      · have : q = n := by omega
        rw [this, zg_fop]; simp
  · rw [w1 0 (by omega)]; omega
theorem zg_OKe {G W : Nat → List Nat} (h : zg_OK G W) {t : Nat} (ht : t < 16) : zg_OK (zn_u G 0 (G 0 ++ [t])) (zn_u W 0 (W 0 ++ [t])) := by
  obtain ⟨o1, o2, o3, o4, o5, o6⟩ := h
  have liv : ∀ id, zg_id G id → zg_id (zn_u G 0 (G 0 ++ [t])) id := by
    intro id hid
    rcases hid with z | z
    · exact Or.inl z
    · exact Or.inr ⟨z.1, z.2.1, by rw [zn_un (by omega)]; exact z.2.2⟩
  have wk : ∀ id, zg_id G id → zg_w (zn_u W 0 (W 0 ++ [t])) id = zg_w W id := by
    intro id hid
    apply zg_w'
    rcases hid with z | z <;> omega
  refine ⟨?_, ?_, ?_, ?_, ?_, ?_⟩
  · intro r hr id hid
    by_cases c : r = 0
    · rw [c, zn_us] at hid
      rcases List.mem_append.mp hid with z | z
      · exact liv id (o1 0 (by omega) id z)
      · have : id = t := by simpa using z
        rw [this]; exact Or.inl ht
    · rw [zn_un c] at hid
      exact liv id (o1 r hr id hid)
  · intro r hr
    by_cases c : r = 0
    · rw [c, zn_us, zn_us, List.flatMap_append]
      congr 1
      · refine (o2 0 (by omega)).trans (zg_fmc _ ?_)
        intro x hx
        exact (wk x (o1 0 (by omega) x hx)).symm
      · show [t] = zg_w _ t ++ []
        unfold zg_w
        rw [if_pos ht]; rfl
    · rw [zn_un c, zn_un c, o2 r hr]
      apply zg_fmc
      intro x hx
      exact (wk x (o1 r hr x hx)).symm
  · intro r hr hg
    by_cases c : r = 0
    · rw [c, zn_us]; simp
    · rw [zn_un c] at hg ⊢; exact o3 r hr hg
  · intro q h0 hq hg
    rw [zn_un (by omega)] at hg
    obtain ⟨r, hr, hm⟩ := o4 q h0 hq hg
    by_cases c : r = 0
    · exact ⟨0, by omega, by rw [zn_us]; exact List.mem_append_left _ (c ▸ hm)⟩
    · exact ⟨r, hr, by rw [zn_un c]; exact hm⟩
  · intro r q h0 hr he
    rw [zn_un (by omega)] at he
    have hq : q ≠ 0 := by
      intro z
      rcases o1 r hr (16 + q) (by rw [he]; simp) with w | w
      · omega
      · omega
    rw [zn_un hq]
    exact o5 r q h0 hr he
  · rw [zn_us, List.length_append]
    unfold zg_s at o6 ⊢
    rw [zx_ulen]
    have t1 := zx_suu (f := fun q => (G q).length) (k := 0) (v := (G 0 ++ [t]).length) 32 (by omega)
    have t2 : (G 0 ++ [t]).length = (G 0).length + 1 := by rw [List.length_append]; rfl
    rw [t2] at t1 ⊢
    have t1' : zx_su (zn_u (fun q => (G q).length) 0 ((G 0).length + 1)) 32 + (G 0).length = zx_su (fun q => (G q).length) 32 + ((G 0).length + 1) := t1
    have t3 : [t].length = 1 := rfl
    omega
end
section
/-! ===== Y: the reference's flat bodies ===== -/
def zy_cd (id : Nat) : Nat := if id < 16 then id else id + 48
theorem zy_cdi {a b : Nat} : zy_cd a = zy_cd b ↔ a = b := by
  unfold zy_cd
  constructor
  · intro h
    by_cases c : a < 16 <;> by_cases d : b < 16
    · rw [if_pos c, if_pos d] at h; exact h
    · rw [if_pos c, if_neg d] at h; omega
    · rw [if_neg c, if_pos d] at h; omega
    · rw [if_neg c, if_neg d] at h; omega
  · intro h; rw [h]
theorem zy_cdr {p : Nat} : zy_cd (16 + p) = 64 + p := by
  unfold zy_cd
  rw [if_neg (by omega)]; omega
theorem zy_cdl {a b : Nat} : zy_cd a < zy_cd b ↔ a < b := by
  unfold zy_cd
  by_cases c : a < 16 <;> by_cases d : b < 16
  · rw [if_pos c, if_pos d]
  · rw [if_pos c, if_neg d]; omega
  · rw [if_neg c, if_pos d]; omega
  · rw [if_neg c, if_neg d]; omega
theorem zy_cdb {a : Nat} (h : a < 48) : zy_cd a < 96 := by
  unfold zy_cd
  by_cases c : a < 16
  · rw [if_pos c]; omega
  · rw [if_neg c]; omega
theorem zy_ix {r i : Nat} : nI r * 64 + nI i = nI (r * 64 + i) := by
  rw [show (64 : Int32) = nI 64 from rfl, pk_mul, nI_add]
theorem zy_ix1 {r i : Nat} : nI r * 64 + nI i + 1 = nI (r * 64 + i + 1) := by
  rw [zy_ix, nI_1]
theorem zy_64 {p : Nat} : 64 + nI p = nI (64 + p) := by
  rw [show (64 : Int32) = nI 64 from rfl, nI_add]
/-- row r of body holds the list l -/
def zy_row (bo : Nat → Nat) (r : Nat) (l : List Nat) : Prop := ∀ i id, l[i]? = some id → bo (r * 64 + i) = zy_cd id
def zy_R (G : Nat → List Nat) (bo si : Nat → Nat) : Prop := ∀ r, r < 32 → si r = (G r).length ∧ (G r).length ≤ 64 ∧ (∀ id ∈ G r, id < 48) ∧ zy_row bo r (G r)
theorem zy_rm {bo : Nat → Nat} {r : Nat} {d t : List Nat} {x : Nat} (h : zy_row bo r (d ++ x :: t)) : bo (r * 64 + d.length) = zy_cd x := h _ _ zl_a1
theorem zy_rm2 {bo : Nat → Nat} {r : Nat} {d t : List Nat} {x y : Nat} (h : zy_row bo r (d ++ x :: y :: t)) : bo (r * 64 + d.length + 1) = zy_cd y := h (d.length + 1) _ zl_a2
theorem zy_rf {bo bo' : Nat → Nat} {r : Nat} {l : List Nat} (h : zy_row bo r l) (e : ∀ i, i < l.length → bo' (r * 64 + i) = bo (r * 64 + i)) : zy_row bo' r l := by
  intro i id hi
  obtain ⟨w, _⟩ := List.getElem?_eq_some_iff.mp hi
  rw [e i w]; exact h i id hi
/-- one cell is written -/
theorem zy_wr {G : Nat → List Nat} {bo si : Nat → Nat} (h : zy_R G bo si) {r : Nat} (hr : r < 32) {d t : List Nat} {x y : Nat} (e : G r = d ++ x :: t) (hy : y < 48) : zy_R (zn_u G r (d ++ y :: t)) (zn_u bo (r * 64 + d.length) (zy_cd y)) si := by
  intro q hq
  have hl := (h r hr).2.1
  rw [e, List.length_append, List.length_cons] at hl
  obtain ⟨h1, h2, h3, h4⟩ := h q hq
  by_cases c : q = r
  · subst c
    rw [zn_us]
    rw [e] at h1 h3 h4
    refine ⟨by rw [h1]; simp, by rw [List.length_append, List.length_cons]; omega, ?_, ?_⟩
    · intro id hid
      rcases List.mem_append.mp hid with z | z
      · exact h3 id (by simp [z])
      · rcases List.mem_cons.mp z with z | z
        · rw [z]; exact hy
        · exact h3 id (by simp [z])
    · intro i id hi
      by_cases c : i = d.length
      · rw [c, zl_a1] at hi
        rw [c, zn_us, Option.some.inj hi]
      · rw [zn_un (by omega)]
        apply h4
        rw [← hi]
        by_cases c2 : i < d.length
        · rw [List.getElem?_append_left c2, List.getElem?_append_left c2]
        · rw [List.getElem?_append_right (by omega), List.getElem?_append_right (by omega)]
          obtain ⟨k, hk⟩ : ∃ k, i - d.length = k + 1 := ⟨i - d.length - 1, by omega⟩
          rw [hk]; simp
  · rw [zn_un c]
    refine ⟨h1, h2, h3, zy_rf h4 ?_⟩
    intro i hi
    rw [zn_un]
    intro z
    have : q * 64 + i < (q + 1) * 64 := by omega
    omega
section
variable {yca yal yln ycu : Nat} {ysq ybo ysi yor : Nat → Nat}
/-! uses -/
theorem zy_useI {post : Int32 → Prop} {J : Int32 → Int32 → Prop} {G : Nat → List Nat} {p r : Nat} (hp : p < 32) (hr : r < 32) (h : zy_R G ybo ysi) :
    ∀ (t d : List Nat) (c : Nat), G r = d ++ t → J (nI (c + t.count (16 + p))) (nI (r + 1)) → wY_uses_13 post J (nI p) (nI r) (nI yca) (nI yal) (nI yln) (nI ycu) (zn_A ysq) (zn_A ybo) (zn_A ysi) (zn_A yor) (t.length + 1) (nI c) (nI d.length) := by
  obtain ⟨h1, h2, h3, h4⟩ := h r hr
  intro t
  induction t with
  | nil =>
    intro d c e K
    rw [List.append_nil] at e
    rw [wY_uses_13]
    refine ⟨vp_in_nI (by omega) (by decide), ?_⟩
    rw [zn_rd (by omega), h1, e]
    refine br_t (nI_le (Nat.le_refl _) (by rw [← e]; omega)) (nm_r (nI_1 r) ?_)
    exact K
  | cons x t ih =>
    intro d c e K
    have hl : (G r).length = d.length + (t.length + 1) := by rw [e, List.length_append, List.length_cons]
    have hx := h3 x (by rw [e]; simp)
    have hxb := zy_cdb hx
    have hb : ybo (r * 64 + d.length) = zy_cd x := by rw [e] at h4; exact zy_rm h4
    show wY_uses_13 post J (nI p) (nI r) (nI yca) (nI yal) (nI yln) (nI ycu) (zn_A ysq) (zn_A ybo) (zn_A ysi) (zn_A yor) ((t.length + 1) + 1) (nI c) (nI d.length)
    rw [wY_uses_13]
    refine ⟨vp_in_nI (by omega) (by decide), ?_⟩
    rw [zn_rd (by omega), h1]
    refine br_f (nI_ge (by omega) (by omega)) ?_
    rw [zy_ix, zy_64]
    refine ⟨vp_in_nI (by omega) (by decide), ?_⟩
    rw [zn_rd (by omega), hb]
    have e2 : d.length + 1 = (d ++ [x]).length := by simp
    refine pk_eq (zy_cd x) (64 + p) (fun q => nm_r (nI_1 c) (nm_r (nI_1 _) ?_)) (fun q => nm_r (nI_1 _) ?_)
    · rw [← zy_cdr, zy_cdi] at q
      rw [e2]
      refine ih (d ++ [x]) (c + 1) (by rw [e]; simp) ?_
      rw [q, List.count_cons_self] at K
      rw [show c + 1 + t.count (16 + p) = c + (t.count (16 + p) + 1) by omega]; exact K
    · rw [← zy_cdr, Ne, zy_cdi] at q
      rw [e2]
      refine ih (d ++ [x]) c (by rw [e]; simp) ?_
      rw [List.count_cons_of_ne q] at K
      exact K
theorem zy_useO {post : Int32 → Prop} {G : Nat → List Nat} {p : Nat} (hp : p < 32) (h : zy_R G ybo ysi) (K : post (nI (zg_u G (16 + p)))) :
    ∀ (m r : Nat), r + m = 32 → wY_uses_4 post (nI p) (nI yca) (nI yal) (nI yln) (nI ycu) (zn_A ysq) (zn_A ybo) (zn_A ysi) (zn_A yor) (m + 1) (nI (zx_su (fun r => (G r).count (16 + p)) r)) (nI r) := by
  intro m
  induction m with
  | zero =>
    intro r hr
    have : r = 32 := by omega
    subst this
    rw [wY_uses_4]
    exact br_t (show (31 : Int32) < nI 32 by decide) K
  | succ m ih =>
    intro r hr
    rw [wY_uses_4]
    refine br_f ?_ ⟨(G r).length + 1, ?_⟩
    · rw [show (31 : Int32) = nI 31 from rfl, nI_ltI (by omega) (by omega)]; omega
    · exact zy_useI hp (by omega) h (G r) [] _ rfl (ih (r + 1) (by omega))
theorem zy_uses {post : Int32 → Prop} {G : Nat → List Nat} {p : Nat} (hp : p < 32) (h : zy_R G ybo ysi) (K : post (nI (zg_u G (16 + p)))) : wpY_uses post (nI yca, nI yal, nI yln, nI ycu, zn_A ysq, zn_A ybo, zn_A ysi, zn_A yor) (nI p) := by
  unfold wpY_uses
  exact ⟨33, zy_useO hp h K 32 0 (by omega)⟩
/-! ruleCount, textLength -/
theorem zy_rcL {post : Int32 → Prop} {G : Nat → List Nat} (h : zy_R G ybo ysi) (K : post (nI (zg_R G))) :
    ∀ (m r : Nat), 0 < r → r + m = 32 → wY_ruleCount_4 post (nI yca) (nI yal) (nI yln) (nI ycu) (zn_A ysq) (zn_A ybo) (zn_A ysi) (zn_A yor) (m + 1) (nI (zx_su (fun r => if r = 0 then 0 else zg_lv (G r)) r)) (nI r) := by
  intro m
  induction m with
  | zero =>
    intro r _ hr
    have : r = 32 := by omega
    subst this
    rw [wY_ruleCount_4]
    exact br_t (show (31 : Int32) < nI 32 by decide) K
  | succ m ih =>
    intro r h0 hr
    obtain ⟨h1, h2, _, _⟩ := h r (by omega)
    have nx := ih (r + 1) (by omega) (by omega)
    have es : zx_su (fun r => if r = 0 then 0 else zg_lv (G r)) (r + 1) = zx_su (fun r => if r = 0 then 0 else zg_lv (G r)) r + zg_lv (G r) := by
      show zx_su _ r + (if r = 0 then 0 else zg_lv (G r)) = _
      rw [if_neg (by omega)]
    rw [es] at nx
    rw [wY_ruleCount_4]
    refine br_f ?_ ⟨vp_in_nI (by omega) (by decide), ?_⟩
    · rw [show (31 : Int32) = nI 31 from rfl, nI_ltI (by omega) (by omega)]; omega
    rw [zn_rd (by omega), h1]
    refine pk_le (G r).length 0 (fun c => nm_r (nI_1 r) ?_) (fun c => nm_r (nI_1 _) (nm_r (nI_1 r) ?_))
    · have : G r = [] := List.length_eq_zero_iff.mp (by omega)
      rw [this] at nx
      exact nx
    · rw [zg_lv1 (List.length_pos_iff.mp c)] at nx
      exact nx
theorem zy_rc {post : Int32 → Prop} {G : Nat → List Nat} (h : zy_R G ybo ysi) (K : post (nI (zg_R G))) : wpY_ruleCount post (nI yca, nI yal, nI yln, nI ycu, zn_A ysq, zn_A ybo, zn_A ysi, zn_A yor) := by
  unfold wpY_ruleCount
  exact ⟨32, zy_rcL h K 31 1 (by omega) (by omega)⟩
theorem zy_tlL {post : Int32 → Prop} {G : Nat → List Nat} {c : Nat} (h : zy_R G ybo ysi) (K : post (nI (c + zg_s G))) :
    ∀ (m r : Nat), r + m = 32 → wY_textLength_9 post (nI yca) (nI yal) (nI yln) (nI ycu) (zn_A ysq) (zn_A ybo) (zn_A ysi) (zn_A yor) (m + 1) (nI (c + zx_su (fun r => (G r).length) r)) (nI r) := by
  intro m
  induction m with
  | zero =>
    intro r hr
    have : r = 32 := by omega
    subst this
    rw [wY_textLength_9]
    exact br_t (show (31 : Int32) < nI 32 by decide) K
  | succ m ih =>
    intro r hr
    obtain ⟨h1, h2, _, _⟩ := h r (by omega)
    have nx := ih (r + 1) (by omega)
    rw [wY_textLength_9]
    refine br_f ?_ ⟨vp_in_nI (by omega) (by decide), nm_r (e' := nI (c + zx_su (fun r => (G r).length) (r + 1))) ?_ (nm_r (nI_1 r) nx)⟩
    · rw [show (31 : Int32) = nI 31 from rfl, nI_ltI (by omega) (by omega)]; omega
    · rw [zn_rd (by omega), h1, nI_add]
      exact congrArg nI (by show c + _ + _ = c + (_ + (G r).length); omega)
theorem zy_tl {post : Int32 → Prop} {G : Nat → List Nat} (h : zy_R G ybo ysi) (K : post (nI (zg_R G + 1 + zg_s G))) : wpY_textLength post (nI yca, nI yal, nI yln, nI ycu, zn_A ysq, zn_A ybo, zn_A ysi, zn_A yor) := by
  unfold wpY_textLength
  refine zy_rc h (nm_r (nI_1 _) ⟨33, ?_⟩)
  exact zy_tlL (c := zg_R G + 1) h K 32 0 (by omega)
end
end
section
/-! Y: putBody -/
theorem zy_Rc {G G' : Nat → List Nat} {bo si : Nat → Nat} (h : zy_R G bo si) (e : ∀ r, r < 32 → G' r = G r) : zy_R G' bo si := by
  intro r hr
  rw [e r hr]; exact h r hr
section
variable {yca yal yln ycu : Nat} {ysq ybo ysi yor : Nat → Nat}
/-- the copying loop of putBody -/
theorem zy_put2 {post : SY → Prop} {r p i m n : Nat} {bo0 : Nat → Nat} (hr : r < 33) (hp : p < 33) (hrp : r ≠ p) (hm : ysi p = m) (hm1 : 1 ≤ m) (hi : i + m ≤ 64) (hn : ysi r = n) (hnb : n ≤ 64)
    (K : ∀ bo' : Nat → Nat, (∀ k, k < m → bo' (r * 64 + i + k) = bo0 (p * 64 + k)) → (∀ j, ¬ (r * 64 + i ≤ j ∧ j < r * 64 + i + m) → bo' j = bo0 j) → post (nI yca, nI yal, nI yln, nI ycu, zn_A ysq, zn_A bo', zn_A (zn_u ysi r (n + (m - 1))), zn_A yor)) :
    ∀ (q k : Nat) (bo' : Nat → Nat), k + q = m → (∀ k', k' < k → bo' (r * 64 + i + k') = bo0 (p * 64 + k')) → (∀ j, ¬ (r * 64 + i ≤ j ∧ j < r * 64 + i + k) → bo' j = bo0 j) →
      wY_putBody_62 post (nI r) (nI i) (nI p) (nI (m - 1)) (nI yca) (nI yal) (nI yln) (nI ycu) (q + 1) (nI k) (zn_A ysq) (zn_A bo') (zn_A ysi) (zn_A yor) := by
  intro q
  induction q with
  | zero =>
    intro k bo' hk h1 h2
    have : k = m := by omega
    subst this
    rw [wY_putBody_62]
    refine ⟨vp_in_nI hp (by decide), ?_⟩
    rw [zn_rd (by omega), hm]
    refine br_t (nI_le (Nat.le_refl _) (by omega)) ⟨vp_in_nI hr (by decide), vp_in_nI hr (by decide), nm_r (e' := zn_A (zn_u ysi r (n + (k - 1)))) ?_ (K bo' h1 h2)⟩
    rw [zn_rd (by omega), hn, nI_add, zn_up (by omega)]
  | succ q ih =>
    intro k bo' hk h1 h2
    have hlt : k < m := by omega
    rw [wY_putBody_62]
    refine ⟨vp_in_nI hp (by decide), ?_⟩
    rw [zn_rd (by omega), hm]
    refine br_f (nI_ge hlt (by omega)) ?_
    rw [zy_ix, zy_ix, nI_add]
    refine ⟨vp_in_nI (by omega) (by decide), vp_in_nI (by omega) (by decide), nm_r (e' := zn_A (zn_u bo' (r * 64 + i + k) (bo' (p * 64 + k)))) ?_ (nm_r (nI_1 k) ?_)⟩
    · rw [zn_rd (by omega), zn_up (by omega)]
    · have hne : ¬ (r * 64 + i ≤ p * 64 + k ∧ p * 64 + k < r * 64 + i + k) := by omega
      refine ih (k + 1) _ (by omega) ?_ ?_
      · intro k' hk'
        by_cases c : k' = k
        · rw [c, zn_us, h2 _ hne]
        · rw [zn_un (by omega)]; exact h1 k' (by omega)
      · intro j hj
        rw [zn_un (by omega)]
        exact h2 j (by omega)
/-- the shifting loop of putBody -/
theorem zy_put1 {post : SY → Prop} {r p i m n : Nat} {bo0 : Nat → Nat} (hr : r < 33) (hp : p < 33) (hrp : r ≠ p) (hm : ysi p = m) (hm1 : 1 ≤ m) (hn : ysi r = n) (hi : i < n) (hnm : n + (m - 1) ≤ 64)
    (K : ∀ bo' : Nat → Nat, (∀ j, j < i → bo' (r * 64 + j) = bo0 (r * 64 + j)) → (∀ k, k < m → bo' (r * 64 + i + k) = bo0 (p * 64 + k)) → (∀ j, i < j → j < n → bo' (r * 64 + j + (m - 1)) = bo0 (r * 64 + j)) → (∀ j, ¬ (r * 64 ≤ j ∧ j < r * 64 + 64) → bo' j = bo0 j) →
      post (nI yca, nI yal, nI yln, nI ycu, zn_A ysq, zn_A bo', zn_A (zn_u ysi r (n + (m - 1))), zn_A yor)) :
    ∀ (q k : Nat) (bo' : Nat → Nat), k = i + q → k < n → (∀ j, k < j → j < n → bo' (r * 64 + j + (m - 1)) = bo0 (r * 64 + j)) → (∀ j, ¬ (r * 64 + k + m ≤ j ∧ j < r * 64 + 64) → bo' j = bo0 j) →
      wY_putBody_20 post (nI r) (nI i) (nI p) (nI (m - 1)) (nI yca) (nI yal) (nI yln) (nI ycu) (q + 1) (nI k) (zn_A ysq) (zn_A bo') (zn_A ysi) (zn_A yor) := by
  intro q
  induction q with
  | zero =>
    intro k bo' hk hkn h1 h2
    have : k = i := by omega
    subst this
    rw [wY_putBody_20]
    refine br_t (nI_le (Nat.le_refl _) (by omega)) ⟨m + 1, ?_⟩
    refine zy_put2 (bo0 := bo') hr hp hrp hm hm1 (by omega) hn (by omega) ?_ m 0 bo' (by omega) (by intro k' h; omega) (fun _ _ => rfl)
    intro bo2 g1 g2
    refine K bo2 ?_ ?_ ?_ ?_
    · intro j hj
      rw [g2 _ (by omega), h2 _ (by omega)]
    · intro k' hk'
      rw [g1 k' hk', h2 _ (by omega)]
    · intro j hj hjn
      rw [g2 _ (by omega), h1 j hj hjn]
    · intro j hj
      rw [g2 _ (by omega), h2 _ (by omega)]
  | succ q ih =>
    intro k bo' hk hkn h1 h2
    rw [wY_putBody_20]
    refine br_f (nI_ge (by omega) (by omega)) ?_
    rw [zy_ix, nI_add]
    refine ⟨vp_in_nI (by omega) (by decide), vp_in_nI (by omega) (by decide), nm_r (e' := zn_A (zn_u bo' (r * 64 + k + (m - 1)) (bo' (r * 64 + k)))) ?_ (nm_r (e' := nI (k - 1)) ?_ ?_)⟩
    · rw [zn_rd (by omega), zn_up (by omega)]
    · obtain ⟨k', rfl⟩ : ∃ k', k = k' + 1 := ⟨k - 1, by omega⟩
      exact pk_m1 k'
    · refine ih (k - 1) _ (by omega) (by omega) ?_ ?_
      · intro j hj hjn
        by_cases c : j = k
        · rw [c, zn_us, h2 _ (by omega)]
        · rw [zn_un (by omega)]; exact h1 j (by omega) hjn
      · intro j hj
        rw [zn_un (by omega)]
        exact h2 j (by omega)
theorem zy_put {post : SY → Prop} {r p : Nat} {l1 l2 M : List Nat} {x : Nat} (hr : r < 33) (hp : p < 33) (hrp : r ≠ p) (hp1 : ysi p = M.length) (hp2 : zy_row ybo p M) (hM : M ≠ []) (hr1 : ysi r = (l1 ++ x :: l2).length) (hr2 : zy_row ybo r (l1 ++ x :: l2)) (hlen : (l1 ++ M ++ l2).length ≤ 64)
    (K : ∀ bo' : Nat → Nat, zy_row bo' r (l1 ++ M ++ l2) → (∀ j, ¬ (r * 64 ≤ j ∧ j < r * 64 + 64) → bo' j = ybo j) → post (nI yca, nI yal, nI yln, nI ycu, zn_A ysq, zn_A bo', zn_A (zn_u ysi r (l1 ++ M ++ l2).length), zn_A yor)) :
    wpY_putBody post (nI yca, nI yal, nI yln, nI ycu, zn_A ysq, zn_A ybo, zn_A ysi, zn_A yor) (nI r) (nI l1.length) (nI p) := by
  have hM1 := List.length_pos_iff.mpr hM
  have e1 : (l1 ++ x :: l2).length = l1.length + (l2.length + 1) := by rw [List.length_append, List.length_cons]
  have e2 : (l1 ++ M ++ l2).length = l1.length + M.length + l2.length := by rw [List.length_append, List.length_append]
  rw [e1] at hr1
  rw [e2] at hlen K
  unfold wpY_putBody
  refine ⟨vp_in_nI hp (by decide), nm_r (e' := nI (M.length - 1)) ?_ ⟨vp_in_nI hr (by decide), nm_r (e' := nI (l1.length + l2.length)) ?_ ⟨l2.length + 1, ?_⟩⟩⟩
  · rw [zn_rd (by omega), hp1, show (1 : Int32) = nI 1 from rfl, pk_sub (by omega)]
  · rw [zn_rd (by omega), hr1, show (1 : Int32) = nI 1 from rfl, pk_sub (by omega)]
    exact congrArg nI (by omega)
  · refine zy_put1 (bo0 := ybo) (n := l1.length + (l2.length + 1)) hr hp hrp hp1 hM1 hr1 (by omega) (by omega) ?_ l2.length (l1.length + l2.length) ybo rfl (by omega) (by intro j h1 h2; omega) (fun _ _ => rfl)
    intro bo' g1 g2 g3 g4
    rw [show l1.length + (l2.length + 1) + (M.length - 1) = l1.length + M.length + l2.length by omega]
    refine K bo' ?_ g4
    intro i id hi
    by_cases c1 : i < l1.length
    · rw [g1 i c1]
      apply hr2
      rw [List.append_assoc, List.getElem?_append_left c1] at hi
      rw [List.getElem?_append_left c1]; exact hi
    · by_cases c2 : i < l1.length + M.length
      · rw [List.getElem?_append_left (by rw [List.length_append]; omega), List.getElem?_append_right (by omega)] at hi
        have := g2 (i - l1.length) (by omega)
        rw [show r * 64 + l1.length + (i - l1.length) = r * 64 + i by omega] at this
        rw [this]
        exact hp2 _ _ hi
      · rw [List.getElem?_append_right (by rw [List.length_append]; omega), List.length_append] at hi
        obtain ⟨w, _⟩ := List.getElem?_eq_some_iff.mp hi
        have := g3 (i - M.length + 1) (by omega) (by omega)
        rw [show r * 64 + (i - M.length + 1) + (M.length - 1) = r * 64 + i by omega] at this
        rw [this]
        apply hr2
        rw [List.getElem?_append_right (by omega), show i - M.length + 1 - l1.length = (i - (l1.length + M.length)) + 1 by omega, List.getElem?_cons_succ]
        exact hi
/-! Y: dissolve -/
theorem zy_disI {post : SY → Prop} {J : Int32 → (Nat → Int32) → (Nat → Int32) → (Nat → Int32) → (Nat → Int32) → Prop} {p h r : Nat} (hp : p < 32) (hh : h < 48) (hr : r < 32) {G : Nat → List Nat} 
    (K : ∀ bo' : Nat → Nat, zy_R (zn_u G r ((G r).map (fun id => if id = 16 + p then h else id))) bo' ysi → J (nI (r + 1)) (zn_A ysq) (zn_A bo') (zn_A ysi) (zn_A yor)) :
    ∀ (t d : List Nat) (bo' : Nat → Nat), G r = d ++ t → zy_R (zn_u G r (d.map (fun id => if id = 16 + p then h else id) ++ t)) bo' ysi →
      wY_dissolve_21 post J (nI p) (nI (zy_cd h)) (nI r) (nI yca) (nI yal) (nI yln) (nI ycu) (t.length + 1) (nI d.length) (zn_A ysq) (zn_A bo') (zn_A ysi) (zn_A yor) := by
  intro t
  induction t with
  | nil =>
    intro d bo' e hR
    obtain ⟨h1, h2, h3, h4⟩ := hR r hr
    rw [zn_us] at h1 h2 h3 h4
    rw [List.append_nil] at e h1 h2 hR
    rw [List.length_map] at h1 h2
    rw [wY_dissolve_21]
    refine ⟨vp_in_nI (by omega) (by decide), ?_⟩
    rw [zn_rd (by omega), h1]
    refine br_t (nI_le (Nat.le_refl _) (by omega)) (nm_r (nI_1 r) (K bo' ?_))
    rw [e]; exact hR
  | cons x t ih =>
    intro d bo' e hR
    obtain ⟨h1, h2, h3, h4⟩ := hR r hr
    rw [zn_us] at h1 h2 h3 h4
    have hl : (d.map (fun id => if id = 16 + p then h else id) ++ x :: t).length = d.length + (t.length + 1) := by rw [List.length_append, List.length_map, List.length_cons]
    rw [hl] at h1 h2
    have hx := h3 x (by simp)
    have hxb := zy_cdb hx
    have hb := zy_rm h4
    rw [List.length_map] at hb
    show wY_dissolve_21 post J (nI p) (nI (zy_cd h)) (nI r) (nI yca) (nI yal) (nI yln) (nI ycu) ((t.length + 1) + 1) (nI d.length) (zn_A ysq) (zn_A bo') (zn_A ysi) (zn_A yor)
    rw [wY_dissolve_21]
    refine ⟨vp_in_nI (by omega) (by decide), ?_⟩
    rw [zn_rd (by omega), h1]
    refine br_f (nI_ge (by omega) (by omega)) ?_
    rw [zy_ix, zy_64]
    refine ⟨vp_in_nI (by omega) (by decide), ?_⟩
    rw [zn_rd (by omega), hb]
    have e2 : d.length + 1 = (d ++ [x]).length := by simp
    refine pk_eq (zy_cd x) (64 + p) (fun q => ⟨vp_in_nI (by omega) (by decide), nm_r (zn_up (by omega)) (nm_r (nI_1 _) ?_)⟩) (fun q => nm_r (nI_1 _) ?_)
    · rw [← zy_cdr, zy_cdi] at q
      rw [e2]
      refine ih (d ++ [x]) _ (by rw [e]; simp) ?_
      have w := zy_wr hR hr (d := d.map (fun id => if id = 16 + p then h else id)) (x := x) (t := t) (y := h) zn_us hh
      rw [zn_uu, List.length_map] at w
      rw [List.map_append, List.append_assoc]
      have : [x].map (fun id => if id = 16 + p then h else id) ++ t = h :: t := by simp [q]
      rw [this]; exact w
    · rw [← zy_cdr, Ne, zy_cdi] at q
      rw [e2]
      refine ih (d ++ [x]) _ (by rw [e]; simp) ?_
      rw [List.map_append, List.append_assoc]
      have : [x].map (fun id => if id = 16 + p then h else id) ++ t = x :: t := by simp [q]
      rw [this]; exact hR
theorem zy_disO {post : SY → Prop} {p h : Nat} (hp : p < 32) (hh : h < 48) {G : Nat → List Nat}
    (K : ∀ bo' : Nat → Nat, zy_R (fun q => (G q).map (fun id => if id = 16 + p then h else id)) bo' ysi → post (nI yca, nI yal, nI yln, nI ycu, zn_A ysq, zn_A bo', zn_A (zn_u ysi p 0), zn_A yor)) :
    ∀ (m r : Nat) (bo' : Nat → Nat), r + m = 32 → zy_R (fun q => if q < r then (G q).map (fun id => if id = 16 + p then h else id) else G q) bo' ysi →
      wY_dissolve_12 post (nI p) (nI (zy_cd h)) (nI yca) (nI yal) (nI yln) (nI ycu) (m + 1) (nI r) (zn_A ysq) (zn_A bo') (zn_A ysi) (zn_A yor) := by
  intro m
  induction m with
  | zero =>
    intro r bo' hr hR
    have : r = 32 := by omega
    subst this
    rw [wY_dissolve_12]
    refine br_t (show (31 : Int32) < nI 32 by decide) ⟨vp_in_nI (by omega) (by decide), nm_r (zn_up (v := 0) (by omega)) (K bo' (zy_Rc hR ?_))⟩
    intro q hq
    exact (if_pos hq).symm
  | succ m ih =>
    intro r bo' hr hR
    rw [wY_dissolve_12]
    refine br_f ?_ ⟨(G r).length + 1, ?_⟩
    · rw [show (31 : Int32) = nI 31 from rfl, nI_ltI (by omega) (by omega)]; omega
    · have e : (fun q => if q < r then (G q).map (fun id => if id = 16 + p then h else id) else G q) r = G r := if_neg (by omega)
      refine zy_disI (G := fun q => if q < r then (G q).map (fun id => if id = 16 + p then h else id) else G q) hp hh (by omega) ?_ (G r) [] bo' e ?_
      · intro bo2 hR2
        refine ih (r + 1) bo2 (by omega) (zy_Rc hR2 ?_)
        intro q hq
        show (if q < r + 1 then (G q).map (fun id => if id = 16 + p then h else id) else G q) = _
        by_cases c : q = r
        · rw [c, zn_us, if_pos (by omega), if_neg (by omega)]
        · rw [zn_un c]
          by_cases d : q < r
          · rw [if_pos d, if_pos (by omega)]
          · rw [if_neg d, if_neg (by omega)]
      · have : zn_u (fun q => if q < r then (G q).map (fun id => if id = 16 + p then h else id) else G q) r (([] : List Nat).map (fun id => if id = 16 + p then h else id) ++ G r) = (fun q => if q < r then (G q).map (fun id => if id = 16 + p then h else id) else G q) := by
          rw [List.map_nil, List.nil_append]
          funext q
          by_cases c : q = r
          · rw [c, zn_us, if_neg (by omega)]
          · rw [zn_un c]
        rw [this]; exact hR
theorem zy_dis {post : SY → Prop} {p : Nat} {G : Nat → List Nat} (hp : p < 32) (hl : (G p).length = 1) (hself : 16 + p ∉ G p) (h : zy_R G ybo ysi) (K : ∀ bo' : Nat → Nat, zy_R (zg_sb G p) bo' (zn_u ysi p 0) → post (nI yca, nI yal, nI yln, nI ycu, zn_A ysq, zn_A bo', zn_A (zn_u ysi p 0), zn_A yor)) : wpY_dissolve post (nI yca, nI yal, nI yln, nI ycu, zn_A ysq, zn_A ybo, zn_A ysi, zn_A yor) (nI p) := by
  match e : G p, hl with
  | [x], _ =>
    obtain ⟨h1, h2, h3, h4⟩ := h p hp
    rw [e] at h3 h4
    have hx : x < 48 := h3 x (by simp)
    have hb : ybo (p * 64) = zy_cd x := h4 0 x rfl
    unfold wpY_dissolve
    rw [show nI p * 64 = nI (p * 64) by rw [show (64 : Int32) = nI 64 from rfl, pk_mul]]
    refine ⟨vp_in_nI (by omega) (by decide), nm_r (e' := nI (zy_cd x)) (by rw [zn_rd (by omega), hb]) ⟨33, ?_⟩⟩
    refine zy_disO (G := G) hp hx ?_ 32 0 ybo (by omega) ?_
    · intro bo' hR
      refine K bo' ?_
      intro q hq
      by_cases c : q = p
      · rw [c, zg_sbp, zn_us]
        exact ⟨rfl, by simp, (by intro id hid; cases hid), (by intro i id hi; simp at hi)⟩
      · rw [zg_sbn c, zn_un c]
        have : (G q).flatMap (fun id => if id = 16 + p then G p else [id]) = (G q).map (fun id => if id = 16 + p then x else id) := by
          rw [← zg_fm1]
          apply zg_fmc
          intro y _
          by_cases d : y = 16 + p
          · rw [if_pos d, if_pos d, e]
          · rw [if_neg d, if_neg d]
        rw [this]
        exact hR q hq
    · have : (fun q => if q < 0 then (G q).map (fun id => if id = 16 + p then x else id) else G q) = G := by
        funext q
        rw [if_neg (by omega)]
      rw [this]; exact h
end
end
section
/-! Y: inline -/
theorem zg_u1 {G : Nat → List Nat} {k : Nat} (h : zg_u G k = 1) : ∃ g l1 l2, g < 32 ∧ G g = l1 ++ k :: l2 ∧ k ∉ l1 ∧ k ∉ l2 ∧ ∀ r, r < 32 → r ≠ g → k ∉ G r := by
  have ex : ∃ g, g < 32 ∧ (G g).count k ≠ 0 := by
    apply Classical.byContradiction
    intro hn
    have z : zg_u G k = zx_su (fun i => if i = 0 then 0 else 0) 32 := by
      unfold zg_u
      apply zx_suc
      intro i hi
      have : (G i).count k = 0 := Classical.byContradiction fun w => hn ⟨i, hi, w⟩
      rw [this]
      by_cases c : i = 0
      · rw [if_pos c]
      · rw [if_neg c]
    rw [zx_sui (k := 0) (v := 0) 32 (by omega)] at z
    omega
  obtain ⟨g, hg, hc⟩ := ex
  have hl := zx_sul (f := fun r => (G r).count k) 32 g hg
  have hl' : (G g).count k ≤ zg_u G k := hl
  have hm : k ∈ G g := Classical.byContradiction fun w => hc (List.count_eq_zero.mpr w)
  obtain ⟨l1, l2, e⟩ := List.append_of_mem hm
  have hcc : (G g).count k = l1.count k + (l2.count k + 1) := by rw [e, List.count_append, List.count_cons_self]
  refine ⟨g, l1, l2, hg, e, List.count_eq_zero.mp (by omega), List.count_eq_zero.mp (by omega), ?_⟩
  intro r hr hrg
  have t := zx_sul2 (f := fun r => (G r).count k) 32 r g hr hg hrg
  have t' : (G r).count k + (G g).count k ≤ zg_u G k := t
  exact List.count_eq_zero.mp (by omega)
section
variable {yca yal yln ycu : Nat} {ysq ybo ysi yor : Nat → Nat}
theorem zy_inS {post : SY → Prop} {J : Int32 → Prop} {G : Nat → List Nat} {p r : Nat} (hp : p < 32) (hr : r < 32) (h : zy_R G ybo ysi) (K : J (nI (r + 1))) :
    ∀ (t d : List Nat), G r = d ++ t → 16 + p ∉ t → wY_inline_10 post J (nI p) (nI r) (nI yca) (nI yal) (nI yln) (nI ycu) (zn_A ysq) (zn_A ybo) (zn_A ysi) (zn_A yor) (t.length + 1) (nI d.length) := by
  obtain ⟨h1, h2, h3, h4⟩ := h r hr
  intro t
  induction t with
  | nil =>
    intro d e _
    rw [List.append_nil] at e
    rw [wY_inline_10]
    refine ⟨vp_in_nI (by omega) (by decide), ?_⟩
    rw [zn_rd (by omega), h1, e]
    exact br_t (nI_le (Nat.le_refl _) (by rw [← e]; omega)) (nm_r (nI_1 r) K)
  | cons x t ih =>
    intro d e hn
    have hl : (G r).length = d.length + (t.length + 1) := by rw [e, List.length_append, List.length_cons]
    have hxb := zy_cdb (h3 x (by rw [e]; simp))
    have hb : ybo (r * 64 + d.length) = zy_cd x := by rw [e] at h4; exact zy_rm h4
    have hx : x ≠ 16 + p := fun z => hn (by rw [z]; simp)
    show wY_inline_10 post J (nI p) (nI r) (nI yca) (nI yal) (nI yln) (nI ycu) (zn_A ysq) (zn_A ybo) (zn_A ysi) (zn_A yor) ((t.length + 1) + 1) (nI d.length)
    rw [wY_inline_10]
    refine ⟨vp_in_nI (by omega) (by decide), ?_⟩
    rw [zn_rd (by omega), h1]
    refine br_f (nI_ge (by omega) (by omega)) ?_
    rw [zy_ix, zy_64]
    refine ⟨vp_in_nI (by omega) (by decide), ?_⟩
    rw [zn_rd (by omega), hb]
    refine pk_eq (zy_cd x) (64 + p) (fun q => ?_) (fun q => nm_r (nI_1 _) ?_)
    · rw [← zy_cdr, zy_cdi] at q; exact absurd q hx
    · rw [show d.length + 1 = (d ++ [x]).length by simp]
      exact ih (d ++ [x]) (by rw [e]; simp) (fun z => hn (List.mem_cons_of_mem _ z))
theorem zy_inF {post : SY → Prop} {J : Int32 → Prop} {G : Nat → List Nat} {p r : Nat} {l1 l2 : List Nat} (hp : p < 32) (hr : r < 32) (hrp : r ≠ p) (hGp : G p ≠ []) (h : zy_R G ybo ysi) (e0 : G r = l1 ++ (16 + p) :: l2) (hn : 16 + p ∉ l1) (hlen : (l1 ++ G p ++ l2).length ≤ 64)
    (K : ∀ bo' : Nat → Nat, zy_row bo' r (l1 ++ G p ++ l2) → (∀ j, ¬ (r * 64 ≤ j ∧ j < r * 64 + 64) → bo' j = ybo j) → post (nI yca, nI yal, nI yln, nI ycu, zn_A ysq, zn_A bo', zn_A (zn_u (zn_u ysi r (l1 ++ G p ++ l2).length) p 0), zn_A yor)) :
    ∀ (t d : List Nat), l1 = d ++ t → wY_inline_10 post J (nI p) (nI r) (nI yca) (nI yal) (nI yln) (nI ycu) (zn_A ysq) (zn_A ybo) (zn_A ysi) (zn_A yor) (t.length + 1) (nI d.length) := by
  obtain ⟨h1, h2, h3, h4⟩ := h r hr
  obtain ⟨p1, p2, p3, p4⟩ := h p hp
  intro t
  induction t with
  | nil =>
    intro d e
    rw [List.append_nil] at e
    subst e
    have hl : (G r).length = l1.length + (l2.length + 1) := by rw [e0, List.length_append, List.length_cons]
    have hb : ybo (r * 64 + l1.length) = zy_cd (16 + p) := by rw [e0] at h4; exact zy_rm h4
    rw [wY_inline_10]
    refine ⟨vp_in_nI (by omega) (by decide), ?_⟩
    rw [zn_rd (by omega), h1]
    refine br_f (nI_ge (by omega) (by omega)) ?_
    rw [zy_ix, zy_64]
    refine ⟨vp_in_nI (by omega) (by decide), ?_⟩
    rw [zn_rd (by omega), hb, zy_cdr]
    refine br_t rfl ?_
    rw [e0] at h1 h4
    refine zy_put (by omega) (by omega) hrp p1 p4 hGp h1 h4 hlen ?_
    intro bo' g1 g2
    exact ⟨vp_in_nI (by omega) (by decide), nm_r (zn_up (v := 0) (by omega)) (K bo' g1 g2)⟩
  | cons x t ih =>
    intro d e
    have hl : (G r).length = d.length + (t.length + 1) + (l2.length + 1) := by rw [e0, e]; simp; omega
    have e1 : G r = d ++ x :: (t ++ (16 + p) :: l2) := by rw [e0, e]; simp
    have hxb := zy_cdb (h3 x (by rw [e1]; simp))
    have hb : ybo (r * 64 + d.length) = zy_cd x := by rw [e1] at h4; exact zy_rm h4
    have hx : x ≠ 16 + p := fun z => hn (by rw [e, z]; simp)
    show wY_inline_10 post J (nI p) (nI r) (nI yca) (nI yal) (nI yln) (nI ycu) (zn_A ysq) (zn_A ybo) (zn_A ysi) (zn_A yor) ((t.length + 1) + 1) (nI d.length)
    rw [wY_inline_10]
    refine ⟨vp_in_nI (by omega) (by decide), ?_⟩
    rw [zn_rd (by omega), h1]
    refine br_f (nI_ge (by omega) (by omega)) ?_
    rw [zy_ix, zy_64]
    refine ⟨vp_in_nI (by omega) (by decide), ?_⟩
    rw [zn_rd (by omega), hb]
    refine pk_eq (zy_cd x) (64 + p) (fun q => ?_) (fun q => nm_r (nI_1 _) ?_)
    · rw [← zy_cdr, zy_cdi] at q; exact absurd q hx
    · rw [show d.length + 1 = (d ++ [x]).length by simp]
      exact ih (d ++ [x]) (by rw [e]; simp)
theorem zy_inO {post : SY → Prop} {G : Nat → List Nat} {p g : Nat} {l1 l2 : List Nat} (hp : p < 32) (hg : g < 32) (hgp : g ≠ p) (hGp : G p ≠ []) (h : zy_R G ybo ysi) (e0 : G g = l1 ++ (16 + p) :: l2) (hn : 16 + p ∉ l1) (hno : ∀ r, r < 32 → r ≠ g → 16 + p ∉ G r) (hlen : (l1 ++ G p ++ l2).length ≤ 64)
    (K : ∀ bo' : Nat → Nat, zy_row bo' g (l1 ++ G p ++ l2) → (∀ j, ¬ (g * 64 ≤ j ∧ j < g * 64 + 64) → bo' j = ybo j) → post (nI yca, nI yal, nI yln, nI ycu, zn_A ysq, zn_A bo', zn_A (zn_u (zn_u ysi g (l1 ++ G p ++ l2).length) p 0), zn_A yor)) :
    ∀ (m r : Nat), r + m = g → wY_inline_2 post (nI p) (nI yca) (nI yal) (nI yln) (nI ycu) (zn_A ysq) (zn_A ybo) (zn_A ysi) (zn_A yor) (m + 1) (nI r) := by
  intro m
  induction m with
  | zero =>
    intro r hr
    have : r = g := by omega
    subst this
    rw [wY_inline_2]
    refine br_f ?_ ⟨l1.length + 1, ?_⟩
    · rw [show (31 : Int32) = nI 31 from rfl, nI_ltI (by omega) (by omega)]; omega
    · exact zy_inF hp hg hgp hGp h e0 hn hlen K l1 [] rfl
  | succ m ih =>
    intro r hr
    rw [wY_inline_2]
    refine br_f ?_ ⟨(G r).length + 1, ?_⟩
    · rw [show (31 : Int32) = nI 31 from rfl, nI_ltI (by omega) (by omega)]; omega
    · exact zy_inS hp (by omega) h (ih (r + 1) (by omega)) (G r) [] rfl (hno r (by omega) (by omega))
theorem zy_inl {post : SY → Prop} {G : Nat → List Nat} {p : Nat} (hp : p < 32) (hGp : G p ≠ []) (hself : 16 + p ∉ G p) (hu : zg_u G (16 + p) = 1) (hs : zg_s G ≤ 64) (h : zy_R G ybo ysi)
    (K : ∀ bo' si' : Nat → Nat, zy_R (zg_sb G p) bo' si' → post (nI yca, nI yal, nI yln, nI ycu, zn_A ysq, zn_A bo', zn_A si', zn_A yor)) : wpY_inline post (nI yca, nI yal, nI yln, nI ycu, zn_A ysq, zn_A ybo, zn_A ysi, zn_A yor) (nI p) := by
  obtain ⟨g, l1, l2, hg, e0, n1, n2, hno⟩ := zg_u1 hu
  have hgp : g ≠ p := fun z => hself (by rw [← z, e0, z]; simp)
  have hlen : (l1 ++ G p ++ l2).length ≤ 64 := by
    have t := zx_sul2 (f := fun r => (G r).length) 32 g p hg hp hgp
    have t' : (G g).length + (G p).length ≤ zg_s G := t
    rw [e0] at t'
    simp only [List.length_append, List.length_cons] at t' ⊢
    omega
  have hsb : zg_sb G p g = l1 ++ G p ++ l2 := by
    have no : ∀ l : List Nat, 16 + p ∉ l → l.flatMap (fun id => if id = 16 + p then G p else [id]) = l := by
      intro l hl
      have : l.flatMap (fun id => if id = 16 + p then G p else [id]) = l.flatMap (fun v => [v]) := by
        apply zg_fmc
        intro x hx
        rw [if_neg (fun z : x = 16 + p => hl (z ▸ hx))]
      rw [this, zg_fm1 (f := fun v => v)]; simp
    rw [zg_sbn hgp, e0, List.flatMap_append, List.flatMap_cons, if_pos rfl, no l1 n1, no l2 n2, List.append_assoc]
  unfold wpY_inline
  refine ⟨g + 1, ?_⟩
  refine zy_inO hp hg hgp hGp h e0 n1 hno hlen ?_ g 0 (by omega)
  intro bo' g1 g2
  refine K bo' _ ?_
  intro q hq
  by_cases c : q = p
  · rw [c, zg_sbp, zn_us]
    exact ⟨rfl, by simp, (by intro id hid; cases hid), (by intro i id hi; simp at hi)⟩
  · rw [zn_un c]
    by_cases d : q = g
    · rw [d, hsb, zn_us]
      refine ⟨rfl, hlen, ?_, g1⟩
      intro id hid
      rcases List.mem_append.mp hid with z | z
      · rcases List.mem_append.mp z with z | z
        · exact (h g hg).2.2.1 id (by rw [e0]; simp [z])
        · exact (h p hp).2.2.1 id z
      · exact (h g hg).2.2.1 id (by rw [e0]; simp [z])
    · rw [zn_un d, zg_sbi c (hno q hq d)]
      obtain ⟨h1, h2, h3, h4⟩ := h q hq
      refine ⟨h1, h2, h3, zy_rf h4 ?_⟩
      intro i hi
      apply g2
      omega
/-! Y: standsApart -/
def zy_ap (G : Nat → List Nat) (a b r i : Nat) : Prop := ∃ q j, zg_pl G a b q j ∧ (q ≠ r ∨ i + 2 ≤ j ∨ j + 2 ≤ i)
theorem zy_saI {post : Int32 → Prop} {J : Int32 → Prop} {G : Nat → List Nat} {a b r i q : Nat} (ha : a < 48) (hb : b < 48) (hr : r < 32) (hi : i < 64) (hq : q < 32) (h : zy_R G ybo ysi) (h1 : zy_ap G a b r i → post 1)
    (h0 : (∀ j, zg_pl G a b q j → ¬ (q ≠ r ∨ i + 2 ≤ j ∨ j + 2 ≤ i)) → J (nI (q + 1))) :
    ∀ (m j : Nat), j + m = (G q).length → (∀ j', j' < j → zg_pl G a b q j' → ¬ (q ≠ r ∨ i + 2 ≤ j' ∨ j' + 2 ≤ i)) → wY_standsApart_40 post J (nI r) (nI i) (nI (zy_cd a)) (nI (zy_cd b)) (nI q) (nI yca) (nI yal) (nI yln) (nI ycu) (zn_A ysq) (zn_A ybo) (zn_A ysi) (zn_A yor) (m + 1) (nI j) := by
  obtain ⟨q1, q2, q3, q4⟩ := h q hq
  have ab := zy_cdb ha
  have bb := zy_cdb hb
  have fin : ∀ (n j : Nat), (G q).length ≤ j + 1 → j ≤ 64 → (∀ j', j' < j → zg_pl G a b q j' → ¬ (q ≠ r ∨ i + 2 ≤ j' ∨ j' + 2 ≤ i)) → wY_standsApart_40 post J (nI r) (nI i) (nI (zy_cd a)) (nI (zy_cd b)) (nI q) (nI yca) (nI yal) (nI yln) (nI ycu) (zn_A ysq) (zn_A ybo) (zn_A ysi) (zn_A yor) (n + 1) (nI j) := by
    intro n j hj hj2 hn
    rw [wY_standsApart_40]
    refine ⟨vp_in_nI (by omega) (by decide), ?_⟩
    rw [zn_rd (by omega), q1, nI_1]
    refine br_t (nI_le hj (by omega)) (nm_r (nI_1 q) (h0 ?_))
    intro j' p'
    refine hn j' ?_ p'
    obtain ⟨w, _⟩ := List.getElem?_eq_some_iff.mp p'.2.2
    omega
  intro m
  induction m with
  | zero =>
    intro j hj hn
    exact fin 0 j (by omega) (by omega) hn
  | succ m ih =>
    intro j hj hn
    by_cases c : (G q).length ≤ j + 1
    · exact fin (m + 1) j c (by omega) hn
    · have hl : j + 1 < (G q).length := by omega
      obtain ⟨x, hx⟩ : ∃ x, (G q)[j]? = some x := ⟨(G q)[j], List.getElem?_eq_getElem (by omega)⟩
      obtain ⟨y, hy⟩ : ∃ y, (G q)[j + 1]? = some y := ⟨(G q)[j + 1], List.getElem?_eq_getElem (by omega)⟩
      have bx := q4 j x hx
      have by' := q4 (j + 1) y hy
      have xb := zy_cdb (q3 x (List.mem_of_getElem? hx))
      have yb := zy_cdb (q3 y (List.mem_of_getElem? hy))
      have next : (zg_pl G a b q j → ¬ (q ≠ r ∨ i + 2 ≤ j ∨ j + 2 ≤ i)) → wY_standsApart_40 post J (nI r) (nI i) (nI (zy_cd a)) (nI (zy_cd b)) (nI q) (nI yca) (nI yal) (nI yln) (nI ycu) (zn_A ysq) (zn_A ybo) (zn_A ysi) (zn_A yor) (m + 1) (nI (j + 1)) := by
        intro hz
        refine ih (j + 1) (by omega) ?_
        intro j' hj' p'
        by_cases d : j' = j
        · rw [d] at p' ⊢; exact hz p'
        · exact hn j' (by omega) p'
      have k76 : (q ≠ r ∨ i + 2 ≤ j ∨ j + 2 ≤ i) → wY_standsApart_76 post J (wY_standsApart_40 post J (nI r) (nI i) (nI (zy_cd a)) (nI (zy_cd b)) (nI q) (nI yca) (nI yal) (nI yln) (nI ycu) (zn_A ysq) (zn_A ybo) (zn_A ysi) (zn_A yor) (m + 1)) (nI r) (nI i) (nI (zy_cd a)) (nI (zy_cd b)) (nI q) (nI j) (nI yca) (nI yal) (nI yln) (nI ycu) (zn_A ysq) (zn_A ybo) (zn_A ysi) (zn_A yor) := by
        intro hap
        unfold wY_standsApart_76 wY_standsApart_81
        rw [zy_ix, nI_1 (q * 64 + j)]
        refine br_f (by decide) ⟨vp_in_nI (by omega) (by decide), ?_⟩
        rw [zn_rd (by omega), bx]
        refine pk_eq (zy_cd x) (zy_cd a) (fun e1 => ⟨vp_in_nI (by omega) (by decide), ?_⟩) (fun e1 => nm_r (nI_1 j) (next ?_))
        · rw [zn_rd (by omega), show q * 64 + j + 1 = q * 64 + (j + 1) by omega, by']
          refine pk_eq (zy_cd y) (zy_cd b) (fun e2 => h1 ⟨q, j, ⟨hq, ?_, ?_⟩, hap⟩) (fun e2 => nm_r (nI_1 j) (next ?_))
          · rw [hx, zy_cdi.mp e1]
          · rw [hy, zy_cdi.mp e2]
          · intro p' _
            apply e2
            rw [zy_cdi]
            have := p'.2.2
            rw [hy] at this
            exact Option.some.inj this
        · intro p' _
          apply e1
          rw [zy_cdi]
          have := p'.2.1
          rw [hx] at this
          exact Option.some.inj this
      rw [wY_standsApart_40]
      refine ⟨vp_in_nI (by omega) (by decide), ?_⟩
      rw [zn_rd (by omega), q1, nI_1, show (nI i + 2) = nI (i + 2) from by rw [show (2 : Int32) = nI 2 from rfl, nI_add]]
      refine br_f (nI_ge (by omega) (by omega)) ?_
      refine pk_eq q r (fun c1 => ?_) (fun c1 => k76 (Or.inl c1))
      refine pk_le (i + 2) j (fun c2 => k76 (Or.inr (Or.inl c2))) (fun c2 => ?_)
      have key : nI i - 2 < nI j ↔ ¬ (j + 2 ≤ i) := by
        rw [Int32.lt_iff_toInt_lt, show (2 : Int32) = nI 2 from rfl, pk_sub_toInt (by omega) (by omega), nI_toInt (by omega)]
        omega
      refine br_c (fun c3 => ?_) (fun c3 => ?_)
      · unfold wY_standsApart_81
        refine br_t rfl (nm_r (nI_1 j) (next ?_))
        intro _ w
        rcases w with w | w | w
        · exact w c1
        · omega
        · exact key.mp c3 w
      · exact k76 (Or.inr (Or.inr (Classical.byContradiction fun w => c3 (key.mpr w))))
theorem zy_saO {post : Int32 → Prop} {G : Nat → List Nat} {a b r i : Nat} (ha : a < 48) (hb : b < 48) (hr : r < 32) (hi : i < 64) (h : zy_R G ybo ysi) (h1 : zy_ap G a b r i → post 1) (h0 : ¬ zy_ap G a b r i → post 0) :
    ∀ (m q : Nat), q + m = 32 → (∀ q' j, q' < q → zg_pl G a b q' j → ¬ (q' ≠ r ∨ i + 2 ≤ j ∨ j + 2 ≤ i)) → wY_standsApart_30 post (nI r) (nI i) (nI (zy_cd a)) (nI (zy_cd b)) (nI yca) (nI yal) (nI yln) (nI ycu) (zn_A ysq) (zn_A ybo) (zn_A ysi) (zn_A yor) (m + 1) (nI q) := by
  intro m
  induction m with
  | zero =>
    intro q hq hn
    have : q = 32 := by omega
    subst this
    rw [wY_standsApart_30]
    refine br_t (show (31 : Int32) < nI 32 by decide) (h0 ?_)
    rintro ⟨q, j, p', hap⟩
    exact hn q j p'.1 p' hap
  | succ m ih =>
    intro q hq hn
    rw [wY_standsApart_30]
    refine br_f ?_ ⟨(G q).length + 1, ?_⟩
    · rw [show (31 : Int32) = nI 31 from rfl, nI_ltI (by omega) (by omega)]; omega
    · refine zy_saI ha hb hr hi (by omega) h h1 (fun hz => ih (q + 1) (by omega) ?_) (G q).length 0 (by omega) (by intro j' hj'; omega)
      intro q' j hq' p'
      by_cases c : q' = q
      · rw [c] at p' ⊢; exact hz j p'
      · exact hn q' j (by omega) p'
theorem zy_sa {post : Int32 → Prop} {G : Nat → List Nat} {a b r i : Nat} (hp : zg_pl G a b r i) (h : zy_R G ybo ysi) (h1 : zy_ap G a b r i → post 1) (h0 : ¬ zy_ap G a b r i → post 0) : wpY_standsApart post (nI yca, nI yal, nI yln, nI ycu, zn_A ysq, zn_A ybo, zn_A ysi, zn_A yor) (nI r) (nI i) := by
  obtain ⟨q1, q2, q3, q4⟩ := h r hp.1
  obtain ⟨w, _⟩ := List.getElem?_eq_some_iff.mp hp.2.2
  unfold wpY_standsApart
  rw [zy_ix, nI_1]
  have hr := hp.1
  refine ⟨vp_in_nI (by omega) (by decide), nm_r (e' := nI (zy_cd a)) (by rw [zn_rd (by omega), q4 i a hp.2.1]) ⟨vp_in_nI (by omega) (by decide), nm_r (e' := nI (zy_cd b)) (by rw [zn_rd (by omega), show r * 64 + i + 1 = r * 64 + (i + 1) by omega, q4 (i + 1) b hp.2.2]) ⟨33, ?_⟩⟩⟩
  exact zy_saO (q3 a (List.mem_of_getElem? hp.2.1)) (q3 b (List.mem_of_getElem? hp.2.2)) hr (by omega) h h1 h0 32 0 (by omega) (by intro q' j hq'; omega)
end
end
section
/-! Y: replaceDigram -/
theorem zy_m1 {n : Nat} (h : n < 2 ^ 31) : ¬ nI n = (-1 : Int32) := by
  intro e
  have t := congrArg Int32.toInt e
  rw [nI_toInt h, show (-1 : Int32).toInt = -1 by decide] at t
  omega
theorem zy_sn {bo : Nat → Nat} {r x : Nat} {D : List Nat} (h : zy_row bo r D) : zy_row (zn_u bo (r * 64 + D.length) (zy_cd x)) r (D ++ [x]) := by
  intro i id hi
  by_cases c : i = D.length
  · rw [c, List.getElem?_append_right (Nat.le_refl _)] at hi
    have : x = id := by simpa using hi
    rw [c, zn_us, this]
  · obtain ⟨w, _⟩ := List.getElem?_eq_some_iff.mp hi
    rw [List.length_append] at w
    have w1 : [x].length = 1 := rfl
    rw [zn_un (by omega)]
    apply h
    rw [List.getElem?_append_left (by omega)] at hi
    exact hi
section
variable {yca yal yln ycu : Nat} {ysq ybo ysi yor : Nat → Nat}
theorem zy_gr {post : Int32 → SY → Prop} {J : Int32 → (Nat → Int32) → (Nat → Int32) → (Nat → Int32) → (Nat → Int32) → Prop} {a b n r old : Nat} {l : List Nat} {bo0 : Nat → Nat} (ha : a < 48) (hb : b < 48) (hn : n < 32) (hr : r < 32) (hold : old ≤ 64)
    (K : ∀ bo' : Nat → Nat, zy_row bo' r (zg_rp a b (16 + n) l) → (∀ j, ¬ (r * 64 ≤ j ∧ j < r * 64 + 64) → bo' j = bo0 j) → J (nI (r + 1)) (zn_A ysq) (zn_A bo') (zn_A (zn_u ysi r (zg_rp a b (16 + n) l).length)) (zn_A yor)) :
    ∀ (k : Nat) (t D : List Nat) (i : Nat) (bo' : Nat → Nat), t.length ≤ k → D ++ zg_rp a b (16 + n) t = zg_rp a b (16 + n) l → zy_row bo' r D → (∀ j id, t[j]? = some id → id < 48 ∧ bo' (r * 64 + i + j) = zy_cd id) → D.length ≤ i → i + t.length = old →
      (∀ j, ¬ (r * 64 ≤ j ∧ j < r * 64 + 64) → bo' j = bo0 j) →
      wY_replaceDigram_171 post J (nI (zy_cd a)) (nI (zy_cd b)) (nI n) (nI r) (nI old) (nI yca) (nI yal) (nI yln) (nI ycu) (k + 1) (nI D.length) (nI i) (zn_A ysq) (zn_A bo') (zn_A ysi) (zn_A yor) := by
  have ab := zy_cdb ha
  have bb := zy_cdb hb
  intro k
  induction k with
  | zero =>
    intro t D i bo' hk hD h1 h2 h3 h4 h5
    have : t = [] := List.length_eq_zero_iff.mp (by omega)
    subst this
    have e0 : D = zg_rp a b (16 + n) l := by rw [← hD]; show D = D ++ []; rw [List.append_nil]
    rw [wY_replaceDigram_171]
    have : i = old := by simpa using h4
    subst this
    refine br_t (nI_le (Nat.le_refl _) (by omega)) ⟨vp_in_nI (by omega) (by decide), nm_r (zn_up (by omega)) (nm_r (nI_1 r) ?_)⟩
    rw [e0]
    exact K bo' (e0 ▸ h1) h5
  | succ k ih =>
    intro t D i bo' hk hD h1 h2 h3 h4 h5
    -- one cell is written
    have wr : ∀ (v i' : Nat) (t' : List Nat), i < i' → i' ≤ 64 → t'.length ≤ k → D ++ [v] ++ zg_rp a b (16 + n) t' = zg_rp a b (16 + n) l → (∀ j id, t'[j]? = some id → id < 48 ∧ bo' (r * 64 + i' + j) = zy_cd id) → i' + t'.length = old →
        wY_replaceDigram_236 post J (wY_replaceDigram_171 post J (nI (zy_cd a)) (nI (zy_cd b)) (nI n) (nI r) (nI old) (nI yca) (nI yal) (nI yln) (nI ycu) (k + 1)) (nI (zy_cd a)) (nI (zy_cd b)) (nI n) (nI r) (nI old) (nI D.length) (nI (i' - 1)) (nI (zy_cd v)) (nI yca) (nI yal) (nI yln) (nI ycu) (zn_A ysq) (zn_A bo') (zn_A ysi) (zn_A yor) := by
      intro v i' t' q1 q2 q3 q4 q5 q6
      unfold wY_replaceDigram_236
      rw [zy_ix]
      refine ⟨vp_in_nI (by omega) (by decide), nm_r (zn_up (by omega)) (nm_r (nI_1 _) (nm_r (nI_1 _) ?_))⟩
      have e1 : D.length + 1 = (D ++ [v]).length := by simp
      rw [e1, show i' - 1 + 1 = i' by omega]
      refine ih t' (D ++ [v]) i' _ q3 q4 (zy_sn h1) ?_ (by rw [← e1]; omega) q6 ?_
      · intro j id hj
        obtain ⟨w1, w2⟩ := q5 j id hj
        exact ⟨w1, by rw [zn_un (by omega)]; exact w2⟩
      · intro j hj
        rw [zn_un (by omega)]
        exact h5 j hj
    rw [wY_replaceDigram_171]
    match t, hk, hD, h2, h4 with
    | [], _, hD, _, h4 =>
      have e0 : D = zg_rp a b (16 + n) l := by rw [← hD]; show D = D ++ []; rw [List.append_nil]
      have : i = old := by simpa using h4
      subst this
      refine br_t (nI_le (Nat.le_refl _) (by omega)) ⟨vp_in_nI (by omega) (by decide), nm_r (zn_up (by omega)) (nm_r (nI_1 r) ?_)⟩
      rw [e0]
      exact K bo' (e0 ▸ h1) h5
    | [x], _, hD, h2, h4 =>
      obtain ⟨x48, hx⟩ := h2 0 x rfl
      simp only [List.length_cons, List.length_nil] at h4
      refine br_f (nI_ge (by omega) (by omega)) ?_
      rw [zy_ix]
      refine ⟨vp_in_nI (by omega) (by decide), nm_r (e' := nI (zy_cd x)) (by rw [zn_rd (by omega)]; exact congrArg nI hx) ?_⟩
      rw [nI_1 i]
      refine br_t (nI_le (by omega) (by omega)) ?_
      have w := wr x (i + 1) [] (by omega) (by omega) (by simp) (by rw [← hD]; simp [zg_rp]) (by intro j id hj; simp at hj) (by simpa using h4)
      rw [show i + 1 - 1 = i by omega] at w
      exact w
    | x :: y :: t, hk, hD, h2, h4 =>
      obtain ⟨x48, hx⟩ := h2 0 x rfl
      obtain ⟨y48, hy⟩ := h2 1 y rfl
      have xb := zy_cdb x48
      have yb := zy_cdb y48
      simp only [List.length_cons] at h4 hk
      have nomatch_ : ¬ (x = a ∧ y = b) → wY_replaceDigram_236 post J (wY_replaceDigram_171 post J (nI (zy_cd a)) (nI (zy_cd b)) (nI n) (nI r) (nI old) (nI yca) (nI yal) (nI yln) (nI ycu) (k + 1)) (nI (zy_cd a)) (nI (zy_cd b)) (nI n) (nI r) (nI old) (nI D.length) (nI i) (nI (zy_cd x)) (nI yca) (nI yal) (nI yln) (nI ycu) (zn_A ysq) (zn_A bo') (zn_A ysi) (zn_A yor) := by
        intro c
        have w := wr x (i + 1) (y :: t) (by omega) (by omega) (by simp only [List.length_cons]; omega) (by rw [← hD, zg_rp2, if_neg c]; simp) (by
          intro j id hj
          have := h2 (j + 1) id (by simpa using hj)
          rw [show r * 64 + i + (j + 1) = r * 64 + (i + 1) + j by omega] at this
          exact this) (by simp only [List.length_cons]; omega)
        rw [show i + 1 - 1 = i by omega] at w
        exact w
      refine br_f (nI_ge (by omega) (by omega)) ?_
      rw [zy_ix]
      refine ⟨vp_in_nI (by omega) (by decide), nm_r (e' := nI (zy_cd x)) (by rw [zn_rd (by omega)]; exact congrArg nI hx) ?_⟩
      rw [nI_1 i]
      refine br_f (nI_ge (by omega) (by omega)) ?_
      refine pk_eq (zy_cd x) (zy_cd a) (fun c1 => ?_) (fun c1 => nomatch_ fun z => c1 (by rw [z.1]))
      rw [nI_1 (r * 64 + i)]
      refine ⟨vp_in_nI (by omega) (by decide), ?_⟩
      rw [zn_rd (by omega)]
      rw [show bo' (r * 64 + i + 1) = zy_cd y from hy]
      refine pk_eq (zy_cd y) (zy_cd b) (fun c2 => nm_r zy_64 (nm_e ?_)) (fun c2 => nomatch_ fun z => c2 (by rw [z.2]))
      rw [← zy_cdr]
      have w := wr (16 + n) (i + 2) t (by omega) (by omega) (by omega) (by rw [← hD, zg_rp2, if_pos ⟨zy_cdi.mp c1, zy_cdi.mp c2⟩]; simp) (by
        intro j id hj
        have := h2 (j + 2) id (by simpa using hj)
        rw [show r * 64 + i + (j + 2) = r * 64 + (i + 2) + j by omega] at this
        exact this) (by omega)
      rw [show i + 2 - 1 = i + 1 by omega] at w
      exact w
theorem zy_143 {post : Int32 → SY → Prop} {a b n : Nat} {G : Nat → List Nat} (ha : a < 48) (hb : b < 48) (hn : n < 32) (hG : G n = [a, b])
    (K : ∀ bo' si' : Nat → Nat, zy_R (zg_fo G a b n) bo' si' → post 1 (nI yca, nI yal, nI yln, nI ycu, zn_A ysq, zn_A bo', zn_A si', zn_A yor)) :
    ∀ (m r : Nat) (bo' si' : Nat → Nat), r + m = 32 → zy_R (fun q => if q < r then zg_fo G a b n q else G q) bo' si' →
      wY_replaceDigram_143 post (nI (zy_cd a)) (nI (zy_cd b)) (nI n) (nI yca) (nI yal) (nI yln) (nI ycu) (m + 1) (nI r) (zn_A ysq) (zn_A bo') (zn_A si') (zn_A yor) := by
  intro m
  induction m with
  | zero =>
    intro r bo' si' hr hR
    have : r = 32 := by omega
    subst this
    rw [wY_replaceDigram_143]
    exact br_t (show (31 : Int32) < nI 32 by decide) (K bo' si' (zy_Rc hR fun q hq => (if_pos hq).symm))
  | succ m ih =>
    intro r bo' si' hr hR
    rw [wY_replaceDigram_143]
    refine br_f ?_ ?_
    · rw [show (31 : Int32) = nI 31 from rfl, nI_ltI (by omega) (by omega)]; omega
    refine pk_eq r n (fun c => nm_r (nI_1 r) (ih (r + 1) _ _ (by omega) (zy_Rc hR ?_))) (fun c => ⟨vp_in_nI (by omega) (by decide), ?_⟩)
    · intro q hq
      show (if q < r + 1 then zg_fo G a b n q else G q) = if q < r then zg_fo G a b n q else G q
      by_cases d : q = r
      · rw [if_pos (by omega), if_neg (by omega), d, c, zg_fop, hG]
      · by_cases e : q < r
        · rw [if_pos e, if_pos (by omega)]
        · rw [if_neg e, if_neg (by omega)]
    · have hq := hR r (by omega)
      have er : (if r < r then zg_fo G a b n r else G r) = G r := if_neg (by omega)
      rw [show (fun q => if q < r then zg_fo G a b n q else G q) r = G r from er] at hq
      obtain ⟨h1, h2, h3, h4⟩ := hq
      refine nm_r (e' := nI (G r).length) (by rw [zn_rd (by omega), h1]) ⟨(G r).length + 1, ?_⟩
      refine zy_gr (ysi := si') (l := G r) (bo0 := bo') ha hb hn (by omega) h2 ?_ (G r).length (G r) [] 0 bo' (Nat.le_refl _) rfl (by intro i id hi; simp at hi) ?_ (Nat.le_refl _) (by simp) (fun _ _ => rfl)
      · intro bo2 g1 g2
        refine ih (r + 1) _ _ (by omega) ?_
        intro q hq
        show zn_u si' r _ q = (if q < r + 1 then zg_fo G a b n q else G q).length ∧ (if q < r + 1 then zg_fo G a b n q else G q).length ≤ 64 ∧ (∀ id ∈ (if q < r + 1 then zg_fo G a b n q else G q), id < 48) ∧ zy_row bo2 q (if q < r + 1 then zg_fo G a b n q else G q)
        by_cases d : q = r
        · rw [if_pos (by omega), d, zg_fon c, zn_us]
          refine ⟨rfl, Nat.le_trans (zg_n0 _) h2, ?_, g1⟩
          intro id hid
          rcases zg_rps _ hid with z | z
          · exact h3 id z
          · omega
        · have hq2 : si' q = (if q < r then zg_fo G a b n q else G q).length ∧ (if q < r then zg_fo G a b n q else G q).length ≤ 64 ∧ (∀ id ∈ (if q < r then zg_fo G a b n q else G q), id < 48) ∧ zy_row bo' q (if q < r then zg_fo G a b n q else G q) := hR q hq
          have e2 : (if q < r + 1 then zg_fo G a b n q else G q) = (if q < r then zg_fo G a b n q else G q) := by
            by_cases e : q < r
            · rw [if_pos e, if_pos (by omega)]
            · rw [if_neg e, if_neg (by omega)]
          rw [e2, zn_un d]
          refine ⟨hq2.1, hq2.2.1, hq2.2.2.1, zy_rf hq2.2.2.2 ?_⟩
          intro i hi
          apply g2
          have := hq2.2.1
          omega
      · intro j id hj
        refine ⟨h3 id (List.mem_of_getElem? hj), ?_⟩
        exact h4 j id hj
theorem zy_133 {post : Int32 → SY → Prop} {a b n : Nat} {G : Nat → List Nat} (ha : a < 48) (hb : b < 48) (hn : n < 32) (hG : G n = [a, b]) (h : zy_R G ybo ysi)
    (K : ∀ bo' si' : Nat → Nat, zy_R (zg_fo G a b n) bo' si' → post 1 (nI yca, nI yal, nI yln, nI ycu, zn_A ysq, zn_A bo', zn_A si', zn_A yor)) : wY_replaceDigram_133 post (nI (zy_cd a)) (nI (zy_cd b)) (nI n) (nI yca) (nI yal) (nI yln) (nI ycu) (zn_A ysq) (zn_A ybo) (zn_A ysi) (zn_A yor) := by
  unfold wY_replaceDigram_133
  refine br_f (zy_m1 (by omega)) ⟨33, ?_⟩
  exact zy_143 ha hb hn hG K 32 0 ybo ysi (by omega) (zy_Rc h fun q _ => if_neg (by omega))
/-- the search for a free number -/
theorem zy_70 {post : Int32 → SY → Prop} {a b : Nat} {G : Nat → List Nat} (ha : a < 48) (hb : b < 48) (h : zy_R G ybo ysi) (K0 : (∀ m, 0 < m → m < 32 → G m ≠ []) → post 0 (nI yca, nI yal, nI yln, nI ycu, zn_A ysq, zn_A ybo, zn_A ysi, zn_A yor))
    (K1 : ∀ n, zg_FR G n → ∀ bo' si' : Nat → Nat, zy_R (zg_fo G a b n) bo' si' → post 1 (nI yca, nI yal, nI yln, nI ycu, zn_A ysq, zn_A bo', zn_A si', zn_A yor)) :
    ∀ (m r : Nat), 0 < r → r + m = 32 → (∀ q, 0 < q → q < r → G q ≠ []) → wY_replaceDigram_70 post (nI (zy_cd a)) (nI (zy_cd b)) (nI yca) (nI yal) (nI yln) (nI ycu) (m + 1) (-1) (nI r) (zn_A ysq) (zn_A ybo) (zn_A ysi) (zn_A yor) := by
  intro m
  induction m with
  | zero =>
    intro r h0 hr hn
    have : r = 32 := by omega
    subst this
    rw [wY_replaceDigram_70]
    refine br_t (show (31 : Int32) < nI 32 by decide) ?_
    unfold wY_replaceDigram_133
    exact br_t rfl (K0 hn)
  | succ m ih =>
    intro r h0 hr hn
    obtain ⟨h1, h2, h3, h4⟩ := h r (by omega)
    rw [wY_replaceDigram_70]
    refine br_f ?_ (br_t rfl ⟨vp_in_nI (by omega) (by decide), ?_⟩)
    · rw [show (31 : Int32) = nI 31 from rfl, nI_ltI (by omega) (by omega)]; omega
    rw [zn_rd (by omega), h1, show nI r * 64 = nI (r * 64) by rw [show (64 : Int32) = nI 64 from rfl, pk_mul], nI_1 (r * 64), nI_1 r]
    refine pk_eq (G r).length 0 (fun c => ⟨vp_in_nI (by omega) (by decide), nm_r (zn_up (v := 2) (by omega)) ⟨vp_in_nI (by omega) (by decide), nm_r (zn_up (by omega)) ⟨vp_in_nI (by omega) (by decide), nm_r (zn_up (by omega)) (nm_e ?_)⟩⟩⟩) (fun c => nm_e (ih (r + 1) (by omega) (by omega) ?_))
    · have hGr : G r = [] := List.length_eq_zero_iff.mp c
      have hFR : zg_FR G r := ⟨h0, by omega, hGr, hn⟩
      have hR2 : zy_R (zn_u G r [a, b]) (zn_u (zn_u ybo (r * 64) (zy_cd a)) (r * 64 + 1) (zy_cd b)) (zn_u ysi r 2) := by
        intro q hq
        by_cases d : q = r
        · rw [d, zn_us, zn_us]
          refine ⟨rfl, by simp, ?_, ?_⟩
          · intro id hid
            have : id = a ∨ id = b := by simpa using hid
            rcases this with z | z <;> omega
          · intro i id hi
            match i, hi with
            | 0, hi =>
              have : a = id := by simpa using hi
              rw [zn_un (by omega), Nat.add_zero, zn_us, this]
            | 1, hi =>
              have : b = id := by simpa using hi
              rw [zn_us, this]
            | i + 2, hi => simp at hi
        · rw [zn_un d, zn_un d]
          obtain ⟨g1, g2, g3, g4⟩ := h q hq
          refine ⟨g1, g2, g3, zy_rf g4 ?_⟩
          intro i hi
          rw [zn_un (by omega), zn_un (by omega)]
      have hfo : ∀ q, q < 32 → zg_fo G a b r q = zg_fo (zn_u G r [a, b]) a b r q := by
        intro q _
        by_cases d : q = r
        · rw [d, zg_fop, zg_fop]
        · rw [zg_fon d, zg_fon d, zn_un d]
      have fin := zy_133 (post := post) (yca := yca) (yal := yal) (yln := yln) (ycu := ycu) (ysq := ysq) (yor := yor) ha hb (show r < 32 by omega) zn_us hR2 (fun bo' si' hR3 => K1 r hFR bo' si' (zy_Rc hR3 hfo))
      rw [wY_replaceDigram_70]
      exact br_c (fun _ => fin) (fun _ => br_f (zy_m1 (by omega)) fin)
    · intro q q0 qr
      by_cases d : q = r
      · rw [d]; intro z; rw [z] at c; exact c rfl
      · exact hn q q0 (by omega)
/-- the search for a rule with this body -/
theorem zy_5 {post : Int32 → SY → Prop} {a b : Nat} {G : Nat → List Nat} (ha : a < 48) (hb : b < 48) (h : zy_R G ybo ysi)
    (K0 : (∀ m, 0 < m → m < 32 → G m ≠ [a, b]) → ∃ n70, wY_replaceDigram_70 post (nI (zy_cd a)) (nI (zy_cd b)) (nI yca) (nI yal) (nI yln) (nI ycu) n70 (-1) 1 (zn_A ysq) (zn_A ybo) (zn_A ysi) (zn_A yor))
    (K1 : ∀ n, zg_BD G a b n → ∃ n70, wY_replaceDigram_70 post (nI (zy_cd a)) (nI (zy_cd b)) (nI yca) (nI yal) (nI yln) (nI ycu) n70 (nI n) 1 (zn_A ysq) (zn_A ybo) (zn_A ysi) (zn_A yor)) :
    ∀ (m r : Nat), 0 < r → r + m = 32 → (∀ q, 0 < q → q < r → G q ≠ [a, b]) → wY_replaceDigram_5 post (nI (zy_cd a)) (nI (zy_cd b)) (nI yca) (nI yal) (nI yln) (nI ycu) (zn_A ysq) (zn_A ybo) (zn_A ysi) (zn_A yor) (m + 2) (-1) (nI r) := by
  have ab := zy_cdb ha
  have bb := zy_cdb hb
  intro m
  induction m with
  | zero =>
    intro r h0 hr hn
    have : r = 32 := by omega
    subst this
    rw [wY_replaceDigram_5]
    exact br_t (show (31 : Int32) < nI 32 by decide) (K0 hn)
  | succ m ih =>
    intro r h0 hr hn
    obtain ⟨h1, h2, h3, h4⟩ := h r (by omega)
    have next : G r ≠ [a, b] → wY_replaceDigram_5 post (nI (zy_cd a)) (nI (zy_cd b)) (nI yca) (nI yal) (nI yln) (nI ycu) (zn_A ysq) (zn_A ybo) (zn_A ysi) (zn_A yor) (m + 2) (-1) (nI (r + 1)) := by
      intro c
      refine ih (r + 1) (by omega) (by omega) ?_
      intro q q0 qr
      by_cases d : q = r
      · rw [d]; exact c
      · exact hn q q0 (by omega)
    rw [wY_replaceDigram_5]
    refine br_f ?_ (br_t rfl ⟨vp_in_nI (by omega) (by decide), ?_⟩)
    · rw [show (31 : Int32) = nI 31 from rfl, nI_ltI (by omega) (by omega)]; omega
    rw [zn_rd (by omega), h1, show nI r * 64 = nI (r * 64) by rw [show (64 : Int32) = nI 64 from rfl, pk_mul], nI_1 (r * 64), nI_1 r]
    refine pk_eq (G r).length 2 (fun c => ⟨vp_in_nI (by omega) (by decide), ?_⟩) (fun c => nm_e (next fun z => c (by rw [z]; rfl)))
    match e : G r, c with
    | [x, y], _ =>
      rw [e] at h3 h4 next
      have hx : ybo (r * 64) = zy_cd x := h4 0 x rfl
      have hy : ybo (r * 64 + 1) = zy_cd y := h4 1 y rfl
      have xb := zy_cdb (h3 x (by simp))
      have yb := zy_cdb (h3 y (by simp))
      rw [zn_rd (by omega), hx]
      refine pk_eq (zy_cd x) (zy_cd a) (fun c1 => ⟨vp_in_nI (by omega) (by decide), ?_⟩) (fun c1 => nm_e (next fun z => c1 (by rw [(List.cons.inj z).1])))
      rw [zn_rd (by omega), hy]
      refine pk_eq (zy_cd y) (zy_cd b) (fun c2 => nm_e ?_) (fun c2 => nm_e (next fun z => c2 (by rw [(List.cons.inj (List.cons.inj z).2).1])))
      have hBD : zg_BD G a b r := ⟨h0, by omega, by rw [e, zy_cdi.mp c1, zy_cdi.mp c2], hn⟩
      rw [wY_replaceDigram_5]
      exact br_c (fun _ => K1 r hBD) (fun _ => br_f (zy_m1 (by omega)) (K1 r hBD))
theorem zy_repl {post : Int32 → SY → Prop} {a b : Nat} {G : Nat → List Nat} (ha : a < 48) (hb : b < 48) (h : zy_R G ybo ysi)
    (K0 : (∀ m, 0 < m → m < 32 → G m ≠ [a, b]) → (∀ m, 0 < m → m < 32 → G m ≠ []) → post 0 (nI yca, nI yal, nI yln, nI ycu, zn_A ysq, zn_A ybo, zn_A ysi, zn_A yor))
    (K1 : ∀ n, zg_BD G a b n ∨ ((∀ m, 0 < m → m < 32 → G m ≠ [a, b]) ∧ zg_FR G n) → ∀ bo' si' : Nat → Nat, zy_R (zg_fo G a b n) bo' si' → post 1 (nI yca, nI yal, nI yln, nI ycu, zn_A ysq, zn_A bo', zn_A si', zn_A yor)) :
    wpY_replaceDigram post (nI yca, nI yal, nI yln, nI ycu, zn_A ysq, zn_A ybo, zn_A ysi, zn_A yor) (nI (zy_cd a)) (nI (zy_cd b)) := by
  unfold wpY_replaceDigram
  refine ⟨33, ?_⟩
  refine zy_5 ha hb h (fun hno => ⟨32, ?_⟩) (fun n hBD => ⟨1, ?_⟩) 31 1 (by omega) (by omega) (by intro q h0 h1; omega)
  · exact zy_70 ha hb h (K0 hno) (fun n hF => K1 n (Or.inr ⟨hno, hF⟩)) 31 1 (by omega) (by omega) (by intro q h0 h1; omega)
  · rw [wY_replaceDigram_70]
    have hn := hBD.2.1
    exact br_f (by decide) (br_f (zy_m1 (by omega)) (zy_133 ha hb hn hBD.2.2.1 h (K1 n (Or.inl hBD))))
end
end
section
/-! Y: step -/
def zy_B (G : Nat → List Nat) (Sc : Nat → Nat → Prop) (x1 x2 : Int32) : Prop :=
  (x1 = -1 ∧ x2 = -1 ∧ ∀ r i a b, Sc r i → zg_pl G a b r i → ¬ zy_ap G a b r i) ∨
  (∃ a b, a < 48 ∧ b < 48 ∧ x1 = nI (zy_cd a) ∧ x2 = nI (zy_cd b) ∧ zg_R2 G a b ∧ ∀ r i a' b', Sc r i → zg_pl G a' b' r i → zy_ap G a' b' r i → a < a' ∨ (a = a' ∧ b ≤ b'))
theorem zy_Bm {G : Nat → List Nat} {Sc Sc' : Nat → Nat → Prop} {x1 x2 : Int32} (h : zy_B G Sc x1 x2) (e : ∀ r i a b, zg_pl G a b r i → Sc' r i → Sc r i) : zy_B G Sc' x1 x2 := by
  rcases h with ⟨h1, h2, h3⟩ | ⟨a, b, ha, hb, h1, h2, h3, h4⟩
  · exact Or.inl ⟨h1, h2, fun r i a b hs hp => h3 r i a b (e r i a b hp hs) hp⟩
  · exact Or.inr ⟨a, b, ha, hb, h1, h2, h3, fun r i a' b' hs hp => h4 r i a' b' (e r i a' b' hp hs) hp⟩
/-- one place more: it isn't a better one -/
theorem zy_Bk {G : Nat → List Nat} {Sc Sc' : Nat → Nat → Prop} {x1 x2 : Int32} {r i a b : Nat} (h : zy_B G Sc x1 x2) (hp : zg_pl G a b r i) (e : ∀ r' i', Sc' r' i' → Sc r' i' ∨ (r' = r ∧ i' = i))
    (hk : ¬ zy_ap G a b r i ∨ ∃ a0 b0, x1 = nI (zy_cd a0) ∧ x2 = nI (zy_cd b0) ∧ a0 < 48 ∧ b0 < 48 ∧ (a0 < a ∨ (a0 = a ∧ b0 ≤ b))) : zy_B G Sc' x1 x2 := by
  have same : ∀ a' b', zg_pl G a' b' r i → a' = a ∧ b' = b := by
    intro a' b' q
    have q1 := q.2.1
    have q2 := q.2.2
    rw [hp.2.1] at q1
    rw [hp.2.2] at q2
    exact ⟨(Option.some.inj q1).symm, (Option.some.inj q2).symm⟩
  rcases h with ⟨h1, h2, h3⟩ | ⟨a1, b1, ha, hb, h1, h2, h3, h4⟩
  · left
    refine ⟨h1, h2, ?_⟩
    intro r' i' a' b' hs hp'
    rcases e r' i' hs with w | w
    · exact h3 r' i' a' b' w hp'
    · rw [w.1, w.2] at hp' ⊢
      obtain ⟨e1, e2⟩ := same a' b' hp'
      rw [e1, e2]
      rcases hk with q | ⟨a0, b0, q1, _, q3, _⟩
      · exact q
      · rw [h1] at q1
        exact absurd q1.symm (zy_m1 (Nat.lt_trans (zy_cdb q3) (by decide)))
  · right
    refine ⟨a1, b1, ha, hb, h1, h2, h3, ?_⟩
    intro r' i' a' b' hs hp' hap
    rcases e r' i' hs with w | w
    · exact h4 r' i' a' b' w hp' hap
    · rw [w.1, w.2] at hp' hap
      obtain ⟨e1, e2⟩ := same a' b' hp'
      rw [e1, e2] at hap ⊢
      rcases hk with q | ⟨a0, b0, q1, q2, q3, q4, q5⟩
      · exact absurd hap q
      · have ab := zy_cdb ha
        have bb := zy_cdb hb
        have ab0 := zy_cdb q3
        have bb0 := zy_cdb q4
        rw [h1, nI_eq (by omega) (by omega), zy_cdi] at q1
        rw [h2, nI_eq (by omega) (by omega), zy_cdi] at q2
        rw [q1, q2]; exact q5
/-- a better one -/
theorem zy_Bn {G : Nat → List Nat} {Sc Sc' : Nat → Nat → Prop} {x1 x2 : Int32} {r i a b : Nat} (h : zy_B G Sc x1 x2) (hp : zg_pl G a b r i) (ha : a < 48) (hb : b < 48) (hap : zy_ap G a b r i) (e : ∀ r' i', Sc' r' i' → Sc r' i' ∨ (r' = r ∧ i' = i))
    (hk : x1 = -1 ∨ ∀ a0 b0, a0 < 48 → b0 < 48 → x1 = nI (zy_cd a0) → x2 = nI (zy_cd b0) → a < a0 ∨ (a = a0 ∧ b < b0)) : zy_B G Sc' (nI (zy_cd a)) (nI (zy_cd b)) := by
  have same : ∀ a' b', zg_pl G a' b' r i → a' = a ∧ b' = b := by
    intro a' b' q
    have q1 := q.2.1
    have q2 := q.2.2
    rw [hp.2.1] at q1
    rw [hp.2.2] at q2
    exact ⟨(Option.some.inj q1).symm, (Option.some.inj q2).symm⟩
  right
  refine ⟨a, b, ha, hb, rfl, rfl, ?_, ?_⟩
  · obtain ⟨q, j, p', w⟩ := hap
    exact ⟨r, i, q, j, hp, p', w⟩
  · intro r' i' a' b' hs hp' hap'
    rcases e r' i' hs with w | w
    · rcases h with ⟨h1, h2, h3⟩ | ⟨a1, b1, ha1, hb1, h1, h2, h3, h4⟩
      · exact absurd hap' (h3 r' i' a' b' w hp')
      · have := h4 r' i' a' b' w hp' hap'
        rcases hk with q | q
        · rw [h1] at q
          exact absurd q (zy_m1 (Nat.lt_trans (zy_cdb ha1) (by decide)))
        · have := q a1 b1 ha1 hb1 h1 h2
          omega
    · rw [w.1, w.2] at hp'
      obtain ⟨e1, e2⟩ := same a' b' hp'
      omega
section
variable {yca yal yln ycu : Nat} {ysq ybo ysi yor : Nat → Nat}
theorem zy_85 {post : Int32 → SY → Prop} {J : Int32 → Int32 → Int32 → Prop} {G : Nat → List Nat} {r : Nat} (hr : r < 32) (h : zy_R G ybo ysi)
    (K : ∀ x1 x2, zy_B G (fun r' _ => r' < r + 1) x1 x2 → J x1 x2 (nI (r + 1))) :
    ∀ (m j : Nat) (x1 x2 : Int32), j + m = (G r).length → zy_B G (fun r' i' => r' < r ∨ (r' = r ∧ i' < j)) x1 x2 → wY_step_85 post J (nI r) (nI yca) (nI yal) (nI yln) (nI ycu) (zn_A ysq) (zn_A ybo) (zn_A ysi) (zn_A yor) (m + 1) x1 x2 (nI j) := by
  obtain ⟨q1, q2, q3, q4⟩ := h r hr
  have fin : ∀ (n j : Nat) (x1 x2 : Int32), (G r).length ≤ j + 1 → j ≤ 64 → zy_B G (fun r' i' => r' < r ∨ (r' = r ∧ i' < j)) x1 x2 → wY_step_85 post J (nI r) (nI yca) (nI yal) (nI yln) (nI ycu) (zn_A ysq) (zn_A ybo) (zn_A ysi) (zn_A yor) (n + 1) x1 x2 (nI j) := by
    intro n j x1 x2 hj hj2 hB
    rw [wY_step_85]
    refine ⟨vp_in_nI (by omega) (by decide), ?_⟩
    rw [zn_rd (by omega), q1, nI_1 j]
    refine br_t (nI_le hj (by omega)) (nm_r (nI_1 r) (K _ _ (zy_Bm hB ?_)))
    intro r' i' a b hp hs
    by_cases c : r' = r
    · right
      refine ⟨c, ?_⟩
      obtain ⟨w, _⟩ := List.getElem?_eq_some_iff.mp hp.2.2
      rw [c] at w
      omega
    · left; omega
  intro m
  induction m with
  | zero =>
    intro j x1 x2 hj hB
    exact fin 0 j x1 x2 (by omega) (by omega) hB
  | succ m ih =>
    intro j x1 x2 hj hB
    by_cases c : (G r).length ≤ j + 1
    · exact fin (m + 1) j x1 x2 c (by omega) hB
    · obtain ⟨x, hx⟩ : ∃ x, (G r)[j]? = some x := ⟨(G r)[j], List.getElem?_eq_getElem (by omega)⟩
      obtain ⟨y, hy⟩ : ∃ y, (G r)[j + 1]? = some y := ⟨(G r)[j + 1], List.getElem?_eq_getElem (by omega)⟩
      have hp : zg_pl G x y r j := ⟨hr, hx, hy⟩
      have bx := q4 j x hx
      have by' := q4 (j + 1) y hy
      have x48 := q3 x (List.mem_of_getElem? hx)
      have y48 := q3 y (List.mem_of_getElem? hy)
      have xb := zy_cdb x48
      have yb := zy_cdb y48
      have hsc : ∀ r' i', (r' < r ∨ (r' = r ∧ i' < j + 1)) → ((r' < r ∨ (r' = r ∧ i' < j)) ∨ (r' = r ∧ i' = j)) := by intro r' i' z; omega
      have keep : (¬ zy_ap G x y r j ∨ ∃ a0 b0, x1 = nI (zy_cd a0) ∧ x2 = nI (zy_cd b0) ∧ a0 < 48 ∧ b0 < 48 ∧ (a0 < x ∨ (a0 = x ∧ b0 ≤ y))) → wY_step_85 post J (nI r) (nI yca) (nI yal) (nI yln) (nI ycu) (zn_A ysq) (zn_A ybo) (zn_A ysi) (zn_A yor) (m + 1) x1 x2 (nI (j + 1)) :=
        fun hk => ih (j + 1) x1 x2 (by omega) (zy_Bk hB hp hsc hk)
      have k151 : (x1 = -1 ∨ ∀ a0 b0, a0 < 48 → b0 < 48 → x1 = nI (zy_cd a0) → x2 = nI (zy_cd b0) → x < a0 ∨ (x = a0 ∧ y < b0)) →
          wY_step_151 post J (wY_step_85 post J (nI r) (nI yca) (nI yal) (nI yln) (nI ycu) (zn_A ysq) (zn_A ybo) (zn_A ysi) (zn_A yor) (m + 1)) x1 x2 (nI r) (nI j) (nI (zy_cd x)) (nI (zy_cd y)) (nI yca) (nI yal) (nI yln) (nI ycu) (zn_A ysq) (zn_A ybo) (zn_A ysi) (zn_A yor) := by
        intro hk
        unfold wY_step_151 wY_step_156
        refine br_f (by decide) ?_
        refine zy_sa hp h (fun hap => ?_) (fun hap => ?_)
        · exact br_f (by decide) (nm_r (nI_1 j) (ih (j + 1) _ _ (by omega) (zy_Bn hB hp x48 y48 hap hsc hk)))
        · exact br_t rfl (nm_r (nI_1 j) (keep (Or.inl hap)))
      have k155 : (∃ a0 b0, x1 = nI (zy_cd a0) ∧ x2 = nI (zy_cd b0) ∧ a0 < 48 ∧ b0 < 48 ∧ (a0 < x ∨ (a0 = x ∧ b0 ≤ y))) →
          wY_step_155 post J (wY_step_85 post J (nI r) (nI yca) (nI yal) (nI yln) (nI ycu) (zn_A ysq) (zn_A ybo) (zn_A ysi) (zn_A yor) (m + 1)) x1 x2 (nI r) (nI j) (nI (zy_cd x)) (nI (zy_cd y)) (nI yca) (nI yal) (nI yln) (nI ycu) (zn_A ysq) (zn_A ybo) (zn_A ysi) (zn_A yor) := by
        intro hk
        unfold wY_step_155 wY_step_156
        exact br_t rfl (nm_r (nI_1 j) (keep (Or.inr hk)))
      rw [wY_step_85]
      refine ⟨vp_in_nI (by omega) (by decide), ?_⟩
      rw [zn_rd (by omega), q1, nI_1 j, zy_ix, nI_1 (r * 64 + j)]
      refine br_f (nI_ge (by omega) (by omega)) ⟨vp_in_nI (by omega) (by decide), nm_r (e' := nI (zy_cd x)) (by rw [zn_rd (by omega), bx]) ⟨vp_in_nI (by omega) (by decide), nm_r (e' := nI (zy_cd y)) (by rw [zn_rd (by omega), show r * 64 + j + 1 = r * 64 + (j + 1) by omega, by']) ?_⟩⟩
      rcases hB with ⟨h1, h2, h3⟩ | ⟨a1, b1, ha1, hb1, h1, h2, h3, h4⟩
      · exact br_t h1 (k151 (Or.inl h1))
      · have ab := zy_cdb ha1
        have bb := zy_cdb hb1
        have uq : ∀ a0 b0, a0 < 48 → b0 < 48 → x1 = nI (zy_cd a0) → x2 = nI (zy_cd b0) → a0 = a1 ∧ b0 = b1 := by
          intro a0 b0 w1 w2 w3 w4
          have t1 := zy_cdb w1
          have t2 := zy_cdb w2
          rw [h1, nI_eq (by omega) (by omega), zy_cdi] at w3
          rw [h2, nI_eq (by omega) (by omega), zy_cdi] at w4
          exact ⟨w3.symm, w4.symm⟩
        refine br_f (by rw [h1]; exact zy_m1 (by omega)) ?_
        refine pk_lt (zy_cd x) (zy_cd a1) (hy := h1) (fun c1 => k151 (Or.inr ?_)) (fun c1 => ?_)
        · rw [zy_cdl] at c1
          intro a0 b0 w1 w2 w3 w4
          obtain ⟨e1, e2⟩ := uq a0 b0 w1 w2 w3 w4
          rw [e1, e2]; exact Or.inl c1
        · have c1' : ¬ x < a1 := fun z => absurd (zy_cdl.mpr z) (by omega)
          refine pk_eq (zy_cd x) (zy_cd a1) (hy := h1) (fun c2 => ?_) (fun c2 => k155 ⟨a1, b1, h1, h2, ha1, hb1, Or.inl ?_⟩)
          · rw [zy_cdi] at c2
            refine pk_le (zy_cd b1) (zy_cd y) (hx := h2) (fun c3 => k155 ⟨a1, b1, h1, h2, ha1, hb1, Or.inr ⟨c2.symm, ?_⟩⟩) (fun c3 => k151 (Or.inr ?_))
            · have : ¬ y < b1 := fun z => absurd (zy_cdl.mpr z) (by omega)
              omega
            · rw [zy_cdl] at c3
              intro a0 b0 w1 w2 w3 w4
              obtain ⟨e1, e2⟩ := uq a0 b0 w1 w2 w3 w4
              rw [e1, e2]; exact Or.inr ⟨c2, c3⟩
          · have : ¬ x = a1 := fun z => c2 (by rw [z])
            omega
theorem zy_76 {post : Int32 → SY → Prop} {G : Nat → List Nat} (h : zy_R G ybo ysi) (K0 : (∀ a b, ¬ zg_R2 G a b) → post 0 (nI yca, nI yal, nI yln, nI ycu, zn_A ysq, zn_A ybo, zn_A ysi, zn_A yor)) (K1 : ∀ a b, zg_LR G a b → (∀ m, 0 < m → m < 32 → G m ≠ [a, b]) → (∀ m, 0 < m → m < 32 → G m ≠ []) → post 0 (nI yca, nI yal, nI yln, nI ycu, zn_A ysq, zn_A ybo, zn_A ysi, zn_A yor))
    (K2 : ∀ a b n, zg_LR G a b → zg_BD G a b n ∨ ((∀ m, 0 < m → m < 32 → G m ≠ [a, b]) ∧ zg_FR G n) → ∀ bo' si' : Nat → Nat, zy_R (zg_fo G a b n) bo' si' → post 1 (nI yca, nI yal, nI yln, nI ycu, zn_A ysq, zn_A bo', zn_A si', zn_A yor)) :
    ∀ (m r : Nat) (x1 x2 : Int32), r + m = 32 → zy_B G (fun r' _ => r' < r) x1 x2 → wY_step_76 post (nI yca) (nI yal) (nI yln) (nI ycu) (zn_A ysq) (zn_A ybo) (zn_A ysi) (zn_A yor) (m + 1) x1 x2 (nI r) := by
  intro m
  induction m with
  | zero =>
    intro r x1 x2 hr hB
    have : r = 32 := by omega
    subst this
    rw [wY_step_76]
    refine br_t (show (31 : Int32) < nI 32 by decide) ?_
    rcases hB with ⟨h1, h2, h3⟩ | ⟨a1, b1, ha1, hb1, h1, h2, h3, h4⟩
    · refine br_t h1 (K0 ?_)
      rintro a b ⟨r, i, q, j, p1, p2, hap⟩
      exact h3 r i a b p1.1 p1 ⟨q, j, p2, hap⟩
    · have ab := zy_cdb ha1
      refine br_f (by rw [h1]; exact zy_m1 (by omega)) ?_
      rw [h1, h2]
      have hLR : zg_LR G a1 b1 := by
        refine ⟨h3, ?_⟩
        rintro a b ⟨r, i, q, j, p1, p2, hap⟩
        exact h4 r i a b p1.1 p1 ⟨q, j, p2, hap⟩
      exact zy_repl ha1 hb1 h (fun q1 q2 => ⟨narrow_b0, K1 a1 b1 hLR q1 q2⟩) (fun n hn bo' si' hR => ⟨narrow_b1, K2 a1 b1 n hLR hn bo' si' hR⟩)
  | succ m ih =>
    intro r x1 x2 hr hB
    rw [wY_step_76]
    refine br_f ?_ ⟨(G r).length + 1, ?_⟩
    · rw [show (31 : Int32) = nI 31 from rfl, nI_ltI (by omega) (by omega)]; omega
    · refine zy_85 (by omega) h (fun y1 y2 hB2 => ih (r + 1) y1 y2 (by omega) hB2) (G r).length 0 x1 x2 (by omega) (zy_Bm hB ?_)
      intro r' i' a b _ hs
      omega
/-- the whole step, by the cases of the grammar -/
def zy_sh (G : Nat → List Nat) (p : Nat) : Prop := 0 < p ∧ p < 32 ∧ (G p).length = 1
def zy_ln (G : Nat → List Nat) (p : Nat) : Prop := 0 < p ∧ p < 32 ∧ G p ≠ [] ∧ zg_u G (16 + p) = 1
theorem zy_33 {post : Int32 → SY → Prop} {G : Nat → List Nat} (h : zy_R G ybo ysi) (hs : zg_s G ≤ 64) (hself : ∀ p, p < 32 → 16 + p ∉ G p)
    (KL : ∀ p, zy_ln G p → (∀ q, q < p → ¬ zy_ln G q) → ∀ bo' si' : Nat → Nat, zy_R (zg_sb G p) bo' si' → post 1 (nI yca, nI yal, nI yln, nI ycu, zn_A ysq, zn_A bo', zn_A si', zn_A yor))
    (KN : (∀ q, ¬ zy_ln G q) → ∃ n76, wY_step_76 post (nI yca) (nI yal) (nI yln) (nI ycu) (zn_A ysq) (zn_A ybo) (zn_A ysi) (zn_A yor) n76 (-1) (-1) 0) :
    ∀ (m r : Nat), 0 < r → r + m = 32 → (∀ q, q < r → ¬ zy_ln G q) → wY_step_33 post (nI yca) (nI yal) (nI yln) (nI ycu) (zn_A ysq) (zn_A ybo) (zn_A ysi) (zn_A yor) (m + 1) (nI r) := by
  intro m
  induction m with
  | zero =>
    intro r _ hr hn
    have : r = 32 := by omega
    subst this
    rw [wY_step_33]
    exact br_t (show (31 : Int32) < nI 32 by decide) (KN fun q z => hn q z.2.1 z)
  | succ m ih =>
    intro r h0 hr hn
    obtain ⟨h1, h2, h3, h4⟩ := h r (by omega)
    have hub : zg_u G (16 + r) ≤ 64 := by
      have : zg_u G (16 + r) ≤ zg_s G := by
        unfold zg_u zg_s
        have : ∀ n, zx_su (fun q => (G q).count (16 + r)) n ≤ zx_su (fun q => (G q).length) n := by
          intro n
          induction n with
          | zero => exact Nat.le_refl _
          | succ n ih =>
            show _ + _ ≤ _ + _
            have : (G n).count (16 + r) ≤ (G n).length := List.count_le_length
            exact Nat.add_le_add ih this
        exact this 32
      omega
    have next : ¬ zy_ln G r → wY_step_33 post (nI yca) (nI yal) (nI yln) (nI ycu) (zn_A ysq) (zn_A ybo) (zn_A ysi) (zn_A yor) (m + 1) (nI (r + 1)) := by
      intro c
      refine ih (r + 1) (by omega) (by omega) ?_
      intro q hq z
      by_cases d : q = r
      · rw [d] at z; exact c z
      · exact hn q (by omega) z
    rw [wY_step_33]
    refine br_f ?_ ⟨vp_in_nI (by omega) (by decide), ?_⟩
    · rw [show (31 : Int32) = nI 31 from rfl, nI_ltI (by omega) (by omega)]; omega
    rw [zn_rd (by omega), h1]
    refine pk_le (G r).length 0 (fun c => nm_r (nI_1 r) (next fun z => z.2.2.1 (List.length_eq_zero_iff.mp (by omega)))) (fun c => ?_)
    have hne : G r ≠ [] := List.length_pos_iff.mp c
    refine zy_uses (by omega) h ?_
    refine pk_eq (zg_u G (16 + r)) 1 (fun c2 => ?_) (fun c2 => nm_r (nI_1 r) (next fun z => c2 z.2.2.2))
    exact zy_inl (by omega) hne (hself r (by omega)) c2 hs h (fun bo' si' hR => KL r ⟨h0, by omega, hne, c2⟩ hn bo' si' hR)
theorem zy_step {post : Int32 → SY → Prop} {G : Nat → List Nat} (h : zy_R G ybo ysi) (hs : zg_s G ≤ 64) (hself : ∀ p, p < 32 → 16 + p ∉ G p)
    (KS : ∀ p, zy_sh G p → (∀ q, q < p → ¬ zy_sh G q) → ∀ bo' si' : Nat → Nat, zy_R (zg_sb G p) bo' si' → post 1 (nI yca, nI yal, nI yln, nI ycu, zn_A ysq, zn_A bo', zn_A si', zn_A yor))
    (KL : (∀ q, ¬ zy_sh G q) → ∀ p, zy_ln G p → (∀ q, q < p → ¬ zy_ln G q) → ∀ bo' si' : Nat → Nat, zy_R (zg_sb G p) bo' si' → post 1 (nI yca, nI yal, nI yln, nI ycu, zn_A ysq, zn_A bo', zn_A si', zn_A yor))
    (K0 : (∀ q, ¬ zy_sh G q) → (∀ q, ¬ zy_ln G q) → (∀ a b, ¬ zg_R2 G a b) → post 0 (nI yca, nI yal, nI yln, nI ycu, zn_A ysq, zn_A ybo, zn_A ysi, zn_A yor))
    (K1 : (∀ q, ¬ zy_sh G q) → (∀ q, ¬ zy_ln G q) → ∀ a b, zg_LR G a b → (∀ m, 0 < m → m < 32 → G m ≠ [a, b]) → (∀ m, 0 < m → m < 32 → G m ≠ []) → post 0 (nI yca, nI yal, nI yln, nI ycu, zn_A ysq, zn_A ybo, zn_A ysi, zn_A yor))
    (K2 : (∀ q, ¬ zy_sh G q) → (∀ q, ¬ zy_ln G q) → ∀ a b n, zg_LR G a b → zg_BD G a b n ∨ ((∀ m, 0 < m → m < 32 → G m ≠ [a, b]) ∧ zg_FR G n) → ∀ bo' si' : Nat → Nat, zy_R (zg_fo G a b n) bo' si' → post 1 (nI yca, nI yal, nI yln, nI ycu, zn_A ysq, zn_A bo', zn_A si', zn_A yor)) :
    wpY_step post (nI yca, nI yal, nI yln, nI ycu, zn_A ysq, zn_A ybo, zn_A ysi, zn_A yor) := by
  have loop : ∀ (m r : Nat), 0 < r → r + m = 32 → (∀ q, q < r → ¬ zy_sh G q) → wY_step_2 post (nI yca) (nI yal) (nI yln) (nI ycu) (zn_A ysq) (zn_A ybo) (zn_A ysi) (zn_A yor) (m + 1) (nI r) := by
    intro m
    induction m with
    | zero =>
      intro r _ hr hn
      have : r = 32 := by omega
      subst this
      have hns : ∀ q, ¬ zy_sh G q := fun q z => hn q z.2.1 z
      rw [wY_step_2]
      refine br_t (show (31 : Int32) < nI 32 by decide) ⟨32, ?_⟩
      refine zy_33 h hs hself (KL hns) (fun hnl => ⟨33, ?_⟩) 31 1 (by omega) (by omega) (by intro q hq z; have := z.1; omega)
      exact zy_76 h (K0 hns hnl) (K1 hns hnl) (K2 hns hnl) 32 0 _ _ (by omega) (Or.inl ⟨rfl, rfl, by intro r i a b hs; omega⟩)
    | succ m ih =>
      intro r h0 hr hn
      obtain ⟨h1, h2, h3, h4⟩ := h r (by omega)
      rw [wY_step_2]
      refine br_f ?_ ⟨vp_in_nI (by omega) (by decide), ?_⟩
      · rw [show (31 : Int32) = nI 31 from rfl, nI_ltI (by omega) (by omega)]; omega
      rw [zn_rd (by omega), h1]
      refine pk_eq (G r).length 1 (fun c => ?_) (fun c => nm_r (nI_1 r) (ih (r + 1) (by omega) (by omega) ?_))
      · exact zy_dis (by omega) c (hself r (by omega)) h (fun bo' hR => KS r ⟨h0, by omega, c⟩ hn bo' _ hR)
      · intro q hq z
        by_cases d : q = r
        · rw [d] at z; exact c z.2.2
        · exact hn q (by omega) z
  unfold wpY_step
  exact ⟨32, loop 31 1 (by omega) (by omega) (by intro q hq z; have := z.1; omega)⟩
end
end
section
/-! ===== X's symbol lists as sums over the bodies ===== -/
def zl_sm (g : Nat → Nat) : List Nat → Nat
  | [] => 0
  | x :: t => g x + zl_sm g t
theorem zl_smp {g : Nat → Nat} {L M : List Nat} (h : L.Perm M) : zl_sm g L = zl_sm g M := by
  induction h with
  | nil => rfl
  | cons x _ ih => show g x + _ = g x + _; rw [ih]
  | swap x y l => show g y + (g x + zl_sm g l) = g x + (g y + zl_sm g l); omega
  | trans _ _ h1 h2 => rw [h1, h2]
theorem zl_sma {g : Nat → Nat} : ∀ (l m : List Nat), zl_sm g (l ++ m) = zl_sm g l + zl_sm g m
  | [], m => by show zl_sm g m = 0 + zl_sm g m; omega
  | x :: t, m => by
    show g x + zl_sm g (t ++ m) = g x + zl_sm g t + zl_sm g m
    rw [zl_sma t m]; omega
theorem zl_sm1 : ∀ (l : List Nat), zl_sm (fun _ => 1) l = l.length
  | [] => rfl
  | x :: t => by show 1 + zl_sm _ t = _; rw [zl_sm1 t, List.length_cons]; omega
def zx_M (B : Nat → List Nat) (f : Nat → Bool) : Nat → List Nat
  | 0 => []
  | n + 1 => zx_M B f n ++ (B n).filter f
theorem zx_Mm {B : Nat → List Nat} {f : Nat → Bool} {x : Nat} : ∀ (n : Nat), x ∈ zx_M B f n ↔ ∃ r, r < n ∧ x ∈ B r ∧ f x = true
  | 0 => ⟨fun h => (by cases h), fun ⟨r, h, _⟩ => absurd h (by omega)⟩
  | n + 1 => by
    show x ∈ zx_M B f n ++ (B n).filter f ↔ _
    rw [List.mem_append, zx_Mm n, List.mem_filter]
    constructor
    · rintro (⟨r, h1, h2⟩ | h)
      · exact ⟨r, by omega, h2⟩
      · exact ⟨n, by omega, h⟩
    · rintro ⟨r, h1, h2⟩
      by_cases c : r = n
      · exact Or.inr (c ▸ h2)
      · exact Or.inl ⟨r, by omega, h2⟩
theorem zx_Mn {B : Nat → List Nat} {f : Nat → Bool} {ow : Nat → Nat} (hn : ∀ r, r < 32 → (B r).Nodup) (ho : ∀ r, r < 32 → ∀ x ∈ B r, ow x = r) : ∀ (n : Nat), n ≤ 32 → (zx_M B f n).Nodup
  | 0, _ => List.nodup_nil
  | n + 1, h => by
    show (zx_M B f n ++ (B n).filter f).Nodup
    rw [List.nodup_append]
    refine ⟨zx_Mn hn ho n (by omega), List.Nodup.sublist List.filter_sublist (hn n (by omega)), ?_⟩
    intro a ha b hb e
    obtain ⟨r, h1, h2, _⟩ := (zx_Mm n).mp ha
    have q1 := ho r (by omega) a h2
    have q2 := ho n (by omega) b (List.mem_filter.mp hb).1
    rw [e] at q1
    omega
theorem zx_Ms {g sy ow : Nat → Nat} {k r : Nat} : ∀ (l : List Nat), (∀ x ∈ l, ow x = r) → zl_sm (fun x => g (ow x)) (l.filter (fun x => sy x == k)) = g r * (l.map sy).count k
  | [], _ => by simp [zl_sm]
  | x :: t, h => by
    have ih := zx_Ms (g := g) (sy := sy) (k := k) t (fun y hy => h y (List.mem_cons_of_mem _ hy))
    by_cases c : sy x = k
    · rw [List.filter_cons_of_pos (by simp [c]), List.map_cons, c, List.count_cons_self]
      show g (ow x) + _ = _
      rw [ih, h x List.mem_cons_self, Nat.mul_add]; omega
    · rw [List.filter_cons_of_neg (by simp [c]), List.map_cons, List.count_cons_of_ne c]
      exact ih
theorem zx_MS {B : Nat → List Nat} {g sy ow : Nat → Nat} {k : Nat} (ho : ∀ r, r < 32 → ∀ x ∈ B r, ow x = r) : ∀ (n : Nat), n ≤ 32 → zl_sm (fun x => g (ow x)) (zx_M B (fun x => sy x == k) n) = zx_su (fun r => g r * ((B r).map sy).count k) n
  | 0, _ => rfl
  | n + 1, h => by
    show zl_sm _ (zx_M B _ n ++ (B n).filter _) = zx_su _ n + g n * ((B n).map sy).count k
    rw [zl_sma, zx_MS ho n (by omega), zx_Ms (r := n) (B n) (ho n (by omega))]
theorem zx_ws {B G : Nat → List Nat} {F : List Nat} {fn st : Nat} {lo rT : Int64} {na nb sy ow bl sh sc sn sv dh dc dn dv : Nat → Nat} {rR : Nat → Int64} (hX : zx_XC B F fn st lo na nb sy ow bl sh sc sn sv dh dc dn dv rR rT) (hG : ∀ r, r < 32 → G r = (B r).map sy) {k : Nat} (hk : k < 48) {L : Nat → List Nat}
    (hF : zl_FM sh sc sn sv 48 L) (hm : ∀ k, k < 48 → ∀ x, x ∈ L k ↔ (zx_U B x ∧ sy x = k)) (g : Nat → Nat) : zl_sm (fun x => g (ow x)) (L k) = zx_su (fun r => g r * (G r).count k) 32 := by
  have hS := hX.1
  have ho : ∀ r, r < 32 → ∀ x ∈ B r, ow x = r := fun r hr x hx => ((hS.1 r hr).2.2.1 x hx).2.2
  have hn : ∀ r, r < 32 → (B r).Nodup := fun r hr => (hS.1 r hr).2.1
  obtain ⟨_, _, _, e4, _⟩ := hF.1 k hk
  have pm : (L k).Perm (zx_M B (fun x => sy x == k) 32) := by
    apply (List.perm_ext_iff_of_nodup e4 (zx_Mn hn ho 32 (Nat.le_refl _))).mpr
    intro x
    rw [hm k hk x, zx_Mm]
    constructor
    · rintro ⟨⟨r, hr, hx⟩, hs⟩
      exact ⟨r, hr, hx, by simp [hs]⟩
    · rintro ⟨r, hr, hx, hs⟩
      exact ⟨⟨r, hr, hx⟩, by simpa using hs⟩
  rw [zl_smp pm, zx_MS ho 32 (Nat.le_refl _)]
  apply zx_suc
  intro i hi
  rw [hG i hi]
theorem zx_cnt {B G : Nat → List Nat} {F : List Nat} {fn st : Nat} {lo rT : Int64} {na nb sy ow bl sh sc sn sv dh dc dn dv : Nat → Nat} {rR : Nat → Int64} (hX : zx_XC B F fn st lo na nb sy ow bl sh sc sn sv dh dc dn dv rR rT) (hG : ∀ r, r < 32 → G r = (B r).map sy) {k : Nat} (hk : k < 48) : sc k = zg_u G k := by
  obtain ⟨L, hF, hm, _, _⟩ := hX.2.2.1
  have t := zx_ws hX hG hk hF hm (fun _ => 1)
  rw [zl_sm1] at t
  rw [(hF.1 k hk).2.1, t]
  unfold zg_u
  apply zx_suc
  intro i _
  rw [Nat.one_mul]
/-- st is the sum of the bodies -/
theorem zx_st {B G : Nat → List Nat} {F : List Nat} {fn st : Nat} {na nb ow bl sy : Nat → Nat} (hS : zx_ST na nb ow bl fn st B F) (hG : ∀ r, r < 32 → G r = (B r).map sy) : st = zg_s G := by
  rw [hS.2.2.2.2.2.1]
  unfold zg_s
  apply zx_suc
  intro i hi
  rw [hG i hi, List.length_map]
/-! ===== spans, first and last terminals ===== -/
def zx_SP (G W : Nat → List Nat) (sp fT lT : Nat → Nat) : Prop := ∀ id, zg_id G id → sp id = (zg_w W id).length ∧ fT id = (zg_w W id).headD 0 ∧ lT id = (zg_w W id).getLastD 0
theorem zx_SPs {G W : Nat → List Nat} {sp fT lT : Nat → Nat} {p : Nat} (h : zx_SP G W sp fT lT) (hG : G p ≠ []) : zx_SP (zg_sb G p) (zn_u W p []) sp fT lT := by
  intro id hid
  have key : zg_id G id ∧ id ≠ 16 + p := by
    rcases hid with z | z
    · exact ⟨Or.inl z, by omega⟩
    · have c : id ≠ 16 + p := by
        intro w
        rw [w, show 16 + p - 16 = p by omega, zg_sbp] at z
        exact z.2.2 rfl
      exact ⟨Or.inr ⟨z.1, z.2.1, fun w => z.2.2 ((zg_sbe hG (by omega)).mpr w)⟩, c⟩
  rw [zg_w' key.2]
  exact h id key.1
theorem zg_hda {l m : List Nat} (h : l ≠ []) : (l ++ m).headD 0 = l.headD 0 := by
  cases l with
  | nil => exact absurd rfl h
  | cons x t => rfl
theorem zg_lda {m : List Nat} (h : m ≠ []) : ∀ (l : List Nat) (d : Nat), (l ++ m).getLastD d = m.getLastD 0
  | [], d => by
    cases m with
    | nil => exact absurd rfl h
    | cons x t => show (x :: t).getLastD d = _; rw [List.getLastD_cons, List.getLastD_cons]
  | x :: t, d => by
    show (x :: (t ++ m)).getLastD d = _
    rw [List.getLastD_cons]; exact zg_lda h t x
theorem zx_SPf {G W : Nat → List Nat} {sp fT lT : Nat → Nat} {a b n : Nat} (h : zx_SP G W sp fT lT) (hn : 0 < n ∧ n < 32) (hG : G n = [a, b]) : zx_SP (zg_fo G a b n) W sp fT lT := by
  intro id hid
  apply h
  rcases hid with z | z
  · exact Or.inl z
  · refine Or.inr ⟨z.1, z.2.1, fun w => z.2.2 ?_⟩
    have c : id - 16 ≠ n := fun q => by rw [q, hG] at w; cases w
    rw [zg_fon c, zg_rpe]; exact w
theorem zx_SPn {G W : Nat → List Nat} {sp fT lT : Nat → Nat} {a b n : Nat} (h : zx_SP G W sp fT lT) (hn : 0 < n ∧ n < 32) (hG : G n = []) (ha : zg_id G a) (hb : zg_id G b) (wa : zg_w W a ≠ []) (wb : zg_w W b ≠ []) :
    zx_SP (zg_fo G a b n) (zn_u W n (zg_w W a ++ zg_w W b)) (zn_u sp (16 + n) (sp a + sp b)) (zn_u fT (16 + n) (fT a)) (zn_u lT (16 + n) (lT b)) := by
  intro id hid
  by_cases c : id = 16 + n
  · rw [c, zg_wr, zn_us, zn_us, zn_us, zn_us]
    obtain ⟨a1, a2, a3⟩ := h a ha
    obtain ⟨b1, b2, b3⟩ := h b hb
    exact ⟨by rw [List.length_append, a1, b1], by rw [zg_hda wa, a2], by rw [zg_lda wb, b3]⟩
  · rw [zg_w' c, zn_un c, zn_un c, zn_un c]
    apply h
    rcases hid with z | z
    · exact Or.inl z
    · refine Or.inr ⟨z.1, z.2.1, fun w => z.2.2 ?_⟩
      rw [zg_fon (by omega), zg_rpe]; exact w
end
section
/-! ===== the steps in lockstep ===== -/
theorem zg_Rs (G : Nat → List Nat) : zg_R G ≤ zg_s G := by
  unfold zg_R zg_s
  have : ∀ n, zx_su (fun r => if r = 0 then 0 else zg_lv (G r)) n ≤ zx_su (fun r => (G r).length) n := by
    intro n
    induction n with
    | zero => exact Nat.le_refl _
    | succ n ih =>
      show _ + _ ≤ _ + _
      refine Nat.add_le_add ih ?_
      show (if n = 0 then 0 else zg_lv (G n)) ≤ (G n).length
      by_cases c : n = 0
      · rw [if_pos c]; exact Nat.zero_le _
      · rw [if_neg c]
        cases G n with
        | nil => exact Nat.le_refl _
        | cons x t => show 1 ≤ _; simp
  exact this 32
def zz_X1 (G W G1 W1 : Nat → List Nat) : Prop := ∀ (post : SX → Prop) (i n : Nat) (xc1 xc2 xc3 xc4 xc5 xc6 xrd xod xtd : Int32) (xli xle xsz xcu xfn xst xrt : Nat) (xlv xhr xlo xrT : Int64) (na nb sy ow bl sp fT lT sh sc sn sv dh dc dn dv pa de oc wa me qu wo co : Nat → Nat) (rR : Nat → Int64) (te : Nat → Int32) (B : Nat → List Nat) (F : List Nat), i < 256 → zx_XG G B F xfn xst xrt xlv xhr xlo na nb sy ow bl sh sc sn sv dh dc dn dv rR xrT → zx_SP G W sp fT lT →
  (∀ (B' : Nat → List Nat) (F' : List Nat) (fn' st' rt' : Nat) (lv' hr' lo' rT' : Int64) (rR' : Nat → Int64) (na' nb' sy' ow' bl' sh' sc' sn' sv' dh' dc' dn' dv' wo' : Nat → Nat) (sp' fT' lT' : Nat → Nat), zx_XG G1 B' F' fn' st' rt' lv' hr' lo' na' nb' sy' ow' bl' sh' sc' sn' sv' dh' dc' dn' dv' rR' rT' → zx_SP G1 W1 sp' fT' lT' → sp' 16 = sp 16 → wX_settle_2 post n (nI (i + 1)) xc1 xc2 xc3 xc4 xc5 xc6 (nI xli) (nI xle) (nI xsz) (nI xcu) (nI fn') (nI st') lv' hr' lo' (nI rt') rT' xrd xod xtd (zn_A na') (zn_A nb') (zn_A sy') (zn_A ow') (zn_A bl') (zn_A sp') (zn_A fT') (zn_A lT') (zn_A sh') (zn_A sc') (zn_A sn') (zn_A sv') (zn_A dh') (zn_A dc') (zn_A dn') (zn_A dv') rR' (zn_A pa) (zn_A de) (zn_A oc) (zn_A wa) te (zn_A me) (zn_A qu) (zn_A wo') (zn_A co)) →
  wX_settle_2 post (n + 1) (nI i) xc1 xc2 xc3 xc4 xc5 xc6 (nI xli) (nI xle) (nI xsz) (nI xcu) (nI xfn) (nI xst) xlv xhr xlo (nI xrt) xrT xrd xod xtd (zn_A na) (zn_A nb) (zn_A sy) (zn_A ow) (zn_A bl) (zn_A sp) (zn_A fT) (zn_A lT) (zn_A sh) (zn_A sc) (zn_A sn) (zn_A sv) (zn_A dh) (zn_A dc) (zn_A dn) (zn_A dv) rR (zn_A pa) (zn_A de) (zn_A oc) (zn_A wa) te (zn_A me) (zn_A qu) (zn_A wo) (zn_A co)
def zz_Y1 (G G1 : Nat → List Nat) : Prop := ∀ (post : SY → Prop) (j n : Nat) (yca yal yln ycu : Nat) (ysq ybo ysi yor : Nat → Nat), j ≤ 128 → zy_R G ybo ysi →
  (∀ bo' si' : Nat → Nat, zy_R G1 bo' si' → wY_enter_46 post n 1 (nI (j + 1)) (nI yca) (nI yal) (nI yln) (nI ycu) (zn_A ysq) (zn_A bo') (zn_A si') (zn_A yor)) → wY_enter_46 post (n + 1) 1 (nI j) (nI yca) (nI yal) (nI yln) (nI ycu) (zn_A ysq) (zn_A ybo) (zn_A ysi) (zn_A yor)
def zz_XP (G W G' W' : Nat → List Nat) (k : Nat) : Prop := ∀ (post : SX → Prop) (i n : Nat) (xc1 xc2 xc3 xc4 xc5 xc6 xrd xod xtd : Int32) (xli xle xsz xcu xfn xst xrt : Nat) (xlv xhr xlo xrT : Int64) (na nb sy ow bl sp fT lT sh sc sn sv dh dc dn dv pa de oc wa me qu wo co : Nat → Nat) (rR : Nat → Int64) (te : Nat → Int32) (B : Nat → List Nat) (F : List Nat), 257 ≤ n + i → i + k ≤ 255 → zx_XG G B F xfn xst xrt xlv xhr xlo na nb sy ow bl sh sc sn sv dh dc dn dv rR xrT → zx_SP G W sp fT lT →
  (∀ (B' : Nat → List Nat) (F' : List Nat) (fn' st' rt' : Nat) (lv' hr' lo' rT' : Int64) (rR' : Nat → Int64) (na' nb' sy' ow' bl' sh' sc' sn' sv' dh' dc' dn' dv' wo' : Nat → Nat) (sp' fT' lT' : Nat → Nat), zx_XG G' B' F' fn' st' rt' lv' hr' lo' na' nb' sy' ow' bl' sh' sc' sn' sv' dh' dc' dn' dv' rR' rT' → zx_SP G' W' sp' fT' lT' → sp' 16 = sp 16 → post (xc1, xc2, xc3, xc4, xc5, xc6, nI xli, nI xle, nI xsz, nI xcu, nI fn', nI st', lv', hr', lo', nI rt', rT', xrd, xod, xtd, zn_A na', zn_A nb', zn_A sy', zn_A ow', zn_A bl', zn_A sp', zn_A fT', zn_A lT', zn_A sh', zn_A sc', zn_A sn', zn_A sv', zn_A dh', zn_A dc', zn_A dn', zn_A dv', rR', zn_A pa, zn_A de, zn_A oc, zn_A wa, te, zn_A me, zn_A qu, zn_A wo', zn_A co)) →
  wX_settle_2 post n (nI i) xc1 xc2 xc3 xc4 xc5 xc6 (nI xli) (nI xle) (nI xsz) (nI xcu) (nI xfn) (nI xst) xlv xhr xlo (nI xrt) xrT xrd xod xtd (zn_A na) (zn_A nb) (zn_A sy) (zn_A ow) (zn_A bl) (zn_A sp) (zn_A fT) (zn_A lT) (zn_A sh) (zn_A sc) (zn_A sn) (zn_A sv) (zn_A dh) (zn_A dc) (zn_A dn) (zn_A dv) rR (zn_A pa) (zn_A de) (zn_A oc) (zn_A wa) te (zn_A me) (zn_A qu) (zn_A wo) (zn_A co)
def zz_YP (G G' : Nat → List Nat) (k : Nat) : Prop := ∀ (post : SY → Prop) (j n : Nat) (yca yal yln ycu : Nat) (ysq ybo ysi yor : Nat → Nat), 131 ≤ n + j → j + k ≤ 128 → zy_R G ybo ysi →
  (∀ bo' si' : Nat → Nat, zy_R G' bo' si' → post (nI yca, nI yal, nI yln, nI ycu, zn_A ysq, zn_A bo', zn_A si', zn_A yor)) → wY_enter_46 post n 1 (nI j) (nI yca) (nI yal) (nI yln) (nI ycu) (zn_A ysq) (zn_A ybo) (zn_A ysi) (zn_A yor)
theorem zz_Xc {G W G1 W1 G' W' : Nat → List Nat} {k : Nat} (h1 : zz_X1 G W G1 W1) (h2 : zz_XP G1 W1 G' W' k) : zz_XP G W G' W' (k + 1) := by
  intro post i n xc1 xc2 xc3 xc4 xc5 xc6 xrd xod xtd xli xle xsz xcu xfn xst xrt xlv xhr xlo xrT na nb sy ow bl sp fT lT sh sc sn sv dh dc dn dv pa de oc wa me qu wo co rR te B F hn hi hX hS K
  obtain ⟨m, rfl⟩ : ∃ m, n = m + 1 := ⟨n - 1, by omega⟩
  refine h1 post i m xc1 xc2 xc3 xc4 xc5 xc6 xrd xod xtd xli xle xsz xcu xfn xst xrt xlv xhr xlo xrT na nb sy ow bl sp fT lT sh sc sn sv dh dc dn dv pa de oc wa me qu wo co rR te B F (by omega) hX hS ?_
  intro B' F' fn' st' rt' lv' hr' lo' rT' rR' na' nb' sy' ow' bl' sh' sc' sn' sv' dh' dc' dn' dv' wo' sp' fT' lT' hX' hS' h16
  refine h2 post (i + 1) m _ _ _ _ _ _ _ _ _ _ _ _ _ _ _ _ _ _ _ _ _ _ _ _ _ _ _ _ _ _ _ _ _ _ _ _ _ _ _ _ _ _ _ _ _ _ _ _ (by omega) (by omega) hX' hS' ?_
  intro B2 F2 fn2 st2 rt2 lv2 hr2 lo2 rT2 rR2 na2 nb2 sy2 ow2 bl2 sh2 sc2 sn2 sv2 dh2 dc2 dn2 dv2 wo2 sp2 fT2 lT2 hX2 hS2 h162
  exact K _ _ _ _ _ _ _ _ _ _ _ _ _ _ _ _ _ _ _ _ _ _ _ _ _ _ _ hX2 hS2 (h162.trans h16)
theorem zz_Yc {G G1 G' : Nat → List Nat} {k : Nat} (h1 : zz_Y1 G G1) (h2 : zz_YP G1 G' k) : zz_YP G G' (k + 1) := by
  intro post j n yca yal yln ycu ysq ybo ysi yor hn hj hR K
  obtain ⟨m, rfl⟩ : ∃ m, n = m + 1 := ⟨n - 1, by omega⟩
  refine h1 post j m yca yal yln ycu ysq ybo ysi yor (by omega) hR ?_
  intro bo' si' hR'
  exact h2 post (j + 1) m _ _ _ _ _ _ _ _ (by omega) (by omega) hR' K
/-- masks against the cases -/
theorem zz_hr {G B : Nat → List Nat} {F : List Nat} {fn st rt : Nat} {lv hr lo : Int64} {na nb sy ow bl sh sc sn sv dh dc dn dv : Nat → Nat} {rR : Nat → Int64} {rT : Int64} (h : zx_XG G B F fn st rt lv hr lo na nb sy ow bl sh sc sn sv dh dc dn dv rR rT) :
    (∀ i, i < 64 → (zb_t hr i = true ↔ zy_sh G i)) ∧ (∀ i, i < 64 → (zb_t lo i = true ↔ (0 < i ∧ i < 32 ∧ zg_u G (16 + i) = 1))) := by
  obtain ⟨hX, hG, h1, h2, _⟩ := h
  refine ⟨h2, fun i hi => ?_⟩
  obtain ⟨L, hF, hm, q1, q2⟩ := hX.2.2.1
  constructor
  · intro z
    obtain ⟨z1, z2⟩ := q2 i hi z
    refine ⟨z1, z2, ?_⟩
    rw [← zx_cnt hX hG (by omega)]
    exact (q1 i z1 z2).mp z
  · rintro ⟨z1, z2, z3⟩
    rw [q1 i z1 z2, zx_cnt hX hG (by omega)]; exact z3
theorem zz_un0 {G W : Nat → List Nat} (h : zg_OK G W) {p : Nat} (hp : 0 < p ∧ p < 32) (hu : zg_u G (16 + p) = 1) : G p ≠ [] := by
  obtain ⟨g, l1, l2, hg, e, _⟩ := zg_u1 hu
  rcases h.1 g hg (16 + p) (by rw [e]; simp) with z | z
  · omega
  · rw [show 16 + p - 16 = p by omega] at z; exact z.2.2
theorem zz_x1 {G W : Nat → List Nat} (h : zg_OK G W) {p : Nat} (hp : zy_sh G p) (hl : ∀ q, q < p → ¬ zy_sh G q) : zz_X1 G W (zg_sb G p) (zn_u W p []) := by
  intro post i n xc1 xc2 xc3 xc4 xc5 xc6 xrd xod xtd xli xle xsz xcu xfn xst xrt xlv xhr xlo xrT na nb sy ow bl sp fT lT sh sc sn sv dh dc dn dv pa de oc wa me qu wo co rR te B F hi hX hS K
  have hm := (zz_hr hX).1
  have hp32 := hp.2.1
  have b1 : zb_t xhr p = true := (hm p (by omega)).mpr hp
  have hG : G p ≠ [] := fun z => by have := hp.2.2; rw [z] at this; cases this
  rw [wX_settle_2]
  refine br_f ?_ (br_f (zb_n0 (by omega) b1) ?_)
  · rw [show (256 : Int32) = nI 256 from rfl, nI_leI (by omega) (by omega)]; omega
  refine zb_low p (by omega) b1 (fun j hj => ts_nt fun z => hl j hj ((hm j (by omega)).mp z)) ?_
  refine zx_s1 hX ⟨hp.1, hp.2.1⟩ hp.2.2 (zg_self h p hp.2.1) ?_
  intro B' F' fn' st' rt' lv' hr' lo' rT' rR' na' nb' sy' ow' bl' sh' sc' sn' sv' dh' dc' dn' dv' wo' hX'
  exact nm_r (nI_1 i) (K _ _ _ _ _ _ _ _ _ _ _ _ _ _ _ _ _ _ _ _ _ _ _ _ _ _ _ hX' (zx_SPs hS hG) rfl)
theorem zz_hr0 {G : Nat → List Nat} {hr : Int64} (hm : ∀ i, i < 64 → (zb_t hr i = true ↔ zy_sh G i)) (hn : ∀ q, ¬ zy_sh G q) : hr = 0 := zb_0.mpr fun i hi => ts_nt fun z => hn i ((hm i hi).mp z)
theorem zz_x2 {G W : Nat → List Nat} (h : zg_OK G W) (hns : ∀ q, ¬ zy_sh G q) {p : Nat} (hp : zy_ln G p) (hl : ∀ q, q < p → ¬ zy_ln G q) : zz_X1 G W (zg_sb G p) (zn_u W p []) := by
  intro post i n xc1 xc2 xc3 xc4 xc5 xc6 xrd xod xtd xli xle xsz xcu xfn xst xrt xlv xhr xlo xrT na nb sy ow bl sp fT lT sh sc sn sv dh dc dn dv pa de oc wa me qu wo co rR te B F hi hX hS K
  obtain ⟨hm, hm2⟩ := zz_hr hX
  obtain ⟨p0, p32, hG, hu⟩ := hp
  have b1 : zb_t xlo p = true := (hm2 p (by omega)).mpr ⟨p0, p32, hu⟩
  rw [wX_settle_2]
  refine br_f ?_ (br_t (zz_hr0 hm hns) (br_f (zb_n0 (by omega) b1) ?_))
  · rw [show (256 : Int32) = nI 256 from rfl, nI_leI (by omega) (by omega)]; omega
  refine zb_low p (by omega) b1 (fun j hj => ts_nt fun z => ?_) ?_
  · obtain ⟨z1, z2, z3⟩ := (hm2 j (by omega)).mp z
    exact hl j hj ⟨z1, z2, zz_un0 h ⟨z1, z2⟩ z3, z3⟩
  refine zx_s2 hX ⟨p0, p32⟩ hG (zg_self h p p32) (fun i h0 h1 z => hns i ⟨h0, h1, z⟩) b1 ?_
  intro B' F' fn' st' rt' lv' hr' lo' rT' rR' na' nb' sy' ow' bl' sh' sc' sn' sv' dh' dc' dn' dv' wo' hX'
  exact nm_r (nI_1 i) (K _ _ _ _ _ _ _ _ _ _ _ _ _ _ _ _ _ _ _ _ _ _ _ _ _ _ _ hX' (zx_SPs hS hG) rfl)
theorem zz_lo0 {G W : Nat → List Nat} (h : zg_OK G W) {lo : Int64} (hm : ∀ i, i < 64 → (zb_t lo i = true ↔ (0 < i ∧ i < 32 ∧ zg_u G (16 + i) = 1))) (hn : ∀ q, ¬ zy_ln G q) : lo = 0 := zb_0.mpr fun i hi => ts_nt fun z => by
  obtain ⟨z1, z2, z3⟩ := (hm i hi).mp z
  exact hn i ⟨z1, z2, zz_un0 h ⟨z1, z2⟩ z3, z3⟩
theorem zz_LRu {G : Nat → List Nat} {a b a' b' : Nat} (h : zg_LR G a b) (h' : zg_LR G a' b') : a = a' ∧ b = b' := by
  have t1 := h.2 a' b' h'.1
  have t2 := h'.2 a b h.1
  omega
theorem zz_BDu {G : Nat → List Nat} {a b n n' : Nat} (h : zg_BD G a b n) (h' : zg_BD G a b n') : n = n' := by
  rcases Nat.lt_trichotomy n n' with c | c | c
  · exact absurd h.2.2.1 (h'.2.2.2 n h.1 c)
  · exact c
  · exact absurd h'.2.2.1 (h.2.2.2 n' h'.1 c)
theorem zz_FRu {G : Nat → List Nat} {n n' : Nat} (h : zg_FR G n) (h' : zg_FR G n') : n = n' := by
  rcases Nat.lt_trichotomy n n' with c | c | c
  · exact absurd h.2.2.1 (h'.2.2.2 n h.1 c)
  · exact c
  · exact absurd h'.2.2.1 (h.2.2.2 n' h'.1 c)
theorem zz_rT {G B : Nat → List Nat} {F : List Nat} {fn st rt : Nat} {lv hr lo : Int64} {na nb sy ow bl sh sc sn sv dh dc dn dv : Nat → Nat} {rR : Nat → Int64} {rT : Int64} (h : zx_XG G B F fn st rt lv hr lo na nb sy ow bl sh sc sn sv dh dc dn dv rR rT) : rT = 0 ↔ ∀ a b, ¬ zg_R2 G a b := by
  obtain ⟨hX, hG, _⟩ := h
  obtain ⟨hS, hsy, _, L, hF, hm, q1, q2, q3, q4⟩ := id hX
  constructor
  · rintro z a b hR
    have hR' := hR
    obtain ⟨r, i, q, j, p1, _, _⟩ := hR'
    obtain ⟨x, _, _, x3, x4, _, x6, x7, _⟩ := zx_pln hS hG p1
    have ha : a < 48 := by rw [← x6]; exact hsy x x3
    have hb : b < 48 := by rw [← x7]; exact hsy _ x4
    have t1 := (zx_R2 hX hG ha hb).mpr hR
    have t2 := (q3 a ha).mpr (zb_n0 (by omega) t1)
    rw [z, zb_z] at t2
    cases t2
  · intro hn
    apply Classical.byContradiction
    intro hz
    obtain ⟨a, a64, at1, _⟩ := zb_least hz
    have ha := q4 a a64 at1
    obtain ⟨b, b64, bt1, _⟩ := zb_least ((q3 a ha).mp at1)
    exact hn a b ((zx_R2 hX hG ha (q2 a ha b b64 bt1)).mp bt1)
theorem zz_x3 {G W : Nat → List Nat} (h : zg_OK G W) (h64 : (W 0).length ≤ 64) (hns : ∀ q, ¬ zy_sh G q) (hnl : ∀ q, ¬ zy_ln G q) {a b n : Nat} (hLR : zg_LR G a b) (hn : zg_BD G a b n ∨ ((∀ m, 0 < m → m < 32 → G m ≠ [a, b]) ∧ zg_FR G n)) {W' : Nat → List Nat}
    (hW : (G n = [a, b] ∧ W' = W) ∨ (G n = [] ∧ W' = zn_u W n (zg_w W a ++ zg_w W b))) : zz_X1 G W (zg_fo G a b n) W' := by
  intro post i n' xc1 xc2 xc3 xc4 xc5 xc6 xrd xod xtd xli xle xsz xcu xfn xst xrt xlv xhr xlo xrT na nb sy ow bl sp fT lT sh sc sn sv dh dc dn dv pa de oc wa me qu wo co rR te B F hi hX hS K
  obtain ⟨hm, hm2⟩ := zz_hr hX
  have hst := zx_st hX.1.1 hX.2.1
  have hs6 := h.2.2.2.2.2
  rw [wX_settle_2]
  refine br_f ?_ (br_t (zz_hr0 hm hns) (br_t (zz_lo0 h hm2 hnl) (br_f (fun z => (zz_rT hX).mp z a b hLR.1) ?_)))
  · rw [show (256 : Int32) = nI 256 from rfl, nI_leI (by omega) (by omega)]; omega
  refine zx_s3 hX (fun z => (zz_rT hX).mp z a b hLR.1) (zg_self h) (fun r hr id hid => h.1 r hr id hid) (by omega) ?_ ?_ ?_
  · intro a' b' hL' h1 h2
    obtain ⟨rfl, rfl⟩ := zz_LRu hLR hL'
    rcases hn with z | z
    · exact absurd z.2.2.1 (h1 n z.1 z.2.1)
    · exact absurd z.2.2.2.1 (h2 n z.2.1 z.2.2.1)
  · intro a' b' m hL' hBD B' F' fn' st' rt' lv' hr' lo' rT' rR' na' nb' sy' ow' bl' sh' sc' sn' sv' dh' dc' dn' dv' wo' hX'
    obtain ⟨rfl, rfl⟩ := zz_LRu hLR hL'
    rcases hn with z | z
    · obtain rfl := zz_BDu z hBD
      have eW : W' = W := by
        rcases hW with w | w
        · exact w.2
        · have t := z.2.2.1
          rw [w.1] at t
          cases t
      rw [eW] at K
      exact nm_r (nI_1 i) (K _ _ _ _ _ _ _ _ _ _ _ _ _ _ _ _ _ _ _ _ _ _ _ _ _ _ _ hX' (zx_SPf hS ⟨z.1, z.2.1⟩ z.2.2.1) rfl)
    · exact absurd hBD.2.2.1 (z.1 m hBD.1 hBD.2.1)
  · intro a' b' m ha hb hL' hno hFR B' F' fn' st' rt' lv' hr' lo' rT' rR' na' nb' sy' ow' bl' sh' sc' sn' sv' dh' dc' dn' dv' wo' hX'
    obtain ⟨rfl, rfl⟩ := zz_LRu hLR hL'
    rcases hn with z | z
    · exact absurd z.2.2.1 (hno n z.1 z.2.1)
    · obtain rfl := zz_FRu z.2 hFR
      have eW : W' = zn_u W n (zg_w W a ++ zg_w W b) := by
        rcases hW with w | w
        · have t := hFR.2.2.1
          rw [w.1] at t
          cases t
        · exact w.2
      rw [eW] at K
      obtain ⟨r, i0, q, j, p1, _, _⟩ := hLR.1
      have ma := List.mem_of_getElem? p1.2.1
      have mb := List.mem_of_getElem? p1.2.2
      exact nm_r (nI_1 i) (K _ _ _ _ _ _ _ _ _ _ _ _ _ _ _ _ _ _ _ _ _ _ _ _ _ _ _ hX' (zx_SPn hS ⟨hFR.1, hFR.2.1⟩ hFR.2.2.1 (h.1 r p1.1 a ma) (h.1 r p1.1 b mb) (zg_wn h p1.1 ma) (zg_wn h p1.1 mb)) (zn_un (by have := hFR.1; omega)))
/-- nothing applies: X -/
theorem zz_xe {G W : Nat → List Nat} (h : zg_OK G W) (h64 : (W 0).length ≤ 64) (hns : ∀ q, ¬ zy_sh G q) (hnl : ∀ q, ¬ zy_ln G q) (he : (∀ a b, ¬ zg_R2 G a b) ∨ ∃ a b, zg_LR G a b ∧ (∀ m, 0 < m → m < 32 → G m ≠ [a, b]) ∧ (∀ m, 0 < m → m < 32 → G m ≠ [])) (k : Nat) : zz_XP G W G W k := by
  intro post i n xc1 xc2 xc3 xc4 xc5 xc6 xrd xod xtd xli xle xsz xcu xfn xst xrt xlv xhr xlo xrT na nb sy ow bl sp fT lT sh sc sn sv dh dc dn dv pa de oc wa me qu wo co rR te B F hn hi hX hS K
  obtain ⟨hm, hm2⟩ := zz_hr hX
  have hst := zx_st hX.1.1 hX.2.1
  have hs6 := h.2.2.2.2.2
  have done : post (xc1, xc2, xc3, xc4, xc5, xc6, nI xli, nI xle, nI xsz, nI xcu, nI xfn, nI xst, xlv, xhr, xlo, nI xrt, xrT, xrd, xod, xtd, zn_A na, zn_A nb, zn_A sy, zn_A ow, zn_A bl, zn_A sp, zn_A fT, zn_A lT, zn_A sh, zn_A sc, zn_A sn, zn_A sv, zn_A dh, zn_A dc, zn_A dn, zn_A dv, rR, zn_A pa, zn_A de, zn_A oc, zn_A wa, te, zn_A me, zn_A qu, zn_A wo, zn_A co) := K B F xfn xst xrt xlv xhr xlo xrT rR na nb sy ow bl sh sc sn sv dh dc dn dv wo sp fT lT hX hS rfl
  have loop : ∀ (m i n : Nat), i + m = 256 → m < n → wX_settle_2 post n (nI i) xc1 xc2 xc3 xc4 xc5 xc6 (nI xli) (nI xle) (nI xsz) (nI xcu) (nI xfn) (nI xst) xlv xhr xlo (nI xrt) xrT xrd xod xtd (zn_A na) (zn_A nb) (zn_A sy) (zn_A ow) (zn_A bl) (zn_A sp) (zn_A fT) (zn_A lT) (zn_A sh) (zn_A sc) (zn_A sn) (zn_A sv) (zn_A dh) (zn_A dc) (zn_A dn) (zn_A dv) rR (zn_A pa) (zn_A de) (zn_A oc) (zn_A wa) te (zn_A me) (zn_A qu) (zn_A wo) (zn_A co) := by
    intro m
    induction m with
    | zero =>
      intro i n hi hn
      obtain ⟨n', rfl⟩ : ∃ n', n = n' + 1 := ⟨n - 1, by omega⟩
      have : i = 256 := by omega
      subst this
      rw [wX_settle_2]
      exact br_t (by decide) done
    | succ m ih =>
      intro i n hi hn
      obtain ⟨n', rfl⟩ : ∃ n', n = n' + 1 := ⟨n - 1, by omega⟩
      rw [wX_settle_2]
      refine br_f ?_ (br_t (zz_hr0 hm hns) (br_t (zz_lo0 h hm2 hnl) ?_))
      · rw [show (256 : Int32) = nI 256 from rfl, nI_leI (by omega) (by omega)]; omega
      refine br_c (fun _ => done) (fun hz => ?_)
      rcases he with e | ⟨a, b, hLR, h1, h2⟩
      · exact absurd ((zz_rT hX).mpr e) hz
      · refine zx_s3 hX hz (zg_self h) (fun r hr id hid => h.1 r hr id hid) (by omega) ?_ ?_ ?_
        · intro a' b' hL' _ _
          exact nm_r (nI_1 i) (ih (i + 1) n' (by omega) (by omega))
        · intro a' b' m' hL' hBD
          obtain ⟨rfl, rfl⟩ := zz_LRu hLR hL'
          exact absurd hBD.2.2.1 (h1 m' hBD.1 hBD.2.1)
        · intro a' b' m' ha hb hL' hno hFR
          exact absurd hFR.2.2.1 (h2 m' hFR.1 hFR.2.1)
  exact loop (256 - i) i n (by omega) (by omega)
end
section
theorem zz_y1 {G W : Nat → List Nat} (h : zg_OK G W) (h64 : (W 0).length ≤ 64) {p : Nat} (hp : zy_sh G p) (hl : ∀ q, q < p → ¬ zy_sh G q) : zz_Y1 G (zg_sb G p) := by
  intro post j n yca yal yln ycu ysq ybo ysi yor hj hR K
  have hs6 := h.2.2.2.2.2
  rw [wY_enter_46]
  refine br_f ?_ (br_f (by decide) ?_)
  · rw [show (128 : Int32) = nI 128 from rfl, nI_ltI (by omega) (by omega)]; omega
  refine zy_step hR (by omega) (zg_self h) ?_ (fun hn => absurd hp (hn p)) (fun hn => absurd hp (hn p)) (fun hn => absurd hp (hn p)) (fun hn => absurd hp (hn p))
  intro p' hp' hl' bo' si' hR'
  have : p' = p := by
    rcases Nat.lt_trichotomy p p' with c | c | c
    · exact absurd hp (hl' p c)
    · exact c.symm
    · exact absurd hp' (hl p' c)
  rw [this] at hR'
  exact nm_r (nI_1 j) (K bo' si' hR')
theorem zz_y2 {G W : Nat → List Nat} (h : zg_OK G W) (h64 : (W 0).length ≤ 64) (hns : ∀ q, ¬ zy_sh G q) {p : Nat} (hp : zy_ln G p) (hl : ∀ q, q < p → ¬ zy_ln G q) : zz_Y1 G (zg_sb G p) := by
  intro post j n yca yal yln ycu ysq ybo ysi yor hj hR K
  have hs6 := h.2.2.2.2.2
  rw [wY_enter_46]
  refine br_f ?_ (br_f (by decide) ?_)
  · rw [show (128 : Int32) = nI 128 from rfl, nI_ltI (by omega) (by omega)]; omega
  refine zy_step hR (by omega) (zg_self h) (fun q hq => absurd hq (hns q)) ?_ (fun _ hn => absurd hp (hn p)) (fun _ hn => absurd hp (hn p)) (fun _ hn => absurd hp (hn p))
  intro _ p' hp' hl' bo' si' hR'
  have : p' = p := by
    rcases Nat.lt_trichotomy p p' with c | c | c
    · exact absurd hp (hl' p c)
    · exact c.symm
    · exact absurd hp' (hl p' c)
  rw [this] at hR'
  exact nm_r (nI_1 j) (K bo' si' hR')
theorem zz_y3 {G W : Nat → List Nat} (h : zg_OK G W) (h64 : (W 0).length ≤ 64) (hns : ∀ q, ¬ zy_sh G q) (hnl : ∀ q, ¬ zy_ln G q) {a b n : Nat} (hLR : zg_LR G a b) (hn : zg_BD G a b n ∨ ((∀ m, 0 < m → m < 32 → G m ≠ [a, b]) ∧ zg_FR G n)) : zz_Y1 G (zg_fo G a b n) := by
  intro post j n' yca yal yln ycu ysq ybo ysi yor hj hR K
  have hs6 := h.2.2.2.2.2
  rw [wY_enter_46]
  refine br_f ?_ (br_f (by decide) ?_)
  · rw [show (128 : Int32) = nI 128 from rfl, nI_ltI (by omega) (by omega)]; omega
  refine zy_step hR (by omega) (zg_self h) (fun q hq => absurd hq (hns q)) (fun _ q hq => absurd hq (hnl q)) (fun _ _ hz => absurd hLR.1 (hz a b)) ?_ ?_
  · intro _ _ a' b' hL' h1 h2
    obtain ⟨rfl, rfl⟩ := zz_LRu hLR hL'
    rcases hn with z | z
    · exact absurd z.2.2.1 (h1 n z.1 z.2.1)
    · exact absurd z.2.2.2.1 (h2 n z.2.1 z.2.2.1)
  · intro _ _ a' b' m hL' hm bo' si' hR'
    obtain ⟨rfl, rfl⟩ := zz_LRu hLR hL'
    have : m = n := by
      rcases hn with z | z <;> rcases hm with w | w
      · exact zz_BDu w z
      · exact absurd z.2.2.1 (w.1 n z.1 z.2.1)
      · exact absurd w.2.2.1 (z.1 m w.1 w.2.1)
      · exact zz_FRu w.2 z.2
    rw [this] at hR'
    exact nm_r (nI_1 j) (K bo' si' hR')
theorem zz_ye {G W : Nat → List Nat} (h : zg_OK G W) (h64 : (W 0).length ≤ 64) (hns : ∀ q, ¬ zy_sh G q) (hnl : ∀ q, ¬ zy_ln G q) (he : (∀ a b, ¬ zg_R2 G a b) ∨ ∃ a b, zg_LR G a b ∧ (∀ m, 0 < m → m < 32 → G m ≠ [a, b]) ∧ (∀ m, 0 < m → m < 32 → G m ≠ [])) (k : Nat) : zz_YP G G k := by
  intro post j n yca yal yln ycu ysq ybo ysi yor hn hj hR K
  have hs6 := h.2.2.2.2.2
  obtain ⟨n', rfl⟩ : ∃ n', n = n' + 2 := ⟨n - 2, by omega⟩
  have done : post (nI yca, nI yal, nI yln, nI ycu, zn_A ysq, zn_A ybo, zn_A ysi, zn_A yor) := K ybo ysi hR
  have last : ∀ j' : Int32, wY_enter_46 post (n' + 1) 0 j' (nI yca) (nI yal) (nI yln) (nI ycu) (zn_A ysq) (zn_A ybo) (zn_A ysi) (zn_A yor) := by
    intro j'
    rw [wY_enter_46]
    exact br_c (fun _ => done) (fun _ => br_t rfl done)
  rw [wY_enter_46]
  refine br_f ?_ (br_f (by decide) ?_)
  · rw [show (128 : Int32) = nI 128 from rfl, nI_ltI (by omega) (by omega)]; omega
  refine zy_step hR (by omega) (zg_self h) (fun q hq => absurd hq (hns q)) (fun _ q hq => absurd hq (hnl q)) (fun _ _ _ => nm_e (last _)) (fun _ _ a' b' hL' h1 h2 => nm_e (last _)) ?_
  intro _ _ a' b' m hL' hm bo' si' hR'
  exfalso
  rcases he with e | ⟨a, b, hLR, h1, h2⟩
  · exact e a' b' hL'.1
  · obtain ⟨rfl, rfl⟩ := zz_LRu hLR hL'
    rcases hm with w | w
    · exact h1 m w.1 w.2.1 w.2.2.1
    · exact h2 m w.2.1 w.2.2.1 w.2.2.2.1
/-- the least repeated digram -/
theorem zz_LRex {G : Nat → List Nat} (h : ∃ a b, zg_R2 G a b) : ∃ a b, zg_LR G a b := by
  obtain ⟨a, h1, h2⟩ := pk_least (fun a => ∃ b, zg_R2 G a b) h
  obtain ⟨b, h3, h4⟩ := pk_least (fun b => zg_R2 G a b) h1
  refine ⟨a, b, h3, fun a' b' h' => ?_⟩
  rcases Nat.lt_trichotomy a a' with c | c | c
  · exact Or.inl c
  · right
    refine ⟨c, ?_⟩
    apply Classical.byContradiction
    intro w
    exact h4 b' (by omega) (c ▸ h')
  · exact absurd ⟨b', h'⟩ (h2 a' c)
theorem zz_settle : ∀ (k : Nat) (G W : Nat → List Nat), 2 * zg_s G ≤ zg_R G + k → zg_OK G W → (W 0).length ≤ 64 →
    ∃ G' W', zg_OK G' W' ∧ (∀ q, ¬ zy_sh G' q) ∧ (∀ q, ¬ zy_ln G' q) ∧ W' 0 = W 0 ∧ zz_XP G W G' W' k ∧ zz_YP G G' k := by
  intro k
  induction k with
  | zero =>
    intro G W hk h h64
    have hRs := zg_Rs G
    have hs0 : zg_s G = 0 := by omega
    have emp : ∀ r, r < 32 → G r = [] := by
      intro r hr
      have t := zx_sul (f := fun r => (G r).length) 32 r hr
      have t' : (G r).length ≤ zg_s G := t
      exact List.length_eq_zero_iff.mp (by omega)
    have h1 : ∀ q, ¬ zy_sh G q := fun q z => by have := z.2.2; rw [emp q z.2.1] at this; cases this
    have h2 : ∀ q, ¬ zy_ln G q := fun q z => z.2.2.1 (emp q z.2.1)
    have h3 : ∀ a b, ¬ zg_R2 G a b := by
      rintro a b ⟨r, i, q, j, p1, _, _⟩
      have := p1.2.1
      rw [emp r p1.1] at this
      simp at this
    exact ⟨G, W, h, h1, h2, rfl, zz_xe h h64 h1 h2 (Or.inl h3) 0, zz_ye h h64 h1 h2 (Or.inl h3) 0⟩
  | succ k ih =>
    intro G W hk h h64
    by_cases c1 : ∃ p, zy_sh G p
    · obtain ⟨p, hp, hl⟩ := pk_least _ c1
      have hG : G p ≠ [] := fun z => by have := hp.2.2; rw [z] at this; cases this
      have hO := zg_OKs h ⟨hp.1, hp.2.1⟩ hG (Or.inl hp.2.2)
      have hs := zg_sd h ⟨hp.1, hp.2.1⟩ hG (Or.inl hp.2.2)
      have hR := zg_Rd ⟨hp.1, hp.2.1⟩ hG (zg_sbp (G := G)) (fun r hr c => zg_sbe hG c)
      have w0 : zn_u W p [] 0 = W 0 := zn_un (by have := hp.1; omega)
      obtain ⟨G', W', o1, o2, o3, o4, o5, o6⟩ := ih (zg_sb G p) (zn_u W p []) (by omega) hO (by rw [w0]; exact h64)
      exact ⟨G', W', o1, o2, o3, o4.trans w0, zz_Xc (zz_x1 h hp hl) o5, zz_Yc (zz_y1 h h64 hp hl) o6⟩
    have hns : ∀ q, ¬ zy_sh G q := fun q z => c1 ⟨q, z⟩
    by_cases c2 : ∃ p, zy_ln G p
    · obtain ⟨p, hp, hl⟩ := pk_least _ c2
      have hG := hp.2.2.1
      have hO := zg_OKs h ⟨hp.1, hp.2.1⟩ hG (Or.inr ⟨fun i h0 h1 z => hns i ⟨h0, h1, z⟩, hp.2.2.2⟩)
      have hs := zg_sd h ⟨hp.1, hp.2.1⟩ hG (Or.inr hp.2.2.2)
      have hR := zg_Rd ⟨hp.1, hp.2.1⟩ hG (zg_sbp (G := G)) (fun r hr c => zg_sbe hG c)
      have w0 : zn_u W p [] 0 = W 0 := zn_un (by have := hp.1; omega)
      obtain ⟨G', W', o1, o2, o3, o4, o5, o6⟩ := ih (zg_sb G p) (zn_u W p []) (by omega) hO (by rw [w0]; exact h64)
      exact ⟨G', W', o1, o2, o3, o4.trans w0, zz_Xc (zz_x2 h hns hp hl) o5, zz_Yc (zz_y2 h h64 hns hp hl) o6⟩
    have hnl : ∀ q, ¬ zy_ln G q := fun q z => c2 ⟨q, z⟩
    by_cases c3 : ∃ a b, zg_R2 G a b
    · obtain ⟨a, b, hLR⟩ := zz_LRex c3
      by_cases c4 : ∃ n, zg_BD G a b n ∨ ((∀ m, 0 < m → m < 32 → G m ≠ [a, b]) ∧ zg_FR G n)
      · obtain ⟨n, hn⟩ := c4
        have key : ∃ W1, ((G n = [a, b] ∧ W1 = W) ∨ (G n = [] ∧ W1 = zn_u W n (zg_w W a ++ zg_w W b))) ∧ zg_OK (zg_fo G a b n) W1 ∧ W1 0 = W 0 ∧ 2 * zg_s (zg_fo G a b n) ≤ zg_R (zg_fo G a b n) + k := by
          rcases hn with z | z
          · obtain ⟨t1, t2⟩ := zg_fd1 hLR.1 z.2.1 z.2.2.1
            obtain ⟨q1, q2, q3⟩ := zg_OKf (W' := W) h ⟨z.1, z.2.1⟩ (fun i h0 h1 w => hns i ⟨h0, h1, w⟩) t2 (by omega) (Or.inl ⟨z.2.2.1, rfl⟩)
            have t3 : zg_R (zg_fo G a b n) = zg_R G := by
              apply zg_Re
              intro r hr
              by_cases d : r = n
              · rw [d, zg_fop, z.2.2.1]
              · rw [zg_fon d]; exact zg_rpe _
            exact ⟨W, Or.inl ⟨z.2.2.1, rfl⟩, q1, rfl, by omega⟩
          · obtain ⟨t1, t2⟩ := zg_fd2 hLR.1 z.2.2.1 z.2.2.2.1
            obtain ⟨q1, q2, q3⟩ := zg_OKf (W' := zn_u W n (zg_w W a ++ zg_w W b)) h ⟨z.2.1, z.2.2.1⟩ (fun i h0 h1 w => hns i ⟨h0, h1, w⟩) t2 t1 (Or.inr ⟨z.2.2.2.1, rfl⟩)
            have t3 := zg_Rd (G := zg_fo G a b n) (G' := G) ⟨z.2.1, z.2.2.1⟩ (by rw [zg_fop]; simp) z.2.2.2.1 (fun r hr c => by rw [zg_fon c]; exact (zg_rpe _).symm)
            exact ⟨_, Or.inr ⟨z.2.2.2.1, rfl⟩, q1, zn_un (by have := z.2.1; omega), by omega⟩
        obtain ⟨W1, k1, k2, k3, k4⟩ := key
        obtain ⟨G', W', o1, o2, o3, o4, o5, o6⟩ := ih (zg_fo G a b n) W1 k4 k2 (by rw [k3]; exact h64)
        exact ⟨G', W', o1, o2, o3, o4.trans k3, zz_Xc (zz_x3 h h64 hns hnl hLR hn k1) o5, zz_Yc (zz_y3 h h64 hns hnl hLR hn) o6⟩
      · have he : (∀ a b, ¬ zg_R2 G a b) ∨ ∃ a b, zg_LR G a b ∧ (∀ m, 0 < m → m < 32 → G m ≠ [a, b]) ∧ (∀ m, 0 < m → m < 32 → G m ≠ []) := by
          right
          refine ⟨a, b, hLR, ?_⟩
          have n1 : ∀ m, 0 < m → m < 32 → G m ≠ [a, b] := by
            intro m h0 h1 e
            obtain ⟨m', ⟨q1, q2, q3⟩, q4⟩ := pk_least (fun m => 0 < m ∧ m < 32 ∧ G m = [a, b]) ⟨m, h0, h1, e⟩
            exact c4 ⟨m', Or.inl ⟨q1, q2, q3, fun m2 w1 w2 w3 => q4 m2 w2 ⟨w1, by omega, w3⟩⟩⟩
          refine ⟨n1, ?_⟩
          intro m h0 h1 e
          obtain ⟨m', ⟨q1, q2, q3⟩, q4⟩ := pk_least (fun m => 0 < m ∧ m < 32 ∧ G m = []) ⟨m, h0, h1, e⟩
          exact c4 ⟨m', Or.inr ⟨n1, q1, q2, q3, fun m2 w1 w2 w3 => q4 m2 w2 ⟨w1, by omega, w3⟩⟩⟩
        exact ⟨G, W, h, hns, hnl, rfl, zz_xe h h64 hns hnl he _, zz_ye h h64 hns hnl he _⟩
    · have he : (∀ a b, ¬ zg_R2 G a b) ∨ ∃ a b, zg_LR G a b ∧ (∀ m, 0 < m → m < 32 → G m ≠ [a, b]) ∧ (∀ m, 0 < m → m < 32 → G m ≠ []) := Or.inl fun a b z => c3 ⟨a, b, z⟩
      exact ⟨G, W, h, hns, hnl, rfl, zz_xe h h64 hns hnl he _, zz_ye h h64 hns hnl he _⟩
end
section
/-! ===== readers: a stack of places, one a level ===== -/
/-- the rank of a rule: how many rules have shorter words -/
def zg_rk (W : Nat → List Nat) (r : Nat) : Nat := if r = 0 then 31 else zx_su (fun q => if 0 < q ∧ (W q).length < (W r).length then 1 else 0) 32
theorem zg_rkb {f : Nat → Nat} (hf : ∀ i, f i ≤ 1) : ∀ n, zx_su f n ≤ n
  | 0 => Nat.le_refl _
  | n + 1 => by
    show zx_su f n + f n ≤ n + 1
    have := zg_rkb hf n
    have := hf n
    omega
theorem zg_rkm {f g : Nat → Nat} : ∀ (n k : Nat), (∀ i, i < n → f i ≤ g i) → k < n → f k + 1 ≤ g k → zx_su f n + 1 ≤ zx_su g n
  | 0, k, _, h, _ => absurd h (by omega)
  | n + 1, k, h, hk, hs => by
    show zx_su f n + f n + 1 ≤ zx_su g n + g n
    by_cases c : k = n
    · have : ∀ m, m ≤ n → zx_su f m ≤ zx_su g m := by
        intro m
        induction m with
        | zero => intro _; exact Nat.le_refl _
        | succ m ih =>
          intro hm
          show zx_su f m + f m ≤ zx_su g m + g m
          have := ih (by omega)
          have := h m (by omega)
          omega
      have := this n (Nat.le_refl _)
      rw [c] at hs
      omega
    · have := zg_rkm n k (fun i hi => h i (by omega)) (by omega) hs
      have := h n (by omega)
      omega
theorem zg_rk30 {W : Nat → List Nat} {r : Nat} (hr : 0 < r) (h32 : r < 32) : zg_rk W r ≤ 30 := by
  unfold zg_rk
  rw [if_neg (by omega)]
  have t := zg_rkm (f := fun q => if 0 < q ∧ (W q).length < (W r).length then 1 else 0) (g := fun q => if 0 < q then 1 else 0) 32 r (by
    intro i _
    show (if 0 < i ∧ (W i).length < (W r).length then 1 else 0) ≤ if 0 < i then 1 else 0
    by_cases c : 0 < i
    · rw [if_pos c]
      by_cases d : 0 < i ∧ (W i).length < (W r).length
      · rw [if_pos d]; exact Nat.le_refl _
      · rw [if_neg d]; omega
    · rw [if_neg (fun z => c z.1)]; omega) h32 (by
    show (if 0 < r ∧ (W r).length < (W r).length then 1 else 0) + 1 ≤ if 0 < r then 1 else 0
    rw [if_neg (by omega), if_pos hr]; exact Nat.le_refl _)
  have e : zx_su (fun q => if 0 < q then 1 else 0) 32 = 31 := by decide
  omega
theorem zg_rk31 {W : Nat → List Nat} {r : Nat} (h32 : r < 32) : zg_rk W r ≤ 31 := by
  by_cases c : r = 0
  · unfold zg_rk; rw [if_pos c]; exact Nat.le_refl _
  · have := zg_rk30 (W := W) (r := r) (by omega) h32; omega
/-- the grammar at rest -/
def zr_G (G W : Nat → List Nat) : Prop := zg_OK G W ∧ (∀ q, ¬ zy_sh G q) ∧ (∀ q, ¬ zy_ln G q) ∧ (W 0).length ≤ 64 ∧ (∀ t ∈ W 0, t < 16)
theorem zr_lv {G W : Nat → List Nat} (h : zr_G G W) {q r : Nat} (hr : r < 32) (hq : 16 + q ∈ G r) : 0 < q ∧ q < 32 ∧ G q ≠ [] ∧ 2 ≤ (G q).length := by
  rcases h.1.1 r hr _ hq with z | z
  · omega
  · rw [show 16 + q - 16 = q by omega] at z
    have t := List.length_pos_iff.mpr z.2.2
    have t2 := h.2.1 q
    refine ⟨by omega, by omega, z.2.2, ?_⟩
    apply Classical.byContradiction
    intro w
    exact t2 ⟨by omega, by omega, by omega⟩
theorem zr_lt {G W : Nat → List Nat} (h : zr_G G W) {q r : Nat} (h0 : 0 < r) (hr : r < 32) (hq : 16 + q ∈ G r) : (W q).length < (W r).length := by
  have t := zg_lt h.1 hr hq
  have t2 := h.2.1 r
  have t3 : (G r).length ≠ 1 := fun z => t2 ⟨h0, hr, z⟩
  have t4 : 0 < (G r).length := List.length_pos_of_mem hq
  omega
theorem zr_rk {G W : Nat → List Nat} (h : zr_G G W) {q r : Nat} (hr : r < 32) (hq : 16 + q ∈ G r) : zg_rk W q + 1 ≤ zg_rk W r := by
  obtain ⟨q0, q32, _, _⟩ := zr_lv h hr hq
  by_cases c : r = 0
  · have := zg_rk30 (W := W) q0 q32
    rw [c]
    unfold zg_rk at this ⊢
    rw [if_pos rfl]
    rw [if_neg (by omega)] at this ⊢
    omega
  · have hl := zr_lt h (by omega) hr hq
    unfold zg_rk
    rw [if_neg (by omega), if_neg c]
    refine zg_rkm 32 q ?_ q32 ?_
    · intro i _
      show (if 0 < i ∧ (W i).length < (W q).length then 1 else 0) ≤ if 0 < i ∧ (W i).length < (W r).length then 1 else 0
      by_cases d : 0 < i ∧ (W i).length < (W q).length
      · rw [if_pos d, if_pos ⟨d.1, by omega⟩]; exact Nat.le_refl _
      · rw [if_neg d]; omega
    · show (if 0 < q ∧ (W q).length < (W q).length then 1 else 0) + 1 ≤ if 0 < q ∧ (W q).length < (W r).length then 1 else 0
      rw [if_neg (by omega), if_pos ⟨q0, hl⟩]; exact Nat.le_refl _
/-- the stack, top first: (rule, nodes of its body from the current one on) -/
def zr_sk (B : Nat → List Nat) (sy : Nat → Nat) (W : Nat → List Nat) : List (Nat × List Nat) → Prop
  | [] => False
  | [s] => s.1 < 32 ∧ (∃ pre, B s.1 = pre ++ s.2) ∧ zg_rk W s.1 ≤ 31
  | s :: s' :: k => s.1 < 32 ∧ (∃ pre, B s.1 = pre ++ s.2) ∧ s.2 ≠ [] ∧ zg_rk W s.1 + (k.length + 1) ≤ 31 ∧ (∃ x t, s'.2 = x :: t ∧ sy x = 16 + s.1) ∧ zr_sk B sy W (s' :: k)
/-- the symbols behind the current places of the lower levels -/
def zr_rt (sy : Nat → Nat) : List (Nat × List Nat) → List Nat
  | [] => []
  | s :: k => s.2.tail.map sy ++ zr_rt sy k
def zr_rm (sy : Nat → Nat) : List (Nat × List Nat) → List Nat
  | [] => []
  | s :: k => s.2.map sy ++ zr_rt sy k
def zr_pa (pa : Nat → Nat) (base : Nat) : List (Nat × List Nat) → Prop
  | [] => True
  | s :: k => pa (base + k.length) = s.2.headD s.1 ∧ zr_pa pa base k
theorem zr_top {B W : Nat → List Nat} {sy : Nat → Nat} {s : Nat × List Nat} {k : List (Nat × List Nat)} (h : zr_sk B sy W (s :: k)) : s.1 < 32 ∧ (∃ pre, B s.1 = pre ++ s.2) ∧ zg_rk W s.1 + k.length ≤ 31 ∧ (k ≠ [] → s.2 ≠ [] ∧ zr_sk B sy W k) := by
  cases k with
  | nil => exact ⟨h.1, h.2.1, h.2.2, fun z => absurd rfl z⟩
  | cons s' k => exact ⟨h.1, h.2.1, h.2.2.2.1, fun _ => ⟨h.2.2.1, h.2.2.2.2.2⟩⟩
theorem zr_paf {pa pa' : Nat → Nat} {base : Nat} : ∀ (k : List (Nat × List Nat)), (∀ j, j < k.length → pa' (base + j) = pa (base + j)) → zr_pa pa base k → zr_pa pa' base k
  | [], _, _ => True.intro
  | s :: k, h, q => ⟨by rw [h _ (by rw [List.length_cons]; omega)]; exact q.1, zr_paf k (fun j hj => h j (by rw [List.length_cons]; omega)) q.2⟩
/-- a reader with a word left -/
def zr_RD (B : Nat → List Nat) (sy : Nat → Nat) (W : Nat → List Nat) (pa de : Nat → Nat) (slot : Nat) (stk : List (Nat × List Nat)) (wd : List Nat) : Prop :=
  zr_sk B sy W stk ∧ zr_pa pa (slot * 32) stk ∧ de slot + 1 = stk.length ∧ (zr_rm sy stk).flatMap (zg_w W) = wd
theorem zr_len {B W : Nat → List Nat} {sy : Nat → Nat} : ∀ (k : List (Nat × List Nat)), zr_sk B sy W k → k.length ≤ 32
  | [], _ => by simp
  | s :: k, h => by
    have := (zr_top h).2.2.1
    rw [List.length_cons]; omega
/-- behind the symbol at the top -/
def zr_av : List (Nat × List Nat) → List (Nat × List Nat)
  | [] => []
  | [s] => [(s.1, s.2.tail)]
  | s :: s' :: k => if s.2.tail = [] then zr_av (s' :: k) else (s.1, s.2.tail) :: s' :: k
theorem zr_rtl {sy : Nat → Nat} : ∀ (s : Nat × List Nat) (k : List (Nat × List Nat)), s.2 ≠ [] → (zr_rm sy (s :: k)).tail = zr_rt sy (s :: k) := by
  intro s k h
  show (s.2.map sy ++ zr_rt sy k).tail = s.2.tail.map sy ++ zr_rt sy k
  cases e : s.2 with
  | nil => exact absurd e h
  | cons x t => rfl
theorem zr_avr {B W : Nat → List Nat} {sy : Nat → Nat} : ∀ (k : List (Nat × List Nat)), zr_sk B sy W k → zr_rm sy (zr_av k) = zr_rt sy k
  | [], h => h.elim
  | [s], _ => by show s.2.tail.map sy ++ [] = s.2.tail.map sy ++ []; rfl
  | s :: s' :: k, h => by
    unfold zr_av
    by_cases c : s.2.tail = []
    · rw [if_pos c, zr_avr (s' :: k) h.2.2.2.2.2]
      show _ = s.2.tail.map sy ++ zr_rt sy (s' :: k)
      rw [c]; rfl
    · rw [if_neg c]; rfl
theorem zr_tl {B : Nat → List Nat} {r : Nat} {t : List Nat} (h : ∃ pre, B r = pre ++ t) : ∃ pre, B r = pre ++ t.tail := by
  obtain ⟨pre, e⟩ := h
  cases t with
  | nil => exact ⟨pre, e⟩
  | cons x t => exact ⟨pre ++ [x], by rw [e]; simp⟩
theorem zr_avs {B W : Nat → List Nat} {sy : Nat → Nat} : ∀ (k : List (Nat × List Nat)), zr_sk B sy W k → zr_sk B sy W (zr_av k)
  | [], h => h.elim
  | [s], h => ⟨h.1, zr_tl h.2.1, h.2.2⟩
  | s :: s' :: k, h => by
    unfold zr_av
    by_cases c : s.2.tail = []
    · rw [if_pos c]; exact zr_avs (s' :: k) h.2.2.2.2.2
    · rw [if_neg c]; exact ⟨h.1, zr_tl h.2.1, c, h.2.2.2.1, h.2.2.2.2.1, h.2.2.2.2.2⟩
/-- one symbol is opened -/
theorem zr_op {G B W : Nat → List Nat} {sy : Nat → Nat} (hG : ∀ r, r < 32 → G r = (B r).map sy) (h : zr_G G W) {s : Nat × List Nat} {k : List (Nat × List Nat)} {x q : Nat} {t : List Nat} (hk : zr_sk B sy W (s :: k)) (es : s.2 = x :: t) (hx : sy x = 16 + q) :
    q < 32 ∧ k.length + 1 ≤ 31 ∧ B q ≠ [] ∧ zr_sk B sy W ((q, B q) :: s :: k) ∧ (zr_rm sy ((q, B q) :: s :: k)).flatMap (zg_w W) = (zr_rm sy (s :: k)).flatMap (zg_w W) ∧ (zr_rm sy ((q, B q) :: s :: k)).length + 1 = (zr_rm sy (s :: k)).length + (G q).length := by
  obtain ⟨h1, ⟨pre, h2⟩, h3, _⟩ := zr_top hk
  have hm : 16 + q ∈ G s.1 := by
    rw [hG _ h1, h2, es, ← hx]
    exact List.mem_map_of_mem (by simp)
  obtain ⟨q0, q32, qn, _⟩ := zr_lv h h1 hm
  have hr := zr_rk h h1 hm
  have hB : B q ≠ [] := fun z => qn (by rw [hG q q32, z]; rfl)
  refine ⟨q32, by omega, hB, ⟨q32, ⟨[], rfl⟩, hB, (show zg_rk W q + (k.length + 1) ≤ 31 by omega), ⟨x, t, es, hx⟩, hk⟩, ?_, ?_⟩
  · show ((B q).map sy ++ (s.2.tail.map sy ++ zr_rt sy k)).flatMap (zg_w W) = (s.2.map sy ++ zr_rt sy k).flatMap (zg_w W)
    rw [es, List.map_cons, hx, ← hG q q32, List.flatMap_append, ← h.1.2.1 q q32]
    show W q ++ (t.map sy ++ zr_rt sy k).flatMap (zg_w W) = ((16 + q) :: (t.map sy ++ zr_rt sy k)).flatMap (zg_w W)
    rw [List.flatMap_cons, zg_wr]
  · show ((B q).map sy ++ (s.2.tail.map sy ++ zr_rt sy k)).length + 1 = (s.2.map sy ++ zr_rt sy k).length + (G q).length
    rw [es, hG q q32]
    simp only [List.length_append, List.length_map, List.tail_cons, List.length_cons]
    omega
end
section
/-! ===== X's readers ===== -/
def zr_fr (slot : Nat) (pa pa' de de' : Nat → Nat) : Prop := (∀ j, ¬ (slot * 32 ≤ j ∧ j < slot * 32 + 32) → pa' j = pa j) ∧ (∀ j, j ≠ slot → de' j = de j)
theorem zr_frt {slot : Nat} {pa pa' pa2 de de' de2 : Nat → Nat} (h1 : zr_fr slot pa pa' de de') (h2 : zr_fr slot pa' pa2 de' de2) : zr_fr slot pa pa2 de de2 :=
  ⟨fun j hj => (h2.1 j hj).trans (h1.1 j hj), fun j hj => (h2.2 j hj).trans (h1.2 j hj)⟩
theorem zr_RDf {B W : Nat → List Nat} {sy pa pa' de de' : Nat → Nat} {slot s' : Nat} {stk : List (Nat × List Nat)} {wd : List Nat} (h : zr_RD B sy W pa de s' stk wd) (hf : zr_fr slot pa pa' de de') (hs : s' ≠ slot) : zr_RD B sy W pa' de' s' stk wd := by
  obtain ⟨h1, h2, h3, h4⟩ := h
  have hl := zr_len stk h1
  refine ⟨h1, zr_paf stk (fun j hj => hf.1 _ ?_) h2, by rw [hf.2 _ hs]; exact h3, h4⟩
  omega
/-- what holds of X while it reads -/
def zr_C (G W B : Nat → List Nat) (sy na nb ow bl : Nat → Nat) (fn st : Nat) (F : List Nat) : Prop := zr_G G W ∧ zx_ST na nb ow bl fn st B F ∧ (∀ x, zx_U B x → sy x < 48) ∧ (∀ r, r < 32 → G r = (B r).map sy)
theorem zr_cx {G W B : Nat → List Nat} {sy na nb ow bl : Nat → Nat} {fn st : Nat} {F : List Nat} (h : zr_C G W B sy na nb ow bl fn st F) {s : Nat × List Nat} {k : List (Nat × List Nat)} {x : Nat} {t : List Nat} (hk : zr_sk B sy W (s :: k)) (es : s.2 = x :: t) :
    32 ≤ x ∧ x < 128 ∧ sy x < 48 ∧ na x = t.headD s.1 ∧ sy x ∈ G s.1 := by
  obtain ⟨h1, ⟨pre, h2⟩, _, _⟩ := zr_top hk
  rw [es] at h2
  have hm : x ∈ B s.1 := by rw [h2]; simp
  have q := (h.2.1.1 s.1 h1).2.2.1 x hm
  refine ⟨q.1, q.2.1, h.2.2.1 x ⟨s.1, h1, hm⟩, (zx_spl h.2.1 h1 h2).2.1, ?_⟩
  rw [h.2.2.2 s.1 h1]; exact List.mem_map_of_mem hm
theorem zr_i1 {s : Nat} : nI s * 32 = nI (s * 32) := by
  rw [show (32 : Int32) = nI 32 from rfl, pk_mul]
theorem zr_i2 {s j : Nat} : nI (s * 32) + nI j = nI (s * 32 + j) := nI_add _ _
section
variable {xc1 xc2 xc3 xc4 xc5 xc6 xrd xod xtd : Int32} {xli xle xsz xcu xfn xst xrt : Nat} {xlv xhr xlo xrT : Int64} {na nb sy ow bl sp fT lT sh sc sn sv dh dc dn dv pa de oc wa me qu wo co : Nat → Nat} {rR : Nat → Int64} {te : Nat → Int32}
theorem zr_open {post : SX → Prop} {G W B : Nat → List Nat} {F : List Nat} {slot x q : Nat} {s : Nat × List Nat} {k : List (Nat × List Nat)} {t wd : List Nat} (hs : slot < 3) (hC : zr_C G W B sy na nb ow bl xfn xst F) (h : zr_RD B sy W pa de slot (s :: k) wd) (es : s.2 = x :: t) (hx : sy x = 16 + q)
    (K : ∀ pa' de' : Nat → Nat, zr_RD B sy W pa' de' slot ((q, B q) :: s :: k) wd → zr_fr slot pa pa' de de' → post (xc1, xc2, xc3, xc4, xc5, xc6, nI xli, nI xle, nI xsz, nI xcu, nI xfn, nI xst, xlv, xhr, xlo, nI xrt, xrT, xrd, xod, xtd, zn_A na, zn_A nb, zn_A sy, zn_A ow, zn_A bl, zn_A sp, zn_A fT, zn_A lT, zn_A sh, zn_A sc, zn_A sn, zn_A sv, zn_A dh, zn_A dc, zn_A dn, zn_A dv, rR, zn_A pa', zn_A de', zn_A oc, zn_A wa, te, zn_A me, zn_A qu, zn_A wo, zn_A co)) : wpX_openReader post (xc1, xc2, xc3, xc4, xc5, xc6, nI xli, nI xle, nI xsz, nI xcu, nI xfn, nI xst, xlv, xhr, xlo, nI xrt, xrT, xrd, xod, xtd, zn_A na, zn_A nb, zn_A sy, zn_A ow, zn_A bl, zn_A sp, zn_A fT, zn_A lT, zn_A sh, zn_A sc, zn_A sn, zn_A sv, zn_A dh, zn_A dc, zn_A dn, zn_A dv, rR, zn_A pa, zn_A de, zn_A oc, zn_A wa, te, zn_A me, zn_A qu, zn_A wo, zn_A co) (nI slot) := by
  obtain ⟨h1, h2, h3, h4⟩ := h
  obtain ⟨o1, o2, o3, o4, o5, o6⟩ := zr_op hC.2.2.2 hC.1 h1 es hx
  obtain ⟨x32, x128, x48, _, _⟩ := zr_cx hC h1 es
  have hd : de slot = k.length := by rw [List.length_cons] at h3; omega
  have hp : pa (slot * 32 + k.length) = x := by have := h2.1; rw [es] at this; exact this
  have hnq : na q = (B q).headD q := (zx_lkh _ _ _ (hC.2.1.1 q o1).1).1
  unfold wpX_openReader
  refine nm_r zr_i1 ⟨vp_in_nI hs (by decide), nm_r (e' := nI k.length) (by rw [zn_rd (by omega), hd]) ?_⟩
  rw [zr_i2]
  refine ⟨vp_in_nI (by omega) (by decide), nm_r (e' := nI x) (by rw [zn_rd (by omega), hp]) ?_⟩
  refine pk_le x 31 (fun c => by omega) (fun _ => ⟨vp_in_nI x128 (by decide), ?_⟩)
  rw [zn_rd (by omega), nI_1 k.length, nI_1 (slot * 32 + k.length)]
  refine pk_lt (sy x) 16 (fun c => by omega) (fun _ => ?_)
  refine pk_lt (k.length + 1) 32 (fun _ => ⟨vp_in_nI x128 (by decide), ?_⟩) (fun c => by omega)
  rw [show (16 : Int32) = nI 16 from rfl, pk_sub (by omega), show sy x - 16 = q by omega]
  refine ⟨vp_in_nI (by omega) (by decide), vp_in_nI (by omega) (by decide), nm_r (e' := zn_A (zn_u pa (slot * 32 + k.length + 1) (na q))) ?_ ⟨vp_in_nI hs (by decide), nm_r (zn_up (by omega)) ?_⟩⟩
  · rw [zn_rd (by omega), zn_up (by omega)]
  · refine K _ _ ⟨o4, ⟨?_, zr_paf _ (fun j hj => ?_) h2⟩, ?_, o5.trans h4⟩ ⟨fun j hj => zn_un (by omega), fun j hj => zn_un hj⟩
    · show zn_u pa (slot * 32 + k.length + 1) (na q) (slot * 32 + (s :: k).length) = (B q).headD q
      rw [List.length_cons, show slot * 32 + (k.length + 1) = slot * 32 + k.length + 1 by omega, zn_us, hnq]
    · rw [List.length_cons] at hj
      exact zn_un (by omega)
    · rw [zn_us]; simp
theorem zr_75 {post : SX → Prop} {slot l v : Nat} (hs : slot < 3) (hl : l < 32) (K : post (xc1, xc2, xc3, xc4, xc5, xc6, nI xli, nI xle, nI xsz, nI xcu, nI xfn, nI xst, xlv, xhr, xlo, nI xrt, xrT, xrd, xod, xtd, zn_A na, zn_A nb, zn_A sy, zn_A ow, zn_A bl, zn_A sp, zn_A fT, zn_A lT, zn_A sh, zn_A sc, zn_A sn, zn_A sv, zn_A dh, zn_A dc, zn_A dn, zn_A dv, rR, zn_A (zn_u pa (slot * 32 + l) v), zn_A (zn_u de slot l), zn_A oc, zn_A wa, te, zn_A me, zn_A qu, zn_A wo, zn_A co)) : wX_advanceReader_75 post (nI slot) (nI (slot * 32)) (nI l) (nI v) xc1 xc2 xc3 xc4 xc5 xc6 (nI xli) (nI xle) (nI xsz) (nI xcu) (nI xfn) (nI xst) xlv xhr xlo (nI xrt) xrT xrd xod xtd (zn_A na) (zn_A nb) (zn_A sy) (zn_A ow) (zn_A bl) (zn_A sp) (zn_A fT) (zn_A lT) (zn_A sh) (zn_A sc) (zn_A sn) (zn_A sv) (zn_A dh) (zn_A dc) (zn_A dn) (zn_A dv) rR (zn_A pa) (zn_A de) (zn_A oc) (zn_A wa) te (zn_A me) (zn_A qu) (zn_A wo) (zn_A co) := by
  unfold wX_advanceReader_75
  rw [zr_i2]
  exact ⟨vp_in_nI (by omega) (by decide), nm_r (zn_up (by omega)) ⟨vp_in_nI hs (by decide), nm_r (zn_up (by omega)) K⟩⟩
theorem zr_advL {post : SX → Prop} {G W B : Nat → List Nat} {F : List Nat} {slot : Nat} (hs : slot < 3) (hC : zr_C G W B sy na nb ow bl xfn xst F) :
    ∀ (k : List (Nat × List Nat)) (s : Nat × List Nat) (up : Nat), zr_sk B sy W (s :: k) → zr_pa pa (slot * 32) (s :: k) → s.2 ≠ [] → up + k.length ≤ 31 →
    (∀ pa' de' : Nat → Nat, zr_pa pa' (slot * 32) (zr_av (s :: k)) → de' slot + 1 = (zr_av (s :: k)).length → zr_fr slot pa pa' de de' → post (xc1, xc2, xc3, xc4, xc5, xc6, nI xli, nI xle, nI xsz, nI xcu, nI xfn, nI xst, xlv, xhr, xlo, nI xrt, xrT, xrd, xod, xtd, zn_A na, zn_A nb, zn_A sy, zn_A ow, zn_A bl, zn_A sp, zn_A fT, zn_A lT, zn_A sh, zn_A sc, zn_A sn, zn_A sv, zn_A dh, zn_A dc, zn_A dn, zn_A dv, rR, zn_A pa', zn_A de', zn_A oc, zn_A wa, te, zn_A me, zn_A qu, zn_A wo, zn_A co)) →
    wX_advanceReader_30 post (nI slot) (nI (slot * 32)) xc1 xc2 xc3 xc4 xc5 xc6 (nI xli) (nI xle) (nI xsz) (nI xcu) (nI xfn) (nI xst) xlv xhr xlo (nI xrt) xrT xrd xod xtd (zn_A na) (zn_A nb) (zn_A sy) (zn_A ow) (zn_A bl) (zn_A sp) (zn_A fT) (zn_A lT) (zn_A sh) (zn_A sc) (zn_A sn) (zn_A sv) (zn_A dh) (zn_A dc) (zn_A dn) (zn_A dv) rR (zn_A pa) (zn_A de) (zn_A oc) (zn_A wa) te (zn_A me) (zn_A qu) (zn_A wo) (zn_A co) (k.length + 1) (nI k.length) (nI (s.2.tail.headD s.1)) (nI up) := by
  intro k
  induction k with
  | nil =>
    intro s up h1 h2 hne hup K
    have fin : wX_advanceReader_75 post (nI slot) (nI (slot * 32)) (nI 0) (nI (s.2.tail.headD s.1)) xc1 xc2 xc3 xc4 xc5 xc6 (nI xli) (nI xle) (nI xsz) (nI xcu) (nI xfn) (nI xst) xlv xhr xlo (nI xrt) xrT xrd xod xtd (zn_A na) (zn_A nb) (zn_A sy) (zn_A ow) (zn_A bl) (zn_A sp) (zn_A fT) (zn_A lT) (zn_A sh) (zn_A sc) (zn_A sn) (zn_A sv) (zn_A dh) (zn_A dc) (zn_A dn) (zn_A dv) rR (zn_A pa) (zn_A de) (zn_A oc) (zn_A wa) te (zn_A me) (zn_A qu) (zn_A wo) (zn_A co) := by
      refine zr_75 hs (by omega) (K _ _ ⟨?_, True.intro⟩ ?_ ⟨fun j hj => zn_un (by omega), fun j hj => zn_un hj⟩)
      · show zn_u pa (slot * 32 + 0) _ (slot * 32 + 0) = _
        rw [zn_us]
      · rw [zn_us]; rfl
    show wX_advanceReader_30 post (nI slot) (nI (slot * 32)) xc1 xc2 xc3 xc4 xc5 xc6 (nI xli) (nI xle) (nI xsz) (nI xcu) (nI xfn) (nI xst) xlv xhr xlo (nI xrt) xrT xrd xod xtd (zn_A na) (zn_A nb) (zn_A sy) (zn_A ow) (zn_A bl) (zn_A sp) (zn_A fT) (zn_A lT) (zn_A sh) (zn_A sc) (zn_A sn) (zn_A sv) (zn_A dh) (zn_A dc) (zn_A dn) (zn_A dv) rR (zn_A pa) (zn_A de) (zn_A oc) (zn_A wa) te (zn_A me) (zn_A qu) (zn_A wo) (zn_A co) (0 + 1) (nI 0) (nI (s.2.tail.headD s.1)) (nI up)
    rw [wX_advanceReader_30]
    refine br_f ?_ (br_c (fun _ => fin) (fun _ => br_t rfl fin))
    rw [show (32 : Int32) = nI 32 from rfl, nI_leI (by omega) (by simp at hup; omega)]; simp at hup; omega
  | cons s' k ih =>
    intro s up h1 h2 hne hup K
    rw [List.length_cons] at hup
    obtain ⟨t1, t2, t3, t4⟩ := zr_top h1
    rw [List.length_cons] at t3
    show wX_advanceReader_30 post (nI slot) (nI (slot * 32)) xc1 xc2 xc3 xc4 xc5 xc6 (nI xli) (nI xle) (nI xsz) (nI xcu) (nI xfn) (nI xst) xlv xhr xlo (nI xrt) xrT xrd xod xtd (zn_A na) (zn_A nb) (zn_A sy) (zn_A ow) (zn_A bl) (zn_A sp) (zn_A fT) (zn_A lT) (zn_A sh) (zn_A sc) (zn_A sn) (zn_A sv) (zn_A dh) (zn_A dc) (zn_A dn) (zn_A dv) rR (zn_A pa) (zn_A de) (zn_A oc) (zn_A wa) te (zn_A me) (zn_A qu) (zn_A wo) (zn_A co) ((k.length + 1) + 1) (nI (k.length + 1)) (nI (s.2.tail.headD s.1)) (nI up)
    rw [wX_advanceReader_30]
    refine br_f ?_ ?_
    · rw [show (32 : Int32) = nI 32 from rfl, nI_leI (by omega) (by omega)]; omega
    by_cases c : s.2.tail = []
    · have e0 : zr_av (s :: s' :: k) = zr_av (s' :: k) := by
        show (if s.2.tail = [] then zr_av (s' :: k) else _) = _
        rw [if_pos c]
      rw [e0] at K
      have hn : s.2.tail.headD s.1 = s.1 := by rw [c]; rfl
      rw [hn]
      have h1' : zr_sk B sy W (s' :: k) := h1.2.2.2.2.2
      obtain ⟨x', tl, es', hx'⟩ := h1.2.2.2.2.1
      obtain ⟨y32, y128, _, hny, _⟩ := zr_cx hC h1' es'
      have hp' : pa (slot * 32 + k.length) = x' := by have := h2.2.1; rw [es'] at this; exact this
      refine br_f ?_ (br_f (nI_ne0 (by omega) (by omega)) (nm_r (pk_m1 _) ?_))
      · rw [show (31 : Int32) = nI 31 from rfl, nI_ltI (by omega) (by omega)]; omega
      rw [zr_i2]
      refine ⟨vp_in_nI (by omega) (by decide), ?_⟩
      rw [zn_rd (by omega), hp']
      refine ⟨vp_in_nI y128 (by decide), nm_r (e' := nI (s'.2.tail.headD s'.1)) ?_ (nm_r (nI_1 up) ?_)⟩
      · rw [zn_rd (by omega), hny, es']; rfl
      · exact ih s' (up + 1) h1' h2.2 (by rw [es']; simp) (by omega) K
    · have e0 : zr_av (s :: s' :: k) = (s.1, s.2.tail) :: s' :: k := by
        show (if s.2.tail = [] then _ else _) = _
        rw [if_neg c]
      rw [e0] at K
      have hb : 32 ≤ s.2.tail.headD s.1 ∧ s.2.tail.headD s.1 < 128 := by
        cases e1 : s.2.tail with
        | nil => exact absurd e1 c
        | cons y l =>
          obtain ⟨pre, e2⟩ := t2
          have hm : y ∈ B s.1 := by
            rw [e2]
            have : y ∈ s.2.tail := by rw [e1]; simp
            exact List.mem_append_right _ (List.mem_of_mem_tail this)
          have q := (hC.2.1.1 s.1 t1).2.2.1 y hm
          exact ⟨q.1, q.2.1⟩
      refine br_t ?_ ?_
      · rw [show (31 : Int32) = nI 31 from rfl, nI_ltI (by omega) (by omega)]; omega
      · refine zr_75 hs (by omega) (K _ _ ⟨?_, zr_paf _ (fun j hj => zn_un ?_) h2.2⟩ ?_ ⟨fun j hj => zn_un (by omega), fun j hj => zn_un hj⟩)
        · show zn_u pa (slot * 32 + (k.length + 1)) _ (slot * 32 + (k.length + 1)) = _
          rw [zn_us]
        · rw [List.length_cons] at hj; omega
        · rw [zn_us]; simp
theorem zr_adv {post : SX → Prop} {G W B : Nat → List Nat} {F : List Nat} {slot : Nat} {stk : List (Nat × List Nat)} {wd : List Nat} (hs : slot < 3) (hC : zr_C G W B sy na nb ow bl xfn xst F) (h : zr_RD B sy W pa de slot stk wd) (hne : wd ≠ [])
    (K : ∀ pa' de' : Nat → Nat, zr_RD B sy W pa' de' slot (zr_av stk) ((zr_rt sy stk).flatMap (zg_w W)) → zr_fr slot pa pa' de de' → post (xc1, xc2, xc3, xc4, xc5, xc6, nI xli, nI xle, nI xsz, nI xcu, nI xfn, nI xst, xlv, xhr, xlo, nI xrt, xrT, xrd, xod, xtd, zn_A na, zn_A nb, zn_A sy, zn_A ow, zn_A bl, zn_A sp, zn_A fT, zn_A lT, zn_A sh, zn_A sc, zn_A sn, zn_A sv, zn_A dh, zn_A dc, zn_A dn, zn_A dv, rR, zn_A pa', zn_A de', zn_A oc, zn_A wa, te, zn_A me, zn_A qu, zn_A wo, zn_A co)) : wpX_advanceReader post (xc1, xc2, xc3, xc4, xc5, xc6, nI xli, nI xle, nI xsz, nI xcu, nI xfn, nI xst, xlv, xhr, xlo, nI xrt, xrT, xrd, xod, xtd, zn_A na, zn_A nb, zn_A sy, zn_A ow, zn_A bl, zn_A sp, zn_A fT, zn_A lT, zn_A sh, zn_A sc, zn_A sn, zn_A sv, zn_A dh, zn_A dc, zn_A dn, zn_A dv, rR, zn_A pa, zn_A de, zn_A oc, zn_A wa, te, zn_A me, zn_A qu, zn_A wo, zn_A co) (nI slot) := by
  obtain ⟨h1, h2, h3, h4⟩ := h
  cases stk with
  | nil => exact h1.elim
  | cons s k =>
    have hs2 : s.2 ≠ [] := by
      by_cases c : k = []
      · intro z
        apply hne
        rw [← h4, c]
        show (s.2.map sy ++ []).flatMap (zg_w W) = []
        rw [z]; rfl
      · exact ((zr_top h1).2.2.2 c).1
    obtain ⟨x, t, es⟩ : ∃ x t, s.2 = x :: t := by
      cases e : s.2 with
      | nil => exact absurd e hs2
      | cons x t => exact ⟨x, t, rfl⟩
    obtain ⟨x32, x128, _, hnx, _⟩ := zr_cx hC h1 es
    have hl := zr_len _ h1
    rw [List.length_cons] at h3 hl
    have hd : de slot = k.length := by omega
    have hp : pa (slot * 32 + k.length) = x := by have := h2.1; rw [es] at this; exact this
    unfold wpX_advanceReader
    refine nm_r zr_i1 ⟨vp_in_nI hs (by decide), nm_r (e' := nI k.length) (by rw [zn_rd (by omega), hd]) ?_⟩
    rw [zr_i2]
    refine ⟨vp_in_nI (by omega) (by decide), ?_⟩
    rw [zn_rd (by omega), hp]
    refine ⟨vp_in_nI x128 (by decide), nm_r (e' := nI (s.2.tail.headD s.1)) (by rw [zn_rd (by omega), hnx, es]; rfl) ⟨k.length + 1, ?_⟩⟩
    refine zr_advL hs hC k s 0 h1 h2 hs2 (by omega) ?_
    intro pa' de' q1 q2 q3
    exact K pa' de' ⟨zr_avs _ h1, q1, q2, by rw [zr_avr _ h1]⟩ q3
end
end
section
/-- what holds of rule 0 and goes down to a used rule holds of every live rule -/
theorem zr_up {G W : Nat → List Nat} (h : zr_G G W) {P : Nat → Prop} (h0 : P 0) (hs : ∀ q r, 0 < q → q < 32 → r < 32 → 16 + q ∈ G r → P r → P q) : ∀ q, q < 32 → G q ≠ [] → P q := by
  have key : ∀ (k q : Nat), q < 32 → G q ≠ [] → zx_su (fun r => (W r).length) 32 ≤ (W q).length + k → P q := by
    intro k
    induction k with
    | zero =>
      intro q hq hg hk
      by_cases c : q = 0
      · rw [c]; exact h0
      · obtain ⟨r, hr, hm⟩ := h.1.2.2.2.1 q (by omega) hq hg
        refine hs q r (by omega) hq hr hm ?_
        by_cases d : r = 0
        · rw [d]; exact h0
        · have t1 := zr_lt h (by omega) hr hm
          have t2 := zx_sul (f := fun r => (W r).length) 32 r hr
          have t3 : (W r).length ≤ zx_su (fun r => (W r).length) 32 := t2
          omega
    | succ k ih =>
      intro q hq hg hk
      by_cases c : q = 0
      · rw [c]; exact h0
      · obtain ⟨r, hr, hm⟩ := h.1.2.2.2.1 q (by omega) hq hg
        refine hs q r (by omega) hq hr hm ?_
        by_cases d : r = 0
        · rw [d]; exact h0
        · have t1 := zr_lt h (by omega) hr hm
          exact ih r hr (fun z => by rw [z] at hm; cases hm) (by omega)
  intro q hq hg
  exact key _ q hq hg (Nat.le_add_left _ _)
theorem zr_W0 {G W : Nat → List Nat} (h : zr_G G W) {r : Nat} (hr : r < 32) : (W r).length ≤ (W 0).length := by
  by_cases c : G r = []
  · rw [h.1.2.1 r hr, c]; exact Nat.zero_le _
  · refine zr_up h (P := fun r => (W r).length ≤ (W 0).length) (Nat.le_refl _) ?_ r hr c
    intro q r q0 q32 r32 hm hP
    have t := zg_lt h.1 r32 hm
    have t2 : 0 < (G r).length := List.length_pos_of_mem hm
    omega
theorem zr_wl {G W : Nat → List Nat} (h : zr_G G W) {r id : Nat} (hr : r < 32) (hid : id ∈ G r) : 1 ≤ (zg_w W id).length ∧ (zg_w W id).length ≤ 64 := by
  refine ⟨List.length_pos_iff.mpr (zg_wn h.1 hr hid), ?_⟩
  unfold zg_w
  by_cases c : id < 16
  · rw [if_pos c]; simp
  · rw [if_neg c]
    rcases h.1.1 r hr id hid with z | z
    · omega
    · have t1 := zr_W0 h (show id - 16 < 32 by omega)
      have t2 := h.2.2.2.1
      omega
section
variable {xc1 xc2 xc3 xc4 xc5 xc6 xrd xod xtd : Int32} {xli xle xsz xcu xfn xst xrt : Nat} {xlv xhr xlo xrT : Int64} {na nb sy ow bl sp fT lT sh sc sn sv dh dc dn dv pa de oc wa me qu wo co : Nat → Nat} {rR : Nat → Int64} {te : Nat → Int32}
theorem zr_readL {post : Int32 → SX → Prop} {G W B : Nat → List Nat} {F : List Nat} {slot t : Nat} {wd' : List Nat} (hs : slot < 3) (hC : zr_C G W B sy na nb ow bl xfn xst F)
    (K : ∀ (pa' de' : Nat → Nat) (stk' : List (Nat × List Nat)), zr_RD B sy W pa' de' slot stk' (t :: wd') → (zr_rt sy stk').flatMap (zg_w W) = wd' → zr_fr slot pa pa' de de' → post (nI t) (xc1, xc2, xc3, xc4, xc5, xc6, nI xli, nI xle, nI xsz, nI xcu, nI xfn, nI xst, xlv, xhr, xlo, nI xrt, xrT, xrd, xod, xtd, zn_A na, zn_A nb, zn_A sy, zn_A ow, zn_A bl, zn_A sp, zn_A fT, zn_A lT, zn_A sh, zn_A sc, zn_A sn, zn_A sv, zn_A dh, zn_A dc, zn_A dn, zn_A dv, rR, zn_A pa', zn_A de', zn_A oc, zn_A wa, te, zn_A me, zn_A qu, zn_A wo, zn_A co)) :
    ∀ (m i : Nat) (s : Nat × List Nat) (k : List (Nat × List Nat)) (pa' de' : Nat → Nat), k.length + m = 31 → i ≤ k.length → zr_RD B sy W pa' de' slot (s :: k) (t :: wd') → zr_fr slot pa pa' de de' →
      wX_readTerminal_7 post (nI slot) (nI (slot * 32)) (m + 1) (nI i) xc1 xc2 xc3 xc4 xc5 xc6 (nI xli) (nI xle) (nI xsz) (nI xcu) (nI xfn) (nI xst) xlv xhr xlo (nI xrt) xrT xrd xod xtd (zn_A na) (zn_A nb) (zn_A sy) (zn_A ow) (zn_A bl) (zn_A sp) (zn_A fT) (zn_A lT) (zn_A sh) (zn_A sc) (zn_A sn) (zn_A sv) (zn_A dh) (zn_A dc) (zn_A dn) (zn_A dv) rR (zn_A pa') (zn_A de') (zn_A oc) (zn_A wa) te (zn_A me) (zn_A qu) (zn_A wo) (zn_A co) := by
  intro m
  induction m with
  | zero =>
    intro i s k pa' de' hk hi h hf
    obtain ⟨h1, h2, h3, h4⟩ := id h
    have hs2 : s.2 ≠ [] := ((zr_top h1).2.2.2 (fun z => by rw [z] at hk; simp at hk)).1
    obtain ⟨x, tl, es⟩ : ∃ x tl, s.2 = x :: tl := by
      cases e : s.2 with
      | nil => exact absurd e hs2
      | cons x tl => exact ⟨x, tl, rfl⟩
    obtain ⟨x32, x128, x48, _, hxm⟩ := zr_cx hC h1 es
    rw [List.length_cons] at h3
    have hd : de' slot = k.length := by omega
    have hp : pa' (slot * 32 + k.length) = x := by have := h2.1; rw [es] at this; exact this
    have x16 : sy x < 16 := by
      apply Classical.byContradiction
      intro c
      have := (zr_op hC.2.2.2 hC.1 h1 es (q := sy x - 16) (by omega)).2.1
      omega
    have hw : sy x = t ∧ (zr_rt sy (s :: k)).flatMap (zg_w W) = wd' := by
      have e1 : zr_rm sy (s :: k) = sy x :: zr_rt sy (s :: k) := by
        show s.2.map sy ++ zr_rt sy k = sy x :: (s.2.tail.map sy ++ zr_rt sy k)
        rw [es]; rfl
      rw [e1, List.flatMap_cons] at h4
      have e2 : zg_w W (sy x) = [sy x] := by unfold zg_w; rw [if_pos x16]
      rw [e2] at h4
      exact List.cons.inj h4
    rw [wX_readTerminal_7]
    refine br_f ?_ ⟨vp_in_nI hs (by decide), ?_⟩
    · rw [show (32 : Int32) = nI 32 from rfl, nI_leI (by omega) (by omega)]; omega
    rw [zn_rd (by omega), hd, zr_i2]
    refine ⟨vp_in_nI (by omega) (by decide), nm_r (e' := nI x) (by rw [zn_rd (by omega), hp]) ?_⟩
    refine pk_lt 31 x (fun _ => ⟨vp_in_nI x128 (by decide), ?_⟩) (fun c => by omega)
    rw [zn_rd (by omega)]
    refine pk_le 16 (sy x) (fun c => by omega) (fun _ => ⟨vp_in_nI x128 (by decide), ?_⟩)
    rw [hw.1]
    exact K pa' de' (s :: k) h hw.2 hf
  | succ m ih =>
    intro i s k pa' de' hk hi h hf
    obtain ⟨h1, h2, h3, h4⟩ := id h
    have hs2 : s.2 ≠ [] := by
      by_cases c : k = []
      · intro z
        rw [c] at h4
        have e1 : zr_rm sy [s] = [] := by show s.2.map sy ++ [] = []; rw [z]; rfl
        rw [e1] at h4
        cases h4
      · exact ((zr_top h1).2.2.2 c).1
    obtain ⟨x, tl, es⟩ : ∃ x tl, s.2 = x :: tl := by
      cases e : s.2 with
      | nil => exact absurd e hs2
      | cons x tl => exact ⟨x, tl, rfl⟩
    obtain ⟨x32, x128, x48, _, hxm⟩ := zr_cx hC h1 es
    rw [List.length_cons] at h3
    have hd : de' slot = k.length := by omega
    have hp : pa' (slot * 32 + k.length) = x := by have := h2.1; rw [es] at this; exact this
    rw [wX_readTerminal_7]
    refine br_f ?_ ⟨vp_in_nI hs (by decide), ?_⟩
    · rw [show (32 : Int32) = nI 32 from rfl, nI_leI (by omega) (by omega)]; omega
    rw [zn_rd (by omega), hd, zr_i2]
    refine ⟨vp_in_nI (by omega) (by decide), nm_r (e' := nI x) (by rw [zn_rd (by omega), hp]) ?_⟩
    refine pk_lt 31 x (fun _ => ⟨vp_in_nI x128 (by decide), ?_⟩) (fun c => by omega)
    rw [zn_rd (by omega)]
    refine pk_le 16 (sy x) (fun c => ?_) (fun c => ⟨vp_in_nI x128 (by decide), ?_⟩)
    · refine zr_open (q := sy x - 16) hs hC h es (by omega) ?_
      intro pa2 de2 h2' hf2
      exact nm_r (nI_1 i) (ih (i + 1) (sy x - 16, B (sy x - 16)) (s :: k) pa2 de2 (by rw [List.length_cons]; omega) (by rw [List.length_cons]; omega) h2' (zr_frt hf hf2))
    · have hw : sy x = t ∧ (zr_rt sy (s :: k)).flatMap (zg_w W) = wd' := by
        have e1 : zr_rm sy (s :: k) = sy x :: zr_rt sy (s :: k) := by
          show s.2.map sy ++ zr_rt sy k = sy x :: (s.2.tail.map sy ++ zr_rt sy k)
          rw [es]; rfl
        rw [e1, List.flatMap_cons] at h4
        have e2 : zg_w W (sy x) = [sy x] := by unfold zg_w; rw [if_pos c]
        rw [e2] at h4
        exact List.cons.inj h4
      rw [hw.1]
      exact K pa' de' (s :: k) h hw.2 hf
theorem zr_read {post : Int32 → SX → Prop} {G W B : Nat → List Nat} {F : List Nat} {slot t : Nat} {wd' : List Nat} {stk : List (Nat × List Nat)} (hs : slot < 3) (hC : zr_C G W B sy na nb ow bl xfn xst F) (h : zr_RD B sy W pa de slot stk (t :: wd'))
    (K : ∀ (pa' de' : Nat → Nat) (stk' : List (Nat × List Nat)), zr_RD B sy W pa' de' slot stk' (t :: wd') → (zr_rt sy stk').flatMap (zg_w W) = wd' → zr_fr slot pa pa' de de' → post (nI t) (xc1, xc2, xc3, xc4, xc5, xc6, nI xli, nI xle, nI xsz, nI xcu, nI xfn, nI xst, xlv, xhr, xlo, nI xrt, xrT, xrd, xod, xtd, zn_A na, zn_A nb, zn_A sy, zn_A ow, zn_A bl, zn_A sp, zn_A fT, zn_A lT, zn_A sh, zn_A sc, zn_A sn, zn_A sv, zn_A dh, zn_A dc, zn_A dn, zn_A dv, rR, zn_A pa', zn_A de', zn_A oc, zn_A wa, te, zn_A me, zn_A qu, zn_A wo, zn_A co)) :
    wpX_readTerminal post (xc1, xc2, xc3, xc4, xc5, xc6, nI xli, nI xle, nI xsz, nI xcu, nI xfn, nI xst, xlv, xhr, xlo, nI xrt, xrT, xrd, xod, xtd, zn_A na, zn_A nb, zn_A sy, zn_A ow, zn_A bl, zn_A sp, zn_A fT, zn_A lT, zn_A sh, zn_A sc, zn_A sn, zn_A sv, zn_A dh, zn_A dc, zn_A dn, zn_A dv, rR, zn_A pa, zn_A de, zn_A oc, zn_A wa, te, zn_A me, zn_A qu, zn_A wo, zn_A co) (nI slot) := by
  have h1 := h.1
  cases stk with
  | nil => exact h1.elim
  | cons s k =>
    have hl := zr_len _ h1
    rw [List.length_cons] at hl
    unfold wpX_readTerminal
    refine nm_r zr_i1 ⟨31 - k.length + 1, ?_⟩
    exact zr_readL hs hC K (31 - k.length) 0 s k pa de (by omega) (Nat.zero_le _) h ⟨fun _ _ => rfl, fun _ _ => rfl⟩
/-- the levels below a body that is being entered -/
def zr_lo (B : Nat → List Nat) (sy : Nat → Nat) (W : Nat → List Nat) (r : Nat) : List (Nat × List Nat) → Prop
  | [] => True
  | s' :: k => (∃ x t, s'.2 = x :: t ∧ sy x = 16 + r) ∧ zr_sk B sy W (s' :: k)
theorem zr_mk {B W : Nat → List Nat} {sy : Nat → Nat} {r : Nat} {t : List Nat} {k : List (Nat × List Nat)} (hr : r < 32) (hp : ∃ pre, B r = pre ++ t) (hk : zg_rk W r + k.length ≤ 31) (hl : zr_lo B sy W r k) (hn : k ≠ [] → t ≠ []) : zr_sk B sy W ((r, t) :: k) := by
  cases k with
  | nil => exact ⟨hr, hp, hk⟩
  | cons s' k => exact ⟨hr, hp, hn (by simp), hk, hl.1, hl.2⟩
theorem zr_hop {post : SX → Prop} {J : Int32 → Int32 → Int32 → (Nat → Int32) → (Nat → Int32) → (Nat → Int32) → (Nat → Int32) → (Nat → Int32) → (Nat → Int32) → (Nat → Int32) → (Nat → Int32) → (Nat → Int32) → (Nat → Int32) → (Nat → Int32) → (Nat → Int32) → (Nat → Int32) → (Nat → Int32) → (Nat → Int32) → (Nat → Int32) → (Nat → Int64) → (Nat → Int32) → (Nat → Int32) → (Nat → Int32) → (Nat → Int32) → (Nat → Int32) → (Nat → Int32) → (Nat → Int32) → (Nat → Int32) → (Nat → Int32) → Prop}
    {G W B : Nat → List Nat} {F : List Nat} {slot r level : Nat} (hC : zr_C G W B sy na nb ow bl xfn xst F) (hSP : zx_SP G W sp fT lT) (hr : r < 32) :
    ∀ (t pre : List Nat) (hop rest : Nat), B r = pre ++ t → rest ≤ ((t.map sy).flatMap (zg_w W)).length → rest < 2 ^ 30 → hop + t.length ≤ 127 →
    (∀ (t' : List Nat) (rest' : Nat), (∃ pre', B r = pre' ++ t') → ((t'.map sy).flatMap (zg_w W)).drop rest' = ((t.map sy).flatMap (zg_w W)).drop rest → (t' = [] → rest' = 0) → (∀ x tl, t' = x :: tl → rest' < (zg_w W (sy x)).length) →
      wX_placeReader_97 post J (nI slot) (nI (slot * 32)) (nI (t'.headD r)) (nI rest') (nI level) xc1 xc2 xc3 xc4 xc5 xc6 (nI xli) (nI xle) (nI xsz) (nI xcu) (nI xfn) (nI xst) xlv xhr xlo (nI xrt) xrT xrd xod xtd (zn_A na) (zn_A nb) (zn_A sy) (zn_A ow) (zn_A bl) (zn_A sp) (zn_A fT) (zn_A lT) (zn_A sh) (zn_A sc) (zn_A sn) (zn_A sv) (zn_A dh) (zn_A dc) (zn_A dn) (zn_A dv) rR (zn_A pa) (zn_A de) (zn_A oc) (zn_A wa) te (zn_A me) (zn_A qu) (zn_A wo) (zn_A co)) →
    wX_placeReader_30 post J (nI slot) (nI (slot * 32)) (nI level) xc1 xc2 xc3 xc4 xc5 xc6 (nI xli) (nI xle) (nI xsz) (nI xcu) (nI xfn) (nI xst) xlv xhr xlo (nI xrt) xrT xrd xod xtd (zn_A na) (zn_A nb) (zn_A sy) (zn_A ow) (zn_A bl) (zn_A sp) (zn_A fT) (zn_A lT) (zn_A sh) (zn_A sc) (zn_A sn) (zn_A sv) (zn_A dh) (zn_A dc) (zn_A dn) (zn_A dv) rR (zn_A pa) (zn_A de) (zn_A oc) (zn_A wa) te (zn_A me) (zn_A qu) (zn_A wo) (zn_A co) (t.length + 1) (nI (t.headD r)) (nI rest) (nI hop) := by
  intro t
  induction t with
  | nil =>
    intro pre hop rest eB hrest hr30 hhop K
    have hr0 : rest = 0 := by simpa using hrest
    have fin := K [] rest ⟨pre, eB⟩ rfl (fun _ => hr0) (fun x tl e => by cases e)
    show wX_placeReader_30 post J (nI slot) (nI (slot * 32)) (nI level) xc1 xc2 xc3 xc4 xc5 xc6 (nI xli) (nI xle) (nI xsz) (nI xcu) (nI xfn) (nI xst) xlv xhr xlo (nI xrt) xrT xrd xod xtd (zn_A na) (zn_A nb) (zn_A sy) (zn_A ow) (zn_A bl) (zn_A sp) (zn_A fT) (zn_A lT) (zn_A sh) (zn_A sc) (zn_A sn) (zn_A sv) (zn_A dh) (zn_A dc) (zn_A dn) (zn_A dv) rR (zn_A pa) (zn_A de) (zn_A oc) (zn_A wa) te (zn_A me) (zn_A qu) (zn_A wo) (zn_A co) (0 + 1) (nI r) (nI rest) (nI hop)
    rw [wX_placeReader_30]
    refine br_c (fun _ => fin) (fun _ => br_t ?_ fin)
    rw [show (31 : Int32) = nI 31 from rfl, nI_leI (by omega) (by omega)]; omega
  | cons x t ih =>
    intro pre hop rest eB hrest hr30 hhop K
    have hm : x ∈ B r := by rw [eB]; simp
    have q := (hC.2.1.1 r hr).2.2.1 x hm
    have hnx := (zx_spl hC.2.1 hr eB).2.1
    have hid : sy x ∈ G r := by rw [hC.2.2.2 r hr]; exact List.mem_map_of_mem hm
    have hgid := hC.1.1.1 r hr _ hid
    have s48 := hC.2.2.1 x ⟨r, hr, hm⟩
    have hsp := (hSP _ hgid).1
    have hwl := zr_wl hC.1 hr hid
    rw [List.length_cons] at hhop
    show wX_placeReader_30 post J (nI slot) (nI (slot * 32)) (nI level) xc1 xc2 xc3 xc4 xc5 xc6 (nI xli) (nI xle) (nI xsz) (nI xcu) (nI xfn) (nI xst) xlv xhr xlo (nI xrt) xrT xrd xod xtd (zn_A na) (zn_A nb) (zn_A sy) (zn_A ow) (zn_A bl) (zn_A sp) (zn_A fT) (zn_A lT) (zn_A sh) (zn_A sc) (zn_A sn) (zn_A sv) (zn_A dh) (zn_A dc) (zn_A dn) (zn_A dv) rR (zn_A pa) (zn_A de) (zn_A oc) (zn_A wa) te (zn_A me) (zn_A qu) (zn_A wo) (zn_A co) ((t.length + 1) + 1) (nI x) (nI rest) (nI hop)
    rw [wX_placeReader_30]
    refine br_f ?_ (br_f ?_ ⟨vp_in_nI q.2.1 (by decide), ?_⟩)
    · rw [show (128 : Int32) = nI 128 from rfl, nI_leI (by omega) (by omega)]; omega
    · rw [show (31 : Int32) = nI 31 from rfl, nI_leI (by omega) (by omega)]; omega
    rw [zn_rd (by omega), zn_rd (by omega), hsp]
    refine ⟨vp_in_nI s48 (by decide), ?_⟩
    refine pk_le (zg_w W (sy x)).length rest (fun c => ⟨vp_in_nI q.2.1 (by decide), vp_in_nI s48 (by decide), nm_r (pk_sub c) ⟨vp_in_nI q.2.1 (by decide), nm_r (e' := nI (t.headD r)) (by rw [zn_rd (by omega), hnx]) (nm_r (nI_1 hop) ?_)⟩⟩) (fun c => ?_)
    · rw [List.map_cons, List.flatMap_cons, List.length_append] at hrest
      refine ih (pre ++ [x]) (hop + 1) (rest - (zg_w W (sy x)).length) (by rw [eB]; simp) (by omega) (by omega) (by omega) ?_
      intro t' rest' p1 p2 p3 p4
      refine K t' rest' p1 (p2.trans ?_) p3 p4
      rw [List.map_cons, List.flatMap_cons, List.drop_append, List.drop_eq_nil_of_le c, List.nil_append]
    · refine K (x :: t) rest ⟨pre, eB⟩ rfl (fun e => by cases e) ?_
      intro x' tl e
      rw [← (List.cons.inj e).1]; exact c
end
end
section
section
variable {xc1 xc2 xc3 xc4 xc5 xc6 xrd xod xtd : Int32} {xli xle xsz xcu xfn xst xrt : Nat} {xlv xhr xlo xrT : Int64} {na nb sy ow bl sp fT lT sh sc sn sv dh dc dn dv pa de oc wa me qu wo co : Nat → Nat} {rR : Nat → Int64} {te : Nat → Int32}
theorem zr_placeL {post : SX → Prop} {G W B : Nat → List Nat} {F : List Nat} {slot : Nat} {wd : List Nat} (hs : slot < 3) (hC : zr_C G W B sy na nb ow bl xfn xst F) (hSP : zx_SP G W sp fT lT)
    (K : ∀ (pa' de' : Nat → Nat) (stk' : List (Nat × List Nat)), zr_RD B sy W pa' de' slot stk' wd → zr_fr slot pa pa' de de' → post (xc1, xc2, xc3, xc4, xc5, xc6, nI xli, nI xle, nI xsz, nI xcu, nI xfn, nI xst, xlv, xhr, xlo, nI xrt, xrT, xrd, xod, xtd, zn_A na, zn_A nb, zn_A sy, zn_A ow, zn_A bl, zn_A sp, zn_A fT, zn_A lT, zn_A sh, zn_A sc, zn_A sn, zn_A sv, zn_A dh, zn_A dc, zn_A dn, zn_A dv, rR, zn_A pa', zn_A de', zn_A oc, zn_A wa, te, zn_A me, zn_A qu, zn_A wo, zn_A co)) :
    ∀ (m r rest : Nat) (k : List (Nat × List Nat)) (pa' de' : Nat → Nat), k.length + m = 31 → r < 32 → zg_rk W r + k.length ≤ 31 → zr_lo B sy W r k → zr_pa pa' (slot * 32) k → rest ≤ (W r).length → (k ≠ [] → rest < (W r).length) →
      (W r).drop rest ++ (zr_rt sy k).flatMap (zg_w W) = wd → zr_fr slot pa pa' de de' →
      wX_placeReader_20 post (nI slot) (nI (slot * 32)) xc1 xc2 xc3 xc4 xc5 xc6 (nI xli) (nI xle) (nI xsz) (nI xcu) (nI xfn) (nI xst) xlv xhr xlo (nI xrt) xrT xrd xod xtd (m + 1) (nI ((B r).headD r)) (nI rest) (nI k.length) (zn_A na) (zn_A nb) (zn_A sy) (zn_A ow) (zn_A bl) (zn_A sp) (zn_A fT) (zn_A lT) (zn_A sh) (zn_A sc) (zn_A sn) (zn_A sv) (zn_A dh) (zn_A dc) (zn_A dn) (zn_A dv) rR (zn_A pa') (zn_A de') (zn_A oc) (zn_A wa) te (zn_A me) (zn_A qu) (zn_A wo) (zn_A co) := by
  intro m
  induction m with
  | zero =>
    intro r rest k pa' de' hk hr hrk hlo hpa hrest hrest2 hwd hf
    have eW : W r = ((B r).map sy).flatMap (zg_w W) := by rw [← hC.2.2.2 r hr]; exact hC.1.1.2.1 r hr
    have h64 := zr_W0 hC.1 hr
    have hW64 := hC.1.2.2.2.1
    have hB64 : (B r).length ≤ 96 := by
      have t := zx_sul (f := fun q => (B q).length) 32 r hr
      rw [← hC.2.1.2.2.2.2.2.1] at t
      have t' : (B r).length ≤ xst := t
      have := hC.2.1.2.2.2.2.2.2.1
      omega
    rw [wX_placeReader_20]
    refine br_f ?_ ⟨(B r).length + 1, ?_⟩
    · rw [show (32 : Int32) = nI 32 from rfl, nI_leI (by omega) (by omega)]; omega
    refine zr_hop (slot := slot) (level := k.length) hC hSP hr (B r) [] 0 rest rfl (by rw [← eW]; exact hrest) (by omega) (by omega) ?_
    intro t' rest' p1 p2 p3 p4
    rw [← eW] at p2
    have hne : k ≠ [] → t' ≠ [] := by
      intro c z
      rw [z, List.map_nil, List.flatMap_nil, List.drop_nil] at p2
      have := List.drop_eq_nil_iff.mp p2.symm
      have := hrest2 c
      omega
    unfold wX_placeReader_97
    rw [zr_i2]
    refine ⟨vp_in_nI (by omega) (by decide), nm_r (zn_up (by omega)) ⟨vp_in_nI hs (by decide), nm_r (zn_up (by omega)) ?_⟩⟩
    have hfr : zr_fr slot pa (zn_u pa' (slot * 32 + k.length) (t'.headD r)) de (zn_u de' slot k.length) := zr_frt hf ⟨fun j hj => zn_un (by omega), fun j hj => zn_un hj⟩
    have fin : rest' = 0 → post (xc1, xc2, xc3, xc4, xc5, xc6, nI xli, nI xle, nI xsz, nI xcu, nI xfn, nI xst, xlv, xhr, xlo, nI xrt, xrT, xrd, xod, xtd, zn_A na, zn_A nb, zn_A sy, zn_A ow, zn_A bl, zn_A sp, zn_A fT, zn_A lT, zn_A sh, zn_A sc, zn_A sn, zn_A sv, zn_A dh, zn_A dc, zn_A dn, zn_A dv, rR, zn_A (zn_u pa' (slot * 32 + k.length) (t'.headD r)), zn_A (zn_u de' slot k.length), zn_A oc, zn_A wa, te, zn_A me, zn_A qu, zn_A wo, zn_A co) := by
      intro z
      refine K _ _ ((r, t') :: k) ⟨zr_mk hr p1 hrk hlo hne, ⟨zn_us, zr_paf _ (fun j hj => zn_un (by omega)) hpa⟩, by rw [zn_us]; simp, ?_⟩ hfr
      show (t'.map sy ++ zr_rt sy k).flatMap (zg_w W) = wd
      rw [z, List.drop_zero] at p2
      rw [List.flatMap_append, p2]; exact hwd
    have hr64 : rest' < 2 ^ 31 := by
      cases t' with
      | nil => have := p3 rfl; omega
      | cons x tl =>
        have := p4 x tl rfl
        obtain ⟨pre, e⟩ := p1
        have hid : sy x ∈ G r := by rw [hC.2.2.2 r hr, e]; exact List.mem_map_of_mem (by simp)
        have := (zr_wl hC.1 hr hid).2
        omega
    refine pk_eq rest' 0 (fun c => fin c) (fun c => ?_)
    exfalso
    cases t' with
    | nil => exact c (p3 rfl)
    | cons x tl =>
      obtain ⟨pre, e⟩ := p1
      have hid : sy x ∈ G r := by rw [hC.2.2.2 r hr, e]; exact List.mem_map_of_mem (by simp)
      by_cases d : sy x < 16
      · have := p4 x tl rfl
        unfold zg_w at this
        rw [if_pos d] at this
        simp at this
        exact c this
      · have hid' : 16 + (sy x - 16) ∈ G r := by rw [show 16 + (sy x - 16) = sy x by omega]; exact hid
        have := zr_rk hC.1 hr hid'
        omega
  | succ m ih =>
    intro r rest k pa' de' hk hr hrk hlo hpa hrest hrest2 hwd hf
    have eW : W r = ((B r).map sy).flatMap (zg_w W) := by rw [← hC.2.2.2 r hr]; exact hC.1.1.2.1 r hr
    have h64 := zr_W0 hC.1 hr
    have hW64 := hC.1.2.2.2.1
    have hB64 : (B r).length ≤ 96 := by
      have t := zx_sul (f := fun q => (B q).length) 32 r hr
      rw [← hC.2.1.2.2.2.2.2.1] at t
      have t' : (B r).length ≤ xst := t
      have := hC.2.1.2.2.2.2.2.2.1
      omega
    rw [wX_placeReader_20]
    refine br_f ?_ ⟨(B r).length + 1, ?_⟩
    · rw [show (32 : Int32) = nI 32 from rfl, nI_leI (by omega) (by omega)]; omega
    refine zr_hop (slot := slot) (level := k.length) hC hSP hr (B r) [] 0 rest rfl (by rw [← eW]; exact hrest) (by omega) (by omega) ?_
    intro t' rest' p1 p2 p3 p4
    rw [← eW] at p2
    have hne : k ≠ [] → t' ≠ [] := by
      intro c z
      rw [z, List.map_nil, List.flatMap_nil, List.drop_nil] at p2
      have := List.drop_eq_nil_iff.mp p2.symm
      have := hrest2 c
      omega
    unfold wX_placeReader_97
    rw [zr_i2]
    refine ⟨vp_in_nI (by omega) (by decide), nm_r (zn_up (by omega)) ⟨vp_in_nI hs (by decide), nm_r (zn_up (by omega)) ?_⟩⟩
    have hfr : zr_fr slot pa (zn_u pa' (slot * 32 + k.length) (t'.headD r)) de (zn_u de' slot k.length) := zr_frt hf ⟨fun j hj => zn_un (by omega), fun j hj => zn_un hj⟩
    have hpa2 : zr_pa (zn_u pa' (slot * 32 + k.length) (t'.headD r)) (slot * 32) ((r, t') :: k) := ⟨zn_us, zr_paf _ (fun j hj => zn_un (by omega)) hpa⟩
    have fin : rest' = 0 → post (xc1, xc2, xc3, xc4, xc5, xc6, nI xli, nI xle, nI xsz, nI xcu, nI xfn, nI xst, xlv, xhr, xlo, nI xrt, xrT, xrd, xod, xtd, zn_A na, zn_A nb, zn_A sy, zn_A ow, zn_A bl, zn_A sp, zn_A fT, zn_A lT, zn_A sh, zn_A sc, zn_A sn, zn_A sv, zn_A dh, zn_A dc, zn_A dn, zn_A dv, rR, zn_A (zn_u pa' (slot * 32 + k.length) (t'.headD r)), zn_A (zn_u de' slot k.length), zn_A oc, zn_A wa, te, zn_A me, zn_A qu, zn_A wo, zn_A co) := by
      intro z
      refine K _ _ ((r, t') :: k) ⟨zr_mk hr p1 hrk hlo hne, hpa2, by rw [zn_us]; simp, ?_⟩ hfr
      show (t'.map sy ++ zr_rt sy k).flatMap (zg_w W) = wd
      rw [z, List.drop_zero] at p2
      rw [List.flatMap_append, p2]; exact hwd
    cases t' with
    | nil => exact br_t (by rw [p3 rfl]; rfl) (fin (p3 rfl))
    | cons x tl =>
      obtain ⟨pre, e⟩ := id p1
      have hm : x ∈ B r := by rw [e]; simp
      have hid : sy x ∈ G r := by rw [hC.2.2.2 r hr]; exact List.mem_map_of_mem hm
      have hwl := (zr_wl hC.1 hr hid).2
      have hlt := p4 x tl rfl
      have q := (hC.2.1.1 r hr).2.2.1 x hm
      have s48 := hC.2.2.1 x ⟨r, hr, hm⟩
      simp only [List.headD_cons] at hpa2 hfr fin ⊢
      refine pk_eq rest' 0 (fun c => fin c) (fun c => ?_)
      refine br_f ?_ ⟨vp_in_nI q.2.1 (by decide), ?_⟩
      · rw [show (31 : Int32) = nI 31 from rfl, nI_leI (by omega) (by omega)]; omega
      have h16 : ¬ sy x < 16 := by
        intro d
        unfold zg_w at hlt
        rw [if_pos d] at hlt
        simp at hlt
        exact c hlt
      rw [zn_rd (by omega)]
      refine pk_le 16 (sy x) (fun _ => ⟨vp_in_nI q.2.1 (by decide), ?_⟩) (fun d => absurd d h16)
      generalize hq : sy x - 16 = q'
      have hid' : 16 + q' ∈ G r := by rw [show 16 + q' = sy x by omega]; exact hid
      have hlv := zr_lv hC.1 hr hid'
      have hrk' := zr_rk hC.1 hr hid'
      have hnq : na q' = (B q').headD q' := (zx_lkh _ _ _ (hC.2.1.1 q' hlv.2.1).1).1
      rw [show (16 : Int32) = nI 16 from rfl, pk_sub (by omega), hq]
      refine ⟨vp_in_nI (by omega) (by decide), nm_r (e' := nI ((B q').headD q')) (by rw [zn_rd (by omega), hnq]) (nm_r (nI_1 _) ?_)⟩
      have hwq : zg_w W (sy x) = W q' := by rw [show sy x = 16 + q' by omega, zg_wr]
      rw [hwq] at hlt
      have sk2 : zr_sk B sy W ((r, x :: tl) :: k) := zr_mk hr p1 hrk hlo hne
      refine ih q' rest' ((r, x :: tl) :: k) _ _ (by rw [List.length_cons]; omega) hlv.2.1 (by rw [List.length_cons]; omega) ⟨⟨x, tl, rfl, by omega⟩, sk2⟩ hpa2 (by omega) (fun _ => hlt) ?_ hfr
      rw [← hwd, ← p2]
      show (W q').drop rest' ++ (tl.map sy ++ zr_rt sy k).flatMap (zg_w W) = _
      rw [List.map_cons, List.flatMap_cons, List.flatMap_append, hwq, List.drop_append_of_le_length (by omega), List.append_assoc]
theorem zr_place {post : SX → Prop} {G W B : Nat → List Nat} {F : List Nat} {slot r pos : Nat} (hs : slot < 3) (hC : zr_C G W B sy na nb ow bl xfn xst F) (hSP : zx_SP G W sp fT lT) (hr : r < 32) (hpos : pos ≤ (W r).length)
    (K : ∀ (pa' de' : Nat → Nat) (stk' : List (Nat × List Nat)), zr_RD B sy W pa' de' slot stk' ((W r).drop pos) → zr_fr slot pa pa' de de' → post (xc1, xc2, xc3, xc4, xc5, xc6, nI xli, nI xle, nI xsz, nI xcu, nI xfn, nI xst, xlv, xhr, xlo, nI xrt, xrT, xrd, xod, xtd, zn_A na, zn_A nb, zn_A sy, zn_A ow, zn_A bl, zn_A sp, zn_A fT, zn_A lT, zn_A sh, zn_A sc, zn_A sn, zn_A sv, zn_A dh, zn_A dc, zn_A dn, zn_A dv, rR, zn_A pa', zn_A de', zn_A oc, zn_A wa, te, zn_A me, zn_A qu, zn_A wo, zn_A co)) : wpX_placeReader post (xc1, xc2, xc3, xc4, xc5, xc6, nI xli, nI xle, nI xsz, nI xcu, nI xfn, nI xst, xlv, xhr, xlo, nI xrt, xrT, xrd, xod, xtd, zn_A na, zn_A nb, zn_A sy, zn_A ow, zn_A bl, zn_A sp, zn_A fT, zn_A lT, zn_A sh, zn_A sc, zn_A sn, zn_A sv, zn_A dh, zn_A dc, zn_A dn, zn_A dv, rR, zn_A pa, zn_A de, zn_A oc, zn_A wa, te, zn_A me, zn_A qu, zn_A wo, zn_A co) (nI slot) (nI r) (nI pos) := by
  have hnr : na r = (B r).headD r := (zx_lkh _ _ _ (hC.2.1.1 r hr).1).1
  unfold wpX_placeReader
  refine nm_r zr_i1 ⟨vp_in_nI (by omega) (by decide), nm_r (e' := nI ((B r).headD r)) (by rw [zn_rd (by omega), hnr]) ⟨32, ?_⟩⟩
  exact zr_placeL hs hC hSP K 31 r pos [] pa de rfl hr (zg_rk31 hr) True.intro True.intro hpos (fun z => absurd rfl z) (by show _ ++ [] = _; rw [List.append_nil]) ⟨fun _ _ => rfl, fun _ _ => rfl⟩
end
end
section
/-! ===== the relation ===== -/
/-- multiplicities -/
def zr_OC (G : Nat → List Nat) (oc : Nat → Nat) : Prop := oc 0 = 1 ∧ ∀ q, 0 < q → q < 32 → oc q = zx_su (fun r => oc r * (G r).count (16 + q)) 32
/-- the text: cells of a body, rules numbered in the order of their first mention -/
def zt_o (O : List Nat) (q : Nat) : List Nat := if q ∈ O then O else O ++ [q]
def zt_row (O : List Nat) : List Nat → List Nat × List Int32
  | [] => (O, [])
  | id :: t => if id < 16 then ((zt_row O t).1, nI id :: (zt_row O t).2) else ((zt_row (zt_o O (id - 16)) t).1, nI (64 + (zt_o O (id - 16)).idxOf (id - 16)) :: (zt_row (zt_o O (id - 16)) t).2)
def zt_go (G : Nat → List Nat) : Nat → Nat → List Nat → List Int32
  | 0, _, _ => []
  | f + 1, k, O => if k < O.length then (zt_row O (G (O.getD k 0))).2 ++ (-2 : Int32) :: zt_go G f (k + 1) (zt_row O (G (O.getD k 0))).1 else []
def zr_TX (G : Nat → List Nat) (te : Nat → Int32) : Prop := ∀ i c, (zt_go G 32 0 [0])[i]? = some c → te i = c
/-- everything that holds between the calls -/
def zr_R (G W B : Nat → List Nat) (F : List Nat) (xc1 xc2 xc3 xc4 xc5 xc6 xrd xod xtd : Int32) (xli xle xsz xcu xfn xst xrt : Nat) (xlv xhr xlo xrT : Int64) (na nb sy ow bl sp fT lT sh sc sn sv dh dc dn dv pa de oc wa me qu wo co : Nat → Nat) (rR : Nat → Int64) (te : Nat → Int32) (ysq ybo ysi : Nat → Nat) : Prop :=
  zr_G G W ∧ zx_XG G B F xfn xst xrt xlv xhr xlo na nb sy ow bl sh sc sn sv dh dc dn dv rR xrT ∧ zx_SP G W sp fT lT ∧ sp 16 = xsz ∧ xsz = (W 0).length ∧ zy_R G ybo ysi ∧ (∀ i t, (W 0)[i]? = some t → ysq i = t) ∧
  (8 ≤ xli ∧ xli ≤ 64) ∧ (2 ≤ xle ∧ xle ≤ 16) ∧ xsz ≤ xli ∧ xcu ≤ xsz ∧
  (xrd = 0 ∨ (xrd = 1 ∧ ∃ stk, zr_RD B sy W pa de 2 stk ((W 0).drop xcu))) ∧ (xod = 0 ∨ (xod = 1 ∧ zr_OC G oc)) ∧ (xtd = 0 ∨ (xtd = 1 ∧ zr_TX G te))
def i_Rel (k : Nat) (u : SX) (v : SY) : Prop := ∃ (G W B : Nat → List Nat) (F : List Nat) (xc1 xc2 xc3 xc4 xc5 xc6 xrd xod xtd : Int32) (xli xle xsz xcu xfn xst xrt : Nat) (xlv xhr xlo xrT : Int64) (na nb sy ow bl sp fT lT sh sc sn sv dh dc dn dv pa de oc wa me qu wo co : Nat → Nat) (rR : Nat → Int64) (te : Nat → Int32) (ysq ybo ysi yor : Nat → Nat), u = (xc1, xc2, xc3, xc4, xc5, xc6, nI xli, nI xle, nI xsz, nI xcu, nI xfn, nI xst, xlv, xhr, xlo, nI xrt, xrT, xrd, xod, xtd, zn_A na, zn_A nb, zn_A sy, zn_A ow, zn_A bl, zn_A sp, zn_A fT, zn_A lT, zn_A sh, zn_A sc, zn_A sn, zn_A sv, zn_A dh, zn_A dc, zn_A dn, zn_A dv, rR, zn_A pa, zn_A de, zn_A oc, zn_A wa, te, zn_A me, zn_A qu, zn_A wo, zn_A co) ∧ v = (nI xli, nI xle, nI xsz, nI xcu, zn_A ysq, zn_A ybo, zn_A ysi, zn_A yor) ∧ zr_R G W B F xc1 xc2 xc3 xc4 xc5 xc6 xrd xod xtd xli xle xsz xcu xfn xst xrt xlv xhr xlo xrT na nb sy ow bl sp fT lT sh sc sn sv dh dc dn dv pa de oc wa me qu wo co rR te ysq ybo ysi
theorem i_up {k : Nat} {u : SX} {v : SY} (h : i_Rel k u v) : i_Rel (k + 3) u v := h
theorem zr_in {k : Nat} {G W B : Nat → List Nat} {F : List Nat} (xc1 xc2 xc3 xc4 xc5 xc6 xrd xod xtd : Int32) (xli xle xsz xcu xfn xst xrt : Nat) (xlv xhr xlo xrT : Int64) (na nb sy ow bl sp fT lT sh sc sn sv dh dc dn dv pa de oc wa me qu wo co : Nat → Nat) (rR : Nat → Int64) (te : Nat → Int32) {ysq ybo ysi yor : Nat → Nat} (h : zr_R G W B F xc1 xc2 xc3 xc4 xc5 xc6 xrd xod xtd xli xle xsz xcu xfn xst xrt xlv xhr xlo xrT na nb sy ow bl sp fT lT sh sc sn sv dh dc dn dv pa de oc wa me qu wo co rR te ysq ybo ysi) : i_Rel k (xc1, xc2, xc3, xc4, xc5, xc6, nI xli, nI xle, nI xsz, nI xcu, nI xfn, nI xst, xlv, xhr, xlo, nI xrt, xrT, xrd, xod, xtd, zn_A na, zn_A nb, zn_A sy, zn_A ow, zn_A bl, zn_A sp, zn_A fT, zn_A lT, zn_A sh, zn_A sc, zn_A sn, zn_A sv, zn_A dh, zn_A dc, zn_A dn, zn_A dv, rR, zn_A pa, zn_A de, zn_A oc, zn_A wa, te, zn_A me, zn_A qu, zn_A wo, zn_A co) (nI xli, nI xle, nI xsz, nI xcu, zn_A ysq, zn_A ybo, zn_A ysi, zn_A yor) :=
  ⟨G, W, B, F, xc1, xc2, xc3, xc4, xc5, xc6, xrd, xod, xtd, xli, xle, xsz, xcu, xfn, xst, xrt, xlv, xhr, xlo, xrT, na, nb, sy, ow, bl, sp, fT, lT, sh, sc, sn, sv, dh, dc, dn, dv, pa, de, oc, wa, me, qu, wo, co, rR, te, ysq, ybo, ysi, yor, rfl, rfl, h⟩
theorem zr_el {k : Nat} {u : SX} {v : SY} {P : SX → SY → Prop} (h : ∀ (G W B : Nat → List Nat) (F : List Nat) (xc1 xc2 xc3 xc4 xc5 xc6 xrd xod xtd : Int32) (xli xle xsz xcu xfn xst xrt : Nat) (xlv xhr xlo xrT : Int64) (na nb sy ow bl sp fT lT sh sc sn sv dh dc dn dv pa de oc wa me qu wo co : Nat → Nat) (rR : Nat → Int64) (te : Nat → Int32) (ysq ybo ysi yor : Nat → Nat), zr_R G W B F xc1 xc2 xc3 xc4 xc5 xc6 xrd xod xtd xli xle xsz xcu xfn xst xrt xlv xhr xlo xrT na nb sy ow bl sp fT lT sh sc sn sv dh dc dn dv pa de oc wa me qu wo co rR te ysq ybo ysi → P (xc1, xc2, xc3, xc4, xc5, xc6, nI xli, nI xle, nI xsz, nI xcu, nI xfn, nI xst, xlv, xhr, xlo, nI xrt, xrT, xrd, xod, xtd, zn_A na, zn_A nb, zn_A sy, zn_A ow, zn_A bl, zn_A sp, zn_A fT, zn_A lT, zn_A sh, zn_A sc, zn_A sn, zn_A sv, zn_A dh, zn_A dc, zn_A dn, zn_A dv, rR, zn_A pa, zn_A de, zn_A oc, zn_A wa, te, zn_A me, zn_A qu, zn_A wo, zn_A co) (nI xli, nI xle, nI xsz, nI xcu, zn_A ysq, zn_A ybo, zn_A ysi, zn_A yor)) (I : i_Rel k u v) : P u v :=
  Exists.elim I fun G I => Exists.elim I fun W I => Exists.elim I fun B I => Exists.elim I fun F I => Exists.elim I fun xc1 I => Exists.elim I fun xc2 I => Exists.elim I fun xc3 I => Exists.elim I fun xc4 I => Exists.elim I fun xc5 I => Exists.elim I fun xc6 I => Exists.elim I fun xrd I => Exists.elim I fun xod I => Exists.elim I fun xtd I => Exists.elim I fun xli I => Exists.elim I fun xle I => Exists.elim I fun xsz I => Exists.elim I fun xcu I => Exists.elim I fun xfn I => Exists.elim I fun xst I => Exists.elim I fun xrt I => Exists.elim I fun xlv I => Exists.elim I fun xhr I => Exists.elim I fun xlo I => Exists.elim I fun xrT I => Exists.elim I fun na I => Exists.elim I fun nb I => Exists.elim I fun sy I => Exists.elim I fun ow I => Exists.elim I fun bl I => Exists.elim I fun sp I => Exists.elim I fun fT I => Exists.elim I fun lT I => Exists.elim I fun sh I => Exists.elim I fun sc I => Exists.elim I fun sn I => Exists.elim I fun sv I => Exists.elim I fun dh I => Exists.elim I fun dc I => Exists.elim I fun dn I => Exists.elim I fun dv I => Exists.elim I fun pa I => Exists.elim I fun de I => Exists.elim I fun oc I => Exists.elim I fun wa I => Exists.elim I fun me I => Exists.elim I fun qu I => Exists.elim I fun wo I => Exists.elim I fun co I => Exists.elim I fun rR I => Exists.elim I fun te I => Exists.elim I fun ysq I => Exists.elim I fun ybo I => Exists.elim I fun ysi I => Exists.elim I fun yor I => by
    obtain ⟨hu, hv, hR⟩ := I
    rw [hu, hv]
    exact h G W B F xc1 xc2 xc3 xc4 xc5 xc6 xrd xod xtd xli xle xsz xcu xfn xst xrt xlv xhr xlo xrT na nb sy ow bl sp fT lT sh sc sn sv dh dc dn dv pa de oc wa me qu wo co rR te ysq ybo ysi yor hR
end
section
/-! ===== enter, both sides ===== -/
theorem zz_ap {G B : Nat → List Nat} {sy : Nat → Nat} {x t : Nat} (hG : ∀ r, r < 32 → G r = (B r).map sy) (hx : ¬ zx_U B x) : ∀ r, r < 32 → zn_u G 0 (G 0 ++ [t]) r = (zn_u B 0 (B 0 ++ [x]) r).map (zn_u sy x t) := by
  intro r hr
  by_cases c : r = 0
  · rw [c, zn_us, zn_us, List.map_append, zf_mu (fun z => hx ⟨0, by omega, z⟩), hG 0 (by omega)]
    show _ = _ ++ [zn_u sy x t x]
    rw [zn_us]
  · rw [zn_un c, zn_un c, zf_mu (fun z => hx ⟨r, hr, z⟩), hG r hr]
def zz_EX (G W G' W' : Nat → List Nat) (t : Nat) : Prop := ∀ (post : SX → Prop) (xc1 xc2 xc3 xc4 xc5 xc6 xrd xod xtd : Int32) (xli xle xsz xcu xfn xst xrt : Nat) (xlv xhr xlo xrT : Int64) (na nb sy ow bl sp fT lT sh sc sn sv dh dc dn dv pa de oc wa me qu wo co : Nat → Nat) (rR : Nat → Int64) (te : Nat → Int32) (B : Nat → List Nat) (F : List Nat), zx_XG G B F xfn xst xrt xlv xhr xlo na nb sy ow bl sh sc sn sv dh dc dn dv rR xrT → zx_SP G W sp fT lT → xsz = (W 0).length →
  (∀ (B' : Nat → List Nat) (F' : List Nat) (fn' st' rt' : Nat) (lv' hr' lo' rT' : Int64) (rR' : Nat → Int64) (na' nb' sy' ow' bl' sh' sc' sn' sv' dh' dc' dn' dv' wo' : Nat → Nat) (sp' fT' lT' : Nat → Nat), zx_XG G' B' F' fn' st' rt' lv' hr' lo' na' nb' sy' ow' bl' sh' sc' sn' sv' dh' dc' dn' dv' rR' rT' → zx_SP G' W' sp' fT' lT' → sp' 16 = xsz + 1 → post (xc1, xc2, xc3, xc4, xc5, xc6, nI xli, nI xle, nI (xsz + 1), nI xcu, nI fn', nI st', lv', hr', lo', nI rt', rT', 0, 0, 0, zn_A na', zn_A nb', zn_A sy', zn_A ow', zn_A bl', zn_A sp', zn_A fT', zn_A lT', zn_A sh', zn_A sc', zn_A sn', zn_A sv', zn_A dh', zn_A dc', zn_A dn', zn_A dv', rR', zn_A pa, zn_A de, zn_A oc, zn_A wa, te, zn_A me, zn_A qu, zn_A wo', zn_A co)) → wpX_enter post (xc1, xc2, xc3, xc4, xc5, xc6, nI xli, nI xle, nI xsz, nI xcu, nI xfn, nI xst, xlv, xhr, xlo, nI xrt, xrT, xrd, xod, xtd, zn_A na, zn_A nb, zn_A sy, zn_A ow, zn_A bl, zn_A sp, zn_A fT, zn_A lT, zn_A sh, zn_A sc, zn_A sn, zn_A sv, zn_A dh, zn_A dc, zn_A dn, zn_A dv, rR, zn_A pa, zn_A de, zn_A oc, zn_A wa, te, zn_A me, zn_A qu, zn_A wo, zn_A co) (nI t)
def zz_EY (G W G' : Nat → List Nat) (t : Nat) : Prop := ∀ (post : SY → Prop) (yca yal yln ycu : Nat) (ysq ybo ysi yor : Nat → Nat), zy_R G ybo ysi → yln = (W 0).length →
  (∀ bo' si' : Nat → Nat, zy_R G' bo' si' → post (nI yca, nI yal, nI (yln + 1), nI ycu, zn_A (zn_u ysq yln t), zn_A bo', zn_A si', zn_A yor)) → wpY_enter post (nI yca, nI yal, nI yln, nI ycu, zn_A ysq, zn_A ybo, zn_A ysi, zn_A yor) (nI t)
theorem zz_enter {G W : Nat → List Nat} (h : zr_G G W) {t : Nat} (ht : t < 16) (hl : (W 0).length < 64) : ∃ G' W', zr_G G' W' ∧ W' 0 = W 0 ++ [t] ∧ zz_EX G W G' W' t ∧ zz_EY G W G' t := by
  have hO := zg_OKe h.1 ht
  have h64 : (zn_u W 0 (W 0 ++ [t]) 0).length ≤ 64 := by rw [zn_us, List.length_append]; have : [t].length = 1 := rfl; omega
  have hs6 := hO.2.2.2.2.2
  have hs0 := h.1.2.2.2.2.2
  obtain ⟨G', W', o1, o2, o3, o4, o5, o6⟩ := zz_settle 128 _ _ (by omega) hO h64
  rw [zn_us] at o4 h64
  refine ⟨G', W', ⟨o1, o2, o3, by rw [o4]; exact h64, ?_⟩, o4, ?_, ?_⟩
  · rw [o4]
    intro y hy
    rcases List.mem_append.mp hy with z | z
    · exact h.2.2.2.2 y z
    · have : y = t := by simpa using z
      omega
  · intro post xc1 xc2 xc3 xc4 xc5 xc6 xrd xod xtd xli xle xsz xcu xfn xst xrt xlv xhr xlo xrT na nb sy ow bl sp fT lT sh sc sn sv dh dc dn dv pa de oc wa me qu wo co rR te B F hX hS hsz K
    obtain ⟨hXC, hG, hlv, hhr, hrt⟩ := hX
    have hst := zx_st hXC.1 hG
    unfold wpX_enter
    refine nm_r (nI_1 _) (nm_r (zn_upk) ?_)
    refine zx_append (id := t) (r := 0) (by omega) (by omega) (by omega) hXC ?_
    intro x fn1 F1 na1 nb1 ow1 bl1 sh1 sc1 sn1 sv1 dh1 dc1 dn1 dv1 lo1 rT1 rR1 hx hX1
    have hXG : zx_XG (zn_u G 0 (G 0 ++ [t])) (zn_u B 0 (B 0 ++ [x])) F1 fn1 (xst + 1) xrt xlv xhr lo1 na1 nb1 (zn_u sy x t) ow1 bl1 sh1 sc1 sn1 sv1 dh1 dc1 dn1 dv1 rR1 rT1 := by
      refine ⟨hX1, zz_ap hG hx, ?_, ?_, ?_⟩
      · intro i hi
        rw [hlv i hi]
        by_cases c : i = 0
        · exact ⟨fun _ => Or.inl c, fun _ => Or.inl c⟩
        · rw [zn_un c]
      · intro i hi
        rw [hhr i hi]
        by_cases c : i = 0
        · constructor
          · intro z; omega
          · intro z; omega
        · rw [zn_un c]
      · rw [hrt]
        unfold zg_R
        apply zx_suc
        intro i _
        by_cases c : i = 0
        · rw [if_pos c, if_pos c]
        · rw [if_neg c, if_neg c, zn_un c]
    have hSP : zx_SP (zn_u G 0 (G 0 ++ [t])) (zn_u W 0 (W 0 ++ [t])) (zn_u sp 16 (xsz + 1)) fT lT := by
      intro id hid
      have key : zg_id G id ∧ id ≠ 16 + 0 := by
        rcases hid with z | z
        · exact ⟨Or.inl z, by omega⟩
        · rw [zn_un (by omega)] at z
          exact ⟨Or.inr z, by omega⟩
      rw [zg_w' key.2, zn_un key.2]
      exact hS id key.1
    unfold wpX_settle
    refine ⟨257, ?_⟩
    refine o5 _ 0 257 _ _ _ _ _ _ _ _ _ _ _ _ _ _ _ _ _ _ _ _ _ _ _ _ _ _ _ _ _ _ _ _ _ _ _ _ _ _ _ _ _ _ _ _ _ _ _ _ (by omega) (by omega) hXG hSP ?_
    intro B' F' fn' st' rt' lv' hr' lo' rT' rR' na' nb' sy' ow' bl' sh' sc' sn' sv' dh' dc' dn' dv' wo' sp' fT' lT' hX' hS' h16
    rw [zn_us] at h16
    unfold wpX_forgetDerived
    exact K _ _ _ _ _ _ _ _ _ _ _ _ _ _ _ _ _ _ _ _ _ _ _ _ _ _ _ hX' hS' h16
  · intro post yca yal yln ycu ysq ybo ysi yor hR hln K
    obtain ⟨r1, r2, r3, r4⟩ := hR 0 (by omega)
    have hg0 : (G 0).length ≤ zg_s G := zx_sul (f := fun r => (G r).length) 32 0 (by omega)
    have hR1 : zy_R (zn_u G 0 (G 0 ++ [t])) (zn_u ybo (G 0).length (zy_cd t)) (zn_u ysi 0 ((G 0).length + 1)) := by
      intro q hq
      by_cases c : q = 0
      · rw [c, zn_us, zn_us]
        refine ⟨by simp, by rw [List.length_append]; have : [t].length = 1 := rfl; omega, ?_, ?_⟩
        · intro id hid
          rcases List.mem_append.mp hid with z | z
          · exact r3 id z
          · have : id = t := by simpa using z
            omega
        · have := zy_sn (x := t) r4
          rw [Nat.zero_mul, Nat.zero_add] at this
          exact this
      · rw [zn_un c, zn_un c]
        obtain ⟨g1, g2, g3, g4⟩ := hR q hq
        refine ⟨g1, g2, g3, zy_rf g4 ?_⟩
        intro i hi
        exact zn_un (by omega)
    have hcd : zy_cd t = t := by unfold zy_cd; rw [if_pos ht]
    rw [hcd] at hR1
    unfold wpY_enter
    refine ⟨vp_in_nI (by omega) (by decide), nm_r (zn_up (by omega)) (nm_r (nI_1 _) ?_)⟩
    have e0 : zn_A ysi 0 = nI (G 0).length := by show nI (ysi 0) = _; rw [r1]
    rw [e0]
    refine ⟨vp_in_nI (by omega) (by decide), nm_r (zn_up (by omega)) (nm_r (e' := zn_A (zn_u ysi 0 ((G 0).length + 1))) ?_ ⟨131, ?_⟩)⟩
    · rw [nI_1, zn_upk]
    · exact o6 post 0 131 _ _ _ _ _ _ _ _ (by omega) (by omega) hR1 K
end
section
/-! ===== the first state ===== -/
section
variable {xc1 xc2 xc3 xc4 xc5 xc6 xrd xod xtd : Int32} {xli xle xsz xcu xfn xst xrt : Nat} {xlv xhr xlo xrT : Int64} {na nb sy ow bl sp fT lT sh sc sn sv dh dc dn dv pa de oc wa me qu wo co : Nat → Nat} {rR : Nat → Int64} {te : Nat → Int32}
theorem zi_83 {post : SX → Prop} : ∀ (m i : Nat) (na nb ow bl : Nat → Nat), i + m = 32 → (∀ r, r < i → na r = r ∧ nb r = r ∧ bl r = 0) → (∀ j, 32 ≤ j → j < 127 → na j = j + 1) → na 127 = 0 → (∀ j, 32 ≤ j → j < 128 → nb j = 0) →
    (∀ na' nb' ow' bl' : Nat → Nat, (∀ r, r < 32 → na' r = r ∧ nb' r = r ∧ bl' r = 0) → (∀ j, 32 ≤ j → j < 127 → na' j = j + 1) → na' 127 = 0 → (∀ j, 32 ≤ j → j < 128 → nb' j = 0) → post (xc1, xc2, xc3, xc4, xc5, xc6, nI xli, nI xle, nI xsz, nI xcu, nI 32, nI 0, xlv, xhr, xlo, nI xrt, xrT, xrd, xod, xtd, zn_A na', zn_A nb', zn_A sy, zn_A ow', zn_A bl', zn_A sp, zn_A fT, zn_A lT, zn_A sh, zn_A sc, zn_A sn, zn_A sv, zn_A dh, zn_A dc, zn_A dn, zn_A dv, rR, zn_A pa, zn_A de, zn_A oc, zn_A wa, te, zn_A me, zn_A qu, zn_A wo, zn_A co)) →
    wX_resetNodes_83 post xc1 xc2 xc3 xc4 xc5 xc6 (nI xli) (nI xle) (nI xsz) (nI xcu) (nI xfn) (nI xst) xlv xhr xlo (nI xrt) xrT xrd xod xtd (m + 1) (nI i) (zn_A na) (zn_A nb) (zn_A sy) (zn_A ow) (zn_A bl) (zn_A sp) (zn_A fT) (zn_A lT) (zn_A sh) (zn_A sc) (zn_A sn) (zn_A sv) (zn_A dh) (zn_A dc) (zn_A dn) (zn_A dv) rR (zn_A pa) (zn_A de) (zn_A oc) (zn_A wa) te (zn_A me) (zn_A qu) (zn_A wo) (zn_A co) := by
  intro m
  induction m with
  | zero =>
    intro i na nb ow bl hi h1 h2 h3 h4 K
    have : i = 32 := by omega
    subst this
    rw [wX_resetNodes_83]
    exact br_t (show (31 : Int32) < nI 32 by decide) (K na nb ow bl h1 h2 h3 h4)
  | succ m ih =>
    intro i na nb ow bl hi h1 h2 h3 h4 K
    rw [wX_resetNodes_83]
    refine br_f ?_ ⟨vp_in_nI (by omega) (by decide), nm_r (zn_up (by omega)) ⟨vp_in_nI (by omega) (by decide), nm_r (zn_up (by omega)) ⟨vp_in_nI (by omega) (by decide), nm_r (zn_up (by omega)) ⟨vp_in_nI (by omega) (by decide), nm_r (zn_up (v := 0) (by omega)) (nm_r (nI_1 i) ?_)⟩⟩⟩⟩
    · rw [show (31 : Int32) = nI 31 from rfl, nI_ltI (by omega) (by omega)]; omega
    · refine ih (i + 1) _ _ _ _ (by omega) ?_ ?_ ?_ ?_ K
      · intro r hr
        by_cases c : r = i
        · rw [c, zn_us, zn_us, zn_us]; exact ⟨rfl, rfl, rfl⟩
        · rw [zn_un c, zn_un c, zn_un c]; exact h1 r (by omega)
      · intro j a b; rw [zn_un (by omega)]; exact h2 j a b
      · rw [zn_un (by omega)]; exact h3
      · intro j a b; rw [zn_un (by omega)]; exact h4 j a b
theorem zi_nodes {post : SX → Prop} : ∀ (m i : Nat) (na nb sy ow sn sv dn dv : Nat → Nat), i + m = 128 → (∀ j, j < i → na j = j + 1 ∧ nb j = 0) →
    (∀ na' nb' sy' ow' bl' sn' sv' dn' dv' : Nat → Nat, (∀ r, r < 32 → na' r = r ∧ nb' r = r ∧ bl' r = 0) → (∀ j, 32 ≤ j → j < 127 → na' j = j + 1) → na' 127 = 0 → (∀ j, 32 ≤ j → j < 128 → nb' j = 0) →
      post (xc1, xc2, xc3, xc4, xc5, xc6, nI xli, nI xle, nI xsz, nI xcu, nI 32, nI 0, xlv, xhr, xlo, nI xrt, xrT, xrd, xod, xtd, zn_A na', zn_A nb', zn_A sy', zn_A ow', zn_A bl', zn_A sp, zn_A fT, zn_A lT, zn_A sh, zn_A sc, zn_A sn', zn_A sv', zn_A dh, zn_A dc, zn_A dn', zn_A dv', rR, zn_A pa, zn_A de, zn_A oc, zn_A wa, te, zn_A me, zn_A qu, zn_A wo, zn_A co)) →
    wX_resetNodes_2 post xc1 xc2 xc3 xc4 xc5 xc6 (nI xli) (nI xle) (nI xsz) (nI xcu) (nI xfn) (nI xst) xlv xhr xlo (nI xrt) xrT xrd xod xtd (m + 1) (nI i) (zn_A na) (zn_A nb) (zn_A sy) (zn_A ow) (zn_A bl) (zn_A sp) (zn_A fT) (zn_A lT) (zn_A sh) (zn_A sc) (zn_A sn) (zn_A sv) (zn_A dh) (zn_A dc) (zn_A dn) (zn_A dv) rR (zn_A pa) (zn_A de) (zn_A oc) (zn_A wa) te (zn_A me) (zn_A qu) (zn_A wo) (zn_A co) := by
  intro m
  induction m with
  | zero =>
    intro i na nb sy ow sn sv dn dv hi h1 K
    have : i = 128 := by omega
    subst this
    rw [wX_resetNodes_2]
    refine br_t (show (128 : Int32) ≤ nI 128 by decide) (nm_r (zn_upk (v := 0)) ⟨33, ?_⟩)
    refine zi_83 32 0 _ _ _ _ (by omega) (by intro r hr; omega) ?_ ?_ ?_ (fun na' nb' ow' bl' q1 q2 q3 q4 => K na' nb' _ ow' bl' _ _ _ _ q1 q2 q3 q4)
    · intro j a b; rw [zn_un (by omega)]; exact (h1 j (by omega)).1
    · rw [zn_us]
    · intro j a b; exact (h1 j (by omega)).2
  | succ m ih =>
    intro i na nb sy ow sn sv dn dv hi h1 K
    have hin : vp_in (nI i) 128 := vp_in_nI (by omega) (by decide)
    rw [wX_resetNodes_2]
    refine br_f ?_ ⟨hin, nm_r (e' := zn_A (zn_u na i (i + 1))) ?_ ⟨hin, nm_r (zn_up (v := 0) (by omega)) ⟨hin, nm_r (zn_up (v := 0) (by omega)) ⟨hin, nm_r (zn_up (v := 0) (by omega)) ⟨hin, nm_r (zn_up (v := 0) (by omega)) ⟨hin, nm_r (zn_up (v := 0) (by omega)) ⟨hin, nm_r (zn_up (v := 0) (by omega)) ⟨hin, nm_r (zn_up (v := 0) (by omega)) (nm_r (nI_1 i) ?_)⟩⟩⟩⟩⟩⟩⟩⟩
    · rw [show (128 : Int32) = nI 128 from rfl, nI_leI (by omega) (by omega)]; omega
    · rw [nI_1 i, zn_up (by omega)]
    · refine ih (i + 1) _ _ _ _ _ _ _ _ (by omega) ?_ K
      intro j hj
      by_cases c : j = i
      · rw [c, zn_us, zn_us]; exact ⟨rfl, rfl⟩
      · rw [zn_un c, zn_un c]; exact h1 j (by omega)
theorem zi_94 {post : SX → Prop} : ∀ (m i : Nat) (dh dc : Nat → Nat), i + m = 2304 → (∀ k, k < i → dh k = 0 ∧ dc k = 0) →
    (∀ dh' dc' : Nat → Nat, (∀ k, k < 2304 → dh' k = 0 ∧ dc' k = 0) → post (xc1, xc2, xc3, xc4, xc5, xc6, nI xli, nI xle, nI xsz, nI xcu, nI xfn, nI xst, xlv, xhr, xlo, nI xrt, 0, xrd, xod, xtd, zn_A na, zn_A nb, zn_A sy, zn_A ow, zn_A bl, zn_A sp, zn_A fT, zn_A lT, zn_A sh, zn_A sc, zn_A sn, zn_A sv, zn_A dh', zn_A dc', zn_A dn, zn_A dv, rR, zn_A pa, zn_A de, zn_A oc, zn_A wa, te, zn_A me, zn_A qu, zn_A wo, zn_A co)) → wX_resetIndex_94 post xc1 xc2 xc3 xc4 xc5 xc6 (nI xli) (nI xle) (nI xsz) (nI xcu) (nI xfn) (nI xst) xlv xhr xlo (nI xrt) xrT xrd xod xtd (m + 1) (nI i) (zn_A na) (zn_A nb) (zn_A sy) (zn_A ow) (zn_A bl) (zn_A sp) (zn_A fT) (zn_A lT) (zn_A sh) (zn_A sc) (zn_A sn) (zn_A sv) (zn_A dh) (zn_A dc) (zn_A dn) (zn_A dv) rR (zn_A pa) (zn_A de) (zn_A oc) (zn_A wa) te (zn_A me) (zn_A qu) (zn_A wo) (zn_A co) := by
  intro m
  induction m with
  | zero =>
    intro i dh dc hi h1 K
    have : i = 2304 := by omega
    subst this
    rw [wX_resetIndex_94]
    exact br_t (show (2304 : Int32) ≤ nI 2304 by decide) (K dh dc h1)
  | succ m ih =>
    intro i dh dc hi h1 K
    rw [wX_resetIndex_94]
    refine br_f ?_ ⟨vp_in_nI (by omega) (by decide), nm_r (zn_up (v := 0) (by omega)) ⟨vp_in_nI (by omega) (by decide), nm_r (zn_up (v := 0) (by omega)) (nm_r (nI_1 i) ?_)⟩⟩
    · rw [show (2304 : Int32) = nI 2304 from rfl, nI_leI (by omega) (by omega)]; omega
    · refine ih (i + 1) _ _ (by omega) ?_ K
      intro k hk
      by_cases c : k = i
      · rw [c, zn_us, zn_us]; exact ⟨rfl, rfl⟩
      · rw [zn_un c, zn_un c]; exact h1 k (by omega)
theorem zi_index {post : SX → Prop} : ∀ (m i : Nat) (sp fT lT sh sc : Nat → Nat) (rR : Nat → Int64), i + m = 48 → (∀ k, k < i → sh k = 0 ∧ sc k = 0 ∧ rR k = 0 ∧ sp k = (if k < 16 then 1 else 0) ∧ (k < 16 → fT k = k ∧ lT k = k)) →
    (∀ (sp' fT' lT' sh' sc' dh' dc' : Nat → Nat) (rR' : Nat → Int64), (∀ k, k < 48 → sh' k = 0 ∧ sc' k = 0 ∧ rR' k = 0 ∧ sp' k = (if k < 16 then 1 else 0) ∧ (k < 16 → fT' k = k ∧ lT' k = k)) → (∀ k, k < 2304 → dh' k = 0 ∧ dc' k = 0) →
      post (xc1, xc2, xc3, xc4, xc5, xc6, nI xli, nI xle, nI xsz, nI xcu, nI xfn, nI xst, xlv, xhr, xlo, nI xrt, 0, xrd, xod, xtd, zn_A na, zn_A nb, zn_A sy, zn_A ow, zn_A bl, zn_A sp', zn_A fT', zn_A lT', zn_A sh', zn_A sc', zn_A sn, zn_A sv, zn_A dh', zn_A dc', zn_A dn, zn_A dv, rR', zn_A pa, zn_A de, zn_A oc, zn_A wa, te, zn_A me, zn_A qu, zn_A wo, zn_A co)) →
    wX_resetIndex_2 post xc1 xc2 xc3 xc4 xc5 xc6 (nI xli) (nI xle) (nI xsz) (nI xcu) (nI xfn) (nI xst) xlv xhr xlo (nI xrt) xrT xrd xod xtd (m + 1) (nI i) (zn_A na) (zn_A nb) (zn_A sy) (zn_A ow) (zn_A bl) (zn_A sp) (zn_A fT) (zn_A lT) (zn_A sh) (zn_A sc) (zn_A sn) (zn_A sv) (zn_A dh) (zn_A dc) (zn_A dn) (zn_A dv) rR (zn_A pa) (zn_A de) (zn_A oc) (zn_A wa) te (zn_A me) (zn_A qu) (zn_A wo) (zn_A co) := by
  intro m
  induction m with
  | zero =>
    intro i sp fT lT sh sc rR hi h1 K
    have : i = 48 := by omega
    subst this
    rw [wX_resetIndex_2]
    refine br_t (show (48 : Int32) ≤ nI 48 by decide) ⟨2305, ?_⟩
    exact zi_94 2304 0 _ _ (by omega) (by intro k hk; omega) (fun dh' dc' q => K _ _ _ _ _ dh' dc' _ h1 q)
  | succ m ih =>
    intro i sp fT lT sh sc rR hi h1 K
    have hin : vp_in (nI i) 48 := vp_in_nI (by omega) (by decide)
    have fin : ∀ (v a b : Nat) (sp1 fT1 : Nat → Nat), v = (if i < 16 then 1 else 0) → (i < 16 → a = i ∧ b = i) → sp1 = zn_u sp i v → fT1 = zn_u fT i a →
        wX_resetIndex_64 post (wX_resetIndex_2 post xc1 xc2 xc3 xc4 xc5 xc6 (nI xli) (nI xle) (nI xsz) (nI xcu) (nI xfn) (nI xst) xlv xhr xlo (nI xrt) xrT xrd xod xtd (m + 1)) (nI i) (nI b) (nI i) xc1 xc2 xc3 xc4 xc5 xc6 (nI xli) (nI xle) (nI xsz) (nI xcu) (nI xfn) (nI xst) xlv xhr xlo (nI xrt) xrT xrd xod xtd (zn_A na) (zn_A nb) (zn_A sy) (zn_A ow) (zn_A bl) (zn_A sp1) (zn_A fT1) (zn_A lT) (zn_A sh) (zn_A sc) (zn_A sn) (zn_A sv) (zn_A dh) (zn_A dc) (zn_A dn) (zn_A dv) rR (zn_A pa) (zn_A de) (zn_A oc) (zn_A wa) te (zn_A me) (zn_A qu) (zn_A wo) (zn_A co) := by
      intro v a b sp1 fT1 hv hab e1 e2
      subst e1 e2
      unfold wX_resetIndex_64
      refine ⟨hin, nm_r (zn_up (by omega)) ⟨hin, nm_r (zn_up (v := 0) (by omega)) ⟨hin, nm_r (zn_up (v := 0) (by omega)) ⟨hin, nm_e (nm_r (nI_1 i) ?_)⟩⟩⟩⟩
      rw [nI_clamp (show i < 2 ^ 31 by omega)]
      refine ih (i + 1) _ _ _ _ _ _ (by omega) ?_ K
      intro k hk
      by_cases c : k = i
      · rw [c, zn_us, zn_us, zn_us, zn_us, zn_us, pk_uLs]
        exact ⟨rfl, rfl, rfl, hv, hab⟩
      · rw [zn_un c, zn_un c, zn_un c, zn_un c, zn_un c, pk_uLn c]; exact h1 k (by omega)
    rw [wX_resetIndex_2]
    refine br_f ?_ ?_
    · rw [show (48 : Int32) = nI 48 from rfl, nI_leI (by omega) (by omega)]; omega
    refine pk_le 16 i (fun c => ?_) (fun c => ?_)
    · unfold wX_resetIndex_19 wX_resetIndex_34 wX_resetIndex_49
      refine br_t rfl ⟨hin, nm_r (zn_up (v := 0) (by omega)) (br_t rfl ⟨hin, nm_r (zn_up (v := 0) (by omega)) (br_t rfl ?_)⟩)⟩
      exact fin 0 0 0 _ _ (by rw [if_neg (by omega)]) (fun z => by omega) rfl rfl
    · unfold wX_resetIndex_19 wX_resetIndex_34 wX_resetIndex_49
      refine br_f (by decide) ⟨hin, nm_r (zn_up (v := 1) (by omega)) (br_f (by decide) ⟨hin, nm_r (zn_up (by omega)) (br_f (by decide) ?_)⟩)⟩
      exact fin 1 i i _ _ (by rw [if_pos c]) (fun _ => ⟨rfl, rfl⟩) rfl rfl
end
/-! the empty grammar -/
theorem zi_ok : zg_OK (fun _ => []) (fun _ => []) := by
  refine ⟨?_, fun _ _ => rfl, fun _ _ z => absurd rfl z, fun _ _ _ z => absurd rfl z, ?_, ?_⟩
  · intro r _ id hid; cases hid
  · intro r q _ _ z; cases z
  · decide
theorem zi_G : zr_G (fun _ => []) (fun _ => []) := by
  refine ⟨zi_ok, ?_, fun q z => z.2.2.1 rfl, by simp, by intro t ht; cases ht⟩
  intro q z
  have := z.2.2
  cases this
theorem zi_fc {na : Nat → Nat} (h : ∀ j, 32 ≤ j → j < 127 → na j = j + 1) (h2 : na 127 = 0) : ∀ (m i : Nat), 32 ≤ i → i + m = 128 → zx_fc na (List.range' i m)
  | 0, i, _, _ => True.intro
  | m + 1, i, hi, hm => by
    rw [List.range'_succ]
    refine ⟨?_, zi_fc h h2 m (i + 1) (by omega) (by omega)⟩
    cases m with
    | zero =>
      have : i = 127 := by omega
      rw [this, h2]; rfl
    | succ m =>
      rw [h i hi (by omega), List.range'_succ]; rfl
theorem zi_XG {na nb sy ow bl sh sc sn sv dh dc dn dv : Nat → Nat} {rR : Nat → Int64} (h1 : ∀ r, r < 32 → na r = r ∧ nb r = r ∧ bl r = 0) (h2 : ∀ j, 32 ≤ j → j < 127 → na j = j + 1) (h3 : na 127 = 0) (h4 : ∀ j, 32 ≤ j → j < 128 → nb j = 0)
    (h5 : ∀ k, k < 48 → sh k = 0 ∧ sc k = 0 ∧ rR k = 0) (h6 : ∀ k, k < 2304 → dh k = 0 ∧ dc k = 0) :
    zx_XG (fun _ => []) (fun _ => []) (List.range' 32 96) 32 0 0 1 0 0 na nb sy ow bl sh sc sn sv dh dc dn dv rR 0 := by
  have nU : ∀ x, ¬ zx_U (fun _ => []) x := by
    rintro x ⟨r, _, hm⟩
    cases hm
  refine ⟨⟨⟨?_, ?_, ?_, ?_, zi_fc h2 h3 96 32 (by omega) (by omega), by decide, by simp, ?_⟩, ?_, ?_, ?_⟩, fun _ _ => rfl, ?_, ?_, by decide⟩
  · intro r hr
    obtain ⟨q1, q2, q3⟩ := h1 r hr
    exact ⟨⟨q1, q2⟩, List.nodup_nil, (by intro x hx; cases hx), q3⟩
  · exact List.nodup_range'
  · intro x hx
    have := List.mem_range'_1.mp hx
    exact ⟨by omega, by omega, fun _ _ z => by cases z⟩
  · rfl
  · intro x hx
    by_cases c : x < 32
    · obtain ⟨q1, q2, _⟩ := h1 x c
      omega
    · constructor
      · by_cases d : x = 127
        · rw [d, h3]; decide
        · rw [h2 x (by omega) (by omega)]; omega
      · rw [h4 x (by omega) hx]; decide
  · intro x hx; exact absurd hx (nU x)
  · refine ⟨fun _ => [], ⟨?_, ?_⟩, ?_, ?_, ?_⟩
    · intro k hk
      obtain ⟨q1, q2, _⟩ := h5 k hk
      exact ⟨q1, q2, True.intro, List.nodup_nil, by intro x hx; cases hx⟩
    · intro j k _ _ x hx; cases hx
    · intro k _ x
      exact ⟨fun z => (by cases z), fun z => absurd z.1 (nU x)⟩
    · intro r h0 h32
      rw [zb_z, (h5 (16 + r) (by omega)).2.1]
      simp
    · intro i _ z; rw [zb_z] at z; cases z
  · refine ⟨fun _ => [], ⟨?_, ?_⟩, ?_, ?_, ?_, ?_, ?_⟩
    · intro k hk
      obtain ⟨q1, q2⟩ := h6 k hk
      exact ⟨q1, q2, True.intro, List.nodup_nil, by intro x hx; cases hx⟩
    · intro j k _ _ x hx; cases hx
    · intro a b _ _ x
      exact ⟨fun z => (by cases z), fun z => absurd z.1.1 (nU x)⟩
    · intro a b ha _
      rw [(h5 a ha).2.2, zb_z]
      constructor
      · intro z; cases z
      · intro z; have := z.1; simp at this
    · intro a ha i _ z
      rw [(h5 a ha).2.2, zb_z] at z; cases z
    · intro a ha
      rw [(h5 a ha).2.2, zb_z]
      constructor
      · intro z; cases z
      · intro z; exact absurd rfl z
    · intro i _ z; rw [zb_z] at z; cases z
  · have key : ∀ i, i < 64 → (zb_t 1 i = true ↔ i = 0) := by decide +kernel
    intro i hi
    rw [key i hi]
    constructor
    · exact Or.inl
    · rintro (z | z)
      · exact z
      · exact absurd rfl z.2
  · intro i hi
    rw [zb_z]
    constructor
    · intro z; cases z
    · intro z; have := z.2.2; cases this
section
variable {xc1 xc2 xc3 xc4 xc5 xc6 xrd xod xtd : Int32} {xli xle xsz xcu xfn xst xrt : Nat} {xlv xhr xlo xrT : Int64} {na nb sy ow bl sp fT lT sh sc sn sv dh dc dn dv pa de oc wa me qu wo co : Nat → Nat} {rR : Nat → Int64} {te : Nat → Int32}
theorem zi_reset {post : SX → Prop} (K : ∀ (na' nb' sy' ow' bl' sp' fT' lT' sh' sc' sn' sv' dh' dc' dn' dv' : Nat → Nat) (rR' : Nat → Int64),
      zx_XG (fun _ => []) (fun _ => []) (List.range' 32 96) 32 0 0 1 0 0 na' nb' sy' ow' bl' sh' sc' sn' sv' dh' dc' dn' dv' rR' 0 → zx_SP (fun _ => []) (fun _ => []) sp' fT' lT' → sp' 16 = 0 →
      post (xc1, xc2, xc3, xc4, xc5, xc6, nI xli, nI xle, nI 0, nI 0, nI 32, nI 0, 1, 0, 0, nI 0, 0, 0, 0, 0, zn_A na', zn_A nb', zn_A sy', zn_A ow', zn_A bl', zn_A sp', zn_A fT', zn_A lT', zn_A sh', zn_A sc', zn_A sn', zn_A sv', zn_A dh', zn_A dc', zn_A dn', zn_A dv', rR', zn_A pa, zn_A de, zn_A oc, zn_A wa, te, zn_A me, zn_A qu, zn_A wo, zn_A co)) :
    wpX_reset post (xc1, xc2, xc3, xc4, xc5, xc6, nI xli, nI xle, nI xsz, nI xcu, nI xfn, nI xst, xlv, xhr, xlo, nI xrt, xrT, xrd, xod, xtd, zn_A na, zn_A nb, zn_A sy, zn_A ow, zn_A bl, zn_A sp, zn_A fT, zn_A lT, zn_A sh, zn_A sc, zn_A sn, zn_A sv, zn_A dh, zn_A dc, zn_A dn, zn_A dv, rR, zn_A pa, zn_A de, zn_A oc, zn_A wa, te, zn_A me, zn_A qu, zn_A wo, zn_A co) := by
  unfold wpX_reset wpX_resetNodes
  refine ⟨129, ?_⟩
  refine zi_nodes 128 0 _ _ _ _ _ _ _ _ (by omega) (by intro j hj; omega) ?_
  intro na' nb' sy' ow' bl' sn' sv' dn' dv' q1 q2 q3 q4
  dsimp only
  unfold wpX_resetIndex
  refine ⟨49, ?_⟩
  refine zi_index 48 0 _ _ _ _ _ _ (by omega) (by intro k hk; omega) ?_
  intro sp' fT' lT' sh' sc' dh' dc' rR' p1 p2
  dsimp only
  unfold wpX_forgetDerived
  refine K na' nb' sy' ow' bl' sp' fT' lT' sh' sc' sn' sv' dh' dc' dn' dv' rR' (zi_XG q1 q2 q3 q4 (fun k hk => ⟨(p1 k hk).1, (p1 k hk).2.1, (p1 k hk).2.2.1⟩) p2) ?_ ?_
  · intro id hid
    rcases hid with z | z
    · obtain ⟨_, _, _, e1, e2⟩ := p1 id (by omega)
      have ew : zg_w (fun _ => []) id = [id] := by unfold zg_w; rw [if_pos z]
      rw [ew, e1, if_pos z]
      exact ⟨rfl, (e2 z).1, (e2 z).2⟩
    · exact absurd rfl z.2.2
  · have := (p1 16 (by omega)).2.2.2.1
    rw [this]; rfl
end
end
section
/-! ===== the owed statements: the constructors, clear, append, the getters ===== -/
theorem zi_c1 (k0 : Int32) : ∃ c, 8 ≤ c ∧ c ≤ 64 ∧ (∀ (post : Int32 → Prop) (u : SX), post (nI c) → wpX_clamp post u k0 8 64) ∧ (∀ (post : SY → Prop) (k1 : Int32), wY_init_61 post k1 (nI c) 0 0 0 0 (fun _ => 0) (fun _ => 0) (fun _ => 0) (fun _ => 0) → wpY_init post k0 k1) := by
  by_cases h1 : (8 : Int32) ≤ k0
  · by_cases h2 : k0 ≤ (64 : Int32)
    · obtain ⟨c, hc, e⟩ := nI_of2 (x := k0) (M := 64) (n := 64) (by decide) (Int32.not_lt.mpr (Int32.le_trans (by decide) h1)) h2
      have h8 : 8 ≤ c := by rw [e, show (8 : Int32) = nI 8 from rfl, nI_leI (by omega) (by omega)] at h1; exact h1
      refine ⟨c, h8, hc, ?_, ?_⟩
      · intro post u hp
        unfold wpX_clamp
        rw [e] at h1 h2 ⊢
        exact br_t h1 (br_t h2 hp)
      · intro post k1 hp
        unfold wpY_init
        rw [e] at h1 h2 ⊢
        exact br_t h1 (br_t h2 hp)
    · refine ⟨64, by decide, by decide, ?_, ?_⟩
      · intro post u hp
        unfold wpX_clamp
        exact br_t h1 (br_f h2 hp)
      · intro post k1 hp
        unfold wpY_init
        exact br_t h1 (br_f h2 hp)
  · refine ⟨8, by decide, by decide, ?_, ?_⟩
    · intro post u hp
      unfold wpX_clamp
      exact br_f h1 hp
    · intro post k1 hp
      unfold wpY_init
      exact br_f h1 hp
theorem zi_c2 (k1 : Int32) : ∃ c, 2 ≤ c ∧ c ≤ 16 ∧ (∀ (post : Int32 → Prop) (u : SX), post (nI c) → wpX_clamp post u k1 2 16) ∧ (∀ (post : SY → Prop) (z0 : Int32), post (z0, nI c, 0, 0, (fun _ => 0), (fun _ => 0), (fun _ => 0), (fun _ => 0)) → wY_init_61 post k1 z0 0 0 0 0 (fun _ => 0) (fun _ => 0) (fun _ => 0) (fun _ => 0)) := by
  by_cases h1 : (2 : Int32) ≤ k1
  · by_cases h2 : k1 ≤ (16 : Int32)
    · obtain ⟨c, hc, e⟩ := nI_of2 (x := k1) (M := 16) (n := 16) (by decide) (Int32.not_lt.mpr (Int32.le_trans (by decide) h1)) h2
      have h8 : 2 ≤ c := by rw [e, show (2 : Int32) = nI 2 from rfl, nI_leI (by omega) (by omega)] at h1; exact h1
      refine ⟨c, h8, hc, ?_, ?_⟩
      · intro post u hp
        unfold wpX_clamp
        rw [e] at h1 h2 ⊢
        exact br_t h1 (br_t h2 hp)
      · intro post z0 hp
        unfold wY_init_61
        rw [e] at h1 h2 ⊢
        exact br_t h1 (br_t h2 hp)
    · refine ⟨16, by decide, by decide, ?_, ?_⟩
      · intro post u hp
        unfold wpX_clamp
        exact br_t h1 (br_f h2 hp)
      · intro post z0 hp
        unfold wY_init_61
        exact br_t h1 (br_f h2 hp)
  · refine ⟨2, by decide, by decide, ?_, ?_⟩
    · intro post u hp
      unfold wpX_clamp
      exact br_f h1 hp
    · intro post z0 hp
      unfold wY_init_61
      exact br_f h1 hp
theorem zi_YR {bo si : Nat → Nat} (h : ∀ r, r < 32 → si r = 0) : zy_R (fun _ => []) bo si := by
  intro r hr
  exact ⟨h r hr, by simp, (by intro id hid; cases hid), (by intro i id hi; simp at hi)⟩
theorem i_vc0 (k0 : Int32) (k1 : Int32) : wpX_init (fun u => wpY_init (fun v => i_Rel 2 u v) k0 k1) k0 k1 := by
  obtain ⟨c, c8, c64, cX, cY⟩ := zi_c1 k0
  obtain ⟨d, d2, d16, dX, dY⟩ := zi_c2 k1
  unfold wpX_init
  refine cX _ _ (dX _ _ ?_)
  refine zi_reset (xc1 := 16) (xc2 := 48) (xc3 := 128) (xc4 := 2304) (xc5 := 32) (xc6 := 256) (xli := c) (xle := d) (xsz := 0) (xcu := 0) (xfn := 0) (xst := 0) (xlv := 0) (xhr := 0) (xlo := 0) (xrt := 0) (xrT := 0) (xrd := 0) (xod := 0) (xtd := 0)
    (na := fun _ => 0) (nb := fun _ => 0) (sy := fun _ => 0) (ow := fun _ => 0) (bl := fun _ => 0) (sp := fun _ => 0) (fT := fun _ => 0) (lT := fun _ => 0) (sh := fun _ => 0) (sc := fun _ => 0) (sn := fun _ => 0) (sv := fun _ => 0) (dh := fun _ => 0) (dc := fun _ => 0) (dn := fun _ => 0) (dv := fun _ => 0) (rR := fun _ => 0) (pa := fun _ => 0) (de := fun _ => 0) (oc := fun _ => 0) (wa := fun _ => 0) (te := fun _ => 0) (me := fun _ => 0) (qu := fun _ => 0) (wo := fun _ => 0) (co := fun _ => 0) ?_
  intro na' nb' sy' ow' bl' sp' fT' lT' sh' sc' sn' sv' dh' dc' dn' dv' rR' hX hS h16
  refine cY _ _ (dY _ _ ?_)
  exact zr_in (G := fun _ => []) (W := fun _ => []) (B := fun _ => []) (F := List.range' 32 96) (ysq := fun _ => 0) (ybo := fun _ => 0) (ysi := fun _ => 0) (yor := fun _ => 0) (xsz := 0) (xcu := 0) (xli := c) (xle := d)
    (xc1 := 16) (xc2 := 48) (xc3 := 128) (xc4 := 2304) (xc5 := 32) (xc6 := 256) (xfn := 32) (xst := 0) (xlv := 1) (xhr := 0) (xlo := 0) (xrt := 0) (xrT := 0) (xrd := 0) (xod := 0) (xtd := 0)
    (na := na') (nb := nb') (sy := sy') (ow := ow') (bl := bl') (sp := sp') (fT := fT') (lT := lT') (sh := sh') (sc := sc') (sn := sn') (sv := sv') (dh := dh') (dc := dc') (dn := dn') (dv := dv') (rR := rR') (pa := fun _ => 0) (de := fun _ => 0) (oc := fun _ => 0) (wa := fun _ => 0) (te := fun _ => 0) (me := fun _ => 0) (qu := fun _ => 0) (wo := fun _ => 0) (co := fun _ => 0)
    ⟨zi_G, hX, hS, h16, rfl, zi_YR (fun _ _ => rfl), (by intro i t h; simp at h), ⟨c8, c64⟩, ⟨d2, d16⟩, Nat.zero_le _, Nat.zero_le _, Or.inl rfl, Or.inl rfl, Or.inl rfl⟩
/-! clear -/
section
variable {yca yal yln ycu : Nat} {ysq ybo ysi yor : Nat → Nat}
theorem zi_clr {post : SY → Prop} : ∀ (m i : Nat) (si : Nat → Nat), i + m = 32 → (∀ r, r < i → si r = 0) → (∀ si' : Nat → Nat, (∀ r, r < 32 → si' r = 0) → post (nI yca, nI yal, nI yln, nI ycu, zn_A ysq, zn_A ybo, zn_A si', zn_A yor)) → wY_clear_12 post (nI yca) (nI yal) (nI yln) (nI ycu) (m + 1) (nI i) (zn_A ysq) (zn_A ybo) (zn_A si) (zn_A yor) := by
  intro m
  induction m with
  | zero =>
    intro i si hi h1 K
    have : i = 32 := by omega
    subst this
    rw [wY_clear_12]
    exact br_t (show (31 : Int32) < nI 32 by decide) (K si h1)
  | succ m ih =>
    intro i si hi h1 K
    rw [wY_clear_12]
    refine br_f ?_ ⟨vp_in_nI (by omega) (by decide), nm_r (zn_up (v := 0) (by omega)) (nm_r (nI_1 i) (ih (i + 1) _ (by omega) ?_ K))⟩
    · rw [show (31 : Int32) = nI 31 from rfl, nI_ltI (by omega) (by omega)]; omega
    · intro r hr
      by_cases c : r = i
      · rw [c, zn_us]
      · rw [zn_un c]; exact h1 r (by omega)
end
theorem i_vc_clear {k : Nat} {u : SX} {v : SY} (I : i_Rel k u v) (hk : k + 3 ≤ 1538) : wpX_clear (fun u' => wpY_clear (fun v' => i_Rel (k + 3) u' v') v) u := by
  refine zr_el (P := fun u v => wpX_clear (fun u' => wpY_clear (fun v' => i_Rel (k + 3) u' v') v) u) ?_ I
  intro G W B F xc1 xc2 xc3 xc4 xc5 xc6 xrd xod xtd xli xle xsz xcu xfn xst xrt xlv xhr xlo xrT na nb sy ow bl sp fT lT sh sc sn sv dh dc dn dv pa de oc wa me qu wo co rR te ysq ybo ysi yor hR
  obtain ⟨r1, r2, r3, r4, r5, r6, r7, r8, r9, r10, r11, r12, r13, r14⟩ := hR
  unfold wpX_clear
  refine zi_reset ?_
  intro na' nb' sy' ow' bl' sp' fT' lT' sh' sc' sn' sv' dh' dc' dn' dv' rR' hX hS h16
  unfold wpY_clear
  refine ⟨33, ?_⟩
  refine zi_clr (yln := 0) (ycu := 0) 32 0 _ (by omega) (by intro r hr; omega) ?_
  intro si' hsi
  exact zr_in (G := fun _ => []) (W := fun _ => []) (B := fun _ => []) (F := List.range' 32 96) (h := ⟨zi_G, hX, hS, h16, rfl, zi_YR hsi, (by intro i t h; simp at h), r8, r9, Nat.zero_le _, Nat.zero_le _, Or.inl rfl, Or.inl rfl, Or.inl rfl⟩)
theorem i_vc_capacity {k : Nat} {u : SX} {v : SY} (I : i_Rel k u v) (hk : k + 3 ≤ 1538) : wpX_capacity (fun r => wpY_capacity (fun r' => r' = r ∧ i_Rel (k + 3) u v) v) u := by
  refine zr_el (P := fun u v => wpX_capacity (fun r => wpY_capacity (fun r' => r' = r ∧ i_Rel (k + 3) u v) v) u) ?_ I
  intro G W B F xc1 xc2 xc3 xc4 xc5 xc6 xrd xod xtd xli xle xsz xcu xfn xst xrt xlv xhr xlo xrT na nb sy ow bl sp fT lT sh sc sn sv dh dc dn dv pa de oc wa me qu wo co rR te ysq ybo ysi yor hR
  exact ⟨rfl, zr_in (h := hR)⟩
theorem i_vc_alphabet {k : Nat} {u : SX} {v : SY} (I : i_Rel k u v) (hk : k + 3 ≤ 1538) : wpX_alphabet (fun r => wpY_alphabet (fun r' => r' = r ∧ i_Rel (k + 3) u v) v) u := by
  refine zr_el (P := fun u v => wpX_alphabet (fun r => wpY_alphabet (fun r' => r' = r ∧ i_Rel (k + 3) u v) v) u) ?_ I
  intro G W B F xc1 xc2 xc3 xc4 xc5 xc6 xrd xod xtd xli xle xsz xcu xfn xst xrt xlv xhr xlo xrT na nb sy ow bl sp fT lT sh sc sn sv dh dc dn dv pa de oc wa me qu wo co rR te ysq ybo ysi yor hR
  exact ⟨rfl, zr_in (h := hR)⟩
theorem i_vc_length {k : Nat} {u : SX} {v : SY} (I : i_Rel k u v) (hk : k + 3 ≤ 1538) : wpX_length (fun r => wpY_length (fun r' => r' = r ∧ i_Rel (k + 3) u v) v) u := by
  refine zr_el (P := fun u v => wpX_length (fun r => wpY_length (fun r' => r' = r ∧ i_Rel (k + 3) u v) v) u) ?_ I
  intro G W B F xc1 xc2 xc3 xc4 xc5 xc6 xrd xod xtd xli xle xsz xcu xfn xst xrt xlv xhr xlo xrT na nb sy ow bl sp fT lT sh sc sn sv dh dc dn dv pa de oc wa me qu wo co rR te ysq ybo ysi yor hR
  exact ⟨rfl, zr_in (h := hR)⟩
theorem i_vc_cursor {k : Nat} {u : SX} {v : SY} (I : i_Rel k u v) (hk : k + 3 ≤ 1538) : wpX_cursor (fun r => wpY_cursor (fun r' => r' = r ∧ i_Rel (k + 3) u v) v) u := by
  refine zr_el (P := fun u v => wpX_cursor (fun r => wpY_cursor (fun r' => r' = r ∧ i_Rel (k + 3) u v) v) u) ?_ I
  intro G W B F xc1 xc2 xc3 xc4 xc5 xc6 xrd xod xtd xli xle xsz xcu xfn xst xrt xlv xhr xlo xrT na nb sy ow bl sp fT lT sh sc sn sv dh dc dn dv pa de oc wa me qu wo co rR te ysq ybo ysi yor hR
  exact ⟨rfl, zr_in (h := hR)⟩
theorem i_vc_ruleCount {k : Nat} {u : SX} {v : SY} (I : i_Rel k u v) (hk : k + 3 ≤ 1538) : wpX_ruleCount (fun r => wpY_ruleCount (fun r' => r' = r ∧ i_Rel (k + 3) u v) v) u := by
  refine zr_el (P := fun u v => wpX_ruleCount (fun r => wpY_ruleCount (fun r' => r' = r ∧ i_Rel (k + 3) u v) v) u) ?_ I
  intro G W B F xc1 xc2 xc3 xc4 xc5 xc6 xrd xod xtd xli xle xsz xcu xfn xst xrt xlv xhr xlo xrT na nb sy ow bl sp fT lT sh sc sn sv dh dc dn dv pa de oc wa me qu wo co rR te ysq ybo ysi yor hR
  have h1 := hR.2.1.2.2.2.2
  have h2 := hR.2.2.2.2.2.1
  unfold wpX_ruleCount
  refine zy_rc h2 ⟨by rw [h1], zr_in (h := hR)⟩
theorem i_vc_textLength {k : Nat} {u : SX} {v : SY} (I : i_Rel k u v) (hk : k + 3 ≤ 1538) : wpX_textLength (fun r => wpY_textLength (fun r' => r' = r ∧ i_Rel (k + 3) u v) v) u := by
  refine zr_el (P := fun u v => wpX_textLength (fun r => wpY_textLength (fun r' => r' = r ∧ i_Rel (k + 3) u v) v) u) ?_ I
  intro G W B F xc1 xc2 xc3 xc4 xc5 xc6 xrd xod xtd xli xle xsz xcu xfn xst xrt xlv xhr xlo xrT na nb sy ow bl sp fT lT sh sc sn sv dh dc dn dv pa de oc wa me qu wo co rR te ysq ybo ysi yor hR
  have h1 := hR.2.1.2.2.2.2
  have h3 := zx_st hR.2.1.1.1 hR.2.1.2.1
  have h2 := hR.2.2.2.2.2.1
  unfold wpX_textLength
  refine zy_tl h2 ⟨?_, zr_in (h := hR)⟩
  rw [nI_add, nI_1, h1, h3]
  exact congrArg nI (by omega)
theorem i_vc_seek {k : Nat} {u : SX} {v : SY} (I : i_Rel k u v) (hk : k + 3 ≤ 1538) (v1 : Int32) : wpX_seek (fun r u' => wpY_seek (fun r' v' => r' = r ∧ i_Rel (k + 3) u' v') v v1) u v1 := by
  refine zr_el (P := fun u v => wpX_seek (fun r u' => wpY_seek (fun r' v' => r' = r ∧ i_Rel (k + 3) u' v') v v1) u v1) ?_ I
  intro G W B F xc1 xc2 xc3 xc4 xc5 xc6 xrd xod xtd xli xle xsz xcu xfn xst xrt xlv xhr xlo xrT na nb sy ow bl sp fT lT sh sc sn sv dh dc dn dv pa de oc wa me qu wo co rR te ysq ybo ysi yor hR
  obtain ⟨r1, r2, r3, r4, r5, r6, r7, r8, r9, r10, r11, r12, r13, r14⟩ := id hR
  unfold wpX_seek wpY_seek
  by_cases h0 : v1 < 0
  · exact br_t h0 (br_t h0 ⟨rfl, zr_in (h := hR)⟩)
  · refine br_f h0 ?_
    by_cases h1 : v1 ≤ nI xsz
    · refine br_t h1 (br_f h0 (br_t h1 ⟨rfl, ?_⟩))
      obtain ⟨j, hj, e⟩ := nI_of h0
      subst e
      rw [nI_leI hj (by omega)] at h1
      exact zr_in (h := ⟨r1, r2, r3, r4, r5, r6, r7, r8, r9, r10, h1, Or.inl rfl, r13, r14⟩)
    · exact br_f h1 (br_f h0 (br_f h1 ⟨rfl, zr_in (h := hR)⟩))
theorem i_vc_append {k : Nat} {u : SX} {v : SY} (I : i_Rel k u v) (hk : k + 3 ≤ 1538) (v1 : Int32) : wpX_append (fun r u' => wpY_append (fun r' v' => r' = r ∧ i_Rel (k + 3) u' v') v v1) u v1 := by
  refine zr_el (P := fun u v => wpX_append (fun r u' => wpY_append (fun r' v' => r' = r ∧ i_Rel (k + 3) u' v') v v1) u v1) ?_ I
  intro G W B F xc1 xc2 xc3 xc4 xc5 xc6 xrd xod xtd xli xle xsz xcu xfn xst xrt xlv xhr xlo xrT na nb sy ow bl sp fT lT sh sc sn sv dh dc dn dv pa de oc wa me qu wo co rR te ysq ybo ysi yor hR
  obtain ⟨r1, r2, r3, r4, r5, r6, r7, r8, r9, r10, r11, r12, r13, r14⟩ := id hR
  unfold wpX_append wpY_append
  by_cases h0 : v1 < 0
  · exact br_t h0 (br_t h0 ⟨rfl, zr_in (h := hR)⟩)
  refine br_f h0 ?_
  obtain ⟨j, hj, e⟩ := nI_of h0
  subst e
  refine pk_lt j xle (fun h1 => ?_) (fun h1 => br_f h0 (br_f (nI_nlt h1 hj) ⟨rfl, zr_in (h := hR)⟩))
  refine pk_lt xsz xli (fun h2 => ?_) (fun h2 => br_f h0 (br_t (nI_lt h1 (by omega)) (br_t (by rw [nI_eq (by omega) (by omega)]; omega) ⟨rfl, zr_in (h := hR)⟩)))
  obtain ⟨G', W', o1, o2, o3, o4⟩ := zz_enter r1 (t := j) (by omega) (by omega)
  refine o3 _ xc1 xc2 xc3 xc4 xc5 xc6 xrd xod xtd xli xle xsz xcu xfn xst xrt xlv xhr xlo xrT na nb sy ow bl sp fT lT sh sc sn sv dh dc dn dv pa de oc wa me qu wo co rR te B F r2 r3 r5 ?_
  intro B' F' fn' st' rt' lv' hr' lo' rT' rR' na' nb' sy' ow' bl' sh' sc' sn' sv' dh' dc' dn' dv' wo' sp' fT' lT' hX' hS' h16
  refine br_f h0 (br_t (nI_lt h1 (by omega)) (br_f (by rw [nI_eq (by omega) (by omega)]; omega) ?_))
  refine o4 _ _ _ _ _ _ _ _ _ r6 r5 ?_
  intro bo' si' hR'
  refine zy_rc hR' ⟨by rw [hX'.2.2.2.2], ?_⟩
  refine zr_in (h := ⟨o1, hX', hS', h16, ?_, hR', ?_, r8, r9, by omega, by omega, Or.inl rfl, Or.inl rfl, Or.inl rfl⟩)
  · rw [o2, List.length_append, r5]; rfl
  · intro i t ht
    rw [o2] at ht
    by_cases c : i = xsz
    · rw [c, r5, List.getElem?_append_right (Nat.le_refl _)] at ht
      have : j = t := by simpa using ht
      rw [c, zn_us, this]
    · rw [zn_un c]
      apply r7
      obtain ⟨w, _⟩ := List.getElem?_eq_some_iff.mp ht
      rw [List.length_append] at w
      have w2 : [j].length = 1 := rfl
      rw [List.getElem?_append_left (by omega)] at ht
      exact ht
end
section
/-! ===== live rules; ruleLength, ruleUses, ruleSymbol ===== -/
section
variable {xc1 xc2 xc3 xc4 xc5 xc6 xrd xod xtd : Int32} {xli xle xsz xcu xfn xst xrt : Nat} {xlv xhr xlo xrT : Int64} {na nb sy ow bl sp fT lT sh sc sn sv dh dc dn dv pa de oc wa me qu wo co : Nat → Nat} {rR : Nat → Int64} {te : Nat → Int32}
variable {yca yal yln ycu : Nat} {ysq ybo ysi yor : Nat → Nat}
theorem zv_live {G : Nat → List Nat} (hlv : ∀ i, i < 64 → (zb_t xlv i = true ↔ (i = 0 ∨ (i < 32 ∧ G i ≠ [])))) (hR : zy_R G ybo ysi) (v1 : Int32) :
    (∃ r, r < 32 ∧ v1 = nI r ∧ (r = 0 ∨ G r ≠ []) ∧ (∀ post : Int32 → Prop, post 1 → wpX_isLive post (xc1, xc2, xc3, xc4, xc5, xc6, nI xli, nI xle, nI xsz, nI xcu, nI xfn, nI xst, xlv, xhr, xlo, nI xrt, xrT, xrd, xod, xtd, zn_A na, zn_A nb, zn_A sy, zn_A ow, zn_A bl, zn_A sp, zn_A fT, zn_A lT, zn_A sh, zn_A sc, zn_A sn, zn_A sv, zn_A dh, zn_A dc, zn_A dn, zn_A dv, rR, zn_A pa, zn_A de, zn_A oc, zn_A wa, te, zn_A me, zn_A qu, zn_A wo, zn_A co) v1) ∧ (∀ post : Int32 → Prop, post 1 → wpY_names post (nI yca, nI yal, nI yln, nI ycu, zn_A ysq, zn_A ybo, zn_A ysi, zn_A yor) v1)) ∨
    ((∀ post : Int32 → Prop, post 0 → wpX_isLive post (xc1, xc2, xc3, xc4, xc5, xc6, nI xli, nI xle, nI xsz, nI xcu, nI xfn, nI xst, xlv, xhr, xlo, nI xrt, xrT, xrd, xod, xtd, zn_A na, zn_A nb, zn_A sy, zn_A ow, zn_A bl, zn_A sp, zn_A fT, zn_A lT, zn_A sh, zn_A sc, zn_A sn, zn_A sv, zn_A dh, zn_A dc, zn_A dn, zn_A dv, rR, zn_A pa, zn_A de, zn_A oc, zn_A wa, te, zn_A me, zn_A qu, zn_A wo, zn_A co) v1) ∧ (∀ post : Int32 → Prop, post 0 → wpY_names post (nI yca, nI yal, nI yln, nI ycu, zn_A ysq, zn_A ybo, zn_A ysi, zn_A yor) v1)) := by
  by_cases h0 : v1 < 0
  · right
    refine ⟨fun post hp => ?_, fun post hp => ?_⟩
    · unfold wpX_isLive
      exact br_t h0 hp
    · unfold wpY_names
      refine br_f (fun z => by rw [z] at h0; exact absurd h0 (by decide)) (br_t ?_ hp)
      exact Int32.lt_of_lt_of_le h0 (by decide)
  obtain ⟨j, hj, e⟩ := nI_of h0
  subst e
  by_cases h1 : 31 < j
  · right
    refine ⟨fun post hp => ?_, fun post hp => ?_⟩
    · unfold wpX_isLive
      exact br_f h0 (br_t (nI_lt (a := 31) h1 hj) hp)
    · unfold wpY_names
      exact br_f (nI_ne0 (by omega) hj) (br_f (nI_nlt (b := 1) (by omega) hj) (br_t (nI_lt (a := 31) h1 hj) hp))
  by_cases h2 : j = 0 ∨ G j ≠ []
  · left
    refine ⟨j, by omega, rfl, h2, fun post hp => ?_, fun post hp => ?_⟩
    · have b1 : zb_t xlv j = true := (hlv j (by omega)).mpr (h2.elim Or.inl (fun z => Or.inr ⟨by omega, z⟩))
      unfold wpX_isLive
      refine br_f h0 (br_f (nI_nlt (b := j) (a := 31) (by omega) (by omega)) (br_f ?_ hp))
      rw [zb_is (by omega), b1]
      decide
    · unfold wpY_names
      by_cases c : j = 0
      · exact br_t (by rw [c]; rfl) hp
      · have hg : G j ≠ [] := h2.elim (fun z => absurd z c) id
        have h3 := (hR j (by omega)).1
        refine br_f (nI_ne0 (by omega) hj) (br_f (nI_nlt (b := 1) (by omega) hj) (br_f (nI_nlt (b := j) (a := 31) (by omega) (by omega)) ⟨vp_in_nI (by omega) (by decide), ?_⟩))
        rw [zn_rd (by omega), h3]
        exact br_f (nI_nle (List.length_pos_iff.mpr hg) (by have := (hR j (by omega)).2.1; omega)) hp
  · right
    have hj0 : j ≠ 0 := fun z => h2 (Or.inl z)
    have hg : G j = [] := Classical.byContradiction fun z => h2 (Or.inr z)
    refine ⟨fun post hp => ?_, fun post hp => ?_⟩
    · have b1 : zb_t xlv j = false := ts_nt fun z => h2 (((hlv j (by omega)).mp z).elim Or.inl (fun w => Or.inr w.2))
      unfold wpX_isLive
      refine br_f h0 (br_f (nI_nlt (b := j) (a := 31) (by omega) (by omega)) (br_t ?_ hp))
      rw [zb_is (by omega), b1]
    · unfold wpY_names
      have h3 := (hR j (by omega)).1
      refine br_f (nI_ne0 (by omega) hj) (br_f (nI_nlt (b := 1) (by omega) hj) (br_f (nI_nlt (b := j) (a := 31) (by omega) (by omega)) ⟨vp_in_nI (by omega) (by decide), ?_⟩))
      rw [zn_rd (by omega), h3, hg]
      exact br_t (by decide) hp
end
theorem i_vc_ruleLength {k : Nat} {u : SX} {v : SY} (I : i_Rel k u v) (hk : k + 3 ≤ 1538) (v1 : Int32) : wpX_ruleLength (fun r => wpY_ruleLength (fun r' => r' = r ∧ i_Rel (k + 3) u v) v v1) u v1 := by
  refine zr_el (P := fun u v => wpX_ruleLength (fun r => wpY_ruleLength (fun r' => r' = r ∧ i_Rel (k + 3) u v) v v1) u v1) ?_ I
  intro G W B F xc1 xc2 xc3 xc4 xc5 xc6 xrd xod xtd xli xle xsz xcu xfn xst xrt xlv xhr xlo xrT na nb sy ow bl sp fT lT sh sc sn sv dh dc dn dv pa de oc wa me qu wo co rR te ysq ybo ysi yor hR
  obtain ⟨r1, r2, r3, r4, r5, r6, r7, r8, r9, r10, r11, r12, r13, r14⟩ := id hR
  unfold wpX_ruleLength wpY_ruleLength
  rcases zv_live r2.2.2.1 r6 v1 with ⟨r, hr, e, hl, hX, hY⟩ | ⟨hX, hY⟩
  · refine hX _ (br_f (by decide) ?_)
    subst e
    refine ⟨vp_in_nI hr (by decide), hY _ (br_f (by decide) ⟨vp_in_nI (by omega) (by decide), ?_, zr_in (h := hR)⟩)⟩
    rw [zn_rd (by omega), zn_rd (by omega), (r6 r hr).1, (r2.1.1.1 r hr).2.2.2, (zx_le r2.2.1 hr).1]
  · exact hX _ (br_t rfl (hY _ (br_t rfl ⟨rfl, zr_in (h := hR)⟩)))
theorem zv_u16 {G W : Nat → List Nat} (h : zg_OK G W) : zg_u G 16 = 0 := by
  have : zg_u G 16 = zx_su (fun i => if i = 0 then 0 else 0) 32 := by
    unfold zg_u
    apply zx_suc
    intro i hi
    have : (G i).count 16 = 0 := by
      apply List.count_eq_zero.mpr
      intro z
      rcases h.1 i hi 16 z with w | w <;> omega
    rw [this]
    by_cases c : i = 0
    · rw [if_pos c]
    · rw [if_neg c]
  rw [this, zx_sui 32 (by omega)]
theorem i_vc_ruleUses {k : Nat} {u : SX} {v : SY} (I : i_Rel k u v) (hk : k + 3 ≤ 1538) (v1 : Int32) : wpX_ruleUses (fun r => wpY_ruleUses (fun r' => r' = r ∧ i_Rel (k + 3) u v) v v1) u v1 := by
  refine zr_el (P := fun u v => wpX_ruleUses (fun r => wpY_ruleUses (fun r' => r' = r ∧ i_Rel (k + 3) u v) v v1) u v1) ?_ I
  intro G W B F xc1 xc2 xc3 xc4 xc5 xc6 xrd xod xtd xli xle xsz xcu xfn xst xrt xlv xhr xlo xrT na nb sy ow bl sp fT lT sh sc sn sv dh dc dn dv pa de oc wa me qu wo co rR te ysq ybo ysi yor hR
  obtain ⟨r1, r2, r3, r4, r5, r6, r7, r8, r9, r10, r11, r12, r13, r14⟩ := id hR
  unfold wpX_ruleUses wpY_ruleUses
  rcases zv_live r2.2.2.1 r6 v1 with ⟨r, hr, e, hl, hX, hY⟩ | ⟨hX, hY⟩
  · refine hX _ (br_f (by decide) ?_)
    subst e
    rw [show (16 : Int32) = nI 16 from rfl, nI_add]
    refine ⟨vp_in_nI (by omega) (by decide), hY _ (br_f (by decide) ?_)⟩
    rw [zn_rd (by omega), zx_cnt r2.1 r2.2.1 (by omega)]
    refine pk_eq r 0 (fun c => ⟨?_, zr_in (h := hR)⟩) (fun c => zy_uses hr r6 ⟨rfl, zr_in (h := hR)⟩)
    rw [c, zv_u16 r1.1]; rfl
  · exact hX _ (br_t rfl (hY _ (br_t rfl ⟨rfl, zr_in (h := hR)⟩)))
section
variable {xc1 xc2 xc3 xc4 xc5 xc6 xrd xod xtd : Int32} {xli xle xsz xcu xfn xst xrt : Nat} {xlv xhr xlo xrT : Int64} {na nb sy ow bl sp fT lT sh sc sn sv dh dc dn dv pa de oc wa me qu wo co : Nat → Nat} {rR : Nat → Int64} {te : Nat → Int32}
theorem zv_rs {post : Int32 → Prop} {B : Nat → List Nat} {F : List Nat} {r i x : Nat} (hS : zx_ST na nb ow bl xfn xst B F) (hr : r < 32) (hx : (B r)[i]? = some x) (hs : sy x < 48) (K : post (nI (zy_cd (sy x)))) :
    ∀ (t d : List Nat), B r = d ++ t → d.length ≤ i → wX_ruleSymbol_36 post (nI i) xc1 xc2 xc3 xc4 xc5 xc6 (nI xli) (nI xle) (nI xsz) (nI xcu) (nI xfn) (nI xst) xlv xhr xlo (nI xrt) xrT xrd xod xtd (zn_A na) (zn_A nb) (zn_A sy) (zn_A ow) (zn_A bl) (zn_A sp) (zn_A fT) (zn_A lT) (zn_A sh) (zn_A sc) (zn_A sn) (zn_A sv) (zn_A dh) (zn_A dc) (zn_A dn) (zn_A dv) rR (zn_A pa) (zn_A de) (zn_A oc) (zn_A wa) te (zn_A me) (zn_A qu) (zn_A wo) (zn_A co) (t.length + 1) (nI (t.headD r)) (nI d.length) := by
  have hi : i < 96 := by
    obtain ⟨w, _⟩ := List.getElem?_eq_some_iff.mp hx
    have t := zx_sul (f := fun q => (B q).length) 32 r hr
    rw [← hS.2.2.2.2.2.1] at t
    have t' : (B r).length ≤ xst := t
    have := hS.2.2.2.2.2.2.1
    omega
  intro t
  induction t with
  | nil =>
    intro d e hd
    obtain ⟨w, _⟩ := List.getElem?_eq_some_iff.mp hx
    rw [e, List.append_nil] at w
    omega
  | cons y t ih =>
    intro d e hd
    have hm : y ∈ B r := by rw [e]; simp
    have q := (hS.1 r hr).2.2.1 y hm
    have hny := (zx_spl hS hr e).2.1
    show wX_ruleSymbol_36 post (nI i) xc1 xc2 xc3 xc4 xc5 xc6 (nI xli) (nI xle) (nI xsz) (nI xcu) (nI xfn) (nI xst) xlv xhr xlo (nI xrt) xrT xrd xod xtd (zn_A na) (zn_A nb) (zn_A sy) (zn_A ow) (zn_A bl) (zn_A sp) (zn_A fT) (zn_A lT) (zn_A sh) (zn_A sc) (zn_A sn) (zn_A sv) (zn_A dh) (zn_A dc) (zn_A dn) (zn_A dv) rR (zn_A pa) (zn_A de) (zn_A oc) (zn_A wa) te (zn_A me) (zn_A qu) (zn_A wo) (zn_A co) ((t.length + 1) + 1) (nI y) (nI d.length)
    rw [wX_ruleSymbol_36]
    refine pk_le i d.length (fun c => ⟨vp_in_nI q.2.1 (by decide), nm_r (zn_rd (by omega)) ?_⟩) (fun c => ⟨vp_in_nI q.2.1 (by decide), nm_r (e' := nI (t.headD r)) (by rw [zn_rd (by omega), hny]) (nm_r (nI_1 _) ?_)⟩)
    · have : d.length = i := by omega
      have exy : y = x := by
        rw [e, ← this, zl_a1] at hx
        exact Option.some.inj hx
      rw [exy]
      refine pk_le 16 (sy x) (fun c2 => ?_) (fun c2 => ?_)
      · rw [show ((64 : Int32) + nI (sy x)) - 16 = nI (64 + sy x - 16) from by rw [zy_64, show (16 : Int32) = nI 16 from rfl, pk_sub (by omega)]]
        unfold zy_cd at K
        rw [if_neg (by omega)] at K
        rw [show 64 + sy x - 16 = sy x + 48 by omega]; exact K
      · unfold zy_cd at K
        rw [if_pos c2] at K
        exact K
    · rw [show d.length + 1 = (d ++ [y]).length by simp]
      exact ih (d ++ [y]) (by rw [e]; simp) (by simp; omega)
end
theorem i_vc_ruleSymbol {k : Nat} {u : SX} {v : SY} (I : i_Rel k u v) (hk : k + 3 ≤ 1538) (v1 : Int32) (v2 : Int32) : wpX_ruleSymbol (fun r => wpY_ruleSymbol (fun r' => r' = r ∧ i_Rel (k + 3) u v) v v1 v2) u v1 v2 := by
  refine zr_el (P := fun u v => wpX_ruleSymbol (fun r => wpY_ruleSymbol (fun r' => r' = r ∧ i_Rel (k + 3) u v) v v1 v2) u v1 v2) ?_ I
  intro G W B F xc1 xc2 xc3 xc4 xc5 xc6 xrd xod xtd xli xle xsz xcu xfn xst xrt xlv xhr xlo xrT na nb sy ow bl sp fT lT sh sc sn sv dh dc dn dv pa de oc wa me qu wo co rR te ysq ybo ysi yor hR
  obtain ⟨r1, r2, r3, r4, r5, r6, r7, r8, r9, r10, r11, r12, r13, r14⟩ := id hR
  unfold wpX_ruleSymbol wpY_ruleSymbol
  rcases zv_live r2.2.2.1 r6 v1 with ⟨r, hr, e, hl, hX, hY⟩ | ⟨hX, hY⟩
  · refine hX _ (br_f (by decide) ?_)
    subst e
    obtain ⟨g1, g2, g3, g4⟩ := r6 r hr
    have hbl : bl r = (G r).length := by rw [(r2.1.1.1 r hr).2.2.2, (zx_le r2.2.1 hr).1]
    by_cases h0 : v2 < 0
    · exact br_t h0 (hY _ (br_f (by decide) (br_t h0 ⟨rfl, zr_in (h := hR)⟩)))
    · refine br_f h0 ⟨vp_in_nI hr (by decide), ?_⟩
      obtain ⟨i, hi, e⟩ := nI_of h0
      subst e
      rw [zn_rd (by omega), hbl]
      refine pk_lt i (G r).length (fun c => ⟨vp_in_nI (by omega) (by decide), nm_r (e' := nI ((B r).headD r)) (by rw [zn_rd (by omega), (zx_lkh _ _ _ (r2.1.1.1 r hr).1).1]) ⟨(B r).length + 1, ?_⟩⟩) (fun c => hY _ (br_f (by decide) (br_f h0 ⟨vp_in_nI (by omega) (by decide), ?_⟩)))
      · obtain ⟨x, hx⟩ : ∃ x, (B r)[i]? = some x := ⟨(B r)[i]'(by rw [← (zx_le r2.2.1 hr).1]; exact c), List.getElem?_eq_getElem _⟩
        have hgx : (G r)[i]? = some (sy x) := by rw [r2.2.1 r hr, List.getElem?_map, hx]; rfl
        have hU : zx_U B x := ⟨r, hr, List.mem_of_getElem? hx⟩
        refine zv_rs r2.1.1 hr hx (r2.1.2.1 x hU) ?_ (B r) [] rfl (Nat.zero_le _)
        refine hY _ (br_f (by decide) (br_f h0 ⟨vp_in_nI (by omega) (by decide), ?_⟩))
        rw [zn_rd (by omega), g1]
        refine br_t (nI_lt c (by omega)) ?_
        rw [zy_ix]
        refine ⟨vp_in_nI (by omega) (by decide), ?_, zr_in (h := hR)⟩
        rw [zn_rd (by omega), g4 i _ hgx]
      · rw [zn_rd (by omega), g1]
        exact br_f (nI_nlt c hi) ⟨rfl, zr_in (h := hR)⟩
  · exact hX _ (br_t rfl (hY _ (br_t rfl ⟨rfl, zr_in (h := hR)⟩)))
/-! next -/
theorem i_vc_next {k : Nat} {u : SX} {v : SY} (I : i_Rel k u v) (hk : k + 3 ≤ 1538) : wpX_next (fun r u' => wpY_next (fun r' v' => r' = r ∧ i_Rel (k + 3) u' v') v) u := by
  refine zr_el (P := fun u v => wpX_next (fun r u' => wpY_next (fun r' v' => r' = r ∧ i_Rel (k + 3) u' v') v) u) ?_ I
  intro G W B F xc1 xc2 xc3 xc4 xc5 xc6 xrd xod xtd xli xle xsz xcu xfn xst xrt xlv xhr xlo xrT na nb sy ow bl sp fT lT sh sc sn sv dh dc dn dv pa de oc wa me qu wo co rR te ysq ybo ysi yor hR
  obtain ⟨r1, r2, r3, r4, r5, r6, r7, r8, r9, r10, r11, r12, r13, r14⟩ := id hR
  have hC : zr_C G W B sy na nb ow bl xfn xst F := ⟨r1, r2.1.1, r2.1.2.1, r2.2.1⟩
  unfold wpX_next wpY_next
  refine pk_lt xcu xsz (fun c => ?_) (fun c => br_t (by rw [nI_eq (by omega) (by omega)]; omega) ⟨rfl, zr_in (h := hR)⟩)
  obtain ⟨t, ht⟩ : ∃ t, (W 0)[xcu]? = some t := ⟨(W 0)[xcu]'(by omega), List.getElem?_eq_getElem _⟩
  have hdrop : (W 0).drop xcu = t :: (W 0).drop (xcu + 1) := by
    obtain ⟨w, e⟩ := List.getElem?_eq_some_iff.mp ht
    rw [List.drop_eq_getElem_cons w, e]
  have fin : ∀ (pa' de' : Nat → Nat) (stk : List (Nat × List Nat)) , zr_RD B sy W pa' de' 2 stk ((W 0).drop xcu) →
      wX_next_35 (fun r u' => (nI xcu = nI xsz → (-1 = r ∧ i_Rel (k + 3) u' (nI xli, nI xle, nI xsz, nI xcu, zn_A ysq, zn_A ybo, zn_A ysi, zn_A yor))) ∧ (¬ nI xcu = nI xsz → (vp_in (nI xcu) 64 ∧ ∀ x1_3 : Int32, x1_3 = zn_A ysq (nI xcu).toNatClampNeg → ∀ f_cursor_4 : Int32, f_cursor_4 = nI xcu + 1 → (x1_3 = r ∧ i_Rel (k + 3) u' (nI xli, nI xle, nI xsz, f_cursor_4, zn_A ysq, zn_A ybo, zn_A ysi, zn_A yor))))) xc1 xc2 xc3 xc4 xc5 xc6 (nI xli) (nI xle) (nI xsz) (nI xcu) (nI xfn) (nI xst) xlv xhr xlo (nI xrt) xrT 1 xod xtd (zn_A na) (zn_A nb) (zn_A sy) (zn_A ow) (zn_A bl) (zn_A sp) (zn_A fT) (zn_A lT) (zn_A sh) (zn_A sc) (zn_A sn) (zn_A sv) (zn_A dh) (zn_A dc) (zn_A dn) (zn_A dv) rR (zn_A pa') (zn_A de') (zn_A oc) (zn_A wa) te (zn_A me) (zn_A qu) (zn_A wo) (zn_A co) := by
    intro pa' de' stk hRD
    rw [hdrop] at hRD
    unfold wX_next_35
    refine zr_read (slot := 2) (by omega) hC hRD ?_
    intro pa2 de2 stk2 hRD2 hrt hf2
    refine zr_adv (slot := 2) (by omega) hC hRD2 (by simp) ?_
    intro pa3 de3 hRD3 hf3
    rw [hrt] at hRD3
    refine nm_r (nI_1 _) (br_f (by rw [nI_eq (by omega) (by omega)]; omega) ⟨vp_in_nI (by omega) (by decide), nm_r (e' := nI t) (by rw [zn_rd (by omega), r7 _ _ ht]) (nm_r (nI_1 _) ⟨rfl, ?_⟩)⟩)
    exact zr_in (h := ⟨r1, r2, r3, r4, r5, r6, r7, r8, r9, r10, by omega, Or.inr ⟨rfl, _, hRD3⟩, r13, r14⟩)
  rcases r12 with z | ⟨z, stk, hRD⟩
  · refine br_t z (zr_place (slot := 2) (r := 0) (by omega) hC r3 (by omega) (by omega) ?_)
    intro pa' de' stk' hRD hf
    exact fin pa' de' stk' hRD
  · have := fin pa de stk hRD
    subst z
    exact br_f (by decide) this
end
section
/-! ===== appendCopy ===== -/
def zz_XL (G W G' W' : Nat → List Nat) (ts : List Nat) : Prop := ∀ (post : Int32 → SX → Prop) (c i n : Nat) (xc1 xc2 xc3 xc4 xc5 xc6 xrd xod xtd : Int32) (xli xle xsz xcu xfn xst xrt : Nat) (xlv xhr xlo xrT : Int64) (na nb sy ow bl sp fT lT sh sc sn sv dh dc dn dv pa de oc wa me qu wo co : Nat → Nat) (rR : Nat → Int64) (te : Nat → Int32) (B : Nat → List Nat) (F : List Nat), c = i + ts.length → i + ts.length ≤ 10 → ts.length < n → (∀ j t, ts[j]? = some t → co (i + j) = t) → zx_XG G B F xfn xst xrt xlv xhr xlo na nb sy ow bl sh sc sn sv dh dc dn dv rR xrT → zx_SP G W sp fT lT → sp 16 = xsz → xsz = (W 0).length →
  (∀ (B' : Nat → List Nat) (F' : List Nat) (fn' st' rt' : Nat) (lv' hr' lo' rT' : Int64) (rR' : Nat → Int64) (na' nb' sy' ow' bl' sh' sc' sn' sv' dh' dc' dn' dv' wo' : Nat → Nat) (sp' fT' lT' : Nat → Nat) (f1 f2 f3 : Int32), ((f1 = 0 ∧ f2 = 0 ∧ f3 = 0) ∨ (ts = [] ∧ f1 = xrd ∧ f2 = xod ∧ f3 = xtd)) → zx_XG G' B' F' fn' st' rt' lv' hr' lo' na' nb' sy' ow' bl' sh' sc' sn' sv' dh' dc' dn' dv' rR' rT' → zx_SP G' W' sp' fT' lT' → sp' 16 = xsz + ts.length → post (nI (zg_R G')) (xc1, xc2, xc3, xc4, xc5, xc6, nI xli, nI xle, nI (xsz + ts.length), nI xcu, nI fn', nI st', lv', hr', lo', nI rt', rT', f1, f2, f3, zn_A na', zn_A nb', zn_A sy', zn_A ow', zn_A bl', zn_A sp', zn_A fT', zn_A lT', zn_A sh', zn_A sc', zn_A sn', zn_A sv', zn_A dh', zn_A dc', zn_A dn', zn_A dv', rR', zn_A pa, zn_A de, zn_A oc, zn_A wa, te, zn_A me, zn_A qu, zn_A wo', zn_A co)) →
  wX_appendCopy_93 post (nI c) n (nI i) xc1 xc2 xc3 xc4 xc5 xc6 (nI xli) (nI xle) (nI xsz) (nI xcu) (nI xfn) (nI xst) xlv xhr xlo (nI xrt) xrT xrd xod xtd (zn_A na) (zn_A nb) (zn_A sy) (zn_A ow) (zn_A bl) (zn_A sp) (zn_A fT) (zn_A lT) (zn_A sh) (zn_A sc) (zn_A sn) (zn_A sv) (zn_A dh) (zn_A dc) (zn_A dn) (zn_A dv) rR (zn_A pa) (zn_A de) (zn_A oc) (zn_A wa) te (zn_A me) (zn_A qu) (zn_A wo) (zn_A co)
def zz_YL (G W G' W' : Nat → List Nat) (ts : List Nat) : Prop := ∀ (post : Int32 → SY → Prop) (s c i n : Nat) (yca yal yln ycu : Nat) (ysq ybo ysi yor : Nat → Nat), c = i + ts.length → i + ts.length ≤ 10 → ts.length < n → s + i + ts.length ≤ yln → yln + ts.length ≤ 64 → (∀ j t, ts[j]? = some t → ysq (s + i + j) = t) → zy_R G ybo ysi → yln = (W 0).length → (∀ i t, (W 0)[i]? = some t → ysq i = t) →
  (∀ bo' si' sq' : Nat → Nat, zy_R G' bo' si' → (∀ i t, (W' 0)[i]? = some t → sq' i = t) → post (nI (zg_R G')) (nI yca, nI yal, nI (yln + ts.length), nI ycu, zn_A sq', zn_A bo', zn_A si', zn_A yor)) →
  wY_appendCopy_57 post (nI s) (nI c) n (nI i) (nI yca) (nI yal) (nI yln) (nI ycu) (zn_A ysq) (zn_A ybo) (zn_A ysi) (zn_A yor)
theorem zz_sq {W0 : List Nat} {sq : Nat → Nat} {t : Nat} (h : ∀ i t, W0[i]? = some t → sq i = t) : ∀ i y, (W0 ++ [t])[i]? = some y → zn_u sq W0.length t i = y := by
  intro i y hy
  by_cases c : i = W0.length
  · rw [c, List.getElem?_append_right (Nat.le_refl _)] at hy
    have : t = y := by simpa using hy
    rw [c, zn_us, this]
  · rw [zn_un c]
    apply h
    obtain ⟨w, _⟩ := List.getElem?_eq_some_iff.mp hy
    rw [List.length_append] at w
    have w2 : [t].length = 1 := rfl
    rw [List.getElem?_append_left (by omega)] at hy
    exact hy
theorem zz_many : ∀ (ts : List Nat) (G W : Nat → List Nat), zr_G G W → (W 0).length + ts.length ≤ 64 → (∀ t ∈ ts, t < 16) → ∃ G' W', zr_G G' W' ∧ W' 0 = W 0 ++ ts ∧ zz_XL G W G' W' ts ∧ zz_YL G W G' W' ts := by
  intro ts
  induction ts with
  | nil =>
    intro G W h _ _
    refine ⟨G, W, h, by rw [List.append_nil], ?_, ?_⟩
    · intro post c i n xc1 xc2 xc3 xc4 xc5 xc6 xrd xod xtd xli xle xsz xcu xfn xst xrt xlv xhr xlo xrT na nb sy ow bl sp fT lT sh sc sn sv dh dc dn dv pa de oc wa me qu wo co rR te B F hc h1 h2 _ hX hS h16 hsz K
      have hc' : c = i := hc
      subst hc'
      obtain ⟨n', rfl⟩ : ∃ n', n = n' + 1 := ⟨n - 1, by omega⟩
      rw [wX_appendCopy_93]
      refine br_t (nI_le (Nat.le_refl _) (by simp at h1; omega)) ?_
      have := K B F xfn xst xrt xlv xhr xlo xrT rR na nb sy ow bl sh sc sn sv dh dc dn dv wo sp fT lT xrd xod xtd (Or.inr ⟨rfl, rfl, rfl, rfl⟩) hX hS h16
      rw [← hX.2.2.2.2] at this
      exact this
    · intro post s c i n yca yal yln ycu ysq ybo ysi yor hc h1 h2 _ _ _ hR hln hsq K
      have hc' : c = i := hc
      subst hc'
      obtain ⟨n', rfl⟩ : ∃ n', n = n' + 1 := ⟨n - 1, by omega⟩
      rw [wY_appendCopy_57]
      refine br_t (nI_le (Nat.le_refl _) (by simp at h1; omega)) (zy_rc hR ?_)
      exact K ybo ysi ysq hR hsq
  | cons t ts ih =>
    intro G W h hl hts
    rw [List.length_cons] at hl
    obtain ⟨G1, W1, o1, o2, o3, o4⟩ := zz_enter h (t := t) (hts t (by simp)) (by omega)
    have hl1 : (W1 0).length = (W 0).length + 1 := by rw [o2, List.length_append]; rfl
    obtain ⟨G', W', q1, q2, q3, q4⟩ := ih G1 W1 o1 (by omega) (fun y hy => hts y (List.mem_cons_of_mem _ hy))
    refine ⟨G', W', q1, by rw [q2, o2]; simp, ?_, ?_⟩
    · intro post c i n xc1 xc2 xc3 xc4 xc5 xc6 xrd xod xtd xli xle xsz xcu xfn xst xrt xlv xhr xlo xrT na nb sy ow bl sp fT lT sh sc sn sv dh dc dn dv pa de oc wa me qu wo co rR te B F hc h1 h2 hco hX hS h16 hsz K
      rw [List.length_cons] at hc h1 h2
      obtain ⟨n', rfl⟩ : ∃ n', n = n' + 1 := ⟨n - 1, by omega⟩
      have hc0 : co i = t := by have := hco 0 t rfl; rw [Nat.add_zero] at this; exact this
      rw [wX_appendCopy_93]
      refine br_f (nI_ge (by omega) (by omega)) ⟨vp_in_nI (by omega) (by decide), ?_⟩
      rw [zn_rd (by omega), hc0]
      refine o3 _ xc1 xc2 xc3 xc4 xc5 xc6 xrd xod xtd xli xle xsz xcu xfn xst xrt xlv xhr xlo xrT na nb sy ow bl sp fT lT sh sc sn sv dh dc dn dv pa de oc wa me qu wo co rR te B F hX hS hsz ?_
      intro B' F' fn' st' rt' lv' hr' lo' rT' rR' na' nb' sy' ow' bl' sh' sc' sn' sv' dh' dc' dn' dv' wo' sp' fT' lT' hX' hS' h16'
      refine nm_r (nI_1 i) ?_
      refine q3 post c (i + 1) n' _ _ _ _ _ _ _ _ _ _ _ _ _ _ _ _ _ _ _ _ _ _ _ _ _ _ _ _ _ _ _ _ _ _ _ _ _ _ _ _ _ _ _ _ _ _ _ _ (by omega) (by omega) (by omega) ?_ hX' hS' h16' (by rw [hl1, hsz]) ?_
      · intro j y hy
        have := hco (j + 1) y (by simpa using hy)
        rw [show i + (j + 1) = i + 1 + j by omega] at this
        exact this
      · intro B2 F2 fn2 st2 rt2 lv2 hr2 lo2 rT2 rR2 na2 nb2 sy2 ow2 bl2 sh2 sc2 sn2 sv2 dh2 dc2 dn2 dv2 wo2 sp2 fT2 lT2 f1 f2 f3 hf hX2 hS2 h162
        have e2 : xsz + (t :: ts).length = xsz + 1 + ts.length := by rw [List.length_cons]; omega
        rw [e2] at K
        refine K _ _ _ _ _ _ _ _ _ _ _ _ _ _ _ _ _ _ _ _ _ _ _ _ _ _ _ f1 f2 f3 (Or.inl ?_) hX2 hS2 h162
        rcases hf with z | z
        · exact z
        · exact z.2
    · intro post s c i n yca yal yln ycu ysq ybo ysi yor hc h1 h2 h3 h4 hsq0 hR hln hsq K
      rw [List.length_cons] at hc h1 h2 h3 h4
      obtain ⟨n', rfl⟩ : ∃ n', n = n' + 1 := ⟨n - 1, by omega⟩
      have hs0 : ysq (s + i) = t := by have := hsq0 0 t rfl; rw [Nat.add_zero] at this; exact this
      rw [wY_appendCopy_57]
      refine br_f (nI_ge (by omega) (by omega)) ?_
      rw [nI_add]
      refine ⟨vp_in_nI (by omega) (by decide), ?_⟩
      rw [zn_rd (by omega), hs0]
      refine o4 _ yca yal yln ycu ysq ybo ysi yor hR hln ?_
      intro bo' si' hR'
      refine nm_r (nI_1 i) ?_
      have e2 : yln + (t :: ts).length = yln + 1 + ts.length := by rw [List.length_cons]; omega
      rw [e2] at K
      refine q4 post s c (i + 1) n' _ _ _ _ _ _ _ _ (by omega) (by omega) (by omega) (by omega) (by omega) ?_ hR' (by rw [hl1, hln]) ?_ K
      · intro j y hy
        rw [zn_un (by have := (List.getElem?_eq_some_iff.mp hy).1; omega)]
        have := hsq0 (j + 1) y (by simpa using hy)
        rw [show s + i + (j + 1) = s + (i + 1) + j by omega] at this
        exact this
      · rw [o2, hln]
        exact zz_sq hsq
section
variable {xc1 xc2 xc3 xc4 xc5 xc6 xrd xod xtd : Int32} {xli xle xsz xcu xfn xst xrt : Nat} {xlv xhr xlo xrT : Int64} {na nb sy ow bl sp fT lT sh sc sn sv dh dc dn dv pa de oc wa me qu wo co : Nat → Nat} {rR : Nat → Int64} {te : Nat → Int32}
/-- X reads the terminals that it will enter -/
theorem zv_copy {post : Int32 → SX → Prop} {G W B : Nat → List Nat} {F : List Nat} {n : Nat} {ts0 : List Nat} (hC : zr_C G W B sy na nb ow bl xfn xst F) (hn : n ≤ 10) (hts : ts0.length = n)
    (K : ∀ pa' de' co' : Nat → Nat, zr_fr 0 pa pa' de de' → (∀ j t, ts0[j]? = some t → co' j = t) → ∃ n93, wX_appendCopy_93 post (nI n) n93 0 xc1 xc2 xc3 xc4 xc5 xc6 (nI xli) (nI xle) (nI xsz) (nI xcu) (nI xfn) (nI xst) xlv xhr xlo (nI xrt) xrT xrd xod xtd (zn_A na) (zn_A nb) (zn_A sy) (zn_A ow) (zn_A bl) (zn_A sp) (zn_A fT) (zn_A lT) (zn_A sh) (zn_A sc) (zn_A sn) (zn_A sv) (zn_A dh) (zn_A dc) (zn_A dn) (zn_A dv) rR (zn_A pa') (zn_A de') (zn_A oc) (zn_A wa) te (zn_A me) (zn_A qu) (zn_A wo) (zn_A co')) :
    ∀ (m i : Nat) (pa' de' co' : Nat → Nat) (stk : List (Nat × List Nat)) (wd : List Nat), i + m = n → zr_RD B sy W pa' de' 0 stk (ts0.drop i ++ wd) → zr_fr 0 pa pa' de de' → (∀ j t, j < i → ts0[j]? = some t → co' j = t) →
      wX_appendCopy_64 post (nI n) (m + 1) (nI i) xc1 xc2 xc3 xc4 xc5 xc6 (nI xli) (nI xle) (nI xsz) (nI xcu) (nI xfn) (nI xst) xlv xhr xlo (nI xrt) xrT xrd xod xtd (zn_A na) (zn_A nb) (zn_A sy) (zn_A ow) (zn_A bl) (zn_A sp) (zn_A fT) (zn_A lT) (zn_A sh) (zn_A sc) (zn_A sn) (zn_A sv) (zn_A dh) (zn_A dc) (zn_A dn) (zn_A dv) rR (zn_A pa') (zn_A de') (zn_A oc) (zn_A wa) te (zn_A me) (zn_A qu) (zn_A wo) (zn_A co') := by
  intro m
  induction m with
  | zero =>
    intro i pa' de' co' stk wd hi hRD hf hco
    have : i = n := by omega
    subst this
    rw [wX_appendCopy_64]
    refine br_t (nI_le (Nat.le_refl _) (by omega)) (K pa' de' co' hf ?_)
    intro j t hj
    exact hco j t (by have := (List.getElem?_eq_some_iff.mp hj).1; omega) hj
  | succ m ih =>
    intro i pa' de' co' stk wd hi hRD hf hco
    obtain ⟨t, ht⟩ : ∃ t, ts0[i]? = some t := ⟨ts0[i]'(by omega), List.getElem?_eq_getElem _⟩
    have hdrop : ts0.drop i = t :: ts0.drop (i + 1) := by
      obtain ⟨w, e⟩ := List.getElem?_eq_some_iff.mp ht
      rw [List.drop_eq_getElem_cons w, e]
    rw [hdrop, List.cons_append] at hRD
    rw [wX_appendCopy_64]
    refine br_f (nI_ge (by omega) (by omega)) ?_
    refine zr_read (slot := 0) (by omega) hC hRD ?_
    intro pa2 de2 stk2 hRD2 hrt hf2
    refine ⟨vp_in_nI (by omega) (by decide), nm_r (zn_up (by omega)) ?_⟩
    refine zr_adv (slot := 0) (by omega) hC hRD2 (by simp) ?_
    intro pa3 de3 hRD3 hf3
    rw [hrt] at hRD3
    refine nm_r (nI_1 i) (ih (i + 1) _ _ _ _ wd (by omega) hRD3 (zr_frt (zr_frt hf hf2) hf3) ?_)
    intro j y hj hy
    by_cases c : j = i
    · rw [c] at hy ⊢
      rw [ht] at hy
      rw [zn_us]; exact Option.some.inj hy
    · rw [zn_un c]; exact hco j y (by omega) hy
end
theorem i_vc_appendCopy {k : Nat} {u : SX} {v : SY} (I : i_Rel k u v) (hk : k + 3 ≤ 1538) (v1 : Int32) (v2 : Int32) : wpX_appendCopy (fun r u' => wpY_appendCopy (fun r' v' => r' = r ∧ i_Rel (k + 3) u' v') v v1 v2) u v1 v2 := by
  refine zr_el (P := fun u v => wpX_appendCopy (fun r u' => wpY_appendCopy (fun r' v' => r' = r ∧ i_Rel (k + 3) u' v') v v1 v2) u v1 v2) ?_ I
  intro G W B F xc1 xc2 xc3 xc4 xc5 xc6 xrd xod xtd xli xle xsz xcu xfn xst xrt xlv xhr xlo xrT na nb sy ow bl sp fT lT sh sc sn sv dh dc dn dv pa de oc wa me qu wo co rR te ysq ybo ysi yor hR
  obtain ⟨r1, r2, r3, r4, r5, r6, r7, r8, r9, r10, r11, r12, r13, r14⟩ := id hR
  have hC : zr_C G W B sy na nb ow bl xfn xst F := ⟨r1, r2.1.1, r2.1.2.1, r2.2.1⟩
  have same : ∀ x : Int32, (x = x ∧ i_Rel (k + 3) (xc1, xc2, xc3, xc4, xc5, xc6, nI xli, nI xle, nI xsz, nI xcu, nI xfn, nI xst, xlv, xhr, xlo, nI xrt, xrT, xrd, xod, xtd, zn_A na, zn_A nb, zn_A sy, zn_A ow, zn_A bl, zn_A sp, zn_A fT, zn_A lT, zn_A sh, zn_A sc, zn_A sn, zn_A sv, zn_A dh, zn_A dc, zn_A dn, zn_A dv, rR, zn_A pa, zn_A de, zn_A oc, zn_A wa, te, zn_A me, zn_A qu, zn_A wo, zn_A co) (nI xli, nI xle, nI xsz, nI xcu, zn_A ysq, zn_A ybo, zn_A ysi, zn_A yor)) := fun x => ⟨rfl, zr_in (h := hR)⟩
  unfold wpX_appendCopy wpY_appendCopy
  by_cases c1 : v2 < 1
  · exact br_t c1 (br_t c1 (same _))
  refine br_f c1 ?_
  by_cases c2 : v2 ≤ 10
  case neg => exact br_f c2 (br_f c1 (br_f c2 (same _)))
  refine br_t c2 ?_
  have c1' : ¬ v2 < 0 := fun z => c1 (Int32.lt_of_lt_of_le z (by decide))
  obtain ⟨n, hn, e⟩ := nI_of2 (x := v2) (M := 10) (n := 10) (by decide) c1' c2
  by_cases c3 : v1 < 0
  · exact br_t c3 (br_f c1 (br_t c2 (br_t c3 (same _))))
  refine br_f c3 ?_
  by_cases c4 : nI xsz ≤ v1
  · exact br_t c4 (br_f c1 (br_t c2 (br_f c3 (br_t c4 (same _)))))
  refine br_f c4 ?_
  obtain ⟨s, hs, e1⟩ := nI_of c3
  have c4' : s < xsz := by
    rw [e1, nI_leI (by omega) hs] at c4; omega
  subst e e1
  have n1 : 1 ≤ n := by
    rw [show (1 : Int32) = nI 1 from rfl, nI_ltI (by omega) (by omega)] at c1; omega
  have e5 : nI xsz - nI s = nI (xsz - s) := pk_sub (by omega)
  have e6 : nI xli - nI xsz = nI (xli - xsz) := pk_sub (by omega)
  by_cases c5 : nI n ≤ nI xsz - nI s
  case neg => exact br_f c5 (br_f c1 (br_t c2 (br_f c3 (br_f c4 (br_f c5 (same _))))))
  refine br_t c5 ?_
  by_cases c6 : nI n ≤ nI xli - nI xsz
  case neg => exact br_f c6 (br_f c1 (br_t c2 (br_f c3 (br_f c4 (br_t c5 (br_f c6 (same _)))))))
  refine br_t c6 ?_
  have c5' : n ≤ xsz - s := by rw [e5, nI_leI (by omega) (by omega)] at c5; exact c5
  have c6' : n ≤ xli - xsz := by rw [e6, nI_leI (by omega) (by omega)] at c6; exact c6
  have hlen : (((W 0).drop s).take n).length = n := by rw [List.length_take, List.length_drop]; omega
  obtain ⟨G', W', q1, q2, q3, q4⟩ := zz_many (((W 0).drop s).take n) G W r1 (by omega) (fun t ht => r1.2.2.2.2 t (List.mem_of_mem_drop (List.mem_of_mem_take ht)))
  refine zr_place (slot := 0) (r := 0) (by omega) hC r3 (by omega) (by omega) ?_
  intro pa' de' stk hRD hf
  refine ⟨n + 1, ?_⟩
  refine zv_copy (ts0 := ((W 0).drop s).take n) hC hn hlen ?_ n 0 pa' de' co stk (((W 0).drop s).drop n) (by omega) (by rw [List.drop_zero, List.take_append_drop]; exact hRD) ⟨fun _ _ => rfl, fun _ _ => rfl⟩ (by intro j t hj; omega)
  intro pa2 de2 co2 hf2 hco2
  refine ⟨n + 1, ?_⟩
  refine q3 _ n 0 (n + 1) _ _ _ _ _ _ _ _ _ _ _ _ _ _ _ _ _ _ _ _ _ _ _ _ _ _ _ _ _ _ _ _ _ _ _ _ _ _ _ _ _ _ _ _ _ _ _ _ (by omega) (by omega) (by omega) (by intro j t hj; rw [Nat.zero_add]; exact hco2 j t hj) r2 r3 r4 r5 ?_
  intro B2 F2 fn2 st2 rt2 lv2 hr2 lo2 rT2 rR2 na2 nb2 sy2 ow2 bl2 sh2 sc2 sn2 sv2 dh2 dc2 dn2 dv2 wo2 sp2 fT2 lT2 f1 f2 f3 hfl hX2 hS2 h162
  refine br_f c1 (br_t c2 (br_f c3 (br_f c4 (br_t c5 (br_t c6 ⟨n + 1, ?_⟩)))))
  refine q4 _ s n 0 (n + 1) xli xle xsz xcu ysq ybo ysi yor (by omega) (by omega) (by omega) (by omega) (by omega) ?_ r6 r5 r7 ?_
  · intro j t hj
    rw [Nat.add_zero]
    apply r7
    rw [List.getElem?_take] at hj
    by_cases cj : j < n
    · rw [if_pos cj, List.getElem?_drop] at hj
      exact hj
    · rw [if_neg cj] at hj; cases hj
  · intro bo' si' sq' hR' hsq'
    refine ⟨rfl, ?_⟩
    have hz : f1 = 0 ∧ f2 = 0 ∧ f3 = 0 := by
      rcases hfl with z | z
      · exact z
      · have := hlen
        rw [z.1] at this
        simp at this
        omega
    obtain ⟨rfl, rfl, rfl⟩ := hz
    exact zr_in (h := ⟨q1, hX2, hS2, h162, by rw [q2, List.length_append, r5], hR', hsq', r8, r9, by rw [hlen]; omega, by omega, Or.inl rfl, Or.inl rfl, Or.inl rfl⟩)
end
section
/-! ===== findDigram ===== -/
def zq_p (G : Nat → List Nat) (v1 v2 : Int32) (r j : Nat) : Prop := r < 32 ∧ ∃ x y, (G r)[j]? = some x ∧ (G r)[j + 1]? = some y ∧ nI (zy_cd x) = v1 ∧ nI (zy_cd y) = v2
theorem zq_64 {r j : Nat} : 64 * nI r + nI j = nI (64 * r + j) := by
  rw [show (64 : Int32) = nI 64 from rfl, pk_mul, nI_add]
section
variable {yca yal yln ycu : Nat} {ysq ybo ysi yor : Nat → Nat}
theorem zq_Yi {post : Int32 → Prop} {J : Int32 → Prop} {G : Nat → List Nat} {v1 v2 : Int32} {r : Nat} (hr : r < 32) (h : zy_R G ybo ysi) (h1 : ∀ j, zq_p G v1 v2 r j → (∀ j', j' < j → ¬ zq_p G v1 v2 r j') → post (nI (64 * r + j))) (h0 : (∀ j, ¬ zq_p G v1 v2 r j) → J (nI (r + 1))) :
    ∀ (m j : Nat), j + m = (G r).length → (∀ j', j' < j → ¬ zq_p G v1 v2 r j') → wY_findDigram_11 post J v1 v2 (nI r) (nI yca) (nI yal) (nI yln) (nI ycu) (zn_A ysq) (zn_A ybo) (zn_A ysi) (zn_A yor) (m + 1) (nI j) := by
  obtain ⟨q1, q2, q3, q4⟩ := h r hr
  have fin : ∀ (n j : Nat), (G r).length ≤ j + 1 → j ≤ 64 → (∀ j', j' < j → ¬ zq_p G v1 v2 r j') → wY_findDigram_11 post J v1 v2 (nI r) (nI yca) (nI yal) (nI yln) (nI ycu) (zn_A ysq) (zn_A ybo) (zn_A ysi) (zn_A yor) (n + 1) (nI j) := by
    intro n j hj hj2 hn
    rw [wY_findDigram_11]
    refine ⟨vp_in_nI (by omega) (by decide), ?_⟩
    rw [zn_rd (by omega), q1, nI_1 j]
    refine br_t (nI_le hj (by omega)) (nm_r (nI_1 r) (h0 ?_))
    rintro j' ⟨z1, x, y, z2, z3, z4, z5⟩
    obtain ⟨w, _⟩ := List.getElem?_eq_some_iff.mp z3
    exact hn j' (by omega) ⟨z1, x, y, z2, z3, z4, z5⟩
  intro m
  induction m with
  | zero =>
    intro j hj hn
    exact fin 0 j (by omega) (by omega) hn
  | succ m ih =>
    intro j hj hn
    by_cases c : (G r).length ≤ j + 1
    · exact fin (m + 1) j c (by omega) hn
    · obtain ⟨x, hx⟩ : ∃ x, (G r)[j]? = some x := ⟨(G r)[j], List.getElem?_eq_getElem (by omega)⟩
      obtain ⟨y, hy⟩ : ∃ y, (G r)[j + 1]? = some y := ⟨(G r)[j + 1], List.getElem?_eq_getElem (by omega)⟩
      have bx := q4 j x hx
      have by' := q4 (j + 1) y hy
      have next : ¬ zq_p G v1 v2 r j → wY_findDigram_11 post J v1 v2 (nI r) (nI yca) (nI yal) (nI yln) (nI ycu) (zn_A ysq) (zn_A ybo) (zn_A ysi) (zn_A yor) (m + 1) (nI (j + 1)) := by
        intro hz
        refine ih (j + 1) (by omega) ?_
        intro j' hj' z
        by_cases d : j' = j
        · rw [d] at z; exact hz z
        · exact hn j' (by omega) z
      have same : ∀ x' y', (G r)[j]? = some x' → (G r)[j + 1]? = some y' → x' = x ∧ y' = y := by
        intro x' y' w1 w2
        rw [hx] at w1
        rw [hy] at w2
        exact ⟨(Option.some.inj w1).symm, (Option.some.inj w2).symm⟩
      rw [wY_findDigram_11]
      refine ⟨vp_in_nI (by omega) (by decide), ?_⟩
      rw [zn_rd (by omega), q1, nI_1 j, zy_ix, nI_1 (r * 64 + j)]
      refine br_f (nI_ge (by omega) (by omega)) ⟨vp_in_nI (by omega) (by decide), ?_⟩
      rw [zn_rd (by omega), bx]
      refine br_c (fun c1 => ⟨vp_in_nI (by omega) (by decide), ?_⟩) (fun c1 => nm_e (next ?_))
      · rw [zn_rd (by omega), show r * 64 + j + 1 = r * 64 + (j + 1) by omega, by', zq_64]
        refine br_c (fun c2 => h1 j ⟨hr, x, y, hx, hy, c1, c2⟩ hn) (fun c2 => nm_e (next ?_))
        rintro ⟨_, x', y', w1, w2, w3, w4⟩
        obtain ⟨rfl, rfl⟩ := same x' y' w1 w2
        exact c2 w4
      · rintro ⟨_, x', y', w1, w2, w3, w4⟩
        obtain ⟨rfl, rfl⟩ := same x' y' w1 w2
        exact c1 w3
theorem zq_Y {post : Int32 → Prop} {G : Nat → List Nat} {v1 v2 : Int32} (h : zy_R G ybo ysi) (h1 : ∀ r j, zq_p G v1 v2 r j → (∀ j', j' < j → ¬ zq_p G v1 v2 r j') → (∀ r' j', r' < r → ¬ zq_p G v1 v2 r' j') → post (nI (64 * r + j))) (h0 : (∀ r j, ¬ zq_p G v1 v2 r j) → post (-1)) :
    wpY_findDigram post (nI yca, nI yal, nI yln, nI ycu, zn_A ysq, zn_A ybo, zn_A ysi, zn_A yor) v1 v2 := by
  have loop : ∀ (m r : Nat), r + m = 32 → (∀ r' j', r' < r → ¬ zq_p G v1 v2 r' j') → wY_findDigram_2 post v1 v2 (nI yca) (nI yal) (nI yln) (nI ycu) (zn_A ysq) (zn_A ybo) (zn_A ysi) (zn_A yor) (m + 1) (nI r) := by
    intro m
    induction m with
    | zero =>
      intro r hr hn
      have : r = 32 := by omega
      subst this
      rw [wY_findDigram_2]
      exact br_t (show (31 : Int32) < nI 32 by decide) (h0 fun r j z => hn r j z.1 z)
    | succ m ih =>
      intro r hr hn
      rw [wY_findDigram_2]
      refine br_f ?_ ⟨(G r).length + 1, ?_⟩
      · rw [show (31 : Int32) = nI 31 from rfl, nI_ltI (by omega) (by omega)]; omega
      · refine zq_Yi (by omega) h (fun j z1 z2 => h1 r j z1 z2 hn) (fun hz => ih (r + 1) (by omega) ?_) (G r).length 0 (by omega) (by intro j' hj'; omega)
        intro r' j' hr' z
        by_cases d : r' = r
        · rw [d] at z; exact hz j' z
        · exact hn r' j' (by omega) z
  unfold wpY_findDigram
  exact ⟨33, loop 32 0 (by omega) (by intro r' j' hr'; omega)⟩
end
section
variable {xc1 xc2 xc3 xc4 xc5 xc6 xrd xod xtd : Int32} {xli xle xsz xcu xfn xst xrt : Nat} {xlv xhr xlo xrT : Int64} {na nb sy ow bl sp fT lT sh sc sn sv dh dc dn dv pa de oc wa me qu wo co : Nat → Nat} {rR : Nat → Int64} {te : Nat → Int32}
theorem zq_id (v : Int32) : (∃ a, a < 48 ∧ a ≠ 16 ∧ v = nI (zy_cd a) ∧ ∀ post : Int32 → Prop, post (nI a) → wpX_idOfCode post (xc1, xc2, xc3, xc4, xc5, xc6, nI xli, nI xle, nI xsz, nI xcu, nI xfn, nI xst, xlv, xhr, xlo, nI xrt, xrT, xrd, xod, xtd, zn_A na, zn_A nb, zn_A sy, zn_A ow, zn_A bl, zn_A sp, zn_A fT, zn_A lT, zn_A sh, zn_A sc, zn_A sn, zn_A sv, zn_A dh, zn_A dc, zn_A dn, zn_A dv, rR, zn_A pa, zn_A de, zn_A oc, zn_A wa, te, zn_A me, zn_A qu, zn_A wo, zn_A co) v) ∨ ((∀ a, a < 48 → a ≠ 16 → v ≠ nI (zy_cd a)) ∧ ∀ post : Int32 → Prop, post (-1) → wpX_idOfCode post (xc1, xc2, xc3, xc4, xc5, xc6, nI xli, nI xle, nI xsz, nI xcu, nI xfn, nI xst, xlv, xhr, xlo, nI xrt, xrT, xrd, xod, xtd, zn_A na, zn_A nb, zn_A sy, zn_A ow, zn_A bl, zn_A sp, zn_A fT, zn_A lT, zn_A sh, zn_A sc, zn_A sn, zn_A sv, zn_A dh, zn_A dc, zn_A dn, zn_A dv, rR, zn_A pa, zn_A de, zn_A oc, zn_A wa, te, zn_A me, zn_A qu, zn_A wo, zn_A co) v) := by
  by_cases h0 : v < 0
  · right
    refine ⟨?_, ?_⟩
    · intro a ha _ z
      rw [z] at h0
      exact nI_pos (by have := zy_cdb ha; omega) h0
    · intro post hp
      unfold wpX_idOfCode wX_idOfCode_12
      exact br_t h0 (br_t (Int32.le_trans (Int32.le_of_lt h0) (by decide)) hp)
  obtain ⟨j, hj, e⟩ := nI_of h0
  subst e
  by_cases h1 : j < 16
  · left
    refine ⟨j, by omega, by omega, ?_, ?_⟩
    · unfold zy_cd; rw [if_pos h1]
    · intro post hp
      unfold wpX_idOfCode
      exact br_f h0 (br_f (nI_ge (b := 16) h1 (by omega)) hp)
  · by_cases h2 : 64 < j ∧ j ≤ 95
    · left
      refine ⟨j - 48, by omega, by omega, ?_, ?_⟩
      · unfold zy_cd
        rw [if_neg (by omega), show j - 48 + 48 = j by omega]
      · intro post hp
        unfold wpX_idOfCode wX_idOfCode_12
        refine br_f h0 (br_t (nI_le (a := 16) (by omega) hj) (br_f (nI_ge (a := 64) h2.1 hj) (br_f (nI_nlt (a := 95) (b := j) h2.2 (by omega)) ?_)))
        rw [show (64 : Int32) = nI 64 from rfl, pk_sub (by omega), show (16 : Int32) = nI 16 from rfl, nI_add, show j - 64 + 16 = j - 48 by omega]
        exact hp
    · right
      refine ⟨?_, ?_⟩
      · intro a ha ha16 z
        have := zy_cdb ha
        rw [nI_eq hj (by omega)] at z
        unfold zy_cd at z
        by_cases c : a < 16
        · rw [if_pos c] at z; omega
        · rw [if_neg c] at z; omega
      · intro post hp
        unfold wpX_idOfCode wX_idOfCode_12
        refine br_f h0 (br_t (nI_le (a := 16) (by omega) hj) ?_)
        by_cases c : j ≤ 64
        · exact br_t (nI_le (b := 64) c (by omega)) hp
        · exact br_f (nI_ge (a := 64) (by omega) hj) (br_t (nI_lt (a := 95) (by omega) hj) hp)
theorem zq_120 {post : Int32 → Prop} {G B : Nat → List Nat} {F : List Nat} {a b m j : Nat} (hX : zx_XC B F xfn xst xlo na nb sy ow bl sh sc sn sv dh dc dn dv rR xrT) (hG : ∀ r, r < 32 → G r = (B r).map sy) (ha : a < 48) (hb : b < 48) (hm : m < 32) (hp : zg_pl G a b m j) (hl : ∀ j', j' < j → ¬ zg_pl G a b m j') (K : post (nI (64 * m + j))) :
    ∀ (t d : List Nat), B m = d ++ t → d.length ≤ j → wX_findDigram_120 post (nI a) (nI b) (nI m) xc1 xc2 xc3 xc4 xc5 xc6 (nI xli) (nI xle) (nI xsz) (nI xcu) (nI xfn) (nI xst) xlv xhr xlo (nI xrt) xrT xrd xod xtd (zn_A na) (zn_A nb) (zn_A sy) (zn_A ow) (zn_A bl) (zn_A sp) (zn_A fT) (zn_A lT) (zn_A sh) (zn_A sc) (zn_A sn) (zn_A sv) (zn_A dh) (zn_A dc) (zn_A dn) (zn_A dv) rR (zn_A pa) (zn_A de) (zn_A oc) (zn_A wa) te (zn_A me) (zn_A qu) (zn_A wo) (zn_A co) (t.length + 1) (nI (t.headD m)) (nI d.length) := by
  have hS := hX.1
  have hbl : bl m = (B m).length := (hS.1 m hm).2.2.2
  have hlen : (B m).length ≤ 96 := by
    have t := zx_sul (f := fun q => (B q).length) 32 m hm
    rw [← hS.2.2.2.2.2.1] at t
    have t' : (B m).length ≤ xst := t
    have := hS.2.2.2.2.2.2.1
    omega
  have hj : j + 1 < (B m).length := by
    obtain ⟨w, _⟩ := List.getElem?_eq_some_iff.mp hp.2.2
    rw [(zx_le hG hm).1] at w
    exact w
  intro t
  induction t with
  | nil =>
    intro d e hd
    rw [e, List.append_nil] at hj
    omega
  | cons x t ih =>
    intro d e hd
    have hmx : x ∈ B m := by rw [e]; simp
    have q := (hS.1 m hm).2.2.1 x hmx
    have hnx := (zx_spl hS hm e).2.1
    have hU : zx_U B x := ⟨m, hm, hmx⟩
    have hl2 : (B m).length = d.length + (t.length + 1) := by rw [e, List.length_append, List.length_cons]
    have hgx : (G m)[d.length]? = some (sy x) := by rw [hG m hm, List.getElem?_map, e, zl_a1]; rfl
    show wX_findDigram_120 post (nI a) (nI b) (nI m) xc1 xc2 xc3 xc4 xc5 xc6 (nI xli) (nI xle) (nI xsz) (nI xcu) (nI xfn) (nI xst) xlv xhr xlo (nI xrt) xrT xrd xod xtd (zn_A na) (zn_A nb) (zn_A sy) (zn_A ow) (zn_A bl) (zn_A sp) (zn_A fT) (zn_A lT) (zn_A sh) (zn_A sc) (zn_A sn) (zn_A sv) (zn_A dh) (zn_A dc) (zn_A dn) (zn_A dv) rR (zn_A pa) (zn_A de) (zn_A oc) (zn_A wa) te (zn_A me) (zn_A qu) (zn_A wo) (zn_A co) ((t.length + 1) + 1) (nI x) (nI d.length)
    rw [wX_findDigram_120]
    refine ⟨vp_in_nI hm (by decide), ?_⟩
    rw [zn_rd (by omega), hbl]
    refine br_f (nI_ge (by omega) (by omega)) ?_
    have sdp : zf_sd na sy a b x ↔ zg_pl G a b m d.length := by
      constructor
      · rintro ⟨_, z2, z3, z4⟩
        cases t with
        | nil => have w : na x = m := hnx; omega
        | cons y t2 =>
          have w : na x = y := hnx
          refine ⟨hm, by rw [hgx, z3], ?_⟩
          rw [hG m hm, List.getElem?_map, e, zl_a2, ← z4, w]; rfl
      · rintro ⟨_, z2, z3⟩
        cases t with
        | nil =>
          obtain ⟨w, _⟩ := List.getElem?_eq_some_iff.mp z3
          rw [(zx_le hG hm).1] at w
          simp at hl2
          omega
        | cons y t2 =>
          have w : na x = y := hnx
          have hmy : y ∈ B m := by rw [e]; simp
          have qy := (hS.1 m hm).2.2.1 y hmy
          rw [hgx] at z2
          rw [hG m hm, List.getElem?_map, e, zl_a2] at z3
          refine ⟨q.1, by omega, Option.some.inj z2, ?_⟩
          rw [w]; exact Option.some.inj z3
    refine zx_stands hS hX.2.1 (Or.inr hU) ha hb (fun h1 => ?_) (fun h0 => ?_)
    · refine br_f (by decide) ?_
      have hz := sdp.mp h1
      have : d.length = j := by
        rcases Nat.lt_or_ge d.length j with c | c
        · exact absurd hz (hl _ c)
        · omega
      rw [zq_64, this]; exact K
    · refine br_t rfl ⟨vp_in_nI q.2.1 (by decide), nm_r (e' := nI (t.headD m)) (by rw [zn_rd (by omega), hnx]) (nm_r (nI_1 _) ?_)⟩
      have hne : d.length ≠ j := fun z => h0 (sdp.mpr (by rw [z]; exact hp))
      rw [show d.length + 1 = (d ++ [x]).length by simp]
      exact ih (d ++ [x]) (by rw [e]; simp) (by simp; omega)
theorem zq_67 {post : Int32 → Prop} {a b : Nat} {L : List Nat} (hlen : L.length ≤ 128) (hL : ∀ d x t, L = d ++ x :: t → x < 128 ∧ ow x < 32 ∧ dn x = t.headD 0) (hna : ∀ m, m < 32 → na m < 128)
    (K : ∀ m, m < 32 → (∀ x ∈ L, m ≤ ow x) → (m = 31 ∨ ∃ x ∈ L, ow x = m) → ∃ n120, wX_findDigram_120 post (nI a) (nI b) (nI m) xc1 xc2 xc3 xc4 xc5 xc6 (nI xli) (nI xle) (nI xsz) (nI xcu) (nI xfn) (nI xst) xlv xhr xlo (nI xrt) xrT xrd xod xtd (zn_A na) (zn_A nb) (zn_A sy) (zn_A ow) (zn_A bl) (zn_A sp) (zn_A fT) (zn_A lT) (zn_A sh) (zn_A sc) (zn_A sn) (zn_A sv) (zn_A dh) (zn_A dc) (zn_A dn) (zn_A dv) rR (zn_A pa) (zn_A de) (zn_A oc) (zn_A wa) te (zn_A me) (zn_A qu) (zn_A wo) (zn_A co) n120 (nI (na m)) 0) :
    ∀ (t d : List Nat) (m : Nat), L = d ++ t → m < 32 → (∀ x ∈ d, m ≤ ow x) → (m = 31 ∨ ∃ x ∈ d, ow x = m) → wX_findDigram_67 post (nI a) (nI b) xc1 xc2 xc3 xc4 xc5 xc6 (nI xli) (nI xle) (nI xsz) (nI xcu) (nI xfn) (nI xst) xlv xhr xlo (nI xrt) xrT xrd xod xtd (zn_A na) (zn_A nb) (zn_A sy) (zn_A ow) (zn_A bl) (zn_A sp) (zn_A fT) (zn_A lT) (zn_A sh) (zn_A sc) (zn_A sn) (zn_A sv) (zn_A dh) (zn_A dc) (zn_A dn) (zn_A dv) rR (zn_A pa) (zn_A de) (zn_A oc) (zn_A wa) te (zn_A me) (zn_A qu) (zn_A wo) (zn_A co) (t.length + 1) (nI m) (nI (t.headD 0)) (nI t.length) := by
  intro t
  induction t with
  | nil =>
    intro d m e hm h1 h2
    rw [List.append_nil] at e
    subst e
    rw [wX_findDigram_67]
    exact br_t (show nI 0 ≤ 0 by decide) ⟨vp_in_nI (by omega) (by decide), nm_r (zn_rd (by omega)) (K m hm h1 h2)⟩
  | cons x t ih =>
    intro d m e hm h1 h2
    obtain ⟨x128, ho, hd⟩ := hL d x t e
    have hl : L.length = d.length + (t.length + 1) := by rw [e, List.length_append, List.length_cons]
    show wX_findDigram_67 post (nI a) (nI b) xc1 xc2 xc3 xc4 xc5 xc6 (nI xli) (nI xle) (nI xsz) (nI xcu) (nI xfn) (nI xst) xlv xhr xlo (nI xrt) xrT xrd xod xtd (zn_A na) (zn_A nb) (zn_A sy) (zn_A ow) (zn_A bl) (zn_A sp) (zn_A fT) (zn_A lT) (zn_A sh) (zn_A sc) (zn_A sn) (zn_A sv) (zn_A dh) (zn_A dc) (zn_A dn) (zn_A dv) rR (zn_A pa) (zn_A de) (zn_A oc) (zn_A wa) te (zn_A me) (zn_A qu) (zn_A wo) (zn_A co) ((t.length + 1) + 1) (nI m) (nI x) (nI (t.length + 1))
    rw [wX_findDigram_67]
    refine br_f (nI_nle (by omega) (by omega)) ⟨vp_in_nI x128 (by decide), ?_⟩
    rw [zn_rd (by omega)]
    refine pk_le m (ow x) (fun c => ⟨vp_in_nI x128 (by decide), nm_r (e' := nI (t.headD 0)) (by rw [zn_rd (by omega), hd]) (nm_r (pk_m1 _) ?_)⟩) (fun c => ⟨vp_in_nI x128 (by decide), nm_e ⟨vp_in_nI x128 (by decide), nm_r (e' := nI (t.headD 0)) (by rw [zn_rd (by omega), hd]) (nm_r (pk_m1 _) ?_)⟩⟩)
    · refine ih (d ++ [x]) m (by rw [e]; simp) hm ?_ ?_
      · intro y hy
        rcases List.mem_append.mp hy with z | z
        · exact h1 y z
        · have : y = x := by simpa using z
          rw [this]; exact c
      · rcases h2 with z | ⟨y, hy, z⟩
        · exact Or.inl z
        · exact Or.inr ⟨y, List.mem_append_left _ hy, z⟩
    · refine ih (d ++ [x]) (ow x) (by rw [e]; simp) ho ?_ (Or.inr ⟨x, by simp, rfl⟩)
      intro y hy
      rcases List.mem_append.mp hy with z | z
      · have := h1 y z; omega
      · have : y = x := by simpa using z
        rw [this]; exact Nat.le_refl _
end
theorem i_vc_findDigram {k : Nat} {u : SX} {v : SY} (I : i_Rel k u v) (hk : k + 3 ≤ 1538) (v1 : Int32) (v2 : Int32) : wpX_findDigram (fun r => wpY_findDigram (fun r' => r' = r ∧ i_Rel (k + 3) u v) v v1 v2) u v1 v2 := by
  refine zr_el (P := fun u v => wpX_findDigram (fun r => wpY_findDigram (fun r' => r' = r ∧ i_Rel (k + 3) u v) v v1 v2) u v1 v2) ?_ I
  intro G W B F xc1 xc2 xc3 xc4 xc5 xc6 xrd xod xtd xli xle xsz xcu xfn xst xrt xlv xhr xlo xrT na nb sy ow bl sp fT lT sh sc sn sv dh dc dn dv pa de oc wa me qu wo co rR te ysq ybo ysi yor hR
  obtain ⟨r1, r2, r3, r4, r5, r6, r7, r8, r9, r10, r11, r12, r13, r14⟩ := id hR
  have hid : ∀ (r j x : Nat), r < 32 → (G r)[j]? = some x → x < 48 ∧ x ≠ 16 := by
    intro r j x hr hx
    rcases r1.1.1 r hr x (List.mem_of_getElem? hx) with z | z <;> omega
  have none : (∀ r j, ¬ zq_p G v1 v2 r j) → wpY_findDigram (fun r' => r' = -1 ∧ i_Rel (k + 3) (xc1, xc2, xc3, xc4, xc5, xc6, nI xli, nI xle, nI xsz, nI xcu, nI xfn, nI xst, xlv, xhr, xlo, nI xrt, xrT, xrd, xod, xtd, zn_A na, zn_A nb, zn_A sy, zn_A ow, zn_A bl, zn_A sp, zn_A fT, zn_A lT, zn_A sh, zn_A sc, zn_A sn, zn_A sv, zn_A dh, zn_A dc, zn_A dn, zn_A dv, rR, zn_A pa, zn_A de, zn_A oc, zn_A wa, te, zn_A me, zn_A qu, zn_A wo, zn_A co) (nI xli, nI xle, nI xsz, nI xcu, zn_A ysq, zn_A ybo, zn_A ysi, zn_A yor)) (nI xli, nI xle, nI xsz, nI xcu, zn_A ysq, zn_A ybo, zn_A ysi, zn_A yor) v1 v2 :=
    fun hn => zq_Y r6 (fun r j z _ _ => absurd z (hn r j)) (fun _ => ⟨rfl, zr_in (h := hR)⟩)
  unfold wpX_findDigram
  rcases zq_id (xc1 := xc1) (xc2 := xc2) (xc3 := xc3) (xc4 := xc4) (xc5 := xc5) (xc6 := xc6) (xli := xli) (xle := xle) (xsz := xsz) (xcu := xcu) (xfn := xfn) (xst := xst) (xlv := xlv) (xhr := xhr) (xlo := xlo) (xrt := xrt) (xrT := xrT) (xrd := xrd) (xod := xod) (xtd := xtd) (na := na) (nb := nb) (sy := sy) (ow := ow) (bl := bl) (sp := sp) (fT := fT) (lT := lT) (sh := sh) (sc := sc) (sn := sn) (sv := sv) (dh := dh) (dc := dc) (dn := dn) (dv := dv) (rR := rR) (pa := pa) (de := de) (oc := oc) (wa := wa) (te := te) (me := me) (qu := qu) (wo := wo) (co := co) v1 with ⟨a, a48, a16, e1, X1⟩ | ⟨n1, X1⟩
  · refine X1 _ ?_
    rcases zq_id (xc1 := xc1) (xc2 := xc2) (xc3 := xc3) (xc4 := xc4) (xc5 := xc5) (xc6 := xc6) (xli := xli) (xle := xle) (xsz := xsz) (xcu := xcu) (xfn := xfn) (xst := xst) (xlv := xlv) (xhr := xhr) (xlo := xlo) (xrt := xrt) (xrT := xrT) (xrd := xrd) (xod := xod) (xtd := xtd) (na := na) (nb := nb) (sy := sy) (ow := ow) (bl := bl) (sp := sp) (fT := fT) (lT := lT) (sh := sh) (sc := sc) (sn := sn) (sv := sv) (dh := dh) (dc := dc) (dn := dn) (dv := dv) (rR := rR) (pa := pa) (de := de) (oc := oc) (wa := wa) (te := te) (me := me) (qu := qu) (wo := wo) (co := co) v2 with ⟨b, b48, b16, e2, X2⟩ | ⟨n2, X2⟩
    · refine X2 _ (br_f (nI_pos (by omega)) (br_t (nI_pos' (by omega)) (nm_r zd_key ?_)))
      have key : ∀ r j, zq_p G v1 v2 r j ↔ zg_pl G a b r j := by
        intro r j
        have t1 := zy_cdb a48
        have t2 := zy_cdb b48
        constructor
        · rintro ⟨hr, x, y, hx, hy, w1, w2⟩
          have hx48 := zy_cdb (hid r j x hr hx).1
          have hy48 := zy_cdb (hid r (j + 1) y hr hy).1
          rw [e1, nI_eq (by omega) (by omega), zy_cdi] at w1
          rw [e2, nI_eq (by omega) (by omega), zy_cdi] at w2
          exact ⟨hr, by rw [hx, w1], by rw [hy, w2]⟩
        · rintro ⟨hr, hx, hy⟩
          exact ⟨hr, a, b, hx, hy, e1.symm, e2.symm⟩
      have hkk : a * 48 + b < 2304 := by omega
      obtain ⟨hS, hsy, hI, L, hF, hm, _⟩ := id r2.1
      have hmm := hm a b a48 b48
      obtain ⟨f1, f2, f3, f4, f5⟩ := hF.1 _ hkk
      have hct := zl_ct hF hkk
      have hhd := zl_hd hF hkk
      have plL : ∀ r j, zg_pl G a b r j → ∃ x, x ∈ L (a * 48 + b) ∧ ow x = r := by
        intro r j hp
        obtain ⟨x, _, _, x3, _, x5, x6, x7, x8⟩ := zx_pln hS r2.2.1 hp
        exact ⟨x, (hmm x).mpr ⟨⟨x3, x5⟩, x6, x7⟩, x8⟩
      have Lpl : ∀ x, x ∈ L (a * 48 + b) → ∃ j, zg_pl G a b (ow x) j := by
        intro x hx
        have q := (hmm x).mp hx
        obtain ⟨w1, j, w2, w3⟩ := zx_npl hS q.1.1 q.1.2
        refine ⟨j, w1, ?_, ?_⟩
        · rw [r2.2.1 _ w1, List.getElem?_map, w2, Option.map_some, q.2.1]
        · rw [r2.2.1 _ w1, List.getElem?_map, w3, Option.map_some, q.2.2]
      refine ⟨vp_in_nI hkk (by decide), ?_⟩
      rw [zn_rd (by omega), f2]
      refine pk_eq (L (a * 48 + b)).length 0 (fun c => none ?_) (fun c => ⟨vp_in_nI hkk (by decide), nm_r (e' := nI ((L (a * 48 + b)).headD 0)) (by rw [zn_rd (by omega), f1]) ⟨vp_in_nI hkk (by decide), nm_e ⟨(L (a * 48 + b)).length + 1, ?_⟩⟩⟩)
      · intro r j z
        obtain ⟨x, hx, _⟩ := plL r j ((key r j).mp z)
        rw [List.length_eq_zero_iff.mp c] at hx
        cases hx
      · refine zq_67 (L := L (a * 48 + b)) (by omega) ?_ (fun m hm => (hS.2.2.2.2.2.2.2 m (by omega)).1) ?_ (L (a * 48 + b)) [] 31 rfl (by decide) (by intro x hx; cases hx) (Or.inl rfl)
        · intro d x t e
          have hx : x ∈ L (a * 48 + b) := by rw [e]; simp
          have w := zx_Ub hS ((hmm x).mp hx).1.1
          exact ⟨w.2.1, w.2.2.1, zl_nxt f3 e⟩
        · intro m hm32 h1 h2
          have hat : ∃ j, zg_pl G a b m j := by
            rcases h2 with z | ⟨x, hx, z⟩
            · obtain ⟨x, hx⟩ : ∃ x, x ∈ L (a * 48 + b) := by
                cases e : L (a * 48 + b) with
                | nil => rw [e] at c; exact absurd rfl c
                | cons x t => exact ⟨x, by simp⟩
              have w := zx_Ub hS ((hmm x).mp hx).1.1
              have := h1 x hx
              have e31 : ow x = m := by omega
              rw [← e31]; exact Lpl x hx
            · rw [← z]; exact Lpl x hx
          obtain ⟨j, hj, hjl⟩ := pk_least _ hat
          refine ⟨(B m).length + 1, ?_⟩
          rw [(zx_lkh _ _ _ (hS.1 m hm32).1).1]
          refine zq_120 r2.1 r2.2.1 a48 b48 hm32 hj hjl ?_ (B m) [] rfl (Nat.zero_le _)
          refine zq_Y r6 ?_ (fun hn => absurd ((key m j).mpr hj) (hn m j))
          intro r' j' z1 z2 z3
          have p' := (key r' j').mp z1
          obtain ⟨x, hx, ox⟩ := plL r' j' p'
          have t1 := h1 x hx
          have er : r' = m := by
            rcases Nat.lt_or_ge m r' with w | w
            · exact absurd ((key m j).mpr hj) (z3 m j w)
            · omega
          rw [er] at p' z2
          have ej : j' = j := by
            rcases Nat.lt_trichotomy j' j with w | w | w
            · exact absurd p' (hjl j' w)
            · exact w
            · exact absurd ((key m j).mpr hj) (z2 j w)
          rw [er, ej]
          exact ⟨rfl, zr_in (h := hR)⟩
    · refine X2 _ (br_f (nI_pos (by omega)) (br_f (by decide) (none ?_)))
      rintro r j ⟨hr, x, y, hx, hy, w1, w2⟩
      have := hid r (j + 1) y hr hy
      exact n2 y this.1 this.2 w2.symm
  · refine X1 _ ?_
    have nn : ∀ r j, ¬ zq_p G v1 v2 r j := by
      rintro r j ⟨hr, x, y, hx, hy, w1, w2⟩
      have := hid r j x hr hx
      exact n1 x this.1 this.2 w1.symm
    rcases zq_id (xc1 := xc1) (xc2 := xc2) (xc3 := xc3) (xc4 := xc4) (xc5 := xc5) (xc6 := xc6) (xli := xli) (xle := xle) (xsz := xsz) (xcu := xcu) (xfn := xfn) (xst := xst) (xlv := xlv) (xhr := xhr) (xlo := xlo) (xrt := xrt) (xrT := xrT) (xrd := xrd) (xod := xod) (xtd := xtd) (na := na) (nb := nb) (sy := sy) (ow := ow) (bl := bl) (sp := sp) (fT := fT) (lT := lT) (sh := sh) (sc := sc) (sn := sn) (sv := sv) (dh := dh) (dc := dc) (dn := dn) (dv := dv) (rR := rR) (pa := pa) (de := de) (oc := oc) (wa := wa) (te := te) (me := me) (qu := qu) (wo := wo) (co := co) v2 with ⟨b, b48, b16, e2, X2⟩ | ⟨n2, X2⟩
    · exact X2 _ (br_t (by decide) (none nn))
    · exact X2 _ (br_t (by decide) (none nn))
end
section
/-! ===== counting in derivations ===== -/
def zc_T (G : Nat → List Nat) (om : Nat → Nat) : Nat → Nat → Nat
  | 0, _ => 0
  | n + 1, r => om r + zl_sm (fun id => if id < 16 then 0 else zc_T G om n (id - 16)) (G r)
theorem zc_Ts {G : Nat → List Nat} {om : Nat → Nat} (n r : Nat) : zc_T G om (n + 1) r = om r + zl_sm (fun id => if id < 16 then 0 else zc_T G om n (id - 16)) (G r) := rfl
theorem zl_smc {f g : Nat → Nat} : ∀ (l : List Nat), (∀ x ∈ l, f x = g x) → zl_sm f l = zl_sm g l
  | [], _ => rfl
  | x :: t, h => by
    show f x + zl_sm f t = g x + zl_sm g t
    rw [h x List.mem_cons_self, zl_smc t (fun y hy => h y (List.mem_cons_of_mem _ hy))]
theorem zc_st {G W : Nat → List Nat} {om : Nat → Nat} (h : zr_G G W) : ∀ (n m r : Nat), r < 32 → zg_rk W r < n → zg_rk W r < m → zc_T G om n r = zc_T G om m r := by
  intro n
  induction n with
  | zero => intro m r _ h1 _; omega
  | succ n ih =>
    intro m r hr h1 h2
    obtain ⟨m', rfl⟩ : ∃ m', m = m' + 1 := ⟨m - 1, by omega⟩
    rw [zc_Ts, zc_Ts]
    apply congrArg (om r + ·)
    apply zl_smc
    intro id hid
    by_cases c : id < 16
    · rw [if_pos c, if_pos c]
    · rw [if_neg c, if_neg c]
      have hid' : 16 + (id - 16) ∈ G r := by rw [show 16 + (id - 16) = id by omega]; exact hid
      have hk := zr_rk h hr hid'
      have hl := zr_lv h hr hid'
      exact ih m' (id - 16) hl.2.1 (by omega) (by omega)
def zc_t (G : Nat → List Nat) (om : Nat → Nat) (r : Nat) : Nat := zc_T G om 33 r
def zc_v (G : Nat → List Nat) (om : Nat → Nat) (id : Nat) : Nat := if id < 16 then 0 else zc_t G om (id - 16)
theorem zc_eq {G W : Nat → List Nat} {om : Nat → Nat} (h : zr_G G W) {r : Nat} (hr : r < 32) : zc_t G om r = om r + zl_sm (zc_v G om) (G r) := by
  have e : zc_t G om r = om r + zl_sm (fun id => if id < 16 then 0 else zc_T G om 32 (id - 16)) (G r) := zc_Ts 32 r
  rw [e]
  apply congrArg (om r + ·)
  apply zl_smc
  intro id hid
  unfold zc_v zc_t
  by_cases c : id < 16
  · rw [if_pos c, if_pos c]
  · rw [if_neg c, if_neg c]
    have hid' : 16 + (id - 16) ∈ G r := by rw [show 16 + (id - 16) = id by omega]; exact hid
    have hk := zr_rk h hr hid'
    have hl := zr_lv h hr hid'
    have := zg_rk31 (W := W) hr
    exact zc_st h 32 33 (id - 16) hl.2.1 (by omega) (by omega)
theorem zr_t16 {G W : Nat → List Nat} (h : zr_G G W) : ∀ (n r : Nat), r < 32 → zg_rk W r < n → ∀ t ∈ W r, t < 16 := by
  intro n
  induction n with
  | zero => intro r _ h1; omega
  | succ n ih =>
    intro r hr h1 t ht
    rw [h.1.2.1 r hr] at ht
    obtain ⟨id, hid, hm⟩ := List.mem_flatMap.mp ht
    unfold zg_w at hm
    by_cases c : id < 16
    · rw [if_pos c] at hm
      have : t = id := by simpa using hm
      omega
    · rw [if_neg c] at hm
      have hid' : 16 + (id - 16) ∈ G r := by rw [show 16 + (id - 16) = id by omega]; exact hid
      have hk := zr_rk h hr hid'
      have hl := zr_lv h hr hid'
      exact ih (id - 16) hl.2.1 (by omega) t hm
/-! ===== Y: expand ===== -/
theorem zy_2k {i : Nat} : 2048 + nI i = nI (2048 + i) := by
  rw [show (2048 : Int32) = nI 2048 from rfl, nI_add]
section
variable {yca yal yln ycu : Nat} {ysq ybo ysi yor : Nat → Nat}
theorem zy_e64 {post : Int32 → SY → Prop} {G W : Nat → List Nat} {wv : Int32} {om : Nat → Nat} (h : zr_G G W) (hom : ∀ q, q < 32 → (nI q = wv → om q = 1) ∧ (¬ nI q = wv → om q = 0)) {tot : Nat} {wd : List Nat}
    (K : ∀ bo' si' : Nat → Nat, zy_R G bo' si' → zy_row bo' 32 wd → si' 32 = wd.length → post (nI tot) (nI yca, nI yal, nI yln, nI ycu, zn_A ysq, zn_A bo', zn_A si', zn_A yor)) :
    ∀ (m : Nat) (D rem : List Nat) (seen round : Nat) (bo si : Nat → Nat), 2 * (rem.flatMap (zg_w W)).length ≤ rem.length + m → round + m ≤ 127 → zy_R G bo si → zy_row bo 32 (D ++ rem) → si 32 = (D ++ rem).length → D.length + (rem.flatMap (zg_w W)).length ≤ 64 → (∀ id ∈ rem, zg_id G id) →
      seen + zl_sm (zc_v G om) rem = tot → D ++ rem.flatMap (zg_w W) = wd → wY_expand_64 post wv (m + 1) (nI seen) (nI D.length) (nI round) (nI yca) (nI yal) (nI yln) (nI ycu) (zn_A ysq) (zn_A bo) (zn_A si) (zn_A yor) := by
  have wne : ∀ id, zg_id G id → zg_w W id ≠ [] := by
    intro id hid
    unfold zg_w
    rcases hid with z | z
    · rw [if_pos z]; simp
    · rw [if_neg (by omega)]; exact h.1.2.2.1 _ (by omega) z.2.2
  have fin : ∀ (n : Nat) (D : List Nat) (seen round : Nat) (bo si : Nat → Nat), zy_R G bo si → zy_row bo 32 D → si 32 = D.length → D.length ≤ 64 → seen = tot → D = wd → wY_expand_64 post wv (n + 1) (nI seen) (nI D.length) (nI round) (nI yca) (nI yal) (nI yln) (nI ycu) (zn_A ysq) (zn_A bo) (zn_A si) (zn_A yor) := by
    intro n D seen round bo si hR hrow hsi hD e1 e2
    subst e1 e2
    have e0 : zn_A si 32 = nI D.length := by show nI (si 32) = _; rw [hsi]
    rw [wY_expand_64]
    dsimp only
    rw [e0]
    exact br_c (fun _ => K bo si hR hrow hsi) (fun _ => br_t (nI_le (Nat.le_refl _) (by omega)) (K bo si hR hrow hsi))
  intro m
  induction m with
  | zero =>
    intro D rem seen round bo si h1 h2 hR hrow hsi hl hid e1 e2
    have hg := zg_fmg (f := zg_w W) rem (fun x hx => wne x (hid x hx))
    have : rem = [] := List.length_eq_zero_iff.mp (by omega)
    subst this
    rw [List.append_nil] at hrow hsi
    exact fin 0 D seen round bo si hR hrow hsi (by omega) (by rw [← e1]; rfl) (by rw [← e2]; simp)
  | succ m ih =>
    intro D rem seen round bo si h1 h2 hR hrow hsi hl hid e1 e2
    cases rem with
    | nil =>
      rw [List.append_nil] at hrow hsi
      exact fin (m + 1) D seen round bo si hR hrow hsi (by omega) (by rw [← e1]; rfl) (by rw [← e2]; simp)
    | cons x rem =>
      have hx := hid x (by simp)
      have hgr := zg_fmg (f := zg_w W) rem (fun y hy => wne y (hid y (List.mem_cons_of_mem _ hy)))
      have hwx := List.length_pos_iff.mpr (wne x hx)
      have hfl : ((x :: rem).flatMap (zg_w W)).length = (zg_w W x).length + (rem.flatMap (zg_w W)).length := by rw [List.flatMap_cons, List.length_append]
      rw [hfl] at h1 hl
      rw [List.length_cons] at h1
      have hDl : (D ++ x :: rem).length = D.length + (rem.length + 1) := by rw [List.length_append, List.length_cons]
      have e0 : zn_A si 32 = nI (D.length + (rem.length + 1)) := by show nI (si 32) = _; rw [hsi, hDl]
      have hb : bo (2048 + D.length) = zy_cd x := zy_rm hrow
      have x48 : x < 48 := by rcases hx with z | z <;> omega
      have xb := zy_cdb x48
      rw [wY_expand_64]
      dsimp only
      rw [e0]
      refine br_f ?_ (br_f (nI_ge (by omega) (by omega)) ?_)
      · rw [show (128 : Int32) = nI 128 from rfl, nI_leI (by omega) (by omega)]; omega
      rw [zy_2k]
      refine ⟨vp_in_nI (by omega) (by decide), nm_r (e' := nI (zy_cd x)) (by rw [zn_rd (by omega), hb]) ?_⟩
      refine pk_le 64 (zy_cd x) (fun c => ?_) (fun c => nm_r (nI_1 _) (nm_r (nI_1 _) ?_))
      · have hx16 : ¬ x < 16 := by
          intro z
          unfold zy_cd at c
          rw [if_pos z] at c
          omega
        obtain ⟨q, rfl⟩ : ∃ q, x = 16 + q := ⟨x - 16, by omega⟩
        have hq : 17 ≤ 16 + q ∧ 16 + q < 48 ∧ G (16 + q - 16) ≠ [] := hx.elim (fun z => absurd z hx16) id
        rw [show 16 + q - 16 = q by omega] at hq
        have q32 : q < 32 := by omega
        have hG2 : 2 ≤ (G q).length := by
          have t1 := List.length_pos_iff.mpr hq.2.2
          have t2 := h.2.1 q
          apply Classical.byContradiction
          intro w
          exact t2 ⟨by omega, by omega, by omega⟩
        obtain ⟨g1, g2, g3, g4⟩ := hR q q32
        rw [zg_wr] at hfl h1 hl
        have hWq : (G q).flatMap (zg_w W) = W q := (h.1.2.1 q q32).symm
        have hvq : zc_v G om (16 + q) = om q + zl_sm (zc_v G om) (G q) := by
          unfold zc_v
          rw [if_neg (by omega), show 16 + q - 16 = q by omega, zc_eq h q32]
          rfl
        have e1' : seen + (om q + zl_sm (zc_v G om) (G q) + zl_sm (zc_v G om) rem) = tot := by
          rw [← hvq]; exact e1
        have hgq := zg_fmg (f := zg_w W) (G q) (fun y hy => wne y (h.1.1 q q32 y hy))
        rw [hWq] at hgq
        have hlen : (D ++ G q ++ rem).length ≤ 64 := by rw [List.length_append, List.length_append]; omega
        have go : ∀ seen', seen' = seen + om q → wY_expand_126 post (wY_expand_64 post wv (m + 1)) wv (nI seen') (nI D.length) (nI round) (nI q) (nI yca) (nI yal) (nI yln) (nI ycu) (zn_A ysq) (zn_A bo) (zn_A si) (zn_A yor) := by
          intro seen' es
          unfold wY_expand_126
          refine zy_put (r := 32) (by omega) (by omega) (by omega) g1 g4 hq.2.2 hsi hrow hlen ?_
          intro bo' p1 p2
          refine nm_r (nI_1 _) (ih D (G q ++ rem) seen' (round + 1) bo' _ ?_ (by omega) ?_ ?_ ?_ ?_ ?_ ?_ ?_)
          · rw [List.flatMap_append, hWq, List.length_append, List.length_append]; omega
          · intro r hr
            obtain ⟨k1, k2, k3, k4⟩ := hR r hr
            refine ⟨by rw [zn_un (by omega)]; exact k1, k2, k3, zy_rf k4 (fun i hi => p2 _ (by omega))⟩
          · rw [← List.append_assoc]; exact p1
          · rw [zn_us, List.append_assoc]
          · rw [List.flatMap_append, hWq, List.length_append]; omega
          · intro id hi
            rcases List.mem_append.mp hi with z | z
            · exact h.1.1 q q32 id z
            · exact hid id (List.mem_cons_of_mem _ z)
          · rw [zl_sma, es]; omega
          · rw [← e2, List.flatMap_append, hWq, List.flatMap_cons, zg_wr]
        rw [zy_cdr]
        refine nm_r (e' := nI q) ?_ ?_
        · rw [show (64 : Int32) = nI 64 from rfl, pk_sub (by omega)]
          exact congrArg nI (by omega)
        refine br_c (fun z => nm_r (nI_1 _) (go (seen + 1) (by rw [(hom q q32).1 z]))) (fun z => go seen (by rw [(hom q q32).2 z, Nat.add_zero]))
      · have hx16 : x < 16 := by
          apply Classical.byContradiction
          intro z
          unfold zy_cd at c
          rw [if_neg z] at c
          omega
        have ew : zg_w W x = [x] := by unfold zg_w; rw [if_pos hx16]
        have ev : zc_v G om x = 0 := by unfold zc_v; rw [if_pos hx16]
        rw [ew] at hfl h1 hl
        have e1' : seen + (zc_v G om x + zl_sm (zc_v G om) rem) = tot := e1
        rw [ev] at e1'
        have l1 : [x].length = 1 := rfl
        have e3 : D.length + 1 = (D ++ [x]).length := by simp
        rw [e3]
        refine ih (D ++ [x]) rem seen (round + 1) bo si (by omega) (by omega) hR (by rw [List.append_assoc]; exact hrow) (by rw [hsi]; simp) (by rw [← e3]; omega) (fun id hi => hid id (List.mem_cons_of_mem _ hi)) (by omega) ?_
        rw [← e2, List.flatMap_cons, ew]; simp
theorem zy_e18 {post : Int32 → SY → Prop} {G W : Nat → List Nat} {wv : Int32} {om : Nat → Nat} {r : Nat} (h : zr_G G W) (hr : r < 32) (hom : ∀ q, q < 32 → (nI q = wv → om q = 1) ∧ (¬ nI q = wv → om q = 0)) (hG : G r ≠ [])
    (K : ∀ bo' si' : Nat → Nat, zy_R G bo' si' → zy_row bo' 32 (W r) → si' 32 = (W r).length → post (nI (zl_sm (zc_v G om) (G r))) (nI yca, nI yal, nI yln, nI ycu, zn_A ysq, zn_A bo', zn_A si', zn_A yor)) (hsi : ysi 32 = (G r).length) :
    ∀ (m k : Nat) (bo : Nat → Nat), k + m = (G r).length → zy_R G bo ysi → (∀ i id, i < k → (G r)[i]? = some id → bo (2048 + i) = zy_cd id) → wY_expand_18 post (nI r) wv 0 (nI yca) (nI yal) (nI yln) (nI ycu) (m + 1) (nI k) (zn_A ysq) (zn_A bo) (zn_A ysi) (zn_A yor) := by
  intro m
  induction m with
  | zero =>
    intro k bo hk hR hrow
    obtain ⟨g1, g2, g3, g4⟩ := hR r hr
    rw [wY_expand_18]
    refine ⟨vp_in_nI (by omega) (by decide), ?_⟩
    rw [zn_rd (by omega), g1]
    have hW := zr_W0 h hr
    have h64 := h.2.2.2.1
    have eW : (G r).flatMap (zg_w W) = W r := (h.1.2.1 r hr).symm
    have hpos := List.length_pos_iff.mpr hG
    refine br_t (nI_le (by omega) (by omega)) ⟨128, ?_⟩
    exact zy_e64 (om := om) h hom K 127 [] (G r) 0 0 bo ysi (by rw [eW]; omega) (by omega) hR (by intro i id hi; exact hrow i id (by have := (List.getElem?_eq_some_iff.mp hi).1; simp at this; omega) hi) hsi (by rw [eW]; simp; omega) (fun id hid => h.1.1 r hr id hid) (by rw [Nat.zero_add]) (by rw [eW]; rfl)
  | succ m ih =>
    intro k bo hk hR hrow
    obtain ⟨g1, g2, g3, g4⟩ := hR r hr
    obtain ⟨x, hx⟩ : ∃ x, (G r)[k]? = some x := ⟨(G r)[k]'(by omega), List.getElem?_eq_getElem _⟩
    rw [wY_expand_18]
    refine ⟨vp_in_nI (by omega) (by decide), ?_⟩
    rw [zn_rd (by omega), g1, zy_ix, zy_2k]
    refine br_f (nI_ge (by omega) (by omega)) ⟨vp_in_nI (by omega) (by decide), vp_in_nI (by omega) (by decide), nm_r (e' := zn_A (zn_u bo (2048 + k) (zy_cd x))) ?_ (nm_r (nI_1 k) (ih (k + 1) _ (by omega) ?_ ?_))⟩
    · rw [zn_rd (by omega), g4 k x hx, zn_up (by omega)]
    · intro q hq
      obtain ⟨k1, k2, k3, k4⟩ := hR q hq
      exact ⟨k1, k2, k3, zy_rf k4 (fun i hi => zn_un (by omega))⟩
    · intro i id hi hid
      by_cases c : i = k
      · rw [c] at hid ⊢
        rw [hx] at hid
        rw [zn_us, Option.some.inj hid]
      · rw [zn_un (by omega)]; exact hrow i id (by omega) hid
theorem zy_exp {post : Int32 → SY → Prop} {G W : Nat → List Nat} {wv : Int32} {om : Nat → Nat} {r : Nat} (h : zr_G G W) (hr : r < 32) (hom : ∀ q, q < 32 → (nI q = wv → om q = 1) ∧ (¬ nI q = wv → om q = 0)) (hG : G r ≠ []) (hR : zy_R G ybo ysi)
    (K : ∀ bo' si' : Nat → Nat, zy_R G bo' si' → zy_row bo' 32 (W r) → si' 32 = (W r).length → post (nI (zl_sm (zc_v G om) (G r))) (nI yca, nI yal, nI yln, nI ycu, zn_A ysq, zn_A bo', zn_A si', zn_A yor)) : wpY_expand post (nI yca, nI yal, nI yln, nI ycu, zn_A ysq, zn_A ybo, zn_A ysi, zn_A yor) (nI r) wv := by
  obtain ⟨g1, g2, g3, g4⟩ := hR r hr
  unfold wpY_expand
  refine ⟨vp_in_nI (by omega) (by decide), nm_r (e' := zn_A (zn_u ysi 32 (G r).length)) ?_ ⟨(G r).length + 1, ?_⟩⟩
  · rw [zn_rd (by omega), g1, zn_upk]
  · refine zy_e18 (ysi := zn_u ysi 32 (G r).length) h hr hom hG K zn_us (G r).length 0 ybo (by omega) ?_ (by intro i id hi; omega)
    intro q hq
    obtain ⟨k1, k2, k3, k4⟩ := hR q hq
    exact ⟨by rw [zn_un (by omega)]; exact k1, k2, k3, k4⟩
end
theorem zv_om : ∀ q, q < 32 → (nI q = (-1 : Int32) → (fun _ => 0) q = 1) ∧ (¬ nI q = (-1 : Int32) → (fun _ : Nat => 0) q = 0) := fun q hq => ⟨fun z => absurd z (zy_m1 (by omega)), fun _ => rfl⟩
theorem i_vc_generatedLength {k : Nat} {u : SX} {v : SY} (I : i_Rel k u v) (hk : k + 3 ≤ 1538) (v1 : Int32) : wpX_generatedLength (fun r => wpY_generatedLength (fun r' v' => r' = r ∧ i_Rel (k + 3) u v') v v1) u v1 := by
  refine zr_el (P := fun u v => wpX_generatedLength (fun r => wpY_generatedLength (fun r' v' => r' = r ∧ i_Rel (k + 3) u v') v v1) u v1) ?_ I
  intro G W B F xc1 xc2 xc3 xc4 xc5 xc6 xrd xod xtd xli xle xsz xcu xfn xst xrt xlv xhr xlo xrT na nb sy ow bl sp fT lT sh sc sn sv dh dc dn dv pa de oc wa me qu wo co rR te ysq ybo ysi yor hR
  obtain ⟨r1, r2, r3, r4, r5, r6, r7, r8, r9, r10, r11, r12, r13, r14⟩ := id hR
  unfold wpX_generatedLength wpY_generatedLength
  rcases zv_live r2.2.2.1 r6 v1 with ⟨r, hr, e, hl, hX, hY⟩ | ⟨hX, hY⟩
  · refine hX _ (br_f (by decide) ?_)
    subst e
    rw [show (16 : Int32) = nI 16 from rfl, nI_add]
    refine ⟨vp_in_nI (by omega) (by decide), hY _ (br_f (by decide) ?_)⟩
    rw [zn_rd (by omega)]
    refine pk_eq r 0 (fun c => ⟨?_, zr_in (h := hR)⟩) (fun c => ?_)
    · rw [c]
      show nI xsz = nI (sp 16)
      rw [r4]
    · have hg : G r ≠ [] := hl.elim (fun z => absurd z c) id
      refine zy_exp (om := fun _ => 0) r1 hr zv_om hg r6 ?_
      intro bo' si' hR' hrow hsi
      refine ⟨?_, zr_in (h := ⟨r1, r2, r3, r4, r5, hR', r7, r8, r9, r10, r11, r12, r13, r14⟩)⟩
      have := (r3 (16 + r) (Or.inr ⟨by omega, by omega, by rw [show 16 + r - 16 = r by omega]; exact hg⟩)).1
      rw [this, zg_wr]
      show nI (si' 32) = _
      rw [hsi]
  · exact hX _ (br_t rfl (hY _ (br_t rfl ⟨rfl, zr_in (h := hR)⟩)))
end
section
/-! ===== generatedSymbol ===== -/
theorem i_vc_generatedSymbol {k : Nat} {u : SX} {v : SY} (I : i_Rel k u v) (hk : k + 3 ≤ 1538) (v1 : Int32) (v2 : Int32) : wpX_generatedSymbol (fun r u' => wpY_generatedSymbol (fun r' v' => r' = r ∧ i_Rel (k + 3) u' v') v v1 v2) u v1 v2 := by
  refine zr_el (P := fun u v => wpX_generatedSymbol (fun r u' => wpY_generatedSymbol (fun r' v' => r' = r ∧ i_Rel (k + 3) u' v') v v1 v2) u v1 v2) ?_ I
  intro G W B F xc1 xc2 xc3 xc4 xc5 xc6 xrd xod xtd xli xle xsz xcu xfn xst xrt xlv xhr xlo xrT na nb sy ow bl sp fT lT sh sc sn sv dh dc dn dv pa de oc wa me qu wo co rR te ysq ybo ysi yor hR
  obtain ⟨r1, r2, r3, r4, r5, r6, r7, r8, r9, r10, r11, r12, r13, r14⟩ := id hR
  have hC : zr_C G W B sy na nb ow bl xfn xst F := ⟨r1, r2.1.1, r2.1.2.1, r2.2.1⟩
  unfold wpX_generatedSymbol wpY_generatedSymbol
  rcases zv_live r2.2.2.1 r6 v1 with ⟨r, hr, e, hl, hX, hY⟩ | ⟨hX, hY⟩
  · refine hX _ (br_f (by decide) ?_)
    subst e
    have h64 := zr_W0 r1 hr
    have h640 := r1.2.2.2.1
    have hsp : sp (16 + r) = (W r).length := by
      by_cases c : r = 0
      · rw [c]
        show sp 16 = _
        rw [r4, r5]
      · have hg : G r ≠ [] := hl.elim (fun z => absurd z c) id
        have := (r3 (16 + r) (Or.inr ⟨by omega, by omega, by rw [show 16 + r - 16 = r by omega]; exact hg⟩)).1
        rw [this, zg_wr]
    by_cases h0 : v2 < 0
    · exact br_t h0 (hY _ (br_f (by decide) (br_f (Int32.not_le.mpr h0) ⟨rfl, zr_in (h := hR)⟩)))
    · refine br_f h0 ?_
      obtain ⟨i, hi, e⟩ := nI_of h0
      subst e
      have h0' : (0 : Int32) ≤ nI i := nI_pos' hi
      rw [show (16 : Int32) = nI 16 from rfl, nI_add]
      refine ⟨vp_in_nI (by omega) (by decide), ?_⟩
      rw [zn_rd (by omega), hsp]
      refine pk_lt i (W r).length (fun c => ?_) (fun c => ?_)
      · obtain ⟨t, ht⟩ : ∃ t, (W r)[i]? = some t := ⟨(W r)[i], List.getElem?_eq_getElem c⟩
        have hdrop : (W r).drop i = t :: (W r).drop (i + 1) := by
          obtain ⟨w, e⟩ := List.getElem?_eq_some_iff.mp ht
          rw [List.drop_eq_getElem_cons w, e]
        refine zr_place (slot := 0) (by omega) hC r3 hr (by omega) ?_
        intro pa' de' stk hRD hf
        rw [hdrop] at hRD
        refine zr_read (slot := 0) (by omega) hC hRD ?_
        intro pa2 de2 stk2 hRD2 hrt hf2
        have hf3 := zr_frt hf hf2
        have hrd : xrd = 0 ∨ (xrd = 1 ∧ ∃ stk, zr_RD B sy W pa2 de2 2 stk ((W 0).drop xcu)) := by
          rcases r12 with z | ⟨z, s, w⟩
          · exact Or.inl z
          · exact Or.inr ⟨z, s, zr_RDf w hf3 (by omega)⟩
        refine hY _ (br_f (by decide) (br_t h0' ?_))
        refine pk_eq r 0 (fun c0 => ?_) (fun c0 => ?_)
        · rw [c0] at ht c
          refine br_f (nI_ge (by omega) (by omega)) ⟨vp_in_nI (by omega) (by decide), ?_, zr_in (h := ⟨r1, r2, r3, r4, r5, r6, r7, r8, r9, r10, r11, hrd, r13, r14⟩)⟩
          rw [zn_rd (by omega), r7 i t ht]
        · have hg : G r ≠ [] := hl.elim (fun z => absurd z c0) id
          refine zy_exp (om := fun _ => 0) r1 hr zv_om hg r6 ?_
          intro bo' si' hR' hrow hsi
          have e0 : zn_A si' 32 = nI (W r).length := by show nI (si' 32) = _; rw [hsi]
          dsimp only
          rw [e0, zy_2k]
          refine br_f (nI_ge c (by omega)) ⟨vp_in_nI (by omega) (by decide), ?_, zr_in (h := ⟨r1, r2, r3, r4, r5, hR', r7, r8, r9, r10, r11, hrd, r13, r14⟩)⟩
          have ht16 : t < 16 := zr_t16 r1 32 r hr (by have := zg_rk31 (W := W) hr; omega) t (List.mem_of_getElem? ht)
          rw [zn_rd (by omega), show 2048 + i = 32 * 64 + i by omega, hrow i t ht]
          unfold zy_cd
          rw [if_pos ht16]
      · refine hY _ (br_f (by decide) (br_t h0' ?_))
        refine pk_eq r 0 (fun c0 => ?_) (fun c0 => ?_)
        · rw [c0] at c
          exact br_t (nI_le (by omega) hi) ⟨rfl, zr_in (h := hR)⟩
        · have hg : G r ≠ [] := hl.elim (fun z => absurd z c0) id
          refine zy_exp (om := fun _ => 0) r1 hr zv_om hg r6 ?_
          intro bo' si' hR' hrow hsi
          have e0 : zn_A si' 32 = nI (W r).length := by show nI (si' 32) = _; rw [hsi]
          dsimp only
          rw [e0]
          exact br_t (nI_le c hi) ⟨rfl, zr_in (h := ⟨r1, r2, r3, r4, r5, hR', r7, r8, r9, r10, r11, r12, r13, r14⟩)⟩
  · exact hX _ (br_t rfl (hY _ (br_t rfl ⟨rfl, zr_in (h := hR)⟩)))
/-! ===== commonLength ===== -/
def zc_lc : List Nat → List Nat → Nat
  | x :: s, y :: t => if x = y then zc_lc s t + 1 else 0
  | _, _ => 0
theorem zc_lc0 {l : List Nat} : zc_lc [] l = 0 := by cases l <;> rfl
theorem zc_lc1 {l : List Nat} : zc_lc l [] = 0 := by cases l <;> rfl
theorem zc_lca : ∀ (p s t : List Nat), zc_lc (p ++ s) (p ++ t) = p.length + zc_lc s t
  | [], s, t => by rw [List.nil_append, List.nil_append]; simp
  | x :: p, s, t => by
    show (if x = x then zc_lc (p ++ s) (p ++ t) + 1 else 0) = _
    rw [if_pos rfl, zc_lca p s t, List.length_cons]; omega
theorem zc_lcs : ∀ (s : List Nat), zc_lc s s = s.length
  | [] => rfl
  | x :: s => by
    show (if x = x then zc_lc s s + 1 else 0) = _
    rw [if_pos rfl, zc_lcs s, List.length_cons]
section
variable {yca yal yln ycu : Nat} {ysq ybo ysi yor : Nat → Nat}
theorem zc_Y {post : Int32 → Prop} {W0 : List Nat} {i j tot : Nat} (h64 : W0.length ≤ 64) (hln : yln = W0.length) (hi : i ≤ W0.length) (hj : j ≤ W0.length) (hsq : ∀ i t, W0[i]? = some t → ysq i = t) (h16 : ∀ t ∈ W0, t < 16) (K : post (nI tot)) :
    ∀ (m n : Nat), n + m = W0.length → n + zc_lc (W0.drop (i + n)) (W0.drop (j + n)) = tot → wY_commonLength_28 post (nI i) (nI j) (nI yca) (nI yal) (nI yln) (nI ycu) (zn_A ysq) (zn_A ybo) (zn_A ysi) (zn_A yor) (m + 1) (nI n) := by
  intro m
  induction m with
  | zero =>
    intro n hn ht
    have e : W0.drop (i + n) = [] := List.drop_eq_nil_of_le (by omega)
    rw [e, zc_lc0] at ht
    rw [wY_commonLength_28]
    refine br_t (nI_le (by omega) (by omega)) ?_
    rw [hln, show W0.length = tot by omega]; exact K
  | succ m ih =>
    intro n hn ht
    rw [wY_commonLength_28]
    dsimp only
    rw [nI_add, nI_add]
    refine br_f (nI_ge (by omega) (by omega)) ?_
    refine pk_le yln (i + n) (fun c => ?_) (fun c => ?_)
    · have e : W0.drop (i + n) = [] := List.drop_eq_nil_of_le (by omega)
      rw [e, zc_lc0] at ht
      rw [show n = tot by omega]; exact K
    refine pk_lt (j + n) yln (fun c2 => ?_) (fun c2 => ?_)
    · obtain ⟨x, hx⟩ : ∃ x, W0[i + n]? = some x := ⟨W0[i + n]'(by omega), List.getElem?_eq_getElem _⟩
      obtain ⟨y, hy⟩ : ∃ y, W0[j + n]? = some y := ⟨W0[j + n]'(by omega), List.getElem?_eq_getElem _⟩
      have d1 : W0.drop (i + n) = x :: W0.drop (i + n + 1) := by
        obtain ⟨w, e⟩ := List.getElem?_eq_some_iff.mp hx
        rw [List.drop_eq_getElem_cons w, e]
      have d2 : W0.drop (j + n) = y :: W0.drop (j + n + 1) := by
        obtain ⟨w, e⟩ := List.getElem?_eq_some_iff.mp hy
        rw [List.drop_eq_getElem_cons w, e]
      have x16 := h16 x (List.mem_of_getElem? hx)
      have y16 := h16 y (List.mem_of_getElem? hy)
      refine ⟨vp_in_nI (by omega) (by decide), vp_in_nI (by omega) (by decide), ?_⟩
      rw [zn_rd (by omega), zn_rd (by omega), hsq _ _ hx, hsq _ _ hy]
      rw [d1, d2] at ht
      have ht' : n + (if x = y then zc_lc (W0.drop (i + n + 1)) (W0.drop (j + n + 1)) + 1 else 0) = tot := ht
      refine pk_eq x y (fun c3 => nm_r (nI_1 n) (ih (n + 1) (by omega) ?_)) (fun c3 => ?_)
      · rw [if_pos c3] at ht'
        rw [show i + (n + 1) = i + n + 1 by omega, show j + (n + 1) = j + n + 1 by omega]
        omega
      · rw [if_neg c3] at ht'
        rw [show n = tot by omega]; exact K
    · have e : W0.drop (j + n) = [] := List.drop_eq_nil_of_le (by omega)
      rw [e, zc_lc1] at ht
      rw [show n = tot by omega]; exact K
end
theorem zc_rmw {G W B : Nat → List Nat} {sy na nb ow bl : Nat → Nat} {fn st : Nat} {F : List Nat} (hC : zr_C G W B sy na nb ow bl fn st F) : ∀ (k : List (Nat × List Nat)), zr_sk B sy W k → ∀ id ∈ zr_rt sy k, ∃ r, r < 32 ∧ id ∈ G r
  | [], h => h.elim
  | s :: k, h => by
    obtain ⟨h1, ⟨pre, h2⟩, _, h4⟩ := zr_top h
    intro id hid
    rcases List.mem_append.mp hid with z | z
    · refine ⟨s.1, h1, ?_⟩
      rw [hC.2.2.2 s.1 h1, h2, List.map_append]
      obtain ⟨y, hy, e⟩ := List.mem_map.mp z
      exact List.mem_append_right _ (List.mem_map.mpr ⟨y, List.mem_of_mem_tail hy, e⟩)
    · by_cases c : k = []
      · rw [c] at z; cases z
      · exact zc_rmw hC k (h4 c).2 id z
/-- the top of a reader -/
theorem zc_top {G W B : Nat → List Nat} {sy na nb ow bl pa de : Nat → Nat} {fn st slot : Nat} {F : List Nat} {stk : List (Nat × List Nat)} {wd : List Nat} (hC : zr_C G W B sy na nb ow bl fn st F) (h : zr_RD B sy W pa de slot stk wd) :
    ∃ s k, stk = s :: k ∧ de slot = k.length ∧ k.length ≤ 31 ∧ pa (slot * 32 + k.length) = s.2.headD s.1 ∧ ((s.2 = [] ∧ s.1 < 32 ∧ wd = []) ∨
      ∃ x t, s.2 = x :: t ∧ 32 ≤ x ∧ x < 128 ∧ sy x < 48 ∧ sy x ∈ G s.1 ∧ s.1 < 32 ∧ wd = zg_w W (sy x) ++ (zr_rt sy stk).flatMap (zg_w W) ∧ (zr_rm sy stk).length = (zr_rt sy stk).length + 1) := by
  obtain ⟨h1, h2, h3, h4⟩ := h
  cases stk with
  | nil => exact h1.elim
  | cons s k =>
    obtain ⟨t1, t2, t3, t4⟩ := zr_top h1
    refine ⟨s, k, rfl, by rw [List.length_cons] at h3; omega, by omega, h2.1, ?_⟩
    cases e : s.2 with
    | nil =>
      left
      refine ⟨rfl, t1, ?_⟩
      have hk : k = [] := Classical.byContradiction fun z => (t4 z).1 e
      rw [← h4, hk]
      show (s.2.map sy ++ []).flatMap (zg_w W) = []
      rw [e]; rfl
    | cons x t =>
      right
      obtain ⟨c1, c2, c3, c4, c5⟩ := zr_cx hC h1 e
      refine ⟨x, t, rfl, c1, c2, c3, c5, t1, ?_, ?_⟩
      · rw [← h4]
        show (s.2.map sy ++ zr_rt sy k).flatMap (zg_w W) = zg_w W (sy x) ++ (s.2.tail.map sy ++ zr_rt sy k).flatMap (zg_w W)
        rw [e]
        show (sy x :: (t.map sy ++ zr_rt sy k)).flatMap (zg_w W) = _
        rw [List.flatMap_cons]; rfl
      · show (s.2.map sy ++ zr_rt sy k).length = (s.2.tail.map sy ++ zr_rt sy k).length + 1
        rw [e]
        simp only [List.length_append, List.length_map, List.length_cons, List.tail_cons]
        omega
theorem zc_w2 {G W : Nat → List Nat} (h : zr_G G W) {r id : Nat} (hr : r < 32) (hid : id ∈ G r) (h16 : 16 ≤ id) : 2 ≤ (zg_w W id).length := by
  have hid' : 16 + (id - 16) ∈ G r := by rw [show 16 + (id - 16) = id by omega]; exact hid
  obtain ⟨q0, q32, qn, q2⟩ := zr_lv h hr hid'
  unfold zg_w
  rw [if_neg (by omega), h.1.2.1 _ q32]
  have := zg_fmg (f := zg_w W) (G (id - 16)) (fun x hx => zg_wn h.1 q32 hx)
  omega
theorem zc_hd {G W : Nat → List Nat} (h : zr_G G W) {r id : Nat} (hr : r < 32) (hid : id ∈ G r) (h16 : id < 16) : zg_w W id = [id] := by unfold zg_w; rw [if_pos h16]
end
section
section
variable {xc1 xc2 xc3 xc4 xc5 xc6 xrd xod xtd : Int32} {xli xle xsz xcu xfn xst xrt : Nat} {xlv xhr xlo xrT : Int64} {na nb sy ow bl sp fT lT sh sc sn sv dh dc dn dv pa de oc wa me qu wo co : Nat → Nat} {rR : Nat → Int64} {te : Nat → Int32}
theorem zc_X {post : Int32 → SX → Prop} {G W B : Nat → List Nat} {F : List Nat} {tot : Nat} (hC : zr_C G W B sy na nb ow bl xfn xst F) (hSP : zx_SP G W sp fT lT) (htot : tot ≤ 64)
    (K : ∀ pa' de' : Nat → Nat, (∀ j, 64 ≤ j → pa' j = pa j) → de' 2 = de 2 → post (nI tot) (xc1, xc2, xc3, xc4, xc5, xc6, nI xli, nI xle, nI xsz, nI xcu, nI xfn, nI xst, xlv, xhr, xlo, nI xrt, xrT, xrd, xod, xtd, zn_A na, zn_A nb, zn_A sy, zn_A ow, zn_A bl, zn_A sp, zn_A fT, zn_A lT, zn_A sh, zn_A sc, zn_A sn, zn_A sv, zn_A dh, zn_A dc, zn_A dn, zn_A dv, rR, zn_A pa', zn_A de', zn_A oc, zn_A wa, te, zn_A me, zn_A qu, zn_A wo, zn_A co)) :
    ∀ (m c step : Nat) (pa' de' : Nat → Nat) (k0 k1 : List (Nat × List Nat)) (w0 w1 : List Nat), 2 * (w0.length + w1.length) ≤ (zr_rm sy k0).length + (zr_rm sy k1).length + m → step + m ≤ 255 → zr_RD B sy W pa' de' 0 k0 w0 → zr_RD B sy W pa' de' 1 k1 w1 →
      (∀ j, 64 ≤ j → pa' j = pa j) → de' 2 = de 2 → c + zc_lc w0 w1 = tot → wX_commonLength_57 post (m + 1) (nI c) (nI step) xc1 xc2 xc3 xc4 xc5 xc6 (nI xli) (nI xle) (nI xsz) (nI xcu) (nI xfn) (nI xst) xlv xhr xlo (nI xrt) xrT xrd xod xtd (zn_A na) (zn_A nb) (zn_A sy) (zn_A ow) (zn_A bl) (zn_A sp) (zn_A fT) (zn_A lT) (zn_A sh) (zn_A sc) (zn_A sn) (zn_A sv) (zn_A dh) (zn_A dc) (zn_A dn) (zn_A dv) rR (zn_A pa') (zn_A de') (zn_A oc) (zn_A wa) te (zn_A me) (zn_A qu) (zn_A wo) (zn_A co) := by
  have hG := hC.1
  intro m
  induction m with
  | zero =>
    intro c step pa' de' k0 k1 w0 w1 hm hst h0 h1 hp hd ht
    obtain ⟨s0, q0, e0, d0, l0, p0, z0⟩ := zc_top hC h0
    obtain ⟨s1, q1, e1, d1, l1, p1, z1⟩ := zc_top hC h1
    have len : ∀ k w pa de slot, zr_RD B sy W pa de slot k w → (zr_rm sy k).length ≤ w.length ∧ (zr_rm sy k ≠ [] → (zr_rm sy k).length < 2 * w.length) := by
      intro k w pa de slot hk
      obtain ⟨s, q, e, _, _, _, z⟩ := zc_top hC hk
      rcases z with ⟨z1, z2, z3⟩ | ⟨x, t, z1, z2, z3, z4, z5, z6, z7, z8⟩
      · have hq : zr_rm sy k = [] := by
          have hq0 : q = [] := by
            apply Classical.byContradiction
            intro w
            have := hk.1
            rw [e] at this
            exact ((zr_top this).2.2.2 w).1 z1
          rw [e, hq0]
          show s.2.map sy ++ [] = []
          rw [z1]; rfl
        rw [hq, z3]
        exact ⟨Nat.le_refl _, fun z => absurd rfl z⟩
      · have g := zg_fmg (f := zg_w W) (zr_rt sy k) (fun id hid => by
          obtain ⟨r, hr, hm⟩ := zc_rmw hC k hk.1 id hid
          exact zg_wn hG.1 hr hm)
        have wx := (zr_wl hG z6 z5).1
        rw [z7, z8, List.length_append]
        exact ⟨by omega, fun _ => by omega⟩
    have t0 := len k0 w0 pa' de' 0 h0
    have t1 := len k1 w1 pa' de' 1 h1
    have hw0 : w0 = [] := by
      apply Classical.byContradiction
      intro z
      have := List.length_pos_iff.mpr z
      omega
    have x0 : s0.2 = [] ∧ s0.1 < 32 := by
      rcases z0 with z | ⟨x, t, z1, z2, z3, z4, z5, z6, z7, z8⟩
      · exact ⟨z.1, z.2.1⟩
      · rw [hw0] at z7
        have := zg_wn hG.1 z6 z5
        exact absurd (List.append_eq_nil_iff.mp z7.symm).1 this
    rw [hw0, zc_lc0] at ht
    rw [wX_commonLength_57]
    dsimp only
    rw [show zn_A de' 0 = nI q0.length from by show nI (de' 0) = _; rw [d0], show zn_A de' 1 = nI q1.length from by show nI (de' 1) = _; rw [d1], show (32 : Int32) + nI q1.length = nI (32 + q1.length) from nI_add 32 _]
    refine br_f ?_ ⟨vp_in_nI (by omega) (by decide), nm_r (e' := nI s0.1) ?_ ⟨vp_in_nI (by omega) (by decide), nm_e (br_t ?_ ?_)⟩⟩
    · rw [show (256 : Int32) = nI 256 from rfl, nI_leI (by omega) (by omega)]; omega
    · rw [zn_rd (by omega)]
      have := p0
      rw [Nat.zero_mul, Nat.zero_add, x0.1] at this
      rw [this]; rfl
    · rw [show (31 : Int32) = nI 31 from rfl, nI_leI (by omega) (by omega)]; omega
    · rw [show c = tot by omega]
      exact K pa' de' hp hd
  | succ m ih =>
    intro c step pa' de' k0 k1 w0 w1 hm hst h0 h1 hp hd ht
    obtain ⟨s0, q0, e0, d0, l0, p0, z0⟩ := zc_top hC h0
    obtain ⟨s1, q1, e1, d1, l1, p1, z1⟩ := zc_top hC h1
    have dne : ∀ cc, cc = tot → post (nI cc) (xc1, xc2, xc3, xc4, xc5, xc6, nI xli, nI xle, nI xsz, nI xcu, nI xfn, nI xst, xlv, xhr, xlo, nI xrt, xrT, xrd, xod, xtd, zn_A na, zn_A nb, zn_A sy, zn_A ow, zn_A bl, zn_A sp, zn_A fT, zn_A lT, zn_A sh, zn_A sc, zn_A sn, zn_A sv, zn_A dh, zn_A dc, zn_A dn, zn_A dv, rR, zn_A pa', zn_A de', zn_A oc, zn_A wa, te, zn_A me, zn_A qu, zn_A wo, zn_A co) := fun cc hcc => by rw [hcc]; exact K pa' de' hp hd
    rw [wX_commonLength_57]
    dsimp only
    rw [show zn_A de' 0 = nI q0.length from by show nI (de' 0) = _; rw [d0], show zn_A de' 1 = nI q1.length from by show nI (de' 1) = _; rw [d1], show (32 : Int32) + nI q1.length = nI (32 + q1.length) from nI_add 32 _]
    refine br_f ?_ ⟨vp_in_nI (by omega) (by decide), nm_r (e' := nI (s0.2.headD s0.1)) ?_ ⟨vp_in_nI (by omega) (by decide), nm_r (e' := nI (s1.2.headD s1.1)) ?_ ?_⟩⟩
    · rw [show (256 : Int32) = nI 256 from rfl, nI_leI (by omega) (by omega)]; omega
    · rw [zn_rd (by omega)]
      have := p0
      rw [Nat.zero_mul, Nat.zero_add] at this
      rw [this]
    · rw [zn_rd (by omega)]
      have := p1
      rw [Nat.one_mul] at this
      rw [this]
    rcases z0 with ⟨a1, a2, a3⟩ | ⟨x, t, a1, a2, a3, a4, a5, a6, a7, a8⟩
    · rw [a1]
      refine br_t ?_ (dne c ?_)
      · show nI s0.1 ≤ 31
        rw [show (31 : Int32) = nI 31 from rfl, nI_leI (by omega) (by omega)]; omega
      · rw [a3, zc_lc0] at ht; omega
    have hx0 : s0.2.headD s0.1 = x := by rw [a1]; rfl
    rw [hx0]
    refine br_f ?_ ?_
    · rw [show (31 : Int32) = nI 31 from rfl, nI_leI (by omega) (by omega)]; omega
    rcases z1 with ⟨b1, b2, b3⟩ | ⟨y, t', b1, b2, b3, b4, b5, b6, b7, b8⟩
    · rw [b1]
      refine br_f ?_ (dne c ?_)
      · show ¬ 31 < nI s1.1
        rw [show (31 : Int32) = nI 31 from rfl, nI_ltI (by omega) (by omega)]; omega
      · rw [b3, zc_lc1] at ht; omega
    have hy0 : s1.2.headD s1.1 = y := by rw [b1]; rfl
    rw [hy0]
    have wl0 := zr_wl hG a6 a5
    have wl1 := zr_wl hG b6 b5
    have sp0 := (hSP _ (hG.1.1 _ a6 _ a5)).1
    have sp1 := (hSP _ (hG.1.1 _ b6 _ b5)).1
    refine br_t ?_ ⟨vp_in_nI a3 (by decide), nm_r (zn_rd (by omega)) ⟨vp_in_nI b3 (by decide), nm_r (zn_rd (by omega)) ?_⟩⟩
    · rw [show (31 : Int32) = nI 31 from rfl, nI_ltI (by omega) (by omega)]; omega
    refine pk_eq (sy x) (sy y) (fun exy => ?_) (fun exy => ?_)
    · refine ⟨vp_in_nI a4 (by decide), nm_r (e' := nI (c + (zg_w W (sy x)).length)) (by rw [zn_rd (by omega), sp0, nI_add]) ?_⟩
      have ne0 : w0 ≠ [] := by rw [a7]; intro z; exact zg_wn hG.1 a6 a5 (List.append_eq_nil_iff.mp z).1
      have ne1 : w1 ≠ [] := by rw [b7]; intro z; exact zg_wn hG.1 b6 b5 (List.append_eq_nil_iff.mp z).1
      refine zr_adv (slot := 0) (by omega) hC h0 ne0 ?_
      intro pa2 de2 h02 hf2
      have h12 := zr_RDf h1 hf2 (by omega)
      refine zr_adv (slot := 1) (by omega) hC h12 ne1 ?_
      intro pa3 de3 h13 hf3
      have h03 := zr_RDf h02 hf3 (by omega)
      have av0 := zr_avr k0 h0.1
      have av1 := zr_avr k1 h1.1
      refine nm_r (nI_1 _) (ih _ (step + 1) pa3 de3 _ _ _ _ ?_ (by omega) h03 h13 ?_ ?_ ?_)
      · rw [av0, av1]
        rw [a7, b7, List.length_append, List.length_append, a8, b8] at hm
        rw [← exy] at hm
        omega
      · intro j hj
        rw [hf3.1 j (by omega), hf2.1 j (by omega)]; exact hp j hj
      · rw [hf3.2 2 (by omega), hf2.2 2 (by omega)]; exact hd
      · rw [a7, b7, ← exy, zc_lca] at ht
        omega
    · have opn : (16 ≤ sy x ∨ 16 ≤ sy y) → wX_commonLength_174 post (wX_commonLength_57 post (m + 1)) (nI c) (nI step) (nI (sy x)) (nI (sy y)) xc1 xc2 xc3 xc4 xc5 xc6 (nI xli) (nI xle) (nI xsz) (nI xcu) (nI xfn) (nI xst) xlv xhr xlo (nI xrt) xrT xrd xod xtd (zn_A na) (zn_A nb) (zn_A sy) (zn_A ow) (zn_A bl) (zn_A sp) (zn_A fT) (zn_A lT) (zn_A sh) (zn_A sc) (zn_A sn) (zn_A sv) (zn_A dh) (zn_A dc) (zn_A dn) (zn_A dv) rR (zn_A pa') (zn_A de') (zn_A oc) (zn_A wa) te (zn_A me) (zn_A qu) (zn_A wo) (zn_A co) := by
        intro hor
        unfold wX_commonLength_174
        refine ⟨vp_in_nI a4 (by decide), vp_in_nI b4 (by decide), ?_⟩
        rw [zn_rd (by omega), zn_rd (by omega), sp0, sp1]
        refine pk_lt (zg_w W (sy x)).length (zg_w W (sy y)).length (fun cl => ?_) (fun cl => ?_)
        · have y16 : 16 ≤ sy y := by
            apply Classical.byContradiction
            intro z
            have : zg_w W (sy y) = [sy y] := zc_hd hG b6 b5 (by omega)
            rw [this] at cl
            have l1' : [sy y].length = 1 := rfl
            omega
          obtain ⟨r, er⟩ : ∃ r, sy y = 16 + r := ⟨sy y - 16, by omega⟩
          rw [e1] at h1
          obtain ⟨o1, o2, o3, o4, o5, o6⟩ := zr_op hC.2.2.2 hG h1.1 b1 er
          have g2 := (zr_lv hG b6 (er ▸ b5)).2.2.2
          refine zr_open (slot := 1) (by omega) hC h1 b1 er ?_
          intro pa2 de2 h12 hf2
          have h02 := zr_RDf h0 hf2 (by omega)
          refine nm_r (nI_1 _) (ih c (step + 1) pa2 de2 _ _ w0 w1 ?_ (by omega) h02 h12 ?_ ?_ ht)
          · rw [e1] at hm
            omega
          · intro j hj
            rw [hf2.1 j (by omega)]; exact hp j hj
          · rw [hf2.2 2 (by omega)]; exact hd
        · have x16 : 16 ≤ sy x := by
            apply Classical.byContradiction
            intro z
            have e2 : zg_w W (sy x) = [sy x] := zc_hd hG a6 a5 (by omega)
            have y16 : 16 ≤ sy y := hor.elim (fun w => absurd w z) id
            have := zc_w2 hG b6 b5 y16
            rw [e2] at cl
            have l1' : [sy x].length = 1 := rfl
            omega
          obtain ⟨r, er⟩ : ∃ r, sy x = 16 + r := ⟨sy x - 16, by omega⟩
          rw [e0] at h0
          obtain ⟨o1, o2, o3, o4, o5, o6⟩ := zr_op hC.2.2.2 hG h0.1 a1 er
          have g2 := (zr_lv hG a6 (er ▸ a5)).2.2.2
          refine zr_open (slot := 0) (by omega) hC h0 a1 er ?_
          intro pa2 de2 h02 hf2
          have h12 := zr_RDf h1 hf2 (by omega)
          refine nm_r (nI_1 _) (ih c (step + 1) pa2 de2 _ _ w0 w1 ?_ (by omega) h02 h12 ?_ ?_ ht)
          · rw [e0] at hm
            omega
          · intro j hj
            rw [hf2.1 j (by omega)]; exact hp j hj
          · rw [hf2.2 2 (by omega)]; exact hd
      refine pk_le 16 (sy x) (fun cx => opn (Or.inl cx)) (fun cx => ?_)
      refine pk_le 16 (sy y) (fun cy => opn (Or.inr cy)) (fun cy => dne c ?_)
      have e2 : zg_w W (sy x) = [sy x] := zc_hd hG a6 a5 cx
      have e3 : zg_w W (sy y) = [sy y] := zc_hd hG b6 b5 cy
      rw [a7, b7, e2, e3] at ht
      have ht' : c + (if sy x = sy y then zc_lc ((zr_rt sy k0).flatMap (zg_w W)) ((zr_rt sy k1).flatMap (zg_w W)) + 1 else 0) = tot := ht
      rw [if_neg exy] at ht'
      omega
end
theorem zc_lcb : ∀ (s t : List Nat), zc_lc s t ≤ s.length
  | [], t => by rw [zc_lc0]; exact Nat.zero_le _
  | x :: s, [] => by rw [zc_lc1]; exact Nat.zero_le _
  | x :: s, y :: t => by
    show (if x = y then zc_lc s t + 1 else 0) ≤ _
    have := zc_lcb s t
    by_cases c : x = y
    · rw [if_pos c, List.length_cons]; omega
    · rw [if_neg c]; exact Nat.zero_le _
theorem i_vc_commonLength {k : Nat} {u : SX} {v : SY} (I : i_Rel k u v) (hk : k + 3 ≤ 1538) (v1 : Int32) (v2 : Int32) : wpX_commonLength (fun r u' => wpY_commonLength (fun r' => r' = r ∧ i_Rel (k + 3) u' v) v v1 v2) u v1 v2 := by
  refine zr_el (P := fun u v => wpX_commonLength (fun r u' => wpY_commonLength (fun r' => r' = r ∧ i_Rel (k + 3) u' v) v v1 v2) u v1 v2) ?_ I
  intro G W B F xc1 xc2 xc3 xc4 xc5 xc6 xrd xod xtd xli xle xsz xcu xfn xst xrt xlv xhr xlo xrT na nb sy ow bl sp fT lT sh sc sn sv dh dc dn dv pa de oc wa me qu wo co rR te ysq ybo ysi yor hR
  obtain ⟨r1, r2, r3, r4, r5, r6, r7, r8, r9, r10, r11, r12, r13, r14⟩ := id hR
  have hC : zr_C G W B sy na nb ow bl xfn xst F := ⟨r1, r2.1.1, r2.1.2.1, r2.2.1⟩
  have h640 := r1.2.2.2.1
  unfold wpX_commonLength wpY_commonLength
  by_cases c1 : v1 < 0
  · exact br_t c1 (br_t c1 ⟨rfl, zr_in (h := hR)⟩)
  refine br_f c1 ?_
  by_cases c2 : nI xsz < v1
  · exact br_t c2 (br_f c1 (br_t c2 ⟨rfl, zr_in (h := hR)⟩))
  refine br_f c2 ?_
  by_cases c3 : v2 < 0
  · exact br_t c3 (br_f c1 (br_f c2 (br_t c3 ⟨rfl, zr_in (h := hR)⟩)))
  refine br_f c3 ?_
  by_cases c4 : v2 ≤ nI xsz
  case neg => exact br_f c4 (br_f c1 (br_f c2 (br_f c3 (br_f c4 ⟨rfl, zr_in (h := hR)⟩))))
  refine br_t c4 ?_
  obtain ⟨i, hi, e1⟩ := nI_of c1
  obtain ⟨j, hj, e2⟩ := nI_of c3
  subst e1 e2
  have hi' : i ≤ xsz := by rw [nI_ltI (by omega) hi] at c2; omega
  have hj' : j ≤ xsz := by rw [nI_leI hj (by omega)] at c4; exact c4
  have Y : ∀ (post : Int32 → Prop), post (nI (zc_lc ((W 0).drop i) ((W 0).drop j))) → ∃ n28, wY_commonLength_28 post (nI i) (nI j) (nI xli) (nI xle) (nI xsz) (nI xcu) (zn_A ysq) (zn_A ybo) (zn_A ysi) (zn_A yor) n28 0 := by
    intro post hp
    exact ⟨(W 0).length + 1, zc_Y (i := i) (j := j) h640 r5 (by omega) (by omega) r7 r1.2.2.2.2 hp (W 0).length 0 (by omega) (by rw [Nat.add_zero, Nat.add_zero, Nat.zero_add])⟩
  refine pk_eq i j (fun c => ?_) (fun c => ?_)
  · refine br_f c1 (br_f c2 (br_f c3 (br_t c4 (Y _ ⟨?_, zr_in (h := hR)⟩))))
    rw [← c, zc_lcs, List.length_drop, pk_sub hi', r5]
  · have hb := zc_lcb ((W 0).drop i) ((W 0).drop j)
    rw [List.length_drop] at hb
    refine zr_place (slot := 0) (r := 0) (by omega) hC r3 (by omega) (by omega) ?_
    intro pa1 de1 k0 h0 hf0
    refine zr_place (slot := 1) (r := 0) (by omega) hC r3 (by omega) (by omega) ?_
    intro pa2 de2 k1 h1 hf1
    have h0' := zr_RDf h0 hf1 (by omega)
    refine ⟨256, ?_⟩
    refine zc_X (tot := zc_lc ((W 0).drop i) ((W 0).drop j)) hC r3 (by omega) ?_ 255 0 0 pa2 de2 k0 k1 _ _ ?_ (by omega) h0' h1 (fun _ _ => rfl) rfl (by rw [Nat.zero_add])
    · intro pa' de' hp hd
      have hrd : xrd = 0 ∨ (xrd = 1 ∧ ∃ stk, zr_RD B sy W pa' de' 2 stk ((W 0).drop xcu)) := by
        rcases r12 with z | ⟨z, s, w⟩
        · exact Or.inl z
        · refine Or.inr ⟨z, s, ?_⟩
          have w2 := zr_RDf (zr_RDf w hf0 (by omega)) hf1 (by omega)
          obtain ⟨w3, w4, w5, w6⟩ := w2
          exact ⟨w3, zr_paf _ (fun j hj => hp _ (by omega)) w4, by rw [hd]; exact w5, w6⟩
      exact br_f c1 (br_f c2 (br_f c3 (br_t c4 (Y _ ⟨rfl, zr_in (h := ⟨r1, r2, r3, r4, r5, r6, r7, r8, r9, r10, r11, hrd, r13, r14⟩)⟩))))
    · rw [List.length_drop, List.length_drop]
      omega
end
section
/-! ===== X: prepareOccurrences ===== -/
def zo_Q (G : Nat → List Nat) (wa qu : Nat → Nat) (Q : List Nat) : Prop := Q.Nodup ∧ (∀ q ∈ Q, q < 32) ∧ (∀ q, q ∈ Q ↔ (q = 0 ∨ (0 < q ∧ q < 32 ∧ G q ≠ [] ∧ wa q = 0))) ∧ (∀ i, i < Q.length → qu i = Q.getD i 0)
theorem zo_sg {a b : Nat} (h : a < b) (hb : b < 2 ^ 30) : nI a - nI b ≤ 0 := Int32.le_of_lt (pk_sneg hb h)
section
variable {xc1 xc2 xc3 xc4 xc5 xc6 xrd xod xtd : Int32} {xli xle xsz xcu xfn xst xrt : Nat} {xlv xhr xlo xrT : Int64} {na nb sy ow bl sp fT lT sh sc sn sv dh dc dn dv pa de oc wa me qu wo co : Nat → Nat} {rR : Nat → Int64} {te : Nat → Int32}
theorem zo_in {post : SX → Prop} {J : Int32 → Int32 → (Nat → Int32) → (Nat → Int32) → (Nat → Int32) → (Nat → Int32) → (Nat → Int32) → (Nat → Int32) → (Nat → Int32) → (Nat → Int32) → (Nat → Int32) → (Nat → Int32) → (Nat → Int32) → (Nat → Int32) → (Nat → Int32) → (Nat → Int32) → (Nat → Int32) → (Nat → Int32) → (Nat → Int64) → (Nat → Int32) → (Nat → Int32) → (Nat → Int32) → (Nat → Int32) → (Nat → Int32) → (Nat → Int32) → (Nat → Int32) → (Nat → Int32) → (Nat → Int32) → Prop}
    {G W B : Nat → List Nat} {F : List Nat} {r h : Nat} {oc0 wa0 : Nat → Nat} {Q0 : List Nat} (hC : zr_C G W B sy na nb ow bl xfn xst F) (hr : r < 32) (hh : h < 32) (hwb : ∀ q, 0 < q → q < 32 → (G r).count (16 + q) ≤ wa0 q) (hw64 : ∀ q, q < 32 → wa0 q < 2 ^ 30)
    (K : ∀ (oc' wa' qu' : Nat → Nat) (Q' : List Nat), (∀ q, 0 < q → q < 32 → oc' q = oc0 q + oc0 r * (G r).count (16 + q)) → oc' 0 = oc0 0 → (∀ q, 0 < q → q < 32 → wa' q + (G r).count (16 + q) = wa0 q) → zo_Q G wa' qu' Q' → (∃ E, Q' = Q0 ++ E) →
      J (nI Q'.length) (nI (h + 1)) (zn_A na) (zn_A nb) (zn_A sy) (zn_A ow) (zn_A bl) (zn_A sp) (zn_A fT) (zn_A lT) (zn_A sh) (zn_A sc) (zn_A sn) (zn_A sv) (zn_A dh) (zn_A dc) (zn_A dn) (zn_A dv) rR (zn_A pa) (zn_A de) (zn_A oc') (zn_A wa') te (zn_A me) (zn_A qu') (zn_A wo) (zn_A co)) :
    ∀ (t d : List Nat) (oc wa qu : Nat → Nat) (Q : List Nat), B r = d ++ t → (∀ q, 0 < q → q < 32 → oc q = oc0 q + oc0 r * (d.map sy).count (16 + q)) → oc 0 = oc0 0 → (∀ q, 0 < q → q < 32 → wa q + (d.map sy).count (16 + q) = wa0 q) → zo_Q G wa qu Q → (∃ E, Q = Q0 ++ E) →
      wX_prepareOccurrences_91 post J (nI h) (nI r) xc1 xc2 xc3 xc4 xc5 xc6 (nI xli) (nI xle) (nI xsz) (nI xcu) (nI xfn) (nI xst) xlv xhr xlo (nI xrt) xrT xrd xod xtd (t.length + 1) (nI Q.length) (nI (t.headD r)) (nI d.length) (zn_A na) (zn_A nb) (zn_A sy) (zn_A ow) (zn_A bl) (zn_A sp) (zn_A fT) (zn_A lT) (zn_A sh) (zn_A sc) (zn_A sn) (zn_A sv) (zn_A dh) (zn_A dc) (zn_A dn) (zn_A dv) rR (zn_A pa) (zn_A de) (zn_A oc) (zn_A wa) te (zn_A me) (zn_A qu) (zn_A wo) (zn_A co) := by
  have hS := hC.2.1
  have hG := hC.2.2.2
  have hbl : bl r = (B r).length := (hS.1 r hr).2.2.2
  have hlen : (B r).length ≤ 96 := by
    have t := zx_sul (f := fun q => (B q).length) 32 r hr
    rw [← hS.2.2.2.2.2.1] at t
    have t' : (B r).length ≤ xst := t
    have := hS.2.2.2.2.2.2.1
    omega
  intro t
  induction t with
  | nil =>
    intro d oc wa qu Q e h1 h2 h3 hQ hE
    rw [List.append_nil] at e
    have eg : d.map sy = G r := by rw [hG r hr, e]
    rw [eg] at h1 h3
    rw [wX_prepareOccurrences_91]
    refine ⟨vp_in_nI hr (by decide), ?_⟩
    rw [zn_rd (by omega), hbl, e]
    exact br_t (nI_le (Nat.le_refl _) (by rw [← e]; omega)) (nm_r (nI_1 h) (K oc wa qu Q h1 h2 h3 hQ hE))
  | cons x t ih =>
    intro d oc wa qu Q e h1 h2 h3 hQ hE
    have hm : x ∈ B r := by rw [e]; simp
    have q := (hS.1 r hr).2.2.1 x hm
    have hnx := (zx_spl hS hr e).2.1
    have hid : sy x ∈ G r := by rw [hG r hr]; exact List.mem_map_of_mem hm
    have s48 := hC.2.2.1 x ⟨r, hr, hm⟩
    have hl2 : (B r).length = d.length + (t.length + 1) := by rw [e, List.length_append, List.length_cons]
    have hcnt : ∀ v, (G r).count v = (d.map sy).count v + ((sy x :: t.map sy).count v) := by
      intro v
      rw [hG r hr, e, List.map_append, List.count_append, List.map_cons]
    have hsn : ∀ v, ((d ++ [x]).map sy).count v = (d.map sy).count v + (if sy x = v then 1 else 0) := by
      intro v
      rw [List.map_append, List.count_append]
      show _ + [sy x].count v = _
      by_cases c : sy x = v
      · rw [if_pos c, c]; simp
      · rw [if_neg c]; simp [c]
    have QB : Q.length ≤ 32 := zl_ph 32 Q hQ.1 hQ.2.1
    have nxt : ∀ (oc wa qu : Nat → Nat) (Q : List Nat), (∀ q, 0 < q → q < 32 → oc q = oc0 q + oc0 r * ((d ++ [x]).map sy).count (16 + q)) → oc 0 = oc0 0 → (∀ q, 0 < q → q < 32 → wa q + ((d ++ [x]).map sy).count (16 + q) = wa0 q) → zo_Q G wa qu Q → (∃ E, Q = Q0 ++ E) →
        ∀ y, y = zn_A na (nI x).toNatClampNeg → ∀ z, z = nI d.length + 1 → wX_prepareOccurrences_91 post J (nI h) (nI r) xc1 xc2 xc3 xc4 xc5 xc6 (nI xli) (nI xle) (nI xsz) (nI xcu) (nI xfn) (nI xst) xlv xhr xlo (nI xrt) xrT xrd xod xtd (t.length + 1) (nI Q.length) y z (zn_A na) (zn_A nb) (zn_A sy) (zn_A ow) (zn_A bl) (zn_A sp) (zn_A fT) (zn_A lT) (zn_A sh) (zn_A sc) (zn_A sn) (zn_A sv) (zn_A dh) (zn_A dc) (zn_A dn) (zn_A dv) rR (zn_A pa) (zn_A de) (zn_A oc) (zn_A wa) te (zn_A me) (zn_A qu) (zn_A wo) (zn_A co) := by
      intro oc wa qu Q k1 k2 k3 k4 k5
      refine nm_r (e' := nI (t.headD r)) (by rw [zn_rd (by omega), hnx]) (nm_r (e' := nI (d ++ [x]).length) (by rw [nI_1]; simp) ?_)
      exact ih (d ++ [x]) oc wa qu Q (by rw [e]; simp) k1 k2 k3 k4 k5
    show wX_prepareOccurrences_91 post J (nI h) (nI r) xc1 xc2 xc3 xc4 xc5 xc6 (nI xli) (nI xle) (nI xsz) (nI xcu) (nI xfn) (nI xst) xlv xhr xlo (nI xrt) xrT xrd xod xtd ((t.length + 1) + 1) (nI Q.length) (nI x) (nI d.length) (zn_A na) (zn_A nb) (zn_A sy) (zn_A ow) (zn_A bl) (zn_A sp) (zn_A fT) (zn_A lT) (zn_A sh) (zn_A sc) (zn_A sn) (zn_A sv) (zn_A dh) (zn_A dc) (zn_A dn) (zn_A dv) rR (zn_A pa) (zn_A de) (zn_A oc) (zn_A wa) te (zn_A me) (zn_A qu) (zn_A wo) (zn_A co)
    rw [wX_prepareOccurrences_91]
    refine ⟨vp_in_nI hr (by decide), ?_⟩
    rw [zn_rd (by omega), hbl]
    refine br_f (nI_ge (by omega) (by omega)) ⟨vp_in_nI q.2.1 (by decide), ?_⟩
    by_cases c16 : sy x < 16
    · refine nm_r (e' := nI (sy x) - nI 16) (by rw [zn_rd (by omega)]; rfl) ?_
      refine br_t (zo_sg c16 (by omega)) ⟨vp_in_nI q.2.1 (by decide), nxt oc wa qu Q ?_ h2 ?_ hQ hE⟩
      · intro v v0 v32
        rw [hsn, if_neg (by omega), Nat.add_zero]; exact h1 v v0 v32
      · intro v v0 v32
        rw [hsn, if_neg (by omega), Nat.add_zero]; exact h3 v v0 v32
    · obtain ⟨v, ev⟩ : ∃ v, sy x = 16 + v := ⟨sy x - 16, by omega⟩
      have hlv := zr_lv hC.1 hr (ev ▸ hid)
      have v0 := hlv.1
      have v32 := hlv.2.1
      have hself := zg_self hC.1.1 r hr
      have hvr : v ≠ r := fun z => hself (by have w := hid; rw [ev, z] at w; exact w)
      have hcr : (d.map sy).count (16 + r) = 0 := by
        have t1 := hcnt (16 + r)
        rw [List.count_eq_zero.mpr hself] at t1
        omega
      have hor : oc r = oc0 r := by
        by_cases z : r = 0
        · rw [z]; exact h2
        · rw [h1 r (by omega) hr, hcr]; simp
      have hwv := h3 v v0 v32
      have hge := hwb v v0 v32
      rw [hcnt, ev, List.count_cons_self] at hge
      have hwv64 := hw64 v v32
      have hnq : v ∉ Q := by
        intro z
        rcases (hQ.2.2.1 v).mp z with w | w
        · omega
        · omega
      have QB31 : Q.length ≤ 31 := by
        have := zl_ph 32 (v :: Q) (List.nodup_cons.mpr ⟨hnq, hQ.1⟩) (fun y hy => by
          rcases List.mem_cons.mp hy with z | z
          · rw [z]; exact v32
          · exact hQ.2.1 y z)
        rw [List.length_cons] at this
        omega
      have k1 : ∀ q, 0 < q → q < 32 → zn_u oc v (oc v + oc0 r) q = oc0 q + oc0 r * ((d ++ [x]).map sy).count (16 + q) := by
        intro q q0 q32
        rw [hsn]
        by_cases z : q = v
        · rw [z, zn_us, if_pos ev, h1 v v0 v32, Nat.mul_add]; omega
        · rw [zn_un z, if_neg (by omega), Nat.add_zero]; exact h1 q q0 q32
      have k2 : zn_u oc v (oc v + oc0 r) 0 = oc0 0 := by rw [zn_un (by omega)]; exact h2
      have k3 : ∀ q, 0 < q → q < 32 → zn_u wa v (wa v - 1) q + ((d ++ [x]).map sy).count (16 + q) = wa0 q := by
        intro q q0 q32
        rw [hsn]
        by_cases z : q = v
        · rw [z, zn_us, if_pos ev]; omega
        · rw [zn_un z, if_neg (by omega), Nat.add_zero]; exact h3 q q0 q32
      refine nm_r (e' := nI v) (by rw [zn_rd (by omega), show (16 : Int32) = nI 16 from rfl, pk_sub (by omega)]; exact congrArg nI (by omega)) ?_
      refine br_f (nI_nle v0 (by omega)) ⟨vp_in_nI v32 (by decide), vp_in_nI hr (by decide), vp_in_nI v32 (by decide), nm_r (e' := zn_A (zn_u oc v (oc v + oc0 r))) (by rw [zn_rd (by omega), zn_rd (by omega), hor, nI_add, zn_up (by omega)]) ⟨vp_in_nI v32 (by decide), vp_in_nI v32 (by decide), nm_r (e' := zn_A (zn_u wa v (wa v - 1))) (by rw [zn_rd (by omega), show (1 : Int32) = nI 1 from rfl, pk_sub (by omega), zn_up (by omega)]) ⟨vp_in_nI v32 (by decide), ?_⟩⟩⟩
      rw [zn_rd (by omega), zn_us]
      refine pk_eq (wa v - 1) 0 (fun cz => ?_) (fun cz => ?_)
      · refine br_f ?_ ⟨vp_in_nI (by omega) (by decide), nm_r (zn_up (by omega)) (nm_r (e' := nI (Q ++ [v]).length) (by rw [nI_1]; simp) ⟨vp_in_nI q.2.1 (by decide), ?_⟩)⟩
        · rw [show (31 : Int32) = nI 31 from rfl, nI_ltI (by omega) (by omega)]; omega
        · refine nxt _ _ _ (Q ++ [v]) k1 k2 k3 ⟨?_, ?_, ?_, ?_⟩ ?_
          · rw [List.nodup_append]
            refine ⟨hQ.1, by simp, ?_⟩
            intro a ha b hb z
            have : b = v := by simpa using hb
            exact hnq (by rw [← this, ← z]; exact ha)
          · intro y hy
            rcases List.mem_append.mp hy with z | z
            · exact hQ.2.1 y z
            · have : y = v := by simpa using z
              omega
          · intro y
            rw [List.mem_append, hQ.2.2.1 y]
            by_cases z : y = v
            · rw [z, zn_us]
              exact ⟨fun _ => Or.inr ⟨v0, v32, hlv.2.2.1, cz⟩, fun _ => Or.inr (by simp)⟩
            · rw [zn_un z]
              constructor
              · rintro (w | w)
                · exact w
                · exact absurd (by simpa using w) z
              · exact Or.inl
          · intro i hi
            rw [List.length_append] at hi
            have : [v].length = 1 := rfl
            by_cases z : i = Q.length
            · rw [z, zn_us, List.getD_eq_getElem?_getD, List.getElem?_append_right (Nat.le_refl _)]; simp
            · rw [zn_un z, hQ.2.2.2 i (by omega), List.getD_eq_getElem?_getD, List.getD_eq_getElem?_getD, List.getElem?_append_left (by omega)]
          · obtain ⟨E, eE⟩ := hE
            exact ⟨E ++ [v], by rw [eE]; simp⟩
      · refine ⟨vp_in_nI q.2.1 (by decide), nxt _ _ _ Q k1 k2 k3 ⟨hQ.1, hQ.2.1, ?_, hQ.2.2.2⟩ hE⟩
        intro y
        rw [hQ.2.2.1 y]
        by_cases z : y = v
        · rw [z, zn_us]
          constructor
          · rintro (w | w)
            · exact Or.inl w
            · omega
          · rintro (w | w)
            · exact Or.inl w
            · exact absurd w.2.2.2 cz
        · rw [zn_un z]
end
end
section
def zo_1 (G : Nat → List Nat) (b oc : Nat → Nat) (q : Nat) : Nat := zx_su (fun r => b r * (oc r * (G r).count (16 + q))) 32
def zo_0 (G : Nat → List Nat) (b : Nat → Nat) (q : Nat) : Nat := zx_su (fun r => (1 - b r) * (G r).count (16 + q)) 32
def zo_I (G : Nat → List Nat) (b oc wa qu : Nat → Nat) (Q : List Nat) (h : Nat) : Prop :=
  (∀ r, b r = 0 ∨ b r = 1) ∧ (∀ r, r < 32 → (b r = 1 ↔ r ∈ Q.take h)) ∧ oc 0 = 1 ∧ (∀ q, 0 < q → q < 32 → oc q = zo_1 G b oc q) ∧ (∀ q, 0 < q → q < 32 → wa q = zo_0 G b q) ∧ zo_Q G wa qu Q ∧ h ≤ Q.length
theorem zo_bd {G W : Nat → List Nat} (h : zr_G G W) (b : Nat → Nat) (q : Nat) : zo_0 G b q ≤ zg_s G := by
  unfold zo_0 zg_s
  have : ∀ n, zx_su (fun r => (1 - b r) * (G r).count (16 + q)) n ≤ zx_su (fun r => (G r).length) n := by
    intro n
    induction n with
    | zero => exact Nat.le_refl _
    | succ n ih =>
      show _ + _ ≤ _ + _
      refine Nat.add_le_add ih ?_
      show (1 - b n) * (G n).count (16 + q) ≤ (G n).length
      have t : (G n).count (16 + q) ≤ (G n).length := List.count_le_length
      have t2 : (1 - b n) * (G n).count (16 + q) ≤ 1 * (G n).count (16 + q) := Nat.mul_le_mul_right _ (by omega)
      omega
  exact this 32
/-- a body has been counted -/
theorem zo_st {G W : Nat → List Nat} (hG : zr_G G W) {b oc wa qu oc' wa' qu' : Nat → Nat} {Q Q' : List Nat} {h r : Nat} (hI : zo_I G b oc wa qu Q h) (hh : h < Q.length) (hr : Q.getD h 0 = r) (hr32 : r < 32)
    (h1 : ∀ q, 0 < q → q < 32 → oc' q = oc q + oc r * (G r).count (16 + q)) (h2 : oc' 0 = oc 0) (h3 : ∀ q, 0 < q → q < 32 → wa' q + (G r).count (16 + q) = wa q) (h4 : zo_Q G wa' qu' Q') (h5 : ∃ E, Q' = Q ++ E) :
    zo_I G (zn_u b r 1) oc' wa' qu' Q' (h + 1) := by
  obtain ⟨i1, i2, i3, i4, i5, i6, i7⟩ := hI
  obtain ⟨E, eE⟩ := h5
  have tk : Q'.take (h + 1) = Q.take h ++ [r] := by
    rw [eE, List.take_append_of_le_length (by omega), List.take_succ]
    have : Q[h]? = some r := by
      rw [List.getD_eq_getElem?_getD, List.getElem?_eq_getElem hh] at hr
      rw [List.getElem?_eq_getElem hh]
      exact congrArg some hr
    rw [this]; rfl
  have hrm : Q[h]? = some r := by
    rw [List.getD_eq_getElem?_getD, List.getElem?_eq_getElem hh] at hr
    rw [List.getElem?_eq_getElem hh]
    exact congrArg some hr
  have hnr : r ∉ Q.take h := by
    intro z
    obtain ⟨j, hj⟩ := List.mem_iff_getElem?.mp z
    rw [List.getElem?_take] at hj
    by_cases c : j < h
    · rw [if_pos c] at hj
      have := zl_nd i6.1 hj hrm
      omega
    · rw [if_neg c] at hj; cases hj
  have hb0 : b r = 0 := by
    rcases i1 r with z | z
    · exact z
    · exact absurd ((i2 r hr32).mp z) hnr
  -- a processed rule isn't named in the body of r
  have hno : ∀ q, q < 32 → b q = 1 → oc' q = oc q := by
    intro q q32 hq
    by_cases c : q = 0
    · rw [c]; exact h2
    · have hm := List.mem_of_mem_take ((i2 q q32).mp hq)
      have hw : wa q = 0 := by
        rcases (i6.2.2.1 q).mp hm with z | z
        · exact absurd z c
        · exact z.2.2.2
      have := h3 q (by omega) q32
      have hc : (G r).count (16 + q) = 0 := by omega
      rw [h1 q (by omega) q32, hc, Nat.mul_zero, Nat.add_zero]
  have hrr : oc' r = oc r := by
    by_cases c : r = 0
    · rw [c]; exact h2
    · rw [h1 r (by omega) hr32, List.count_eq_zero.mpr (zg_self hG.1 r hr32), Nat.mul_zero, Nat.add_zero]
  refine ⟨?_, ?_, by rw [h2]; exact i3, ?_, ?_, h4, ?_⟩
  · intro q
    by_cases c : q = r
    · rw [c, zn_us]; exact Or.inr rfl
    · rw [zn_un c]; exact i1 q
  · intro q q32
    rw [tk, List.mem_append]
    by_cases c : q = r
    · rw [c, zn_us]; simp
    · rw [zn_un c, i2 q q32]; simp [c]
  · intro q q0 q32
    rw [h1 q q0 q32, i4 q q0 q32]
    unfold zo_1
    have e : zx_su (fun v => zn_u b r 1 v * (oc' v * (G v).count (16 + q))) 32 = zx_su (zn_u (fun v => b v * (oc v * (G v).count (16 + q))) r (oc r * (G r).count (16 + q))) 32 := by
      apply zx_suc
      intro i i32
      by_cases c : i = r
      · rw [c, zn_us, zn_us, hrr, Nat.one_mul]
      · rw [zn_un c, zn_un c]
        rcases i1 i with z | z
        · rw [z, Nat.zero_mul, Nat.zero_mul]
        · rw [hno i i32 z]
    rw [e]
    have t := zx_suu (f := fun v => b v * (oc v * (G v).count (16 + q))) (k := r) (v := oc r * (G r).count (16 + q)) 32 hr32
    have z : (fun v => b v * (oc v * (G v).count (16 + q))) r = 0 := by show b r * _ = 0; rw [hb0, Nat.zero_mul]
    have t' : zx_su (zn_u (fun v => b v * (oc v * (G v).count (16 + q))) r (oc r * (G r).count (16 + q))) 32 + b r * (oc r * (G r).count (16 + q)) = zx_su (fun v => b v * (oc v * (G v).count (16 + q))) 32 + oc r * (G r).count (16 + q) := t
    rw [hb0, Nat.zero_mul, Nat.add_zero] at t'
    exact t'.symm
  · intro q q0 q32
    have w := h3 q q0 q32
    rw [i5 q q0 q32] at w
    unfold zo_0 at w ⊢
    have e : zx_su (fun v => (1 - zn_u b r 1 v) * (G v).count (16 + q)) 32 = zx_su (zn_u (fun v => (1 - b v) * (G v).count (16 + q)) r 0) 32 := by
      apply zx_suc
      intro i i32
      by_cases c : i = r
      · rw [c, zn_us, zn_us]; simp
      · rw [zn_un c, zn_un c]
    rw [e]
    have t := zx_suu (f := fun v => (1 - b v) * (G v).count (16 + q)) (k := r) (v := 0) 32 hr32
    have t' : zx_su (zn_u (fun v => (1 - b v) * (G v).count (16 + q)) r 0) 32 + (1 - b r) * (G r).count (16 + q) = zx_su (fun v => (1 - b v) * (G v).count (16 + q)) 32 + 0 := t
    rw [hb0] at t'
    simp at t'
    omega
  · rw [eE, List.length_append]; omega
/-- the queue is used up: all live rules have been counted -/
theorem zo_fin {G W : Nat → List Nat} (hG : zr_G G W) {b oc wa qu : Nat → Nat} {Q : List Nat} (hI : zo_I G b oc wa qu Q Q.length) : zr_OC G oc := by
  obtain ⟨i1, i2, i3, i4, i5, i6, i7⟩ := hI
  rw [List.take_length] at i2
  have h0 : 0 ∈ Q := (i6.2.2.1 0).mpr (Or.inl rfl)
  have key : ∀ (k q : Nat), q < 32 → G q ≠ [] → zx_su (fun r => (W r).length) 32 ≤ (W q).length + k → q ∈ Q := by
    intro k
    induction k with
    | zero =>
      intro q hq hg hk
      by_cases c : q = 0
      · rw [c]; exact h0
      · rw [i6.2.2.1 q]
        right
        refine ⟨by omega, hq, hg, ?_⟩
        rw [i5 q (by omega) hq]
        have : zo_0 G b q = zx_su (fun i => if i = 0 then 0 else 0) 32 := by
          unfold zo_0
          apply zx_suc
          intro i i32
          have : (1 - b i) * (G i).count (16 + q) = 0 := by
            by_cases d : 16 + q ∈ G i
            · by_cases e : i = 0
              · rw [e, (i2 0 (by omega)).mpr h0]; simp
              · have t1 := zr_lt hG (by omega) i32 d
                have t2 := zx_sul (f := fun r => (W r).length) 32 i i32
                have t3 : (W i).length ≤ zx_su (fun r => (W r).length) 32 := t2
                omega
            · rw [List.count_eq_zero.mpr d, Nat.mul_zero]
          rw [this]
          by_cases e : i = 0
          · rw [if_pos e]
          · rw [if_neg e]
        rw [this, zx_sui 32 (by omega)]
    | succ k ih =>
      intro q hq hg hk
      by_cases c : q = 0
      · rw [c]; exact h0
      · rw [i6.2.2.1 q]
        right
        refine ⟨by omega, hq, hg, ?_⟩
        rw [i5 q (by omega) hq]
        have : zo_0 G b q = zx_su (fun i => if i = 0 then 0 else 0) 32 := by
          unfold zo_0
          apply zx_suc
          intro i i32
          have : (1 - b i) * (G i).count (16 + q) = 0 := by
            by_cases d : 16 + q ∈ G i
            · by_cases e : i = 0
              · rw [e, (i2 0 (by omega)).mpr h0]; simp
              · have t1 := zr_lt hG (by omega) i32 d
                have t4 := ih i i32 (fun z => by rw [z] at d; cases d) (by omega)
                rw [(i2 i i32).mpr t4]; simp
            · rw [List.count_eq_zero.mpr d, Nat.mul_zero]
          rw [this]
          by_cases e : i = 0
          · rw [if_pos e]
          · rw [if_neg e]
        rw [this, zx_sui 32 (by omega)]
  refine ⟨i3, ?_⟩
  intro q q0 q32
  rw [i4 q q0 q32]
  unfold zo_1
  apply zx_suc
  intro i i32
  by_cases c : G i = []
  · rw [c]; simp
  · rw [(i2 i i32).mpr (key _ i i32 c (Nat.le_add_left _ _)), Nat.one_mul]
section
variable {xc1 xc2 xc3 xc4 xc5 xc6 xrd xod xtd : Int32} {xli xle xsz xcu xfn xst xrt : Nat} {xlv xhr xlo xrT : Int64} {na nb sy ow bl sp fT lT sh sc sn sv dh dc dn dv pa de oc wa me qu wo co : Nat → Nat} {rR : Nat → Int64} {te : Nat → Int32}
theorem zo_out {post : SX → Prop} {G W B : Nat → List Nat} {F : List Nat} (hC : zr_C G W B sy na nb ow bl xfn xst F) (K : ∀ oc' wa' qu' : Nat → Nat, zr_OC G oc' → post (xc1, xc2, xc3, xc4, xc5, xc6, nI xli, nI xle, nI xsz, nI xcu, nI xfn, nI xst, xlv, xhr, xlo, nI xrt, xrT, xrd, 1, xtd, zn_A na, zn_A nb, zn_A sy, zn_A ow, zn_A bl, zn_A sp, zn_A fT, zn_A lT, zn_A sh, zn_A sc, zn_A sn, zn_A sv, zn_A dh, zn_A dc, zn_A dn, zn_A dv, rR, zn_A pa, zn_A de, zn_A oc', zn_A wa', te, zn_A me, zn_A qu', zn_A wo, zn_A co)) :
    ∀ (m h : Nat) (b oc wa qu : Nat → Nat) (Q : List Nat), h + m = 32 → zo_I G b oc wa qu Q h → wX_prepareOccurrences_62 post xc1 xc2 xc3 xc4 xc5 xc6 (nI xli) (nI xle) (nI xsz) (nI xcu) (nI xfn) (nI xst) xlv xhr xlo (nI xrt) xrT xrd xod xtd (m + 1) (nI Q.length) (nI h) (zn_A na) (zn_A nb) (zn_A sy) (zn_A ow) (zn_A bl) (zn_A sp) (zn_A fT) (zn_A lT) (zn_A sh) (zn_A sc) (zn_A sn) (zn_A sv) (zn_A dh) (zn_A dc) (zn_A dn) (zn_A dv) rR (zn_A pa) (zn_A de) (zn_A oc) (zn_A wa) te (zn_A me) (zn_A qu) (zn_A wo) (zn_A co) := by
  have h64 := hC.1.2.2.2.1
  have hs6 := hC.1.1.2.2.2.2.2
  intro m
  induction m with
  | zero =>
    intro h b oc wa qu Q hh hI
    obtain ⟨i1, i2, i3, i4, i5, i6, i7⟩ := id hI
    have hl := zl_ph 32 Q i6.1 i6.2.1
    have : h = Q.length := by omega
    subst this
    rw [wX_prepareOccurrences_62]
    exact br_t (nI_le (Nat.le_refl _) (by omega)) (K oc wa qu (zo_fin hC.1 hI))
  | succ m ih =>
    intro h b oc wa qu Q hh hI
    obtain ⟨i1, i2, i3, i4, i5, i6, i7⟩ := id hI
    have hl := zl_ph 32 Q i6.1 i6.2.1
    rw [wX_prepareOccurrences_62]
    refine pk_le Q.length h (fun c => ?_) (fun c => ?_)
    · have : h = Q.length := by omega
      subst this
      exact K oc wa qu (zo_fin hC.1 hI)
    · have hq : qu h = Q.getD h 0 := i6.2.2.2 h c
      generalize er : Q.getD h 0 = r at hq
      have hr : r < 32 := by
        apply i6.2.1
        rw [← er, List.getD_eq_getElem?_getD, List.getElem?_eq_getElem c]
        exact List.getElem_mem c
      refine br_f ?_ ⟨vp_in_nI (by omega) (by decide), nm_r (e' := nI r) (by rw [zn_rd (by omega), hq]) ⟨vp_in_nI (by omega) (by decide), nm_r (e' := nI ((B r).headD r)) (by rw [zn_rd (by omega), (zx_lkh _ _ _ (hC.2.1.1 r hr).1).1]) ⟨(B r).length + 1, ?_⟩⟩⟩
      · rw [show (31 : Int32) = nI 31 from rfl, nI_ltI (by omega) (by omega)]; omega
      have hrb : b r = 0 := by
        rcases i1 r with z | z
        · exact z
        · exfalso
          have hm := (i2 r hr).mp z
          obtain ⟨j, hj⟩ := List.mem_iff_getElem?.mp hm
          rw [List.getElem?_take] at hj
          have hrm : Q[h]? = some r := by
            rw [List.getD_eq_getElem?_getD, List.getElem?_eq_getElem c] at er
            rw [List.getElem?_eq_getElem c]
            exact congrArg some er
          by_cases d : j < h
          · rw [if_pos d] at hj
            have := zl_nd i6.1 hj hrm
            omega
          · rw [if_neg d] at hj; cases hj
      refine zo_in (oc0 := oc) (wa0 := fun q => if q = 0 then 0 else wa q) (Q0 := Q) hC hr (by omega) ?_ ?_ ?_ (B r) [] oc wa qu Q rfl (by intro q _ _; simp) rfl (by intro q q0 _; rw [if_neg (by omega)]; simp) i6 ⟨[], by simp⟩
      · intro q q0 q32
        show _ ≤ if q = 0 then 0 else wa q
        rw [if_neg (by omega), i5 q q0 q32]
        have t := zx_sul (f := fun v => (1 - b v) * (G v).count (16 + q)) 32 r hr
        have t' : (1 - b r) * (G r).count (16 + q) ≤ zo_0 G b q := t
        rw [hrb] at t'
        simp at t'
        exact t'
      · intro q q32
        show (if q = 0 then 0 else wa q) < 2 ^ 30
        by_cases z : q = 0
        · rw [if_pos z]; decide
        · rw [if_neg z, i5 q (by omega) q32]
          have := zo_bd hC.1 b q
          omega
      · intro oc' wa' qu' Q' k1 k2 k3 k4 k5
        refine ih (h + 1) (zn_u b r 1) oc' wa' qu' Q' (by omega) (zo_st hC.1 hI c er hr k1 k2 ?_ k4 k5)
        intro q q0 q32
        have := k3 q q0 q32
        rw [if_neg (by omega)] at this
        exact this
theorem zo_10 {post : SX → Prop} {G W B : Nat → List Nat} {F : List Nat} (hC : zr_C G W B sy na nb ow bl xfn xst F) (hsc : ∀ r, r < 32 → sc (16 + r) = zg_u G (16 + r)) (K : ∀ oc' wa' qu' : Nat → Nat, zr_OC G oc' → post (xc1, xc2, xc3, xc4, xc5, xc6, nI xli, nI xle, nI xsz, nI xcu, nI xfn, nI xst, xlv, xhr, xlo, nI xrt, xrT, xrd, 1, xtd, zn_A na, zn_A nb, zn_A sy, zn_A ow, zn_A bl, zn_A sp, zn_A fT, zn_A lT, zn_A sh, zn_A sc, zn_A sn, zn_A sv, zn_A dh, zn_A dc, zn_A dn, zn_A dv, rR, zn_A pa, zn_A de, zn_A oc', zn_A wa', te, zn_A me, zn_A qu', zn_A wo, zn_A co)) :
    ∀ (m i : Nat) (oc wa : Nat → Nat), i + m = 32 → (∀ r, r < i → oc r = 0 ∧ wa r = zg_u G (16 + r)) → wX_prepareOccurrences_10 post xc1 xc2 xc3 xc4 xc5 xc6 (nI xli) (nI xle) (nI xsz) (nI xcu) (nI xfn) (nI xst) xlv xhr xlo (nI xrt) xrT xrd xod xtd (m + 1) (nI i) (zn_A na) (zn_A nb) (zn_A sy) (zn_A ow) (zn_A bl) (zn_A sp) (zn_A fT) (zn_A lT) (zn_A sh) (zn_A sc) (zn_A sn) (zn_A sv) (zn_A dh) (zn_A dc) (zn_A dn) (zn_A dv) rR (zn_A pa) (zn_A de) (zn_A oc) (zn_A wa) te (zn_A me) (zn_A qu) (zn_A wo) (zn_A co) := by
  intro m
  induction m with
  | zero =>
    intro i oc wa hi h1
    have : i = 32 := by omega
    subst this
    rw [wX_prepareOccurrences_10]
    refine br_t (show (31 : Int32) < nI 32 by decide) (nm_r (zn_upk (v := 1)) (nm_r (zn_upk (v := 0)) ⟨33, ?_⟩))
    refine zo_out hC K 32 0 (fun _ => 0) _ _ _ [0] (by omega) ⟨fun _ => Or.inl rfl, ?_, zn_us, ?_, ?_, ⟨by simp, ?_, ?_, ?_⟩, Nat.zero_le _⟩
    · intro r _
      constructor
      · intro z; cases z
      · intro z; cases z
    · intro q q0 q32
      rw [zn_un (by omega), (h1 q q32).1]
      unfold zo_1
      have : zx_su (fun r => 0 * (zn_u oc 0 1 r * (G r).count (16 + q))) 32 = zx_su (fun i => if i = 0 then 0 else 0) 32 := by
        apply zx_suc
        intro i _
        rw [Nat.zero_mul]
        by_cases e : i = 0
        · rw [if_pos e]
        · rw [if_neg e]
      rw [this, zx_sui 32 (by omega)]
    · intro q q0 q32
      rw [(h1 q q32).2]
      unfold zo_0 zg_u
      apply zx_suc
      intro i _
      rw [show (1 - 0 : Nat) = 1 from rfl, Nat.one_mul]
    · intro q hq
      have : q = 0 := by simpa using hq
      omega
    · intro q
      constructor
      · intro z; exact Or.inl (by simpa using z)
      · rintro (z | ⟨z1, z2, z3, z4⟩)
        · rw [z]; simp
        · exfalso
          rw [(h1 q z2).2] at z4
          obtain ⟨r, hr, hm⟩ := hC.1.1.2.2.2.1 q z1 z2 z3
          have t := zx_sul (f := fun r => (G r).count (16 + q)) 32 r hr
          have t' : (G r).count (16 + q) ≤ zg_u G (16 + q) := t
          have := List.count_pos_iff.mpr hm
          omega
    · intro i hi
      have : i = 0 := by simpa using hi
      rw [this, zn_us]; rfl
  | succ m ih =>
    intro i oc wa hi h1
    rw [wX_prepareOccurrences_10]
    dsimp only
    rw [show (16 : Int32) + nI i = nI (16 + i) from nI_add 16 i]
    refine br_f ?_ ⟨vp_in_nI (by omega) (by decide), nm_r (zn_up (v := 0) (by omega)) ⟨vp_in_nI (by omega) (by decide), vp_in_nI (by omega) (by decide), nm_r (e' := zn_A (zn_u wa i (zg_u G (16 + i)))) (by rw [zn_rd (by omega), hsc i (by omega), zn_up (by omega)]) (nm_r (nI_1 i) (ih (i + 1) _ _ (by omega) ?_))⟩⟩
    · rw [show (31 : Int32) = nI 31 from rfl, nI_ltI (by omega) (by omega)]; omega
    · intro r hr
      by_cases c : r = i
      · rw [c, zn_us, zn_us]; exact ⟨rfl, rfl⟩
      · rw [zn_un c, zn_un c]; exact h1 r (by omega)
theorem zo_prep {post : SX → Prop} {G W B : Nat → List Nat} {F : List Nat} (hG : zr_G G W) (hX : zx_XG G B F xfn xst xrt xlv xhr xlo na nb sy ow bl sh sc sn sv dh dc dn dv rR xrT) (hod : xod = 0 ∨ (xod = 1 ∧ zr_OC G oc)) (K : ∀ oc' wa' qu' : Nat → Nat, zr_OC G oc' → post (xc1, xc2, xc3, xc4, xc5, xc6, nI xli, nI xle, nI xsz, nI xcu, nI xfn, nI xst, xlv, xhr, xlo, nI xrt, xrT, xrd, 1, xtd, zn_A na, zn_A nb, zn_A sy, zn_A ow, zn_A bl, zn_A sp, zn_A fT, zn_A lT, zn_A sh, zn_A sc, zn_A sn, zn_A sv, zn_A dh, zn_A dc, zn_A dn, zn_A dv, rR, zn_A pa, zn_A de, zn_A oc', zn_A wa', te, zn_A me, zn_A qu', zn_A wo, zn_A co)) : wpX_prepareOccurrences post (xc1, xc2, xc3, xc4, xc5, xc6, nI xli, nI xle, nI xsz, nI xcu, nI xfn, nI xst, xlv, xhr, xlo, nI xrt, xrT, xrd, xod, xtd, zn_A na, zn_A nb, zn_A sy, zn_A ow, zn_A bl, zn_A sp, zn_A fT, zn_A lT, zn_A sh, zn_A sc, zn_A sn, zn_A sv, zn_A dh, zn_A dc, zn_A dn, zn_A dv, rR, zn_A pa, zn_A de, zn_A oc, zn_A wa, te, zn_A me, zn_A qu, zn_A wo, zn_A co) := by
  have hC : zr_C G W B sy na nb ow bl xfn xst F := ⟨hG, hX.1.1, hX.1.2.1, hX.2.1⟩
  unfold wpX_prepareOccurrences
  rcases hod with z | ⟨z, w⟩
  · refine br_t z ⟨33, ?_⟩
    exact zo_10 hC (fun r hr => zx_cnt hX.1 hX.2.1 (by omega)) K 32 0 oc wa (by omega) (by intro r hr; omega)
  · have := K oc wa qu w
    rw [← z] at this
    exact br_f (by rw [z]; decide) this
end
end
section
/-! ===== sums over derivations ===== -/
theorem zc_ls {T : Nat → Nat} : ∀ (l : List Nat), (∀ x ∈ l, x < 48) → zl_sm (fun id => if id < 16 then 0 else T (id - 16)) l = zx_su (fun q => T q * l.count (16 + q)) 32
  | [], _ => by
    have : zx_su (fun q => T q * ([] : List Nat).count (16 + q)) 32 = zx_su (fun i => if i = 0 then 0 else 0) 32 := by
      apply zx_suc
      intro i _
      simp
    rw [this, zx_sui 32 (by omega)]; rfl
  | x :: t, h => by
    have ih := zc_ls (T := T) t (fun y hy => h y (List.mem_cons_of_mem _ hy))
    have hx := h x List.mem_cons_self
    show (if x < 16 then 0 else T (x - 16)) + zl_sm _ t = _
    rw [ih]
    by_cases c : x < 16
    · rw [if_pos c, Nat.zero_add]
      apply zx_suc
      intro i _
      rw [List.count_cons_of_ne (by omega)]
    · rw [if_neg c]
      have e : zx_su (fun q => T q * (x :: t).count (16 + q)) 32 = zx_su (fun q => (if q = x - 16 then T (x - 16) else 0) + T q * t.count (16 + q)) 32 := by
        apply zx_suc
        intro i _
        by_cases d : i = x - 16
        · rw [if_pos d, d, show 16 + (x - 16) = x by omega, List.count_cons_self, Nat.mul_add, Nat.mul_one]; omega
        · rw [if_neg d, List.count_cons_of_ne (by omega), Nat.zero_add]
      rw [e, zx_sua, zx_sui 32 (by omega)]
theorem zc_sw {f : Nat → Nat → Nat} (m : Nat) : ∀ (n : Nat), zx_su (fun i => zx_su (fun j => f i j) m) n = zx_su (fun j => zx_su (fun i => f i j) n) m
  | 0 => by
    have : ∀ m, zx_su (fun _ => 0) m = 0 := by
      intro m
      induction m with
      | zero => rfl
      | succ m ih => show zx_su (fun _ => 0) m + 0 = 0; rw [ih]
    show 0 = zx_su (fun j => 0) m
    rw [this]
  | n + 1 => by
    show zx_su (fun i => zx_su (fun j => f i j) m) n + zx_su (fun j => f n j) m = zx_su (fun j => zx_su (fun i => f i j) n + f n j) m
    rw [zc_sw m n, zx_sua]
theorem zc_ml {f : Nat → Nat} {c : Nat} : ∀ (n : Nat), zx_su (fun i => c * f i) n = c * zx_su f n
  | 0 => by show 0 = c * 0; rw [Nat.mul_zero]
  | n + 1 => by
    show zx_su (fun i => c * f i) n + c * f n = c * (zx_su f n + f n)
    rw [zc_ml n, Nat.mul_add]
theorem zc_id {G W : Nat → List Nat} {oc om T : Nat → Nat} (h : zr_G G W) (ho : zr_OC G oc) (hT : ∀ r, r < 32 → T r = om r + zl_sm (fun id => if id < 16 then 0 else T (id - 16)) (G r)) : T 0 = zx_su (fun r => oc r * om r) 32 := by
  have hid : ∀ r, r < 32 → ∀ x ∈ G r, x < 48 := by
    intro r hr x hx
    rcases h.1.1 r hr x hx with z | z <;> omega
  -- the sum of oc * T in two ways
  have e1 : zx_su (fun r => oc r * T r) 32 = zx_su (fun r => oc r * om r) 32 + zx_su (fun q => T q * zx_su (fun r => oc r * (G r).count (16 + q)) 32) 32 := by
    have : zx_su (fun r => oc r * T r) 32 = zx_su (fun r => oc r * om r + zx_su (fun q => T q * (oc r * (G r).count (16 + q))) 32) 32 := by
      apply zx_suc
      intro r hr
      rw [hT r hr, Nat.mul_add, zc_ls (G r) (hid r hr), ← zc_ml]
      apply congrArg (oc r * om r + ·)
      apply zx_suc
      intro q _
      rw [Nat.mul_left_comm]
    rw [this, zx_sua, zc_sw 32 32]
    apply congrArg (zx_su (fun r => oc r * om r) 32 + ·)
    apply zx_suc
    intro q _
    rw [← zc_ml]
  have e2 : zx_su (fun q => T q * zx_su (fun r => oc r * (G r).count (16 + q)) 32) 32 = zx_su (fun q => if q = 0 then 0 else oc q * T q) 32 := by
    apply zx_suc
    intro q hq
    by_cases c : q = 0
    · rw [if_pos c, c]
      have : zx_su (fun r => oc r * (G r).count (16 + 0)) 32 = zx_su (fun i => if i = 0 then 0 else 0) 32 := by
        apply zx_suc
        intro i hi
        have : (G i).count (16 + 0) = 0 := by
          apply List.count_eq_zero.mpr
          intro z
          rcases h.1.1 i hi _ z with w | w <;> omega
        rw [this, Nat.mul_zero]
        by_cases e : i = 0
        · rw [if_pos e]
        · rw [if_neg e]
      rw [this, zx_sui 32 (by omega), Nat.mul_zero]
    · rw [if_neg c, ← ho.2 q (by omega) hq, Nat.mul_comm]
  have e3 : zx_su (fun r => oc r * T r) 32 = T 0 + zx_su (fun q => if q = 0 then 0 else oc q * T q) 32 := by
    have : zx_su (fun r => oc r * T r) 32 = zx_su (fun q => (if q = 0 then T 0 else 0) + (if q = 0 then 0 else oc q * T q)) 32 := by
      apply zx_suc
      intro q _
      by_cases c : q = 0
      · rw [if_pos c, if_pos c, c, ho.1, Nat.one_mul, Nat.add_zero]
      · rw [if_neg c, if_neg c, Nat.zero_add]
    rw [this, zx_sua, zx_sui 32 (by omega)]
  omega
/-! ===== ruleOccurrences ===== -/
theorem zv_G0 {G W : Nat → List Nat} (h : zr_G G W) {p : Nat} (hp : p < 32) (hg : G p ≠ []) : G 0 ≠ [] := by
  intro z
  have h1 := zr_W0 h hp
  have h2 : W 0 = [] := by rw [h.1.2.1 0 (by omega), z]; rfl
  rw [h2] at h1
  exact h.1.2.2.1 p hp hg (List.length_eq_zero_iff.mp (by simpa using h1))
theorem zv_om2 {p : Nat} (hp : p < 32) : ∀ q, q < 32 → (nI q = nI p → (fun q => if q = p then 1 else 0) q = 1) ∧ (¬ nI q = nI p → (fun q => if q = p then 1 else 0) q = 0) := by
  intro q hq
  rw [nI_eq (by omega) (by omega)]
  exact ⟨fun z => if_pos z, fun z => if_neg z⟩
theorem i_vc_ruleOccurrences {k : Nat} {u : SX} {v : SY} (I : i_Rel k u v) (hk : k + 3 ≤ 1538) (v1 : Int32) : wpX_ruleOccurrences (fun r u' => wpY_ruleOccurrences (fun r' v' => r' = r ∧ i_Rel (k + 3) u' v') v v1) u v1 := by
  refine zr_el (P := fun u v => wpX_ruleOccurrences (fun r u' => wpY_ruleOccurrences (fun r' v' => r' = r ∧ i_Rel (k + 3) u' v') v v1) u v1) ?_ I
  intro G W B F xc1 xc2 xc3 xc4 xc5 xc6 xrd xod xtd xli xle xsz xcu xfn xst xrt xlv xhr xlo xrT na nb sy ow bl sp fT lT sh sc sn sv dh dc dn dv pa de oc wa me qu wo co rR te ysq ybo ysi yor hR
  obtain ⟨r1, r2, r3, r4, r5, r6, r7, r8, r9, r10, r11, r12, r13, r14⟩ := id hR
  unfold wpX_ruleOccurrences wpY_ruleOccurrences
  rcases zv_live r2.2.2.1 r6 v1 with ⟨r, hr, e, hl, hX, hY⟩ | ⟨hX, hY⟩
  · refine hX _ (br_f (by decide) ?_)
    subst e
    refine zo_prep r1 r2 r13 ?_
    intro oc' wa' qu' hoc
    refine ⟨vp_in_nI hr (by decide), hY _ (br_f (by decide) ?_)⟩
    rw [zn_rd (by omega)]
    refine pk_eq r 0 (fun c => ⟨?_, zr_in (h := ⟨r1, r2, r3, r4, r5, r6, r7, r8, r9, r10, r11, r12, Or.inr ⟨rfl, hoc⟩, r14⟩)⟩) (fun c => ?_)
    · rw [c, hoc.1]; rfl
    · have hg : G r ≠ [] := hl.elim (fun z => absurd z c) id
      refine zy_exp (r := 0) (om := fun q => if q = r then 1 else 0) r1 (by omega) (zv_om2 hr) (zv_G0 r1 hr hg) r6 ?_
      intro bo' si' hR' hrow hsi
      refine ⟨?_, zr_in (h := ⟨r1, r2, r3, r4, r5, hR', r7, r8, r9, r10, r11, r12, Or.inr ⟨rfl, hoc⟩, r14⟩)⟩
      have t := zc_id (om := fun q => if q = r then 1 else 0) (T := zc_t G (fun q => if q = r then 1 else 0)) r1 hoc (fun q hq => zc_eq r1 hq)
      have t0 := zc_eq (om := fun q => if q = r then 1 else 0) r1 (show 0 < 32 by omega)
      rw [if_neg (fun z : 0 = r => c z.symm), Nat.zero_add] at t0
      rw [← t0, t]
      have t2 : zx_su (fun q => oc' q * (if q = r then 1 else 0)) 32 = zx_su (fun q => if q = r then oc' r else 0) 32 := by
        apply zx_suc
        intro i _
        by_cases d : i = r
        · rw [if_pos d, if_pos d, d, Nat.mul_one]
        · rw [if_neg d, if_neg d, Nat.mul_zero]
      rw [t2, zx_sui 32 hr]
  · exact hX _ (br_t rfl (hY _ (br_t rfl ⟨rfl, zr_in (h := hR)⟩)))
/-! ===== countSymbol ===== -/
theorem zc_cf {W : Nat → List Nat} {t : Nat} (ht : t < 16) : ∀ (l : List Nat), (l.flatMap (zg_w W)).count t = l.count t + zl_sm (fun id => if id < 16 then 0 else (W (id - 16)).count t) l
  | [] => rfl
  | x :: l => by
    rw [List.flatMap_cons, List.count_append, zc_cf ht l]
    show _ = _ + ((if x < 16 then 0 else (W (x - 16)).count t) + zl_sm _ l)
    unfold zg_w
    by_cases c : x < 16
    · rw [if_pos c, if_pos c]
      by_cases d : x = t
      · rw [d, List.count_cons_self, List.count_cons_self]
        simp; omega
      · rw [List.count_cons_of_ne d, List.count_cons_of_ne d]
        simp
    · rw [if_neg c, if_neg c, List.count_cons_of_ne (by omega)]; omega
section
variable {xc1 xc2 xc3 xc4 xc5 xc6 xrd xod xtd : Int32} {xli xle xsz xcu xfn xst xrt : Nat} {xlv xhr xlo xrT : Int64} {na nb sy ow bl sp fT lT sh sc sn sv dh dc dn dv pa de oc wa me qu wo co : Nat → Nat} {rR : Nat → Int64} {te : Nat → Int32}
theorem zv_cs {post : Int32 → SX → Prop} {L : List Nat} (hL : ∀ d x t, L = d ++ x :: t → x < 128 ∧ ow x < 32 ∧ sn x = t.headD 0) (hlen : L.length ≤ 128) :
    ∀ (t d : List Nat) (c : Nat), L = d ++ t → post (nI (c + zl_sm (fun x => oc (ow x)) t)) (xc1, xc2, xc3, xc4, xc5, xc6, nI xli, nI xle, nI xsz, nI xcu, nI xfn, nI xst, xlv, xhr, xlo, nI xrt, xrT, xrd, xod, xtd, zn_A na, zn_A nb, zn_A sy, zn_A ow, zn_A bl, zn_A sp, zn_A fT, zn_A lT, zn_A sh, zn_A sc, zn_A sn, zn_A sv, zn_A dh, zn_A dc, zn_A dn, zn_A dv, rR, zn_A pa, zn_A de, zn_A oc, zn_A wa, te, zn_A me, zn_A qu, zn_A wo, zn_A co) → wX_countSymbol_35 post xc1 xc2 xc3 xc4 xc5 xc6 (nI xli) (nI xle) (nI xsz) (nI xcu) (nI xfn) (nI xst) xlv xhr xlo (nI xrt) xrT xrd xod xtd (zn_A na) (zn_A nb) (zn_A sy) (zn_A ow) (zn_A bl) (zn_A sp) (zn_A fT) (zn_A lT) (zn_A sh) (zn_A sc) (zn_A sn) (zn_A sv) (zn_A dh) (zn_A dc) (zn_A dn) (zn_A dv) rR (zn_A pa) (zn_A de) (zn_A oc) (zn_A wa) te (zn_A me) (zn_A qu) (zn_A wo) (zn_A co) (t.length + 1) (nI c) (nI (t.headD 0)) (nI t.length) := by
  intro t
  induction t with
  | nil =>
    intro d c _ K
    rw [wX_countSymbol_35]
    exact br_t (show nI 0 ≤ 0 by decide) K
  | cons x t ih =>
    intro d c e K
    obtain ⟨x128, ho, hs⟩ := hL d x t e
    have hl : L.length = d.length + (t.length + 1) := by rw [e, List.length_append, List.length_cons]
    show wX_countSymbol_35 post xc1 xc2 xc3 xc4 xc5 xc6 (nI xli) (nI xle) (nI xsz) (nI xcu) (nI xfn) (nI xst) xlv xhr xlo (nI xrt) xrT xrd xod xtd (zn_A na) (zn_A nb) (zn_A sy) (zn_A ow) (zn_A bl) (zn_A sp) (zn_A fT) (zn_A lT) (zn_A sh) (zn_A sc) (zn_A sn) (zn_A sv) (zn_A dh) (zn_A dc) (zn_A dn) (zn_A dv) rR (zn_A pa) (zn_A de) (zn_A oc) (zn_A wa) te (zn_A me) (zn_A qu) (zn_A wo) (zn_A co) ((t.length + 1) + 1) (nI c) (nI x) (nI (t.length + 1))
    rw [wX_countSymbol_35]
    refine br_f (nI_nle (by omega) (by omega)) ⟨vp_in_nI x128 (by decide), ?_⟩
    rw [zn_rd (by omega), zn_rd (by omega)]
    refine ⟨vp_in_nI ho (by decide), nm_r (nI_add _ _) ⟨vp_in_nI x128 (by decide), nm_r (e' := nI (t.headD 0)) (by rw [zn_rd (by omega), hs]) (nm_r (pk_m1 _) ?_)⟩⟩
    refine ih (d ++ [x]) _ (by rw [e]; simp) ?_
    have : c + oc (ow x) + zl_sm (fun x => oc (ow x)) t = c + zl_sm (fun x => oc (ow x)) (x :: t) := by
      show _ = c + (oc (ow x) + zl_sm _ t); omega
    rw [this]; exact K
end
section
variable {yca yal yln ycu : Nat} {ysq ybo ysi yor : Nat → Nat}
theorem zv_csY {post : Int32 → Prop} {W0 : List Nat} {t : Nat} (h64 : W0.length ≤ 64) (hln : yln = W0.length) (hsq : ∀ i t, W0[i]? = some t → ysq i = t) (h16 : ∀ t ∈ W0, t < 16) (ht : t < 16) (K : post (nI (W0.count t))) :
    ∀ (l d : List Nat), W0 = d ++ l → wY_countSymbol_18 post (nI t) (nI yca) (nI yal) (nI yln) (nI ycu) (zn_A ysq) (zn_A ybo) (zn_A ysi) (zn_A yor) (l.length + 1) (nI (d.count t)) (nI d.length) := by
  intro l
  induction l with
  | nil =>
    intro d e
    rw [List.append_nil] at e
    rw [wY_countSymbol_18]
    rw [← e]
    exact br_t (nI_le (by omega) (by omega)) K
  | cons x l ih =>
    intro d e
    have hl : W0.length = d.length + (l.length + 1) := by rw [e, List.length_append, List.length_cons]
    have hx : ysq d.length = x := hsq _ _ (by rw [e]; exact zl_a1)
    have x16 := h16 x (by rw [e]; simp)
    show wY_countSymbol_18 post (nI t) (nI yca) (nI yal) (nI yln) (nI ycu) (zn_A ysq) (zn_A ybo) (zn_A ysi) (zn_A yor) ((l.length + 1) + 1) (nI (d.count t)) (nI d.length)
    rw [wY_countSymbol_18]
    refine br_f (nI_ge (by omega) (by omega)) ⟨vp_in_nI (by omega) (by decide), ?_⟩
    rw [zn_rd (by omega), hx]
    have nx := ih (d ++ [x]) (by rw [e]; simp)
    rw [List.count_append, List.length_append] at nx
    refine pk_eq x t (fun c => nm_r (nI_1 _) (nm_r (nI_1 _) ?_)) (fun c => nm_r (nI_1 _) ?_)
    · rw [c, List.count_singleton_self] at nx; exact nx
    · rw [List.count_singleton, if_neg (by simpa using c)] at nx; exact nx
end
theorem i_vc_countSymbol {k : Nat} {u : SX} {v : SY} (I : i_Rel k u v) (hk : k + 3 ≤ 1538) (v1 : Int32) : wpX_countSymbol (fun r u' => wpY_countSymbol (fun r' => r' = r ∧ i_Rel (k + 3) u' v) v v1) u v1 := by
  refine zr_el (P := fun u v => wpX_countSymbol (fun r u' => wpY_countSymbol (fun r' => r' = r ∧ i_Rel (k + 3) u' v) v v1) u v1) ?_ I
  intro G W B F xc1 xc2 xc3 xc4 xc5 xc6 xrd xod xtd xli xle xsz xcu xfn xst xrt xlv xhr xlo xrT na nb sy ow bl sp fT lT sh sc sn sv dh dc dn dv pa de oc wa me qu wo co rR te ysq ybo ysi yor hR
  obtain ⟨r1, r2, r3, r4, r5, r6, r7, r8, r9, r10, r11, r12, r13, r14⟩ := id hR
  unfold wpX_countSymbol wpY_countSymbol
  by_cases c1 : v1 < 0
  · exact br_t c1 (br_t c1 ⟨rfl, zr_in (h := hR)⟩)
  refine br_f c1 ?_
  obtain ⟨t, ht, e⟩ := nI_of c1
  subst e
  refine pk_lt t xle (fun c2 => ?_) (fun c2 => br_f c1 (br_f (nI_nlt c2 ht) ⟨rfl, zr_in (h := hR)⟩))
  refine zo_prep r1 r2 r13 ?_
  intro oc' wa' qu' hoc
  obtain ⟨hS, hsy, ⟨L, hF, hm, _, _⟩, hD⟩ := id r2.1
  obtain ⟨f1, f2, f3, f4, f5⟩ := hF.1 t (by omega)
  have hct := zl_ct hF (show t < 48 by omega)
  refine ⟨vp_in_nI (by omega) (by decide), nm_r (e' := nI ((L t).headD 0)) (by rw [zn_rd (by omega), f1]) ⟨vp_in_nI (by omega) (by decide), nm_r (e' := nI (L t).length) (by rw [zn_rd (by omega), f2]) ⟨(L t).length + 1, ?_⟩⟩⟩
  refine zv_cs (oc := oc') (L := L t) ?_ (by omega) (L t) [] 0 rfl ?_
  · intro d x l e
    have hx : x ∈ L t := by rw [e]; simp
    have w := zx_Ub hS ((hm t (by omega) x).mp hx).1
    exact ⟨w.2.1, w.2.2.1, zl_nxt f3 e⟩
  · rw [Nat.zero_add, zx_ws r2.1 r2.2.1 (by omega) hF hm oc']
    have key := zc_id (om := fun r => (G r).count t) (T := fun r => (W r).count t) r1 hoc (by
      intro r hr
      have e := r1.1.2.1 r hr
      show (W r).count t = _
      rw [e]
      have := zc_cf (W := W) (t := t) (by omega) (G r)
      rw [this])
    rw [← key]
    refine br_f c1 (br_t (nI_lt c2 (by omega)) ⟨(W 0).length + 1, ?_⟩)
    exact zv_csY (t := t) r1.2.2.2.1 r5 r7 r1.2.2.2.2 (by omega) ⟨rfl, zr_in (h := ⟨r1, r2, r3, r4, r5, r6, r7, r8, r9, r10, r11, r12, Or.inr ⟨rfl, hoc⟩, r14⟩)⟩ (W 0) [] rfl
end
section
/-! ===== countDigram ===== -/
def zk_d (a b : Nat) : List Nat → Nat
  | x :: y :: t => (if x = a ∧ y = b then 1 else 0) + zk_d a b (y :: t)
  | _ => 0
theorem zk_d2 {a b x y : Nat} {t : List Nat} : zk_d a b (x :: y :: t) = (if x = a ∧ y = b then 1 else 0) + zk_d a b (y :: t) := rfl
theorem zk_d1 {a b x : Nat} : zk_d a b [x] = 0 := rfl
theorem zk_da {a b : Nat} {m : List Nat} (hm : m ≠ []) : ∀ (l : List Nat), l ≠ [] → zk_d a b (l ++ m) = zk_d a b l + zk_d a b m + (if l.getLastD 0 = a ∧ m.headD 0 = b then 1 else 0)
  | [], h => absurd rfl h
  | [x], _ => by
    cases m with
    | nil => exact absurd rfl hm
    | cons y m =>
      show zk_d a b (x :: y :: m) = _
      rw [zk_d2, zk_d1]
      show _ = 0 + _ + (if x = a ∧ y = b then 1 else 0)
      omega
  | x :: y :: l, _ => by
    show zk_d a b (x :: y :: (l ++ m)) = _
    have ih := zk_da (a := a) (b := b) hm (y :: l) (by simp)
    rw [List.cons_append] at ih
    rw [zk_d2, zk_d2, ih, List.getLastD_cons (a := 0) (b := x), List.getLastD_cons, List.getLastD_cons]
    omega
/-- seams between the words of neighbours -/
def zk_s (W : Nat → List Nat) (a b : Nat) : List Nat → Nat
  | x :: y :: t => (if (zg_w W x).getLastD 0 = a ∧ (zg_w W y).headD 0 = b then 1 else 0) + zk_s W a b (y :: t)
  | _ => 0
theorem zk_s2 {W : Nat → List Nat} {a b x y : Nat} {t : List Nat} : zk_s W a b (x :: y :: t) = (if (zg_w W x).getLastD 0 = a ∧ (zg_w W y).headD 0 = b then 1 else 0) + zk_s W a b (y :: t) := rfl
theorem zk_hd {f : Nat → List Nat} {y : Nat} {t : List Nat} (h : f y ≠ []) : ((y :: t).flatMap f).headD 0 = (f y).headD 0 := by
  rw [List.flatMap_cons]; exact zg_hda h
theorem zk_f {W : Nat → List Nat} {a b : Nat} : ∀ (l : List Nat), (∀ x ∈ l, zg_w W x ≠ []) → zk_d a b (l.flatMap (zg_w W)) = zk_s W a b l + zl_sm (fun id => if id < 16 then 0 else zk_d a b (W (id - 16))) l
  | [], _ => rfl
  | [x], _ => by
    show zk_d a b (zg_w W x ++ []) = 0 + ((if x < 16 then 0 else zk_d a b (W (x - 16))) + 0)
    rw [List.append_nil]
    unfold zg_w
    by_cases c : x < 16
    · rw [if_pos c, if_pos c]; rfl
    · rw [if_neg c, if_neg c]; omega
  | x :: y :: t, h => by
    have ih := zk_f (W := W) (a := a) (b := b) (y :: t) (fun z hz => h z (List.mem_cons_of_mem _ hz))
    have hx := h x (by simp)
    have hy := h y (by simp)
    have hne : (y :: t).flatMap (zg_w W) ≠ [] := by
      rw [List.flatMap_cons]
      intro z
      exact hy (List.append_eq_nil_iff.mp z).1
    rw [List.flatMap_cons, zk_da hne _ hx, ih, zk_hd hy, zk_s2]
    have e : zk_d a b (zg_w W x) = if x < 16 then 0 else zk_d a b (W (x - 16)) := by
      unfold zg_w
      by_cases c : x < 16
      · rw [if_pos c, if_pos c]; rfl
      · rw [if_neg c, if_neg c]
    rw [e]
    show _ = _ + ((if x < 16 then 0 else zk_d a b (W (x - 16))) + zl_sm _ (y :: t))
    omega
section
variable {xc1 xc2 xc3 xc4 xc5 xc6 xrd xod xtd : Int32} {xli xle xsz xcu xfn xst xrt : Nat} {xlv xhr xlo xrT : Int64} {na nb sy ow bl sp fT lT sh sc sn sv dh dc dn dv pa de oc wa me qu wo co : Nat → Nat} {rR : Nat → Int64} {te : Nat → Int32}
theorem zk_X {post : Int32 → Prop} {G W B : Nat → List Nat} {F : List Nat} {r a b : Nat} (hC : zr_C G W B sy na nb ow bl xfn xst F) (hSP : zx_SP G W sp fT lT) (hr : r < 32) (ha : a < 16) (hb : b < 16) :
    ∀ (t d : List Nat) (x c : Nat), B r = d ++ x :: t → post (nI (c + zk_s W a b ((x :: t).map sy))) → wX_seamsIn_14 post (nI r) (nI a) (nI b) xc1 xc2 xc3 xc4 xc5 xc6 (nI xli) (nI xle) (nI xsz) (nI xcu) (nI xfn) (nI xst) xlv xhr xlo (nI xrt) xrT xrd xod xtd (zn_A na) (zn_A nb) (zn_A sy) (zn_A ow) (zn_A bl) (zn_A sp) (zn_A fT) (zn_A lT) (zn_A sh) (zn_A sc) (zn_A sn) (zn_A sv) (zn_A dh) (zn_A dc) (zn_A dn) (zn_A dv) rR (zn_A pa) (zn_A de) (zn_A oc) (zn_A wa) te (zn_A me) (zn_A qu) (zn_A wo) (zn_A co) (t.length + 1) (nI c) (nI x) (nI (d.length + 1)) := by
  have hS := hC.2.1
  have hG := hC.2.2.2
  have hbl : bl r = (B r).length := (hS.1 r hr).2.2.2
  have hlen : (B r).length ≤ 96 := by
    have t := zx_sul (f := fun q => (B q).length) 32 r hr
    rw [← hS.2.2.2.2.2.1] at t
    have t' : (B r).length ≤ xst := t
    have := hS.2.2.2.2.2.2.1
    omega
  have info : ∀ x, x ∈ B r → 32 ≤ x ∧ x < 128 ∧ sy x < 48 ∧ fT (sy x) = (zg_w W (sy x)).headD 0 ∧ lT (sy x) = (zg_w W (sy x)).getLastD 0 ∧ (zg_w W (sy x)).headD 0 < 16 ∧ (zg_w W (sy x)).getLastD 0 < 16 := by
    intro x hm
    have q := (hS.1 r hr).2.2.1 x hm
    have hid : sy x ∈ G r := by rw [hG r hr]; exact List.mem_map_of_mem hm
    have hgid := hC.1.1.1 r hr _ hid
    have hw := hSP _ hgid
    have hne := zg_wn hC.1.1 hr hid
    have all : ∀ y ∈ zg_w W (sy x), y < 16 := by
      intro y hy
      unfold zg_w at hy
      by_cases c : sy x < 16
      · rw [if_pos c] at hy
        have : y = sy x := by simpa using hy
        omega
      · rw [if_neg c] at hy
        rcases hgid with z | z
        · omega
        · exact zr_t16 hC.1 32 (sy x - 16) (by omega) (by have := zg_rk31 (W := W) (r := sy x - 16) (by omega); omega) y hy
    refine ⟨q.1, q.2.1, hC.2.2.1 x ⟨r, hr, hm⟩, hw.2.1, hw.2.2, ?_, ?_⟩
    · cases e : zg_w W (sy x) with
      | nil => exact absurd e hne
      | cons y l => exact all y (by rw [e]; simp)
    · cases e : zg_w W (sy x) with
      | nil => exact absurd e hne
      | cons y l =>
        rw [List.getLastD_cons]
        exact all _ (by rw [e]; exact zl_gl l y)
  intro t
  induction t with
  | nil =>
    intro d x c e K
    have hl2 : (B r).length = d.length + 1 := by rw [e, List.length_append]; rfl
    rw [wX_seamsIn_14]
    refine ⟨vp_in_nI hr (by decide), ?_⟩
    rw [zn_rd (by omega), hbl]
    exact br_t (nI_le (by omega) (by omega)) K
  | cons y t ih =>
    intro d x c e K
    have hl2 : (B r).length = d.length + (t.length + 1 + 1) := by rw [e, List.length_append, List.length_cons, List.length_cons]
    have hmx : x ∈ B r := by rw [e]; simp
    have hmy : y ∈ B r := by rw [e]; simp
    obtain ⟨x1, x2, x3, x4, x5, x6, x7⟩ := info x hmx
    obtain ⟨y1, y2, y3, y4, y5, y6, y7⟩ := info y hmy
    have hnx : na x = y := (zx_spl hS hr e).2.1
    have nx : ∀ c', post (nI (c' + zk_s W a b ((y :: t).map sy))) → ∀ z, z = nI (d.length + 1) + 1 → wX_seamsIn_14 post (nI r) (nI a) (nI b) xc1 xc2 xc3 xc4 xc5 xc6 (nI xli) (nI xle) (nI xsz) (nI xcu) (nI xfn) (nI xst) xlv xhr xlo (nI xrt) xrT xrd xod xtd (zn_A na) (zn_A nb) (zn_A sy) (zn_A ow) (zn_A bl) (zn_A sp) (zn_A fT) (zn_A lT) (zn_A sh) (zn_A sc) (zn_A sn) (zn_A sv) (zn_A dh) (zn_A dc) (zn_A dn) (zn_A dv) rR (zn_A pa) (zn_A de) (zn_A oc) (zn_A wa) te (zn_A me) (zn_A qu) (zn_A wo) (zn_A co) (t.length + 1) (nI c') (nI y) z := by
      intro c' K'
      refine nm_r (nI_1 _) ?_
      have := ih (d ++ [x]) y c' (by rw [e]; simp) K'
      rw [List.length_append] at this
      exact this
    show wX_seamsIn_14 post (nI r) (nI a) (nI b) xc1 xc2 xc3 xc4 xc5 xc6 (nI xli) (nI xle) (nI xsz) (nI xcu) (nI xfn) (nI xst) xlv xhr xlo (nI xrt) xrT xrd xod xtd (zn_A na) (zn_A nb) (zn_A sy) (zn_A ow) (zn_A bl) (zn_A sp) (zn_A fT) (zn_A lT) (zn_A sh) (zn_A sc) (zn_A sn) (zn_A sv) (zn_A dh) (zn_A dc) (zn_A dn) (zn_A dv) rR (zn_A pa) (zn_A de) (zn_A oc) (zn_A wa) te (zn_A me) (zn_A qu) (zn_A wo) (zn_A co) ((t.length + 1) + 1) (nI c) (nI x) (nI (d.length + 1))
    rw [List.map_cons, List.map_cons, zk_s2] at K
    rw [wX_seamsIn_14]
    refine ⟨vp_in_nI hr (by decide), ?_⟩
    rw [zn_rd (by omega), hbl]
    refine br_f (nI_ge (by omega) (by omega)) ⟨vp_in_nI x2 (by decide), nm_r (e' := nI y) (by rw [zn_rd (by omega), hnx]) ⟨vp_in_nI x2 (by decide), ?_⟩⟩
    rw [zn_rd (by omega), zn_rd (by omega), x5]
    refine ⟨vp_in_nI x3 (by decide), ?_⟩
    refine pk_eq ((zg_w W (sy x)).getLastD 0) a (fun c1 => ⟨vp_in_nI y2 (by decide), ?_⟩) (fun c1 => nx c ?_)
    · rw [zn_rd (by omega), zn_rd (by omega), y4]
      refine ⟨vp_in_nI y3 (by decide), ?_⟩
      refine pk_eq ((zg_w W (sy y)).headD 0) b (fun c2 => nm_r (nI_1 _) (nx (c + 1) ?_)) (fun c2 => nx c ?_)
      · rw [if_pos ⟨c1, c2⟩] at K
        rw [show c + 1 + zk_s W a b ((y :: t).map sy) = c + (1 + zk_s W a b (sy y :: t.map sy)) by rw [List.map_cons]; omega]; exact K
      · rw [if_neg (fun z => c2 z.2), Nat.zero_add] at K
        exact K
    · rw [if_neg (fun z => c1 z.1), Nat.zero_add] at K
      exact K
theorem zk_seams {post : Int32 → Prop} {G W B : Nat → List Nat} {F : List Nat} {r a b : Nat} (hC : zr_C G W B sy na nb ow bl xfn xst F) (hSP : zx_SP G W sp fT lT) (hr : r < 32) (ha : a < 16) (hb : b < 16) (K : post (nI (zk_s W a b (G r)))) : wpX_seamsIn post (xc1, xc2, xc3, xc4, xc5, xc6, nI xli, nI xle, nI xsz, nI xcu, nI xfn, nI xst, xlv, xhr, xlo, nI xrt, xrT, xrd, xod, xtd, zn_A na, zn_A nb, zn_A sy, zn_A ow, zn_A bl, zn_A sp, zn_A fT, zn_A lT, zn_A sh, zn_A sc, zn_A sn, zn_A sv, zn_A dh, zn_A dc, zn_A dn, zn_A dv, rR, zn_A pa, zn_A de, zn_A oc, zn_A wa, te, zn_A me, zn_A qu, zn_A wo, zn_A co) (nI r) (nI a) (nI b) := by
  have hS := hC.2.1
  have hbl : bl r = (B r).length := (hS.1 r hr).2.2.2
  unfold wpX_seamsIn
  refine ⟨vp_in_nI (by omega) (by decide), nm_r (e' := nI ((B r).headD r)) (by rw [zn_rd (by omega), (zx_lkh _ _ _ (hS.1 r hr).1).1]) ?_⟩
  rw [hC.2.2.2 r hr] at K
  cases e : B r with
  | nil =>
    refine ⟨1, ?_⟩
    rw [wX_seamsIn_14]
    refine ⟨vp_in_nI hr (by decide), ?_⟩
    rw [zn_rd (by omega), hbl, e]
    refine br_t (by decide) ?_
    rw [e] at K
    exact K
  | cons x t =>
    refine ⟨t.length + 1, ?_⟩
    refine zk_X hC hSP hr ha hb t [] x 0 e ?_
    rw [Nat.zero_add, ← e]; exact K
end
section
variable {yca yal yln ycu : Nat} {ysq ybo ysi yor : Nat → Nat}
theorem zk_Y {post : Int32 → Prop} {W0 : List Nat} {a b : Nat} (h64 : W0.length ≤ 64) (hln : yln = W0.length) (hsq : ∀ i t, W0[i]? = some t → ysq i = t) (h16 : ∀ t ∈ W0, t < 16) (ha : a < 16) (hb : b < 16) :
    ∀ (l d : List Nat) (c : Nat), W0 = d ++ l → post (nI (c + zk_d a b l)) → wY_countDigram_31 post (nI a) (nI b) (nI yca) (nI yal) (nI yln) (nI ycu) (zn_A ysq) (zn_A ybo) (zn_A ysi) (zn_A yor) (l.length + 1) (nI c) (nI d.length) := by
  intro l
  induction l with
  | nil =>
    intro d c e K
    have hl : W0.length = d.length := by rw [e, List.append_nil]
    rw [wY_countDigram_31]
    dsimp only
    rw [nI_1 d.length]
    exact br_t (nI_le (by omega) (by omega)) K
  | cons x l ih =>
    intro d c e K
    have hl : W0.length = d.length + (l.length + 1) := by rw [e, List.length_append, List.length_cons]
    show wY_countDigram_31 post (nI a) (nI b) (nI yca) (nI yal) (nI yln) (nI ycu) (zn_A ysq) (zn_A ybo) (zn_A ysi) (zn_A yor) ((l.length + 1) + 1) (nI c) (nI d.length)
    rw [wY_countDigram_31]
    dsimp only
    rw [nI_1 d.length]
    cases l with
    | nil => exact br_t (nI_le (by simp at hl; omega) (by simp at hl; omega)) K
    | cons y l =>
      rw [List.length_cons] at hl
      have hx : ysq d.length = x := hsq _ _ (by rw [e]; exact zl_a1)
      have hy : ysq (d.length + 1) = y := hsq _ _ (by rw [e]; exact zl_a2)
      have x16 := h16 x (by rw [e]; simp)
      have y16 := h16 y (by rw [e]; simp)
      rw [zk_d2] at K
      have nx := fun c' => ih (d ++ [x]) c' (by rw [e]; simp)
      rw [show (d ++ [x]).length = d.length + 1 by simp] at nx
      refine br_f (nI_ge (by omega) (by omega)) ⟨vp_in_nI (by omega) (by decide), ?_⟩
      rw [zn_rd (by omega), hx]
      refine pk_eq x a (fun c1 => ⟨vp_in_nI (by omega) (by decide), ?_⟩) (fun c1 => nm_e (nx c ?_))
      · rw [zn_rd (by omega), hy]
        refine pk_eq y b (fun c2 => nm_r (nI_1 _) (nm_e (nx (c + 1) ?_))) (fun c2 => nm_e (nx c ?_))
        · rw [if_pos ⟨c1, c2⟩] at K
          rw [show c + 1 + zk_d a b (y :: l) = c + (1 + zk_d a b (y :: l)) by omega]; exact K
        · rw [if_neg (fun z => c2 z.2), Nat.zero_add] at K
          exact K
      · rw [if_neg (fun z => c1 z.1), Nat.zero_add] at K
        exact K
end
section
variable {xc1 xc2 xc3 xc4 xc5 xc6 xrd xod xtd : Int32} {xli xle xsz xcu xfn xst xrt : Nat} {xlv xhr xlo xrT : Int64} {na nb sy ow bl sp fT lT sh sc sn sv dh dc dn dv pa de oc wa me qu wo co : Nat → Nat} {rR : Nat → Int64} {te : Nat → Int32}
theorem zv_liveX {post : Int32 → Prop} {G : Nat → List Nat} {r : Nat} (hr : r < 32) (hlv : ∀ i, i < 64 → (zb_t xlv i = true ↔ (i = 0 ∨ (i < 32 ∧ G i ≠ [])))) (h1 : (r = 0 ∨ G r ≠ []) → post 1) (h0 : ¬ (r = 0 ∨ G r ≠ []) → post 0) : wpX_isLive post (xc1, xc2, xc3, xc4, xc5, xc6, nI xli, nI xle, nI xsz, nI xcu, nI xfn, nI xst, xlv, xhr, xlo, nI xrt, xrT, xrd, xod, xtd, zn_A na, zn_A nb, zn_A sy, zn_A ow, zn_A bl, zn_A sp, zn_A fT, zn_A lT, zn_A sh, zn_A sc, zn_A sn, zn_A sv, zn_A dh, zn_A dc, zn_A dn, zn_A dv, rR, zn_A pa, zn_A de, zn_A oc, zn_A wa, te, zn_A me, zn_A qu, zn_A wo, zn_A co) (nI r) := by
  unfold wpX_isLive
  refine br_f (nI_pos (by omega)) (br_f (nI_nlt (a := 31) (b := r) (by omega) (by omega)) ?_)
  by_cases c : r = 0 ∨ G r ≠ []
  · have b1 : zb_t xlv r = true := (hlv r (by omega)).mpr (c.elim Or.inl (fun z => Or.inr ⟨hr, z⟩))
    refine br_f ?_ (h1 c)
    rw [zb_is (by omega), b1]
    decide
  · have b1 : zb_t xlv r = false := ts_nt fun z => c (((hlv r (by omega)).mp z).elim Or.inl (fun w => Or.inr w.2))
    refine br_t ?_ (h0 c)
    rw [zb_is (by omega), b1]
end
theorem i_vc_countDigram {k : Nat} {u : SX} {v : SY} (I : i_Rel k u v) (hk : k + 3 ≤ 1538) (v1 : Int32) (v2 : Int32) : wpX_countDigram (fun r u' => wpY_countDigram (fun r' => r' = r ∧ i_Rel (k + 3) u' v) v v1 v2) u v1 v2 := by
  refine zr_el (P := fun u v => wpX_countDigram (fun r u' => wpY_countDigram (fun r' => r' = r ∧ i_Rel (k + 3) u' v) v v1 v2) u v1 v2) ?_ I
  intro G W B F xc1 xc2 xc3 xc4 xc5 xc6 xrd xod xtd xli xle xsz xcu xfn xst xrt xlv xhr xlo xrT na nb sy ow bl sp fT lT sh sc sn sv dh dc dn dv pa de oc wa me qu wo co rR te ysq ybo ysi yor hR
  obtain ⟨r1, r2, r3, r4, r5, r6, r7, r8, r9, r10, r11, r12, r13, r14⟩ := id hR
  have hC : zr_C G W B sy na nb ow bl xfn xst F := ⟨r1, r2.1.1, r2.1.2.1, r2.2.1⟩
  unfold wpX_countDigram wpY_countDigram
  by_cases c1 : v1 < 0
  · exact br_t c1 (br_t c1 ⟨rfl, zr_in (h := hR)⟩)
  refine br_f c1 ?_
  by_cases c2 : nI xle ≤ v1
  · exact br_t c2 (br_f c1 (br_t c2 ⟨rfl, zr_in (h := hR)⟩))
  refine br_f c2 ?_
  by_cases c3 : v2 < 0
  · exact br_t c3 (br_f c1 (br_f c2 (br_t c3 ⟨rfl, zr_in (h := hR)⟩)))
  refine br_f c3 ?_
  by_cases c4 : v2 < nI xle
  case neg => exact br_f c4 (br_f c1 (br_f c2 (br_f c3 (br_f c4 ⟨rfl, zr_in (h := hR)⟩))))
  refine br_t c4 ?_
  obtain ⟨a, ha, e1⟩ := nI_of c1
  obtain ⟨b, hb, e2⟩ := nI_of c3
  subst e1 e2
  have ha' : a < 16 := by rw [nI_leI (by omega) ha] at c2; omega
  have hb' : b < 16 := by rw [nI_ltI hb (by omega)] at c4; omega
  refine zo_prep r1 r2 r13 ?_
  intro oc' wa' qu' hoc
  have key := zc_id (om := fun r => zk_s W a b (G r)) (T := fun r => zk_d a b (W r)) r1 hoc (by
    intro r hr
    have e := r1.1.2.1 r hr
    show zk_d a b (W r) = _
    rw [e]
    have := zk_f (W := W) (a := a) (b := b) (G r) (fun x hx => zg_wn r1.1 hr hx)
    rw [this])
  have fin : ∀ (m r : Nat), r + m = 32 → wX_countDigram_35 (fun r u' => (nI a < 0 → -1 = r ∧ i_Rel (k + 3) u' (nI xli, nI xle, nI xsz, nI xcu, zn_A ysq, zn_A ybo, zn_A ysi, zn_A yor)) ∧ (¬ nI a < 0 → (nI xle ≤ nI a → -1 = r ∧ i_Rel (k + 3) u' (nI xli, nI xle, nI xsz, nI xcu, zn_A ysq, zn_A ybo, zn_A ysi, zn_A yor)) ∧ (¬ nI xle ≤ nI a → (nI b < 0 → -1 = r ∧ i_Rel (k + 3) u' (nI xli, nI xle, nI xsz, nI xcu, zn_A ysq, zn_A ybo, zn_A ysi, zn_A yor)) ∧ (¬ nI b < 0 → (nI b < nI xle → ∃ n31 : Nat, wY_countDigram_31 (fun r' => r' = r ∧ i_Rel (k + 3) u' (nI xli, nI xle, nI xsz, nI xcu, zn_A ysq, zn_A ybo, zn_A ysi, zn_A yor)) (nI a) (nI b) (nI xli) (nI xle) (nI xsz) (nI xcu) (zn_A ysq) (zn_A ybo) (zn_A ysi) (zn_A yor) n31 0 0) ∧ (¬ nI b < nI xle → -1 = r ∧ i_Rel (k + 3) u' (nI xli, nI xle, nI xsz, nI xcu, zn_A ysq, zn_A ybo, zn_A ysi, zn_A yor)))))) (nI a) (nI b) xc1 xc2 xc3 xc4 xc5 xc6 (nI xli) (nI xle) (nI xsz) (nI xcu) (nI xfn) (nI xst) xlv xhr xlo (nI xrt) xrT xrd 1 xtd (zn_A na) (zn_A nb) (zn_A sy) (zn_A ow) (zn_A bl) (zn_A sp) (zn_A fT) (zn_A lT) (zn_A sh) (zn_A sc) (zn_A sn) (zn_A sv) (zn_A dh) (zn_A dc) (zn_A dn) (zn_A dv) rR (zn_A pa) (zn_A de) (zn_A oc') (zn_A wa') te (zn_A me) (zn_A qu') (zn_A wo) (zn_A co) (m + 1) (nI (zx_su (fun r => oc' r * zk_s W a b (G r)) r)) (nI r) := by
    intro m
    induction m with
    | zero =>
      intro r hr
      have : r = 32 := by omega
      subst this
      rw [wX_countDigram_35]
      refine br_t (show (31 : Int32) < nI 32 by decide) ?_
      rw [← key]
      refine br_f c1 (br_f c2 (br_f c3 (br_t c4 ⟨(W 0).length + 1, ?_⟩)))
      refine zk_Y r1.2.2.2.1 r5 r7 r1.2.2.2.2 ha' hb' (W 0) [] 0 rfl ?_
      rw [Nat.zero_add]
      exact ⟨rfl, zr_in (h := ⟨r1, r2, r3, r4, r5, r6, r7, r8, r9, r10, r11, r12, Or.inr ⟨rfl, hoc⟩, r14⟩)⟩
    | succ m ih =>
      intro r hr
      have nx := ih (r + 1) (by omega)
      have es : zx_su (fun r => oc' r * zk_s W a b (G r)) (r + 1) = zx_su (fun r => oc' r * zk_s W a b (G r)) r + oc' r * zk_s W a b (G r) := rfl
      rw [es] at nx
      rw [wX_countDigram_35]
      refine br_f ?_ ?_
      · rw [show (31 : Int32) = nI 31 from rfl, nI_ltI (by omega) (by omega)]; omega
      refine zv_liveX (by omega) r2.2.2.1 (fun hl => br_f (by decide) ?_) (fun hl => br_t rfl (nm_r (nI_1 r) ?_))
      · refine zk_seams hC r3 (by omega) ha' hb' ⟨vp_in_nI (by omega) (by decide), nm_r (e' := nI (zx_su (fun r => oc' r * zk_s W a b (G r)) r + oc' r * zk_s W a b (G r))) ?_ (nm_r (nI_1 r) nx)⟩
        rw [zn_rd (by omega), pk_mul, nI_add, Nat.mul_comm]
      · have hdead : G r = [] := Classical.byContradiction fun z => hl (Or.inr z)
        rw [hdead] at nx
        have e0 : oc' r * zk_s W a b [] = 0 := by show oc' r * 0 = 0; rw [Nat.mul_zero]
        rw [e0, Nat.add_zero] at nx
        exact nx
  exact ⟨33, fin 32 0 (by omega)⟩
end
section
/-! ===== the text, the pure side ===== -/
def zt_ok (O : List Nat) : Prop := O.Nodup ∧ (∀ q ∈ O, q < 32) ∧ ∃ O', O = 0 :: O'
theorem zt_oo {O : List Nat} {q : Nat} (h : zt_ok O) (hq : q < 32) : zt_ok (zt_o O q) ∧ (∃ E, zt_o O q = O ++ E) ∧ q ∈ zt_o O q ∧ (∀ v, v ∈ zt_o O q → v ∈ O ∨ v = q) := by
  unfold zt_o
  by_cases c : q ∈ O
  · rw [if_pos c]
    exact ⟨h, ⟨[], by simp⟩, c, fun v hv => Or.inl hv⟩
  · rw [if_neg c]
    refine ⟨⟨?_, ?_, ?_⟩, ⟨[q], rfl⟩, by simp, fun v hv => ?_⟩
    · rw [List.nodup_append]
      refine ⟨h.1, by simp, ?_⟩
      intro a ha b hb z
      have : b = q := by simpa using hb
      exact c (by rw [← this, ← z]; exact ha)
    · intro v hv
      rcases List.mem_append.mp hv with z | z
      · exact h.2.1 v z
      · have : v = q := by simpa using z
        omega
    · obtain ⟨O', e⟩ := h.2.2
      exact ⟨O' ++ [q], by rw [e]; rfl⟩
    · rcases List.mem_append.mp hv with z | z
      · exact Or.inl z
      · exact Or.inr (by simpa using z)
theorem zt_rc {O : List Nat} {id : Nat} {t : List Nat} (h : id < 16) : zt_row O (id :: t) = ((zt_row O t).1, nI id :: (zt_row O t).2) := by
  rw [zt_row, if_pos h]
theorem zt_rr {O : List Nat} {id : Nat} {t : List Nat} (h : ¬ id < 16) : zt_row O (id :: t) = ((zt_row (zt_o O (id - 16)) t).1, nI (64 + (zt_o O (id - 16)).idxOf (id - 16)) :: (zt_row (zt_o O (id - 16)) t).2) := by
  rw [zt_row, if_neg h]
theorem zt_ro : ∀ (l O : List Nat), zt_ok O → (∀ id ∈ l, id < 16 ∨ (17 ≤ id ∧ id < 48)) → zt_ok (zt_row O l).1 ∧ (∃ E, (zt_row O l).1 = O ++ E) ∧ (∀ q, 16 + q ∈ l → q ∈ (zt_row O l).1) ∧ (∀ v, v ∈ (zt_row O l).1 → v ∈ O ∨ 16 + v ∈ l) ∧ (zt_row O l).2.length = l.length := by
  intro l
  induction l with
  | nil =>
    intro O h _
    exact ⟨h, ⟨[], by simp [zt_row]⟩, (by intro q hq; cases hq), (fun v hv => Or.inl hv), rfl⟩
  | cons id t ih =>
    intro O h hid
    have hid' := hid id (by simp)
    by_cases c : id < 16
    · rw [zt_rc c]
      obtain ⟨i1, i2, i3, i4, i5⟩ := ih O h (fun x hx => hid x (List.mem_cons_of_mem _ hx))
      refine ⟨i1, i2, ?_, ?_, ?_⟩
      · intro q hq
        rcases List.mem_cons.mp hq with z | z
        · omega
        · exact i3 q z
      · intro v hv
        rcases i4 v hv with z | z
        · exact Or.inl z
        · exact Or.inr (List.mem_cons_of_mem _ z)
      · show (_ :: _).length = _
        rw [List.length_cons, i5, List.length_cons]
    · rw [zt_rr c]
      obtain ⟨o1, ⟨E1, o2⟩, o3, o4⟩ := zt_oo h (show id - 16 < 32 by omega)
      obtain ⟨i1, ⟨E2, i2⟩, i3, i4, i5⟩ := ih (zt_o O (id - 16)) o1 (fun x hx => hid x (List.mem_cons_of_mem _ hx))
      refine ⟨i1, ⟨E1 ++ E2, by rw [i2, o2]; simp⟩, ?_, ?_, ?_⟩
      · intro q hq
        rcases List.mem_cons.mp hq with z | z
        · have : q = id - 16 := by omega
          show q ∈ (zt_row (zt_o O (id - 16)) t).1
          rw [i2]
          exact List.mem_append_left _ (this ▸ o3)
        · exact i3 q z
      · intro v hv
        rcases i4 v hv with z | z
        · rcases o4 v z with w | w
          · exact Or.inl w
          · right
            rw [w, show 16 + (id - 16) = id by omega]; simp
        · exact Or.inr (List.mem_cons_of_mem _ z)
      · show (_ :: _).length = _
        rw [List.length_cons, i5, List.length_cons]
/-- the order at the end -/
def zt_of (G : Nat → List Nat) : Nat → Nat → List Nat → List Nat
  | 0, _, O => O
  | f + 1, k, O => if k < O.length then zt_of G f (k + 1) (zt_row O (G (O.getD k 0))).1 else O
theorem zt_gid {G W : Nat → List Nat} (h : zr_G G W) {r : Nat} (hr : r < 32) : ∀ id ∈ G r, id < 16 ∨ (17 ≤ id ∧ id < 48) := by
  intro id hid
  rcases h.1.1 r hr id hid with z | z
  · exact Or.inl z
  · exact Or.inr ⟨z.1, z.2.1⟩
theorem zt_gd {O : List Nat} (h : zt_ok O) {k : Nat} (hk : k < O.length) : O.getD k 0 < 32 ∧ O[k]? = some (O.getD k 0) := by
  rw [List.getD_eq_getElem?_getD, List.getElem?_eq_getElem hk]
  exact ⟨h.2.1 _ (List.getElem_mem hk), rfl⟩
theorem zt_fin {G W : Nat → List Nat} (h : zr_G G W) : ∀ (f k : Nat) (O : List Nat), zt_ok O → k + f = 32 → k ≤ O.length → (∀ i, i < k → ∀ r, O[i]? = some r → ∀ q, 16 + q ∈ G r → q ∈ O) → (∀ v ∈ O, v = 0 ∨ (G v ≠ [] ∧ 0 < v)) →
    zt_ok (zt_of G f k O) ∧ (∀ r ∈ zt_of G f k O, ∀ q, 16 + q ∈ G r → q ∈ zt_of G f k O) ∧ (∀ v ∈ zt_of G f k O, v = 0 ∨ (G v ≠ [] ∧ 0 < v)) ∧ (zt_go G f k O).length = zl_sm (fun r => (G r).length + 1) ((zt_of G f k O).drop k) ∧ ∃ E, zt_of G f k O = O ++ E := by
  intro f
  induction f with
  | zero =>
    intro k O hO hk hkl hcl hlv
    have hl := zl_ph 32 O hO.1 hO.2.1
    have e : O.drop k = [] := List.drop_eq_nil_of_le (by omega)
    refine ⟨hO, ?_, hlv, ?_, ⟨[], by simp [zt_of]⟩⟩
    · intro r hr q hq
      have hr' : r ∈ O := hr
      obtain ⟨i, hi⟩ := List.mem_iff_getElem?.mp hr'
      exact hcl i (by have := (List.getElem?_eq_some_iff.mp hi).1; omega) r hi q hq
    · show ([] : List Int32).length = zl_sm _ (O.drop k)
      rw [e]; rfl
  | succ f ih =>
    intro k O hO hk hkl hcl hlv
    by_cases c : k < O.length
    · obtain ⟨g1, g2⟩ := zt_gd hO c
      obtain ⟨p1, ⟨E, p2⟩, p3, p4, p5⟩ := zt_ro (G (O.getD k 0)) O hO (zt_gid h g1)
      have e1 : zt_of G (f + 1) k O = zt_of G f (k + 1) (zt_row O (G (O.getD k 0))).1 := by rw [zt_of, if_pos c]
      have e2 : zt_go G (f + 1) k O = (zt_row O (G (O.getD k 0))).2 ++ (-2 : Int32) :: zt_go G f (k + 1) (zt_row O (G (O.getD k 0))).1 := by rw [zt_go, if_pos c]
      have hA : ∀ i, i < k + 1 → ∀ r, (zt_row O (G (O.getD k 0))).1[i]? = some r → ∀ q, 16 + q ∈ G r → q ∈ (zt_row O (G (O.getD k 0))).1 := by
        intro i hi r hr q hq
        by_cases d : i < k
        · rw [p2, List.getElem?_append_left (by omega)] at hr
          rw [p2]
          exact List.mem_append_left _ (hcl i d r hr q hq)
        · have : i = k := by omega
          rw [this, p2, List.getElem?_append_left c, g2] at hr
          rw [← Option.some.inj hr] at hq
          exact p3 q hq
      have hB : ∀ v ∈ (zt_row O (G (O.getD k 0))).1, v = 0 ∨ (G v ≠ [] ∧ 0 < v) := by
        intro v hv
        rcases p4 v hv with z | z
        · exact hlv v z
        · have := zr_lv h g1 z
          exact Or.inr ⟨this.2.2.1, this.1⟩
      obtain ⟨i1, i2, i3, i4, ⟨E2, i5⟩⟩ := ih (k + 1) (zt_row O (G (O.getD k 0))).1 p1 (by omega) (by rw [p2, List.length_append]; omega) hA hB
      · rw [e1, e2]
        refine ⟨i1, i2, i3, ?_, ⟨E ++ E2, by rw [i5, p2]; simp⟩⟩
        rw [List.length_append, List.length_cons, i4, p5]
        have hd : (zt_of G f (k + 1) (zt_row O (G (O.getD k 0))).1).drop k = O.getD k 0 :: (zt_of G f (k + 1) (zt_row O (G (O.getD k 0))).1).drop (k + 1) := by
          have hlt : k < (zt_of G f (k + 1) (zt_row O (G (O.getD k 0))).1).length := by rw [i5, p2, List.length_append, List.length_append]; omega
          rw [List.drop_eq_getElem_cons hlt]
          congr 1
          apply Option.some.inj
          rw [← List.getElem?_eq_getElem hlt, i5, p2, List.getElem?_append_left (by rw [List.length_append]; omega), List.getElem?_append_left c, g2]
        rw [hd]
        show _ = (G (O.getD k 0)).length + 1 + zl_sm _ _
        omega
    · have e1 : zt_of G (f + 1) k O = O := by rw [zt_of, if_neg c]
      have e2 : zt_go G (f + 1) k O = [] := by rw [zt_go, if_neg c]
      rw [e1, e2]
      have e : O.drop k = [] := List.drop_eq_nil_of_le (by omega)
      refine ⟨hO, ?_, hlv, by rw [e]; rfl, ⟨[], by simp⟩⟩
      intro r hr q hq
      obtain ⟨i, hi⟩ := List.mem_iff_getElem?.mp hr
      exact hcl i (by have := (List.getElem?_eq_some_iff.mp hi).1; omega) r hi q hq
theorem zt_sm {f : Nat → Nat} : ∀ (O : List Nat), O.Nodup → (∀ q ∈ O, q < 32) → zl_sm f O = zx_su (fun r => if r ∈ O then f r else 0) 32
  | [], _, _ => by
    have : zx_su (fun r => if r ∈ ([] : List Nat) then f r else 0) 32 = zx_su (fun i => if i = 0 then 0 else 0) 32 := by
      apply zx_suc
      intro i _
      simp
    rw [this, zx_sui 32 (by omega)]; rfl
  | x :: O, hn, hb => by
    have hn' := List.nodup_cons.mp hn
    show f x + zl_sm f O = _
    rw [zt_sm O hn'.2 (fun q hq => hb q (List.mem_cons_of_mem _ hq)), ← zx_sui (k := x) (v := f x) 32 (hb x (by simp)), ← zx_sua]
    apply zx_suc
    intro i _
    by_cases c : i = x
    · rw [if_pos c, if_neg (by rw [c]; exact hn'.1), if_pos (by rw [c]; simp), c]
      omega
    · rw [if_neg c]
      by_cases d : i ∈ O
      · rw [if_pos d, if_pos (List.mem_cons_of_mem _ d)]; omega
      · rw [if_neg d, if_neg (fun z => (List.mem_cons.mp z).elim c d)]
theorem zt_ok0 : zt_ok [0] := ⟨by simp, (by intro q hq; have : q = 0 := by simpa using hq
                                            omega), ⟨[], rfl⟩⟩
theorem zt_len {G W : Nat → List Nat} (h : zr_G G W) : (zt_go G 32 0 [0]).length = zg_s G + zg_R G + 1 := by
  obtain ⟨i1, i2, i3, i4, ⟨E, i5⟩⟩ := zt_fin h 32 0 [0] zt_ok0 (by omega) (Nat.zero_le _) (by intro i hi; omega) (by intro v hv; left; simpa using hv)
  rw [i4, List.drop_zero, zt_sm _ i1.1 i1.2.1]
  have h0 : 0 ∈ zt_of G 32 0 [0] := by rw [i5]; simp
  have all : ∀ q, q < 32 → G q ≠ [] → q ∈ zt_of G 32 0 [0] := zr_up h h0 (fun q r _ _ _ hm hP => i2 r hP q hm)
  have e : zx_su (fun r => if r ∈ zt_of G 32 0 [0] then (G r).length + 1 else 0) 32 = zx_su (fun r => (G r).length + ((if r = 0 then 0 else zg_lv (G r)) + (if r = 0 then 1 else 0))) 32 := by
    apply zx_suc
    intro r hr
    by_cases c : r = 0
    · rw [if_pos (by rw [c]; exact h0), if_pos c, if_pos c]
    · rw [if_neg c, if_neg c]
      by_cases d : G r = []
      · rw [if_neg, d]
        · rfl
        · intro z
          rcases i3 r z with w | w
          · exact c w
          · exact w.1 d
      · rw [if_pos (all r hr d), zg_lv1 d]
  rw [e, zx_sua, zx_sua, zx_sui 32 (by omega)]
  unfold zg_s zg_R
  omega
end
section
/-! ===== X: prepareText ===== -/
def zt_m (me : Nat → Nat) (O : List Nat) : Prop := ∀ q, 0 < q → q < 32 → me q = if q ∈ O then O.idxOf q else 0
def zt_or (a : Nat → Nat) (O : List Nat) : Prop := ∀ i, i < O.length → a i = O.getD i 0
def zt_wr (te : Nat → Int32) (P : List Int32) : Prop := ∀ i c, P[i]? = some c → te i = c
theorem zt_wu {te : Nat → Int32} {P : List Int32} {c : Int32} (h : zt_wr te P) : zt_wr (upd te P.length c) (P ++ [c]) := by
  intro i d hi
  by_cases e : i = P.length
  · rw [e, List.getElem?_append_right (Nat.le_refl _)] at hi
    have : c = d := by simpa using hi
    rw [e, pk_us, this]
  · obtain ⟨w, _⟩ := List.getElem?_eq_some_iff.mp hi
    rw [List.length_append] at w
    have w1 : [c].length = 1 := rfl
    rw [pk_un e]
    apply h
    rw [List.getElem?_append_left (by omega)] at hi
    exact hi
theorem zt_ora {a : Nat → Nat} {O : List Nat} {q : Nat} (h : zt_or a O) : zt_or (zn_u a O.length q) (O ++ [q]) := by
  intro i hi
  rw [List.length_append] at hi
  have : [q].length = 1 := rfl
  by_cases z : i = O.length
  · rw [z, zn_us, List.getD_eq_getElem?_getD, List.getElem?_append_right (Nat.le_refl _)]; simp
  · rw [zn_un z, h i (by omega), List.getD_eq_getElem?_getD, List.getD_eq_getElem?_getD, List.getElem?_append_left (by omega)]
theorem zt_ix {O : List Nat} {q : Nat} (h : zt_ok O) (hq : 0 < q) (hm : q ∈ O) : 0 < O.idxOf q ∧ O.idxOf q < O.length := by
  obtain ⟨O', e⟩ := h.2.2
  refine ⟨?_, List.idxOf_lt_length_iff.mpr hm⟩
  rw [e, List.idxOf_cons]
  have : (0 == q) = false := by simp; omega
  rw [this]
  simp
section
variable {xc1 xc2 xc3 xc4 xc5 xc6 xrd xod xtd : Int32} {xli xle xsz xcu xfn xst xrt : Nat} {xlv xhr xlo xrT : Int64} {na nb sy ow bl sp fT lT sh sc sn sv dh dc dn dv pa de oc wa me qu wo co : Nat → Nat} {rR : Nat → Int64} {te : Nat → Int32}
theorem zt_in {post : SX → Prop} {J : Int32 → Int32 → Int32 → (Nat → Int32) → (Nat → Int32) → (Nat → Int32) → (Nat → Int32) → (Nat → Int32) → (Nat → Int32) → (Nat → Int32) → (Nat → Int32) → (Nat → Int32) → (Nat → Int32) → (Nat → Int32) → (Nat → Int32) → (Nat → Int32) → (Nat → Int32) → (Nat → Int32) → (Nat → Int32) → (Nat → Int64) → (Nat → Int32) → (Nat → Int32) → (Nat → Int32) → (Nat → Int32) → (Nat → Int32) → (Nat → Int32) → (Nat → Int32) → (Nat → Int32) → (Nat → Int32) → Prop}
    {G W B : Nat → List Nat} {F : List Nat} {r h : Nat} (hC : zr_C G W B sy na nb ow bl xfn xst F) (hr : r < 32) (hh : h < 32) :
    ∀ (t d O : List Nat) (P : List Int32) (te : Nat → Int32) (me qu : Nat → Nat), B r = d ++ t → zt_ok O → zt_m me O → zt_or qu O → zt_wr te P → P.length + (t.length + 1) ≤ 128 →
    (∀ (te' : Nat → Int32) (me' qu' : Nat → Nat), zt_m me' (zt_row O (t.map sy)).1 → zt_or qu' (zt_row O (t.map sy)).1 → zt_wr te' (P ++ (zt_row O (t.map sy)).2 ++ [(-2 : Int32)]) →
      J (nI (zt_row O (t.map sy)).1.length) (nI (P.length + (t.length + 1))) (nI (h + 1)) (zn_A na) (zn_A nb) (zn_A sy) (zn_A ow) (zn_A bl) (zn_A sp) (zn_A fT) (zn_A lT) (zn_A sh) (zn_A sc) (zn_A sn) (zn_A sv) (zn_A dh) (zn_A dc) (zn_A dn) (zn_A dv) rR (zn_A pa) (zn_A de) (zn_A oc) (zn_A wa) te' (zn_A me') (zn_A qu') (zn_A wo) (zn_A co)) →
    wX_prepareText_73 post J (nI h) (nI r) xc1 xc2 xc3 xc4 xc5 xc6 (nI xli) (nI xle) (nI xsz) (nI xcu) (nI xfn) (nI xst) xlv xhr xlo (nI xrt) xrT xrd xod xtd (t.length + 1) (nI O.length) (nI P.length) (nI (t.headD r)) (nI d.length) (zn_A na) (zn_A nb) (zn_A sy) (zn_A ow) (zn_A bl) (zn_A sp) (zn_A fT) (zn_A lT) (zn_A sh) (zn_A sc) (zn_A sn) (zn_A sv) (zn_A dh) (zn_A dc) (zn_A dn) (zn_A dv) rR (zn_A pa) (zn_A de) (zn_A oc) (zn_A wa) te (zn_A me) (zn_A qu) (zn_A wo) (zn_A co) := by
  have hS := hC.2.1
  have hG := hC.2.2.2
  have hbl : bl r = (B r).length := (hS.1 r hr).2.2.2
  have hlen : (B r).length ≤ 96 := by
    have t := zx_sul (f := fun q => (B q).length) 32 r hr
    rw [← hS.2.2.2.2.2.1] at t
    have t' : (B r).length ≤ xst := t
    have := hS.2.2.2.2.2.2.1
    omega
  intro t
  induction t with
  | nil =>
    intro d O P te me qu e hO hm hq hw hl K
    rw [List.append_nil] at e
    rw [wX_prepareText_73]
    refine ⟨vp_in_nI hr (by decide), ?_⟩
    rw [zn_rd (by omega), hbl, e]
    refine br_t (nI_le (Nat.le_refl _) (by rw [← e]; omega)) ⟨vp_in_nI (by simp at hl; omega) (by decide), nm_e (nm_r (nI_1 _) (nm_r (nI_1 h) ?_))⟩
    rw [nI_clamp (by simp at hl; omega)]
    refine K _ me qu hm hq ?_
    show zt_wr _ (P ++ [] ++ [(-2 : Int32)])
    rw [List.append_nil]
    exact zt_wu hw
  | cons x t ih =>
    intro d O P te me qu e hO hm hq hw hl K
    rw [List.length_cons] at hl K
    have hmx : x ∈ B r := by rw [e]; simp
    have q := (hS.1 r hr).2.2.1 x hmx
    have hnx := (zx_spl hS hr e).2.1
    have hid : sy x ∈ G r := by rw [hG r hr]; exact List.mem_map_of_mem hmx
    have s48 := hC.2.2.1 x ⟨r, hr, hmx⟩
    have hl2 : (B r).length = d.length + (t.length + 1) := by rw [e, List.length_append, List.length_cons]
    have hOl := zl_ph 32 O hO.1 hO.2.1
    -- one cell is written
    have wr : ∀ (O1 : List Nat) (me1 qu1 : Nat → Nat) (c : Int32), zt_ok O1 → zt_m me1 O1 → zt_or qu1 O1 → (zt_row O ((x :: t).map sy)).1 = (zt_row O1 (t.map sy)).1 → (zt_row O ((x :: t).map sy)).2 = c :: (zt_row O1 (t.map sy)).2 →
        wX_prepareText_153 post J (wX_prepareText_73 post J (nI h) (nI r) xc1 xc2 xc3 xc4 xc5 xc6 (nI xli) (nI xle) (nI xsz) (nI xcu) (nI xfn) (nI xst) xlv xhr xlo (nI xrt) xrT xrd xod xtd (t.length + 1)) (nI O1.length) (nI P.length) (nI h) (nI r) (nI x) (nI d.length) c xc1 xc2 xc3 xc4 xc5 xc6 (nI xli) (nI xle) (nI xsz) (nI xcu) (nI xfn) (nI xst) xlv xhr xlo (nI xrt) xrT xrd xod xtd (zn_A na) (zn_A nb) (zn_A sy) (zn_A ow) (zn_A bl) (zn_A sp) (zn_A fT) (zn_A lT) (zn_A sh) (zn_A sc) (zn_A sn) (zn_A sv) (zn_A dh) (zn_A dc) (zn_A dn) (zn_A dv) rR (zn_A pa) (zn_A de) (zn_A oc) (zn_A wa) te (zn_A me1) (zn_A qu1) (zn_A wo) (zn_A co) := by
      intro O1 me1 qu1 c k1 k2 k3 k4 k5
      rw [k4, k5] at K
      unfold wX_prepareText_153
      refine ⟨vp_in_nI (by omega) (by decide), nm_e (nm_r (e' := nI (P ++ [c]).length) (by rw [nI_1]; simp) ⟨vp_in_nI q.2.1 (by decide), nm_r (e' := nI (t.headD r)) (by rw [zn_rd (by omega), hnx]) (nm_r (e' := nI (d ++ [x]).length) (by rw [nI_1]; simp) ?_)⟩)⟩
      rw [nI_clamp (show P.length < 2 ^ 31 by omega)]
      refine ih (d ++ [x]) O1 (P ++ [c]) _ me1 qu1 (by rw [e]; simp) k1 k2 k3 (zt_wu hw) (by rw [List.length_append]; have : [c].length = 1 := rfl; omega) ?_
      intro te' me' qu' j1 j2 j3
      have e1 : P ++ [c] ++ (zt_row O1 (t.map sy)).2 ++ [(-2 : Int32)] = P ++ c :: (zt_row O1 (t.map sy)).2 ++ [(-2 : Int32)] := by simp
      have e2 : (P ++ [c]).length + (t.length + 1) = P.length + (t.length + 1 + 1) := by rw [List.length_append]; have : [c].length = 1 := rfl; omega
      rw [e1] at j3
      rw [e2]
      exact K te' me' qu' j1 j2 j3
    show wX_prepareText_73 post J (nI h) (nI r) xc1 xc2 xc3 xc4 xc5 xc6 (nI xli) (nI xle) (nI xsz) (nI xcu) (nI xfn) (nI xst) xlv xhr xlo (nI xrt) xrT xrd xod xtd ((t.length + 1) + 1) (nI O.length) (nI P.length) (nI x) (nI d.length) (zn_A na) (zn_A nb) (zn_A sy) (zn_A ow) (zn_A bl) (zn_A sp) (zn_A fT) (zn_A lT) (zn_A sh) (zn_A sc) (zn_A sn) (zn_A sv) (zn_A dh) (zn_A dc) (zn_A dn) (zn_A dv) rR (zn_A pa) (zn_A de) (zn_A oc) (zn_A wa) te (zn_A me) (zn_A qu) (zn_A wo) (zn_A co)
    rw [wX_prepareText_73]
    refine ⟨vp_in_nI hr (by decide), ?_⟩
    rw [zn_rd (by omega), hbl]
    refine br_f (nI_ge (by omega) (by omega)) ⟨vp_in_nI q.2.1 (by decide), nm_r (zn_rd (by omega)) ?_⟩
    by_cases c16 : sy x < 16
    · refine nm_e (br_t (zo_sg (b := 16) c16 (by omega)) ?_)
      refine wr O me qu (nI (sy x)) hO hm hq ?_ ?_
      · rw [List.map_cons, zt_rc c16]
      · rw [List.map_cons, zt_rc c16]
    · obtain ⟨v, ev⟩ : ∃ v, sy x = 16 + v := ⟨sy x - 16, by omega⟩
      have hlv := zr_lv hC.1 hr (ev ▸ hid)
      have v0 := hlv.1
      have v32 := hlv.2.1
      have hrow : zt_row O ((x :: t).map sy) = ((zt_row (zt_o O v) (t.map sy)).1, nI (64 + (zt_o O v).idxOf v) :: (zt_row (zt_o O v) (t.map sy)).2) := by
        rw [List.map_cons, zt_rr c16, show sy x - 16 = v by omega]
      have hmv := hm v v0 v32
      refine nm_r (e' := nI v) (by rw [show (16 : Int32) = nI 16 from rfl, pk_sub (by omega)]; exact congrArg nI (by omega)) ?_
      refine br_f (nI_nle v0 (by omega)) ⟨vp_in_nI v32 (by decide), ?_⟩
      rw [zn_rd (by omega)]
      by_cases c : v ∈ O
      · rw [if_pos c] at hmv
        obtain ⟨x1, x2⟩ := zt_ix hO v0 c
        have eo : zt_o O v = O := by unfold zt_o; rw [if_pos c]
        rw [eo] at hrow
        refine br_f (nI_ne0 (by omega) (by omega)) ?_
        unfold wX_prepareText_141
        refine ⟨vp_in_nI v32 (by decide), nm_r (e' := nI (64 + O.idxOf v)) (by rw [zn_rd (by omega), hmv, zy_64]) ?_⟩
        exact wr O me qu _ hO hm hq (by rw [hrow]) (by rw [hrow])
      · rw [if_neg c] at hmv
        have eo : zt_o O v = O ++ [v] := by unfold zt_o; rw [if_neg c]
        have hO' : zt_ok (O ++ [v]) := by rw [← eo]; exact (zt_oo hO v32).1
        have hOl' := zl_ph 32 (O ++ [v]) hO'.1 hO'.2.1
        rw [List.length_append] at hOl'
        have l1 : [v].length = 1 := rfl
        have hix : (O ++ [v]).idxOf v = O.length := by
          rw [List.idxOf_append]
          rw [if_neg c]
          simp
        have hpos : 0 < O.length := by
          obtain ⟨O', e0⟩ := hO.2.2
          rw [e0]; simp
        rw [eo, hix] at hrow
        have hm' : zt_m (zn_u me v O.length) (O ++ [v]) := by
          intro p p0 p32
          by_cases z : p = v
          · rw [z, zn_us, if_pos (by simp), hix]
          · rw [zn_un z, hm p p0 p32]
            by_cases w : p ∈ O
            · rw [if_pos w, if_pos (by simp [w]), List.idxOf_append, if_pos w]
            · rw [if_neg w, if_neg (by simp [w, z])]
        refine br_t (by rw [hmv]; rfl) (br_f ?_ ⟨vp_in_nI v32 (by decide), nm_r (zn_up (by omega)) ⟨vp_in_nI (by omega) (by decide), nm_r (zn_up (by omega)) (nm_r (e' := nI (O ++ [v]).length) (by rw [nI_1]; simp) ?_)⟩⟩)
        · rw [show (31 : Int32) = nI 31 from rfl, nI_ltI (by omega) (by omega)]; omega
        · unfold wX_prepareText_141
          refine ⟨vp_in_nI v32 (by decide), nm_r (e' := nI (64 + O.length)) (by rw [zn_rd (by omega), zn_us, zy_64]) ?_⟩
          exact wr (O ++ [v]) _ _ _ hO' hm' (zt_ora hq) (by rw [hrow]) (by rw [hrow])
theorem zt_out {post : SX → Prop} {G W B : Nat → List Nat} {F : List Nat} {T : List Int32} (hC : zr_C G W B sy na nb ow bl xfn xst F) (hT : T.length ≤ 128) (K : ∀ (te' : Nat → Int32) (me' qu' : Nat → Nat), zt_wr te' T → post (xc1, xc2, xc3, xc4, xc5, xc6, nI xli, nI xle, nI xsz, nI xcu, nI xfn, nI xst, xlv, xhr, xlo, nI xrt, xrT, xrd, xod, 1, zn_A na, zn_A nb, zn_A sy, zn_A ow, zn_A bl, zn_A sp, zn_A fT, zn_A lT, zn_A sh, zn_A sc, zn_A sn, zn_A sv, zn_A dh, zn_A dc, zn_A dn, zn_A dv, rR, zn_A pa, zn_A de, zn_A oc, zn_A wa, te', zn_A me', zn_A qu', zn_A wo, zn_A co)) :
    ∀ (f k : Nat) (O : List Nat) (P : List Int32) (te : Nat → Int32) (me qu : Nat → Nat), k + f = 32 → zt_ok O → k ≤ O.length → zt_m me O → zt_or qu O → zt_wr te P → P ++ zt_go G f k O = T →
      wX_prepareText_42 post xc1 xc2 xc3 xc4 xc5 xc6 (nI xli) (nI xle) (nI xsz) (nI xcu) (nI xfn) (nI xst) xlv xhr xlo (nI xrt) xrT xrd xod xtd (f + 1) (nI O.length) (nI P.length) (nI k) (zn_A na) (zn_A nb) (zn_A sy) (zn_A ow) (zn_A bl) (zn_A sp) (zn_A fT) (zn_A lT) (zn_A sh) (zn_A sc) (zn_A sn) (zn_A sv) (zn_A dh) (zn_A dc) (zn_A dn) (zn_A dv) rR (zn_A pa) (zn_A de) (zn_A oc) (zn_A wa) te (zn_A me) (zn_A qu) (zn_A wo) (zn_A co) := by
  intro f
  induction f with
  | zero =>
    intro k O P te me qu hk hO hkl hm hq hw eT
    have hOl := zl_ph 32 O hO.1 hO.2.1
    have e0 : P = T := by rw [← eT]; show P = P ++ []; rw [List.append_nil]
    subst e0
    rw [wX_prepareText_42]
    exact br_t (nI_le (by omega) (by omega)) (K te me qu hw)
  | succ f ih =>
    intro k O P te me qu hk hO hkl hm hq hw eT
    have hOl := zl_ph 32 O hO.1 hO.2.1
    rw [wX_prepareText_42]
    refine pk_le O.length k (fun c => ?_) (fun c => ?_)
    · have e2 : zt_go G (f + 1) k O = [] := by rw [zt_go, if_neg (by omega)]
      rw [e2, List.append_nil] at eT
      subst eT
      exact K te me qu hw
    · obtain ⟨g1, g2⟩ := zt_gd hO c
      generalize er : O.getD k 0 = r at g1 g2
      have e2 : zt_go G (f + 1) k O = (zt_row O (G r)).2 ++ (-2 : Int32) :: zt_go G f (k + 1) (zt_row O (G r)).1 := by rw [zt_go, if_pos c, er]
      rw [e2] at eT
      obtain ⟨p1, ⟨E, p2⟩, p3, p4, p5⟩ := zt_ro (G r) O hO (zt_gid hC.1 g1)
      have eG : (B r).map sy = G r := (hC.2.2.2 r g1).symm
      have hBl : (B r).length = (G r).length := by rw [← eG, List.length_map]
      have hTl : P.length + ((G r).length + 1) ≤ T.length := by
        rw [← eT, List.length_append, List.length_append, List.length_cons, p5]; omega
      have hqk : qu k = r := by rw [hq k c, er]
      refine br_f ?_ ⟨vp_in_nI (by omega) (by decide), nm_r (e' := nI r) (by rw [zn_rd (by omega), hqk]) ⟨vp_in_nI (by omega) (by decide), nm_r (e' := nI ((B r).headD r)) (by rw [zn_rd (by omega), (zx_lkh _ _ _ (hC.2.1.1 r g1).1).1]) ⟨(B r).length + 1, ?_⟩⟩⟩
      · rw [show (31 : Int32) = nI 31 from rfl, nI_ltI (by omega) (by omega)]; omega
      refine zt_in hC g1 (by omega) (B r) [] O P te me qu rfl hO hm hq hw (by omega) ?_
      intro te' me' qu' j1 j2 j3
      rw [eG] at j1 j2 j3 ⊢
      have e3 : P.length + ((B r).length + 1) = (P ++ (zt_row O (G r)).2 ++ [(-2 : Int32)]).length := by
        rw [List.length_append, List.length_append, p5, hBl]
        have : [(-2 : Int32)].length = 1 := rfl
        omega
      rw [e3]
      refine ih (k + 1) _ _ te' me' qu' (by omega) p1 (by rw [p2, List.length_append]; omega) j1 j2 j3 ?_
      rw [← eT]; simp
theorem zt_10 {post : SX → Prop} {G W B : Nat → List Nat} {F : List Nat} (hC : zr_C G W B sy na nb ow bl xfn xst F) (K : ∀ (te' : Nat → Int32) (me' qu' : Nat → Nat), zr_TX G te' → post (xc1, xc2, xc3, xc4, xc5, xc6, nI xli, nI xle, nI xsz, nI xcu, nI xfn, nI xst, xlv, xhr, xlo, nI xrt, xrT, xrd, xod, 1, zn_A na, zn_A nb, zn_A sy, zn_A ow, zn_A bl, zn_A sp, zn_A fT, zn_A lT, zn_A sh, zn_A sc, zn_A sn, zn_A sv, zn_A dh, zn_A dc, zn_A dn, zn_A dv, rR, zn_A pa, zn_A de, zn_A oc, zn_A wa, te', zn_A me', zn_A qu', zn_A wo, zn_A co)) :
    ∀ (m i : Nat) (me : Nat → Nat), i + m = 32 → (∀ r, r < i → me r = 0) → wX_prepareText_10 post xc1 xc2 xc3 xc4 xc5 xc6 (nI xli) (nI xle) (nI xsz) (nI xcu) (nI xfn) (nI xst) xlv xhr xlo (nI xrt) xrT xrd xod xtd (m + 1) (nI i) (zn_A na) (zn_A nb) (zn_A sy) (zn_A ow) (zn_A bl) (zn_A sp) (zn_A fT) (zn_A lT) (zn_A sh) (zn_A sc) (zn_A sn) (zn_A sv) (zn_A dh) (zn_A dc) (zn_A dn) (zn_A dv) rR (zn_A pa) (zn_A de) (zn_A oc) (zn_A wa) te (zn_A me) (zn_A qu) (zn_A wo) (zn_A co) := by
  have hl := zt_len hC.1
  have hRs := zg_Rs G
  have h64 := hC.1.2.2.2.1
  have hs6 := hC.1.1.2.2.2.2.2
  intro m
  induction m with
  | zero =>
    intro i me hi h1
    have : i = 32 := by omega
    subst this
    rw [wX_prepareText_10]
    refine br_t (show (31 : Int32) < nI 32 by decide) (nm_r (zn_upk (v := 0)) ⟨33, ?_⟩)
    refine zt_out (T := zt_go G 32 0 [0]) hC ?_ K 32 0 [0] [] te me _ (by omega) zt_ok0 (Nat.zero_le _) ?_ ?_ (by intro i c hi; simp at hi) rfl
    · rw [hl]
      have : zg_R G ≤ 32 := by
        unfold zg_R
        refine zg_rkb ?_ 32
        intro i
        by_cases c : i = 0
        · rw [if_pos c]; omega
        · rw [if_neg c]
          cases G i with
          | nil => exact Nat.zero_le _
          | cons x t => exact Nat.le_refl _
      omega
    · intro q q0 q32
      rw [h1 q q32, if_neg (by simp; omega)]
    · intro i hi
      have : i = 0 := by simpa using hi
      rw [this, zn_us]; rfl
  | succ m ih =>
    intro i me hi h1
    rw [wX_prepareText_10]
    refine br_f ?_ ⟨vp_in_nI (by omega) (by decide), nm_r (zn_up (v := 0) (by omega)) (nm_r (nI_1 i) (ih (i + 1) _ (by omega) ?_))⟩
    · rw [show (31 : Int32) = nI 31 from rfl, nI_ltI (by omega) (by omega)]; omega
    · intro r hr
      by_cases c : r = i
      · rw [c, zn_us]
      · rw [zn_un c]; exact h1 r (by omega)
theorem zt_prep {post : SX → Prop} {G W B : Nat → List Nat} {F : List Nat} (hC : zr_C G W B sy na nb ow bl xfn xst F) (htd : xtd = 0 ∨ (xtd = 1 ∧ zr_TX G te)) (K : ∀ (te' : Nat → Int32) (me' qu' : Nat → Nat), zr_TX G te' → post (xc1, xc2, xc3, xc4, xc5, xc6, nI xli, nI xle, nI xsz, nI xcu, nI xfn, nI xst, xlv, xhr, xlo, nI xrt, xrT, xrd, xod, 1, zn_A na, zn_A nb, zn_A sy, zn_A ow, zn_A bl, zn_A sp, zn_A fT, zn_A lT, zn_A sh, zn_A sc, zn_A sn, zn_A sv, zn_A dh, zn_A dc, zn_A dn, zn_A dv, rR, zn_A pa, zn_A de, zn_A oc, zn_A wa, te', zn_A me', zn_A qu', zn_A wo, zn_A co)) : wpX_prepareText post (xc1, xc2, xc3, xc4, xc5, xc6, nI xli, nI xle, nI xsz, nI xcu, nI xfn, nI xst, xlv, xhr, xlo, nI xrt, xrT, xrd, xod, xtd, zn_A na, zn_A nb, zn_A sy, zn_A ow, zn_A bl, zn_A sp, zn_A fT, zn_A lT, zn_A sh, zn_A sc, zn_A sn, zn_A sv, zn_A dh, zn_A dc, zn_A dn, zn_A dv, rR, zn_A pa, zn_A de, zn_A oc, zn_A wa, te, zn_A me, zn_A qu, zn_A wo, zn_A co) := by
  unfold wpX_prepareText
  rcases htd with z | ⟨z, w⟩
  · exact br_t z ⟨33, zt_10 hC K 32 0 me (by omega) (by intro r hr; omega)⟩
  · have := K te me qu w
    rw [← z] at this
    exact br_f (by rw [z]; decide) this
end
end
section
/-! ===== Y: textCell ===== -/
section
variable {yca yal yln ycu : Nat} {ysq ybo ysi yor : Nat → Nat}
theorem zt_100 {post : Int32 → SY → Prop} {J28 J53 : Int32 → Int32 → Int32 → (Nat → Int32) → (Nat → Int32) → (Nat → Int32) → (Nat → Int32) → Prop} {x1 x3 x4 x5 x6 : Int32} {O : List Nat} {q : Nat} (hO : zt_ok O) (ho : zt_or yor O) (hq : 0 < q ∧ q < 32)
    (K : ∀ or' : Nat → Nat, zt_or or' (zt_o O q) → wY_textCell_155 post J28 J53 x1 (nI (zt_o O q).length) x3 x4 x5 x6 (nI (64 + (zt_o O q).idxOf q)) (nI yca) (nI yal) (nI yln) (nI ycu) (zn_A ysq) (zn_A ybo) (zn_A ysi) (zn_A or')) :
    ∀ (n m : Nat) (x9 : Int32), m + n = O.length → 1 ≤ m → ((x9 = -1 ∧ ∀ i, 1 ≤ i → i < m → O.getD i 0 ≠ q) ∨ (∃ i, 1 ≤ i ∧ i < m ∧ O[i]? = some q ∧ x9 = nI i)) →
      wY_textCell_100 post J28 J53 x1 (nI O.length) x3 x4 x5 x6 (nI q) (nI yca) (nI yal) (nI yln) (nI ycu) (zn_A ysq) (zn_A ybo) (zn_A ysi) (zn_A yor) (n + 1) x9 (nI m) := by
  have hOl := zl_ph 32 O hO.1 hO.2.1
  intro n
  induction n with
  | zero =>
    intro m x9 hm h1 hx
    rw [wY_textCell_100]
    refine br_t (nI_le (by omega) (by omega)) ?_
    rcases hx with ⟨e, hno⟩ | ⟨i, i1, i2, i3, e⟩
    · have hn : q ∉ O := by
        intro z
        obtain ⟨i, hi⟩ := List.mem_iff_getElem?.mp z
        have hil := (List.getElem?_eq_some_iff.mp hi).1
        by_cases c : i = 0
        · obtain ⟨O', e0⟩ := hO.2.2
          rw [c, e0] at hi
          have : 0 = q := by simpa using hi
          omega
        · apply hno i (by omega) (by omega)
          rw [List.getD_eq_getElem?_getD, hi]; rfl
      have eo : zt_o O q = O ++ [q] := by unfold zt_o; rw [if_neg hn]
      have hix : (O ++ [q]).idxOf q = O.length := by
        rw [List.idxOf_append, if_neg hn]; simp
      rw [eo, hix] at K
      have hOl' : O.length ≤ 31 := by
        have h2 := zl_ph 32 (q :: O) (List.nodup_cons.mpr ⟨hn, hO.1⟩) (fun y hy => by
          rcases List.mem_cons.mp hy with z | z
          · rw [z]; exact hq.2
          · exact hO.2.1 y z)
        rw [List.length_cons] at h2
        omega
      refine br_t e ⟨vp_in_nI (by omega) (by decide), nm_r (zn_up (by omega)) (nm_r (e' := nI (O ++ [q]).length) (by rw [nI_1]; simp) ?_)⟩
      unfold wY_textCell_148
      exact nm_r zy_64 (K _ (zt_ora ho))
    · have hm : q ∈ O := List.mem_of_getElem? i3
      have hil := (List.getElem?_eq_some_iff.mp i3).1
      have eo : zt_o O q = O := by unfold zt_o; rw [if_pos hm]
      have hix : O.idxOf q = i := by
        have hlt := List.idxOf_lt_length_iff.mpr hm
        have : O[O.idxOf q]? = some q := by rw [List.getElem?_eq_getElem hlt, List.getElem_idxOf]
        exact zl_nd hO.1 this i3
      rw [eo, hix] at K
      refine br_f (by rw [e]; exact zy_m1 (by omega)) ?_
      unfold wY_textCell_148
      rw [e]
      exact nm_r zy_64 (K yor ho)
  | succ n ih =>
    intro m x9 hm h1 hx
    obtain ⟨g1, g2⟩ := zt_gd hO (show m < O.length by omega)
    rw [wY_textCell_100]
    refine br_f (nI_ge (by omega) (by omega)) ⟨vp_in_nI (by omega) (by decide), ?_⟩
    rw [zn_rd (by omega), ho m (by omega)]
    refine pk_eq (O.getD m 0) q (fun c => nm_r (nI_1 m) (ih (m + 1) _ (by omega) (by omega) (Or.inr ⟨m, h1, by omega, by rw [g2, c], rfl⟩))) (fun c => nm_r (nI_1 m) (ih (m + 1) x9 (by omega) (by omega) ?_))
    rcases hx with ⟨e, hno⟩ | ⟨i, i1, i2, i3, e⟩
    · left
      refine ⟨e, ?_⟩
      intro i a b
      by_cases d : i = m
      · rw [d]; exact c
      · exact hno i a (by omega)
    · exact Or.inr ⟨i, i1, by omega, i3, e⟩
theorem zt_Yin {post : Int32 → SY → Prop} {J : Int32 → Int32 → Int32 → (Nat → Int32) → (Nat → Int32) → (Nat → Int32) → (Nat → Int32) → Prop} {G W : Nat → List Nat} {r h i : Nat} {T : List Int32} {c : Int32} (hG : zr_G G W) (hR : zy_R G ybo ysi) (hr : r < 32) (hi : T[i]? = some c) (hT : T.length ≤ 128)
    (K : ∀ or' : Nat → Nat, post c (nI yca, nI yal, nI yln, nI ycu, zn_A ysq, zn_A ybo, zn_A ysi, zn_A or')) :
    ∀ (t d O : List Nat) (P R : List Int32) (yor : Nat → Nat), G r = d ++ t → zt_ok O → zt_or yor O → P ++ (zt_row O t).2 ++ (-2 : Int32) :: R = T → P.length ≤ i →
    (∀ or' : Nat → Nat, zt_or or' (zt_row O t).1 → P.length + (t.length + 1) ≤ i → J (nI (zt_row O t).1.length) (nI (P.length + (t.length + 1))) (nI (h + 1)) (zn_A ysq) (zn_A ybo) (zn_A ysi) (zn_A or')) →
    wY_textCell_53 post J (nI i) (nI h) (nI r) (nI yca) (nI yal) (nI yln) (nI ycu) (t.length + 1) (nI O.length) (nI P.length) (nI d.length) (zn_A ysq) (zn_A ybo) (zn_A ysi) (zn_A yor) := by
  obtain ⟨g1, g2, g3, g4⟩ := hR r hr
  have hi128 : i < 128 := by have := (List.getElem?_eq_some_iff.mp hi).1; omega
  intro t
  induction t with
  | nil =>
    intro d O P R yor e hO ho eT hPi KJ
    rw [List.append_nil] at e
    have eT' : P ++ (-2 : Int32) :: R = T := by rw [← eT]; show _ = P ++ [] ++ _; rw [List.append_nil]
    rw [wY_textCell_53]
    refine ⟨vp_in_nI (by omega) (by decide), ?_⟩
    rw [zn_rd (by omega), g1, e]
    refine br_t (nI_le (Nat.le_refl _) (by rw [← e]; omega)) ?_
    refine pk_eq P.length i (fun z => ?_) (fun z => nm_r (nI_1 _) (nm_r (nI_1 _) ?_))
    · have : c = -2 := by
        rw [← eT', ← z, List.getElem?_append_right (Nat.le_refl _)] at hi
        have : (-2 : Int32) = c := by simpa using hi
        exact this.symm
      rw [← this]; exact K yor
    · exact KJ yor ho (by show P.length + (0 + 1) ≤ i; omega)
  | cons x t ih =>
    intro d O P R yor e hO ho eT hPi KJ
    have hl : (G r).length = d.length + (t.length + 1) := by rw [e, List.length_append, List.length_cons]
    have hx : x ∈ G r := by rw [e]; simp
    have x48 := g3 x hx
    have xb := zy_cdb x48
    have hb : ybo (r * 64 + d.length) = zy_cd x := by rw [e] at g4; exact zy_rm g4
    -- one cell is passed
    have cell : ∀ (O1 : List Nat) (c1 : Int32) (or1 : Nat → Nat), zt_ok O1 → zt_or or1 O1 → (zt_row O (x :: t)).1 = (zt_row O1 t).1 → (zt_row O (x :: t)).2 = c1 :: (zt_row O1 t).2 →
        wY_textCell_155 post J (wY_textCell_53 post J (nI i) (nI h) (nI r) (nI yca) (nI yal) (nI yln) (nI ycu) (t.length + 1)) (nI i) (nI O1.length) (nI P.length) (nI h) (nI r) (nI d.length) c1 (nI yca) (nI yal) (nI yln) (nI ycu) (zn_A ysq) (zn_A ybo) (zn_A ysi) (zn_A or1) := by
      intro O1 c1 or1 k1 k2 k3 k4
      rw [k3] at KJ
      rw [k4] at eT
      unfold wY_textCell_155
      refine pk_eq P.length i (fun z => ?_) (fun z => nm_r (e' := nI (P ++ [c1]).length) (by rw [nI_1]; simp) (nm_r (e' := nI (d ++ [x]).length) (by rw [nI_1]; simp) ?_))
      · have : c = c1 := by
          rw [← eT, ← z, List.append_assoc, List.getElem?_append_right (Nat.le_refl _)] at hi
          have : c1 = c := by simpa using hi
          exact this.symm
        rw [← this]; exact K or1
      · refine ih (d ++ [x]) O1 (P ++ [c1]) R or1 (by rw [e]; simp) k1 k2 (by rw [← eT]; simp) (by rw [List.length_append]; have : [c1].length = 1 := rfl; omega) ?_
        intro or' j1 j2
        have e2 : (P ++ [c1]).length + (t.length + 1) = P.length + ((x :: t).length + 1) := by simp only [List.length_append, List.length_cons, List.length_nil]; omega
        rw [e2] at j2 ⊢
        exact KJ or' j1 j2
    show wY_textCell_53 post J (nI i) (nI h) (nI r) (nI yca) (nI yal) (nI yln) (nI ycu) ((t.length + 1) + 1) (nI O.length) (nI P.length) (nI d.length) (zn_A ysq) (zn_A ybo) (zn_A ysi) (zn_A yor)
    rw [wY_textCell_53]
    refine ⟨vp_in_nI (by omega) (by decide), ?_⟩
    rw [zn_rd (by omega), g1, zy_ix]
    refine br_f (nI_ge (by omega) (by omega)) ⟨vp_in_nI (by omega) (by decide), nm_r (e' := nI (zy_cd x)) (by rw [zn_rd (by omega), hb]) ?_⟩
    by_cases c16 : x < 16
    · have ec : zy_cd x = x := by unfold zy_cd; rw [if_pos c16]
      rw [ec]
      refine br_t (nI_lt (b := 64) (by omega) (by omega)) ?_
      exact cell O (nI x) yor hO ho (by rw [zt_rc c16]) (by rw [zt_rc c16])
    · obtain ⟨v, ev⟩ : ∃ v, x = 16 + v := ⟨x - 16, by omega⟩
      have hlv := zr_lv hG hr (ev ▸ hx)
      have hrow : zt_row O (x :: t) = ((zt_row (zt_o O v) t).1, nI (64 + (zt_o O v).idxOf v) :: (zt_row (zt_o O v) t).2) := by
        rw [zt_rr c16, show x - 16 = v by omega]
      have hpos : 0 < O.length := by
        obtain ⟨O', e0⟩ := hO.2.2
        rw [e0]; simp
      rw [ev, zy_cdr]
      refine br_f (nI_nlt (b := 64) (by omega) (by omega)) (nm_r (e' := nI v) (by rw [show (64 : Int32) = nI 64 from rfl, pk_sub (by omega)]; exact congrArg nI (by omega)) ⟨O.length - 1 + 1, ?_⟩)
      refine zt_100 hO ho ⟨hlv.1, hlv.2.1⟩ ?_ (O.length - 1) 1 (-1) (by omega) (Nat.le_refl _) (Or.inl ⟨rfl, by intro a b c; omega⟩)
      intro or' ho'
      exact cell (zt_o O v) _ or' (zt_oo hO hlv.2.1).1 ho' (by rw [hrow]) (by rw [hrow])
theorem zt_Yout {post : Int32 → SY → Prop} {G W : Nat → List Nat} {i : Nat} {T : List Int32} {c : Int32} (hG : zr_G G W) (hR : zy_R G ybo ysi) (hi : T[i]? = some c) (hT : T.length ≤ 128) (K : ∀ or' : Nat → Nat, post c (nI yca, nI yal, nI yln, nI ycu, zn_A ysq, zn_A ybo, zn_A ysi, zn_A or')) :
    ∀ (f k : Nat) (O : List Nat) (P : List Int32) (yor : Nat → Nat), k + f = 32 → zt_ok O → k ≤ O.length → zt_or yor O → P ++ zt_go G f k O = T → P.length ≤ i →
      wY_textCell_28 post (nI i) (nI yca) (nI yal) (nI yln) (nI ycu) (f + 1) (nI O.length) (nI P.length) (nI k) (zn_A ysq) (zn_A ybo) (zn_A ysi) (zn_A yor) := by
  have hil := (List.getElem?_eq_some_iff.mp hi).1
  intro f
  induction f with
  | zero =>
    intro k O P yor hk hO hkl ho eT hP
    exfalso
    have e0 : P = T := by rw [← eT]; show P = P ++ []; rw [List.append_nil]
    rw [e0] at hP
    omega
  | succ f ih =>
    intro k O P yor hk hO hkl ho eT hP
    have hOl := zl_ph 32 O hO.1 hO.2.1
    have c : k < O.length := by
      apply Classical.byContradiction
      intro z
      have e2 : zt_go G (f + 1) k O = [] := by rw [zt_go, if_neg z]
      rw [e2, List.append_nil] at eT
      rw [eT] at hP
      omega
    obtain ⟨g1, g2⟩ := zt_gd hO c
    generalize er : O.getD k 0 = r at g1 g2
    have e2 : zt_go G (f + 1) k O = (zt_row O (G r)).2 ++ (-2 : Int32) :: zt_go G f (k + 1) (zt_row O (G r)).1 := by rw [zt_go, if_pos c, er]
    rw [e2] at eT
    obtain ⟨p1, ⟨E, p2⟩, p3, p4, p5⟩ := zt_ro (G r) O hO (zt_gid hG g1)
    have hok : yor k = r := by rw [ho k c, er]
    rw [wY_textCell_28]
    refine br_f ?_ (br_f (nI_ge (by omega) (by omega)) ⟨vp_in_nI (by omega) (by decide), nm_r (e' := nI r) (by rw [zn_rd (by omega), hok]) ⟨(G r).length + 1, ?_⟩⟩)
    · rw [show (31 : Int32) = nI 31 from rfl, nI_ltI (by omega) (by omega)]; omega
    refine zt_Yin hG hR g1 hi hT K (G r) [] O P _ yor rfl hO ho (by rw [← eT]; simp; rfl) hP ?_
    intro or' j1 j2
    have e3 : P.length + ((G r).length + 1) = (P ++ (zt_row O (G r)).2 ++ [(-2 : Int32)]).length := by
      rw [List.length_append, List.length_append, p5]
      have : [(-2 : Int32)].length = 1 := rfl
      omega
    rw [e3] at j2 ⊢
    exact ih (k + 1) _ _ or' (by omega) p1 (by rw [p2, List.length_append]; omega) j1 (by rw [← eT]; simp) j2
end
theorem i_vc_textCell {k : Nat} {u : SX} {v : SY} (I : i_Rel k u v) (hk : k + 3 ≤ 1538) (v1 : Int32) : wpX_textCell (fun r u' => wpY_textCell (fun r' v' => r' = r ∧ i_Rel (k + 3) u' v') v v1) u v1 := by
  refine zr_el (P := fun u v => wpX_textCell (fun r u' => wpY_textCell (fun r' v' => r' = r ∧ i_Rel (k + 3) u' v') v v1) u v1) ?_ I
  intro G W B F xc1 xc2 xc3 xc4 xc5 xc6 xrd xod xtd xli xle xsz xcu xfn xst xrt xlv xhr xlo xrT na nb sy ow bl sp fT lT sh sc sn sv dh dc dn dv pa de oc wa me qu wo co rR te ysq ybo ysi yor hR
  obtain ⟨r1, r2, r3, r4, r5, r6, r7, r8, r9, r10, r11, r12, r13, r14⟩ := id hR
  have hC : zr_C G W B sy na nb ow bl xfn xst F := ⟨r1, r2.1.1, r2.1.2.1, r2.2.1⟩
  have hl := zt_len r1
  have h1 := r2.2.2.2.2
  have h3 := zx_st r2.1.1 r2.2.1
  have hs6 := r1.1.2.2.2.2.2
  have h64 := r1.2.2.2.1
  have hR32 : zg_R G ≤ 32 := by
    unfold zg_R
    refine zg_rkb ?_ 32
    intro i
    by_cases c : i = 0
    · rw [if_pos c]; omega
    · rw [if_neg c]
      cases G i with
      | nil => exact Nat.zero_le _
      | cons x t => exact Nat.le_refl _
  have eX : nI xst + nI xrt + 1 = nI (zg_s G + zg_R G + 1) := by rw [nI_add, nI_1, h1, h3]
  unfold wpX_textCell wpY_textCell
  by_cases c1 : v1 < 0
  · exact br_t c1 (br_t c1 ⟨rfl, zr_in (h := hR)⟩)
  refine br_f c1 ?_
  obtain ⟨i, hi, e⟩ := nI_of c1
  subst e
  rw [eX]
  refine pk_lt i (zg_s G + zg_R G + 1) (fun c2 => ?_) (fun c2 => br_f c1 (zy_tl r6 (br_f ?_ ⟨rfl, zr_in (h := hR)⟩)))
  · obtain ⟨c, hc⟩ : ∃ c, (zt_go G 32 0 [0])[i]? = some c := ⟨(zt_go G 32 0 [0])[i]'(by omega), List.getElem?_eq_getElem _⟩
    refine zt_prep hC r14 ?_
    intro te' me' qu' htx
    refine ⟨vp_in_nI (by omega) (by decide), ?_⟩
    rw [nI_clamp (by omega), htx i c hc]
    refine br_f c1 (zy_tl r6 (br_t (nI_lt (by omega) (by omega)) (nm_r (zn_upk (v := 0)) ⟨33, ?_⟩)))
    refine zt_Yout (G := G) r1 r6 hc (by omega) ?_ 32 0 [0] [] _ (by omega) zt_ok0 (Nat.zero_le _) ?_ rfl (Nat.zero_le _)
    · intro or'
      exact ⟨rfl, zr_in (h := ⟨r1, r2, r3, r4, r5, r6, r7, r8, r9, r10, r11, r12, r13, Or.inr ⟨rfl, htx⟩⟩)⟩
    · intro j hj
      have : j = 0 := by simpa using hj
      rw [this, zn_us]; rfl
  · exact nI_nlt (by omega) hi
end
