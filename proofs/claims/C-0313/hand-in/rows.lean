section
/-! pure rows to paste: stores, nI and lN arithmetic, masks, shifts, narrowing, branches by naturals (pk_le, pk_lt, pk_eq), loops (lp1 .. lp16: the measure of the state; rp1 ..: recursion), negatives. Take what you need -/
theorem pk_us {f : Nat → Int32} {k : Nat} {x : Int32} : upd f k x k = x := if_pos rfl
theorem pk_un {f : Nat → Int32} {k j : Nat} {x : Int32} (h : j ≠ k) : upd f k x j = f j := if_neg h
theorem pk_uLs {f : Nat → Int64} {k : Nat} {x : Int64} : vp_updL f k x k = x := if_pos rfl
theorem pk_uLn {f : Nat → Int64} {k j : Nat} {x : Int64} (h : j ≠ k) : vp_updL f k x j = f j := if_neg h
theorem pk_sub {a b : Nat} (h : b ≤ a) : nI a - nI b = nI (a - b) := by
  obtain ⟨c, rfl⟩ : ∃ c, a = c + b := ⟨a - b, by omega⟩
  rw [← nI_add, Int32.add_sub_cancel, Nat.add_sub_cancel]
theorem pk_m1 (n : Nat) : nI (n + 1) + (-1) = nI n := by
  rw [← nI_1, Int32.add_assoc, show (1 : Int32) + (-1) = 0 from rfl, Int32.add_zero]
theorem pk_mul (a b : Nat) : nI a * nI b = nI (a * b) := (Int32.ofNat_mul a b).symm
theorem pk_div {a d : Nat} (ha : a < 2 ^ 31) (h0 : 0 < d) (hd : d < 2 ^ 31) : nI a / nI d = nI (a / d) := by
  apply Int32.toInt_inj.mp
  rw [lg_idiv_nonneg (by rw [nI_toInt ha]; omega) (by rw [nI_toInt hd]; omega), nI_toInt ha, nI_toInt hd, nI_toInt (Nat.lt_of_le_of_lt (Nat.div_le_self a d) ha)]
  first | rfl | exact (Int.natCast_ediv _ _).symm
theorem pk_rem {a d : Nat} (ha : a < 2 ^ 31) (h0 : 0 < d) (hd : d < 2 ^ 31) : nI a - nI a / nI d * nI d = nI (a % d) := by
  rw [pk_div ha h0 hd, pk_mul, pk_sub (Nat.div_mul_le_self a d)]
  exact congrArg nI (by have := Nat.div_add_mod' a d; omega)
theorem pk_sub_toInt {a b : Nat} (ha : a < 2 ^ 30) (hb : b < 2 ^ 30) : (nI a - nI b).toInt = (a : Int) - b := by
  rw [Int32.toInt_sub, nI_toInt (by omega), nI_toInt (by omega)]
  exact Int.bmod_eq_of_le (by omega) (by omega)
theorem pk_sneg {a b : Nat} (hb : b < 2 ^ 30) (h : a < b) : nI a - nI b < 0 := by
  rw [Int32.lt_iff_toInt_lt, pk_sub_toInt (by omega) hb, show (0 : Int32).toInt = 0 from by decide]
  omega
theorem pk_ix (x : Int32) {n : Nat} (hn : n < 2 ^ 31) : x < 0 ∨ nI n ≤ x ∨ ∃ j : Nat, j < n ∧ x = nI j := by
  by_cases h : x < 0
  · exact Or.inl h
  · obtain ⟨j, hj, rfl⟩ := nI_of h
    by_cases h2 : j < n
    · exact Or.inr (Or.inr ⟨j, h2, rfl⟩)
    · exact Or.inr (Or.inl (nI_le (by omega) hj))
theorem pk_le {x y : Int32} {A B : Prop} (a b : Nat) (f : a ≤ b → A) (g : b < a → B) (hx : x = nI a := by rfl) (hy : y = nI b := by rfl) (ha : a < 2 ^ 31 := by omega) (hb : b < 2 ^ 31 := by omega) : (x ≤ y → A) ∧ (¬ x ≤ y → B) := by
  subst hx hy
  rw [nI_leI ha hb]
  exact ⟨f, fun z => g (by omega)⟩
theorem pk_lt {x y : Int32} {A B : Prop} (a b : Nat) (f : a < b → A) (g : b ≤ a → B) (hx : x = nI a := by rfl) (hy : y = nI b := by rfl) (ha : a < 2 ^ 31 := by omega) (hb : b < 2 ^ 31 := by omega) : (x < y → A) ∧ (¬ x < y → B) := by
  subst hx hy
  rw [nI_ltI ha hb]
  exact ⟨f, fun z => g (by omega)⟩
theorem pk_eq {x y : Int32} {A B : Prop} (a b : Nat) (f : a = b → A) (g : a ≠ b → B) (hx : x = nI a := by rfl) (hy : y = nI b := by rfl) (ha : a < 2 ^ 31 := by omega) (hb : b < 2 ^ 31 := by omega) : (x = y → A) ∧ (¬ x = y → B) := by
  subst hx hy
  rw [nI_eq ha hb]
  exact ⟨f, g⟩
theorem pk_in {x : Int32} (n N : Nat) (h : n < N) (hx : x = nI n := by rfl) (hN : N < 2 ^ 31 := by omega) : vp_in x N := by
  subst hx
  exact vp_in_nI h hN
theorem pk_cl {x : Int32} (n : Nat) (hx : x = nI n := by rfl) (h : n < 2 ^ 31 := by omega) : x.toNatClampNeg = n := by
  subst hx
  exact nI_clamp h
theorem pk_tn {n : Nat} (h : n < 2 ^ 32) : (nI n).toBitVec.toNat = n := Nat.mod_eq_of_lt h
theorem pk_and (x : Int32) {m : Int32} (k : Nat) (hm : m.toBitVec.toNat = 2 ^ k - 1) : x &&& m = nI (x.toBitVec.toNat % 2 ^ k) := by
  apply Int32.toBitVec_inj.mp
  apply BitVec.eq_of_toNat_eq
  rw [Int32.toBitVec_and, BitVec.toNat_and, hm, Nat.and_two_pow_sub_one_eq_mod]
  show _ = (BitVec.ofNat 32 _).toNat
  rw [BitVec.toNat_ofNat]
  exact (Nat.mod_eq_of_lt (Nat.lt_of_le_of_lt (Nat.mod_le _ _) x.toBitVec.isLt)).symm
theorem pk_andN {n : Nat} (h : n < 2 ^ 32) {m : Int32} (k : Nat) (hm : m.toBitVec.toNat = 2 ^ k - 1) : nI n &&& m = nI (n % 2 ^ k) := by
  rw [pk_and _ k hm, pk_tn h]
theorem pk_andE (x : Int32) {m : Int32} (k : Nat) (hm : m.toBitVec.toNat = 2 ^ k - 1) : ∃ j : Nat, j < 2 ^ k ∧ x &&& m = nI j := ⟨_, Nat.mod_lt _ (Nat.two_pow_pos k), pk_and x k hm⟩
theorem pk_andIn (x : Int32) {m : Int32} (k : Nat) (hm : m.toBitVec.toNat = 2 ^ k - 1) (hk : k ≤ 30) : vp_in (x &&& m) (2 ^ k) := by
  obtain ⟨j, hj, e⟩ := pk_andE x k hm
  rw [e]
  exact vp_in_nI hj (Nat.lt_of_le_of_lt (Nat.pow_le_pow_right (by decide) hk) (by decide))
theorem pk_shl (a s : Int32) (k : Nat) (hs : (s.toBitVec.smod 32).toNat = k) : (a <<< s).toBitVec.toNat = a.toBitVec.toNat * 2 ^ k % 2 ^ 32 := by
  show (a.toBitVec <<< (s.toBitVec.smod 32).toNat).toNat = _
  rw [hs, BitVec.toNat_shiftLeft, Nat.shiftLeft_eq]
theorem pk_shlN {n : Nat} (s : Int32) (k : Nat) (hs : (s.toBitVec.smod 32).toNat = k) (h : n * 2 ^ k < 2 ^ 32) : nI n <<< s = nI (n * 2 ^ k) := by
  apply Int32.toBitVec_inj.mp
  apply BitVec.eq_of_toNat_eq
  have hn : n < 2 ^ 32 := Nat.lt_of_le_of_lt (Nat.le_mul_of_pos_right n (Nat.two_pow_pos k)) h
  rw [pk_shl _ _ k hs, pk_tn hn, pk_tn h, Nat.mod_eq_of_lt h]
theorem pk_shr (a s : Int32) (k : Nat) (hs : (s.toBitVec.smod 32).toNat = k) : (a >>> s).toInt = a.toInt >>> k := by
  show (a.toBitVec.sshiftRight (s.toBitVec.smod 32).toNat).toInt = _
  rw [hs, BitVec.toInt_sshiftRight]
  rfl
theorem pk_shrN {n : Nat} (h : n < 2 ^ 31) (s : Int32) (k : Nat) (hs : (s.toBitVec.smod 32).toNat = k) : nI n >>> s = nI (n / 2 ^ k) := by
  apply Int32.toInt_inj.mp
  have h2 : n / 2 ^ k ≤ n := Nat.div_le_self _ _
  rw [pk_shr _ _ k hs, nI_toInt h, nI_toInt (by omega), Int.shiftRight_eq_div_pow]
  rfl
theorem pk_ushr (x s : Int32) (k : Nat) (hs : ((s.toUInt32 &&& Int32.toUInt32 31).toBitVec % 32).toNat = k) : (x.toUInt32 >>> (s.toUInt32 &&& Int32.toUInt32 31)).toInt32.toBitVec.toNat = x.toBitVec.toNat / 2 ^ k := by
  have e : (x.toUInt32 >>> (s.toUInt32 &&& Int32.toUInt32 31)).toInt32.toBitVec = x.toBitVec >>> k := by
    rw [← hs]
    exact UInt32.toBitVec_shiftRight _ _
  rw [e, BitVec.toNat_ushiftRight, Nat.shiftRight_eq_div_pow]
theorem pk_ushrN {n : Nat} (hn : n < 2 ^ 32) (s : Int32) (k : Nat) (hs : ((s.toUInt32 &&& Int32.toUInt32 31).toBitVec % 32).toNat = k) : ((nI n).toUInt32 >>> (s.toUInt32 &&& Int32.toUInt32 31)).toInt32 = nI (n / 2 ^ k) := by
  apply Int32.toBitVec_inj.mp
  apply BitVec.eq_of_toNat_eq
  rw [pk_ushr _ s k hs, pk_tn hn, pk_tn (Nat.lt_of_le_of_lt (Nat.div_le_self _ _) hn)]
theorem pk_nb (z : Int32) : narrow .byte (.int z.toInt8.toInt32) = .int z.toInt8.toInt32 := congrArg Value.int (by simp)
theorem pk_ns (z : Int32) : narrow .short (.int z.toInt16.toInt32) = .int z.toInt16.toInt32 := congrArg Value.int (by simp)
theorem pk_fb (r : Int32) : fits .byte (.int r.toInt8.toInt32) = true := by
  have ⟨a, b⟩ := lg_i2b_range r
  have h1 : (-128 : Int32).toInt = -128 := by decide
  have h2 : (127 : Int32).toInt = 127 := by decide
  simp only [fits, Bool.and_eq_true, decide_eq_true_eq, Int32.le_iff_toInt_le, h1, h2]
  omega
theorem pk_fs (r : Int32) : fits .short (.int r.toInt16.toInt32) = true := by
  have ⟨a, b⟩ := lg_i2s_range r
  have h1 : (-32768 : Int32).toInt = -32768 := by decide
  have h2 : (32767 : Int32).toInt = 32767 := by decide
  simp only [fits, Bool.and_eq_true, decide_eq_true_eq, Int32.le_iff_toInt_le, h1, h2]
  omega
theorem pk_charN {q : Nat} (hq : q < 65536) : narrow .char (.int (nI q)) = .int (nI q) ∧ fits .char (.int (nI q)) = true := by
  constructor
  · have e : (nI q).toUInt32.toUInt16.toUInt32.toInt32 = nI q := by
      apply Int32.toBitVec_inj.mp
      apply BitVec.eq_of_toNat_eq
      show (nI q).toUInt32.toUInt16.toUInt32.toNat = q % 2 ^ 32
      rw [UInt16.toNat_toUInt32, UInt32.toNat_toUInt16, show (nI q).toUInt32.toNat = q % 2 ^ 32 from rfl]
      omega
    exact congrArg Value.int e
  · have a : (0 : Int32) ≤ nI q := nI_pos' (by omega)
    have b : nI q ≤ 65535 := nI_le (b := 65535) (by omega) (by decide)
    show (decide ((0 : Int32) ≤ nI q) && decide (nI q ≤ 65535)) = true
    rw [decide_eq_true a, decide_eq_true b]
    rfl
theorem pk_char (x : Int32) : (x.toUInt32 % 65536).toInt32 = nI (x.toBitVec.toNat % 65536) := by
  apply Int32.toBitVec_inj.mp
  apply BitVec.eq_of_toNat_eq
  rw [pk_tn (by omega)]
  show (x.toUInt32 % 65536).toNat = _
  rw [UInt32.toNat_mod]
  rfl
theorem pk_nc (x : Int32) : narrow .char (.int (x.toUInt32 % 65536).toInt32) = .int (x.toUInt32 % 65536).toInt32 := by
  rw [pk_char]
  exact (pk_charN (Nat.mod_lt _ (by decide))).1
theorem pk_fc (x : Int32) : fits .char (.int (x.toUInt32 % 65536).toInt32) = true := by
  rw [pk_char]
  exact (pk_charN (Nat.mod_lt _ (by decide))).2
theorem pk_vb (z : Int32) : vp_nar .byte z.toInt8.toInt32 = z.toInt8.toInt32 := by rw [vp_nar_byte]; simp
theorem pk_vs (z : Int32) : vp_nar .short z.toInt16.toInt32 = z.toInt16.toInt32 := by rw [vp_nar_short]; simp
theorem pk_vc (z : Int32) : vp_nar .char (z.toUInt32 % 65536).toInt32 = (z.toUInt32 % 65536).toInt32 := Value.int.inj (pk_nc z)
theorem pk_lT {n : Nat} (h : n < 2 ^ 63) : (lN n).toInt = (n : Int) := lg_ofNat_toInt h
theorem pk_lLT {a b : Nat} (ha : a < 2 ^ 63) (hb : b < 2 ^ 63) : lN a < lN b ↔ a < b := by
  rw [Int64.lt_iff_toInt_lt, pk_lT ha, pk_lT hb]; omega
theorem pk_lLE {a b : Nat} (ha : a < 2 ^ 63) (hb : b < 2 ^ 63) : lN a ≤ lN b ↔ a ≤ b := by
  rw [Int64.le_iff_toInt_le, pk_lT ha, pk_lT hb]; omega
theorem pk_lEQ {a b : Nat} (ha : a < 2 ^ 63) (hb : b < 2 ^ 63) : lN a = lN b ↔ a = b := by
  rw [← Int64.toInt_inj, pk_lT ha, pk_lT hb]; omega
theorem pk_lOf {x : Int64} (h : ¬ x < 0) : ∃ k : Nat, k < 2 ^ 63 ∧ x = lN k := by
  rw [Int64.lt_iff_toInt_lt] at h
  have h0 : (0 : Int64).toInt = 0 := by decide
  have hx := Int64.toInt_lt x
  refine ⟨x.toInt.toNat, by omega, Int64.toInt_inj.mp ?_⟩
  rw [pk_lT (by omega)]
  omega
theorem pk_lDiv {a b : Nat} (ha : a < 2 ^ 63) (h0 : 0 < b) (hb : b < 2 ^ 63) : lN a / lN b = lN (a / b) := by
  apply Int64.toInt_inj.mp
  rw [lg_ldiv_nonneg (by rw [pk_lT ha]; omega) (by rw [pk_lT hb]; omega), pk_lT ha, pk_lT hb, pk_lT (Nat.lt_of_le_of_lt (Nat.div_le_self a b) ha)]
  rfl
theorem pk_lRem {a b : Nat} (ha : a < 2 ^ 63) (h0 : 0 < b) (hb : b < 2 ^ 63) : lN a - lN a / lN b * lN b = lN (a % b) := by
  rw [pk_lDiv ha h0 hb, lN_mul, lN_sub (Nat.div_mul_le_self a b)]
  exact congrArg lN (by have := Nat.div_add_mod' a b; omega)
theorem pk_loop {σ : Type} (W : Nat → Nat → σ → Prop) (I : Nat → σ → Prop) (e i0 : Nat) (s : σ) (hi : i0 ≤ e) (h0 : I i0 s) (hx : ∀ n s, I e s → W (n + 1) e s)
    (hs : ∀ n i s, i < e → I i s → (∀ s', I (i + 1) s' → W n (i + 1) s') → W (n + 1) i s) : ∃ n, W n i0 s :=
  ⟨e + 1, loop_i W I e hx hs (e + 1) i0 s hi (by omega) h0⟩
theorem pk_loopD {σ : Type} (W : Nat → Nat → σ → Prop) (I : Nat → σ → Prop) (hx : ∀ n s, I 0 s → W (n + 1) 0 s)
    (hs : ∀ n i s, I (i + 1) s → (∀ s', I i s' → W n i s') → W (n + 1) (i + 1) s) : ∀ (e : Nat) (s : σ), I e s → W (e + 1) e s := by
  intro e
  induction e with
  | zero => exact fun s h => hx 0 s h
  | succ e ih => exact fun s h => hs (e + 1) e s h (fun s' h' => ih s' h')
theorem lp1 {A1 : Type} (W : Nat → A1 → Prop) (I : A1 → Prop) (μ : A1 → Nat) (hs : ∀ (n : Nat) (a1 : A1), I a1 → (∀ (b1 : A1), I b1 → μ b1 < μ a1 → W n b1) → W (n + 1) a1) (a1 : A1) (h : I a1) : ∃ n, W n a1 :=
  loop_m (σ := A1) (fun n s => W n s) (fun s => I s) (fun s => μ s) (fun n s hI hk => hs n s hI (fun b1 h9 hm => hk b1 h9 hm)) a1 h
theorem lp2 {A1 A2 : Type} (W : Nat → A1 → A2 → Prop) (I : A1 → A2 → Prop) (μ : A1 → A2 → Nat) (hs : ∀ (n : Nat) (a1 : A1) (a2 : A2), I a1 a2 → (∀ (b1 : A1) (b2 : A2), I b1 b2 → μ b1 b2 < μ a1 a2 → W n b1 b2) → W (n + 1) a1 a2) (a1 : A1) (a2 : A2) (h : I a1 a2) : ∃ n, W n a1 a2 :=
  loop_m (σ := A1 × A2) (fun n s => W n s.1 s.2) (fun s => I s.1 s.2) (fun s => μ s.1 s.2) (fun n s hI hk => hs n s.1 s.2 hI (fun b1 b2 h9 hm => hk (b1, b2) h9 hm)) (a1, a2) h
theorem lp3 {A1 A2 A3 : Type} (W : Nat → A1 → A2 → A3 → Prop) (I : A1 → A2 → A3 → Prop) (μ : A1 → A2 → A3 → Nat) (hs : ∀ (n : Nat) (a1 : A1) (a2 : A2) (a3 : A3), I a1 a2 a3 → (∀ (b1 : A1) (b2 : A2) (b3 : A3), I b1 b2 b3 → μ b1 b2 b3 < μ a1 a2 a3 → W n b1 b2 b3) → W (n + 1) a1 a2 a3) (a1 : A1) (a2 : A2) (a3 : A3) (h : I a1 a2 a3) : ∃ n, W n a1 a2 a3 :=
  loop_m (σ := A1 × A2 × A3) (fun n s => W n s.1 s.2.1 s.2.2) (fun s => I s.1 s.2.1 s.2.2) (fun s => μ s.1 s.2.1 s.2.2) (fun n s hI hk => hs n s.1 s.2.1 s.2.2 hI (fun b1 b2 b3 h9 hm => hk (b1, b2, b3) h9 hm)) (a1, a2, a3) h
theorem lp4 {A1 A2 A3 A4 : Type} (W : Nat → A1 → A2 → A3 → A4 → Prop) (I : A1 → A2 → A3 → A4 → Prop) (μ : A1 → A2 → A3 → A4 → Nat) (hs : ∀ (n : Nat) (a1 : A1) (a2 : A2) (a3 : A3) (a4 : A4), I a1 a2 a3 a4 → (∀ (b1 : A1) (b2 : A2) (b3 : A3) (b4 : A4), I b1 b2 b3 b4 → μ b1 b2 b3 b4 < μ a1 a2 a3 a4 → W n b1 b2 b3 b4) → W (n + 1) a1 a2 a3 a4) (a1 : A1) (a2 : A2) (a3 : A3) (a4 : A4) (h : I a1 a2 a3 a4) : ∃ n, W n a1 a2 a3 a4 :=
  loop_m (σ := A1 × A2 × A3 × A4) (fun n s => W n s.1 s.2.1 s.2.2.1 s.2.2.2) (fun s => I s.1 s.2.1 s.2.2.1 s.2.2.2) (fun s => μ s.1 s.2.1 s.2.2.1 s.2.2.2) (fun n s hI hk => hs n s.1 s.2.1 s.2.2.1 s.2.2.2 hI (fun b1 b2 b3 b4 h9 hm => hk (b1, b2, b3, b4) h9 hm)) (a1, a2, a3, a4) h
theorem lp5 {A1 A2 A3 A4 A5 : Type} (W : Nat → A1 → A2 → A3 → A4 → A5 → Prop) (I : A1 → A2 → A3 → A4 → A5 → Prop) (μ : A1 → A2 → A3 → A4 → A5 → Nat) (hs : ∀ (n : Nat) (a1 : A1) (a2 : A2) (a3 : A3) (a4 : A4) (a5 : A5), I a1 a2 a3 a4 a5 → (∀ (b1 : A1) (b2 : A2) (b3 : A3) (b4 : A4) (b5 : A5), I b1 b2 b3 b4 b5 → μ b1 b2 b3 b4 b5 < μ a1 a2 a3 a4 a5 → W n b1 b2 b3 b4 b5) → W (n + 1) a1 a2 a3 a4 a5) (a1 : A1) (a2 : A2) (a3 : A3) (a4 : A4) (a5 : A5) (h : I a1 a2 a3 a4 a5) : ∃ n, W n a1 a2 a3 a4 a5 :=
  loop_m (σ := A1 × A2 × A3 × A4 × A5) (fun n s => W n s.1 s.2.1 s.2.2.1 s.2.2.2.1 s.2.2.2.2) (fun s => I s.1 s.2.1 s.2.2.1 s.2.2.2.1 s.2.2.2.2) (fun s => μ s.1 s.2.1 s.2.2.1 s.2.2.2.1 s.2.2.2.2) (fun n s hI hk => hs n s.1 s.2.1 s.2.2.1 s.2.2.2.1 s.2.2.2.2 hI (fun b1 b2 b3 b4 b5 h9 hm => hk (b1, b2, b3, b4, b5) h9 hm)) (a1, a2, a3, a4, a5) h
theorem lp6 {A1 A2 A3 A4 A5 A6 : Type} (W : Nat → A1 → A2 → A3 → A4 → A5 → A6 → Prop) (I : A1 → A2 → A3 → A4 → A5 → A6 → Prop) (μ : A1 → A2 → A3 → A4 → A5 → A6 → Nat) (hs : ∀ (n : Nat) (a1 : A1) (a2 : A2) (a3 : A3) (a4 : A4) (a5 : A5) (a6 : A6), I a1 a2 a3 a4 a5 a6 → (∀ (b1 : A1) (b2 : A2) (b3 : A3) (b4 : A4) (b5 : A5) (b6 : A6), I b1 b2 b3 b4 b5 b6 → μ b1 b2 b3 b4 b5 b6 < μ a1 a2 a3 a4 a5 a6 → W n b1 b2 b3 b4 b5 b6) → W (n + 1) a1 a2 a3 a4 a5 a6) (a1 : A1) (a2 : A2) (a3 : A3) (a4 : A4) (a5 : A5) (a6 : A6) (h : I a1 a2 a3 a4 a5 a6) : ∃ n, W n a1 a2 a3 a4 a5 a6 :=
  loop_m (σ := A1 × A2 × A3 × A4 × A5 × A6) (fun n s => W n s.1 s.2.1 s.2.2.1 s.2.2.2.1 s.2.2.2.2.1 s.2.2.2.2.2) (fun s => I s.1 s.2.1 s.2.2.1 s.2.2.2.1 s.2.2.2.2.1 s.2.2.2.2.2) (fun s => μ s.1 s.2.1 s.2.2.1 s.2.2.2.1 s.2.2.2.2.1 s.2.2.2.2.2) (fun n s hI hk => hs n s.1 s.2.1 s.2.2.1 s.2.2.2.1 s.2.2.2.2.1 s.2.2.2.2.2 hI (fun b1 b2 b3 b4 b5 b6 h9 hm => hk (b1, b2, b3, b4, b5, b6) h9 hm)) (a1, a2, a3, a4, a5, a6) h
theorem lp7 {A1 A2 A3 A4 A5 A6 A7 : Type} (W : Nat → A1 → A2 → A3 → A4 → A5 → A6 → A7 → Prop) (I : A1 → A2 → A3 → A4 → A5 → A6 → A7 → Prop) (μ : A1 → A2 → A3 → A4 → A5 → A6 → A7 → Nat) (hs : ∀ (n : Nat) (a1 : A1) (a2 : A2) (a3 : A3) (a4 : A4) (a5 : A5) (a6 : A6) (a7 : A7), I a1 a2 a3 a4 a5 a6 a7 → (∀ (b1 : A1) (b2 : A2) (b3 : A3) (b4 : A4) (b5 : A5) (b6 : A6) (b7 : A7), I b1 b2 b3 b4 b5 b6 b7 → μ b1 b2 b3 b4 b5 b6 b7 < μ a1 a2 a3 a4 a5 a6 a7 → W n b1 b2 b3 b4 b5 b6 b7) → W (n + 1) a1 a2 a3 a4 a5 a6 a7) (a1 : A1) (a2 : A2) (a3 : A3) (a4 : A4) (a5 : A5) (a6 : A6) (a7 : A7) (h : I a1 a2 a3 a4 a5 a6 a7) : ∃ n, W n a1 a2 a3 a4 a5 a6 a7 :=
  loop_m (σ := A1 × A2 × A3 × A4 × A5 × A6 × A7) (fun n s => W n s.1 s.2.1 s.2.2.1 s.2.2.2.1 s.2.2.2.2.1 s.2.2.2.2.2.1 s.2.2.2.2.2.2) (fun s => I s.1 s.2.1 s.2.2.1 s.2.2.2.1 s.2.2.2.2.1 s.2.2.2.2.2.1 s.2.2.2.2.2.2) (fun s => μ s.1 s.2.1 s.2.2.1 s.2.2.2.1 s.2.2.2.2.1 s.2.2.2.2.2.1 s.2.2.2.2.2.2) (fun n s hI hk => hs n s.1 s.2.1 s.2.2.1 s.2.2.2.1 s.2.2.2.2.1 s.2.2.2.2.2.1 s.2.2.2.2.2.2 hI (fun b1 b2 b3 b4 b5 b6 b7 h9 hm => hk (b1, b2, b3, b4, b5, b6, b7) h9 hm)) (a1, a2, a3, a4, a5, a6, a7) h
theorem lp8 {A1 A2 A3 A4 A5 A6 A7 A8 : Type} (W : Nat → A1 → A2 → A3 → A4 → A5 → A6 → A7 → A8 → Prop) (I : A1 → A2 → A3 → A4 → A5 → A6 → A7 → A8 → Prop) (μ : A1 → A2 → A3 → A4 → A5 → A6 → A7 → A8 → Nat) (hs : ∀ (n : Nat) (a1 : A1) (a2 : A2) (a3 : A3) (a4 : A4) (a5 : A5) (a6 : A6) (a7 : A7) (a8 : A8), I a1 a2 a3 a4 a5 a6 a7 a8 → (∀ (b1 : A1) (b2 : A2) (b3 : A3) (b4 : A4) (b5 : A5) (b6 : A6) (b7 : A7) (b8 : A8), I b1 b2 b3 b4 b5 b6 b7 b8 → μ b1 b2 b3 b4 b5 b6 b7 b8 < μ a1 a2 a3 a4 a5 a6 a7 a8 → W n b1 b2 b3 b4 b5 b6 b7 b8) → W (n + 1) a1 a2 a3 a4 a5 a6 a7 a8) (a1 : A1) (a2 : A2) (a3 : A3) (a4 : A4) (a5 : A5) (a6 : A6) (a7 : A7) (a8 : A8) (h : I a1 a2 a3 a4 a5 a6 a7 a8) : ∃ n, W n a1 a2 a3 a4 a5 a6 a7 a8 :=
  loop_m (σ := A1 × A2 × A3 × A4 × A5 × A6 × A7 × A8) (fun n s => W n s.1 s.2.1 s.2.2.1 s.2.2.2.1 s.2.2.2.2.1 s.2.2.2.2.2.1 s.2.2.2.2.2.2.1 s.2.2.2.2.2.2.2) (fun s => I s.1 s.2.1 s.2.2.1 s.2.2.2.1 s.2.2.2.2.1 s.2.2.2.2.2.1 s.2.2.2.2.2.2.1 s.2.2.2.2.2.2.2) (fun s => μ s.1 s.2.1 s.2.2.1 s.2.2.2.1 s.2.2.2.2.1 s.2.2.2.2.2.1 s.2.2.2.2.2.2.1 s.2.2.2.2.2.2.2) (fun n s hI hk => hs n s.1 s.2.1 s.2.2.1 s.2.2.2.1 s.2.2.2.2.1 s.2.2.2.2.2.1 s.2.2.2.2.2.2.1 s.2.2.2.2.2.2.2 hI (fun b1 b2 b3 b4 b5 b6 b7 b8 h9 hm => hk (b1, b2, b3, b4, b5, b6, b7, b8) h9 hm)) (a1, a2, a3, a4, a5, a6, a7, a8) h
theorem lp9 {A1 A2 A3 A4 A5 A6 A7 A8 A9 : Type} (W : Nat → A1 → A2 → A3 → A4 → A5 → A6 → A7 → A8 → A9 → Prop) (I : A1 → A2 → A3 → A4 → A5 → A6 → A7 → A8 → A9 → Prop) (μ : A1 → A2 → A3 → A4 → A5 → A6 → A7 → A8 → A9 → Nat) (hs : ∀ (n : Nat) (a1 : A1) (a2 : A2) (a3 : A3) (a4 : A4) (a5 : A5) (a6 : A6) (a7 : A7) (a8 : A8) (a9 : A9), I a1 a2 a3 a4 a5 a6 a7 a8 a9 → (∀ (b1 : A1) (b2 : A2) (b3 : A3) (b4 : A4) (b5 : A5) (b6 : A6) (b7 : A7) (b8 : A8) (b9 : A9), I b1 b2 b3 b4 b5 b6 b7 b8 b9 → μ b1 b2 b3 b4 b5 b6 b7 b8 b9 < μ a1 a2 a3 a4 a5 a6 a7 a8 a9 → W n b1 b2 b3 b4 b5 b6 b7 b8 b9) → W (n + 1) a1 a2 a3 a4 a5 a6 a7 a8 a9) (a1 : A1) (a2 : A2) (a3 : A3) (a4 : A4) (a5 : A5) (a6 : A6) (a7 : A7) (a8 : A8) (a9 : A9) (h : I a1 a2 a3 a4 a5 a6 a7 a8 a9) : ∃ n, W n a1 a2 a3 a4 a5 a6 a7 a8 a9 :=
  loop_m (σ := A1 × A2 × A3 × A4 × A5 × A6 × A7 × A8 × A9) (fun n s => W n s.1 s.2.1 s.2.2.1 s.2.2.2.1 s.2.2.2.2.1 s.2.2.2.2.2.1 s.2.2.2.2.2.2.1 s.2.2.2.2.2.2.2.1 s.2.2.2.2.2.2.2.2) (fun s => I s.1 s.2.1 s.2.2.1 s.2.2.2.1 s.2.2.2.2.1 s.2.2.2.2.2.1 s.2.2.2.2.2.2.1 s.2.2.2.2.2.2.2.1 s.2.2.2.2.2.2.2.2) (fun s => μ s.1 s.2.1 s.2.2.1 s.2.2.2.1 s.2.2.2.2.1 s.2.2.2.2.2.1 s.2.2.2.2.2.2.1 s.2.2.2.2.2.2.2.1 s.2.2.2.2.2.2.2.2) (fun n s hI hk => hs n s.1 s.2.1 s.2.2.1 s.2.2.2.1 s.2.2.2.2.1 s.2.2.2.2.2.1 s.2.2.2.2.2.2.1 s.2.2.2.2.2.2.2.1 s.2.2.2.2.2.2.2.2 hI (fun b1 b2 b3 b4 b5 b6 b7 b8 b9 h9 hm => hk (b1, b2, b3, b4, b5, b6, b7, b8, b9) h9 hm)) (a1, a2, a3, a4, a5, a6, a7, a8, a9) h
theorem lp10 {A1 A2 A3 A4 A5 A6 A7 A8 A9 A10 : Type} (W : Nat → A1 → A2 → A3 → A4 → A5 → A6 → A7 → A8 → A9 → A10 → Prop) (I : A1 → A2 → A3 → A4 → A5 → A6 → A7 → A8 → A9 → A10 → Prop) (μ : A1 → A2 → A3 → A4 → A5 → A6 → A7 → A8 → A9 → A10 → Nat) (hs : ∀ (n : Nat) (a1 : A1) (a2 : A2) (a3 : A3) (a4 : A4) (a5 : A5) (a6 : A6) (a7 : A7) (a8 : A8) (a9 : A9) (a10 : A10), I a1 a2 a3 a4 a5 a6 a7 a8 a9 a10 → (∀ (b1 : A1) (b2 : A2) (b3 : A3) (b4 : A4) (b5 : A5) (b6 : A6) (b7 : A7) (b8 : A8) (b9 : A9) (b10 : A10), I b1 b2 b3 b4 b5 b6 b7 b8 b9 b10 → μ b1 b2 b3 b4 b5 b6 b7 b8 b9 b10 < μ a1 a2 a3 a4 a5 a6 a7 a8 a9 a10 → W n b1 b2 b3 b4 b5 b6 b7 b8 b9 b10) → W (n + 1) a1 a2 a3 a4 a5 a6 a7 a8 a9 a10) (a1 : A1) (a2 : A2) (a3 : A3) (a4 : A4) (a5 : A5) (a6 : A6) (a7 : A7) (a8 : A8) (a9 : A9) (a10 : A10) (h : I a1 a2 a3 a4 a5 a6 a7 a8 a9 a10) : ∃ n, W n a1 a2 a3 a4 a5 a6 a7 a8 a9 a10 :=
  loop_m (σ := A1 × A2 × A3 × A4 × A5 × A6 × A7 × A8 × A9 × A10) (fun n s => W n s.1 s.2.1 s.2.2.1 s.2.2.2.1 s.2.2.2.2.1 s.2.2.2.2.2.1 s.2.2.2.2.2.2.1 s.2.2.2.2.2.2.2.1 s.2.2.2.2.2.2.2.2.1 s.2.2.2.2.2.2.2.2.2) (fun s => I s.1 s.2.1 s.2.2.1 s.2.2.2.1 s.2.2.2.2.1 s.2.2.2.2.2.1 s.2.2.2.2.2.2.1 s.2.2.2.2.2.2.2.1 s.2.2.2.2.2.2.2.2.1 s.2.2.2.2.2.2.2.2.2) (fun s => μ s.1 s.2.1 s.2.2.1 s.2.2.2.1 s.2.2.2.2.1 s.2.2.2.2.2.1 s.2.2.2.2.2.2.1 s.2.2.2.2.2.2.2.1 s.2.2.2.2.2.2.2.2.1 s.2.2.2.2.2.2.2.2.2) (fun n s hI hk => hs n s.1 s.2.1 s.2.2.1 s.2.2.2.1 s.2.2.2.2.1 s.2.2.2.2.2.1 s.2.2.2.2.2.2.1 s.2.2.2.2.2.2.2.1 s.2.2.2.2.2.2.2.2.1 s.2.2.2.2.2.2.2.2.2 hI (fun b1 b2 b3 b4 b5 b6 b7 b8 b9 b10 h9 hm => hk (b1, b2, b3, b4, b5, b6, b7, b8, b9, b10) h9 hm)) (a1, a2, a3, a4, a5, a6, a7, a8, a9, a10) h
theorem lp11 {A1 A2 A3 A4 A5 A6 A7 A8 A9 A10 A11 : Type} (W : Nat → A1 → A2 → A3 → A4 → A5 → A6 → A7 → A8 → A9 → A10 → A11 → Prop) (I : A1 → A2 → A3 → A4 → A5 → A6 → A7 → A8 → A9 → A10 → A11 → Prop) (μ : A1 → A2 → A3 → A4 → A5 → A6 → A7 → A8 → A9 → A10 → A11 → Nat) (hs : ∀ (n : Nat) (a1 : A1) (a2 : A2) (a3 : A3) (a4 : A4) (a5 : A5) (a6 : A6) (a7 : A7) (a8 : A8) (a9 : A9) (a10 : A10) (a11 : A11), I a1 a2 a3 a4 a5 a6 a7 a8 a9 a10 a11 → (∀ (b1 : A1) (b2 : A2) (b3 : A3) (b4 : A4) (b5 : A5) (b6 : A6) (b7 : A7) (b8 : A8) (b9 : A9) (b10 : A10) (b11 : A11), I b1 b2 b3 b4 b5 b6 b7 b8 b9 b10 b11 → μ b1 b2 b3 b4 b5 b6 b7 b8 b9 b10 b11 < μ a1 a2 a3 a4 a5 a6 a7 a8 a9 a10 a11 → W n b1 b2 b3 b4 b5 b6 b7 b8 b9 b10 b11) → W (n + 1) a1 a2 a3 a4 a5 a6 a7 a8 a9 a10 a11) (a1 : A1) (a2 : A2) (a3 : A3) (a4 : A4) (a5 : A5) (a6 : A6) (a7 : A7) (a8 : A8) (a9 : A9) (a10 : A10) (a11 : A11) (h : I a1 a2 a3 a4 a5 a6 a7 a8 a9 a10 a11) : ∃ n, W n a1 a2 a3 a4 a5 a6 a7 a8 a9 a10 a11 :=
  loop_m (σ := A1 × A2 × A3 × A4 × A5 × A6 × A7 × A8 × A9 × A10 × A11) (fun n s => W n s.1 s.2.1 s.2.2.1 s.2.2.2.1 s.2.2.2.2.1 s.2.2.2.2.2.1 s.2.2.2.2.2.2.1 s.2.2.2.2.2.2.2.1 s.2.2.2.2.2.2.2.2.1 s.2.2.2.2.2.2.2.2.2.1 s.2.2.2.2.2.2.2.2.2.2) (fun s => I s.1 s.2.1 s.2.2.1 s.2.2.2.1 s.2.2.2.2.1 s.2.2.2.2.2.1 s.2.2.2.2.2.2.1 s.2.2.2.2.2.2.2.1 s.2.2.2.2.2.2.2.2.1 s.2.2.2.2.2.2.2.2.2.1 s.2.2.2.2.2.2.2.2.2.2) (fun s => μ s.1 s.2.1 s.2.2.1 s.2.2.2.1 s.2.2.2.2.1 s.2.2.2.2.2.1 s.2.2.2.2.2.2.1 s.2.2.2.2.2.2.2.1 s.2.2.2.2.2.2.2.2.1 s.2.2.2.2.2.2.2.2.2.1 s.2.2.2.2.2.2.2.2.2.2) (fun n s hI hk => hs n s.1 s.2.1 s.2.2.1 s.2.2.2.1 s.2.2.2.2.1 s.2.2.2.2.2.1 s.2.2.2.2.2.2.1 s.2.2.2.2.2.2.2.1 s.2.2.2.2.2.2.2.2.1 s.2.2.2.2.2.2.2.2.2.1 s.2.2.2.2.2.2.2.2.2.2 hI (fun b1 b2 b3 b4 b5 b6 b7 b8 b9 b10 b11 h9 hm => hk (b1, b2, b3, b4, b5, b6, b7, b8, b9, b10, b11) h9 hm)) (a1, a2, a3, a4, a5, a6, a7, a8, a9, a10, a11) h
theorem lp12 {A1 A2 A3 A4 A5 A6 A7 A8 A9 A10 A11 A12 : Type} (W : Nat → A1 → A2 → A3 → A4 → A5 → A6 → A7 → A8 → A9 → A10 → A11 → A12 → Prop) (I : A1 → A2 → A3 → A4 → A5 → A6 → A7 → A8 → A9 → A10 → A11 → A12 → Prop) (μ : A1 → A2 → A3 → A4 → A5 → A6 → A7 → A8 → A9 → A10 → A11 → A12 → Nat) (hs : ∀ (n : Nat) (a1 : A1) (a2 : A2) (a3 : A3) (a4 : A4) (a5 : A5) (a6 : A6) (a7 : A7) (a8 : A8) (a9 : A9) (a10 : A10) (a11 : A11) (a12 : A12), I a1 a2 a3 a4 a5 a6 a7 a8 a9 a10 a11 a12 → (∀ (b1 : A1) (b2 : A2) (b3 : A3) (b4 : A4) (b5 : A5) (b6 : A6) (b7 : A7) (b8 : A8) (b9 : A9) (b10 : A10) (b11 : A11) (b12 : A12), I b1 b2 b3 b4 b5 b6 b7 b8 b9 b10 b11 b12 → μ b1 b2 b3 b4 b5 b6 b7 b8 b9 b10 b11 b12 < μ a1 a2 a3 a4 a5 a6 a7 a8 a9 a10 a11 a12 → W n b1 b2 b3 b4 b5 b6 b7 b8 b9 b10 b11 b12) → W (n + 1) a1 a2 a3 a4 a5 a6 a7 a8 a9 a10 a11 a12) (a1 : A1) (a2 : A2) (a3 : A3) (a4 : A4) (a5 : A5) (a6 : A6) (a7 : A7) (a8 : A8) (a9 : A9) (a10 : A10) (a11 : A11) (a12 : A12) (h : I a1 a2 a3 a4 a5 a6 a7 a8 a9 a10 a11 a12) : ∃ n, W n a1 a2 a3 a4 a5 a6 a7 a8 a9 a10 a11 a12 :=
  loop_m (σ := A1 × A2 × A3 × A4 × A5 × A6 × A7 × A8 × A9 × A10 × A11 × A12) (fun n s => W n s.1 s.2.1 s.2.2.1 s.2.2.2.1 s.2.2.2.2.1 s.2.2.2.2.2.1 s.2.2.2.2.2.2.1 s.2.2.2.2.2.2.2.1 s.2.2.2.2.2.2.2.2.1 s.2.2.2.2.2.2.2.2.2.1 s.2.2.2.2.2.2.2.2.2.2.1 s.2.2.2.2.2.2.2.2.2.2.2) (fun s => I s.1 s.2.1 s.2.2.1 s.2.2.2.1 s.2.2.2.2.1 s.2.2.2.2.2.1 s.2.2.2.2.2.2.1 s.2.2.2.2.2.2.2.1 s.2.2.2.2.2.2.2.2.1 s.2.2.2.2.2.2.2.2.2.1 s.2.2.2.2.2.2.2.2.2.2.1 s.2.2.2.2.2.2.2.2.2.2.2) (fun s => μ s.1 s.2.1 s.2.2.1 s.2.2.2.1 s.2.2.2.2.1 s.2.2.2.2.2.1 s.2.2.2.2.2.2.1 s.2.2.2.2.2.2.2.1 s.2.2.2.2.2.2.2.2.1 s.2.2.2.2.2.2.2.2.2.1 s.2.2.2.2.2.2.2.2.2.2.1 s.2.2.2.2.2.2.2.2.2.2.2) (fun n s hI hk => hs n s.1 s.2.1 s.2.2.1 s.2.2.2.1 s.2.2.2.2.1 s.2.2.2.2.2.1 s.2.2.2.2.2.2.1 s.2.2.2.2.2.2.2.1 s.2.2.2.2.2.2.2.2.1 s.2.2.2.2.2.2.2.2.2.1 s.2.2.2.2.2.2.2.2.2.2.1 s.2.2.2.2.2.2.2.2.2.2.2 hI (fun b1 b2 b3 b4 b5 b6 b7 b8 b9 b10 b11 b12 h9 hm => hk (b1, b2, b3, b4, b5, b6, b7, b8, b9, b10, b11, b12) h9 hm)) (a1, a2, a3, a4, a5, a6, a7, a8, a9, a10, a11, a12) h
theorem lp13 {A1 A2 A3 A4 A5 A6 A7 A8 A9 A10 A11 A12 A13 : Type} (W : Nat → A1 → A2 → A3 → A4 → A5 → A6 → A7 → A8 → A9 → A10 → A11 → A12 → A13 → Prop) (I : A1 → A2 → A3 → A4 → A5 → A6 → A7 → A8 → A9 → A10 → A11 → A12 → A13 → Prop) (μ : A1 → A2 → A3 → A4 → A5 → A6 → A7 → A8 → A9 → A10 → A11 → A12 → A13 → Nat) (hs : ∀ (n : Nat) (a1 : A1) (a2 : A2) (a3 : A3) (a4 : A4) (a5 : A5) (a6 : A6) (a7 : A7) (a8 : A8) (a9 : A9) (a10 : A10) (a11 : A11) (a12 : A12) (a13 : A13), I a1 a2 a3 a4 a5 a6 a7 a8 a9 a10 a11 a12 a13 → (∀ (b1 : A1) (b2 : A2) (b3 : A3) (b4 : A4) (b5 : A5) (b6 : A6) (b7 : A7) (b8 : A8) (b9 : A9) (b10 : A10) (b11 : A11) (b12 : A12) (b13 : A13), I b1 b2 b3 b4 b5 b6 b7 b8 b9 b10 b11 b12 b13 → μ b1 b2 b3 b4 b5 b6 b7 b8 b9 b10 b11 b12 b13 < μ a1 a2 a3 a4 a5 a6 a7 a8 a9 a10 a11 a12 a13 → W n b1 b2 b3 b4 b5 b6 b7 b8 b9 b10 b11 b12 b13) → W (n + 1) a1 a2 a3 a4 a5 a6 a7 a8 a9 a10 a11 a12 a13) (a1 : A1) (a2 : A2) (a3 : A3) (a4 : A4) (a5 : A5) (a6 : A6) (a7 : A7) (a8 : A8) (a9 : A9) (a10 : A10) (a11 : A11) (a12 : A12) (a13 : A13) (h : I a1 a2 a3 a4 a5 a6 a7 a8 a9 a10 a11 a12 a13) : ∃ n, W n a1 a2 a3 a4 a5 a6 a7 a8 a9 a10 a11 a12 a13 :=
  loop_m (σ := A1 × A2 × A3 × A4 × A5 × A6 × A7 × A8 × A9 × A10 × A11 × A12 × A13) (fun n s => W n s.1 s.2.1 s.2.2.1 s.2.2.2.1 s.2.2.2.2.1 s.2.2.2.2.2.1 s.2.2.2.2.2.2.1 s.2.2.2.2.2.2.2.1 s.2.2.2.2.2.2.2.2.1 s.2.2.2.2.2.2.2.2.2.1 s.2.2.2.2.2.2.2.2.2.2.1 s.2.2.2.2.2.2.2.2.2.2.2.1 s.2.2.2.2.2.2.2.2.2.2.2.2) (fun s => I s.1 s.2.1 s.2.2.1 s.2.2.2.1 s.2.2.2.2.1 s.2.2.2.2.2.1 s.2.2.2.2.2.2.1 s.2.2.2.2.2.2.2.1 s.2.2.2.2.2.2.2.2.1 s.2.2.2.2.2.2.2.2.2.1 s.2.2.2.2.2.2.2.2.2.2.1 s.2.2.2.2.2.2.2.2.2.2.2.1 s.2.2.2.2.2.2.2.2.2.2.2.2) (fun s => μ s.1 s.2.1 s.2.2.1 s.2.2.2.1 s.2.2.2.2.1 s.2.2.2.2.2.1 s.2.2.2.2.2.2.1 s.2.2.2.2.2.2.2.1 s.2.2.2.2.2.2.2.2.1 s.2.2.2.2.2.2.2.2.2.1 s.2.2.2.2.2.2.2.2.2.2.1 s.2.2.2.2.2.2.2.2.2.2.2.1 s.2.2.2.2.2.2.2.2.2.2.2.2) (fun n s hI hk => hs n s.1 s.2.1 s.2.2.1 s.2.2.2.1 s.2.2.2.2.1 s.2.2.2.2.2.1 s.2.2.2.2.2.2.1 s.2.2.2.2.2.2.2.1 s.2.2.2.2.2.2.2.2.1 s.2.2.2.2.2.2.2.2.2.1 s.2.2.2.2.2.2.2.2.2.2.1 s.2.2.2.2.2.2.2.2.2.2.2.1 s.2.2.2.2.2.2.2.2.2.2.2.2 hI (fun b1 b2 b3 b4 b5 b6 b7 b8 b9 b10 b11 b12 b13 h9 hm => hk (b1, b2, b3, b4, b5, b6, b7, b8, b9, b10, b11, b12, b13) h9 hm)) (a1, a2, a3, a4, a5, a6, a7, a8, a9, a10, a11, a12, a13) h
theorem lp14 {A1 A2 A3 A4 A5 A6 A7 A8 A9 A10 A11 A12 A13 A14 : Type} (W : Nat → A1 → A2 → A3 → A4 → A5 → A6 → A7 → A8 → A9 → A10 → A11 → A12 → A13 → A14 → Prop) (I : A1 → A2 → A3 → A4 → A5 → A6 → A7 → A8 → A9 → A10 → A11 → A12 → A13 → A14 → Prop) (μ : A1 → A2 → A3 → A4 → A5 → A6 → A7 → A8 → A9 → A10 → A11 → A12 → A13 → A14 → Nat) (hs : ∀ (n : Nat) (a1 : A1) (a2 : A2) (a3 : A3) (a4 : A4) (a5 : A5) (a6 : A6) (a7 : A7) (a8 : A8) (a9 : A9) (a10 : A10) (a11 : A11) (a12 : A12) (a13 : A13) (a14 : A14), I a1 a2 a3 a4 a5 a6 a7 a8 a9 a10 a11 a12 a13 a14 → (∀ (b1 : A1) (b2 : A2) (b3 : A3) (b4 : A4) (b5 : A5) (b6 : A6) (b7 : A7) (b8 : A8) (b9 : A9) (b10 : A10) (b11 : A11) (b12 : A12) (b13 : A13) (b14 : A14), I b1 b2 b3 b4 b5 b6 b7 b8 b9 b10 b11 b12 b13 b14 → μ b1 b2 b3 b4 b5 b6 b7 b8 b9 b10 b11 b12 b13 b14 < μ a1 a2 a3 a4 a5 a6 a7 a8 a9 a10 a11 a12 a13 a14 → W n b1 b2 b3 b4 b5 b6 b7 b8 b9 b10 b11 b12 b13 b14) → W (n + 1) a1 a2 a3 a4 a5 a6 a7 a8 a9 a10 a11 a12 a13 a14) (a1 : A1) (a2 : A2) (a3 : A3) (a4 : A4) (a5 : A5) (a6 : A6) (a7 : A7) (a8 : A8) (a9 : A9) (a10 : A10) (a11 : A11) (a12 : A12) (a13 : A13) (a14 : A14) (h : I a1 a2 a3 a4 a5 a6 a7 a8 a9 a10 a11 a12 a13 a14) : ∃ n, W n a1 a2 a3 a4 a5 a6 a7 a8 a9 a10 a11 a12 a13 a14 :=
  loop_m (σ := A1 × A2 × A3 × A4 × A5 × A6 × A7 × A8 × A9 × A10 × A11 × A12 × A13 × A14) (fun n s => W n s.1 s.2.1 s.2.2.1 s.2.2.2.1 s.2.2.2.2.1 s.2.2.2.2.2.1 s.2.2.2.2.2.2.1 s.2.2.2.2.2.2.2.1 s.2.2.2.2.2.2.2.2.1 s.2.2.2.2.2.2.2.2.2.1 s.2.2.2.2.2.2.2.2.2.2.1 s.2.2.2.2.2.2.2.2.2.2.2.1 s.2.2.2.2.2.2.2.2.2.2.2.2.1 s.2.2.2.2.2.2.2.2.2.2.2.2.2) (fun s => I s.1 s.2.1 s.2.2.1 s.2.2.2.1 s.2.2.2.2.1 s.2.2.2.2.2.1 s.2.2.2.2.2.2.1 s.2.2.2.2.2.2.2.1 s.2.2.2.2.2.2.2.2.1 s.2.2.2.2.2.2.2.2.2.1 s.2.2.2.2.2.2.2.2.2.2.1 s.2.2.2.2.2.2.2.2.2.2.2.1 s.2.2.2.2.2.2.2.2.2.2.2.2.1 s.2.2.2.2.2.2.2.2.2.2.2.2.2) (fun s => μ s.1 s.2.1 s.2.2.1 s.2.2.2.1 s.2.2.2.2.1 s.2.2.2.2.2.1 s.2.2.2.2.2.2.1 s.2.2.2.2.2.2.2.1 s.2.2.2.2.2.2.2.2.1 s.2.2.2.2.2.2.2.2.2.1 s.2.2.2.2.2.2.2.2.2.2.1 s.2.2.2.2.2.2.2.2.2.2.2.1 s.2.2.2.2.2.2.2.2.2.2.2.2.1 s.2.2.2.2.2.2.2.2.2.2.2.2.2) (fun n s hI hk => hs n s.1 s.2.1 s.2.2.1 s.2.2.2.1 s.2.2.2.2.1 s.2.2.2.2.2.1 s.2.2.2.2.2.2.1 s.2.2.2.2.2.2.2.1 s.2.2.2.2.2.2.2.2.1 s.2.2.2.2.2.2.2.2.2.1 s.2.2.2.2.2.2.2.2.2.2.1 s.2.2.2.2.2.2.2.2.2.2.2.1 s.2.2.2.2.2.2.2.2.2.2.2.2.1 s.2.2.2.2.2.2.2.2.2.2.2.2.2 hI (fun b1 b2 b3 b4 b5 b6 b7 b8 b9 b10 b11 b12 b13 b14 h9 hm => hk (b1, b2, b3, b4, b5, b6, b7, b8, b9, b10, b11, b12, b13, b14) h9 hm)) (a1, a2, a3, a4, a5, a6, a7, a8, a9, a10, a11, a12, a13, a14) h
theorem lp15 {A1 A2 A3 A4 A5 A6 A7 A8 A9 A10 A11 A12 A13 A14 A15 : Type} (W : Nat → A1 → A2 → A3 → A4 → A5 → A6 → A7 → A8 → A9 → A10 → A11 → A12 → A13 → A14 → A15 → Prop) (I : A1 → A2 → A3 → A4 → A5 → A6 → A7 → A8 → A9 → A10 → A11 → A12 → A13 → A14 → A15 → Prop) (μ : A1 → A2 → A3 → A4 → A5 → A6 → A7 → A8 → A9 → A10 → A11 → A12 → A13 → A14 → A15 → Nat) (hs : ∀ (n : Nat) (a1 : A1) (a2 : A2) (a3 : A3) (a4 : A4) (a5 : A5) (a6 : A6) (a7 : A7) (a8 : A8) (a9 : A9) (a10 : A10) (a11 : A11) (a12 : A12) (a13 : A13) (a14 : A14) (a15 : A15), I a1 a2 a3 a4 a5 a6 a7 a8 a9 a10 a11 a12 a13 a14 a15 → (∀ (b1 : A1) (b2 : A2) (b3 : A3) (b4 : A4) (b5 : A5) (b6 : A6) (b7 : A7) (b8 : A8) (b9 : A9) (b10 : A10) (b11 : A11) (b12 : A12) (b13 : A13) (b14 : A14) (b15 : A15), I b1 b2 b3 b4 b5 b6 b7 b8 b9 b10 b11 b12 b13 b14 b15 → μ b1 b2 b3 b4 b5 b6 b7 b8 b9 b10 b11 b12 b13 b14 b15 < μ a1 a2 a3 a4 a5 a6 a7 a8 a9 a10 a11 a12 a13 a14 a15 → W n b1 b2 b3 b4 b5 b6 b7 b8 b9 b10 b11 b12 b13 b14 b15) → W (n + 1) a1 a2 a3 a4 a5 a6 a7 a8 a9 a10 a11 a12 a13 a14 a15) (a1 : A1) (a2 : A2) (a3 : A3) (a4 : A4) (a5 : A5) (a6 : A6) (a7 : A7) (a8 : A8) (a9 : A9) (a10 : A10) (a11 : A11) (a12 : A12) (a13 : A13) (a14 : A14) (a15 : A15) (h : I a1 a2 a3 a4 a5 a6 a7 a8 a9 a10 a11 a12 a13 a14 a15) : ∃ n, W n a1 a2 a3 a4 a5 a6 a7 a8 a9 a10 a11 a12 a13 a14 a15 :=
  loop_m (σ := A1 × A2 × A3 × A4 × A5 × A6 × A7 × A8 × A9 × A10 × A11 × A12 × A13 × A14 × A15) (fun n s => W n s.1 s.2.1 s.2.2.1 s.2.2.2.1 s.2.2.2.2.1 s.2.2.2.2.2.1 s.2.2.2.2.2.2.1 s.2.2.2.2.2.2.2.1 s.2.2.2.2.2.2.2.2.1 s.2.2.2.2.2.2.2.2.2.1 s.2.2.2.2.2.2.2.2.2.2.1 s.2.2.2.2.2.2.2.2.2.2.2.1 s.2.2.2.2.2.2.2.2.2.2.2.2.1 s.2.2.2.2.2.2.2.2.2.2.2.2.2.1 s.2.2.2.2.2.2.2.2.2.2.2.2.2.2) (fun s => I s.1 s.2.1 s.2.2.1 s.2.2.2.1 s.2.2.2.2.1 s.2.2.2.2.2.1 s.2.2.2.2.2.2.1 s.2.2.2.2.2.2.2.1 s.2.2.2.2.2.2.2.2.1 s.2.2.2.2.2.2.2.2.2.1 s.2.2.2.2.2.2.2.2.2.2.1 s.2.2.2.2.2.2.2.2.2.2.2.1 s.2.2.2.2.2.2.2.2.2.2.2.2.1 s.2.2.2.2.2.2.2.2.2.2.2.2.2.1 s.2.2.2.2.2.2.2.2.2.2.2.2.2.2) (fun s => μ s.1 s.2.1 s.2.2.1 s.2.2.2.1 s.2.2.2.2.1 s.2.2.2.2.2.1 s.2.2.2.2.2.2.1 s.2.2.2.2.2.2.2.1 s.2.2.2.2.2.2.2.2.1 s.2.2.2.2.2.2.2.2.2.1 s.2.2.2.2.2.2.2.2.2.2.1 s.2.2.2.2.2.2.2.2.2.2.2.1 s.2.2.2.2.2.2.2.2.2.2.2.2.1 s.2.2.2.2.2.2.2.2.2.2.2.2.2.1 s.2.2.2.2.2.2.2.2.2.2.2.2.2.2) (fun n s hI hk => hs n s.1 s.2.1 s.2.2.1 s.2.2.2.1 s.2.2.2.2.1 s.2.2.2.2.2.1 s.2.2.2.2.2.2.1 s.2.2.2.2.2.2.2.1 s.2.2.2.2.2.2.2.2.1 s.2.2.2.2.2.2.2.2.2.1 s.2.2.2.2.2.2.2.2.2.2.1 s.2.2.2.2.2.2.2.2.2.2.2.1 s.2.2.2.2.2.2.2.2.2.2.2.2.1 s.2.2.2.2.2.2.2.2.2.2.2.2.2.1 s.2.2.2.2.2.2.2.2.2.2.2.2.2.2 hI (fun b1 b2 b3 b4 b5 b6 b7 b8 b9 b10 b11 b12 b13 b14 b15 h9 hm => hk (b1, b2, b3, b4, b5, b6, b7, b8, b9, b10, b11, b12, b13, b14, b15) h9 hm)) (a1, a2, a3, a4, a5, a6, a7, a8, a9, a10, a11, a12, a13, a14, a15) h
theorem lp16 {A1 A2 A3 A4 A5 A6 A7 A8 A9 A10 A11 A12 A13 A14 A15 A16 : Type} (W : Nat → A1 → A2 → A3 → A4 → A5 → A6 → A7 → A8 → A9 → A10 → A11 → A12 → A13 → A14 → A15 → A16 → Prop) (I : A1 → A2 → A3 → A4 → A5 → A6 → A7 → A8 → A9 → A10 → A11 → A12 → A13 → A14 → A15 → A16 → Prop) (μ : A1 → A2 → A3 → A4 → A5 → A6 → A7 → A8 → A9 → A10 → A11 → A12 → A13 → A14 → A15 → A16 → Nat) (hs : ∀ (n : Nat) (a1 : A1) (a2 : A2) (a3 : A3) (a4 : A4) (a5 : A5) (a6 : A6) (a7 : A7) (a8 : A8) (a9 : A9) (a10 : A10) (a11 : A11) (a12 : A12) (a13 : A13) (a14 : A14) (a15 : A15) (a16 : A16), I a1 a2 a3 a4 a5 a6 a7 a8 a9 a10 a11 a12 a13 a14 a15 a16 → (∀ (b1 : A1) (b2 : A2) (b3 : A3) (b4 : A4) (b5 : A5) (b6 : A6) (b7 : A7) (b8 : A8) (b9 : A9) (b10 : A10) (b11 : A11) (b12 : A12) (b13 : A13) (b14 : A14) (b15 : A15) (b16 : A16), I b1 b2 b3 b4 b5 b6 b7 b8 b9 b10 b11 b12 b13 b14 b15 b16 → μ b1 b2 b3 b4 b5 b6 b7 b8 b9 b10 b11 b12 b13 b14 b15 b16 < μ a1 a2 a3 a4 a5 a6 a7 a8 a9 a10 a11 a12 a13 a14 a15 a16 → W n b1 b2 b3 b4 b5 b6 b7 b8 b9 b10 b11 b12 b13 b14 b15 b16) → W (n + 1) a1 a2 a3 a4 a5 a6 a7 a8 a9 a10 a11 a12 a13 a14 a15 a16) (a1 : A1) (a2 : A2) (a3 : A3) (a4 : A4) (a5 : A5) (a6 : A6) (a7 : A7) (a8 : A8) (a9 : A9) (a10 : A10) (a11 : A11) (a12 : A12) (a13 : A13) (a14 : A14) (a15 : A15) (a16 : A16) (h : I a1 a2 a3 a4 a5 a6 a7 a8 a9 a10 a11 a12 a13 a14 a15 a16) : ∃ n, W n a1 a2 a3 a4 a5 a6 a7 a8 a9 a10 a11 a12 a13 a14 a15 a16 :=
  loop_m (σ := A1 × A2 × A3 × A4 × A5 × A6 × A7 × A8 × A9 × A10 × A11 × A12 × A13 × A14 × A15 × A16) (fun n s => W n s.1 s.2.1 s.2.2.1 s.2.2.2.1 s.2.2.2.2.1 s.2.2.2.2.2.1 s.2.2.2.2.2.2.1 s.2.2.2.2.2.2.2.1 s.2.2.2.2.2.2.2.2.1 s.2.2.2.2.2.2.2.2.2.1 s.2.2.2.2.2.2.2.2.2.2.1 s.2.2.2.2.2.2.2.2.2.2.2.1 s.2.2.2.2.2.2.2.2.2.2.2.2.1 s.2.2.2.2.2.2.2.2.2.2.2.2.2.1 s.2.2.2.2.2.2.2.2.2.2.2.2.2.2.1 s.2.2.2.2.2.2.2.2.2.2.2.2.2.2.2) (fun s => I s.1 s.2.1 s.2.2.1 s.2.2.2.1 s.2.2.2.2.1 s.2.2.2.2.2.1 s.2.2.2.2.2.2.1 s.2.2.2.2.2.2.2.1 s.2.2.2.2.2.2.2.2.1 s.2.2.2.2.2.2.2.2.2.1 s.2.2.2.2.2.2.2.2.2.2.1 s.2.2.2.2.2.2.2.2.2.2.2.1 s.2.2.2.2.2.2.2.2.2.2.2.2.1 s.2.2.2.2.2.2.2.2.2.2.2.2.2.1 s.2.2.2.2.2.2.2.2.2.2.2.2.2.2.1 s.2.2.2.2.2.2.2.2.2.2.2.2.2.2.2) (fun s => μ s.1 s.2.1 s.2.2.1 s.2.2.2.1 s.2.2.2.2.1 s.2.2.2.2.2.1 s.2.2.2.2.2.2.1 s.2.2.2.2.2.2.2.1 s.2.2.2.2.2.2.2.2.1 s.2.2.2.2.2.2.2.2.2.1 s.2.2.2.2.2.2.2.2.2.2.1 s.2.2.2.2.2.2.2.2.2.2.2.1 s.2.2.2.2.2.2.2.2.2.2.2.2.1 s.2.2.2.2.2.2.2.2.2.2.2.2.2.1 s.2.2.2.2.2.2.2.2.2.2.2.2.2.2.1 s.2.2.2.2.2.2.2.2.2.2.2.2.2.2.2) (fun n s hI hk => hs n s.1 s.2.1 s.2.2.1 s.2.2.2.1 s.2.2.2.2.1 s.2.2.2.2.2.1 s.2.2.2.2.2.2.1 s.2.2.2.2.2.2.2.1 s.2.2.2.2.2.2.2.2.1 s.2.2.2.2.2.2.2.2.2.1 s.2.2.2.2.2.2.2.2.2.2.1 s.2.2.2.2.2.2.2.2.2.2.2.1 s.2.2.2.2.2.2.2.2.2.2.2.2.1 s.2.2.2.2.2.2.2.2.2.2.2.2.2.1 s.2.2.2.2.2.2.2.2.2.2.2.2.2.2.1 s.2.2.2.2.2.2.2.2.2.2.2.2.2.2.2 hI (fun b1 b2 b3 b4 b5 b6 b7 b8 b9 b10 b11 b12 b13 b14 b15 b16 h9 hm => hk (b1, b2, b3, b4, b5, b6, b7, b8, b9, b10, b11, b12, b13, b14, b15, b16) h9 hm)) (a1, a2, a3, a4, a5, a6, a7, a8, a9, a10, a11, a12, a13, a14, a15, a16) h
theorem pk_least (P : Nat → Prop) (h : ∃ k, P k) : ∃ k, P k ∧ ∀ j, j < k → ¬ P j := by
  obtain ⟨k, hk⟩ := h
  induction k using Nat.strongRecOn with
  | ind k ih =>
    by_cases e : ∃ j, j < k ∧ P j
    · obtain ⟨j, hj, pj⟩ := e
      exact ih j hj pj
    · exact ⟨k, hk, fun j hj pj => e ⟨j, hj, pj⟩⟩
theorem rp1 {ρ A1 : Type} (W : Nat → (ρ → Prop) → A1 → Prop) (ok : A1 → Prop) (μ : A1 → Nat) (val : A1 → ρ)
    (hs : ∀ (d : Nat) (post : ρ → Prop) (a1 : A1), ok a1 → post (val a1) → (∀ (post' : ρ → Prop) (b1 : A1), ok b1 → μ b1 < μ a1 → post' (val b1) → W d post' b1) → W (d + 1) post a1) :
    ∀ (d : Nat) (post : ρ → Prop) (a1 : A1), ok a1 → μ a1 < d → post (val a1) → W d post a1 := by
  intro d
  induction d with
  | zero => intro post a1 _ h; omega
  | succ d ih =>
    intro post a1 ho hm hp
    exact hs d post a1 ho hp (fun post' b1 ho' hm' hp' => ih post' b1 ho' (by omega) hp')
theorem rp2 {ρ A1 A2 : Type} (W : Nat → (ρ → Prop) → A1 → A2 → Prop) (ok : A1 → A2 → Prop) (μ : A1 → A2 → Nat) (val : A1 → A2 → ρ)
    (hs : ∀ (d : Nat) (post : ρ → Prop) (a1 : A1) (a2 : A2), ok a1 a2 → post (val a1 a2) → (∀ (post' : ρ → Prop) (b1 : A1) (b2 : A2), ok b1 b2 → μ b1 b2 < μ a1 a2 → post' (val b1 b2) → W d post' b1 b2) → W (d + 1) post a1 a2) :
    ∀ (d : Nat) (post : ρ → Prop) (a1 : A1) (a2 : A2), ok a1 a2 → μ a1 a2 < d → post (val a1 a2) → W d post a1 a2 := by
  intro d
  induction d with
  | zero => intro post a1 a2 _ h; omega
  | succ d ih =>
    intro post a1 a2 ho hm hp
    exact hs d post a1 a2 ho hp (fun post' b1 b2 ho' hm' hp' => ih post' b1 b2 ho' (by omega) hp')
theorem rp3 {ρ A1 A2 A3 : Type} (W : Nat → (ρ → Prop) → A1 → A2 → A3 → Prop) (ok : A1 → A2 → A3 → Prop) (μ : A1 → A2 → A3 → Nat) (val : A1 → A2 → A3 → ρ)
    (hs : ∀ (d : Nat) (post : ρ → Prop) (a1 : A1) (a2 : A2) (a3 : A3), ok a1 a2 a3 → post (val a1 a2 a3) → (∀ (post' : ρ → Prop) (b1 : A1) (b2 : A2) (b3 : A3), ok b1 b2 b3 → μ b1 b2 b3 < μ a1 a2 a3 → post' (val b1 b2 b3) → W d post' b1 b2 b3) → W (d + 1) post a1 a2 a3) :
    ∀ (d : Nat) (post : ρ → Prop) (a1 : A1) (a2 : A2) (a3 : A3), ok a1 a2 a3 → μ a1 a2 a3 < d → post (val a1 a2 a3) → W d post a1 a2 a3 := by
  intro d
  induction d with
  | zero => intro post a1 a2 a3 _ h; omega
  | succ d ih =>
    intro post a1 a2 a3 ho hm hp
    exact hs d post a1 a2 a3 ho hp (fun post' b1 b2 b3 ho' hm' hp' => ih post' b1 b2 b3 ho' (by omega) hp')
theorem rp4 {ρ A1 A2 A3 A4 : Type} (W : Nat → (ρ → Prop) → A1 → A2 → A3 → A4 → Prop) (ok : A1 → A2 → A3 → A4 → Prop) (μ : A1 → A2 → A3 → A4 → Nat) (val : A1 → A2 → A3 → A4 → ρ)
    (hs : ∀ (d : Nat) (post : ρ → Prop) (a1 : A1) (a2 : A2) (a3 : A3) (a4 : A4), ok a1 a2 a3 a4 → post (val a1 a2 a3 a4) → (∀ (post' : ρ → Prop) (b1 : A1) (b2 : A2) (b3 : A3) (b4 : A4), ok b1 b2 b3 b4 → μ b1 b2 b3 b4 < μ a1 a2 a3 a4 → post' (val b1 b2 b3 b4) → W d post' b1 b2 b3 b4) → W (d + 1) post a1 a2 a3 a4) :
    ∀ (d : Nat) (post : ρ → Prop) (a1 : A1) (a2 : A2) (a3 : A3) (a4 : A4), ok a1 a2 a3 a4 → μ a1 a2 a3 a4 < d → post (val a1 a2 a3 a4) → W d post a1 a2 a3 a4 := by
  intro d
  induction d with
  | zero => intro post a1 a2 a3 a4 _ h; omega
  | succ d ih =>
    intro post a1 a2 a3 a4 ho hm hp
    exact hs d post a1 a2 a3 a4 ho hp (fun post' b1 b2 b3 b4 ho' hm' hp' => ih post' b1 b2 b3 b4 ho' (by omega) hp')
theorem rp5 {ρ A1 A2 A3 A4 A5 : Type} (W : Nat → (ρ → Prop) → A1 → A2 → A3 → A4 → A5 → Prop) (ok : A1 → A2 → A3 → A4 → A5 → Prop) (μ : A1 → A2 → A3 → A4 → A5 → Nat) (val : A1 → A2 → A3 → A4 → A5 → ρ)
    (hs : ∀ (d : Nat) (post : ρ → Prop) (a1 : A1) (a2 : A2) (a3 : A3) (a4 : A4) (a5 : A5), ok a1 a2 a3 a4 a5 → post (val a1 a2 a3 a4 a5) → (∀ (post' : ρ → Prop) (b1 : A1) (b2 : A2) (b3 : A3) (b4 : A4) (b5 : A5), ok b1 b2 b3 b4 b5 → μ b1 b2 b3 b4 b5 < μ a1 a2 a3 a4 a5 → post' (val b1 b2 b3 b4 b5) → W d post' b1 b2 b3 b4 b5) → W (d + 1) post a1 a2 a3 a4 a5) :
    ∀ (d : Nat) (post : ρ → Prop) (a1 : A1) (a2 : A2) (a3 : A3) (a4 : A4) (a5 : A5), ok a1 a2 a3 a4 a5 → μ a1 a2 a3 a4 a5 < d → post (val a1 a2 a3 a4 a5) → W d post a1 a2 a3 a4 a5 := by
  intro d
  induction d with
  | zero => intro post a1 a2 a3 a4 a5 _ h; omega
  | succ d ih =>
    intro post a1 a2 a3 a4 a5 ho hm hp
    exact hs d post a1 a2 a3 a4 a5 ho hp (fun post' b1 b2 b3 b4 b5 ho' hm' hp' => ih post' b1 b2 b3 b4 b5 ho' (by omega) hp')
theorem rp6 {ρ A1 A2 A3 A4 A5 A6 : Type} (W : Nat → (ρ → Prop) → A1 → A2 → A3 → A4 → A5 → A6 → Prop) (ok : A1 → A2 → A3 → A4 → A5 → A6 → Prop) (μ : A1 → A2 → A3 → A4 → A5 → A6 → Nat) (val : A1 → A2 → A3 → A4 → A5 → A6 → ρ)
    (hs : ∀ (d : Nat) (post : ρ → Prop) (a1 : A1) (a2 : A2) (a3 : A3) (a4 : A4) (a5 : A5) (a6 : A6), ok a1 a2 a3 a4 a5 a6 → post (val a1 a2 a3 a4 a5 a6) → (∀ (post' : ρ → Prop) (b1 : A1) (b2 : A2) (b3 : A3) (b4 : A4) (b5 : A5) (b6 : A6), ok b1 b2 b3 b4 b5 b6 → μ b1 b2 b3 b4 b5 b6 < μ a1 a2 a3 a4 a5 a6 → post' (val b1 b2 b3 b4 b5 b6) → W d post' b1 b2 b3 b4 b5 b6) → W (d + 1) post a1 a2 a3 a4 a5 a6) :
    ∀ (d : Nat) (post : ρ → Prop) (a1 : A1) (a2 : A2) (a3 : A3) (a4 : A4) (a5 : A5) (a6 : A6), ok a1 a2 a3 a4 a5 a6 → μ a1 a2 a3 a4 a5 a6 < d → post (val a1 a2 a3 a4 a5 a6) → W d post a1 a2 a3 a4 a5 a6 := by
  intro d
  induction d with
  | zero => intro post a1 a2 a3 a4 a5 a6 _ h; omega
  | succ d ih =>
    intro post a1 a2 a3 a4 a5 a6 ho hm hp
    exact hs d post a1 a2 a3 a4 a5 a6 ho hp (fun post' b1 b2 b3 b4 b5 b6 ho' hm' hp' => ih post' b1 b2 b3 b4 b5 b6 ho' (by omega) hp')
theorem rec_p {σ ρ : Type} (W : Nat → (ρ → Prop) → σ → Prop) (ok : σ → Prop) (μ : σ → Nat) (val : σ → ρ)
    (hs : ∀ d s post, ok s → post (val s) → (∀ s' post', ok s' → μ s' < μ s → post' (val s') → W d post' s') → W (d + 1) post s) :
    ∀ d s post, ok s → μ s < d → post (val s) → W d post s := by
  intro d
  induction d with
  | zero => intro s post _ h; omega
  | succ d ih =>
    intro s post ho hm hp
    exact hs d s post ho hp (fun s' post' ho' hm' hp' => ih s' post' ho' (by omega) hp')
theorem rec_q {σ ρ : Type} (W : Nat → (ρ → Prop) → σ → Prop) (ok : σ → Prop) (μ : σ → Nat) (Q : σ → ρ → Prop)
    (hs : ∀ d s post, ok s → (∀ r, Q s r → post r) → (∀ s' post', ok s' → μ s' < μ s → (∀ r, Q s' r → post' r) → W d post' s') → W (d + 1) post s) :
    ∀ d s post, ok s → μ s < d → (∀ r, Q s r → post r) → W d post s := by
  intro d
  induction d with
  | zero => intro s post _ h; omega
  | succ d ih =>
    intro s post ho hm hp
    exact hs d s post ho hp (fun s' post' ho' hm' hp' => ih s' post' ho' (by omega) hp')
def bx_sum (f : Nat → Int32) : Nat → Int32
  | 0 => 0
  | n + 1 => bx_sum f n + f n
theorem ek_u {A : Prop} {B : Nat → Prop} {k N : Nat} (hk : k < N) (h : B k) : (some k = none → A) ∧ (∀ y : Nat, some k = some y → (y < N ∧ B y)) :=
  ⟨fun z => absurd z (Option.some_ne_none k), fun _ e => (by cases e; exact ⟨hk, h⟩)⟩
theorem ek_nu {A : Prop} {B : Nat → Prop} (h : A) : ((none : Option Nat) = none → A) ∧ (∀ y : Nat, (none : Option Nat) = some y → B y) :=
  ⟨fun _ => h, fun _ e => (by cases e)⟩
theorem ek_if {c d A B : Prop} (e : c ↔ d) (f : d → A) (g : ¬ d → B) : (c → A) ∧ (¬ c → B) :=
  ⟨fun z => f (e.mp z), fun z => g (fun y => z (e.mpr y))⟩
theorem ek_v {α : Sort _} {P : α → Prop} {a b : α} (e : a = b) (h : P b) : P a := e ▸ h
theorem co_some {x : Option Nat} {A : Prop} {B : Nat → Prop} (i : Nat) (h : B i) (hx : x = some i := by rfl) : (x = none → A) ∧ (∀ y : Nat, x = some y → B y) := by
  subst hx
  exact ⟨fun e => (nomatch e), fun y e => Option.some.inj e ▸ h⟩
theorem co_none {x : Option Nat} {A : Prop} {B : Nat → Prop} (h : A) (hx : x = none := by rfl) : (x = none → A) ∧ (∀ y : Nat, x = some y → B y) := by
  subst hx
  exact ⟨fun _ => h, fun y e => (nomatch e)⟩
theorem co_any {x : Option Nat} {A : Prop} {B : Nat → Prop} (hn : x = none → A) (hs : ∀ i : Nat, x = some i → B i) : (x = none → A) ∧ (∀ y : Nat, x = some y → B y) := ⟨hn, hs⟩
theorem co_2 {P : Nat → Prop} (h0 : P 0) (h1 : P 1) {i : Nat} (hi : i < 2) : P i :=
  match i, hi with
  | 0, _ => h0
  | 1, _ => h1
theorem co_3 {P : Nat → Prop} (h0 : P 0) (h1 : P 1) (h2 : P 2) {i : Nat} (hi : i < 3) : P i :=
  match i, hi with
  | 0, _ => h0
  | 1, _ => h1
  | 2, _ => h2
theorem co_4 {P : Nat → Prop} (h0 : P 0) (h1 : P 1) (h2 : P 2) (h3 : P 3) {i : Nat} (hi : i < 4) : P i :=
  match i, hi with
  | 0, _ => h0
  | 1, _ => h1
  | 2, _ => h2
  | 3, _ => h3
theorem co_dec {N : Nat} {P : Nat → Prop} [DecidablePred P] (h : (List.range N).all (fun i => decide (P i)) = true) {i : Nat} (hi : i < N) : P i := by
  have := List.all_eq_true.mp h i (List.mem_range.mpr hi)
  exact of_decide_eq_true this
theorem co_tab {α : Type} {l : List α} {d : α} {P : α → Prop} (h : ∀ a, a ∈ l → P a) {i : Nat} (hi : i < l.length) : P (l.getD i d) := by
  rw [List.getD_eq_getElem?_getD, List.getElem?_eq_getElem hi]
  exact h _ (List.getElem_mem hi)
theorem pk_mu {x : Int32} {L : Nat} (h0 : ¬ x < 0) (h : ¬ nI L ≤ x) (hL : L < 2 ^ 31) : ∃ j : Nat, j < L ∧ x = nI j ∧ x + 1 = nI (j + 1) ∧ x.toNatClampNeg = j ∧ L - (x + 1).toNatClampNeg < L - x.toNatClampNeg := by
  obtain ⟨j, hj, rfl⟩ := nI_of h0
  have hl : j < L := Nat.not_le.mp fun q => h (nI_le q hj)
  refine ⟨j, hl, rfl, nI_1 j, nI_clamp hj, ?_⟩
  rw [nI_1, nI_clamp (by omega), nI_clamp hj]
  omega
theorem op_s {α : Type} {r : Option α} {A : Prop} {B : α → Prop} {y : α} (h : r = some y) (b : B y) : (r = none → A) ∧ ∀ z, r = some z → B z :=
  ⟨fun e => (by rw [h] at e; cases e), fun z e => (by rw [h] at e; cases e; exact b)⟩
def l_holds {α : Type} (a : Nat → Option Nat) (LP : List Nat) (p : Nat → α) (c : Nat) (b : Nat → α) : Prop :=
  ∀ j, j < c → ∃ y, a j = some y ∧ y ∈ LP ∧ p y = b j
theorem l_holds_0 {α : Type} {a : Nat → Option Nat} {LP : List Nat} {p b : Nat → α} : l_holds a LP p 0 b := fun j h => absurd h (Nat.not_lt_zero j)
theorem l_in_new (LP : List Nat) (q : Nat) : q ∈ LP ++ [q] := List.mem_append.mpr (Or.inr (List.mem_singleton.mpr rfl))
def l_sum (b : Nat → Int32) : Nat → Int32
  | 0 => 0
  | k + 1 => l_sum b k + b k
theorem sb_shr0 (x : Int32) : x >>> ((0 : Int32) &&& 31) = x := by
  rw [show ((0 : Int32) &&& 31) = 0 by decide]
  simp
theorem sb_shl0 (x : Int32) : x <<< ((0 : Int32) &&& 31) = x := by
  rw [show ((0 : Int32) &&& 31) = 0 by decide]
  simp
theorem sb_cl0 : (0 : Int32).toNatClampNeg = 0 := by decide
theorem sb_m1 {p : Nat} (h : 0 < p) : nI p + (-1) = nI (p - 1) := by
  obtain ⟨q, rfl⟩ : ∃ q, p = q + 1 := ⟨p - 1, by omega⟩
  exact pk_m1 q
def sb_b (c : Nat) : Int32 := (nI c).toInt8.toInt32
theorem sb_byte : ∀ c, c < 256 → sb_b c &&& 255 = nI c ∧ ((nI c).toUInt32 % 65536).toInt32 = nI c ∧ nI c ≤ 255 := by decide +kernel
def sb_Fit (a : Nat → Int32) : Prop := ∀ j, fits .byte (.int (a j)) = true
def sb_Lat (t : Nat → Nat) (n : Nat) (a : Nat → Int32) : Prop := ∀ j, j < n → t j < 256 ∧ a j = sb_b (t j)
theorem sb_fitB (c : Nat) : fits .byte (.int (sb_b c)) = true := pk_fb _
theorem sb_fit0 : sb_Fit (fun _ => 0) := fun _ => by
  show fits .byte (.int 0) = true
  decide
theorem sb_fitU {a : Nat → Int32} {k : Nat} {x : Int32} (h : sb_Fit a) (hx : fits .byte (.int x) = true) : sb_Fit (upd a k x) := by
  intro j
  by_cases e : j = k
  · subst e
    rw [pk_us]
    exact hx
  · rw [pk_un e]
    exact h j
def sb_cat (t : Nat → Nat) (n : Nat) (s : Nat → Nat) : Nat → Nat := fun j => if j < n then t j else s (j - n)
theorem sb_cat_lo {t s : Nat → Nat} {n j : Nat} (h : j < n) : sb_cat t n s j = t j := if_pos h
theorem sb_cat_hi {t s : Nat → Nat} {n j : Nat} : sb_cat t n s (n + j) = s j := by
  show (if n + j < n then t (n + j) else s (n + j - n)) = s j
  rw [if_neg (by omega), Nat.add_sub_cancel_left]
theorem sb_latPut {t s : Nat → Nat} {n w : Nat} {a a' : Nat → Int32} (h : sb_Lat t n a) (hk : ∀ j, j < n → a' j = a j) (hs : ∀ i, i < w → s i < 256 ∧ a' (n + i) = sb_b (s i)) : sb_Lat (sb_cat t n s) (n + w) a' := by
  intro j hj
  by_cases e : j < n
  · rw [sb_cat_lo e, hk j e]
    exact h j e
  · obtain ⟨i, rfl⟩ : ∃ i, j = n + i := ⟨j - n, by omega⟩
    rw [sb_cat_hi]
    exact hs i (by omega)
theorem sb_latKeep {t : Nat → Nat} {n : Nat} {a a' : Nat → Int32} (h : sb_Lat t n a) (hk : ∀ j, j < n → a' j = a j) : sb_Lat t n a' := fun j hj => by
  rw [hk j hj]
  exact h j hj
def sb_cap (q m : Nat) : Nat := if q ≤ m then m else if 2 * m + 2 < q then q else 2 * m + 2
def sb_Room (q m mc ms : Nat) : Prop := q ≤ m ∨ (1 ≤ mc ∧ sb_cap q m ≤ ms ∧ sb_cap q m ≤ 65536)
theorem sb_cap_ge (q m : Nat) : q ≤ sb_cap q m := by
  unfold sb_cap
  split
  · omega
  · split <;> omega
theorem sb_cap_gem (q m : Nat) : m ≤ sb_cap q m := by
  unfold sb_cap
  split
  · omega
  · split <;> omega
theorem sb_cap_le {q m mc ms : Nat} (hm : m ≤ 65536) (hr : sb_Room q m mc ms) : sb_cap q m ≤ 65536 := by
  rcases hr with h | h
  · rw [sb_cap, if_pos h]
    exact hm
  · exact h.2.2
theorem sb_at {P : Int32 → Prop} {x y : Int32} (e : x = y) (h : P y) : P x := e ▸ h
def sb_dg (w : Nat) : Nat := if w < 10 then 1 else if w < 100 then 2 else if w < 1000 then 3 else if w < 10000 then 4 else if w < 100000 then 5 else if w < 1000000 then 6 else if w < 10000000 then 7 else if w < 100000000 then 8 else if w < 1000000000 then 9 else 10
def sb_dec (v : Nat) : Nat → Nat := fun i => 48 + v / 10 ^ (sb_dg v - 1 - i) % 10
theorem sb_dg_in (w : Nat) : 1 ≤ sb_dg w ∧ sb_dg w ≤ 10 := by
  unfold sb_dg
  constructor <;> (repeat' split) <;> omega
theorem sb_dg100 {w : Nat} (h : 100 ≤ w) (hw : w < 2 ^ 31) : sb_dg w = sb_dg (w / 100) + 2 := by
  rw [sb_dg, sb_dg, if_neg (show ¬ w < 10 by omega), if_neg (show ¬ w < 100 by omega)]
  by_cases h3 : w < 1000
  · rw [if_pos h3, if_pos (show w / 100 < 10 by omega)]
  rw [if_neg h3, if_neg (show ¬ w / 100 < 10 by omega)]
  by_cases h4 : w < 10000
  · rw [if_pos h4, if_pos (show w / 100 < 100 by omega)]
  rw [if_neg h4, if_neg (show ¬ w / 100 < 100 by omega)]
  by_cases h5 : w < 100000
  · rw [if_pos h5, if_pos (show w / 100 < 1000 by omega)]
  rw [if_neg h5, if_neg (show ¬ w / 100 < 1000 by omega)]
  by_cases h6 : w < 1000000
  · rw [if_pos h6, if_pos (show w / 100 < 10000 by omega)]
  rw [if_neg h6, if_neg (show ¬ w / 100 < 10000 by omega)]
  by_cases h7 : w < 10000000
  · rw [if_pos h7, if_pos (show w / 100 < 100000 by omega)]
  rw [if_neg h7, if_neg (show ¬ w / 100 < 100000 by omega)]
  by_cases h8 : w < 100000000
  · rw [if_pos h8, if_pos (show w / 100 < 1000000 by omega)]
  rw [if_neg h8, if_neg (show ¬ w / 100 < 1000000 by omega)]
  by_cases h9 : w < 1000000000
  · rw [if_pos h9, if_pos (show w / 100 < 10000000 by omega)]
  rw [if_neg h9, if_neg (show ¬ w / 100 < 10000000 by omega)]
  rw [if_pos (show w / 100 < 100000000 by omega)]
theorem sb_negT {w : Nat} (h : w < 2 ^ 31) : (-nI w).toInt = -(w : Int) := by
  rw [Int32.toInt_neg, nI_toInt h]
  exact Int.bmod_eq_of_le (by omega) (by omega)
theorem sb_nle {a b : Nat} (ha : a < 2 ^ 31) (hb : b < 2 ^ 31) : -nI a ≤ -nI b ↔ b ≤ a := by
  rw [Int32.le_iff_toInt_le, sb_negT ha, sb_negT hb]
  omega
theorem sb_nlt {a b : Nat} (ha : a < 2 ^ 31) (hb : b < 2 ^ 31) : -nI a < -nI b ↔ b < a := by
  rw [Int32.lt_iff_toInt_lt, sb_negT ha, sb_negT hb]
  omega
theorem sb_cmp {A B : Prop} {x : Int32} (v c : Nat) (f : c ≤ v → A) (g : v < c → B) (hv : v < 2 ^ 31) (hx : x = -nI c := by rfl) (hc : c < 2 ^ 31 := by omega) : (-nI v ≤ x → A) ∧ (¬ -nI v ≤ x → B) := by
  subst hx
  rw [sb_nle hv hc]
  exact ⟨f, fun z => g (by omega)⟩
theorem sb_ndiv {w : Nat} (hw : w < 2 ^ 31) : (-nI w) / 100 = -nI (w / 100) := by
  apply Int32.toInt_inj.mp
  have h100 : (100 : Int32).toInt = 100 := by decide
  rw [Int32.toInt_div, sb_negT hw, h100, sb_negT (by omega), Int.neg_tdiv, Int.tdiv_eq_ediv_of_nonneg (by omega), Int.bmod_eq_of_le (by omega) (by omega)]
  omega
theorem sb_nrem {w : Nat} (hw : w < 2 ^ 31) : (-nI (w / 100)) * 100 - (-nI w) = nI (w % 100) := by
  have h := pk_rem (a := w) (d := 100) hw (by decide) (by decide)
  rw [pk_div hw (by decide) (by decide)] at h
  rw [← h]
  show (-nI (w / 100)) * nI 100 - (-nI w) = nI w - nI (w / 100) * nI 100
  rw [Int32.neg_mul, Int32.sub_neg, Int32.add_comm, ← Int32.sub_eq_add_neg]
end
section
/-! rows on bits, shifts and unsigned numbers, to paste: each family out of a closed proof of our own, whole with what it rests on; each by itself clean at Lean in its own claim (generation 39, form 5). Take a family whole -/
/-! ===== Int32 by its bits: bt x i ===== -/
def bt (x : Int32) (i : Nat) : Bool := x.toBitVec.getLsbD i
theorem b_ext {x y : Int32} (h : ∀ i, i < 32 → bt x i = bt y i) : x = y := Int32.toBitVec_inj.mp (BitVec.eq_of_getLsbD_eq (fun i hi => h i hi))
theorem b_or (x y : Int32) (i : Nat) : bt (x ||| y) i = (bt x i || bt y i) := by unfold bt; rw [Int32.toBitVec_or, BitVec.getLsbD_or]
theorem b_and (x y : Int32) (i : Nat) : bt (x &&& y) i = (bt x i && bt y i) := by unfold bt; rw [Int32.toBitVec_and, BitVec.getLsbD_and]
theorem b_xor (x y : Int32) (i : Nat) : bt (x ^^^ y) i = (bt x i ^^ bt y i) := by unfold bt; rw [Int32.toBitVec_xor, BitVec.getLsbD_xor]
theorem b_big {x : Int32} {i : Nat} (h : 32 ≤ i) : bt x i = false := BitVec.getLsbD_of_ge _ _ h
theorem b_255 (i : Nat) : bt 255 i = decide (i < 8) := by
  rcases Nat.lt_or_ge i 32 with h | h
  · exact (by decide +kernel : ∀ i, i < 32 → bt 255 i = decide (i < 8)) i h
  · rw [b_big h, decide_eq_false (by omega)]
theorem b_65535 (i : Nat) : bt 65535 i = decide (i < 16) := by
  rcases Nat.lt_or_ge i 32 with h | h
  · exact (by decide +kernel : ∀ i, i < 32 → bt 65535 i = decide (i < 16)) i h
  · rw [b_big h, decide_eq_false (by omega)]
theorem b_m1 : ∀ i, i < 32 → bt (-1) i = true := by decide +kernel
theorem b_0 (i : Nat) : bt 0 i = false := BitVec.getLsbD_zero
theorem s_l : ∀ n, n < 32 → ((nI n &&& 31).toBitVec.smod 32).toNat = n := by decide +kernel
theorem s_u : ∀ n, n < 32 → (((nI n).toUInt32 &&& Int32.toUInt32 31).toBitVec % 32).toNat = n := by decide +kernel
theorem b_shl (n : Nat) (hn : n < 32) (x : Int32) {i : Nat} (hi : i < 32) : bt (x <<< (nI n &&& 31)) i = (decide (n ≤ i) && bt x (i - n)) := by
  unfold bt
  rw [Int32.toBitVec_shiftLeft]
  show (x.toBitVec <<< ((nI n &&& 31).toBitVec.smod 32).toNat).getLsbD i = _
  rw [s_l n hn, BitVec.getLsbD_shiftLeft]
  rcases Nat.lt_or_ge i n with h | h
  · simp [h, Nat.not_le.mpr h]
  · simp [hi, h, Nat.not_lt.mpr h]
theorem b_ushr (n : Nat) (hn : n < 32) (x : Int32) (i : Nat) : bt ((x.toUInt32 >>> ((nI n).toUInt32 &&& Int32.toUInt32 31)).toInt32) i = bt x (n + i) := by
  show (x.toUInt32 >>> ((nI n).toUInt32 &&& Int32.toUInt32 31)).toBitVec.getLsbD i = x.toUInt32.toBitVec.getLsbD (n + i)
  rw [UInt32.toBitVec_shiftRight]
  show (x.toUInt32.toBitVec >>> (((nI n).toUInt32 &&& Int32.toUInt32 31).toBitVec % 32).toNat).getLsbD i = _
  rw [s_u n hn, BitVec.getLsbD_ushiftRight]
theorem b_sshr (n : Nat) (hn : n < 32) (x : Int32) {i : Nat} (hi : i < 32) : bt (x >>> (nI n &&& 31)) i = if n + i < 32 then bt x (n + i) else bt x 31 := by
  unfold bt
  rw [Int32.toBitVec_shiftRight]
  show (x.toBitVec.sshiftRight ((nI n &&& 31).toBitVec.smod 32).toNat).getLsbD i = _
  rw [s_l n hn, BitVec.getLsbD_sshiftRight, BitVec.msb_eq_getLsbD_last]
  simp [hi]
theorem b_shl8 (x : Int32) {i : Nat} (hi : i < 32) : bt (x <<< ((8 : Int32) &&& 31)) i = (decide (8 ≤ i) && bt x (i - 8)) := b_shl 8 (by omega) x hi
theorem b_shl16 (x : Int32) {i : Nat} (hi : i < 32) : bt (x <<< ((16 : Int32) &&& 31)) i = (decide (16 ≤ i) && bt x (i - 16)) := b_shl 16 (by omega) x hi
theorem b_shl24 (x : Int32) {i : Nat} (hi : i < 32) : bt (x <<< ((24 : Int32) &&& 31)) i = (decide (24 ≤ i) && bt x (i - 24)) := b_shl 24 (by omega) x hi
theorem b_sshr8 (x : Int32) {i : Nat} (hi : i < 32) : bt (x >>> ((8 : Int32) &&& 31)) i = if 8 + i < 32 then bt x (8 + i) else bt x 31 := b_sshr 8 (by omega) x hi
end
section
/-! counting: zc_n P n is the number of x < n with P x -/
noncomputable def zc_b (P : Prop) : Nat := @ite Nat P (Classical.propDecidable P) 1 0
theorem zc_b_t {P : Prop} (h : P) : zc_b P = 1 := by unfold zc_b; rw [if_pos h]
theorem zc_b_f {P : Prop} (h : ¬ P) : zc_b P = 0 := by unfold zc_b; rw [if_neg h]
theorem zc_b_le (P : Prop) : zc_b P ≤ 1 := by
  rcases Classical.em P with h | h
  · rw [zc_b_t h]; omega
  · rw [zc_b_f h]; omega
theorem zc_b_mono {P Q : Prop} (h : P → Q) : zc_b P ≤ zc_b Q := by
  rcases Classical.em P with hp | hp
  · rw [zc_b_t hp, zc_b_t (h hp)]; omega
  · rw [zc_b_f hp]; omega
theorem zc_b_eq {P Q : Prop} (h : P ↔ Q) : zc_b P = zc_b Q := Nat.le_antisymm (zc_b_mono h.mp) (zc_b_mono h.mpr)
noncomputable def zc_n (P : Nat → Prop) : Nat → Nat
  | 0 => 0
  | k + 1 => zc_n P k + zc_b (P k)
theorem zc_n_s (P : Nat → Prop) (k : Nat) : zc_n P (k + 1) = zc_n P k + zc_b (P k) := rfl
theorem zc_n_mono {P Q : Nat → Prop} : ∀ {N : Nat}, (∀ k, k < N → P k → Q k) → zc_n P N ≤ zc_n Q N
  | 0, _ => Nat.le_refl _
  | N + 1, h => by
    have a := zc_n_mono (P := P) (Q := Q) (N := N) (fun k hk => h k (by omega))
    have b := zc_b_mono (h N (by omega))
    rw [zc_n_s, zc_n_s]; omega
theorem zc_n_eq {P Q : Nat → Prop} {N : Nat} (h : ∀ k, k < N → (P k ↔ Q k)) : zc_n P N = zc_n Q N :=
  Nat.le_antisymm (zc_n_mono fun k hk => (h k hk).mp) (zc_n_mono fun k hk => (h k hk).mpr)
theorem zc_n_le (P : Nat → Prop) : ∀ N, zc_n P N ≤ N
  | 0 => Nat.le_refl _
  | N + 1 => by have := zc_n_le P N; have := zc_b_le (P N); rw [zc_n_s]; omega
theorem zc_n_up (P : Nat → Prop) {a : Nat} : ∀ {b : Nat}, a ≤ b → zc_n P a ≤ zc_n P b
  | 0, h => by have : a = 0 := by omega
               subst this; exact Nat.le_refl _
  | b + 1, h => by
    rcases Nat.lt_or_ge b a with z | z
    · have : a = b + 1 := by omega
      subst this; exact Nat.le_refl _
    · have := zc_n_up P z
      rw [zc_n_s]; omega
theorem zc_n_0 {P : Nat → Prop} : ∀ {N : Nat}, (∀ k, k < N → ¬ P k) → zc_n P N = 0
  | 0, _ => rfl
  | N + 1, h => by rw [zc_n_s, zc_n_0 (fun k hk => h k (by omega)), zc_b_f (h N (by omega))]
theorem zc_n_or {P Q : Nat → Prop} : ∀ {N : Nat}, (∀ k, k < N → P k → ¬ Q k) → zc_n (fun k => P k ∨ Q k) N = zc_n P N + zc_n Q N
  | 0, _ => rfl
  | N + 1, h => by
    rw [zc_n_s, zc_n_s, zc_n_s, zc_n_or (fun k hk => h k (by omega))]
    rcases Classical.em (P N) with hp | hp
    · rw [zc_b_t (Or.inl hp), zc_b_t hp, zc_b_f (h N (by omega) hp)]; omega
    · rcases Classical.em (Q N) with hq | hq
      · rw [zc_b_t (Or.inr hq), zc_b_t hq, zc_b_f hp]; omega
      · rw [zc_b_f (fun z => z.elim hp hq), zc_b_f hq, zc_b_f hp]; omega
theorem zc_n_one {a : Nat} : ∀ {N : Nat}, a < N → zc_n (fun k => k = a) N = 1
  | 0, h => by omega
  | N + 1, h => by
    rw [zc_n_s]
    rcases Nat.lt_or_ge a N with z | z
    · rw [zc_n_one z, zc_b_f (by omega)]
    · rw [zc_n_0 (fun k hk => by omega), zc_b_t (by omega)]
theorem zc_n_add {P Q : Nat → Prop} {a N : Nat} (ha : a < N) (hp : ¬ P a) (h : ∀ k, k < N → (Q k ↔ P k ∨ k = a)) : zc_n Q N = zc_n P N + 1 := by
  have e : zc_n (fun k => P k ∨ k = a) N = zc_n P N + zc_n (fun k => k = a) N := zc_n_or (fun k _ h1 h2 => hp (by rw [← h2]; exact h1))
  rw [zc_n_eq h, e, zc_n_one ha]
theorem zc_n_lt {P Q : Nat → Prop} {a N : Nat} (ha : a < N) (hp : ¬ P a) (hq : Q a) (h : ∀ k, k < N → P k → Q k) : zc_n P N + 1 ≤ zc_n Q N := by
  have e := zc_n_add (P := P) (Q := fun k => P k ∨ k = a) ha hp (fun k _ => Iff.rfl)
  rw [← e]
  refine zc_n_mono (fun k hk hz => ?_)
  rcases hz with z | z
  · exact h k hk z
  · rw [z]; exact hq
/-- an interval -/
theorem zc_n_iv {a b : Nat} : ∀ {N : Nat}, a ≤ b → b ≤ N → zc_n (fun k => a ≤ k ∧ k < b) N = b - a
  | 0, h1, h2 => by rw [show b = 0 by omega]; exact (Nat.zero_sub a).symm
  | N + 1, h1, h2 => by
    rcases Nat.lt_or_ge N b with z | z
    · have hb : b = N + 1 := by omega
      rcases Nat.lt_or_ge N a with y | y
      · rw [zc_n_0 (fun k hk => by omega)]; omega
      · rw [zc_n_s, zc_b_t (by omega), zc_n_eq (Q := fun k => a ≤ k ∧ k < N) (fun k hk => by omega), zc_n_iv y (Nat.le_refl N)]
        omega
    · rw [zc_n_s, zc_n_iv h1 z, zc_b_f (by omega)]; rfl
/-- below a bound: counted in the long range -/
theorem zc_n_cut {P : Nat → Prop} {a : Nat} : ∀ {N : Nat}, a ≤ N → zc_n (fun k => P k ∧ k < a) N = zc_n P a
  | 0, h => by rw [show a = 0 by omega]; rfl
  | N + 1, h => by
    rcases Nat.lt_or_ge N a with z | z
    · have e : a = N + 1 := by omega
      rw [e]
      exact zc_n_eq (fun k hk => ⟨fun y => y.1, fun y => ⟨y, hk⟩⟩)
    · rw [zc_n_s, zc_n_cut z, zc_b_f (by omega)]; rfl
/-- two members with as many before them are one -/
theorem zc_n_inj {P : Nat → Prop} {a b : Nat} (ha : P a) (hb : P b) (h : zc_n P a = zc_n P b) : a = b := by
  rcases Nat.lt_trichotomy a b with z | z | z
  · have x := zc_n_up P (a := a + 1) (b := b) z
    rw [zc_n_s, zc_b_t ha] at x; omega
  · exact z
  · have x := zc_n_up P (a := b + 1) (b := a) z
    rw [zc_n_s, zc_b_t hb] at x; omega
/-- a full count -/
theorem zc_n_all {P : Nat → Prop} {N : Nat} (h : N ≤ zc_n P N) : ∀ k, k < N → P k := by
  intro k hk
  refine Classical.byContradiction fun hp => ?_
  have x := zc_n_lt (P := P) (Q := fun _ => True) hk hp trivial (fun _ _ _ => trivial)
  have y := zc_n_le (fun _ => True) N
  omega
end
section
/-! the grid of 14 by 14 places: steps, roots, and the tree of components -/
def zc_A4 (p q : Nat) : Prop := (q % 14 = p % 14 ∧ (q / 14 = p / 14 + 1 ∨ p / 14 = q / 14 + 1)) ∨ (q / 14 = p / 14 ∧ (q % 14 = p % 14 + 1 ∨ p % 14 = q % 14 + 1))
def zc_A9 (p q : Nat) : Prop := q % 14 ≤ p % 14 + 1 ∧ p % 14 ≤ q % 14 + 1 ∧ q / 14 ≤ p / 14 + 1 ∧ p / 14 ≤ q / 14 + 1
def zc_St (B : Nat → Bool) (p q : Nat) : Prop := p < 196 ∧ q < 196 ∧ B p = B q ∧ (zc_A4 p q ∨ (B p = true ∧ zc_A9 p q))
/-- no black place at the edge -/
def zc_Fr (B : Nat → Bool) : Prop := ∀ p, B p = true → 1 ≤ p % 14 ∧ p % 14 ≤ 12 ∧ 1 ≤ p / 14 ∧ p / 14 ≤ 12
def zc_Cl (B : Nat → Bool) (S : Nat → Prop) : Prop := ∀ x y, zc_St B x y → S x → S y
def zc_Cn (B : Nat → Bool) (p q : Nat) : Prop := ∀ S : Nat → Prop, zc_Cl B S → S p → S q
/-- r is the root function: the first place that steps lead to -/
def zc_Rt (B : Nat → Bool) (r : Nat → Nat) : Prop := (∀ p, p < 196 → r p ≤ p) ∧ (∀ p q, zc_St B p q → r p = r q) ∧ (∀ p, p < 196 → zc_Cn B p (r p))
theorem zc_A4_s {p q : Nat} (h : zc_A4 p q) : zc_A4 q p := by unfold zc_A4 at *; omega
theorem zc_St_s {B : Nat → Bool} {p q : Nat} (h : zc_St B p q) : zc_St B q p := by
  obtain ⟨h1, h2, h3, h4⟩ := h
  refine ⟨h2, h1, h3.symm, ?_⟩
  rcases h4 with h4 | ⟨hb, h4⟩
  · exact Or.inl (zc_A4_s h4)
  · exact Or.inr ⟨by rw [← h3]; exact hb, by unfold zc_A9 at *; omega⟩
theorem zc_Cn_r {B : Nat → Bool} {p : Nat} : zc_Cn B p p := fun _ _ h => h
theorem zc_Cn_t {B : Nat → Bool} {p q s : Nat} (h1 : zc_Cn B p q) (h2 : zc_Cn B q s) : zc_Cn B p s := fun S hS h => h2 S hS (h1 S hS h)
theorem zc_Cn_s {B : Nat → Bool} {p q : Nat} (h : zc_Cn B p q) : zc_Cn B q p := fun S hS hq =>
  Classical.byContradiction fun hp => h (fun x => ¬ S x) (fun x y hxy hx hy => hx (hS y x (zc_St_s hxy) hy)) hp hq
theorem zc_Cn_1 {B : Nat → Bool} {p q : Nat} (h : zc_St B p q) : zc_Cn B p q := fun _ hS hp => hS p q h hp
theorem zc_St_4 {B : Nat → Bool} {p q : Nat} (hp : p < 196) (hq : q < 196) (hb : B p = B q) (h : zc_A4 p q) : zc_St B p q := ⟨hp, hq, hb, Or.inl h⟩
section
variable {B : Nat → Bool} {r : Nat → Nat}
theorem zc_Rt_c {α : Type} (hR : zc_Rt B r) (f : Nat → α) (hf : ∀ x y, zc_St B x y → f x = f y) {p : Nat} (hp : p < 196) : f (r p) = f p :=
  hR.2.2 p hp (fun x => f x = f p) (fun x y h hx => (hf x y h).symm.trans hx) rfl
theorem zc_Rt_lt (hR : zc_Rt B r) {p : Nat} (hp : p < 196) : r p < 196 := Nat.lt_of_le_of_lt (hR.1 p hp) hp
theorem zc_Rt_i (hR : zc_Rt B r) {p : Nat} (hp : p < 196) : r (r p) = r p := zc_Rt_c hR r hR.2.1 hp
theorem zc_Rt_B (hR : zc_Rt B r) {p : Nat} (hp : p < 196) : B (r p) = B p := zc_Rt_c hR B (fun _ _ h => h.2.2.1) hp
theorem zc_Rt_0 (hR : zc_Rt B r) : r 0 = 0 := Nat.le_zero.mp (hR.1 0 (by omega))
theorem zc_Rt_4 (hR : zc_Rt B r) {p q : Nat} (hp : p < 196) (hq : q < 196) (hb : B p = B q) (h : zc_A4 p q) : r p = r q := hR.2.1 p q (zc_St_4 hp hq hb h)
theorem zc_Rt_ne (hR : zc_Rt B r) {p q : Nat} (hp : p < 196) (hq : q < 196) (hb : B p ≠ B q) : r p ≠ r q := fun e => hb (by rw [← zc_Rt_B hR hp, ← zc_Rt_B hR hq, e])
theorem zc_Fr_w (hF : zc_Fr B) {p : Nat} (h : p % 14 = 0 ∨ p / 14 = 0 ∨ 12 < p % 14 ∨ 12 < p / 14) : B p = false := by
  cases hb : B p with
  | false => rfl
  | true => have := hF p hb; omega
theorem zc_col (hF : zc_Fr B) (hR : zc_Rt B r) : ∀ y, y < 14 → r (14 * y) = 0
  | 0, _ => zc_Rt_0 hR
  | y + 1, h => by
    rw [← zc_col hF hR y (by omega)]
    exact zc_Rt_4 hR (by omega) (by omega) (by rw [zc_Fr_w hF (Or.inl (by omega)), zc_Fr_w hF (Or.inl (by omega))]) (by unfold zc_A4; omega)
theorem zc_row0 (hF : zc_Fr B) (hR : zc_Rt B r) : ∀ x, x < 14 → r x = 0
  | 0, _ => zc_Rt_0 hR
  | x + 1, h => by
    rw [← zc_row0 hF hR x (by omega)]
    exact zc_Rt_4 hR (by omega) (by omega) (by rw [zc_Fr_w hF (Or.inr (Or.inl (by omega))), zc_Fr_w hF (Or.inr (Or.inl (by omega)))]) (by unfold zc_A4; omega)
theorem zc_west (hF : zc_Fr B) (hR : zc_Rt B r) {f : Nat} (hf : f < 196) (hr : r f = f) (h0 : f ≠ 0) : f % 14 ≠ 0 ∧ zc_A4 (f - 1) f ∧ B (f - 1) ≠ B f ∧ r (f - 1) < f := by
  have h1 : f % 14 ≠ 0 := by
    intro z
    have e := zc_col hF hR (f / 14) (by omega)
    rw [show 14 * (f / 14) = f by omega, hr] at e
    exact h0 e
  have h2 : zc_A4 (f - 1) f := by unfold zc_A4; omega
  have h3 := hR.1 (f - 1) (by omega)
  refine ⟨h1, h2, fun e => ?_, by omega⟩
  have e := zc_Rt_4 hR (by omega) hf e h2
  rw [hr] at e
  omega
theorem zc_blk0 (E : Nat → Nat → Int) (E0 : ∀ i, E i i = 0) (Es : ∀ i j, E j i = - E i j) (A B C D : Bool) (a b c d : Nat) (hab : A = B → a = b) (hbd : B = D → b = d) (hac : A = C → a = c) (hcd : C = D → c = d) (had : A = true → D = true → a = d) (hbc : B = true → C = true → b = c) : E a b + E b d = E a c + E c d := by
  have e1 := Es a b
  have e2 := Es b d
  have e3 := Es a c
  have e4 := Es c d
  have e5 := E0 a
  have e6 := E0 b
  have e7 := E0 c
  have e8 := E0 d
  cases A <;> cases B <;> cases C <;> cases D <;>
    (try (have h := hab rfl; subst h)) <;> (try (have h := hbd rfl; subst h)) <;> (try (have h := hac rfl; subst h)) <;>
    (try (have h := hcd rfl; subst h)) <;> (try (have h := had rfl rfl; subst h)) <;> (try (have h := hbc rfl rfl; subst h)) <;> omega
theorem zc_blk (hR : zc_Rt B r) (E : Nat → Nat → Int) (E0 : ∀ i, E i i = 0) (Es : ∀ i j, E j i = - E i j) {x y : Nat} (hx : x < 13) (hy : y < 13) :
    E (r (14 * y + x)) (r (14 * y + (x + 1))) + E (r (14 * y + (x + 1))) (r (14 * (y + 1) + (x + 1))) = E (r (14 * y + x)) (r (14 * (y + 1) + x)) + E (r (14 * (y + 1) + x)) (r (14 * (y + 1) + (x + 1))) := by
  refine zc_blk0 E E0 Es (B (14 * y + x)) (B (14 * y + (x + 1))) (B (14 * (y + 1) + x)) (B (14 * (y + 1) + (x + 1))) _ _ _ _ ?_ ?_ ?_ ?_ ?_ ?_
  · exact fun h => zc_Rt_4 hR (by omega) (by omega) h (by unfold zc_A4; omega)
  · exact fun h => zc_Rt_4 hR (by omega) (by omega) h (by unfold zc_A4; omega)
  · exact fun h => zc_Rt_4 hR (by omega) (by omega) h (by unfold zc_A4; omega)
  · exact fun h => zc_Rt_4 hR (by omega) (by omega) h (by unfold zc_A4; omega)
  · exact fun h1 h2 => hR.2.1 _ _ ⟨by omega, by omega, h1.trans h2.symm, Or.inr ⟨h1, by unfold zc_A9; omega⟩⟩
  · exact fun h1 h2 => hR.2.1 _ _ ⟨by omega, by omega, h1.trans h2.symm, Or.inr ⟨h1, by unfold zc_A9; omega⟩⟩
end
def zc_ph (E : Nat → Nat → Int) (r : Nat → Nat) (x : Nat) : Nat → Int
  | 0 => 0
  | y + 1 => zc_ph E r x y + E (r (14 * y + x)) (r (14 * (y + 1) + x))
section
variable {B : Nat → Bool} {r : Nat → Nat} {E : Nat → Nat → Int}
theorem zc_ph_h (hF : zc_Fr B) (hR : zc_Rt B r) (E0 : ∀ i, E i i = 0) (Es : ∀ i j, E j i = - E i j) : ∀ y, y < 14 → ∀ x, x < 13 → zc_ph E r (x + 1) y = zc_ph E r x y + E (r (14 * y + x)) (r (14 * y + (x + 1)))
  | 0, _, x, hx => by
    rw [show 14 * 0 + x = x by omega, show 14 * 0 + (x + 1) = x + 1 by omega, zc_row0 hF hR x (by omega), zc_row0 hF hR (x + 1) (by omega), E0]
    rfl
  | y + 1, hy, x, hx => by
    have ih := zc_ph_h hF hR E0 Es y (by omega) x hx
    have b := zc_blk hR E E0 Es hx (y := y) (by omega)
    have e1 : zc_ph E r (x + 1) (y + 1) = zc_ph E r (x + 1) y + E (r (14 * y + (x + 1))) (r (14 * (y + 1) + (x + 1))) := rfl
    have e2 : zc_ph E r x (y + 1) = zc_ph E r x y + E (r (14 * y + x)) (r (14 * (y + 1) + x)) := rfl
    rw [e1, e2, ih]
    omega
theorem zc_ph4v (Es : ∀ i j, E j i = - E i j) {p q : Nat} (h1 : q % 14 = p % 14) (h2 : q / 14 = p / 14 + 1) : zc_ph E r (q % 14) (q / 14) = zc_ph E r (p % 14) (p / 14) + E (r p) (r q) := by
  have e1 : 14 * (p / 14) + p % 14 = p := by omega
  have e2 : 14 * (p / 14 + 1) + p % 14 = q := by omega
  have e3 : zc_ph E r (p % 14) (p / 14 + 1) = zc_ph E r (p % 14) (p / 14) + E (r (14 * (p / 14) + p % 14)) (r (14 * (p / 14 + 1) + p % 14)) := rfl
  rw [h1, h2, e3, e1, e2]
theorem zc_ph4h (hF : zc_Fr B) (hR : zc_Rt B r) (E0 : ∀ i, E i i = 0) (Es : ∀ i j, E j i = - E i j) {p q : Nat} (hp : p < 196) (h1 : q / 14 = p / 14) (h2 : q % 14 = p % 14 + 1) : zc_ph E r (q % 14) (q / 14) = zc_ph E r (p % 14) (p / 14) + E (r p) (r q) := by
  have e1 : 14 * (p / 14) + p % 14 = p := by omega
  have e2 : 14 * (p / 14) + (p % 14 + 1) = q := by omega
  have e3 := zc_ph_h (E := E) hF hR E0 Es (p / 14) (by omega) (p % 14) (by omega)
  rw [e1, e2] at e3
  rw [h1, h2, e3]
theorem zc_ph4 (hF : zc_Fr B) (hR : zc_Rt B r) (E0 : ∀ i, E i i = 0) (Es : ∀ i j, E j i = - E i j) {p q : Nat} (hp : p < 196) (hq : q < 196) (h : zc_A4 p q) : zc_ph E r (q % 14) (q / 14) = zc_ph E r (p % 14) (p / 14) + E (r p) (r q) := by
  have e := Es (r q) (r p)
  rcases h with ⟨h1, h2 | h2⟩ | ⟨h1, h2 | h2⟩
  · exact zc_ph4v Es h1 h2
  · have := zc_ph4v (r := r) Es (p := q) (q := p) h1.symm h2
    omega
  · exact zc_ph4h hF hR E0 Es hp h1 h2
  · have := zc_ph4h hF hR E0 Es (p := q) (q := p) hq h1.symm h2
    omega
theorem zc_phS (hF : zc_Fr B) (hR : zc_Rt B r) (E0 : ∀ i, E i i = 0) (Es : ∀ i j, E j i = - E i j) {p q : Nat} (h : zc_St B p q) : zc_ph E r (p % 14) (p / 14) = zc_ph E r (q % 14) (q / 14) := by
  have hr := hR.2.1 p q h
  obtain ⟨hp, hq, -, h4⟩ := h
  have A : zc_A4 p q → zc_ph E r (p % 14) (p / 14) = zc_ph E r (q % 14) (q / 14) := by
    intro h4
    have e := zc_ph4 hF hR E0 Es hp hq h4
    rw [hr, E0] at e
    omega
  rcases h4 with h4 | ⟨-, h9⟩
  · exact A h4
  · unfold zc_A9 at h9
    by_cases hx : q % 14 = p % 14
    · by_cases hy : q / 14 = p / 14
      · rw [hx, hy]
      · exact A (by unfold zc_A4; omega)
    · by_cases hy : q / 14 = p / 14
      · exact A (by unfold zc_A4; omega)
      · have e1 := zc_ph4 hF hR E0 Es (p := p) (q := 14 * (p / 14) + q % 14) hp (by omega) (by unfold zc_A4; omega)
        have e2 := zc_ph4 hF hR E0 Es (p := 14 * (p / 14) + q % 14) (q := q) (by omega) hq (by unfold zc_A4; omega)
        have e3 := Es (r q) (r (14 * (p / 14) + q % 14))
        rw [hr] at e1
        omega
end
/-- the edge function of two components -/
def zc_E (f g : Nat) (i j : Nat) : Int := if i = f ∧ j = g then 1 else if i = g ∧ j = f then -1 else 0
theorem zc_E0 {f g : Nat} (h : f ≠ g) (i : Nat) : zc_E f g i i = 0 := by
  unfold zc_E; rw [if_neg (by omega), if_neg (by omega)]
theorem zc_Es {f g : Nat} (h : f ≠ g) (i j : Nat) : zc_E f g j i = - zc_E f g i j := by
  unfold zc_E
  by_cases h1 : i = f ∧ j = g
  · rw [if_neg (by omega), if_pos (by omega), if_pos (by omega)]
  · by_cases h2 : j = f ∧ i = g
    · rw [if_pos h2, if_neg h1, if_pos (by omega)]; rfl
    · rw [if_neg h2, if_neg (by omega), if_neg h1, if_neg (by omega)]; rfl
theorem zc_En {f g i j : Nat} (h1 : ¬ (i = f ∧ j = g)) (h2 : ¬ (i = g ∧ j = f)) : zc_E f g i j = 0 := by
  unfold zc_E; rw [if_neg h1, if_neg h2]
theorem zc_E1 {f g : Nat} : zc_E f g f g = 1 := if_pos ⟨rfl, rfl⟩
section
variable {B : Nat → Bool} {r : Nat → Nat}
/-- THE TREE: of two components that lie side by side one is the other's parent -/
theorem zc_key (hF : zc_Fr B) (hR : zc_Rt B r) {p q : Nat} (hp : p < 196) (hq : q < 196) (h4 : zc_A4 p q) (hne : B p ≠ B q) : (r p ≠ 0 ∧ r (r p - 1) = r q) ∨ (r q ≠ 0 ∧ r (r q - 1) = r p) := by
  refine Classical.byContradiction fun hn => ?_
  have hfg : r p ≠ r q := zc_Rt_ne hR hp hq hne
  have E0 := zc_E0 hfg
  have Es := zc_Es hfg
  have hS : ∀ x y, zc_St B x y → zc_ph (zc_E (r p) (r q)) r (x % 14) (x / 14) = zc_ph (zc_E (r p) (r q)) r (y % 14) (y / 14) := fun x y h => zc_phS hF hR E0 Es h
  have hc : ∀ x, x < 196 → zc_ph (zc_E (r p) (r q)) r (r x % 14) (r x / 14) = zc_ph (zc_E (r p) (r q)) r (x % 14) (x / 14) := fun x hx => zc_Rt_c hR (fun x => zc_ph (zc_E (r p) (r q)) r (x % 14) (x / 14)) hS hx
  have key : ∀ n h, h < n → h < 196 → r h = h → zc_ph (zc_E (r p) (r q)) r (h % 14) (h / 14) = 0 := by
    intro n
    induction n with
    | zero => intro h h1; omega
    | succ n ih =>
      intro h h1 h2 h3
      by_cases h0 : h = 0
      · subst h0; rfl
      · obtain ⟨w1, w2, w3, w4⟩ := zc_west hF hR h2 h3 h0
        have e1 := zc_ph4 hF hR E0 Es (p := h - 1) (q := h) (by omega) h2 w2
        have e2 : zc_E (r p) (r q) (r (h - 1)) (r h) = 0 := by
          rw [h3]
          refine zc_En ?_ ?_
          · rintro ⟨z1, z2⟩
            exact hn (Or.inr ⟨by omega, by rw [← z2]; exact z1⟩)
          · rintro ⟨z1, z2⟩
            exact hn (Or.inl ⟨by omega, by rw [← z2]; exact z1⟩)
        have e3 := hc (h - 1) (by omega)
        have e4 := ih (r (h - 1)) (by omega) (by omega) (zc_Rt_i hR (by omega))
        omega
  have a1 := key 196 (r p) (zc_Rt_lt hR hp) (zc_Rt_lt hR hp) (zc_Rt_i hR hp)
  have a2 := key 196 (r q) (zc_Rt_lt hR hq) (zc_Rt_lt hR hq) (zc_Rt_i hR hq)
  have a3 := hc p hp
  have a4 := hc q hq
  have a5 := zc_ph4 hF hR E0 Es hp hq h4
  rw [zc_E1] at a5
  omega
end
end
section
/-! depth, ancestors, what is reached round a component, holes -/
def zc_df (r : Nat → Nat) : Nat → Nat → Nat
  | 0, _ => 0
  | n + 1, p => if r p = 0 then 0 else zc_df r n (r p - 1) + 1
def zc_d (r : Nat → Nat) (p : Nat) : Nat := zc_df r (p + 1) p
def zc_af (r : Nat → Nat) (a : Nat) : Nat → Nat → Prop
  | 0, _ => False
  | n + 1, p => r p = a ∨ (r p ≠ 0 ∧ zc_af r a n (r p - 1))
/-- a is the root of p or of what lies around it -/
def zc_An (r : Nat → Nat) (a p : Nat) : Prop := zc_af r a (p + 1) p
theorem zc_df_e {r : Nat → Nat} (hr : ∀ p, p < 196 → r p ≤ p) : ∀ n m p, p < n → p < m → p < 196 → zc_df r n p = zc_df r m p := by
  intro n
  induction n with
  | zero => intro m p h; omega
  | succ n ih =>
    intro m p h1 h2 h3
    obtain ⟨k, rfl⟩ : ∃ k, m = k + 1 := ⟨m - 1, by omega⟩
    have h4 := hr p h3
    show (if r p = 0 then 0 else zc_df r n (r p - 1) + 1) = (if r p = 0 then 0 else zc_df r k (r p - 1) + 1)
    by_cases h0 : r p = 0
    · rw [if_pos h0, if_pos h0]
    · rw [if_neg h0, if_neg h0, ih k (r p - 1) (by omega) (by omega) (by omega)]
theorem zc_af_e {r : Nat → Nat} {a : Nat} (hr : ∀ p, p < 196 → r p ≤ p) : ∀ n m p, p < n → p < m → p < 196 → (zc_af r a n p ↔ zc_af r a m p) := by
  intro n
  induction n with
  | zero => intro m p h; omega
  | succ n ih =>
    intro m p h1 h2 h3
    obtain ⟨k, rfl⟩ : ∃ k, m = k + 1 := ⟨m - 1, by omega⟩
    have h4 := hr p h3
    show (r p = a ∨ (r p ≠ 0 ∧ zc_af r a n (r p - 1))) ↔ (r p = a ∨ (r p ≠ 0 ∧ zc_af r a k (r p - 1)))
    by_cases h0 : r p = 0
    · exact ⟨fun z => z.elim Or.inl (fun y => absurd h0 y.1), fun z => z.elim Or.inl (fun y => absurd h0 y.1)⟩
    · rw [ih k (r p - 1) (by omega) (by omega) (by omega)]
section
variable {B : Nat → Bool} {r : Nat → Nat}
theorem zc_d_0 {p : Nat} (h : r p = 0) : zc_d r p = 0 := if_pos h
theorem zc_d_n (hR : zc_Rt B r) {p : Nat} (hp : p < 196) (h : r p ≠ 0) : zc_d r p = zc_d r (r p - 1) + 1 := by
  have h1 := hR.1 p hp
  have e : zc_d r p = zc_df r p (r p - 1) + 1 := if_neg h
  rw [e, zc_df_e hR.1 p (r p - 1 + 1) (r p - 1) (by omega) (by omega) (by omega)]
  rfl
theorem zc_d_eq (hR : zc_Rt B r) {p q : Nat} (hp : p < 196) (hq : q < 196) (h : r p = r q) : zc_d r p = zc_d r q := by
  by_cases h0 : r p = 0
  · rw [zc_d_0 h0, zc_d_0 (by omega)]
  · rw [zc_d_n hR hp h0, zc_d_n hR hq (by omega), h]
theorem zc_d_r (hR : zc_Rt B r) {p : Nat} (hp : p < 196) : zc_d r (r p) = zc_d r p := zc_d_eq hR (zc_Rt_lt hR hp) hp (zc_Rt_i hR hp)
/-- colours change: one deeper or one less deep -/
theorem zc_d_4 (hF : zc_Fr B) (hR : zc_Rt B r) {p q : Nat} (hp : p < 196) (hq : q < 196) (h4 : zc_A4 p q) (hne : B p ≠ B q) : zc_d r p = zc_d r q + 1 ∨ zc_d r q = zc_d r p + 1 := by
  have h1 := hR.1 p hp
  have h2 := hR.1 q hq
  rcases zc_key hF hR hp hq h4 hne with ⟨h0, e⟩ | ⟨h0, e⟩
  · left
    rw [zc_d_n hR hp h0, zc_d_eq hR (by omega) hq e]
  · right
    rw [zc_d_n hR hq h0, zc_d_eq hR (by omega) hp e]
theorem zc_d_4le (hF : zc_Fr B) (hR : zc_Rt B r) {p q : Nat} (hp : p < 196) (hq : q < 196) (h4 : zc_A4 p q) : zc_d r p ≤ zc_d r q + 1 := by
  by_cases hb : B p = B q
  · rw [zc_d_eq hR hp hq (zc_Rt_4 hR hp hq hb h4)]; omega
  · have := zc_d_4 hF hR hp hq h4 hb; omega
theorem zc_d_lex (hF : zc_Fr B) (hR : zc_Rt B r) {y : Nat} (hy : y < 14) : ∀ x, x < 14 → zc_d r (14 * y + x) ≤ x
  | 0, _ => by rw [Nat.add_zero, zc_d_0 (zc_col hF hR y hy)]; omega
  | x + 1, h => by
    have h1 := zc_d_lex hF hR hy x (by omega)
    have h2 := zc_d_4le hF hR (p := 14 * y + (x + 1)) (q := 14 * y + x) (by omega) (by omega) (by unfold zc_A4; omega)
    omega
theorem zc_d_le (hF : zc_Fr B) (hR : zc_Rt B r) {p : Nat} (hp : p < 196) : zc_d r p ≤ 13 := by
  have h := zc_d_lex hF hR (y := p / 14) (by omega) (p % 14) (by omega)
  rw [show 14 * (p / 14) + p % 14 = p by omega] at h
  omega
theorem zc_An_e (hR : zc_Rt B r) {a p : Nat} (hp : p < 196) : zc_An r a p ↔ (r p = a ∨ (r p ≠ 0 ∧ zc_An r a (r p - 1))) := by
  have h1 := hR.1 p hp
  have e : zc_An r a p ↔ (r p = a ∨ (r p ≠ 0 ∧ zc_af r a p (r p - 1))) := Iff.rfl
  rw [e]
  by_cases h0 : r p = 0
  · exact ⟨fun z => z.elim Or.inl (fun y => absurd h0 y.1), fun z => z.elim Or.inl (fun y => absurd h0 y.1)⟩
  · rw [zc_af_e hR.1 p (r p - 1 + 1) (r p - 1) (by omega) (by omega) (by omega)]
    exact Iff.rfl
theorem zc_An_eq (hR : zc_Rt B r) {a p q : Nat} (hp : p < 196) (hq : q < 196) (h : r p = r q) : zc_An r a p ↔ zc_An r a q := by
  rw [zc_An_e hR hp, zc_An_e hR hq, h]
theorem zc_An_i (hR : zc_Rt B r) {p : Nat} (hp : p < 196) : zc_An r (r p) p := (zc_An_e hR hp).mpr (Or.inl rfl)
theorem zc_An_le (hR : zc_Rt B r) {a : Nat} : ∀ n p, p < n → p < 196 → zc_An r a p → a ≤ r p := by
  intro n
  induction n with
  | zero => intro p h; omega
  | succ n ih =>
    intro p h1 h2 h3
    have h4 := hR.1 p h2
    rcases (zc_An_e hR h2).mp h3 with e | ⟨h0, h5⟩
    · omega
    · have h6 := ih (r p - 1) (by omega) (by omega) h5
      have h7 := hR.1 (r p - 1) (by omega)
      omega
theorem zc_An_lin (hR : zc_Rt B r) {a c : Nat} (ha : a < 196) (hc : c < 196) (ra : r a = a) (rc : r c = c) : ∀ n p, p < n → p < 196 → zc_An r a p → zc_An r c p → zc_An r a c ∨ zc_An r c a := by
  intro n
  induction n with
  | zero => intro p h; omega
  | succ n ih =>
    intro p h1 h2 h3 h4
    have h5 := hR.1 p h2
    rcases (zc_An_e hR h2).mp h3 with e | ⟨h0, h6⟩
    · exact Or.inr ((zc_An_eq hR h2 ha (by rw [e, ra])).mp h4)
    · rcases (zc_An_e hR h2).mp h4 with e | ⟨-, h7⟩
      · exact Or.inl ((zc_An_eq hR h2 hc (by rw [e, rc])).mp h3)
      · exact ih (r p - 1) (by omega) (by omega) h6 h7
/-- what lies in c lies in what lies around c -/
theorem zc_An_up (hR : zc_Rt B r) {c : Nat} (hc : c < 196) (h0 : c ≠ 0) : ∀ n p, p < n → p < 196 → zc_An r c p → zc_An r (r (c - 1)) p := by
  intro n
  induction n with
  | zero => intro p h; omega
  | succ n ih =>
    intro p h1 h2 h3
    have h5 := hR.1 p h2
    rcases (zc_An_e hR h2).mp h3 with e | ⟨hz, h6⟩
    · refine (zc_An_e hR h2).mpr (Or.inr ⟨by omega, ?_⟩)
      rw [e]
      exact zc_An_i hR (by omega)
    · exact (zc_An_e hR h2).mpr (Or.inr ⟨hz, ih (r p - 1) (by omega) (by omega) h6⟩)
/-- what lies in a: its own places, and what lies in its children -/
theorem zc_An_ch (hR : zc_Rt B r) {a : Nat} {p : Nat} (hp : p < 196) : zc_An r a p ↔ (r p = a ∨ ∃ c, c < 196 ∧ r c = c ∧ c ≠ 0 ∧ r (c - 1) = a ∧ zc_An r c p) := by
  constructor
  · have key : ∀ n p, p < n → p < 196 → zc_An r a p → (r p = a ∨ ∃ c, c < 196 ∧ r c = c ∧ c ≠ 0 ∧ r (c - 1) = a ∧ zc_An r c p) := by
      intro n
      induction n with
      | zero => intro p h; omega
      | succ n ih =>
        intro p h1 h2 h3
        have h5 := hR.1 p h2
        rcases (zc_An_e hR h2).mp h3 with e | ⟨hz, h6⟩
        · exact Or.inl e
        · right
          rcases ih (r p - 1) (by omega) (by omega) h6 with e | ⟨c, c1, c2, c3, c4, c5⟩
          · exact ⟨r p, by omega, zc_Rt_i hR h2, hz, e, zc_An_i hR h2⟩
          · exact ⟨c, c1, c2, c3, c4, (zc_An_e hR h2).mpr (Or.inr ⟨hz, c5⟩)⟩
    exact key 196 p hp hp
  · rintro (e | ⟨c, c1, c2, c3, c4, c5⟩)
    · exact (zc_An_e hR hp).mpr (Or.inl e)
    · rw [← c4]
      exact zc_An_up hR c1 c3 196 p hp hp c5
/-- two children of one component hold nothing in common -/
theorem zc_An_dis (hR : zc_Rt B r) {a c i p : Nat} (ha : a < 196) (hc : c < 196) (ra : r a = a) (rc : r c = c) (a0 : a ≠ 0) (c0 : c ≠ 0) (pa : r (a - 1) = i) (pc : r (c - 1) = i) (hac : a ≠ c) (hp : p < 196) (h1 : zc_An r a p) (h2 : zc_An r c p) : False := by
  have la := hR.1 (a - 1) (by omega)
  have lc := hR.1 (c - 1) (by omega)
  rcases zc_An_lin hR ha hc ra rc 196 p hp hp h1 h2 with h | h
  · rcases (zc_An_e hR hc).mp h with e | ⟨-, e⟩
    · omega
    · rw [rc] at e
      have := zc_An_le hR 196 (c - 1) (by omega) (by omega) e
      omega
  · rcases (zc_An_e hR ha).mp h with e | ⟨-, e⟩
    · omega
    · rw [ra] at e
      have := zc_An_le hR 196 (a - 1) (by omega) (by omega) e
      omega
end
/-- closed: reached from outside by steps beside that avoid a -/
def zc_Qc (r : Nat → Nat) (a : Nat) (Q : Nat → Prop) : Prop := Q 0 ∧ ∀ x y, x < 196 → y < 196 → zc_A4 x y → r y ≠ a → Q x → Q y
section
variable {B : Nat → Bool} {r : Nat → Nat}
theorem zc_reach1 (hF : zc_Fr B) (hR : zc_Rt B r) {a : Nat} (a0 : a ≠ 0) : zc_Qc r a (fun x => ¬ zc_An r a x) := by
  constructor
  · intro h
    have := zc_An_le hR 196 0 (by omega) (by omega) h
    rw [zc_Rt_0 hR] at this
    omega
  · intro x y hx hy h4 hya hQ hA
    have lx := hR.1 x hx
    have ly := hR.1 y hy
    by_cases hb : B x = B y
    · exact hQ ((zc_An_eq hR hx hy (zc_Rt_4 hR hx hy hb h4)).mpr hA)
    · rcases zc_key hF hR hx hy h4 hb with ⟨h0, e⟩ | ⟨h0, e⟩
      · exact hQ ((zc_An_e hR hx).mpr (Or.inr ⟨h0, (zc_An_eq hR (by omega) hy e).mpr hA⟩))
      · rcases (zc_An_e hR hy).mp hA with z | ⟨-, z⟩
        · exact hya z
        · exact hQ ((zc_An_eq hR (by omega) hx e).mp z)
theorem zc_reach2 (hF : zc_Fr B) (hR : zc_Rt B r) {a : Nat} (hb : B a = true) {Q : Nat → Prop} (hQ : zc_Qc r a Q) : ∀ n f, f < n → f < 196 → r f = f → ¬ zc_An r a f → ∀ x, x < 196 → r x = f → Q x := by
  intro n
  induction n with
  | zero => intro f h; omega
  | succ n ih =>
    intro f h1 h2 h3 h4
    have hfa : f ≠ a := fun e => h4 ((zc_An_e hR h2).mpr (Or.inl (h3.trans e)))
    have hf : Q f := by
      by_cases h0 : f = 0
      · rw [h0]; exact hQ.1
      · obtain ⟨w1, w2, w3, w4⟩ := zc_west hF hR h2 h3 h0
        have e := ih (r (f - 1)) (by omega) (by omega) (zc_Rt_i hR (by omega)) (fun z => h4 ((zc_An_e hR h2).mpr (Or.inr ⟨by omega, by rw [h3]; exact (zc_An_eq hR (zc_Rt_lt hR (by omega)) (by omega) (zc_Rt_i hR (by omega))).mp z⟩))) (f - 1) (by omega) rfl
        exact hQ.2 (f - 1) f (by omega) h2 w2 (by rw [h3]; exact hfa) e
    intro x hx hrx
    have hcl : zc_Cl B (fun z => r z = f → Q z) := by
      intro y z hyz hy hz
      have e := hR.2.1 y z hyz
      have qy := hy (e.trans hz)
      obtain ⟨y1, z1, hbe, hst⟩ := hyz
      have A : zc_A4 y z → Q z := fun h => hQ.2 y z y1 z1 h (by rw [hz]; exact hfa) qy
      rcases hst with h | ⟨hy2, h9⟩
      · exact A h
      · unfold zc_A9 at h9
        by_cases ex : z % 14 = y % 14
        · by_cases ey : z / 14 = y / 14
          · rw [show z = y by omega]; exact qy
          · exact A (by unfold zc_A4; omega)
        · by_cases ey : z / 14 = y / 14
          · exact A (by unfold zc_A4; omega)
          · have h1 : zc_A4 y (14 * (y / 14) + z % 14) := by unfold zc_A4; omega
            have h2 : zc_A4 (14 * (y / 14) + z % 14) z := by unfold zc_A4; omega
            have h3 : 14 * (y / 14) + z % 14 < 196 := by omega
            have qs : Q (14 * (y / 14) + z % 14) := by
              refine hQ.2 y _ y1 h3 h1 (fun ea => ?_) qy
              by_cases hs : B y = B (14 * (y / 14) + z % 14)
              · have := zc_Rt_4 hR y1 h3 hs h1
                omega
              · have e5 := zc_Rt_B hR h3
                rw [ea, hb, ← hy2] at e5
                exact hs e5
            exact hQ.2 _ z h3 z1 h2 (by rw [hz]; exact hfa) qs
    have hfx : zc_Cn B f x := zc_Cn_s (by rw [← hrx]; exact hR.2.2 x hx)
    exact hfx (fun z => r z = f → Q z) hcl (fun _ => hf) hrx
/-- reached from outside without a: what doesn't lie in a -/
theorem zc_reach (hF : zc_Fr B) (hR : zc_Rt B r) {a : Nat} (ha : a < 196) (ra : r a = a) (hb : B a = true) {Q : Nat → Prop} (hQ : zc_Qc r a Q) (hm : ∀ S : Nat → Prop, zc_Qc r a S → ∀ x, x < 196 → Q x → S x) {x : Nat} (hx : x < 196) : Q x ↔ ¬ zc_An r a x := by
  have a0 : a ≠ 0 := by
    intro e
    have := hF a hb
    omega
  constructor
  · exact fun h => hm _ (zc_reach1 hF hR a0) x hx h
  · intro h
    exact zc_reach2 hF hR hb hQ 196 (r x) (zc_Rt_lt hR hx) (zc_Rt_lt hR hx) (zc_Rt_i hR hx) (fun z => h ((zc_An_eq hR (zc_Rt_lt hR hx) hx (zc_Rt_i hR hx)).mp z)) x hx rfl
/-- a hole of f: its first place lies beside f -/
theorem zc_hole (hF : zc_Fr B) (hR : zc_Rt B r) {f p : Nat} (hf : f < 196) (hp : p < 196) (rf : r f = f) (rp : r p = p) (bf : B f = true) (bp : B p = false) (p0 : p ≠ 0) :
    (∃ x y, x < 196 ∧ y < 196 ∧ zc_A4 x y ∧ r x = p ∧ r y = f ∧ zc_d r y + 1 = zc_d r x) ↔ r (p - 1) = f := by
  obtain ⟨w1, w2, w3, w4⟩ := zc_west hF hR hp rp p0
  constructor
  · rintro ⟨x, y, hx, hy, h4, ex, ey, hd⟩
    have hbn : B x ≠ B y := by
      rw [← zc_Rt_B hR hx, ← zc_Rt_B hR hy, ex, ey, bf, bp]; decide
    rcases zc_key hF hR hx hy h4 hbn with ⟨h0, e⟩ | ⟨h0, e⟩
    · rw [ex, ey] at e; exact e
    · exfalso
      have h1 := zc_d_n hR hy h0
      have h2 := hR.1 y hy
      have h3 := zc_d_eq hR (p := r y - 1) (q := x) (by omega) hx e
      omega
  · intro e
    have h1 := zc_d_n hR hp (by omega)
    rw [rp] at h1
    exact ⟨p, p - 1, hp, by omega, zc_A4_s w2, rp, e, h1.symm⟩
/-- the component two above f -/
theorem zc_around (hF : zc_Fr B) (hR : zc_Rt B r) {f p : Nat} (hf : f < 196) (rf : r f = f) (bf : B f = true) (hp : p < 196) (rp : r p = p) (hd : zc_d r p + 2 = zc_d r f) (hA : zc_An r p f) : r (f - 1) ≠ 0 ∧ p = r (r (f - 1) - 1) := by
  have f0 : f ≠ 0 := by
    intro e
    have := hF f bf
    omega
  have e1 := zc_d_n hR hf (by omega)
  rw [rf] at e1
  have l1 := hR.1 (f - 1) (by omega)
  have g0 : r (f - 1) ≠ 0 := by
    intro e
    rw [zc_d_0 e] at e1
    omega
  have e2 := zc_d_n hR (p := f - 1) (by omega) g0
  have l2 := hR.1 (r (f - 1) - 1) (by omega)
  refine ⟨g0, ?_⟩
  have np : ∀ x, x < 196 → r x = p → zc_d r x = zc_d r p := fun x hx e => zc_d_eq hR hx hp (e.trans rp.symm)
  rcases (zc_An_e hR hf).mp hA with z | ⟨-, z⟩
  · have := np f hf z; omega
  · rw [rf] at z
    rcases (zc_An_e hR (by omega)).mp z with y | ⟨-, y⟩
    · have := np (f - 1) (by omega) y; omega
    · rcases (zc_An_e hR (by omega)).mp y with v | ⟨v0, v⟩
      · exact v.symm
      · exfalso
        have e3 := zc_d_n hR (p := r (f - 1) - 1) (by omega) v0
        have l3 := hR.1 (r (r (f - 1) - 1) - 1) (by omega)
        have key : ∀ n q, q < n → q < 196 → zc_An r p q → zc_d r p ≤ zc_d r q := by
          intro n
          induction n with
          | zero => intro q h; omega
          | succ n ih =>
            intro q h1 h2 h3
            have h4 := hR.1 q h2
            rcases (zc_An_e hR h2).mp h3 with a | ⟨a0, a⟩
            · rw [np q h2 a]; omega
            · have := ih (r q - 1) (by omega) (by omega) a
              have := zc_d_n hR h2 a0
              omega
        have := key 196 _ (by omega) (by omega) v
        omega
theorem zc_around' (hF : zc_Fr B) (hR : zc_Rt B r) {f : Nat} (hf : f < 196) (rf : r f = f) (bf : B f = true) (g0 : r (f - 1) ≠ 0) : r (r (f - 1) - 1) < 196 ∧ r (r (r (f - 1) - 1)) = r (r (f - 1) - 1) ∧ B (r (r (f - 1) - 1)) = true ∧ zc_d r (r (r (f - 1) - 1)) + 2 = zc_d r f ∧ zc_An r (r (r (f - 1) - 1)) f := by
  have f0 : f ≠ 0 := by
    intro e
    have := hF f bf
    omega
  have e1 := zc_d_n hR hf (by omega)
  rw [rf] at e1
  have l1 := hR.1 (f - 1) (by omega)
  have e2 := zc_d_n hR (p := f - 1) (by omega) g0
  have l2 := hR.1 (r (f - 1) - 1) (by omega)
  obtain ⟨-, -, w3, -⟩ := zc_west hF hR hf rf f0
  obtain ⟨-, -, v3, -⟩ := zc_west hF hR (f := r (f - 1)) (by omega) (zc_Rt_i hR (by omega)) g0
  refine ⟨by omega, zc_Rt_i hR (by omega), ?_, ?_, ?_⟩
  · rw [zc_Rt_B hR (by omega)]
    rw [zc_Rt_B hR (p := f - 1) (by omega)] at v3
    rw [bf] at w3
    cases h1 : B (r (f - 1) - 1) with
    | true => rfl
    | false =>
      cases h2 : B (f - 1) with
      | true => exact absurd h2 w3
      | false => exact absurd (h1.trans h2.symm) v3
  · rw [zc_d_r hR (by omega)]
    omega
  · refine (zc_An_e hR hf).mpr (Or.inr ⟨by omega, ?_⟩)
    rw [rf]
    exact (zc_An_e hR (by omega)).mpr (Or.inr ⟨g0, zc_An_i hR (by omega)⟩)
end
end
section
/-! arrays of naturals, casts, colours as numbers -/
def zc_A (f : Nat → Nat) : Nat → Int32 := fun i => nI (f i)
def zc_u (f : Nat → Nat) (k v : Nat) : Nat → Nat := fun j => if j = k then v else f j
theorem zc_us {f : Nat → Nat} {k v : Nat} : zc_u f k v k = v := if_pos rfl
theorem zc_un {f : Nat → Nat} {k v j : Nat} (h : j ≠ k) : zc_u f k v j = f j := if_neg h
theorem zc_A_u {f : Nat → Nat} {k v : Nat} : upd (zc_A f) k (nI v) = zc_A (zc_u f k v) := by
  funext j
  by_cases h : j = k
  · rw [h, pk_us]; show nI v = nI (zc_u f k v k); rw [zc_us]
  · rw [pk_un h]; show nI (f j) = nI (zc_u f k v j); rw [zc_un h]
theorem zc_A_r {f : Nat → Nat} {i : Nat} (h : i < 2 ^ 31) : zc_A f (nI i).toNatClampNeg = nI (f i) := by rw [nI_clamp h]; rfl
theorem zc_A_w {f : Nat → Nat} {k v : Nat} {x : Int32} (h : k < 2 ^ 31) (hx : x = nI v) : upd (zc_A f) (nI k).toNatClampNeg x = zc_A (zc_u f k v) := by rw [nI_clamp h, hx, zc_A_u]
theorem zc_A0 : (fun _ => 0 : Nat → Int32) = zc_A (fun _ => 0) := rfl
theorem zc_s16 {v : Nat} (h : v < 32768) : (nI v).toInt16.toInt32 = nI v := by
  apply Int32.toInt_inj.mp
  rw [Int16.toInt_toInt32, Int32.toInt_toInt16, nI_toInt (by omega)]
  exact Int.bmod_eq_of_le (by omega) (by omega)
theorem zc_s8 {v : Nat} (h : v < 128) : (nI v).toInt8.toInt32 = nI v := by
  apply Int32.toInt_inj.mp
  rw [Int8.toInt_toInt32, Int32.toInt_toInt8, nI_toInt (by omega)]
  exact Int.bmod_eq_of_le (by omega) (by omega)
theorem zc_vs {v : Nat} (h : v < 32768) : vp_nar .short (nI v) = nI v := by rw [vp_nar_short, zc_s16 h]
theorem zc_vs' {v : Nat} (h : v < 32768) : vp_nar .short (nI v).toInt16.toInt32 = nI v := by rw [zc_s16 h, zc_vs h]
theorem zc_vb {v : Nat} (h : v < 128) : vp_nar .byte (nI v) = nI v := by rw [vp_nar_byte, zc_s8 h]
theorem zc_vb' {v : Nat} (h : v < 128) : vp_nar .byte (nI v).toInt8.toInt32 = nI v := by rw [zc_s8 h, zc_vb h]
theorem zc_z0 : vp_nar .boolean 0 = nI 0 := rfl
theorem zc_z1 : vp_nar .boolean 1 = nI 1 := rfl
/-- a colour as a number -/
def zc_t (b : Bool) : Nat := match b with
  | true => 1
  | false => 0
theorem zc_t_le (b : Bool) : zc_t b ≤ 1 := by cases b <;> decide
theorem zc_t_i {a b : Bool} (h : zc_t a = zc_t b) : a = b := by
  cases a <;> cases b
  · rfl
  · exact absurd h (by decide)
  · exact absurd h (by decide)
  · rfl
theorem zc_t_1 {b : Bool} (h : zc_t b = 1) : b = true := zc_t_i (b := true) h
theorem zc_t_0 {b : Bool} (h : zc_t b = 0) : b = false := zc_t_i (b := false) h
end
section
/-! rows of runs: s row starts, F first column, T last column, K colour, P first place -/
def zc_R1 (w : Nat) (B : Nat → Bool) (s F T K P : Nat → Nat) (j : Nat) : Prop :=
  s j < s (j + 1) ∧ s (j + 1) ≤ s j + w ∧ ∀ i, s j ≤ i → i < s (j + 1) →
    F i ≤ T i ∧ T i < w ∧ P i = 14 * j + F i + 15 ∧ (∀ x, F i ≤ x → x ≤ T i → zc_t (B (14 * j + x + 15)) = K i) ∧ (i = s j → F i = 0) ∧
    (i + 1 < s (j + 1) → F (i + 1) = T i + 1 ∧ K (i + 1) ≠ K i) ∧ (i + 1 = s (j + 1) → T i + 1 = w)
def zc_Row (w : Nat) (B : Nat → Bool) (s F T K P : Nat → Nat) (y : Nat) : Prop := s 0 = 1 ∧ P 0 = 0 ∧ ∀ j, j < y → zc_R1 w B s F T K P j
/-- a place of the picture -/
def zc_In (w h p : Nat) : Prop := 1 ≤ p % 14 ∧ p % 14 ≤ w ∧ 1 ≤ p / 14 ∧ p / 14 ≤ h
/-- sizes, and all outside is white -/
def zc_Pic (w h : Nat) (B : Nat → Bool) : Prop := (2 ≤ w ∧ w ≤ 12 ∧ 2 ≤ h ∧ h ≤ 12) ∧ ∀ p, ¬ zc_In w h p → B p = false
theorem zc_Pic_F {w h : Nat} {B : Nat → Bool} (H : zc_Pic w h B) : zc_Fr B := by
  intro p hb
  have h1 := H.1
  refine Classical.byContradiction fun hn => ?_
  rw [H.2 p (fun z => hn (by unfold zc_In at z; omega))] at hb
  exact absurd hb (by decide)
section
variable {w h : Nat} {B : Nat → Bool} {s F T K P : Nat → Nat} {y j : Nat}
theorem zc_s_mono (H : zc_Row w B s F T K P y) {a : Nat} : ∀ {b : Nat}, a ≤ b → b ≤ y → s a ≤ s b
  | 0, h1, _ => by rw [show a = 0 by omega]; exact Nat.le_refl _
  | b + 1, h1, h2 => by
    rcases Nat.lt_or_ge b a with z | z
    · rw [show a = b + 1 by omega]; exact Nat.le_refl _
    · have e := zc_s_mono H z (by omega)
      have := (H.2.2 b (by omega)).1
      omega
theorem zc_s_le (H : zc_Row w B s F T K P y) : ∀ {b : Nat}, b ≤ y → s b ≤ 1 + w * b
  | 0, _ => by rw [H.1]; omega
  | b + 1, h => by
    have e := zc_s_le H (b := b) (by omega)
    have := (H.2.2 b (by omega)).2.1
    rw [Nat.mul_add]
    omega
theorem zc_s_le12 (H : zc_Row w B s F T K P y) (hw : w ≤ 12) {b : Nat} (hb : b ≤ y) (hy : y ≤ 12) : s b ≤ 1 + 12 * b := by
  have e := zc_s_le H hb
  have := Nat.mul_le_mul_right b hw
  omega
theorem zc_s_1 (H : zc_Row w B s F T K P y) {b : Nat} (hb : b ≤ y) : 1 ≤ s b := by
  have := zc_s_mono H (a := 0) (Nat.zero_le b) hb
  rw [H.1] at this
  exact this
/-- the row of a run -/
theorem zc_rowOf (H : zc_Row w B s F T K P y) : ∀ {b : Nat}, b ≤ y → ∀ i, 1 ≤ i → i < s b → ∃ j, j < b ∧ s j ≤ i ∧ i < s (j + 1)
  | 0, _, i, h1, h2 => by rw [H.1] at h2; omega
  | b + 1, hb, i, h1, h2 => by
    rcases Nat.lt_or_ge i (s b) with z | z
    · obtain ⟨j, a1, a2, a3⟩ := zc_rowOf H (b := b) (by omega) i h1 z
      exact ⟨j, by omega, a2, a3⟩
    · exact ⟨b, by omega, z, h2⟩
theorem zc_ord (H : zc_R1 w B s F T K P j) {i : Nat} (hi : s j ≤ i) : ∀ d, i + 1 + d < s (j + 1) → T i < F (i + 1 + d)
  | 0, h => by have := (H.2.2 i hi (by omega)).2.2.2.2.2.1 (by omega); show T i < F (i + 1); omega
  | d + 1, h => by
    have e := zc_ord H hi d (by omega)
    have a := H.2.2 (i + 1 + d) (by omega) (by omega)
    have b := (a.2.2.2.2.2.1 (by omega)).1
    have c := a.1
    rw [show i + 1 + (d + 1) = i + 1 + d + 1 by omega]
    omega
theorem zc_ord' (H : zc_R1 w B s F T K P j) {i k : Nat} (hi : s j ≤ i) (hik : i < k) (hk : k < s (j + 1)) : T i < F k := by
  have := zc_ord H hi (k - i - 1) (by omega)
  rw [show i + 1 + (k - i - 1) = k by omega] at this
  exact this
theorem zc_tile (H : zc_R1 w B s F T K P j) : ∀ x, x < w → ∃ i, s j ≤ i ∧ i < s (j + 1) ∧ F i ≤ x ∧ x ≤ T i
  | 0, _ => by
    have h1 := H.1
    have a := H.2.2 (s j) (Nat.le_refl _) h1
    exact ⟨s j, Nat.le_refl _, h1, by rw [a.2.2.2.2.1 rfl]; omega, by omega⟩
  | x + 1, hx => by
    obtain ⟨i, a1, a2, a3, a4⟩ := zc_tile H x (by omega)
    have a := H.2.2 i a1 a2
    by_cases h1 : x + 1 ≤ T i
    · exact ⟨i, a1, a2, by omega, h1⟩
    · by_cases h2 : i + 1 = s (j + 1)
      · have := a.2.2.2.2.2.2 h2; omega
      · have b := (a.2.2.2.2.2.1 (by omega)).1
        have c := (H.2.2 (i + 1) (by omega) (by omega)).1
        exact ⟨i + 1, by omega, by omega, by omega, by omega⟩
theorem zc_uniq (H : zc_R1 w B s F T K P j) {i k x : Nat} (i1 : s j ≤ i) (i2 : i < s (j + 1)) (k1 : s j ≤ k) (k2 : k < s (j + 1)) (a1 : F i ≤ x) (a2 : x ≤ T i) (b1 : F k ≤ x) (b2 : x ≤ T k) : i = k := by
  rcases Nat.lt_trichotomy i k with z | z | z
  · have := zc_ord' H i1 z k2; omega
  · exact z
  · have := zc_ord' H k1 z i2; omega
theorem zc_P_mono (H : zc_Row w B s F T K P y) (hw : w ≤ 12) {i k : Nat} (hik : i < k) (hk : k < s y) : P i < P k := by
  obtain ⟨j', b1, b2, b3⟩ := zc_rowOf H (Nat.le_refl y) k (by omega) hk
  have b := (H.2.2 j' b1).2.2 k b2 b3
  by_cases h0 : i = 0
  · subst h0; rw [H.2.1]; omega
  · obtain ⟨j, a1, a2, a3⟩ := zc_rowOf H (Nat.le_refl y) i (by omega) (by omega)
    have a := (H.2.2 j a1).2.2 i a2 a3
    rcases Nat.lt_trichotomy j j' with z | z | z
    · omega
    · subst z
      have := zc_ord' (H.2.2 j a1) a2 hik b3
      omega
    · have := zc_s_mono H (a := j' + 1) (b := j) z (by omega)
      omega
theorem zc_P_le (H : zc_Row w B s F T K P y) (hw : w ≤ 12) {i k : Nat} (hik : i ≤ k) (hk : k < s y) : P i ≤ P k := by
  rcases Nat.lt_or_ge i k with z | z
  · exact Nat.le_of_lt (zc_P_mono H hw z hk)
  · rw [show i = k by omega]; exact Nat.le_refl _
theorem zc_P_inj (H : zc_Row w B s F T K P y) (hw : w ≤ 12) {i k : Nat} (hi : i < s y) (hk : k < s y) (e : P i = P k) : i = k := by
  rcases Nat.lt_trichotomy i k with z | z | z
  · have := zc_P_mono H hw z hk; omega
  · exact z
  · have := zc_P_mono H hw z hi; omega
theorem zc_P_lt (H : zc_Row w B s F T K P y) (hw : w ≤ 12) (hy : y ≤ 12) {i : Nat} (hi : i < s y) : P i < 196 := by
  by_cases h0 : i = 0
  · subst h0; rw [H.2.1]; omega
  · obtain ⟨j, a1, a2, a3⟩ := zc_rowOf H (Nat.le_refl y) i (by omega) (by omega)
    have a := (H.2.2 j a1).2.2 i a2 a3
    omega
/-- along a run -/
theorem zc_run (H : zc_R1 w B s F T K P j) (hw : w ≤ 12) (hj : j < 12) {i : Nat} (i1 : s j ≤ i) (i2 : i < s (j + 1)) : ∀ d, F i + d ≤ T i → zc_Cn B (P i) (14 * j + (F i + d) + 15) := by
  have a := H.2.2 i i1 i2
  intro d
  induction d with
  | zero => intro _; rw [a.2.2.1]; exact zc_Cn_r
  | succ d ih =>
    intro hd
    refine zc_Cn_t (ih (by omega)) (zc_Cn_1 (zc_St_4 (by omega) (by omega) ?_ (by unfold zc_A4; omega)))
    exact zc_t_i ((a.2.2.2.1 (F i + d) (by omega) (by omega)).trans (a.2.2.2.1 (F i + (d + 1)) (by omega) (by omega)).symm)
theorem zc_run' (H : zc_R1 w B s F T K P j) (hw : w ≤ 12) (hj : j < 12) {i x : Nat} (i1 : s j ≤ i) (i2 : i < s (j + 1)) (h1 : F i ≤ x) (h2 : x ≤ T i) : zc_Cn B (P i) (14 * j + x + 15) := by
  have := zc_run H hw hj i1 i2 (x - F i) (by omega)
  rw [show F i + (x - F i) = x by omega] at this
  exact this
/-- outside all hangs together -/
theorem zc_ww (H : zc_Pic w h B) {p q : Nat} (hp : p < 196) (hq : q < 196) (h1 : ¬ zc_In w h p) (h2 : ¬ zc_In w h q) (h4 : zc_A4 p q) : zc_Cn B p q :=
  zc_Cn_1 (zc_St_4 hp hq (by rw [H.2 p h1, H.2 q h2]) h4)
theorem zc_or0 (H : zc_Pic w h B) : ∀ x, x < 14 → zc_Cn B 0 x
  | 0, _ => zc_Cn_r
  | x + 1, hx => zc_Cn_t (zc_or0 H x (by omega)) (zc_ww H (by omega) (by omega) (by unfold zc_In; omega) (by unfold zc_In; omega) (by unfold zc_A4; omega))
theorem zc_oc (H : zc_Pic w h B) {c : Nat} (hc : c = 0 ∨ w < c) (hc' : c < 14) : ∀ y, y < 14 → zc_Cn B 0 (14 * y + c)
  | 0, _ => by rw [show 14 * 0 + c = c by omega]; exact zc_or0 H c hc'
  | y + 1, hy => zc_Cn_t (zc_oc H hc hc' y (by omega)) (zc_ww H (by omega) (by omega) (by unfold zc_In; omega) (by unfold zc_In; omega) (by unfold zc_A4; omega))
theorem zc_orr (H : zc_Pic w h B) {y : Nat} (hy : h < y) (hy' : y < 14) : ∀ x, x < 14 → zc_Cn B 0 (14 * y + x)
  | 0, _ => zc_oc H (Or.inl rfl) (by omega) y hy'
  | x + 1, hx => zc_Cn_t (zc_orr H hy hy' x (by omega)) (zc_ww H (by omega) (by omega) (by unfold zc_In; omega) (by unfold zc_In; omega) (by unfold zc_A4; omega))
theorem zc_out (H : zc_Pic w h B) {p : Nat} (hp : p < 196) (hn : ¬ zc_In w h p) : zc_Cn B 0 p := by
  have hs := H.1
  have e : 14 * (p / 14) + p % 14 = p := by omega
  by_cases h1 : p % 14 = 0 ∨ w < p % 14
  · have := zc_oc H h1 (by omega) (p / 14) (by omega)
    rw [e] at this; exact this
  · by_cases h2 : h < p / 14
    · have := zc_orr H h2 (by omega) (p % 14) (by omega)
      rw [e] at this; exact this
    · have := zc_or0 H p (by unfold zc_In at hn; omega)
      exact this
/-- a white run at the border -/
theorem zc_brun (HP : zc_Pic w h B) (H : zc_R1 w B s F T K P j) (hj : j < h) {i : Nat} (i1 : s j ≤ i) (i2 : i < s (j + 1)) (hk : K i = 0) (hb : j = 0 ∨ j + 1 = h ∨ F i = 0 ∨ T i + 1 = w) : zc_Cn B 0 (P i) := by
  have hs := HP.1
  have a := H.2.2 i i1 i2
  have step : ∀ x q, F i ≤ x → x ≤ T i → q < 196 → ¬ zc_In w h q → zc_A4 q (14 * j + x + 15) → zc_Cn B 0 (P i) := by
    intro x q x1 x2 q1 q2 q3
    refine zc_Cn_t (zc_out HP q1 q2) (zc_Cn_t (zc_Cn_1 (zc_St_4 q1 (by omega) ?_ q3)) (zc_Cn_s (zc_run' H (by omega) (by omega) i1 i2 x1 x2)))
    rw [HP.2 q q2, zc_t_0 ((a.2.2.2.1 x x1 x2).trans hk)]
  rcases hb with z | z | z | z
  · exact step (F i) (F i + 1) (Nat.le_refl _) a.1 (by omega) (by unfold zc_In; omega) (by unfold zc_A4; omega)
  · exact step (F i) (14 * (j + 1) + F i + 15) (Nat.le_refl _) a.1 (by omega) (by unfold zc_In; omega) (by unfold zc_A4; omega)
  · exact step (F i) (14 * j + 14) (Nat.le_refl _) a.1 (by omega) (by unfold zc_In; omega) (by unfold zc_A4; omega)
  · exact step (T i) (14 * j + T i + 16) a.1 (Nat.le_refl _) (by omega) (by unfold zc_In; omega) (by unfold zc_A4; omega)
/-- runs of one colour that touch, one above the other -/
theorem zc_touch (H1 : zc_R1 w B s F T K P j) (H2 : zc_R1 w B s F T K P (j + 1)) (hw : w ≤ 12) (hj : j + 1 < 12) {u l : Nat} (u1 : s j ≤ u) (u2 : u < s (j + 1)) (l1 : s (j + 1) ≤ l) (l2 : l < s (j + 1 + 1)) (hk : K u = K l) (t1 : F u ≤ T l + K u) (t2 : F l ≤ T u + K u) : zc_Cn B (P u) (P l) := by
  have a := H1.2.2 u u1 u2
  have b := H2.2.2 l l1 l2
  have kb := zc_t_le (B (14 * j + F u + 15))
  rw [a.2.2.2.1 (F u) (Nat.le_refl _) a.1] at kb
  have step : ∀ x z, F u ≤ x → x ≤ T u → F l ≤ z → z ≤ T l → (x = z ∨ (K u = 1 ∧ x ≤ z + 1 ∧ z ≤ x + 1)) → zc_Cn B (P u) (P l) := by
    intro x z x1 x2 z1 z2 hxz
    have cx := a.2.2.2.1 x x1 x2
    have cz := b.2.2.2.1 z z1 z2
    refine zc_Cn_t (zc_run' H1 hw (by omega) u1 u2 x1 x2) (zc_Cn_t (zc_Cn_1 ⟨by omega, ?_, ?_, ?_⟩) (zc_Cn_s (zc_run' H2 hw (by omega) l1 l2 z1 z2)))
    · omega
    · exact zc_t_i (by rw [cx, cz, hk])
    · rcases hxz with e | ⟨e1, e2, e3⟩
      · exact Or.inl (by unfold zc_A4; omega)
      · exact Or.inr ⟨zc_t_1 (cx.trans e1), by unfold zc_A9; omega⟩
  by_cases c1 : T l < F u
  · exact step (F u) (T l) (Nat.le_refl _) a.1 b.1 (Nat.le_refl _) (Or.inr ⟨by omega, by omega, by omega⟩)
  · by_cases c2 : T u < F l
    · exact step (T u) (F l) a.1 (Nat.le_refl _) (Nat.le_refl _) b.1 (Or.inr ⟨by omega, by omega, by omega⟩)
    · by_cases c3 : F u ≤ F l
      · exact step (F l) (F l) c3 (by omega) (Nat.le_refl _) b.1 (Or.inl rfl)
      · exact step (F u) (F u) (Nat.le_refl _) a.1 (by omega) (by omega) (Or.inl rfl)
end
end
section
/-! runs that lead to earlier runs: L the links, R the first run of each -/
def zc_UF (m : Nat) (L R : Nat → Nat) : Prop := ∀ i, i < m → L i ≤ i ∧ R (L i) = R i ∧ (L i = i → R i = i) ∧ R i ≤ i ∧ L (R i) = R i
def zc_Sd (B : Nat → Bool) (P : Nat → Nat) (m : Nat) (R : Nat → Nat) : Prop := ∀ i, i < m → zc_Cn B (P i) (P (R i))
def zc_V (B : Nat → Bool) (P : Nat → Nat) (m : Nat) (L R : Nat → Nat) : Prop := zc_UF m L R ∧ zc_Sd B P m R
def zc_Co (R R' : Nat → Nat) : Prop := ∀ i j, R i = R j → R' i = R' j
theorem zc_Co_r {R : Nat → Nat} : zc_Co R R := fun _ _ h => h
theorem zc_Co_t {R R' R'' : Nat → Nat} (h1 : zc_Co R R') (h2 : zc_Co R' R'') : zc_Co R R'' := fun i j h => h2 i j (h1 i j h)
theorem zc_UF_i {m : Nat} {L R : Nat → Nat} (H : zc_UF m L R) {i : Nat} (hi : i < m) : R (R i) = R i := by
  have a := H i hi
  exact (H (R i) (by omega)).2.2.1 a.2.2.2.2
theorem zc_UF_0 {m : Nat} {L R : Nat → Nat} (H : zc_UF m L R) (hm : 0 < m) : R 0 = 0 := by
  have a := H 0 hm
  omega
theorem zc_UF_un {m : Nat} {L R : Nat → Nat} (H : zc_UF m L R) {x y : Nat} (hy : y < m) (hx : x < y) (rx : R x = x) (ry : R y = y) : zc_UF m (zc_u L y x) (fun i => if R i = y then x else R i) := by
  intro i hi
  have a := H i hi
  have lx : L x = x := by have := (H x (by omega)).2.2.2.2; rw [rx] at this; exact this
  refine ⟨?_, ?_, ?_, ?_, ?_⟩
  · by_cases e : i = y
    · rw [e, zc_us]; omega
    · rw [zc_un e]; exact a.1
  · by_cases e : i = y
    · rw [e, zc_us]
      show (if R x = y then x else R x) = (if R y = y then x else R y)
      rw [if_pos ry, if_neg (by omega)]; exact rx
    · rw [zc_un e]
      show (if R (L i) = y then x else R (L i)) = (if R i = y then x else R i)
      rw [a.2.1]
  · by_cases e : i = y
    · rw [e, zc_us]; intro z; omega
    · rw [zc_un e]
      intro z
      show (if R i = y then x else R i) = i
      have := a.2.2.1 z
      rw [if_neg (by omega)]; exact this
  · show (if R i = y then x else R i) ≤ i
    by_cases e : R i = y
    · rw [if_pos e]; omega
    · rw [if_neg e]; omega
  · show zc_u L y x (if R i = y then x else R i) = (if R i = y then x else R i)
    by_cases e : R i = y
    · rw [if_pos e, zc_un (by omega)]; exact lx
    · rw [if_neg e, zc_un e]; exact a.2.2.2.2
theorem zc_V_lt {B : Nat → Bool} {P : Nat → Nat} {m : Nat} {L R : Nat → Nat} (H : zc_V B P m L R) {a b : Nat} (ha : a < m) (hb : b < m) (hc : zc_Cn B (P a) (P b)) (hab : R a < R b) :
    ∃ R', zc_V B P m (zc_u L (R b) (R a)) R' ∧ zc_Co R R' ∧ R' a = R' b := by
  have lb := H.1 b hb
  refine ⟨fun i => if R i = R b then R a else R i, ⟨zc_UF_un H.1 (by omega) hab (zc_UF_i H.1 ha) (zc_UF_i H.1 hb), ?_⟩, ?_, ?_⟩
  · intro i hi
    show zc_Cn B (P i) (P (if R i = R b then R a else R i))
    by_cases e : R i = R b
    · rw [if_pos e]
      have h1 := H.2 i hi
      rw [e] at h1
      exact zc_Cn_t h1 (zc_Cn_t (zc_Cn_s (H.2 b hb)) (zc_Cn_t (zc_Cn_s hc) (H.2 a ha)))
    · rw [if_neg e]; exact H.2 i hi
  · intro i j h
    show (if R i = R b then R a else R i) = (if R j = R b then R a else R j)
    rw [h]
  · show (if R a = R b then R a else R a) = (if R b = R b then R a else R b)
    rw [if_pos rfl, if_neg (by omega)]
/-- what unite stores -/
theorem zc_V_un {B : Nat → Bool} {P : Nat → Nat} {m : Nat} {L R : Nat → Nat} (H : zc_V B P m L R) {a b : Nat} (ha : a < m) (hb : b < m) (hc : zc_Cn B (P a) (P b)) :
    (R b ≤ R a → ∃ R', zc_V B P m (zc_u L (R a) (R b)) R' ∧ zc_Co R R' ∧ R' a = R' b) ∧ (R a < R b → ∃ R', zc_V B P m (zc_u L (R b) (R a)) R' ∧ zc_Co R R' ∧ R' a = R' b) := by
  refine ⟨fun h => ?_, fun h => zc_V_lt H ha hb hc h⟩
  rcases Nat.lt_or_ge (R b) (R a) with z | z
  · obtain ⟨R', h1, h2, h3⟩ := zc_V_lt H hb ha (zc_Cn_s hc) z
    exact ⟨R', h1, h2, h3.symm⟩
  · have e : R a = R b := by omega
    have la := H.1 a ha
    have : zc_u L (R a) (R b) = L := by
      funext i
      by_cases ei : i = R a
      · rw [ei, zc_us, ← e]; exact la.2.2.2.2.symm
      · rw [zc_un ei]
    rw [this]
    exact ⟨R, H, zc_Co_r, e⟩
/-- borders are opened in row j -/
def zc_C1 (w h : Nat) (s F T K R : Nat → Nat) (j : Nat) : Prop := ∀ i, s j ≤ i → i < s (j + 1) → K i = 0 → (j = 0 ∨ j + 1 = h ∨ F i = 0 ∨ T i + 1 = w) → R i = R 0
/-- rows j and j + 1 are joined where they touch -/
def zc_C2 (s F T K R : Nat → Nat) (j : Nat) : Prop := ∀ u l, s j ≤ u → u < s (j + 1) → s (j + 1) ≤ l → l < s (j + 1 + 1) → K u = K l → F u ≤ T l + K u → F l ≤ T u + K u → R u = R l
/-- as far as u and l -/
def zc_C3 (s F T K R : Nat → Nat) (j a b : Nat) : Prop := ∀ u l, s j ≤ u → u < s (j + 1) → s (j + 1) ≤ l → l < s (j + 1 + 1) → (u < a ∨ l < b) → K u = K l → F u ≤ T l + K u → F l ≤ T u + K u → R u = R l
section
variable {w h : Nat} {B : Nat → Bool} {s F T K P R R' : Nat → Nat} {j : Nat}
theorem zc_C1_co (H : zc_C1 w h s F T K R j) (c : zc_Co R R') : zc_C1 w h s F T K R' j := fun i h1 h2 h3 h4 => c i 0 (H i h1 h2 h3 h4)
theorem zc_C2_co (H : zc_C2 s F T K R j) (c : zc_Co R R') : zc_C2 s F T K R' j := fun u l h1 h2 h3 h4 h5 h6 h7 => c u l (H u l h1 h2 h3 h4 h5 h6 h7)
theorem zc_C3_co {a b : Nat} (H : zc_C3 s F T K R j a b) (c : zc_Co R R') : zc_C3 s F T K R' j a b := fun u l h1 h2 h3 h4 h5 h6 h7 h8 => c u l (H u l h1 h2 h3 h4 h5 h6 h7 h8)
theorem zc_C3_0 : zc_C3 s F T K R j (s j) (s (j + 1)) := fun u l h1 h2 h3 h4 h5 _ _ _ => by omega
theorem zc_C3_e {a b : Nat} (H : zc_C3 s F T K R j a b) (hab : s (j + 1) ≤ a ∨ s (j + 1 + 1) ≤ b) : zc_C2 s F T K R j := fun u l h1 h2 h3 h4 h5 h6 h7 => H u l h1 h2 h3 h4 (by omega) h5 h6 h7
/-- the upper run ends first -/
theorem zc_adv_u (H2 : zc_R1 w B s F T K P (j + 1)) {a b : Nat} (b1 : s (j + 1) ≤ b) (b2 : b < s (j + 1 + 1)) (k1 : K a ≤ 1) (hT : T a < T b) (H : zc_C3 s F T K R j a b) (hd : K a = K b → F a ≤ T b + K a → F b ≤ T a + K a → R a = R b) : zc_C3 s F T K R j (a + 1) b := by
  intro u l h1 h2 h3 h4 h5 h6 h7 h8
  by_cases e : u = a
  · subst e
    by_cases e2 : l < b
    · exact H u l h1 h2 h3 h4 (Or.inr e2) h6 h7 h8
    · by_cases e3 : l = b
      · subst e3; exact hd h6 h7 h8
      · have := zc_ord' H2 b1 (show b < l by omega) h4
        omega
  · exact H u l h1 h2 h3 h4 (by omega) h6 h7 h8
/-- the lower run ends first, or both at one place -/
theorem zc_adv_l (H1 : zc_R1 w B s F T K P j) {a b : Nat} (a1 : s j ≤ a) (a2 : a < s (j + 1)) (hK : ∀ i, s j ≤ i → i < s (j + 1) → K i ≤ 1) (hT : T b ≤ T a) (H : zc_C3 s F T K R j a b) (hd : K a = K b → F a ≤ T b + K a → F b ≤ T a + K a → R a = R b) (hc : K a ≠ K b → K a = 0 → a + 1 < s (j + 1) → F (a + 1) = T b + 1 → R (a + 1) = R b) : zc_C3 s F T K R j a (b + 1) := by
  intro u l h1 h2 h3 h4 h5 h6 h7 h8
  by_cases e : l = b
  · subst e
    by_cases e2 : u < a
    · exact H u l h1 h2 h3 h4 (Or.inl e2) h6 h7 h8
    · by_cases e3 : u = a
      · subst e3; exact hd h6 h7 h8
      · have ku := hK u h1 h2
        have ka := hK a a1 a2
        by_cases e4 : u = a + 1
        · subst e4
          have n := (H1.2.2 a a1 a2).2.2.2.2.2.1 h2
          exact hc (by omega) (by omega) h2 (by omega)
        · have n := (H1.2.2 a a1 a2).2.2.2.2.2.1 (by omega)
          have o := zc_ord' H1 (i := a + 1) (k := u) (by omega) (by omega) h2
          have q := (H1.2.2 (a + 1) (by omega) (by omega)).1
          omega
  · exact H u l h1 h2 h3 h4 (by omega) h6 h7 h8
end
end
section
/-! from runs to places: the root function -/
def zc_Rn (w h : Nat) (s F T : Nat → Nat) (rn : Nat → Nat) : Prop := ∀ p, p < 196 → (¬ zc_In w h p → rn p = 0) ∧ (zc_In w h p → s (p / 14 - 1) ≤ rn p ∧ rn p < s (p / 14 - 1 + 1) ∧ F (rn p) ≤ p % 14 - 1 ∧ p % 14 - 1 ≤ T (rn p))
/-- all that the first pass leaves -/
def zc_D (w h : Nat) (B : Nat → Bool) (s F T K P R rn : Nat → Nat) : Prop :=
  zc_Pic w h B ∧ zc_Row w B s F T K P h ∧ K 0 = 0 ∧ (∀ i, i < s h → R i ≤ i ∧ R (R i) = R i) ∧ zc_Rn w h s F T rn ∧ zc_Rt B (fun p => P (R (rn p)))
section
variable {w h : Nat} {B : Nat → Bool} {s F T K P R rn : Nat → Nat}
theorem zc_Rn_ex (hw : w ≤ 12) (H : zc_Row w B s F T K P h) : ∃ rn, zc_Rn w h s F T rn := by
  have key : ∀ p, ∃ i, (¬ zc_In w h p → i = 0) ∧ (zc_In w h p → s (p / 14 - 1) ≤ i ∧ i < s (p / 14 - 1 + 1) ∧ F i ≤ p % 14 - 1 ∧ p % 14 - 1 ≤ T i) := by
    intro p
    by_cases hI : zc_In w h p
    · have hI' := hI
      unfold zc_In at hI'
      obtain ⟨i, a1, a2, a3, a4⟩ := zc_tile (H.2.2 (p / 14 - 1) (by omega)) (p % 14 - 1) (by omega)
      exact ⟨i, fun z => absurd hI z, fun _ => ⟨a1, a2, a3, a4⟩⟩
    · exact ⟨0, fun _ => rfl, fun z => absurd z hI⟩
  exact ⟨fun p => (key p).choose, fun p _ => (key p).choose_spec⟩
theorem zc_rn_lt (H : zc_Row w B s F T K P h) (hn : zc_Rn w h s F T rn) {p : Nat} (hp : p < 196) : rn p < s h := by
  by_cases hI : zc_In w h p
  · obtain ⟨a1, a2, -, -⟩ := (hn p hp).2 hI
    unfold zc_In at hI
    have := zc_s_mono H (a := p / 14 - 1 + 1) (b := h) (by omega) (Nat.le_refl _)
    omega
  · rw [(hn p hp).1 hI]
    exact zc_s_1 H (Nat.le_refl _)
theorem zc_rn_ge (H : zc_Row w B s F T K P h) (hn : zc_Rn w h s F T rn) {p : Nat} (hp : p < 196) (hI : zc_In w h p) : 1 ≤ rn p := by
  obtain ⟨a1, a2, -, -⟩ := (hn p hp).2 hI
  unfold zc_In at hI
  have := zc_s_1 H (b := p / 14 - 1) (by omega)
  omega
theorem zc_rn_P (H : zc_Row w B s F T K P h) (hn : zc_Rn w h s F T rn) {p : Nat} (hp : p < 196) : P (rn p) ≤ p := by
  by_cases hI : zc_In w h p
  · obtain ⟨a1, a2, a3, a4⟩ := (hn p hp).2 hI
    unfold zc_In at hI
    have := ((H.2.2 (p / 14 - 1) (by omega)).2.2 _ a1 a2).2.2.1
    omega
  · rw [(hn p hp).1 hI, H.2.1]; omega
theorem zc_rn_K (HP : zc_Pic w h B) (H : zc_Row w B s F T K P h) (k0 : K 0 = 0) (hn : zc_Rn w h s F T rn) {p : Nat} (hp : p < 196) : zc_t (B p) = K (rn p) := by
  by_cases hI : zc_In w h p
  · obtain ⟨a1, a2, a3, a4⟩ := (hn p hp).2 hI
    unfold zc_In at hI
    have e := ((H.2.2 (p / 14 - 1) (by omega)).2.2 _ a1 a2).2.2.2.1 _ a3 a4
    rw [show 14 * (p / 14 - 1) + (p % 14 - 1) + 15 = p by omega] at e
    exact e
  · rw [(hn p hp).1 hI, HP.2 p hI, k0]; rfl
theorem zc_rn_Cn (HP : zc_Pic w h B) (H : zc_Row w B s F T K P h) (hn : zc_Rn w h s F T rn) {p : Nat} (hp : p < 196) : zc_Cn B (P (rn p)) p := by
  have hs := HP.1
  by_cases hI : zc_In w h p
  · obtain ⟨a1, a2, a3, a4⟩ := (hn p hp).2 hI
    unfold zc_In at hI
    have e := zc_run' (H.2.2 (p / 14 - 1) (by omega)) (by omega) (by omega) a1 a2 a3 a4
    rw [show 14 * (p / 14 - 1) + (p % 14 - 1) + 15 = p by omega] at e
    exact e
  · rw [(hn p hp).1 hI, H.2.1]; exact zc_out HP hp hI
/-- the run of a place, by row and column -/
theorem zc_rn_at (HP : zc_Pic w h B) (H : zc_Row w B s F T K P h) (hn : zc_Rn w h s F T rn) {j i x : Nat} (hj : j < h) (i1 : s j ≤ i) (i2 : i < s (j + 1)) (x1 : F i ≤ x) (x2 : x ≤ T i) : rn (14 * j + x + 15) = i := by
  have hs := HP.1
  have R1 := H.2.2 j hj
  have a := R1.2.2 i i1 i2
  have e1 : (14 * j + x + 15) / 14 - 1 = j := by omega
  have e2 : (14 * j + x + 15) % 14 - 1 = x := by omega
  obtain ⟨b1, b2, b3, b4⟩ := (hn (14 * j + x + 15) (by omega)).2 (by unfold zc_In; omega)
  rw [e1] at b1 b2
  rw [e2] at b3 b4
  exact (zc_uniq R1 i1 i2 b1 b2 x1 x2 b3 b4).symm
theorem zc_rn_of (HP : zc_Pic w h B) (H : zc_Row w B s F T K P h) (hn : zc_Rn w h s F T rn) {i : Nat} (hi : i < s h) : rn (P i) = i := by
  by_cases h0 : i = 0
  · subst h0
    rw [H.2.1]
    exact (hn 0 (by omega)).1 (by unfold zc_In; omega)
  · obtain ⟨j, a1, a2, a3⟩ := zc_rowOf H (Nat.le_refl h) i (by omega) hi
    have a := (H.2.2 j a1).2.2 i a2 a3
    rw [a.2.2.1]
    exact zc_rn_at HP H hn a1 a2 a3 (Nat.le_refl _) a.1
/-- places of one colour side by side in a row lie in one run -/
theorem zc_rn_h (HP : zc_Pic w h B) (H : zc_Row w B s F T K P h) (k0 : K 0 = 0) (hn : zc_Rn w h s F T rn) {p q : Nat} (hp : p < 196) (hq : q < 196) (Ip : zc_In w h p) (Iq : zc_In w h q) (hb : B p = B q) (h1 : q / 14 = p / 14) (h2 : q % 14 = p % 14 + 1) : rn p = rn q := by
  have hs := HP.1
  have kp := zc_rn_K HP H k0 hn hp
  have kq := zc_rn_K HP H k0 hn hq
  obtain ⟨a1, a2, a3, a4⟩ := (hn p hp).2 Ip
  obtain ⟨b1, b2, b3, b4⟩ := (hn q hq).2 Iq
  unfold zc_In at Ip Iq
  rw [h1] at b1 b2
  have R1 := H.2.2 (p / 14 - 1) (by omega)
  have a := R1.2.2 _ a1 a2
  by_cases c : q % 14 - 1 ≤ T (rn p)
  · exact zc_uniq R1 a1 a2 b1 b2 (by omega) c b3 b4
  · exfalso
    by_cases c2 : rn p + 1 = s (p / 14 - 1 + 1)
    · have := a.2.2.2.2.2.2 c2; omega
    · have n := a.2.2.2.2.2.1 (by omega)
      have n2 := (R1.2.2 (rn p + 1) (by omega) (by omega)).1
      have e : rn p + 1 = rn q := zc_uniq R1 (x := q % 14 - 1) (by omega) (by omega) b1 b2 (by omega) (by omega) b3 b4
      rw [e] at n
      rw [hb] at kp
      omega
theorem zc_rn_v {j : Nat} (HP : zc_Pic w h B) (H : zc_Row w B s F T K P h) (k0 : K 0 = 0) (hn : zc_Rn w h s F T rn) (c2 : ∀ j, j + 1 < h → zc_C2 s F T K R j) {p q : Nat} (hp : p < 196) (hq : q < 196) (Ip : zc_In w h p) (Iq : zc_In w h q) (hS : zc_St B p q) (h1 : q / 14 = p / 14 + 1) : R (rn p) = R (rn q) := by
  have hs := HP.1
  have kp := zc_rn_K HP H k0 hn hp
  have kq := zc_rn_K HP H k0 hn hq
  obtain ⟨a1, a2, a3, a4⟩ := (hn p hp).2 Ip
  obtain ⟨b1, b2, b3, b4⟩ := (hn q hq).2 Iq
  unfold zc_In at Ip Iq
  rw [show q / 14 - 1 = p / 14 - 1 + 1 by omega] at b1 b2
  obtain ⟨-, -, hb, hst⟩ := hS
  have hx : p % 14 ≤ q % 14 + K (rn p) ∧ q % 14 ≤ p % 14 + K (rn p) := by
    rcases hst with h4 | ⟨hbl, h9⟩
    · unfold zc_A4 at h4; omega
    · rw [hbl] at kp
      have : K (rn p) = 1 := kp.symm
      unfold zc_A9 at h9; omega
  exact c2 (p / 14 - 1) (by omega) (rn p) (rn q) a1 a2 b1 b2 (by rw [← kp, ← kq, hb]) (by omega) (by omega)
theorem zc_rn_b (HP : zc_Pic w h B) (H : zc_Row w B s F T K P h) (k0 : K 0 = 0) (hn : zc_Rn w h s F T rn) (c1 : ∀ j, j < h → zc_C1 w h s F T K R j) {p q : Nat} (hp : p < 196) (hq : q < 196) (Ip : zc_In w h p) (Iq : ¬ zc_In w h q) (hS : zc_St B p q) : R (rn p) = R (rn q) := by
  have hs := HP.1
  have kp := zc_rn_K HP H k0 hn hp
  obtain ⟨a1, a2, a3, a4⟩ := (hn p hp).2 Ip
  rw [(hn q hq).1 Iq]
  obtain ⟨-, -, hb, hst⟩ := hS
  have hbq := HP.2 q Iq
  rw [hb, hbq] at kp
  have kz : K (rn p) = 0 := kp.symm
  have h4 : zc_A4 p q := by
    rcases hst with h4 | ⟨hbl, -⟩
    · exact h4
    · rw [hb, hbq] at hbl; exact absurd hbl (by decide)
  unfold zc_In at Ip Iq
  unfold zc_A4 at h4
  have a := (H.2.2 (p / 14 - 1) (by omega)).2.2 _ a1 a2
  exact c1 (p / 14 - 1) (by omega) (rn p) a1 a2 kz (by omega)
theorem zc_step_R (HP : zc_Pic w h B) (H : zc_Row w B s F T K P h) (k0 : K 0 = 0) (hn : zc_Rn w h s F T rn) (c1 : ∀ j, j < h → zc_C1 w h s F T K R j) (c2 : ∀ j, j + 1 < h → zc_C2 s F T K R j) {p q : Nat} (hS : zc_St B p q) : R (rn p) = R (rn q) := by
  have hp := hS.1
  have hq := hS.2.1
  by_cases Ip : zc_In w h p
  · by_cases Iq : zc_In w h q
    · rcases Nat.lt_trichotomy (p / 14) (q / 14) with z | z | z
      · refine zc_rn_v (j := 0) HP H k0 hn c2 hp hq Ip Iq hS ?_
        rcases hS.2.2.2 with h4 | ⟨-, h9⟩
        · unfold zc_A4 at h4; omega
        · unfold zc_A9 at h9; omega
      · rcases Nat.lt_trichotomy (p % 14) (q % 14) with y | y | y
        · have e : q % 14 = p % 14 + 1 := by
            rcases hS.2.2.2 with h4 | ⟨-, h9⟩
            · unfold zc_A4 at h4; omega
            · unfold zc_A9 at h9; omega
          rw [zc_rn_h HP H k0 hn hp hq Ip Iq hS.2.2.1 z.symm e]
        · rw [show p = q by omega]
        · have e : p % 14 = q % 14 + 1 := by
            rcases hS.2.2.2 with h4 | ⟨-, h9⟩
            · unfold zc_A4 at h4; omega
            · unfold zc_A9 at h9; omega
          rw [zc_rn_h HP H k0 hn hq hp Iq Ip hS.2.2.1.symm z e]
      · refine (zc_rn_v (j := 0) HP H k0 hn c2 hq hp Iq Ip (zc_St_s hS) ?_).symm
        rcases hS.2.2.2 with h4 | ⟨-, h9⟩
        · unfold zc_A4 at h4; omega
        · unfold zc_A9 at h9; omega
    · exact zc_rn_b HP H k0 hn c1 hp hq Ip Iq hS
  · by_cases Iq : zc_In w h q
    · exact (zc_rn_b HP H k0 hn c1 hq hp Iq Ip (zc_St_s hS)).symm
    · rw [(hn p hp).1 Ip, (hn q hq).1 Iq]
/-- the first pass finds the components -/
theorem zc_D_of {L : Nat → Nat} (HP : zc_Pic w h B) (H : zc_Row w B s F T K P h) (k0 : K 0 = 0) (hV : zc_V B P (s h) L R) (c1 : ∀ j, j < h → zc_C1 w h s F T K R j) (c2 : ∀ j, j + 1 < h → zc_C2 s F T K R j) : ∃ rn, zc_D w h B s F T K P R rn := by
  have hs := HP.1
  obtain ⟨rn, hn⟩ := zc_Rn_ex (by omega) H
  refine ⟨rn, HP, H, k0, fun i hi => ⟨(hV.1 i hi).2.2.2.1, zc_UF_i hV.1 hi⟩, hn, ?_, ?_, ?_⟩
  · intro p hp
    have l := zc_rn_lt H hn hp
    have a := (hV.1 _ l).2.2.2.1
    exact Nat.le_trans (zc_P_le H (by omega) a l) (zc_rn_P H hn hp)
  · intro p q hS
    show P (R (rn p)) = P (R (rn q))
    rw [zc_step_R HP H k0 hn c1 c2 hS]
  · intro p hp
    exact zc_Cn_t (zc_Cn_s (zc_rn_Cn HP H hn hp)) (hV.2 _ (zc_rn_lt H hn hp))
end
end
section
/-! the second pass: what is counted -/
def zc_bk (B : Nat → Bool) (r : Nat → Nat) (x : Nat) : Prop := B x = true ∧ r x = x
def zc_wk (B : Nat → Bool) (r : Nat → Nat) (x : Nat) : Prop := B x = false ∧ r x = x
/-- first runs of colour e before run k, by their places -/
noncomputable def zc_cnt (K P R : Nat → Nat) (e k : Nat) : Nat := zc_n (fun x => ∃ c, c < k ∧ R c = c ∧ K c = e ∧ P c = x) 196
section
variable {w h : Nat} {B : Nat → Bool} {s F T K P R rn : Nat → Nat}
theorem zc_D_lt (D : zc_D w h B s F T K P R rn) {i : Nat} (hi : i < s h) : P i < 196 := by
  have hs := D.1.1
  exact zc_P_lt D.2.1 (by omega) (by omega) hi
theorem zc_D_145 (D : zc_D w h B s F T K P R rn) : s h ≤ 145 := by
  have hs := D.1.1
  have := zc_s_le12 D.2.1 (by omega) (Nat.le_refl h) (by omega)
  omega
theorem zc_D_rn (D : zc_D w h B s F T K P R rn) {i : Nat} (hi : i < s h) : rn (P i) = i := zc_rn_of D.1 D.2.1 D.2.2.2.2.1 hi
theorem zc_D_rl (D : zc_D w h B s F T K P R rn) {p : Nat} (hp : p < 196) : rn p < s h := zc_rn_lt D.2.1 D.2.2.2.2.1 hp
theorem zc_D_R (D : zc_D w h B s F T K P R rn) {i : Nat} (hi : i < s h) : R i ≤ i ∧ R (R i) = R i := D.2.2.2.1 i hi
theorem zc_D_K (D : zc_D w h B s F T K P R rn) {p : Nat} (hp : p < 196) : zc_t (B p) = K (rn p) := zc_rn_K D.1 D.2.1 D.2.2.1 D.2.2.2.2.1 hp
theorem zc_D_KP (D : zc_D w h B s F T K P R rn) {i : Nat} (hi : i < s h) : zc_t (B (P i)) = K i := by
  rw [zc_D_K D (zc_D_lt D hi), zc_D_rn D hi]
theorem zc_D_inj (D : zc_D w h B s F T K P R rn) {i k : Nat} (hi : i < s h) (hk : k < s h) (e : P i = P k) : i = k := by
  have hs := D.1.1
  exact zc_P_inj D.2.1 (by omega) hi hk e
theorem zc_D_mono (D : zc_D w h B s F T K P R rn) {i k : Nat} (hik : i < k) (hk : k < s h) : P i < P k := by
  have hs := D.1.1
  exact zc_P_mono D.2.1 (by omega) hik hk
theorem zc_D_pos (D : zc_D w h B s F T K P R rn) {i : Nat} (h0 : i ≠ 0) (hi : i < s h) : P i ≠ 0 := by
  have := zc_D_mono D (i := 0) (k := i) (by omega) hi
  omega
theorem zc_D_root (D : zc_D w h B s F T K P R rn) {x : Nat} (hx : x < 196) (e : P (R (rn x)) = x) : R (rn x) < s h ∧ R (R (rn x)) = R (rn x) := by
  have l := zc_D_rl D hx
  have a := zc_D_R D l
  exact ⟨by omega, a.2⟩
theorem zc_D_col (D : zc_D w h B s F T K P R rn) (b : Bool) {x : Nat} (hx : x < 196) : (B x = b ∧ P (R (rn x)) = x) ↔ ∃ c, c < s h ∧ R c = c ∧ K c = zc_t b ∧ P c = x := by
  constructor
  · rintro ⟨h1, h2⟩
    obtain ⟨a1, a2⟩ := zc_D_root D hx h2
    refine ⟨R (rn x), a1, a2, ?_, h2⟩
    rw [← zc_D_KP D a1, h2, h1]
  · rintro ⟨c, c1, c2, c3, c4⟩
    subst c4
    refine ⟨zc_t_i ((zc_D_KP D c1).trans c3), ?_⟩
    rw [zc_D_rn D c1, c2]
theorem zc_cnt_end (D : zc_D w h B s F T K P R rn) (b : Bool) : zc_cnt K P R (zc_t b) (s h) = zc_n (fun x => B x = b ∧ P (R (rn x)) = x) 196 :=
  zc_n_eq fun _ hx => (zc_D_col D b hx).symm
theorem zc_cnt_at (D : zc_D w h B s F T K P R rn) (b : Bool) {k : Nat} (hk : k < s h) : zc_cnt K P R (zc_t b) k = zc_n (fun x => B x = b ∧ P (R (rn x)) = x) (P k) := by
  have l := zc_D_lt D hk
  rw [← zc_n_cut (N := 196) (Nat.le_of_lt l)]
  refine zc_n_eq fun x hx => ?_
  rw [zc_D_col D b hx]
  constructor
  · rintro ⟨c, c1, c2, c3, c4⟩
    exact ⟨⟨c, by omega, c2, c3, c4⟩, by rw [← c4]; exact zc_D_mono D c1 hk⟩
  · rintro ⟨⟨c, c1, c2, c3, c4⟩, l⟩
    refine ⟨c, ?_, c2, c3, c4⟩
    rcases Nat.lt_or_ge c k with z | z
    · exact z
    · exfalso
      rcases Nat.lt_or_ge k c with y | y
      · have := zc_D_mono D y c1; omega
      · rw [show c = k by omega] at c4; omega
theorem zc_cnt_y (D : zc_D w h B s F T K P R rn) {e k : Nat} (hk : k < s h) (h1 : R k = k) (h2 : K k = e) : zc_cnt K P R e (k + 1) = zc_cnt K P R e k + 1 := by
  refine zc_n_add (a := P k) (zc_D_lt D hk) ?_ ?_
  · rintro ⟨c, c1, -, -, c4⟩
    have := zc_D_mono D c1 hk
    omega
  · intro x hx
    constructor
    · rintro ⟨c, c1, c2, c3, c4⟩
      by_cases e : c = k
      · right; rw [← e]; exact c4.symm
      · left; exact ⟨c, by omega, c2, c3, c4⟩
    · rintro (⟨c, c1, c2, c3, c4⟩ | e)
      · exact ⟨c, by omega, c2, c3, c4⟩
      · exact ⟨k, by omega, h1, h2, e.symm⟩
theorem zc_cnt_n {e k : Nat} (h1 : ¬ (R k = k ∧ K k = e)) : zc_cnt K P R e (k + 1) = zc_cnt K P R e k := by
  refine zc_n_eq fun x hx => ?_
  constructor
  · rintro ⟨c, c1, c2, c3, c4⟩
    by_cases e : c = k
    · subst e; exact absurd ⟨c2, c3⟩ h1
    · exact ⟨c, by omega, c2, c3, c4⟩
  · rintro ⟨c, c1, c2, c3, c4⟩
    exact ⟨c, by omega, c2, c3, c4⟩
theorem zc_cnt_le (D : zc_D w h B s F T K P R rn) (e : Nat) : ∀ k, k ≤ s h → zc_cnt K P R e k ≤ k
  | 0, _ => by
    have : zc_cnt K P R e 0 = 0 := zc_n_0 (fun x _ => by rintro ⟨c, c1, -⟩; omega)
    omega
  | k + 1, hk => by
    have ih := zc_cnt_le D e k (by omega)
    by_cases c : R k = k ∧ K k = e
    · have := zc_cnt_y D (by omega) c.1 c.2; omega
    · have := zc_cnt_n (P := P) c; omega
theorem zc_cnt_1 (D : zc_D w h B s F T K P R rn) : zc_cnt K P R 0 1 = 1 ∧ zc_cnt K P R 1 1 = 0 := by
  have hm := zc_s_1 D.2.1 (Nat.le_refl h)
  have r0 := (zc_D_R D (i := 0) hm).1
  have k0 := D.2.2.1
  have z : ∀ e, zc_cnt K P R e 0 = 0 := fun e => zc_n_0 (fun x _ => by rintro ⟨c, c1, -⟩; omega)
  refine ⟨?_, ?_⟩
  · have := zc_cnt_y D (e := 0) (k := 0) hm (by omega) k0
    rw [z] at this; exact this
  · have := zc_cnt_n (P := P) (R := R) (K := K) (e := 1) (k := 0) (by omega)
    rw [z] at this; exact this
/-- the places of one run -/
theorem zc_D_len (D : zc_D w h B s F T K P R rn) {k : Nat} (h1 : 1 ≤ k) (hk : k < s h) : F k ≤ T k ∧ T k < 12 ∧ zc_n (fun x => rn x = k) 196 = T k - F k + 1 := by
  have hs := D.1.1
  obtain ⟨j, a1, a2, a3⟩ := zc_rowOf D.2.1 (Nat.le_refl h) k h1 hk
  have a := (D.2.1.2.2 j a1).2.2 k a2 a3
  refine ⟨a.1, by omega, ?_⟩
  rw [zc_n_eq (Q := fun x => 14 * j + F k + 15 ≤ x ∧ x < 14 * j + T k + 16), zc_n_iv (by omega) (by omega)]
  · omega
  · intro x hx
    constructor
    · intro e
      by_cases hI : zc_In w h x
      · obtain ⟨b1, b2, b3, b4⟩ := (D.2.2.2.2.1 x hx).2 hI
        rw [e] at b1 b2 b3 b4
        unfold zc_In at hI
        have ej : x / 14 - 1 = j := by
          rcases Nat.lt_trichotomy (x / 14 - 1) j with z | z | z
          · have := zc_s_mono D.2.1 (a := x / 14 - 1 + 1) (b := j) z (by omega); omega
          · exact z
          · have := zc_s_mono D.2.1 (a := j + 1) (b := x / 14 - 1) z (by omega); omega
        omega
      · rw [(D.2.2.2.2.1 x hx).1 hI] at e; omega
    · rintro ⟨x1, x2⟩
      have := zc_rn_at D.1 D.2.1 D.2.2.2.2.1 a1 a2 a3 (x := x - 14 * j - 15) (by omega) (by omega)
      rw [show 14 * j + (x - 14 * j - 15) + 15 = x by omega] at this
      exact this
/-- what lies west of a run -/
theorem zc_D_west (D : zc_D w h B s F T K P R rn) {k : Nat} (h1 : 1 ≤ k) (hk : k < s h) : rn (P k - 1) = if F k = 0 then 0 else k - 1 := by
  have hs := D.1.1
  obtain ⟨j, a1, a2, a3⟩ := zc_rowOf D.2.1 (Nat.le_refl h) k h1 hk
  have a := (D.2.1.2.2 j a1).2.2 k a2 a3
  by_cases f0 : F k = 0
  · rw [if_pos f0]
    exact (D.2.2.2.2.1 (P k - 1) (by omega)).1 (by unfold zc_In; omega)
  · rw [if_neg f0]
    have hne : k ≠ s j := fun e => f0 (a.2.2.2.2.1 e)
    have b := (D.2.1.2.2 j a1).2.2 (k - 1) (by omega) (by omega)
    have c := (b.2.2.2.2.2.1 (by omega)).1
    rw [show k - 1 + 1 = k by omega] at c
    have := zc_rn_at D.1 D.2.1 D.2.2.2.2.1 a1 (i := k - 1) (x := T (k - 1)) (by omega) (by omega) b.1 (Nat.le_refl _)
    rw [show 14 * j + T (k - 1) + 15 = P k - 1 by omega] at this
    exact this
end
/-- places by first run, before run k -/
noncomputable def zc_pl (R rn : Nat → Nat) (k i : Nat) : Nat := zc_n (fun x => 1 ≤ rn x ∧ rn x < k ∧ R (rn x) = i) 196
section
variable {w h : Nat} {B : Nat → Bool} {s F T K P R rn : Nat → Nat}
theorem zc_pl_1 (i : Nat) : zc_pl R rn 1 i = 0 := zc_n_0 (fun x _ z => by omega)
theorem zc_pl_y (D : zc_D w h B s F T K P R rn) {k i : Nat} (h1 : 1 ≤ k) (hk : k < s h) (e : R k = i) : zc_pl R rn (k + 1) i = zc_pl R rn k i + (T k - F k + 1) := by
  rw [← (zc_D_len D h1 hk).2.2]
  unfold zc_pl
  rw [← zc_n_or (fun x _ z1 z2 => by omega)]
  refine zc_n_eq fun x hx => ?_
  constructor
  · rintro ⟨a1, a2, a3⟩
    by_cases c : rn x = k
    · exact Or.inr c
    · exact Or.inl ⟨a1, by omega, a3⟩
  · rintro (⟨a1, a2, a3⟩ | c)
    · exact ⟨a1, by omega, a3⟩
    · exact ⟨by omega, by omega, by rw [c]; exact e⟩
theorem zc_pl_n {k i : Nat} (e : R k ≠ i) : zc_pl R rn (k + 1) i = zc_pl R rn k i := by
  refine zc_n_eq fun x hx => ?_
  constructor
  · rintro ⟨a1, a2, a3⟩
    by_cases c : rn x = k
    · rw [c] at a3; exact absurd a3 e
    · exact ⟨a1, by omega, a3⟩
  · rintro ⟨a1, a2, a3⟩
    exact ⟨a1, by omega, a3⟩
theorem zc_pl_new (D : zc_D w h B s F T K P R rn) {k : Nat} (hk : k < s h) (e : R k = k) : zc_pl R rn k k = 0 := by
  refine zc_n_0 fun x hx z => ?_
  have := (zc_D_R D (zc_D_rl D hx)).1
  omega
theorem zc_pl_end (D : zc_D w h B s F T K P R rn) {i : Nat} (h0 : i ≠ 0) (hi : i < s h) : zc_pl R rn (s h) i = zc_n (fun x => P (R (rn x)) = P i) 196 := by
  refine zc_n_eq fun x hx => ?_
  have l := zc_D_rl D hx
  have a := zc_D_R D l
  constructor
  · rintro ⟨-, -, a3⟩
    rw [a3]
  · intro e
    have := zc_D_inj D (by omega) hi e
    exact ⟨by omega, l, this⟩
theorem zc_pl_le (k i : Nat) : zc_pl R rn k i ≤ 196 := zc_n_le _ _
end
end
section
/-! the second pass, step by step -/
def zc_r (P R rn : Nat → Nat) (p : Nat) : Nat := P (R (rn p))
def zc_Su (P R rn su : Nat → Nat) (i : Nat) : Prop := su i < i ∧ R (su i) = su i ∧ P (su i) = zc_r P R rn (P i - 1)
def zc_Sv (B : Nat → Bool) (K P R rn : Nat → Nat) (k : Nat) (pl su lv nu : Nat → Nat) : Prop :=
  ∀ i, i < k → R i = i → pl i = zc_pl R rn k i ∧ lv i = zc_d (zc_r P R rn) (P i) ∧ (i ≠ 0 → zc_Su P R rn su i) ∧ (K i = 1 → nu i = zc_n (zc_bk B (zc_r P R rn)) (P i))
def zc_Sf (B : Nat → Bool) (K P R rn : Nat → Nat) (k : Nat) (fr : Nat → Nat) : Prop :=
  ∀ c, c < zc_cnt K P R 1 k → fr c < k ∧ R (fr c) = fr c ∧ K (fr c) = 1 ∧ zc_n (zc_bk B (zc_r P R rn)) (P (fr c)) = c
section
variable {w h : Nat} {B : Nat → Bool} {s F T K P R rn pl su lv nu fr : Nat → Nat}
theorem zc_D_Rt (D : zc_D w h B s F T K P R rn) : zc_Rt B (zc_r P R rn) := D.2.2.2.2.2
theorem zc_D_Fr (D : zc_D w h B s F T K P R rn) : zc_Fr B := zc_Pic_F D.1
theorem zc_D_rP (D : zc_D w h B s F T K P R rn) {i : Nat} (hi : i < s h) : zc_r P R rn (P i) = P (R i) := by
  unfold zc_r; rw [zc_D_rn D hi]
theorem zc_D_m (D : zc_D w h B s F T K P R rn) : 0 < s h := zc_s_1 D.2.1 (Nat.le_refl h)
theorem zc_D_R0 (D : zc_D w h B s F T K P R rn) : R 0 = 0 := by
  have := (zc_D_R D (zc_D_m D)).1
  omega
theorem zc_bk_at (D : zc_D w h B s F T K P R rn) {k : Nat} (hk : k < s h) : zc_n (zc_bk B (zc_r P R rn)) (P k) = zc_cnt K P R 1 k := (zc_cnt_at D true hk).symm
theorem zc_bk_end (D : zc_D w h B s F T K P R rn) : zc_cnt K P R 1 (s h) = zc_n (zc_bk B (zc_r P R rn)) 196 := zc_cnt_end D true
theorem zc_wk_end (D : zc_D w h B s F T K P R rn) : zc_cnt K P R 0 (s h) = zc_n (zc_wk B (zc_r P R rn)) 196 := zc_cnt_end D false
/-- what lies beside a first run -/
theorem zc_D_b (D : zc_D w h B s F T K P R rn) {k b : Nat} (h1 : 1 ≤ k) (hk : k < s h) (hb : b = if F k = 0 then 0 else R (k - 1)) : b < k ∧ R b = b ∧ P b = zc_r P R rn (P k - 1) := by
  have e : b = R (rn (P k - 1)) := by
    rw [zc_D_west D h1 hk, hb]
    by_cases f0 : F k = 0
    · rw [if_pos f0, if_pos f0, zc_D_R0 D]
    · rw [if_neg f0, if_neg f0]
  have l : rn (P k - 1) < k := by
    rw [zc_D_west D h1 hk]
    by_cases f0 : F k = 0
    · rw [if_pos f0]; omega
    · rw [if_neg f0]; omega
  have a := zc_D_R D (i := rn (P k - 1)) (by omega)
  refine ⟨by omega, by rw [e]; exact a.2, by rw [e]; rfl⟩
theorem zc_D_lv (D : zc_D w h B s F T K P R rn) {k b : Nat} (h1 : 1 ≤ k) (hk : k < s h) (hr : R k = k) (hb : P b = zc_r P R rn (P k - 1)) : zc_d (zc_r P R rn) (P k) = zc_d (zc_r P R rn) (P b) + 1 ∧ zc_d (zc_r P R rn) (P k) ≤ 13 := by
  have l := zc_D_lt D hk
  have p0 := zc_D_pos D (i := k) (by omega) hk
  have e := zc_D_rP D hk
  rw [hr] at e
  refine ⟨?_, zc_d_le (zc_D_Fr D) (zc_D_Rt D) l⟩
  rw [zc_d_n (zc_D_Rt D) l (by omega), e, hb, zc_d_r (zc_D_Rt D) (by omega)]
theorem zc_Sv_1 (D : zc_D w h B s F T K P R rn) (hpl : pl 0 = 0) (hlv : lv 0 = 0) : zc_Sv B K P R rn 1 pl su lv nu := by
  intro i hi hr
  have e : i = 0 := by omega
  subst e
  refine ⟨by rw [hpl, zc_pl_1], ?_, fun z => absurd rfl z, fun z => ?_⟩
  · rw [hlv, D.2.1.2.1]
    exact (zc_d_0 (zc_Rt_0 (zc_D_Rt D))).symm
  · rw [D.2.2.1] at z; exact absurd z (by decide)
theorem zc_Sf_1 (D : zc_D w h B s F T K P R rn) : zc_Sf B K P R rn 1 fr := by
  intro c hc
  rw [(zc_cnt_1 D).2] at hc
  omega
theorem zc_Sv_a (D : zc_D w h B s F T K P R rn) {k : Nat} (h1 : 1 ≤ k) (hk : k < s h) (hr : R k ≠ k) (H : zc_Sv B K P R rn k pl su lv nu) : zc_Sv B K P R rn (k + 1) (zc_u pl (R k) (pl (R k) + (T k - F k + 1))) su lv nu := by
  intro i hi hri
  have hik : i ≠ k := fun e => hr (by rw [← e]; exact hri)
  obtain ⟨a1, a2, a3, a4⟩ := H i (by omega) hri
  refine ⟨?_, a2, a3, a4⟩
  by_cases e : i = R k
  · rw [zc_pl_y D h1 hk e.symm, ← a1, e, zc_us]
  · rw [zc_un e, zc_pl_n (fun z => e z.symm), a1]
theorem zc_Sf_a {k : Nat} (hr : ¬ (R k = k ∧ K k = 1)) (H : zc_Sf B K P R rn k fr) : zc_Sf B K P R rn (k + 1) fr := by
  intro c hc
  rw [zc_cnt_n hr] at hc
  obtain ⟨a1, a2⟩ := H c hc
  exact ⟨by omega, a2⟩
theorem zc_Sv_b (D : zc_D w h B s F T K P R rn) {k b : Nat} {nu' : Nat → Nat} (h1 : 1 ≤ k) (hk : k < s h) (hr : R k = k) (hb : b = if F k = 0 then 0 else R (k - 1)) (H : zc_Sv B K P R rn k pl su lv nu) (hn : ∀ i, i < k → nu' i = nu i) (hn' : K k = 1 → nu' k = zc_cnt K P R 1 k) : zc_Sv B K P R rn (k + 1) (zc_u pl k (T k - F k + 1)) (zc_u su k b) (zc_u lv k (lv b + 1)) nu' := by
  intro i hi hri
  obtain ⟨b1, b2, b3⟩ := zc_D_b D h1 hk hb
  by_cases e : i = k
  · subst e
    rw [zc_us, zc_us]
    refine ⟨?_, ?_, fun _ => ?_, fun z => ?_⟩
    · rw [zc_pl_y D h1 hk hr, zc_pl_new D hk hr, Nat.zero_add]
    · rw [(zc_D_lv D h1 hk hr b3).1, (H b b1 b2).2.1]
    · unfold zc_Su; rw [zc_us]; exact ⟨b1, b2, b3⟩
    · rw [hn' z, zc_bk_at D hk]
  · obtain ⟨a1, a2, a3, a4⟩ := H i (by omega) hri
    rw [zc_un e, zc_un e]
    refine ⟨by rw [zc_pl_n (by omega), a1], a2, fun z => ?_, fun z => by rw [hn i (by omega), a4 z]⟩
    unfold zc_Su
    rw [zc_un e]
    exact a3 z
theorem zc_Sf_b (D : zc_D w h B s F T K P R rn) {k : Nat} (hk : k < s h) (hr : R k = k) (hK : K k = 1) (H : zc_Sf B K P R rn k fr) : zc_Sf B K P R rn (k + 1) (zc_u fr (zc_cnt K P R 1 k) k) := by
  intro c hc
  rw [zc_cnt_y D hk hr hK] at hc
  by_cases e : c = zc_cnt K P R 1 k
  · rw [e, zc_us]
    exact ⟨by omega, hr, hK, zc_bk_at D hk⟩
  · rw [zc_un e]
    obtain ⟨a1, a2⟩ := H c (by omega)
    exact ⟨by omega, a2⟩
end
/-- what first runs behind k have brought to i -/
noncomputable def zc_wi (P R rn su : Nat → Nat) (m k i : Nat) : Nat := zc_n (fun x => ∃ c, k < c ∧ c < m ∧ R c = c ∧ su c = i ∧ zc_An (zc_r P R rn) (P c) x) 196
noncomputable def zc_hc (K P R su : Nat → Nat) (m k i : Nat) : Nat := zc_n (fun x => ∃ c, k < c ∧ c < m ∧ R c = c ∧ K c = 0 ∧ su c = i ∧ P c = x) 196
theorem zc_wi_0 {P R rn su : Nat → Nat} {m k : Nat} (i : Nat) (h : m ≤ k + 1) : zc_wi P R rn su m k i = 0 := zc_n_0 (fun x _ => by rintro ⟨c, c1, c2, -⟩; omega)
theorem zc_hc_0 {K P R su : Nat → Nat} {m k : Nat} (i : Nat) (h : m ≤ k + 1) : zc_hc K P R su m k i = 0 := zc_n_0 (fun x _ => by rintro ⟨c, c1, c2, -⟩; omega)
theorem zc_wi_le {P R rn su : Nat → Nat} {m k : Nat} (i : Nat) : zc_wi P R rn su m k i ≤ 196 := zc_n_le _ _
theorem zc_hc_le {K P R su : Nat → Nat} {m k : Nat} (i : Nat) : zc_hc K P R su m k i ≤ 196 := zc_n_le _ _
section
variable {w h : Nat} {B : Nat → Bool} {s F T K P R rn su : Nat → Nat}
theorem zc_wi_n {m k i : Nat} (hn : ¬ (R (k + 1) = k + 1 ∧ su (k + 1) = i)) : zc_wi P R rn su m k i = zc_wi P R rn su m (k + 1) i := by
  refine zc_n_eq fun x hx => ?_
  constructor
  · rintro ⟨c, c1, c2, c3, c4, c5⟩
    by_cases e : c = k + 1
    · subst e; exact absurd ⟨c3, c4⟩ hn
    · exact ⟨c, by omega, c2, c3, c4, c5⟩
  · rintro ⟨c, c1, c2, c3, c4, c5⟩
    exact ⟨c, by omega, c2, c3, c4, c5⟩
theorem zc_hc_n {m k i : Nat} (hn : ¬ (R (k + 1) = k + 1 ∧ K (k + 1) = 0 ∧ su (k + 1) = i)) : zc_hc K P R su m k i = zc_hc K P R su m (k + 1) i := by
  refine zc_n_eq fun x hx => ?_
  constructor
  · rintro ⟨c, c1, c2, c3, c4, c5, c6⟩
    by_cases e : c = k + 1
    · subst e; exact absurd ⟨c3, c4, c5⟩ hn
    · exact ⟨c, by omega, c2, c3, c4, c5, c6⟩
  · rintro ⟨c, c1, c2, c3, c4, c5, c6⟩
    exact ⟨c, by omega, c2, c3, c4, c5, c6⟩
theorem zc_hc_y (D : zc_D w h B s F T K P R rn) {k i : Nat} (hk : k + 1 < s h) (h1 : R (k + 1) = k + 1) (h2 : K (k + 1) = 0) (h3 : su (k + 1) = i) : zc_hc K P R su (s h) k i = zc_hc K P R su (s h) (k + 1) i + 1 := by
  refine zc_n_add (a := P (k + 1)) (zc_D_lt D hk) ?_ ?_
  · rintro ⟨c, c1, c2, -, -, -, c4⟩
    have := zc_D_mono D c1 c2
    omega
  · intro x hx
    constructor
    · rintro ⟨c, c1, c2, c3, c4, c5, c6⟩
      by_cases e : c = k + 1
      · right; rw [← e]; exact c6.symm
      · left; exact ⟨c, by omega, c2, c3, c4, c5, c6⟩
    · rintro (⟨c, c1, c2, c3, c4, c5, c6⟩ | e)
      · exact ⟨c, by omega, c2, c3, c4, c5, c6⟩
      · exact ⟨k + 1, by omega, hk, h1, h2, h3, e.symm⟩
/-- ancestors by runs -/
theorem zc_An_run (D : zc_D w h B s F T K P R rn) (hsu : ∀ i, i < s h → R i = i → i ≠ 0 → zc_Su P R rn su i) {e x : Nat} (he : e < s h) (hx : x < 196) : zc_An (zc_r P R rn) (P e) x ↔ (zc_r P R rn x = P e ∨ ∃ c, e < c ∧ c < s h ∧ R c = c ∧ su c = e ∧ zc_An (zc_r P R rn) (P c) x) := by
  rw [zc_An_ch (zc_D_Rt D) hx]
  constructor
  · rintro (z | ⟨c, c1, c2, c3, c4, c5⟩)
    · exact Or.inl z
    · right
      obtain ⟨a1, a2⟩ := zc_D_root D c1 c2
      have ec : P (R (rn c)) = c := c2
      have n0 : R (rn c) ≠ 0 := by
        intro z
        rw [z, D.2.1.2.1] at ec
        exact c3 ec.symm
      obtain ⟨b1, b2, b3⟩ := hsu _ a1 a2 n0
      rw [ec, c4] at b3
      have b4 := zc_D_inj D (by omega) he b3
      exact ⟨R (rn c), by omega, a1, a2, b4, by rw [ec]; exact c5⟩
  · rintro (z | ⟨c, c1, c2, c3, c4, c5⟩)
    · exact Or.inl z
    · right
      obtain ⟨b1, b2, b3⟩ := hsu c c2 c3 (by omega)
      refine ⟨P c, zc_D_lt D c2, ?_, zc_D_pos D (by omega) c2, ?_, c5⟩
      · rw [zc_D_rP D c2, c3]
      · rw [← b3, c4]
theorem zc_An_ge (D : zc_D w h B s F T K P R rn) {c e x : Nat} (hc : c < s h) (hec : e < c) (hx : x < 196) (hA : zc_An (zc_r P R rn) (P c) x) : zc_r P R rn x ≠ P e := by
  have h1 := zc_An_le (zc_D_Rt D) 196 x hx hx hA
  have h2 := zc_D_mono D hec hc
  omega
theorem zc_An_n (D : zc_D w h B s F T K P R rn) (hsu : ∀ i, i < s h → R i = i → i ≠ 0 → zc_Su P R rn su i) {e : Nat} (he : e < s h) (h0 : e ≠ 0) : zc_n (zc_An (zc_r P R rn) (P e)) 196 = zc_pl R rn (s h) e + zc_wi P R rn su (s h) e e := by
  rw [zc_pl_end D h0 he]
  unfold zc_wi
  rw [← zc_n_or]
  · exact zc_n_eq fun x hx => zc_An_run D hsu he hx
  · rintro x hx z ⟨c, c1, c2, c3, c4, c5⟩
    exact zc_An_ge D c2 c1 hx c5 z
theorem zc_wi_y (D : zc_D w h B s F T K P R rn) (hsu : ∀ i, i < s h → R i = i → i ≠ 0 → zc_Su P R rn su i) {k i : Nat} (hk : k + 1 < s h) (h1 : R (k + 1) = k + 1) (h3 : su (k + 1) = i) : zc_wi P R rn su (s h) k i = zc_wi P R rn su (s h) (k + 1) i + (zc_pl R rn (s h) (k + 1) + zc_wi P R rn su (s h) (k + 1) (k + 1)) := by
  rw [← zc_An_n D hsu hk (by omega)]
  unfold zc_wi
  rw [← zc_n_or]
  · refine zc_n_eq fun x hx => ?_
    constructor
    · rintro ⟨c, c1, c2, c3, c4, c5⟩
      by_cases e : c = k + 1
      · subst e; exact Or.inr c5
      · exact Or.inl ⟨c, by omega, c2, c3, c4, c5⟩
    · rintro (⟨c, c1, c2, c3, c4, c5⟩ | z)
      · exact ⟨c, by omega, c2, c3, c4, c5⟩
      · exact ⟨k + 1, by omega, hk, h1, h3, z⟩
  · rintro x hx ⟨c, c1, c2, c3, c4, c5⟩ z
    obtain ⟨b1, b2, b3⟩ := hsu c c2 c3 (by omega)
    obtain ⟨d1, d2, d3⟩ := hsu (k + 1) hk h1 (by omega)
    have hne : P (k + 1) ≠ P c := by have := zc_D_mono D c1 c2; omega
    exact zc_An_dis (zc_D_Rt D) (i := P i) (zc_D_lt D hk) (zc_D_lt D c2) (by rw [zc_D_rP D hk, h1]) (by rw [zc_D_rP D c2, c3]) (zc_D_pos D (by omega) hk) (zc_D_pos D (by omega) c2) (by rw [← d3, h3]) (by rw [← b3, c4]) hne hx z c5
theorem zc_wi_end (D : zc_D w h B s F T K P R rn) (hsu : ∀ i, i < s h → R i = i → i ≠ 0 → zc_Su P R rn su i) {i : Nat} (hi : i < s h) : zc_wi P R rn su (s h) 0 i = zc_n (fun x => zc_An (zc_r P R rn) (P i) x ∧ zc_r P R rn x ≠ P i) 196 := by
  refine zc_n_eq fun x hx => ?_
  rw [zc_An_run D hsu hi hx]
  constructor
  · rintro ⟨c, c1, c2, c3, c4, c5⟩
    have := (hsu c c2 c3 (by omega)).1
    exact ⟨Or.inr ⟨c, by omega, c2, c3, c4, c5⟩, zc_An_ge D c2 (by omega) hx c5⟩
  · rintro ⟨z | ⟨c, c1, c2, c3, c4, c5⟩, y⟩
    · exact absurd z y
    · exact ⟨c, by omega, c2, c3, c4, c5⟩
theorem zc_hc_end (D : zc_D w h B s F T K P R rn) (hsu : ∀ i, i < s h → R i = i → i ≠ 0 → zc_Su P R rn su i) {i : Nat} (hi : i < s h) : zc_hc K P R su (s h) 0 i = zc_n (fun x => x ≠ 0 ∧ zc_wk B (zc_r P R rn) x ∧ zc_r P R rn (x - 1) = P i) 196 := by
  refine zc_n_eq fun x hx => ?_
  have hcol : zc_wk B (zc_r P R rn) x ↔ ∃ c, c < s h ∧ R c = c ∧ K c = 0 ∧ P c = x := zc_D_col D false hx
  rw [hcol]
  constructor
  · rintro ⟨c, c1, c2, c3, c4, c5, c6⟩
    obtain ⟨b1, b2, b3⟩ := hsu c c2 c3 (by omega)
    refine ⟨by rw [← c6]; exact zc_D_pos D (by omega) c2, ⟨c, c2, c3, c4, c6⟩, by rw [← c6, ← b3, c5]⟩
  · rintro ⟨x0, ⟨c, c2, c3, c4, c6⟩, y⟩
    have c0 : c ≠ 0 := by
      intro z
      rw [z, D.2.1.2.1] at c6
      exact x0 c6.symm
    obtain ⟨b1, b2, b3⟩ := hsu c c2 c3 c0
    rw [c6, y] at b3
    exact ⟨c, by omega, c2, c3, c4, zc_D_inj D (by omega) hi b3, c6⟩
end
end
section
/-! a row is cut into runs -/
def zc_Ag (k : Nat) (f g : Nat → Nat) : Prop := ∀ i, i < k → f i = g i
theorem zc_Ag_r {k : Nat} {f : Nat → Nat} : zc_Ag k f f := fun _ _ => rfl
theorem zc_Ag_u {k m v : Nat} {f g : Nat → Nat} (H : zc_Ag k f g) (h : k ≤ m) : zc_Ag k (zc_u f m v) g := fun i hi => by rw [zc_un (by omega)]; exact H i hi
/-- row y as far as column x, runs s y to m - 1 -/
def zc_Rp (w : Nat) (B : Nat → Bool) (a : Nat) (F T K P : Nat → Nat) (y m x : Nat) : Prop :=
  a ≤ m ∧ m ≤ a + x ∧ x ≤ w ∧ (m = a → x = 0) ∧ ∀ i, a ≤ i → i < m →
    F i ≤ T i ∧ T i < w ∧ P i = 14 * y + F i + 15 ∧ (∀ x', F i ≤ x' → x' ≤ T i → zc_t (B (14 * y + x' + 15)) = K i) ∧ (i = a → F i = 0) ∧
    (i + 1 < m → F (i + 1) = T i + 1 ∧ K (i + 1) ≠ K i) ∧ (i + 1 = m → T i + 1 = x ∧ (x < w → zc_t (B (14 * y + x + 15)) ≠ K i))
section
variable {w : Nat} {B : Nat → Bool} {a : Nat} {F T K P : Nat → Nat} {y m x : Nat}
theorem zc_Rp_0 : zc_Rp w B a F T K P y a 0 := ⟨Nat.le_refl _, by omega, by omega, fun _ => rfl, fun i h1 h2 => by omega⟩
theorem zc_Rp_s (H : zc_Rp w B a F T K P y m x) (hx : x < w) {e c : Nat} (e1 : x ≤ e) (e2 : e < w) (hc : ∀ z, x ≤ z → z ≤ e → zc_t (B (14 * y + z + 15)) = c) (hn : e + 1 < w → zc_t (B (14 * y + (e + 1) + 15)) ≠ c) :
    zc_Rp w B a (zc_u F m x) (zc_u T m e) (zc_u K m c) (zc_u P m (14 * y + x + 15)) y (m + 1) (e + 1) := by
  obtain ⟨h1, h2, h3, h4, h5⟩ := H
  refine ⟨by omega, by omega, by omega, fun z => by omega, fun i i1 i2 => ?_⟩
  by_cases ei : i = m
  · subst ei
    rw [zc_us, zc_us, zc_us, zc_us]
    refine ⟨e1, e2, rfl, hc, fun z => h4 z, fun z => by omega, fun _ => ⟨rfl, hn⟩⟩
  · obtain ⟨b1, b2, b3, b4, b5, b6, b7⟩ := h5 i i1 (by omega)
    rw [zc_un ei, zc_un ei, zc_un ei, zc_un ei]
    refine ⟨b1, b2, b3, b4, b5, fun z => ?_, fun z => by omega⟩
    by_cases ej : i + 1 = m
    · rw [ej, zc_us, zc_us]
      obtain ⟨c1, c2⟩ := b7 ej
      refine ⟨c1.symm, ?_⟩
      rw [← hc x (Nat.le_refl _) e1]
      exact c2 hx
    · rw [zc_un ej, zc_un ej]
      exact b6 (by omega)
end
def zc_I (w h : Nat) (B : Nat → Bool) (s F T K P L R : Nat → Nat) (y m : Nat) : Prop :=
  zc_Row w B s F T K P y ∧ s y = m ∧ zc_V B P m L R ∧ (∀ j, j < y → zc_C1 w h s F T K R j) ∧ (∀ j, j + 1 < y → zc_C2 s F T K R j) ∧ K 0 = 0
section
variable {w h : Nat} {B : Nat → Bool} {s F T K P L R F' T' K' P' L' R' s' : Nat → Nat} {y m : Nat}
theorem zc_R1_cg {j : Nat} (H : zc_R1 w B s F T K P j) (h1 : s' j = s j) (h2 : s' (j + 1) = s (j + 1)) (aF : zc_Ag (s (j + 1)) F' F) (aT : zc_Ag (s (j + 1)) T' T) (aK : zc_Ag (s (j + 1)) K' K) (aP : zc_Ag (s (j + 1)) P' P) : zc_R1 w B s' F' T' K' P' j := by
  obtain ⟨b1, b2, b3⟩ := H
  unfold zc_R1
  rw [h1, h2]
  refine ⟨b1, b2, fun i i1 i2 => ?_⟩
  obtain ⟨c1, c2, c3, c4, c5, c6, c7⟩ := b3 i i1 i2
  rw [aF i i2, aT i i2, aK i i2, aP i i2]
  refine ⟨c1, c2, c3, c4, c5, fun z => ?_, c7⟩
  rw [aF (i + 1) z, aK (i + 1) z]
  exact c6 z
theorem zc_C1_cg {j : Nat} (H : zc_C1 w h s F T K R j) (h1 : s' j = s j) (h2 : s' (j + 1) = s (j + 1)) (aF : zc_Ag (s (j + 1)) F' F) (aT : zc_Ag (s (j + 1)) T' T) (aK : zc_Ag (s (j + 1)) K' K) (aR : zc_Ag (s (j + 1)) R' R) : zc_C1 w h s' F' T' K' R' j := by
  intro i i1 i2 i3 i4
  rw [h1] at i1
  rw [h2] at i2
  rw [aK i i2] at i3
  rw [aF i i2, aT i i2] at i4
  rw [aR i i2, aR 0 (by omega)]
  exact H i i1 i2 i3 i4
theorem zc_C2_cg {j : Nat} (H : zc_C2 s F T K R j) (h1 : s' j = s j) (h2 : s' (j + 1) = s (j + 1)) (h3 : s' (j + 1 + 1) = s (j + 1 + 1)) (aF : zc_Ag (s (j + 1 + 1)) F' F) (aT : zc_Ag (s (j + 1 + 1)) T' T) (aK : zc_Ag (s (j + 1 + 1)) K' K) (aR : zc_Ag (s (j + 1 + 1)) R' R) : zc_C2 s' F' T' K' R' j := by
  intro u l u1 u2 l1 l2 k t1 t2
  rw [h1] at u1
  rw [h2] at u2 l1
  rw [h3] at l2
  rw [aK u (by omega), aK l l2] at k
  rw [aK u (by omega), aF u (by omega), aT l l2] at t1
  rw [aK u (by omega), aF l l2, aT u (by omega)] at t2
  rw [aR u (by omega), aR l l2]
  exact H u l u1 u2 l1 l2 k t1 t2
/-- new runs lead to themselves -/
theorem zc_V_new {a : Nat} (H : zc_V B P a L R) (ham : a ≤ m) (aP : zc_Ag a P' P) (aL : zc_Ag a L' L) (hL : ∀ i, a ≤ i → i < m → L' i = i) : zc_V B P' m L' (fun i => if i < a then R i else i) := by
  constructor
  · intro i hi
    by_cases c : i < a
    · obtain ⟨b1, b2, b3, b4, b5⟩ := H.1 i c
      rw [aL i c]
      refine ⟨b1, ?_, fun z => ?_, ?_, ?_⟩
      · show (if L i < a then R (L i) else L i) = (if i < a then R i else i)
        rw [if_pos (by omega), if_pos c, b2]
      · show (if i < a then R i else i) = i
        rw [if_pos c]; exact b3 z
      · show (if i < a then R i else i) ≤ i
        rw [if_pos c]; exact b4
      · show L' (if i < a then R i else i) = (if i < a then R i else i)
        rw [if_pos c, aL (R i) (by omega)]; exact b5
    · rw [hL i (by omega) hi]
      refine ⟨Nat.le_refl _, rfl, fun _ => ?_, ?_, ?_⟩
      · show (if i < a then R i else i) = i
        rw [if_neg c]
      · show (if i < a then R i else i) ≤ i
        rw [if_neg c]; exact Nat.le_refl _
      · show L' (if i < a then R i else i) = (if i < a then R i else i)
        rw [if_neg c]; exact hL i (by omega) hi
  · intro i hi
    show zc_Cn B (P' i) (P' (if i < a then R i else i))
    by_cases c : i < a
    · have := (H.1 i c).2.2.2.1
      rw [if_pos c, aP i c, aP (R i) (by omega)]; exact H.2 i c
    · rw [if_neg c]; exact zc_Cn_r
theorem zc_I_row (H : zc_I w h B s F T K P L R y m) (hw : 0 < w) {m' : Nat} (hc : zc_Rp w B m F' T' K' P' y m' w) (aF : zc_Ag m F' F) (aT : zc_Ag m T' T) (aK : zc_Ag m K' K) (aP : zc_Ag m P' P) (aL : zc_Ag m L' L) (hL : ∀ i, m ≤ i → i < m' → L' i = i) :
    zc_Row w B (zc_u s (y + 1) m') F' T' K' P' (y + 1) ∧ K' 0 = 0 ∧ ∃ R', zc_V B P' m' L' R' ∧ (∀ j, j < y → zc_C1 w h (zc_u s (y + 1) m') F' T' K' R' j) ∧ (∀ j, j + 1 < y → zc_C2 (zc_u s (y + 1) m') F' T' K' R' j) := by
  obtain ⟨hr, hm, hV, c1, c2, k0⟩ := H
  obtain ⟨p1, p2, p3, p4, p5⟩ := hc
  have m1 : 1 ≤ m := by rw [← hm]; exact zc_s_1 hr (Nat.le_refl _)
  have es : ∀ j, j ≤ y → zc_u s (y + 1) m' j = s j := fun j hj => zc_un (by omega)
  have sm : ∀ j, j ≤ y → s j ≤ m := fun j hj => by rw [← hm]; exact zc_s_mono hr hj (Nat.le_refl _)
  have lo : ∀ {f g : Nat → Nat} {j : Nat}, j ≤ y → zc_Ag m f g → zc_Ag (s j) f g := fun hj H i hi => H i (Nat.lt_of_lt_of_le hi (sm _ hj))
  refine ⟨⟨by rw [es 0 (by omega)]; exact hr.1, by rw [aP 0 m1]; exact hr.2.1, fun j hj => ?_⟩, by rw [aK 0 m1]; exact k0, ?_⟩
  · by_cases e : j = y
    · subst e
      unfold zc_R1
      rw [zc_us, es j (Nat.le_refl _), hm]
      refine ⟨?_, p2, fun i i1 i2 => ?_⟩
      · rcases Nat.lt_or_ge m m' with z | z
        · exact z
        · have := p4 (by omega); omega
      · obtain ⟨b1, b2, b3, b4, b5, b6, b7⟩ := p5 i i1 i2
        exact ⟨b1, b2, b3, b4, b5, b6, fun z => (b7 z).1⟩
    · exact zc_R1_cg (hr.2.2 j (by omega)) (es j (by omega)) (es (j + 1) (by omega)) (lo (by omega) aF) (lo (by omega) aT) (lo (by omega) aK) (lo (by omega) aP)
  · refine ⟨_, zc_V_new hV p1 aP aL hL, fun j hj => ?_, fun j hj => ?_⟩
    · refine zc_C1_cg (c1 j hj) (es j (by omega)) (es (j + 1) (by omega)) (lo (by omega) aF) (lo (by omega) aT) (lo (by omega) aK) (fun i hi => if_pos ?_)
      exact Nat.lt_of_lt_of_le hi (sm _ (by omega))
    · refine zc_C2_cg (c2 j hj) (es j (by omega)) (es (j + 1) (by omega)) (es (j + 1 + 1) (by omega)) (lo (by omega) aF) (lo (by omega) aT) (lo (by omega) aK) (fun i hi => if_pos ?_)
      exact Nat.lt_of_lt_of_le hi (sm _ (by omega))
end
end
section
/-! walks of the component: first, unite, openBorders, cornerAbove, touchAbove -/
section
variable {w h m cc rc : Nat} {lab : Int32} {rb : Nat → Int32} {F T K L s su lv pl wi ho nu fr : Nat → Nat}
theorem zc_xfirst2 {post : Int32 → Prop} {M : Nat} {R : Nat → Nat} (H : zc_UF M L R) (hM : M ≤ 145) : ∀ n a, a < n → a < M → post (nI (R a)) → wX_first_2 post (nI w) (nI h) lab (nI m) (nI cc) (nI rc) rb (zc_A F) (zc_A T) (zc_A K) (zc_A L) (zc_A s) (zc_A su) (zc_A lv) (zc_A pl) (zc_A wi) (zc_A ho) (zc_A nu) (zc_A fr) n (nI a)
  | 0, a, h, _, _ => by omega
  | n + 1, a, h1, h2, hp => by
    have e := H a h2
    refine And.intro (vp_in_nI (by omega) (by omega)) ?_
    refine pk_eq (L a) a (fun z => ?_) (fun z => ⟨vp_in_nI (by omega) (by omega), nm_r (zc_A_r (by omega)) ?_⟩) (zc_A_r (by omega)) rfl
    · rw [e.2.2.1 z] at hp; exact hp
    · exact zc_xfirst2 H hM n (L a) (by omega) (by omega) (by rw [e.2.1]; exact hp)
theorem zc_xfirst {post : Int32 → Prop} {M : Nat} {R : Nat → Nat} (H : zc_UF M L R) (hM : M ≤ 145) {a : Nat} (ha : a < M) (hp : post (nI (R a))) : wpX_first post ((nI w), (nI h), lab, (nI m), (nI cc), (nI rc), rb, (zc_A F), (zc_A T), (zc_A K), (zc_A L), (zc_A s), (zc_A su), (zc_A lv), (zc_A pl), (zc_A wi), (zc_A ho), (zc_A nu), (zc_A fr)) (nI a) :=
  ⟨a + 1, zc_xfirst2 H hM (a + 1) a (by omega) ha hp⟩
theorem zc_xunite {post : SX → Prop} {M : Nat} {B : Nat → Bool} {P R : Nat → Nat} (H : zc_V B P M L R) (hM : M ≤ 145) {a b : Nat} (ha : a < M) (hb : b < M) (hc : zc_Cn B (P a) (P b))
    (hp : ∀ L' R', zc_V B P M L' R' → zc_Co R R' → R' a = R' b → post ((nI w), (nI h), lab, (nI m), (nI cc), (nI rc), rb, (zc_A F), (zc_A T), (zc_A K), (zc_A L'), (zc_A s), (zc_A su), (zc_A lv), (zc_A pl), (zc_A wi), (zc_A ho), (zc_A nu), (zc_A fr))) : wpX_unite post ((nI w), (nI h), lab, (nI m), (nI cc), (nI rc), rb, (zc_A F), (zc_A T), (zc_A K), (zc_A L), (zc_A s), (zc_A su), (zc_A lv), (zc_A pl), (zc_A wi), (zc_A ho), (zc_A nu), (zc_A fr)) (nI a) (nI b) := by
  have la := H.1 a ha
  have lb := H.1 b hb
  obtain ⟨u1, u2⟩ := zc_V_un H ha hb hc
  unfold wpX_unite
  refine zc_xfirst H.1 hM ha (zc_xfirst H.1 hM hb ?_)
  refine pk_le (R b) (R a) (fun z => ⟨vp_in_nI (by omega) (by omega), nm_r (zc_A_w (by omega) (zc_vs' (by omega))) ?_⟩) (fun z => ⟨vp_in_nI (by omega) (by omega), nm_r (zc_A_w (by omega) (zc_vs' (by omega))) ?_⟩)
  · obtain ⟨R', h1, h2, h3⟩ := u1 z
    exact hp _ R' h1 h2 h3
  · obtain ⟨R', h1, h2, h3⟩ := u2 z
    exact hp _ R' h1 h2 h3
end
end
section
/-! walks of the component: openBorders -/
theorem zc_R1_K {w : Nat} {B : Nat → Bool} {s F T K P : Nat → Nat} {j : Nat} (H : zc_R1 w B s F T K P j) {i : Nat} (i1 : s j ≤ i) (i2 : i < s (j + 1)) : K i ≤ 1 := by
  have a := H.2.2 i i1 i2
  rw [← a.2.2.2.1 (F i) (Nat.le_refl _) a.1]
  exact zc_t_le _
section
variable {w h m cc rc : Nat} {lab : Int32} {rb : Nat → Int32} {F T K s su lv pl wi ho nu fr : Nat → Nat}
theorem zc_xob27 {post : SX → Prop} {B : Nat → Bool} {P R0 : Nat → Nat} {y e M : Nat} (HP : zc_Pic w h B) (H1 : zc_R1 w B s F T K P y) (hy : y < h) (P0 : P 0 = 0) (hM : M ≤ 145) (hsM : s (y + 1) ≤ M) (he : e = 1 ∧ (y = 0 ∨ y + 1 = h) ∨ e = 0 ∧ ¬ (y = 0 ∨ y + 1 = h))
    (hp : ∀ L' R', zc_V B P M L' R' → zc_Co R0 R' → zc_C1 w h s F T K R' y → post ((nI w), (nI h), lab, (nI m), (nI cc), (nI rc), rb, (zc_A F), (zc_A T), (zc_A K), (zc_A L'), (zc_A s), (zc_A su), (zc_A lv), (zc_A pl), (zc_A wi), (zc_A ho), (zc_A nu), (zc_A fr))) : ∀ n i L R, s (y + 1) < i + n → s y ≤ i → i ≤ s (y + 1) → zc_V B P M L R → zc_Co R0 R → (∀ k, s y ≤ k → k < i → K k = 0 → (y = 0 ∨ y + 1 = h ∨ F k = 0 ∨ T k + 1 = w) → R k = R 0) → wX_openBorders_27 post (nI y) (nI e) n (nI i) (nI w) (nI h) lab (nI m) (nI cc) (nI rc) rb (zc_A F) (zc_A T) (zc_A K) (zc_A L) (zc_A s) (zc_A su) (zc_A lv) (zc_A pl) (zc_A wi) (zc_A ho) (zc_A nu) (zc_A fr) := by
  intro n
  have hs := HP.1
  induction n with
  | zero => intro i L R h1 h2 h3; omega
  | succ n ih =>
    intro i L R h1 h2 h3 hV c0 hd
    refine And.intro (by rw [nI_1]; exact vp_in_nI (by omega) (by omega)) ?_
    refine pk_le (s (y + 1)) i (fun z => ?_) (fun z => ?_) (by rw [nI_1]; exact zc_A_r (by omega)) rfl
    · exact hp L R hV c0 (fun k k1 k2 => hd k k1 (by omega))
    · have a := H1.2.2 i h2 z
      have ka := zc_R1_K H1 h2 z
      have next : ∀ L' R', zc_V B P M L' R' → zc_Co R R' → (K i = 0 → (y = 0 ∨ y + 1 = h ∨ F i = 0 ∨ T i + 1 = w) → R' i = R' 0) → wX_openBorders_27 post (nI y) (nI e) n (nI (i + 1)) (nI w) (nI h) lab (nI m) (nI cc) (nI rc) rb (zc_A F) (zc_A T) (zc_A K) (zc_A L') (zc_A s) (zc_A su) (zc_A lv) (zc_A pl) (zc_A wi) (zc_A ho) (zc_A nu) (zc_A fr) := by
        intro L' R' g1 g2 g3
        refine ih (i + 1) L' R' (by omega) (by omega) (by omega) g1 (zc_Co_t c0 g2) (fun k k1 k2 k3 k4 => ?_)
        by_cases ek : k = i
        · subst ek; exact g3 k3 k4
        · exact g2 k 0 (hd k k1 (by omega) k3 k4)
      have st : K i = 0 → (y = 0 ∨ y + 1 = h ∨ F i = 0 ∨ T i + 1 = w) → wX_openBorders_79 post (wX_openBorders_27 post (nI y) (nI e) n) (nI y) (nI e) (nI i) (nI w) (nI h) lab (nI m) (nI cc) (nI rc) rb (zc_A F) (zc_A T) (zc_A K) (zc_A L) (zc_A s) (zc_A su) (zc_A lv) (zc_A pl) (zc_A wi) (zc_A ho) (zc_A nu) (zc_A fr) := by
        intro k0 hb
        unfold wX_openBorders_79
        refine zc_xunite (a := 0) hV hM (by omega) (by omega) (by rw [P0]; exact zc_brun HP H1 hy h2 z k0 hb) (fun L' R' g1 g2 g3 => ?_)
        exact nm_r (nI_1 i) (next L' R' g1 g2 (fun _ _ => g3.symm))
      refine ⟨vp_in_nI (by omega) (by omega), pk_eq (K i) 0 (fun k0 => ?_) (fun k0 => nm_r (nI_1 i) (next L R hV zc_Co_r (fun z => absurd z k0))) (zc_A_r (by omega)) rfl⟩
      refine pk_eq e 0 (fun e0 => ?_) (fun e0 => st k0 (by omega))
      refine ⟨vp_in_nI (by omega) (by omega), pk_eq (F i) 0 (fun f0 => st k0 (by omega)) (fun f0 => ?_) (zc_A_r (by omega)) rfl⟩
      refine ⟨vp_in_nI (by omega) (by omega), pk_eq (T i) (w - 1) (fun t0 => st k0 (by omega)) (fun t0 => ?_) (zc_A_r (by omega)) (pk_sub (b := 1) (by omega))⟩
      exact nm_r (nI_1 i) (next L R hV zc_Co_r (fun _ b => by omega))
theorem zc_xob {post : SX → Prop} {B : Nat → Bool} {P L R : Nat → Nat} {y M : Nat} (HP : zc_Pic w h B) (H1 : zc_R1 w B s F T K P y) (hy : y < h) (P0 : P 0 = 0) (hM : M ≤ 145) (hsM : s (y + 1) ≤ M) (hV : zc_V B P M L R)
    (hp : ∀ L' R', zc_V B P M L' R' → zc_Co R R' → zc_C1 w h s F T K R' y → post ((nI w), (nI h), lab, (nI m), (nI cc), (nI rc), rb, (zc_A F), (zc_A T), (zc_A K), (zc_A L'), (zc_A s), (zc_A su), (zc_A lv), (zc_A pl), (zc_A wi), (zc_A ho), (zc_A nu), (zc_A fr))) : wpX_openBorders post ((nI w), (nI h), lab, (nI m), (nI cc), (nI rc), rb, (zc_A F), (zc_A T), (zc_A K), (zc_A L), (zc_A s), (zc_A su), (zc_A lv), (zc_A pl), (zc_A wi), (zc_A ho), (zc_A nu), (zc_A fr)) (nI y) := by
  have hs := HP.1
  have h1 := H1.1
  unfold wpX_openBorders
  have A : (y = 0 ∨ y + 1 = h) → wX_openBorders_14 post (nI y) (nI w) (nI h) lab (nI m) (nI cc) (nI rc) rb (zc_A F) (zc_A T) (zc_A K) (zc_A L) (zc_A s) (zc_A su) (zc_A lv) (zc_A pl) (zc_A wi) (zc_A ho) (zc_A nu) (zc_A fr) := by
    intro hb
    unfold wX_openBorders_14
    refine ⟨vp_in_nI (by omega) (by omega), nm_r (zc_A_r (by omega)) ⟨s (y + 1) + 1, ?_⟩⟩
    exact zc_xob27 (e := 1) HP H1 hy P0 hM hsM (Or.inl ⟨rfl, hb⟩) hp (s (y + 1) + 1) (s y) L R (by omega) (Nat.le_refl _) (by omega) hV zc_Co_r (fun k k1 k2 => by omega)
  refine pk_eq y 0 (fun z => A (Or.inl z)) (fun z => ?_)
  refine pk_eq y (h - 1) (fun z2 => A (Or.inr (by omega))) (fun z2 => ?_) rfl (pk_sub (b := 1) (by omega))
  refine ⟨vp_in_nI (by omega) (by omega), nm_r (zc_A_r (by omega)) ⟨s (y + 1) + 1, ?_⟩⟩
  exact zc_xob27 (e := 0) HP H1 hy P0 hM hsM (Or.inr ⟨rfl, by omega⟩) hp (s (y + 1) + 1) (s y) L R (by omega) (Nat.le_refl _) (by omega) hV zc_Co_r (fun k k1 k2 => by omega)
end
end
section
/-! walks of the component: cornerAbove, touchAbove -/
section
variable {w h m cc rc : Nat} {lab : Int32} {rb : Nat → Int32} {F T K L s su lv pl wi ho nu fr : Nat → Nat}
theorem zc_xco48 {post : SX → Prop} {B : Nat → Bool} {P R : Nat → Nat} {j M u l : Nat} (H1 : zc_R1 w B s F T K P j) (H2 : zc_R1 w B s F T K P (j + 1)) (hw : w ≤ 12) (hj : j + 1 < 12) (hM : M ≤ 145) (hsM : s (j + 1 + 1) ≤ M) (u1 : s j ≤ u) (u2 : u < s (j + 1)) (l1 : s (j + 1) ≤ l) (l2 : l < s (j + 1 + 1)) (hne : K u ≠ K l) (hV : zc_V B P M L R)
    (hp : ∀ L' R', zc_V B P M L' R' → zc_Co R R' → post ((nI w), (nI h), lab, (nI m), (nI cc), (nI rc), rb, (zc_A F), (zc_A T), (zc_A K), (zc_A L'), (zc_A s), (zc_A su), (zc_A lv), (zc_A pl), (zc_A wi), (zc_A ho), (zc_A nu), (zc_A fr))) : wX_cornerAbove_48 post (nI u) (nI l) (nI (j + 1)) (nI w) (nI h) lab (nI m) (nI cc) (nI rc) rb (zc_A F) (zc_A T) (zc_A K) (zc_A L) (zc_A s) (zc_A su) (zc_A lv) (zc_A pl) (zc_A wi) (zc_A ho) (zc_A nu) (zc_A fr) := by
  have a := H1.2.2 u u1 u2
  have b := H2.2.2 l l1 l2
  have ka := zc_R1_K H1 u1 u2
  have kb := zc_R1_K H2 l1 l2
  unfold wX_cornerAbove_48
  simp only [nI_1]
  refine ⟨vp_in_nI (by omega) (by omega), pk_eq (K l) 0 (fun k0 => ?_) (fun _ => hp L R hV zc_Co_r) (zc_A_r (by omega)) rfl⟩
  refine ⟨vp_in_nI (by omega) (by omega), pk_le (s (j + 1 + 1)) (l + 1) (fun _ => hp L R hV zc_Co_r) (fun hl => ?_) (zc_A_r (by omega)) rfl⟩
  have c := H2.2.2 (l + 1) (by omega) hl
  have kc := zc_R1_K H2 (i := l + 1) (by omega) hl
  have n := b.2.2.2.2.2.1 hl
  refine ⟨vp_in_nI (by omega) (by omega), vp_in_nI (by omega) (by omega), pk_eq (F (l + 1)) (T u + 1) (fun e => ?_) (fun _ => hp L R hV zc_Co_r) (zc_A_r (by omega)) (by rw [zc_A_r (by omega), nI_1])⟩
  exact zc_xunite hV hM (by omega) (by omega) (zc_touch H1 H2 hw hj u1 u2 (by omega) hl (by omega) (by omega) (by omega)) (fun L' R' g1 g2 _ => hp L' R' g1 g2)
theorem zc_xcorner {post : SX → Prop} {B : Nat → Bool} {P R : Nat → Nat} {j M u l : Nat} (H1 : zc_R1 w B s F T K P j) (H2 : zc_R1 w B s F T K P (j + 1)) (hw : w ≤ 12) (hj : j + 1 < 12) (hM : M ≤ 145) (hsM : s (j + 1 + 1) ≤ M) (u1 : s j ≤ u) (u2 : u < s (j + 1)) (l1 : s (j + 1) ≤ l) (l2 : l < s (j + 1 + 1)) (hne : K u ≠ K l) (hV : zc_V B P M L R)
    (hp : ∀ L' R', zc_V B P M L' R' → zc_Co R R' → (K u = 0 → u + 1 < s (j + 1) → F (u + 1) = T l + 1 → R' (u + 1) = R' l) → post ((nI w), (nI h), lab, (nI m), (nI cc), (nI rc), rb, (zc_A F), (zc_A T), (zc_A K), (zc_A L'), (zc_A s), (zc_A su), (zc_A lv), (zc_A pl), (zc_A wi), (zc_A ho), (zc_A nu), (zc_A fr))) : wpX_cornerAbove post ((nI w), (nI h), lab, (nI m), (nI cc), (nI rc), rb, (zc_A F), (zc_A T), (zc_A K), (zc_A L), (zc_A s), (zc_A su), (zc_A lv), (zc_A pl), (zc_A wi), (zc_A ho), (zc_A nu), (zc_A fr)) (nI u) (nI l) (nI (j + 1)) := by
  have a := H1.2.2 u u1 u2
  have b := H2.2.2 l l1 l2
  have ka := zc_R1_K H1 u1 u2
  have kb := zc_R1_K H2 l1 l2
  have z2 := H2.1
  unfold wpX_cornerAbove
  simp only [nI_1]
  have go : ∀ L' R', zc_V B P M L' R' → zc_Co R R' → (K u = 0 → u + 1 < s (j + 1) → F (u + 1) = T l + 1 → R' (u + 1) = R' l) → wX_cornerAbove_48 post (nI u) (nI l) (nI (j + 1)) (nI w) (nI h) lab (nI m) (nI cc) (nI rc) rb (zc_A F) (zc_A T) (zc_A K) (zc_A L') (zc_A s) (zc_A su) (zc_A lv) (zc_A pl) (zc_A wi) (zc_A ho) (zc_A nu) (zc_A fr) := by
    intro L' R' g1 g2 g3
    exact zc_xco48 H1 H2 hw hj hM hsM u1 u2 l1 l2 hne g1 (fun L2 R2 k1 k2 => hp L2 R2 k1 (zc_Co_t g2 k2) (fun e1 e2 e3 => k2 _ _ (g3 e1 e2 e3)))
  refine ⟨vp_in_nI (by omega) (by omega), pk_eq (K u) 0 (fun k0 => ?_) (fun k0 => go L R hV zc_Co_r (fun z => absurd z k0)) (zc_A_r (by omega)) rfl⟩
  refine ⟨vp_in_nI (by omega) (by omega), pk_le (s (j + 1)) (u + 1) (fun hu => go L R hV zc_Co_r (fun _ z => by omega)) (fun hu => ?_) (zc_A_r (by omega)) rfl⟩
  have c := H1.2.2 (u + 1) (by omega) hu
  have kc := zc_R1_K H1 (i := u + 1) (by omega) hu
  have n := a.2.2.2.2.2.1 hu
  refine ⟨vp_in_nI (by omega) (by omega), vp_in_nI (by omega) (by omega), pk_eq (F (u + 1)) (T l + 1) (fun e => ?_) (fun e => go L R hV zc_Co_r (fun _ _ z => absurd z e)) (zc_A_r (by omega)) (by rw [zc_A_r (by omega), nI_1])⟩
  exact zc_xunite hV hM (by omega) (by omega) (zc_touch H1 H2 hw hj (by omega) hu l1 l2 (by omega) (by omega) (by omega)) (fun L' R' g1 g2 g3 => go L' R' g1 g2 (fun _ _ _ => g3))
end
section
variable {w h m cc rc : Nat} {lab : Int32} {rb : Nat → Int32} {F T K s su lv pl wi ho nu fr : Nat → Nat}
theorem zc_xta16 {post : SX → Prop} {B : Nat → Bool} {P R0 : Nat → Nat} {j M : Nat} (H1 : zc_R1 w B s F T K P j) (H2 : zc_R1 w B s F T K P (j + 1)) (hw : w ≤ 12) (hj : j + 1 < 12) (hM : M ≤ 145) (hsM : s (j + 1 + 1) ≤ M)
    (hp : ∀ L' R', zc_V B P M L' R' → zc_Co R0 R' → zc_C2 s F T K R' j → post ((nI w), (nI h), lab, (nI m), (nI cc), (nI rc), rb, (zc_A F), (zc_A T), (zc_A K), (zc_A L'), (zc_A s), (zc_A su), (zc_A lv), (zc_A pl), (zc_A wi), (zc_A ho), (zc_A nu), (zc_A fr))) : ∀ n u l L R, s (j + 1) + s (j + 1 + 1) < u + l + n → s j ≤ u → u ≤ s (j + 1) → s (j + 1) ≤ l → l ≤ s (j + 1 + 1) → zc_V B P M L R → zc_Co R0 R → zc_C3 s F T K R j u l → wX_touchAbove_16 post (nI (j + 1)) n (nI u) (nI l) (nI w) (nI h) lab (nI m) (nI cc) (nI rc) rb (zc_A F) (zc_A T) (zc_A K) (zc_A L) (zc_A s) (zc_A su) (zc_A lv) (zc_A pl) (zc_A wi) (zc_A ho) (zc_A nu) (zc_A fr) := by
  intro n
  induction n with
  | zero => intro u l L R h1 h2 h3 h4 h5; omega
  | succ n ih =>
    intro u l L R h1 u1 u3 l1 l3 hV c0 c3
    refine And.intro (vp_in_nI (by omega) (by omega)) ?_
    refine pk_le (s (j + 1)) u (fun z => hp L R hV c0 (zc_C3_e c3 (Or.inl z))) (fun u2 => ?_) (zc_A_r (by omega)) rfl
    refine And.intro (by rw [nI_1]; exact vp_in_nI (by omega) (by omega)) ?_
    refine pk_le (s (j + 1 + 1)) l (fun z => hp L R hV c0 (zc_C3_e c3 (Or.inr z))) (fun l2 => ?_) (by rw [nI_1]; exact zc_A_r (by omega)) rfl
    have a := H1.2.2 u u1 u2
    have b := H2.2.2 l l1 l2
    have ka := zc_R1_K H1 u1 u2
    have kb := zc_R1_K H2 l1 l2
    have next : ∀ L' R', zc_V B P M L' R' → zc_Co R R' → (K u = K l → F u ≤ T l + K u → F l ≤ T u + K u → R' u = R' l) → (K u ≠ K l → K u = 0 → u + 1 < s (j + 1) → F (u + 1) = T l + 1 → R' (u + 1) = R' l) → wX_touchAbove_133 post (wX_touchAbove_16 post (nI (j + 1)) n) (nI (j + 1)) (nI u) (nI l) (nI w) (nI h) lab (nI m) (nI cc) (nI rc) rb (zc_A F) (zc_A T) (zc_A K) (zc_A L') (zc_A s) (zc_A su) (zc_A lv) (zc_A pl) (zc_A wi) (zc_A ho) (zc_A nu) (zc_A fr) := by
      intro L' R' g1 g2 g3 g4
      have c3' := zc_C3_co c3 g2
      unfold wX_touchAbove_133
      refine ⟨vp_in_nI (by omega) (by omega), vp_in_nI (by omega) (by omega), pk_le (T l) (T u) (fun z => ?_) (fun z => ?_) (zc_A_r (by omega)) (zc_A_r (by omega))⟩
      · exact nm_r (nI_1 l) (ih u (l + 1) L' R' (by omega) u1 u3 (by omega) (by omega) g1 (zc_Co_t c0 g2) (zc_adv_l H1 u1 u2 (fun i i1 i2 => zc_R1_K H1 i1 i2) z c3' g3 g4))
      · exact nm_r (nI_1 u) (ih (u + 1) l L' R' (by omega) (by omega) (by omega) l1 l3 g1 (zc_Co_t c0 g2) (zc_adv_u H2 l1 l2 ka z c3' g3))
    have s111 : ∀ L' R', zc_V B P M L' R' → zc_Co R R' → (K u = K l → F u ≤ T l + K u → F l ≤ T u + K u → R' u = R' l) → wX_touchAbove_111 post (wX_touchAbove_16 post (nI (j + 1)) n) (nI (j + 1)) (nI u) (nI l) (nI w) (nI h) lab (nI m) (nI cc) (nI rc) rb (zc_A F) (zc_A T) (zc_A K) (zc_A L') (zc_A s) (zc_A su) (zc_A lv) (zc_A pl) (zc_A wi) (zc_A ho) (zc_A nu) (zc_A fr) := by
      intro L' R' g1 g2 g3
      unfold wX_touchAbove_111
      refine ⟨vp_in_nI (by omega) (by omega), vp_in_nI (by omega) (by omega), pk_eq (K u) (K l) (fun e => next L' R' g1 g2 g3 (fun z => absurd e z)) (fun e => ?_) (zc_A_r (by omega)) (zc_A_r (by omega))⟩
      exact zc_xcorner H1 H2 hw hj hM hsM u1 u2 l1 l2 e g1 (fun L2 R2 k1 k2 k3 => next L2 R2 k1 (zc_Co_t g2 k2) (fun z => absurd z e) (fun _ => k3))
    have s52 : ∀ z0, z0 = nI (K u) → wX_touchAbove_52 post (wX_touchAbove_16 post (nI (j + 1)) n) (nI (j + 1)) (nI u) (nI l) z0 (nI w) (nI h) lab (nI m) (nI cc) (nI rc) rb (zc_A F) (zc_A T) (zc_A K) (zc_A L) (zc_A s) (zc_A su) (zc_A lv) (zc_A pl) (zc_A wi) (zc_A ho) (zc_A nu) (zc_A fr) := by
      intro z0 ez
      subst ez
      unfold wX_touchAbove_52
      refine ⟨vp_in_nI (by omega) (by omega), vp_in_nI (by omega) (by omega), pk_eq (K u) (K l) (fun e => ?_) (fun e => s111 L R hV zc_Co_r (fun z => absurd z e)) (zc_A_r (by omega)) (zc_A_r (by omega))⟩
      refine ⟨vp_in_nI (by omega) (by omega), vp_in_nI (by omega) (by omega), pk_lt (T l + K u) (F u) (fun z => s111 L R hV zc_Co_r (fun _ y => by omega)) (fun z => ?_) (by rw [zc_A_r (by omega), nI_add]) (zc_A_r (by omega))⟩
      refine ⟨vp_in_nI (by omega) (by omega), vp_in_nI (by omega) (by omega), pk_lt (T u + K u) (F l) (fun z => s111 L R hV zc_Co_r (fun _ _ y => by omega)) (fun z2 => ?_) (by rw [zc_A_r (by omega), nI_add]) (zc_A_r (by omega))⟩
      exact zc_xunite hV hM (by omega) (by omega) (zc_touch H1 H2 hw hj u1 u2 l1 l2 e z z2) (fun L' R' g1 g2 g3 => s111 L' R' g1 g2 (fun _ _ _ => g3))
    refine ⟨vp_in_nI (by omega) (by omega), pk_eq (K u) 0 (fun k0 => s52 0 (by rw [k0]; rfl)) (fun k0 => s52 1 (by rw [show K u = 1 by omega]; rfl)) (zc_A_r (by omega)) rfl⟩
theorem zc_xta {post : SX → Prop} {B : Nat → Bool} {P L R : Nat → Nat} {j M : Nat} (H1 : zc_R1 w B s F T K P j) (H2 : zc_R1 w B s F T K P (j + 1)) (hw : w ≤ 12) (hj : j + 1 < 12) (hM : M ≤ 145) (hsM : s (j + 1 + 1) ≤ M) (hV : zc_V B P M L R)
    (hp : ∀ L' R', zc_V B P M L' R' → zc_Co R R' → zc_C2 s F T K R' j → post ((nI w), (nI h), lab, (nI m), (nI cc), (nI rc), rb, (zc_A F), (zc_A T), (zc_A K), (zc_A L'), (zc_A s), (zc_A su), (zc_A lv), (zc_A pl), (zc_A wi), (zc_A ho), (zc_A nu), (zc_A fr))) : wpX_touchAbove post ((nI w), (nI h), lab, (nI m), (nI cc), (nI rc), rb, (zc_A F), (zc_A T), (zc_A K), (zc_A L), (zc_A s), (zc_A su), (zc_A lv), (zc_A pl), (zc_A wi), (zc_A ho), (zc_A nu), (zc_A fr)) (nI (j + 1)) := by
  have z1 := H1.1
  have z2 := H2.1
  unfold wpX_touchAbove
  have e : nI (j + 1) - 1 = nI j := nI_pred j
  simp only [e]
  refine ⟨vp_in_nI (by omega) (by omega), nm_r (zc_A_r (by omega)) ⟨vp_in_nI (by omega) (by omega), nm_r (zc_A_r (by omega)) ⟨s (j + 1) + s (j + 1 + 1) + 1, ?_⟩⟩⟩
  exact zc_xta16 H1 H2 hw hj hM hsM hp _ (s j) (s (j + 1)) L R (by omega) (Nat.le_refl _) (by omega) (Nat.le_refl _) (by omega) hV zc_Co_r zc_C3_0
end
end
section
/-! walks of the component: cutRow -/
theorem zc_b1 : ∀ i, i < 32 → bt 1 i = decide (i = 0) := by decide +kernel
theorem zc_bit (x : Int32) {n : Nat} (hn : n < 32) : (x >>> (nI n &&& 31)) &&& 1 = nI (zc_t (bt x n)) := by
  apply b_ext
  intro i hi
  rw [b_and, b_sshr n hn x hi, zc_b1 i hi]
  by_cases e : i = 0
  · subst e
    rw [Nat.add_zero, if_pos hn]
    cases bt x n
    · exact (b_0 0).symm
    · exact (zc_b1 0 (by omega)).symm
  · rw [decide_eq_false e, Bool.and_false]
    cases bt x n
    · exact (b_0 i).symm
    · exact ((zc_b1 i hi).trans (decide_eq_false e)).symm
theorem zc_vB {c : Nat} (h : c ≤ 1) : vp_nar .boolean (nI c) = nI c := by
  rcases Nat.lt_or_ge c 1 with z | z
  · rw [show c = 0 by omega]; rfl
  · rw [show c = 1 by omega]; rfl
section
variable {w h m cc rc : Nat} {lab : Int32} {rb : Nat → Int32} {F T K L s su lv pl wi ho nu fr : Nat → Nat}
theorem zc_xcut88 {post : SX → Prop} {J2 : Int32 → Int32 → (Nat → Int32) → (Nat → Int32) → (Nat → Int32) → (Nat → Int32) → (Nat → Int32) → (Nat → Int32) → (Nat → Int32) → (Nat → Int32) → (Nat → Int32) → (Nat → Int32) → (Nat → Int32) → (Nat → Int32) → (Nat → Int32) → Prop} {x1 : Int32} {c e : Nat} (hm : m < 145) (hc : c ≤ 1)
    (hJ : J2 (nI (e + 1)) (nI (m + 1)) rb (zc_A F) (zc_A T) (zc_A (zc_u K m c)) (zc_A (zc_u L m m)) (zc_A s) (zc_A su) (zc_A lv) (zc_A pl) (zc_A wi) (zc_A ho) (zc_A nu) (zc_A fr)) : wX_cutRow_88 post J2 x1 (nI e) (nI c) (nI m) (nI w) (nI h) lab (nI m) (nI cc) (nI rc) rb (zc_A F) (zc_A T) (zc_A K) (zc_A L) (zc_A s) (zc_A su) (zc_A lv) (zc_A pl) (zc_A wi) (zc_A ho) (zc_A nu) (zc_A fr) := by
  unfold wX_cutRow_88
  refine ⟨vp_in_nI (by omega) (by omega), nm_r (zc_A_w (by omega) (zc_vB hc)) ⟨vp_in_nI (by omega) (by omega), nm_r (zc_A_w (by omega) (zc_vs' (by omega))) ?_⟩⟩
  exact nm_r (nI_1 m) (nm_r (nI_1 e) hJ)
theorem zc_xcut48 {post : SX → Prop} {J2 : Int32 → Int32 → (Nat → Int32) → (Nat → Int32) → (Nat → Int32) → (Nat → Int32) → (Nat → Int32) → (Nat → Int32) → (Nat → Int32) → (Nat → Int32) → (Nat → Int32) → (Nat → Int32) → (Nat → Int32) → (Nat → Int32) → (Nat → Int32) → Prop} {x1 : Int32} {x c e : Nat} (hm : m < 145) (hc : c ≤ 1) (hx : x < 128) (he : e < 128)
    (hJ : J2 (nI (e + 1)) (nI (m + 1)) rb (zc_A (zc_u F m x)) (zc_A (zc_u T m e)) (zc_A (zc_u K m c)) (zc_A (zc_u L m m)) (zc_A s) (zc_A su) (zc_A lv) (zc_A pl) (zc_A wi) (zc_A ho) (zc_A nu) (zc_A fr)) : wX_cutRow_48 post J2 x1 (nI x) (nI c) (nI e) (nI w) (nI h) lab (nI m) (nI cc) (nI rc) rb (zc_A F) (zc_A T) (zc_A K) (zc_A L) (zc_A s) (zc_A su) (zc_A lv) (zc_A pl) (zc_A wi) (zc_A ho) (zc_A nu) (zc_A fr) := by
  unfold wX_cutRow_48
  refine ⟨vp_in_nI (by omega) (by omega), nm_r (zc_A_w (by omega) (zc_vb' hx)) ⟨vp_in_nI (by omega) (by omega), nm_r (zc_A_w (by omega) (zc_vb' he)) ?_⟩⟩
  refine pk_eq c 0 (fun z => ?_) (fun z => ?_)
  · subst z
    exact zc_xcut88 hm hc hJ
  · have z1 : c = 1 := by omega
    subst z1
    exact zc_xcut88 hm hc hJ
theorem zc_xcut19 {post : SX → Prop} {J2 : Int32 → Int32 → (Nat → Int32) → (Nat → Int32) → (Nat → Int32) → (Nat → Int32) → (Nat → Int32) → (Nat → Int32) → (Nat → Int32) → (Nat → Int32) → (Nat → Int32) → (Nat → Int32) → (Nat → Int32) → (Nat → Int32) → (Nat → Int32) → Prop} {x1 : Int32} {B : Nat → Bool} {x c y : Nat} (hw : w ≤ 12) (hb : ∀ z, z < w → (x1 >>> (nI z &&& 31)) &&& 1 = nI (zc_t (B (14 * y + z + 15)))) (hc : c ≤ 1)
    (hp : ∀ e, x ≤ e → e < w → (∀ z, x ≤ z → z ≤ e → zc_t (B (14 * y + z + 15)) = c) → (e + 1 < w → zc_t (B (14 * y + (e + 1) + 15)) ≠ c) → wX_cutRow_48 post J2 x1 (nI x) (nI c) (nI e) (nI w) (nI h) lab (nI m) (nI cc) (nI rc) rb (zc_A F) (zc_A T) (zc_A K) (zc_A L) (zc_A s) (zc_A su) (zc_A lv) (zc_A pl) (zc_A wi) (zc_A ho) (zc_A nu) (zc_A fr)) :
    ∀ n e, w ≤ e + n → x ≤ e → e < w → (∀ z, x ≤ z → z ≤ e → zc_t (B (14 * y + z + 15)) = c) → wX_cutRow_19 post J2 x1 (nI x) (nI c) (nI w) (nI h) lab (nI m) (nI cc) (nI rc) rb (zc_A F) (zc_A T) (zc_A K) (zc_A L) (zc_A s) (zc_A su) (zc_A lv) (zc_A pl) (zc_A wi) (zc_A ho) (zc_A nu) (zc_A fr) n (nI e) := by
  intro n
  induction n with
  | zero => intro e h1 h2 h3; omega
  | succ n ih =>
    intro e h1 h2 h3 h4
    refine pk_le w (e + 1) (fun z => hp e h2 h3 h4 (fun y => by omega)) (fun z => ?_) rfl (nI_1 e)
    refine pk_eq (zc_t (B (14 * y + (e + 1) + 15))) c (fun z2 => ?_) (fun z2 => hp e h2 h3 h4 (fun _ => z2)) (by rw [nI_1]; exact hb (e + 1) z) rfl (by have := zc_t_le (B (14 * y + (e + 1) + 15)); omega) (by omega)
    refine nm_r (nI_1 e) (ih (e + 1) (by omega) (by omega) z (fun v v1 v2 => ?_))
    by_cases ev : v = e + 1
    · subst ev; exact z2
    · exact h4 v v1 (by omega)
end
section
variable {w h cc rc : Nat} {lab : Int32} {rb : Nat → Int32} {s su lv pl wi ho nu fr : Nat → Nat}
theorem zc_xcut2 {post : SX → Prop} {x1 : Int32} {B : Nat → Bool} {F0 T0 K0 L0 P0 : Nat → Nat} {y a : Nat} (hw : w ≤ 12) (ha : a + 12 ≤ 145) (hb : ∀ z, z < w → (x1 >>> (nI z &&& 31)) &&& 1 = nI (zc_t (B (14 * y + z + 15))))
    (hp : ∀ F T K L P m, zc_Rp w B a F T K P y m w → zc_Ag a F F0 → zc_Ag a T T0 → zc_Ag a K K0 → zc_Ag a P P0 → zc_Ag a L L0 → (∀ i, a ≤ i → i < m → L i = i) → post ((nI w), (nI h), lab, (nI m), (nI cc), (nI rc), rb, (zc_A F), (zc_A T), (zc_A K), (zc_A L), (zc_A s), (zc_A su), (zc_A lv), (zc_A pl), (zc_A wi), (zc_A ho), (zc_A nu), (zc_A fr))) :
    ∀ n F T K L P m x, w < x + n → zc_Rp w B a F T K P y m x → zc_Ag a F F0 → zc_Ag a T T0 → zc_Ag a K K0 → zc_Ag a P P0 → zc_Ag a L L0 → (∀ i, a ≤ i → i < m → L i = i) →
      wX_cutRow_2 post x1 (nI w) (nI h) lab (nI cc) (nI rc) n (nI x) (nI m) rb (zc_A F) (zc_A T) (zc_A K) (zc_A L) (zc_A s) (zc_A su) (zc_A lv) (zc_A pl) (zc_A wi) (zc_A ho) (zc_A nu) (zc_A fr) := by
  intro n
  induction n with
  | zero => intro F T K L P m x h1 h2; have := h2.2.2.1; omega
  | succ n ih =>
    intro F T K L P m x h1 hR aF aT aK aP aL hL
    have r1 := hR.1
    have r2 := hR.2.1
    have r3 := hR.2.2.1
    refine pk_le w x (fun z => ?_) (fun z => ?_)
    · have e : x = w := by omega
      subst e
      exact hp F T K L P m hR aF aT aK aP aL hL
    · refine nm_r (hb x z) ⟨w + 1, ?_⟩
      refine zc_xcut19 hw hb (zc_t_le _) (fun e e1 e2 e3 e4 => ?_) (w + 1) x (by omega) (Nat.le_refl _) z (fun v v1 v2 => by rw [show v = x by omega])
      refine zc_xcut48 (by omega) (zc_t_le _) (by omega) (by omega) ?_
      refine ih _ _ _ _ _ (m + 1) (e + 1) (by omega) (zc_Rp_s hR z e1 e2 e3 e4) (zc_Ag_u aF r1) (zc_Ag_u aT r1) (zc_Ag_u aK r1) (zc_Ag_u aP r1) (zc_Ag_u aL r1) (fun i i1 i2 => ?_)
      by_cases ei : i = m
      · rw [ei, zc_us]
      · rw [zc_un ei]; exact hL i i1 (by omega)
theorem zc_xcut {post : SX → Prop} {x1 : Int32} {B : Nat → Bool} {F T K L P : Nat → Nat} {y m : Nat} (hw : w ≤ 12) (ha : m + 12 ≤ 145) (hb : ∀ z, z < w → (x1 >>> (nI z &&& 31)) &&& 1 = nI (zc_t (B (14 * y + z + 15))))
    (hp : ∀ F' T' K' L' P' m', zc_Rp w B m F' T' K' P' y m' w → zc_Ag m F' F → zc_Ag m T' T → zc_Ag m K' K → zc_Ag m P' P → zc_Ag m L' L → (∀ i, m ≤ i → i < m' → L' i = i) → post ((nI w), (nI h), lab, (nI m'), (nI cc), (nI rc), rb, (zc_A F'), (zc_A T'), (zc_A K'), (zc_A L'), (zc_A s), (zc_A su), (zc_A lv), (zc_A pl), (zc_A wi), (zc_A ho), (zc_A nu), (zc_A fr))) :
    wpX_cutRow post ((nI w), (nI h), lab, (nI m), (nI cc), (nI rc), rb, (zc_A F), (zc_A T), (zc_A K), (zc_A L), (zc_A s), (zc_A su), (zc_A lv), (zc_A pl), (zc_A wi), (zc_A ho), (zc_A nu), (zc_A fr)) x1 := by
  unfold wpX_cutRow
  refine ⟨w + 1, ?_⟩
  exact zc_xcut2 hw ha hb hp (w + 1) F T K L P m 0 (by omega) zc_Rp_0 zc_Ag_r zc_Ag_r zc_Ag_r zc_Ag_r zc_Ag_r (fun i i1 i2 => by omega)
end
end
section
/-! walks of the component: settleRuns, sumUp -/
theorem zc_D_K1 {w h : Nat} {B : Nat → Bool} {s F T K P R rn : Nat → Nat} (D : zc_D w h B s F T K P R rn) {i : Nat} (hi : i < s h) : K i ≤ 1 := by
  rw [← zc_D_KP D hi]; exact zc_t_le _
section
variable {w h : Nat} {lab : Int32} {rb : Nat → Int32} {F T K s wi ho : Nat → Nat}
theorem zc_xse33 {post : SX → Prop} {B : Nat → Bool} {P R rn L0 : Nat → Nat} (D : zc_D w h B s F T K P R rn) (hU : zc_UF (s h) L0 R)
    (hp : ∀ L pl su lv nu fr, (∀ i, i < s h → L i = R i) → zc_Sv B K P R rn (s h) pl su lv nu → zc_Sf B K P R rn (s h) fr → post ((nI w), (nI h), lab, (nI (s h)), (nI (zc_cnt K P R 1 (s h))), (nI (zc_cnt K P R 0 (s h))), rb, (zc_A F), (zc_A T), (zc_A K), (zc_A L), (zc_A s), (zc_A su), (zc_A lv), (zc_A pl), (zc_A wi), (zc_A ho), (zc_A nu), (zc_A fr))) :
    ∀ n k L pl su lv nu fr, s h < k + n → 1 ≤ k → k ≤ s h → (∀ i, i < k → L i = R i) → (∀ i, k ≤ i → L i = L0 i) → zc_Sv B K P R rn k pl su lv nu → zc_Sf B K P R rn k fr →
      wX_settleRuns_33 post (nI w) (nI h) lab (nI (s h)) n (nI k) (nI (zc_cnt K P R 1 k)) (nI (zc_cnt K P R 0 k)) rb (zc_A F) (zc_A T) (zc_A K) (zc_A L) (zc_A s) (zc_A su) (zc_A lv) (zc_A pl) (zc_A wi) (zc_A ho) (zc_A nu) (zc_A fr) := by
  intro n
  have hm := zc_D_145 D
  induction n with
  | zero => intro k L pl su lv nu fr h1 h2 h3; omega
  | succ n ih =>
    intro k L pl su lv nu fr h1 h2 h3 hL hL0 hv hf
    refine pk_le (s h) k (fun z => ?_) (fun z => ?_)
    · have e : k = s h := by omega
      subst e
      exact hp L pl su lv nu fr hL hv hf
    · have uk := hU k z
      have lk : L k = L0 k := hL0 k (Nat.le_refl _)
      have rk := zc_D_R D z
      have rk0 := zc_D_R D (i := R k) (by omega)
      obtain ⟨f1, f2, -⟩ := zc_D_len D h2 z
      have kk := zc_D_K1 D z
      have cc1 := zc_cnt_le D 1 k h3
      have cc0 := zc_cnt_le D 0 k h3
      have ell : L (L k) = R k := by
        by_cases c : L k = k
        · rw [c, c]; exact (uk.2.2.1 (by omega)).symm
        · rw [hL (L k) (by omega), lk]; exact uk.2.1
      have hL' : ∀ i, i < k + 1 → zc_u L k (R k) i = R i := by
        intro i hi
        by_cases e : i = k
        · rw [e, zc_us]
        · rw [zc_un e]; exact hL i (by omega)
      have hL0' : ∀ i, k + 1 ≤ i → zc_u L k (R k) i = L0 i := fun i hi => by rw [zc_un (by omega)]; exact hL0 i (by omega)
      refine And.intro (vp_in_nI (by omega) (by omega)) (And.intro (vp_in_nI (by omega) (by omega)) (nm_r (e' := nI (T k - F k + 1)) (by rw [zc_A_r (by omega), zc_A_r (by omega), pk_sub f1, nI_1]) ?_))
      refine And.intro (vp_in_nI (by omega) (by omega)) (And.intro (by rw [zc_A_r (by omega)]; exact vp_in_nI (by omega) (by omega)) (And.intro (vp_in_nI (by omega) (by omega)) (nm_r (e' := zc_A (zc_u L k (R k))) (zc_A_w (by omega) (by rw [zc_A_r (by omega), zc_A_r (by omega), ell]; exact zc_vs (by omega))) ?_)))
      refine And.intro (vp_in_nI (by omega) (by omega)) (nm_r (e' := nI (R k)) (by rw [zc_A_r (by omega), zc_us]) ?_)
      have st : ∀ b, b = (if F k = 0 then 0 else R (k - 1)) → R k = k → wX_settleRuns_129 post (wX_settleRuns_33 post (nI w) (nI h) lab (nI (s h)) n) (nI k) (nI b) (nI w) (nI h) lab (nI (s h)) (nI (zc_cnt K P R 1 k)) (nI (zc_cnt K P R 0 k)) rb (zc_A F) (zc_A T) (zc_A K) (zc_A (zc_u L k (R k))) (zc_A s) (zc_A su) (zc_A lv) (zc_A (zc_u pl k (T k - F k + 1))) (zc_A wi) (zc_A ho) (zc_A nu) (zc_A fr) := by
        intro b hb hr
        obtain ⟨b1, b2, b3⟩ := zc_D_b D h2 z hb
        obtain ⟨d1, d2⟩ := zc_D_lv D h2 z hr b3
        have d3 := (hv b b1 b2).2.1
        unfold wX_settleRuns_129
        refine ⟨vp_in_nI (by omega) (by omega), nm_r (zc_A_w (by omega) (zc_vs' (by omega))) ⟨vp_in_nI (by omega) (by omega), vp_in_nI (by omega) (by omega), nm_r (e' := zc_A (zc_u lv k (lv b + 1))) (zc_A_w (by omega) (by rw [zc_A_r (by omega), nI_1]; exact zc_vb' (by omega))) ⟨vp_in_nI (by omega) (by omega), ?_⟩⟩⟩
        refine pk_eq (K k) 0 (fun k0 => ?_) (fun k0 => ?_) (zc_A_r (by omega)) rfl
        · refine nm_r (nI_1 _) (nm_r (nI_1 k) ?_)
          have e := ih (k + 1) (zc_u L k (R k)) (zc_u pl k (T k - F k + 1)) (zc_u su k b) (zc_u lv k (lv b + 1)) nu fr (by omega) (by omega) (by omega) hL' hL0' (zc_Sv_b D h2 z hr hb hv (fun i _ => rfl) (fun k1 => by omega)) (zc_Sf_a (by omega) hf)
          rw [zc_cnt_y D z hr k0, zc_cnt_n (e := 1) (by omega)] at e
          exact e
        · have k1 : K k = 1 := by omega
          refine ⟨vp_in_nI (by omega) (by omega), nm_r (zc_A_w (by omega) (zc_vs' (by omega))) ⟨vp_in_nI (by omega) (by omega), nm_r (zc_A_w (by omega) (zc_vs' (by omega))) ?_⟩⟩
          refine nm_r (nI_1 _) (nm_r (nI_1 k) ?_)
          have e := ih (k + 1) (zc_u L k (R k)) (zc_u pl k (T k - F k + 1)) (zc_u su k b) (zc_u lv k (lv b + 1)) (zc_u nu k (zc_cnt K P R 1 k)) (zc_u fr (zc_cnt K P R 1 k) k) (by omega) (by omega) (by omega) hL' hL0' (zc_Sv_b D h2 z hr hb hv (fun i hi => zc_un (by omega)) (fun _ => zc_us)) (zc_Sf_b D z hr k1 hf)
          rw [zc_cnt_y D z hr k1, zc_cnt_n (e := 0) (by omega)] at e
          exact e
      refine pk_eq (R k) k (fun hr => ?_) (fun hr => ?_)
      · refine And.intro (vp_in_nI (by omega) (by omega)) (nm_r (zc_A_w (by omega) (zc_vs' (by omega))) (And.intro (vp_in_nI (by omega) (by omega)) ?_))
        refine pk_eq (F k) 0 (fun f0 => ?_) (fun f0 => ?_) (zc_A_r (by omega)) rfl
        · exact st 0 (by rw [if_pos f0]) hr
        · have e1 : nI k - 1 = nI (k - 1) := pk_sub (b := 1) h2
          have e2 : zc_A (zc_u L k (R k)) (nI k - 1).toNatClampNeg = nI (R (k - 1)) := by rw [e1, zc_A_r (by omega), hL' (k - 1) (by omega)]
          refine And.intro (by rw [e1]; exact vp_in_nI (by omega) (by omega)) ?_
          rw [e2]
          exact st (R (k - 1)) (by rw [if_neg f0]) hr
      · have p1 := (hv (R k) (by omega) rk.2).1
        have p2 : zc_pl R rn k (R k) ≤ 196 := zc_pl_le k (R k)
        refine And.intro (vp_in_nI (by omega) (by omega)) (And.intro (vp_in_nI (by omega) (by omega)) (nm_r (e' := zc_A (zc_u pl (R k) (pl (R k) + (T k - F k + 1)))) (zc_A_w (by omega) (by rw [zc_A_r (by omega), nI_add]; exact zc_vs' (by omega))) (nm_r (nI_1 k) ?_)))
        have e := ih (k + 1) (zc_u L k (R k)) (zc_u pl (R k) (pl (R k) + (T k - F k + 1))) su lv nu fr (by omega) (by omega) (by omega) hL' hL0' (zc_Sv_a D h2 z hr hv) (zc_Sf_a (fun y => hr y.1) hf)
        rw [zc_cnt_n (e := 1) (fun y => hr y.1), zc_cnt_n (e := 0) (fun y => hr y.1)] at e
        exact e
theorem zc_xse {post : SX → Prop} {cc rc : Nat} {B : Nat → Bool} {P R rn L su lv pl nu fr : Nat → Nat} (D : zc_D w h B s F T K P R rn) (hU : zc_UF (s h) L R)
    (hp : ∀ L pl su lv nu fr, (∀ i, i < s h → L i = R i) → zc_Sv B K P R rn (s h) pl su lv nu → zc_Sf B K P R rn (s h) fr → post ((nI w), (nI h), lab, (nI (s h)), (nI (zc_cnt K P R 1 (s h))), (nI (zc_cnt K P R 0 (s h))), rb, (zc_A F), (zc_A T), (zc_A K), (zc_A L), (zc_A s), (zc_A su), (zc_A lv), (zc_A pl), (zc_A wi), (zc_A ho), (zc_A nu), (zc_A fr))) : wpX_settleRuns post ((nI w), (nI h), lab, (nI (s h)), (nI cc), (nI rc), rb, (zc_A F), (zc_A T), (zc_A K), (zc_A L), (zc_A s), (zc_A su), (zc_A lv), (zc_A pl), (zc_A wi), (zc_A ho), (zc_A nu), (zc_A fr)) := by
  have hm := zc_D_m D
  have u0 := hU 0 hm
  obtain ⟨n0, n1⟩ := zc_cnt_1 D
  unfold wpX_settleRuns
  refine nm_r (e' := zc_A (zc_u pl 0 0)) (zc_A_w (k := 0) (by omega) (zc_vs (v := 0) (by omega))) (nm_r (e' := zc_A (zc_u lv 0 0)) (zc_A_w (k := 0) (by omega) (zc_vb (v := 0) (by omega))) (nm_r (e' := zc_A (zc_u su 0 0)) (zc_A_w (k := 0) (by omega) (zc_vs (v := 0) (by omega))) ⟨s h + 1, ?_⟩))
  have e := zc_xse33 (lab := lab) (rb := rb) (wi := wi) (ho := ho) D hU hp (s h + 1) 1 L (zc_u pl 0 0) (zc_u su 0 0) (zc_u lv 0 0) nu fr (by omega) (by omega) (by omega) (fun i hi => by rw [show i = 0 by omega]; omega) (fun i _ => rfl) (zc_Sv_1 D zc_us zc_us) (zc_Sf_1 D)
  rw [n0, n1] at e
  exact e
end
end
section
/-! walks of the component: sumUp, labelAll -/
section
variable {w h cc rc : Nat} {lab : Int32} {rb : Nat → Int32} {F T K L s su lv pl nu fr : Nat → Nat}
theorem zc_xsu37 {post : SX → Prop} {B : Nat → Bool} {P R rn : Nat → Nat} (D : zc_D w h B s F T K P R rn) (hL : ∀ i, i < s h → L i = R i) (hsu : ∀ i, i < s h → R i = i → i ≠ 0 → zc_Su P R rn su i) (hpl : ∀ i, i < s h → R i = i → pl i = zc_pl R rn (s h) i)
    (hp : ∀ wi ho, (∀ i, i < s h → wi i = zc_wi P R rn su (s h) 0 i) → (∀ i, i < s h → ho i = zc_hc K P R su (s h) 0 i) → post ((nI w), (nI h), lab, (nI (s h)), (nI cc), (nI rc), rb, (zc_A F), (zc_A T), (zc_A K), (zc_A L), (zc_A s), (zc_A su), (zc_A lv), (zc_A pl), (zc_A wi), (zc_A ho), (zc_A nu), (zc_A fr))) :
    ∀ n k wi ho, k < n → k < s h → (∀ i, i < s h → wi i = zc_wi P R rn su (s h) k i) → (∀ i, i < s h → ho i = zc_hc K P R su (s h) k i) → wX_sumUp_37 post (nI w) (nI h) lab (nI (s h)) (nI cc) (nI rc) n (nI k) rb (zc_A F) (zc_A T) (zc_A K) (zc_A L) (zc_A s) (zc_A su) (zc_A lv) (zc_A pl) (zc_A wi) (zc_A ho) (zc_A nu) (zc_A fr) := by
  intro n
  have hm := zc_D_145 D
  induction n with
  | zero => intro k wi ho h1; omega
  | succ n ih =>
    intro k wi ho h1 h2 hw hh
    refine pk_le k 0 (fun z => ?_) (fun z => ?_)
    · have e : k = 0 := by omega
      subst e
      exact hp wi ho hw hh
    · obtain ⟨k', rfl⟩ : ∃ k', k = k' + 1 := ⟨k - 1, by omega⟩
      refine And.intro (vp_in_nI (by omega) (by omega)) ?_
      refine pk_eq (L (k' + 1)) (k' + 1) (fun hr => ?_) (fun hr => ?_) (zc_A_r (by omega)) rfl (by rw [hL _ h2]; have := (zc_D_R D h2).1; omega) (by omega)
      · rw [hL _ h2] at hr
        obtain ⟨b1, b2, b3⟩ := hsu _ h2 hr (by omega)
        have e1 := hw (su (k' + 1)) (by omega)
        have e2 := hw (k' + 1) h2
        have e3 := hpl (k' + 1) h2 hr
        have e4 := hh (su (k' + 1)) (by omega)
        have l1 : zc_wi P R rn su (s h) (k' + 1) (su (k' + 1)) ≤ 196 := zc_wi_le _
        have l2 : zc_wi P R rn su (s h) (k' + 1) (k' + 1) ≤ 196 := zc_wi_le _
        have l3 : zc_pl R rn (s h) (k' + 1) ≤ 196 := zc_pl_le _ _
        have l4 : zc_hc K P R su (s h) (k' + 1) (su (k' + 1)) ≤ 196 := zc_hc_le _
        have hw' : ∀ i, i < s h → zc_u wi (su (k' + 1)) (wi (su (k' + 1)) + (pl (k' + 1) + wi (k' + 1))) i = zc_wi P R rn su (s h) k' i := by
          intro i hi
          by_cases c : i = su (k' + 1)
          · rw [c, zc_us, zc_wi_y D hsu h2 hr rfl, e1, e2, e3]
          · rw [zc_un c, zc_wi_n (fun y => c y.2.symm)]
            exact hw i hi
        refine And.intro (vp_in_nI (by omega) (by omega)) (nm_r (zc_A_r (by omega)) (And.intro (vp_in_nI (by omega) (by omega)) (And.intro (vp_in_nI (by omega) (by omega)) (And.intro (vp_in_nI (by omega) (by omega)) (And.intro (vp_in_nI (by omega) (by omega)) (nm_r (e' := zc_A (zc_u wi (su (k' + 1)) (wi (su (k' + 1)) + (pl (k' + 1) + wi (k' + 1))))) (zc_A_w (by omega) (by rw [zc_A_r (by omega), zc_A_r (by omega), zc_A_r (by omega), nI_add, nI_add]; exact zc_vs' (by omega))) (And.intro (vp_in_nI (by omega) (by omega)) ?_)))))))
        have kk := zc_D_K1 D h2
        refine pk_eq (K (k' + 1)) 0 (fun k0 => ?_) (fun k0 => ?_) (zc_A_r (by omega)) rfl
        · refine And.intro (vp_in_nI (by omega) (by omega)) (And.intro (vp_in_nI (by omega) (by omega)) (nm_r (e' := zc_A (zc_u ho (su (k' + 1)) (ho (su (k' + 1)) + 1))) (zc_A_w (by omega) (by rw [zc_A_r (by omega), nI_1]; exact zc_vs' (by omega))) (nm_r (pk_m1 k') ?_)))
          refine ih k' _ _ (by omega) (by omega) hw' (fun i hi => ?_)
          by_cases c : i = su (k' + 1)
          · rw [c, zc_us, zc_hc_y D h2 hr k0 rfl, e4]
          · rw [zc_un c, zc_hc_n (fun y => c y.2.2.symm)]
            exact hh i hi
        · refine nm_r (pk_m1 k') (ih k' _ _ (by omega) (by omega) hw' (fun i hi => ?_))
          rw [zc_hc_n (fun y => k0 y.2.1)]
          exact hh i hi
      · rw [hL _ h2] at hr
        refine nm_r (pk_m1 k') (ih k' _ _ (by omega) (by omega) (fun i hi => ?_) (fun i hi => ?_))
        · rw [zc_wi_n (fun y => hr y.1)]; exact hw i hi
        · rw [zc_hc_n (fun y => hr y.1)]; exact hh i hi
theorem zc_xsu2 {post : SX → Prop} {B : Nat → Bool} {P R rn : Nat → Nat} (D : zc_D w h B s F T K P R rn) (hL : ∀ i, i < s h → L i = R i) (hsu : ∀ i, i < s h → R i = i → i ≠ 0 → zc_Su P R rn su i) (hpl : ∀ i, i < s h → R i = i → pl i = zc_pl R rn (s h) i)
    (hp : ∀ wi ho, (∀ i, i < s h → wi i = zc_wi P R rn su (s h) 0 i) → (∀ i, i < s h → ho i = zc_hc K P R su (s h) 0 i) → post ((nI w), (nI h), lab, (nI (s h)), (nI cc), (nI rc), rb, (zc_A F), (zc_A T), (zc_A K), (zc_A L), (zc_A s), (zc_A su), (zc_A lv), (zc_A pl), (zc_A wi), (zc_A ho), (zc_A nu), (zc_A fr))) :
    ∀ n i wi ho, s h < i + n → i ≤ s h → (∀ k, k < i → wi k = 0 ∧ ho k = 0) → wX_sumUp_2 post (nI w) (nI h) lab (nI (s h)) (nI cc) (nI rc) n (nI i) rb (zc_A F) (zc_A T) (zc_A K) (zc_A L) (zc_A s) (zc_A su) (zc_A lv) (zc_A pl) (zc_A wi) (zc_A ho) (zc_A nu) (zc_A fr) := by
  intro n
  have hm := zc_D_145 D
  have hm0 := zc_D_m D
  induction n with
  | zero => intro i wi ho h1 h2; omega
  | succ n ih =>
    intro i wi ho h1 h2 hz
    refine pk_le (s h) i (fun z => ?_) (fun z => ?_)
    · have e : i = s h := by omega
      subst e
      refine nm_r (e' := nI (s h - 1)) (pk_sub (b := 1) hm0) ⟨s h, ?_⟩
      exact zc_xsu37 D hL hsu hpl hp (s h) (s h - 1) wi ho (by omega) (by omega) (fun i hi => by rw [zc_wi_0 i (by omega)]; exact (hz i hi).1) (fun i hi => by rw [zc_hc_0 i (by omega)]; exact (hz i hi).2)
    · refine And.intro (vp_in_nI (by omega) (by omega)) (nm_r (e' := zc_A (zc_u wi i 0)) (zc_A_w (by omega) (zc_vs (v := 0) (by omega))) (And.intro (vp_in_nI (by omega) (by omega)) (nm_r (e' := zc_A (zc_u ho i 0)) (zc_A_w (by omega) (zc_vs (v := 0) (by omega))) (nm_r (nI_1 i) ?_))))
      refine ih (i + 1) _ _ (by omega) (by omega) (fun k hk => ?_)
      by_cases c : k = i
      · rw [c, zc_us, zc_us]; exact ⟨rfl, rfl⟩
      · rw [zc_un c, zc_un c]; exact hz k (by omega)
theorem zc_xsu {post : SX → Prop} {B : Nat → Bool} {P R rn wi ho : Nat → Nat} (D : zc_D w h B s F T K P R rn) (hL : ∀ i, i < s h → L i = R i) (hv : zc_Sv B K P R rn (s h) pl su lv nu)
    (hp : ∀ wi ho, (∀ i, i < s h → wi i = zc_wi P R rn su (s h) 0 i) → (∀ i, i < s h → ho i = zc_hc K P R su (s h) 0 i) → post ((nI w), (nI h), lab, (nI (s h)), (nI cc), (nI rc), rb, (zc_A F), (zc_A T), (zc_A K), (zc_A L), (zc_A s), (zc_A su), (zc_A lv), (zc_A pl), (zc_A wi), (zc_A ho), (zc_A nu), (zc_A fr))) : wpX_sumUp post ((nI w), (nI h), lab, (nI (s h)), (nI cc), (nI rc), rb, (zc_A F), (zc_A T), (zc_A K), (zc_A L), (zc_A s), (zc_A su), (zc_A lv), (zc_A pl), (zc_A wi), (zc_A ho), (zc_A nu), (zc_A fr)) := by
  unfold wpX_sumUp
  refine ⟨s h + 1, ?_⟩
  exact zc_xsu2 D hL (fun i h1 h2 h3 => (hv i h1 h2).2.2.1 h3) (fun i h1 h2 => (hv i h1 h2).1) hp (s h + 1) 0 wi ho (by omega) (by omega) (fun k hk => by omega)
end
/-- the labelled picture -/
def zc_Lab (w h : Nat) (B : Nat → Bool) (m cc rc : Nat) (F T K L s su lv pl wi ho nu fr : Nat → Nat) : Prop :=
  ∃ P R rn, zc_D w h B s F T K P R rn ∧ m = s h ∧ cc = zc_cnt K P R 1 (s h) ∧ rc = zc_cnt K P R 0 (s h) ∧ (∀ i, i < s h → L i = R i) ∧ zc_Sv B K P R rn (s h) pl su lv nu ∧ zc_Sf B K P R rn (s h) fr ∧
    (∀ i, i < s h → wi i = zc_wi P R rn su (s h) 0 i) ∧ (∀ i, i < s h → ho i = zc_hc K P R su (s h) 0 i)
section
variable {w h : Nat} {lab : Int32} {rb : Nat → Int32}
/-- the bits are the picture -/
def zc_Bit (w h : Nat) (rb : Nat → Int32) (B : Nat → Bool) : Prop := ∀ y x, y < h → x < w → B (14 * y + x + 15) = bt (rb y) x
theorem zc_xla29 {post : SX → Prop} {B : Nat → Bool} (HP : zc_Pic w h B) (HB : zc_Bit w h rb B)
    (hp : ∀ m cc rc F T K L s su lv pl wi ho nu fr, zc_Lab w h B m cc rc F T K L s su lv pl wi ho nu fr → post ((nI w), (nI h), 1, (nI m), (nI cc), (nI rc), rb, (zc_A F), (zc_A T), (zc_A K), (zc_A L), (zc_A s), (zc_A su), (zc_A lv), (zc_A pl), (zc_A wi), (zc_A ho), (zc_A nu), (zc_A fr))) :
    ∀ n y m cc rc F T K L s su lv pl wi ho nu fr P R, h < y + n → y ≤ h → zc_I w h B (zc_u s y m) F T K P L R y m → (0 < y → s y = m) → wX_labelAll_29 post n (nI y) (nI w) (nI h) lab (nI m) (nI cc) (nI rc) rb (zc_A F) (zc_A T) (zc_A K) (zc_A L) (zc_A s) (zc_A su) (zc_A lv) (zc_A pl) (zc_A wi) (zc_A ho) (zc_A nu) (zc_A fr) := by
  intro n
  have hs := HP.1
  induction n with
  | zero => intro y m cc rc F T K L s su lv pl wi ho nu fr P R h1 h2; omega
  | succ n ih =>
    intro y m cc rc F T K L s su lv pl wi ho nu fr P R h1 h2 hI h0
    refine pk_le h y (fun z => ?_) (fun z => ?_)
    · have e : y = h := by omega
      subst e
      have es : zc_u s y m = s := by
        funext i
        by_cases c : i = y
        · rw [c, zc_us, h0 (by omega)]
        · rw [zc_un c]
      rw [es] at hI
      obtain ⟨i1, i2, i3, i4, i5, i6⟩ := hI
      subst i2
      obtain ⟨rn, D⟩ := zc_D_of HP i1 i6 i3 i4 i5
      refine zc_xse D i3.1 (fun L2 pl2 su2 lv2 nu2 fr2 g1 g2 g3 => ?_)
      refine zc_xsu D g1 g2 (fun wi2 ho2 g4 g5 => ?_)
      exact hp _ _ _ _ _ _ _ _ _ _ _ _ _ _ _ ⟨P, R, rn, D, rfl, rfl, rfl, g1, g2, g3, g4, g5⟩
    · have hm : m ≤ 1 + 12 * y := by
        have := zc_s_le12 hI.1 (by omega) (Nat.le_refl y) (by omega)
        rw [hI.2.1] at this
        exact this
      refine And.intro (vp_in_nI (by omega) (by omega)) (nm_r (e' := zc_A (zc_u s y m)) (zc_A_w (by omega) (zc_vs' (by omega))) (And.intro (vp_in_nI (by omega) (by omega)) ?_))
      refine zc_xcut (B := B) (y := y) (P := P) (by omega) (by omega) (fun x hx => ?_) (fun F2 T2 K2 L2 P2 m2 r1 aF aT aK aP aL hL => ?_)
      · rw [nI_clamp (by omega), HB y x z hx]; exact zc_bit _ (by omega)
      · obtain ⟨w1, w2, R2, w3, w4, w5⟩ := zc_I_row hI (by omega) r1 aF aT aK aP aL hL
        have r2 := r1.2.1
        have es2 : zc_u (zc_u s y m) (y + 1) m2 (y + 1) = m2 := zc_us
        refine And.intro (by rw [nI_1]; exact vp_in_nI (by omega) (by omega)) (nm_r (e' := zc_A (zc_u (zc_u s y m) (y + 1) m2)) (by rw [nI_1]; exact zc_A_w (by omega) (zc_vs' (by omega))) ?_)
        refine zc_xob HP (w1.2.2 y (by omega)) z w1.2.1 (M := m2) (by omega) (by omega) w3 (fun L3 R3 g1 g2 g3 => ?_)
        have c1 : ∀ j, j < y + 1 → zc_C1 w h (zc_u (zc_u s y m) (y + 1) m2) F2 T2 K2 R3 j := by
          intro j hj
          by_cases c : j = y
          · rw [c]; exact g3
          · exact zc_C1_co (w4 j (by omega)) g2
        have eI : zc_u (zc_u (zc_u s y m) (y + 1) m2) (y + 1) m2 = zc_u (zc_u s y m) (y + 1) m2 := by
          funext i
          by_cases c : i = y + 1
          · rw [c, zc_us, zc_us]
          · rw [zc_un c]
        refine pk_le y 0 (fun y0 => ?_) (fun y0 => ?_)
        · refine nm_r (nI_1 y) (ih (y + 1) m2 cc rc F2 T2 K2 L3 _ su lv pl wi ho nu fr P2 R3 (by omega) (by omega) ?_ (fun _ => es2))
          rw [eI]
          exact ⟨w1, es2, g1, c1, fun j hj => by omega, w2⟩
        · obtain ⟨y', rfl⟩ : ∃ y', y = y' + 1 := ⟨y - 1, by omega⟩
          refine zc_xta (w1.2.2 y' (by omega)) (w1.2.2 (y' + 1) (by omega)) (by omega) (by omega) (M := m2) (by omega) (by omega) g1 (fun L4 R4 k1 k2 k3 => ?_)
          refine nm_r (nI_1 (y' + 1)) (ih (y' + 1 + 1) m2 cc rc F2 T2 K2 L4 _ su lv pl wi ho nu fr P2 R4 (by omega) (by omega) ?_ (fun _ => es2))
          rw [eI]
          refine ⟨w1, es2, k1, fun j hj => zc_C1_co (c1 j hj) k2, fun j hj => ?_, w2⟩
          by_cases c : j = y'
          · rw [c]; exact k3
          · exact zc_C2_co (zc_C2_co (w5 j (by omega)) g2) k2
theorem zc_xla {post : SX → Prop} {B : Nat → Bool} {m cc rc : Nat} {F T K L s su lv pl wi ho nu fr : Nat → Nat} (HP : zc_Pic w h B) (HB : zc_Bit w h rb B)
    (hl : lab = 0 ∨ (lab = 1 ∧ zc_Lab w h B m cc rc F T K L s su lv pl wi ho nu fr))
    (hp : ∀ m cc rc F T K L s su lv pl wi ho nu fr, zc_Lab w h B m cc rc F T K L s su lv pl wi ho nu fr → post ((nI w), (nI h), 1, (nI m), (nI cc), (nI rc), rb, (zc_A F), (zc_A T), (zc_A K), (zc_A L), (zc_A s), (zc_A su), (zc_A lv), (zc_A pl), (zc_A wi), (zc_A ho), (zc_A nu), (zc_A fr))) : wpX_labelAll post ((nI w), (nI h), lab, (nI m), (nI cc), (nI rc), rb, (zc_A F), (zc_A T), (zc_A K), (zc_A L), (zc_A s), (zc_A su), (zc_A lv), (zc_A pl), (zc_A wi), (zc_A ho), (zc_A nu), (zc_A fr)) := by
  unfold wpX_labelAll
  rcases hl with e | ⟨e, hl⟩
  · refine br_t e ?_
    refine nm_r (e' := zc_A (zc_u K 0 0)) (zc_A_w (k := 0) (by omega) zc_z0) (nm_r (e' := zc_A (zc_u L 0 0)) (zc_A_w (k := 0) (by omega) (zc_vs (v := 0) (by omega))) ⟨h + 1, ?_⟩)
    refine zc_xla29 HP HB hp (h + 1) 0 1 cc rc F T (zc_u K 0 0) (zc_u L 0 0) s su lv pl wi ho nu fr (fun _ => 0) (fun i => i) (by omega) (by omega) ?_ (fun z => by omega)
    refine ⟨⟨zc_us, rfl, fun j hj => by omega⟩, zc_us, ⟨fun i hi => ?_, fun i hi => zc_Cn_r⟩, fun j hj => by omega, fun j hj => by omega, zc_us⟩
    have e : i = 0 := by omega
    subst e
    rw [zc_us]
    exact ⟨Nat.le_refl _, rfl, fun _ => rfl, Nat.le_refl _, rfl⟩
  · subst e
    exact br_f (by decide) (hp m cc rc F T K L s su lv pl wi ho nu fr hl)
end
end
section
/-! walks of the reference: near, besideWay, step, isFirst, count -/
def zc_c (B : Nat → Bool) (p : Nat) : Nat := zc_t (B p)
def zc_vq (p d : Nat) : Prop := 1 ≤ p % 14 + d % 3 ∧ p % 14 + d % 3 ≤ 14 ∧ 1 ≤ p / 14 + d / 3 ∧ p / 14 + d / 3 ≤ 14
def zc_q (p d : Nat) : Nat := 14 * (p / 14 + d / 3 - 1) + (p % 14 + d % 3 - 1)
theorem zc_q_lt {p d : Nat} (h : zc_vq p d) : zc_q p d < 196 := by unfold zc_vq at h; unfold zc_q; omega
theorem zc_q_4 {p d : Nat} (h : zc_vq p d) (hd : d < 9) (h1 : d % 2 = 1) : zc_A4 p (zc_q p d) := by
  have e1 : zc_q p d / 14 = p / 14 + d / 3 - 1 := by unfold zc_vq at h; unfold zc_q; omega
  have e2 : zc_q p d % 14 = p % 14 + d % 3 - 1 := by unfold zc_vq at h; unfold zc_q; omega
  unfold zc_A4
  rw [e1, e2]
  unfold zc_vq at h
  have hd' : d = 1 ∨ d = 3 ∨ d = 5 ∨ d = 7 := by omega
  rcases hd' with e | e | e | e <;> subst e <;> omega
theorem zc_q_9 {p d : Nat} (h : zc_vq p d) (hd : d < 9) : zc_A9 p (zc_q p d) := by
  have e1 : zc_q p d / 14 = p / 14 + d / 3 - 1 := by unfold zc_vq at h; unfold zc_q; omega
  have e2 : zc_q p d % 14 = p % 14 + d % 3 - 1 := by unfold zc_vq at h; unfold zc_q; omega
  unfold zc_A9
  rw [e1, e2]
  unfold zc_vq at h
  omega
theorem zc_q_of9 {p q : Nat} (hp : p < 196) (hq : q < 196) (h : zc_A9 p q) : ∃ d, d < 9 ∧ zc_vq p d ∧ zc_q p d = q := by
  unfold zc_A9 at h
  refine ⟨3 * (q / 14 + 1 - p / 14) + (q % 14 + 1 - p % 14), by omega, ?_, ?_⟩
  · unfold zc_vq
    have e1 : (3 * (q / 14 + 1 - p / 14) + (q % 14 + 1 - p % 14)) / 3 = q / 14 + 1 - p / 14 := by omega
    have e2 : (3 * (q / 14 + 1 - p / 14) + (q % 14 + 1 - p % 14)) % 3 = q % 14 + 1 - p % 14 := by omega
    rw [e1, e2]; omega
  · unfold zc_q
    have e1 : (3 * (q / 14 + 1 - p / 14) + (q % 14 + 1 - p % 14)) / 3 = q / 14 + 1 - p / 14 := by omega
    have e2 : (3 * (q / 14 + 1 - p / 14) + (q % 14 + 1 - p % 14)) % 3 = q % 14 + 1 - p % 14 := by omega
    rw [e1, e2]; omega
theorem zc_q_of4 {p q : Nat} (hp : p < 196) (hq : q < 196) (h : zc_A4 p q) : ∃ d, d < 9 ∧ d % 2 = 1 ∧ zc_vq p d ∧ zc_q p d = q := by
  obtain ⟨d, h1, h2, h3⟩ := zc_q_of9 hp hq (by unfold zc_A4 at h; unfold zc_A9; omega)
  have e1 : zc_q p d / 14 = p / 14 + d / 3 - 1 := by unfold zc_vq at h2; unfold zc_q; omega
  have e2 : zc_q p d % 14 = p % 14 + d % 3 - 1 := by unfold zc_vq at h2; unfold zc_q; omega
  refine ⟨d, h1, ?_, h2, h3⟩
  rw [h3] at e1 e2
  unfold zc_A4 at h
  unfold zc_vq at h2
  omega
/-- a step by its direction -/
def zc_ok (B : Nat → Bool) (p d : Nat) : Prop := B p = B (zc_q p d) ∧ (B p = true ∨ d % 2 = 1)
theorem zc_ok_St {B : Nat → Bool} {p d : Nat} (hp : p < 196) (hd : d < 9) (hv : zc_vq p d) (h : zc_ok B p d) : zc_St B p (zc_q p d) := by
  refine ⟨hp, zc_q_lt hv, h.1, ?_⟩
  by_cases c : d % 2 = 1
  · exact Or.inl (zc_q_4 hv hd c)
  · exact Or.inr ⟨h.2.resolve_right c, zc_q_9 hv hd⟩
theorem zc_ok_of {B : Nat → Bool} {p q : Nat} (h : zc_St B p q) : ∃ d, d < 9 ∧ zc_vq p d ∧ zc_q p d = q ∧ zc_ok B p d := by
  obtain ⟨hp, hq, hb, h4 | ⟨ht, h9⟩⟩ := h
  · obtain ⟨d, a1, a2, a3, a4⟩ := zc_q_of4 hp hq h4
    exact ⟨d, a1, a3, a4, by unfold zc_ok; rw [a4]; exact ⟨hb, Or.inr a2⟩⟩
  · obtain ⟨d, a1, a3, a4⟩ := zc_q_of9 hp hq h9
    exact ⟨d, a1, a3, a4, by unfold zc_ok; rw [a4]; exact ⟨hb, Or.inl ht⟩⟩
section
variable {w h : Nat} {c ro ch re : Nat → Nat} {B : Nat → Bool}
theorem zc_ynear {post : Int32 → Prop} {p d : Nat} (hp : p < 196) (hd : d < 9) (h1 : zc_vq p d → post (nI (zc_q p d))) (h0 : ¬ zc_vq p d → post (-1)) : wpY_near post ((nI w), (nI h), (zc_A c), (zc_A ro), (zc_A ch), (zc_A re)) (nI p) (nI d) := by
  have a1 : nI p - nI p / 14 * 14 = nI (p % 14) := pk_rem (d := 14) (by omega) (by omega) (by omega)
  have a2 : nI d - nI d / 3 * 3 = nI (d % 3) := pk_rem (d := 3) (by omega) (by omega) (by omega)
  have a3 : nI p / 14 = nI (p / 14) := pk_div (d := 14) (by omega) (by omega) (by omega)
  have a4 : nI d / 3 = nI (d / 3) := pk_div (d := 3) (by omega) (by omega) (by omega)
  unfold wpY_near
  refine ⟨by decide, by decide, nm_r (e' := nI (p % 14 + d % 3) - 1) (by rw [a1, a2, nI_add]) ⟨by decide, by decide, nm_r (e' := nI (p / 14 + d / 3) - 1) (by rw [a3, a4, nI_add]) ?_⟩⟩
  by_cases x0 : p % 14 + d % 3 = 0
  · rw [x0]
    exact br_t (by decide) (h0 (by unfold zc_vq; omega))
  · have e1 : nI (p % 14 + d % 3) - 1 = nI (p % 14 + d % 3 - 1) := pk_sub (b := 1) (by omega)
    rw [e1]
    refine br_f (nI_pos (by omega)) (pk_lt 13 (p % 14 + d % 3 - 1) (fun z => h0 (by unfold zc_vq; omega)) (fun z => ?_))
    by_cases y0 : p / 14 + d / 3 = 0
    · rw [y0]
      exact br_t (by decide) (h0 (by unfold zc_vq; omega))
    · have e2 : nI (p / 14 + d / 3) - 1 = nI (p / 14 + d / 3 - 1) := pk_sub (b := 1) (by omega)
      rw [e2]
      refine br_f (nI_pos (by omega)) (pk_le (p / 14 + d / 3 - 1) 13 (fun y => ?_) (fun y => h0 (by unfold zc_vq; omega)))
      have e3 : (14 : Int32) * nI (p / 14 + d / 3 - 1) + nI (p % 14 + d % 3 - 1) = nI (zc_q p d) := by
        rw [show (14 : Int32) = nI 14 from rfl, pk_mul, nI_add]; rfl
      rw [e3]
      exact h1 (by unfold zc_vq; omega)
theorem zc_ybeside {post : Int32 → Prop} {d : Nat} (hd : d < 9) (h1 : d % 2 = 1 → post 1) (h0 : d % 2 ≠ 1 → post 0) : wpY_besideWay post ((nI w), (nI h), (zc_A c), (zc_A ro), (zc_A ch), (zc_A re)) (nI d) := by
  have a1 : nI d - nI d / 2 * 2 = nI (d % 2) := pk_rem (d := 2) (by omega) (by omega) (by omega)
  unfold wpY_besideWay
  exact ⟨by decide, pk_eq (d % 2) 1 h1 h0 a1 rfl⟩
theorem zc_ystep {post : Int32 → Prop} {p d : Nat} (hp : p < 196) (hd : d < 9) (hv : zc_vq p d) (h1 : zc_ok B p d → post 1) (h0 : ¬ zc_ok B p d → post 0) : wpY_step post ((nI w), (nI h), (zc_A (zc_c B)), (zc_A ro), (zc_A ch), (zc_A re)) (nI p) (nI (zc_q p d)) (nI d) := by
  have hq := zc_q_lt hv
  have b1 := zc_t_le (B p)
  have b2 := zc_t_le (B (zc_q p d))
  unfold wpY_step
  refine ⟨vp_in_nI hp (by omega), vp_in_nI hq (by omega), pk_eq (zc_t (B p)) (zc_t (B (zc_q p d))) (fun e => ?_) (fun e => h0 (fun z => e (by rw [z.1]))) (zc_A_r (by omega)) (zc_A_r (by omega))⟩
  have eb := zc_t_i e
  refine ⟨vp_in_nI hp (by omega), pk_eq (zc_t (B p)) 0 (fun e0 => ?_) (fun e0 => h1 ⟨eb, Or.inl (zc_t_1 (by omega))⟩) (zc_A_r (by omega)) rfl⟩
  refine zc_ybeside hd (fun z => br_f (by decide) (h1 ⟨eb, Or.inr z⟩)) (fun z => br_t rfl (h0 (fun y => ?_)))
  rcases y.2 with y | y
  · rw [zc_t_0 e0] at y; exact absurd y (by decide)
  · exact z y
theorem zc_yfirst {post : Int32 → Prop} {r : Nat → Nat} {p : Nat} (b : Bool) (hp : p < 196) (hr : r p ≤ p) (hro : ro p = r p) (h1 : (B p = b ∧ r p = p) → post 1) (h0 : ¬ (B p = b ∧ r p = p) → post 0) : wpY_isFirst post ((nI w), (nI h), (zc_A (zc_c B)), (zc_A ro), (zc_A ch), (zc_A re)) (nI p) (nI (zc_t b)) := by
  have b1 := zc_t_le (B p)
  have b2 := zc_t_le b
  unfold wpY_isFirst
  refine ⟨vp_in_nI hp (by omega), pk_eq (zc_t (B p)) (zc_t b) (fun e => ?_) (fun e => h0 (fun z => e (by rw [z.1]))) (zc_A_r (by omega)) rfl⟩
  refine ⟨vp_in_nI hp (by omega), pk_eq (ro p) p (fun e2 => h1 ⟨zc_t_i e, by omega⟩) (fun e2 => h0 (fun z => e2 (by omega))) (zc_A_r (by omega)) rfl⟩
theorem zc_ycount5 {post : Int32 → Prop} {r : Nat → Nat} (b : Bool) {N : Nat} (hN : N ≤ 196) (hr : ∀ p, p < 196 → r p ≤ p) (hro : ∀ p, p < 196 → ro p = r p) (hp : post (nI (zc_n (fun x => B x = b ∧ r x = x) N))) : ∀ n p, N < p + n → p ≤ N → wY_count_5 post (nI (zc_t b)) (nI N) (nI w) (nI h) (zc_A (zc_c B)) (zc_A ro) (zc_A ch) (zc_A re) n (nI (zc_n (fun x => B x = b ∧ r x = x) p)) (nI p) := by
  intro n
  induction n with
  | zero => intro p h1 h2; omega
  | succ n ih =>
    intro p h1 h2
    refine pk_le N p (fun z => ?_) (fun z => ?_)
    · rw [show p = N by omega]; exact hp
    · have e := ih (p + 1) (by omega) (by omega)
      rw [zc_n_s] at e
      refine zc_yfirst b (by omega) (hr p (by omega)) (hro p (by omega)) (fun y => br_f (by decide) ?_) (fun y => br_t rfl ?_)
      · rw [zc_b_t y] at e
        exact nm_r (nI_1 _) (nm_r (nI_1 p) e)
      · rw [zc_b_f y, Nat.add_zero] at e
        exact nm_r (nI_1 p) e
theorem zc_ycount {post : Int32 → Prop} {r : Nat → Nat} (b : Bool) {N : Nat} (hN : N ≤ 196) (hr : ∀ p, p < 196 → r p ≤ p) (hro : ∀ p, p < 196 → ro p = r p) (hp : post (nI (zc_n (fun x => B x = b ∧ r x = x) N))) : wpY_count post ((nI w), (nI h), (zc_A (zc_c B)), (zc_A ro), (zc_A ch), (zc_A re)) (nI (zc_t b)) (nI N) :=
  ⟨N + 1, zc_ycount5 b hN hr hro hp (N + 1) 0 (by omega) (by omega)⟩
end
end
section
/-! walks of the reference: findRoots -/
/-- within a pass: below what stood, not below the roots -/
def zc_PA (r f0 f : Nat → Nat) : Prop := ∀ x, x < 196 → r x ≤ f x ∧ f x ≤ f0 x
def zc_PB (B : Nat → Bool) (f0 f : Nat → Nat) (p : Nat) : Prop := ∀ x y, x < p → zc_St B x y → f x ≤ f0 y
def zc_PC (B : Nat → Bool) (f0 f : Nat → Nat) (p d : Nat) : Prop := ∀ e, e < d → zc_vq p e → zc_ok B p e → f p ≤ f0 (zc_q p e)
def zc_PF (f0 f : Nat → Nat) (g : Int32) : Prop := (g = 0 ∧ ∀ x, f x = f0 x) ∨ g = 1
theorem zc_PB_s {B : Nat → Bool} {f0 f : Nat → Nat} {p : Nat} (h1 : zc_PB B f0 f p) (h2 : zc_PC B f0 f p 9) : zc_PB B f0 f (p + 1) := by
  intro x y hx hS
  by_cases e : x = p
  · subst e
    obtain ⟨d, d1, d2, d3, d4⟩ := zc_ok_of hS
    have := h2 d d1 d2 d4
    rw [d3] at this
    exact this
  · exact h1 x y (by omega) hS
theorem zc_PC_s {B : Nat → Bool} {f0 f : Nat → Nat} {p d : Nat} (h1 : zc_PC B f0 f p d) (h2 : zc_vq p d → zc_ok B p d → f p ≤ f0 (zc_q p d)) : zc_PC B f0 f p (d + 1) := by
  intro e he hv ho
  by_cases c : e = d
  · subst c; exact h2 hv ho
  · exact h1 e (by omega) hv ho
section
variable {w h : Nat} {ch re : Nat → Nat} {B : Nat → Bool} {r f0 : Nat → Nat}
theorem zc_ysr13 {post : Int32 → SY → Prop} {J4 : Int32 → Int32 → (Nat → Int32) → (Nat → Int32) → (Nat → Int32) → (Nat → Int32) → Prop} (hR : zc_Rt B r) (h0 : ∀ x, x < 196 → f0 x < 196) {p : Nat} (hp : p < 196)
    (hJ : ∀ f g, zc_PA r f0 f → zc_PB B f0 f (p + 1) → zc_PF f0 f g → J4 g (nI (p + 1)) (zc_A (zc_c B)) (zc_A f) (zc_A ch) (zc_A re)) :
    ∀ n d f g, 9 < d + n → d ≤ 9 → zc_PA r f0 f → zc_PB B f0 f p → zc_PC B f0 f p d → zc_PF f0 f g → wY_spreadRoots_13 post J4 (nI p) (nI w) (nI h) n g (nI d) (zc_A (zc_c B)) (zc_A f) (zc_A ch) (zc_A re) := by
  intro n
  induction n with
  | zero => intro d f g h1 h2; omega
  | succ n ih =>
    intro d f g h1 h2 hA hB hC hF
    refine pk_le 9 d (fun z => ?_) (fun z => ?_)
    · have e : d = 9 := by omega
      subst e
      exact nm_r (nI_1 p) (hJ f g hA (zc_PB_s hB hC) hF)
    · have skip : (zc_vq p d → zc_ok B p d → f p ≤ f0 (zc_q p d)) → wY_spreadRoots_13 post J4 (nI p) (nI w) (nI h) n g (nI (d + 1)) (zc_A (zc_c B)) (zc_A f) (zc_A ch) (zc_A re) :=
        fun hs => ih (d + 1) f g (by omega) (by omega) hA hB (zc_PC_s hC hs) hF
      refine zc_ynear hp z (fun hv => ?_) (fun hv => br_t (by decide) (nm_r (nI_1 d) (skip (fun y => absurd y hv))))
      have hq := zc_q_lt hv
      have ap := hA p hp
      have aq := hA _ hq
      have zp := h0 p hp
      have zq := h0 _ hq
      refine br_f (nI_pos (by omega)) (zc_ystep hp z hv (fun ho => br_f (by decide) ?_) (fun ho => br_t rfl (nm_r (nI_1 d) (skip (fun _ y => absurd y ho)))))
      have hS := zc_ok_St hp z hv ho
      refine ⟨vp_in_nI hq (by omega), vp_in_nI hp (by omega), pk_le (f p) (f (zc_q p d)) (fun y => nm_r (nI_1 d) (skip (fun _ _ => by omega))) (fun y => ?_) (zc_A_r (by omega)) (zc_A_r (by omega))⟩
      refine ⟨vp_in_nI hq (by omega), vp_in_nI hp (by omega), nm_r (zc_A_w (by omega) (zc_A_r (by omega))) (nm_r (nI_1 d) ?_)⟩
      refine ih (d + 1) (zc_u f p (f (zc_q p d))) 1 (by omega) (by omega) (fun x hx => ?_) (fun x v hx hv2 => ?_) (fun e he1 he2 he3 => ?_) (Or.inr rfl)
      · by_cases c : x = p
        · subst c
          rw [zc_us]
          have := hR.2.1 _ _ hS
          omega
        · rw [zc_un c]; exact hA x hx
      · rw [zc_un (by omega)]; exact hB x v hx hv2
      · rw [zc_us]
        by_cases c : e = d
        · subst c; omega
        · have := hC e (by omega) he2 he3
          omega
theorem zc_ysr4 {post : Int32 → SY → Prop} (hR : zc_Rt B r) (h0 : ∀ x, x < 196 → f0 x < 196)
    (hp : ∀ f g, zc_PA r f0 f → zc_PB B f0 f 196 → zc_PF f0 f g → post g ((nI w), (nI h), (zc_A (zc_c B)), (zc_A f), (zc_A ch), (zc_A re))) :
    ∀ n p f g, 196 < p + n → p ≤ 196 → zc_PA r f0 f → zc_PB B f0 f p → zc_PF f0 f g → wY_spreadRoots_4 post (nI w) (nI h) n g (nI p) (zc_A (zc_c B)) (zc_A f) (zc_A ch) (zc_A re) := by
  intro n
  induction n with
  | zero => intro p f g h1 h2; omega
  | succ n ih =>
    intro p f g h1 h2 hA hB hF
    refine pk_le 196 p (fun z => ?_) (fun z => ?_)
    · have e : p = 196 := by omega
      subst e
      refine ⟨?_, hp f g hA hB hF⟩
      rcases hF with ⟨e, -⟩ | e
      · rw [e]; exact narrow_b0
      · rw [e]; exact narrow_b1
    · refine ⟨10, zc_ysr13 hR h0 z (fun f' g' a1 a2 a3 => ?_) 10 0 f g (by omega) (by omega) hA hB (fun e he => by omega) hF⟩
      exact ih (p + 1) f' g' (by omega) (by omega) a1 a2 a3
theorem zc_ysr {post : Int32 → SY → Prop} (hR : zc_Rt B r) (h0 : ∀ x, x < 196 → f0 x < 196) (h1 : ∀ x, x < 196 → r x ≤ f0 x)
    (hp : ∀ f g, zc_PA r f0 f → zc_PB B f0 f 196 → zc_PF f0 f g → post g ((nI w), (nI h), (zc_A (zc_c B)), (zc_A f), (zc_A ch), (zc_A re))) : wpY_spreadRoots post ((nI w), (nI h), (zc_A (zc_c B)), (zc_A f0), (zc_A ch), (zc_A re)) :=
  ⟨197, zc_ysr4 hR h0 hp 197 0 f0 0 (by omega) (by omega) (fun x hx => ⟨h1 x hx, Nat.le_refl _⟩) (fun x y hx => by omega) (Or.inl ⟨rfl, fun _ => rfl⟩)⟩
/-- a round settles one more place -/
theorem zc_grow (hR : zc_Rt B r) {f f' : Nat → Nat} (h1 : ∀ x, x < 196 → r x ≤ f x ∧ f x ≤ x) (hA : zc_PA r f f') (hB : zc_PB B f f' 196) : (∀ x, x < 196 → f x = r x) ∨ zc_n (fun x => f x = r x) 196 + 1 ≤ zc_n (fun x => f' x = r x) 196 := by
  by_cases hd : ∀ x, x < 196 → f x = r x
  · exact Or.inl hd
  · right
    obtain ⟨p, hp⟩ := Classical.not_forall.mp hd
    have hp1 : p < 196 := Classical.byContradiction fun z => hp (fun y => absurd y z)
    have hp2 : f p ≠ r p := fun z => hp (fun _ => z)
    have hx : ∃ x y, zc_St B x y ∧ f x ≠ r x ∧ f y = r y := by
      refine Classical.byContradiction fun hn => ?_
      have hc : zc_Cl B (fun x => f x ≠ r x) := fun x y hS hx hy => hn ⟨x, y, hS, hx, hy⟩
      have e : f (r p) ≠ r (r p) := hR.2.2 p hp1 _ hc hp2
      have l := h1 (r p) (zc_Rt_lt hR hp1)
      have i := zc_Rt_i hR hp1
      omega
    obtain ⟨x, y, hS, hx, hy⟩ := hx
    have b := hB x y hS.1 hS
    have a := hA x hS.1
    have e := hR.2.1 x y hS
    refine zc_n_lt hS.1 hx (show f' x = r x by omega) (fun k hk hz => ?_)
    have ak := hA k hk
    omega
theorem zc_yfr26 {post : SY → Prop} (hR : zc_Rt B r) (hp : ∀ f, (∀ x, x < 196 → f x = r x) → post ((nI w), (nI h), (zc_A (zc_c B)), (zc_A f), (zc_A ch), (zc_A re))) :
    ∀ n k f g, 197 < k + n → k ≤ 197 → (∀ x, x < 196 → r x ≤ f x ∧ f x ≤ x) → ((g = 0 ∧ ∀ x, x < 196 → f x = r x) ∨ (g = 1 ∧ ((∀ x, x < 196 → f x = r x) ∨ k ≤ zc_n (fun x => f x = r x) 196))) → wY_findRoots_26 post n g (nI k) (nI w) (nI h) (zc_A (zc_c B)) (zc_A f) (zc_A ch) (zc_A re) := by
  intro n
  induction n with
  | zero => intro k f g h1 h2; omega
  | succ n ih =>
    intro k f g h1 h2 h3 h4
    refine pk_le 197 k (fun z => hp f ?_) (fun z => ?_)
    · rcases h4 with h4 | ⟨-, h4 | h4⟩
      · exact h4.2
      · exact h4
      · have := zc_n_le (fun x => f x = r x) 196
        omega
    · rcases h4 with ⟨g0, h4⟩ | ⟨g1, h4⟩
      · exact br_t g0 (hp f h4)
      · refine br_f (by rw [g1]; decide) (zc_ysr hR (fun x hx => by have := h3 x hx; omega) (fun x hx => (h3 x hx).1) (fun f' g' a1 a2 a3 => nm_r (nI_1 k) ?_))
        have h3' : ∀ x, x < 196 → r x ≤ f' x ∧ f' x ≤ x := fun x hx => by have := h3 x hx; have := a1 x hx; omega
        have hg := zc_grow hR h3 a1 a2
        refine ih (k + 1) f' g' (by omega) (by omega) h3' ?_
        rcases a3 with ⟨e, a3⟩ | e
        · left
          refine ⟨e, fun x hx => ?_⟩
          rw [a3 x]
          rcases hg with hg | hg
          · exact hg x hx
          · rw [zc_n_eq (P := fun x => f' x = r x) (Q := fun x => f x = r x) (fun x _ => by rw [a3 x])] at hg
            omega
        · right
          refine ⟨e, ?_⟩
          rcases hg with hg | hg
          · left
            intro x hx
            have := hg x hx
            have := a1 x hx
            omega
          · rcases h4 with h4 | h4
            · left
              intro x hx
              have := h4 x hx
              have := a1 x hx
              omega
            · right; omega
theorem zc_yfr2 {post : SY → Prop} (hR : zc_Rt B r) (hp : ∀ f, (∀ x, x < 196 → f x = r x) → post ((nI w), (nI h), (zc_A (zc_c B)), (zc_A f), (zc_A ch), (zc_A re))) :
    ∀ n p f, 196 < p + n → p ≤ 196 → (∀ x, x < p → f x = x) → wY_findRoots_2 post (nI w) (nI h) n (nI p) (zc_A (zc_c B)) (zc_A f) (zc_A ch) (zc_A re) := by
  intro n
  induction n with
  | zero => intro p f h1 h2; omega
  | succ n ih =>
    intro p f h1 h2 h3
    refine pk_le 196 p (fun z => ?_) (fun z => ?_)
    · have e : p = 196 := by omega
      subst e
      exact ⟨198, zc_yfr26 hR hp 198 0 f 1 (by omega) (by omega) (fun x hx => by rw [h3 x hx]; exact ⟨hR.1 x hx, Nat.le_refl _⟩) (Or.inr ⟨rfl, Or.inr (Nat.zero_le _)⟩)⟩
    · refine And.intro (vp_in_nI z (by omega)) (nm_r (zc_A_w (by omega) rfl) (nm_r (nI_1 p) (ih (p + 1) _ (by omega) (by omega) (fun x hx => ?_))))
      by_cases c : x = p
      · rw [c, zc_us]
      · rw [zc_un c]; exact h3 x (by omega)
theorem zc_yfr {post : SY → Prop} {ro : Nat → Nat} (hR : zc_Rt B r) (hp : ∀ f, (∀ x, x < 196 → f x = r x) → post ((nI w), (nI h), (zc_A (zc_c B)), (zc_A f), (zc_A ch), (zc_A re))) : wpY_findRoots post ((nI w), (nI h), (zc_A (zc_c B)), (zc_A ro), (zc_A ch), (zc_A re)) :=
  ⟨197, zc_yfr2 hR hp 197 0 ro (by omega) (by omega) (fun x hx => by omega)⟩
end
end
section
/-! walks of the reference: findChanges -/
def zc_CB (B : Nat → Bool) (f0 f : Nat → Nat) (p : Nat) : Prop := ∀ x y, x < p → (zc_St B x y → f x ≤ f0 y) ∧ (x < 196 → y < 196 → zc_A4 x y → f x ≤ f0 y + 1)
def zc_CC (B : Nat → Bool) (f0 f : Nat → Nat) (p d : Nat) : Prop := ∀ e, e < d → zc_vq p e → (zc_ok B p e → f p ≤ f0 (zc_q p e)) ∧ (e % 2 = 1 → f p ≤ f0 (zc_q p e) + 1)
theorem zc_CB_s {B : Nat → Bool} {f0 f : Nat → Nat} {p : Nat} (h1 : zc_CB B f0 f p) (h2 : zc_CC B f0 f p 9) : zc_CB B f0 f (p + 1) := by
  intro x y hx
  by_cases e : x = p
  · subst e
    constructor
    · intro hS
      obtain ⟨d, d1, d2, d3, d4⟩ := zc_ok_of hS
      have := (h2 d d1 d2).1 d4
      rw [d3] at this
      exact this
    · intro hx1 hy hS
      obtain ⟨d, d1, d2, d3, d4⟩ := zc_q_of4 hx1 hy hS
      have := (h2 d d1 d3).2 d2
      rw [d4] at this
      exact this
  · exact h1 x y (by omega)
theorem zc_CC_s {B : Nat → Bool} {f0 f : Nat → Nat} {p d : Nat} (h1 : zc_CC B f0 f p d) (h2 : zc_vq p d → (zc_ok B p d → f p ≤ f0 (zc_q p d)) ∧ (d % 2 = 1 → f p ≤ f0 (zc_q p d) + 1)) : zc_CC B f0 f p (d + 1) := by
  intro e he hv
  by_cases c : e = d
  · subst c; exact h2 hv
  · exact h1 e (by omega) hv
section
variable {w h : Nat} {ro re : Nat → Nat} {B : Nat → Bool} {r f0 : Nat → Nat}
theorem zc_ysc13 {post : Int32 → SY → Prop} {J4 : Int32 → Int32 → (Nat → Int32) → (Nat → Int32) → (Nat → Int32) → (Nat → Int32) → Prop} (hF : zc_Fr B) (hR : zc_Rt B r) (h0 : ∀ x, x < 196 → f0 x ≤ 500) {p : Nat} (hp : p < 196)
    (hJ : ∀ f g, zc_PA (zc_d r) f0 f → zc_CB B f0 f (p + 1) → zc_PF f0 f g → J4 g (nI (p + 1)) (zc_A (zc_c B)) (zc_A ro) (zc_A f) (zc_A re)) :
    ∀ n d f g, 9 < d + n → d ≤ 9 → zc_PA (zc_d r) f0 f → zc_CB B f0 f p → zc_CC B f0 f p d → zc_PF f0 f g → wY_spreadChanges_13 post J4 (nI p) (nI w) (nI h) n g (nI d) (zc_A (zc_c B)) (zc_A ro) (zc_A f) (zc_A re) := by
  intro n
  induction n with
  | zero => intro d f g h1 h2; omega
  | succ n ih =>
    intro d f g h1 h2 hA hB hC hG
    refine pk_le 9 d (fun z => ?_) (fun z => ?_)
    · have e : d = 9 := by omega
      subst e
      exact nm_r (nI_1 p) (hJ f g hA (zc_CB_s hB hC) hG)
    · have skip : (zc_vq p d → (zc_ok B p d → f p ≤ f0 (zc_q p d)) ∧ (d % 2 = 1 → f p ≤ f0 (zc_q p d) + 1)) → wY_spreadChanges_13 post J4 (nI p) (nI w) (nI h) n g (nI (d + 1)) (zc_A (zc_c B)) (zc_A ro) (zc_A f) (zc_A re) :=
        fun hs => ih (d + 1) f g (by omega) (by omega) hA hB (zc_CC_s hC hs) hG
      refine zc_ynear hp z (fun hv => ?_) (fun hv => br_f (by decide) ?_)
      · have hq := zc_q_lt hv
        have ap := hA p hp
        have aq := hA _ hq
        have zp := h0 p hp
        have zq := h0 _ hq
        have dl := zc_d_le hF hR hp
        have b1 := zc_t_le (B p)
        have b2 := zc_t_le (B (zc_q p d))
        have s84 : ∀ v, v ≤ 1000 → (zc_ok B p d → v = 0) → (d % 2 = 1 → v ≤ 1) → zc_d r p ≤ zc_d r (zc_q p d) + v → wY_spreadChanges_84 post J4 (wY_spreadChanges_13 post J4 (nI p) (nI w) (nI h) n) g (nI p) (nI d) (nI (zc_q p d)) (nI v) (nI w) (nI h) (zc_A (zc_c B)) (zc_A ro) (zc_A f) (zc_A re) := by
          intro v v0 v1 v2 v3
          have v4 : f (zc_q p d) + v ≤ f0 (zc_q p d) + v := by omega
          unfold wY_spreadChanges_84
          refine br_f (nI_pos (by omega)) ⟨vp_in_nI hq (by omega), vp_in_nI hp (by omega), pk_le (f p) (f (zc_q p d) + v) (fun y => nm_r (nI_1 d) (skip (fun _ => ⟨fun o => ?_, fun o => ?_⟩))) (fun y => ?_) (zc_A_r (by omega)) (by rw [zc_A_r (by omega), nI_add])⟩
          · have := v1 o; omega
          · have := v2 o; omega
          · refine ⟨vp_in_nI hq (by omega), vp_in_nI hp (by omega), nm_r (e' := zc_A (zc_u f p (f (zc_q p d) + v))) (zc_A_w (by omega) (by rw [zc_A_r (by omega), nI_add])) (nm_r (nI_1 d) ?_)⟩
            refine ih (d + 1) (zc_u f p (f (zc_q p d) + v)) 1 (by omega) (by omega) (fun x hx => ?_) (fun x t hx => ?_) (fun e he1 he2 => ?_) (Or.inr rfl)
            · by_cases c : x = p
              · subst c
                rw [zc_us]
                omega
              · rw [zc_un c]; exact hA x hx
            · rw [zc_un (by omega)]; exact hB x t hx
            · rw [zc_us]
              by_cases c : e = d
              · subst c
                exact ⟨fun o => by have := v1 o; omega, fun o => by have := v2 o; omega⟩
              · have := hC e (by omega) he2
                exact ⟨fun o => by have := this.1 o; omega, fun o => by have := this.2 o; omega⟩
        refine br_t (nI_pos' (by omega)) (zc_ystep hp z hv (fun ho => br_f (by decide) ?_) (fun ho => br_t rfl ?_))
        · exact s84 0 (by omega) (fun _ => rfl) (fun _ => by omega) (by rw [zc_d_eq hR hp hq (hR.2.1 _ _ (zc_ok_St hp z hv ho))]; omega)
        · have s1000 : d % 2 ≠ 1 → wY_spreadChanges_84 post J4 (wY_spreadChanges_13 post J4 (nI p) (nI w) (nI h) n) g (nI p) (nI d) (nI (zc_q p d)) (nI 1000) (nI w) (nI h) (zc_A (zc_c B)) (zc_A ro) (zc_A f) (zc_A re) :=
            fun hd => s84 1000 (by omega) (fun y => absurd y ho) (fun y => absurd y hd) (by omega)
          refine ⟨vp_in_nI hp (by omega), vp_in_nI hq (by omega), pk_eq (zc_t (B p)) (zc_t (B (zc_q p d))) (fun e => ?_) (fun e => ?_) (zc_A_r (by omega)) (zc_A_r (by omega))⟩
          · unfold wY_spreadChanges_81
            exact s1000 (fun y => ho ⟨zc_t_i e, Or.inr y⟩)
          · refine zc_ybeside z (fun y => br_f (by decide) ?_) (fun y => br_t rfl ?_)
            · exact s84 1 (by omega) (fun y => absurd y ho) (fun _ => by omega) (zc_d_4le hF hR hp hq (zc_q_4 hv z y))
            · unfold wY_spreadChanges_81
              exact s1000 y
      · unfold wY_spreadChanges_84
        exact br_t (by decide) (nm_r (nI_1 d) (skip (fun y => absurd y hv)))
theorem zc_ysc4 {post : Int32 → SY → Prop} (hF : zc_Fr B) (hR : zc_Rt B r) (h0 : ∀ x, x < 196 → f0 x ≤ 500)
    (hp : ∀ f g, zc_PA (zc_d r) f0 f → zc_CB B f0 f 196 → zc_PF f0 f g → post g ((nI w), (nI h), (zc_A (zc_c B)), (zc_A ro), (zc_A f), (zc_A re))) :
    ∀ n p f g, 196 < p + n → p ≤ 196 → zc_PA (zc_d r) f0 f → zc_CB B f0 f p → zc_PF f0 f g → wY_spreadChanges_4 post (nI w) (nI h) n g (nI p) (zc_A (zc_c B)) (zc_A ro) (zc_A f) (zc_A re) := by
  intro n
  induction n with
  | zero => intro p f g h1 h2; omega
  | succ n ih =>
    intro p f g h1 h2 hA hB hG
    refine pk_le 196 p (fun z => ?_) (fun z => ?_)
    · have e : p = 196 := by omega
      subst e
      refine ⟨?_, hp f g hA hB hG⟩
      rcases hG with ⟨e, -⟩ | e
      · rw [e]; exact narrow_b0
      · rw [e]; exact narrow_b1
    · refine ⟨10, zc_ysc13 hF hR h0 z (fun f' g' a1 a2 a3 => ?_) 10 0 f g (by omega) (by omega) hA hB (fun e he => by omega) hG⟩
      exact ih (p + 1) f' g' (by omega) (by omega) a1 a2 a3
theorem zc_ysc {post : Int32 → SY → Prop} (hF : zc_Fr B) (hR : zc_Rt B r) (h0 : ∀ x, x < 196 → f0 x ≤ 500) (h1 : ∀ x, x < 196 → zc_d r x ≤ f0 x)
    (hp : ∀ f g, zc_PA (zc_d r) f0 f → zc_CB B f0 f 196 → zc_PF f0 f g → post g ((nI w), (nI h), (zc_A (zc_c B)), (zc_A ro), (zc_A f), (zc_A re))) : wpY_spreadChanges post ((nI w), (nI h), (zc_A (zc_c B)), (zc_A ro), (zc_A f0), (zc_A re)) :=
  ⟨197, zc_ysc4 hF hR h0 hp 197 0 f0 0 (by omega) (by omega) (fun x hx => ⟨h1 x hx, Nat.le_refl _⟩) (fun x y hx => by omega) (Or.inl ⟨rfl, fun _ => rfl⟩)⟩
/-- a round settles one more place -/
theorem zc_growC (hF : zc_Fr B) (hR : zc_Rt B r) {f f' : Nat → Nat} (h1 : ∀ x, x < 196 → zc_d r x ≤ f x) (h2 : f 0 = 0) (hA : zc_PA (zc_d r) f f') (hB : zc_CB B f f' 196) : (∀ x, x < 196 → f x = zc_d r x) ∨ zc_n (fun x => f x = zc_d r x) 196 + 1 ≤ zc_n (fun x => f' x = zc_d r x) 196 := by
  by_cases hd : ∀ x, x < 196 → f x = zc_d r x
  · exact Or.inl hd
  · right
    have done : ∀ x, x < 196 → f x ≠ zc_d r x → f' x = zc_d r x → zc_n (fun x => f x = zc_d r x) 196 + 1 ≤ zc_n (fun x => f' x = zc_d r x) 196 := by
      intro x hx e1 e2
      refine zc_n_lt hx e1 e2 (fun k hk hz => ?_)
      have ak := hA k hk
      omega
    obtain ⟨p, hp⟩ := Classical.not_forall.mp hd
    have hp1 : p < 196 := Classical.byContradiction fun z => hp (fun y => absurd y z)
    have hp2 : f p ≠ zc_d r p := fun z => hp (fun _ => z)
    obtain ⟨k, ⟨v, v1, v2, v3⟩, v4⟩ := pk_least (fun k => ∃ v, v < 196 ∧ f v ≠ zc_d r v ∧ zc_d r v = k) ⟨_, p, hp1, hp2, rfl⟩
    have lv := hR.1 v v1
    have dv := zc_d_r hR v1
    by_cases c : f (r v) = zc_d r (r v)
    · have hx : ∃ x y, zc_St B x y ∧ f x ≠ zc_d r x ∧ f y = zc_d r y := by
        refine Classical.byContradiction fun hn => ?_
        have hc : zc_Cl B (fun x => f x ≠ zc_d r x) := fun x y hS hx hy => hn ⟨x, y, hS, hx, hy⟩
        exact hR.2.2 v v1 _ hc v2 c
      obtain ⟨x, y, hS, hx, hy⟩ := hx
      have b := (hB x y hS.1).1 hS
      have a := hA x hS.1
      have e := zc_d_eq hR hS.1 hS.2.1 (hR.2.1 x y hS)
      exact done x hS.1 hx (by omega)
    · have n0 : r v ≠ 0 := by
        intro e
        rw [e, h2] at c
        exact c (zc_d_0 (zc_Rt_0 hR)).symm
      obtain ⟨w1, w2, w3, w4⟩ := zc_west hF hR (f := r v) (by omega) (zc_Rt_i hR v1) n0
      have e := zc_d_n hR (p := r v) (by omega) (by rw [zc_Rt_i hR v1]; exact n0)
      rw [zc_Rt_i hR v1] at e
      have s : f (r v - 1) = zc_d r (r v - 1) := by
        refine Classical.byContradiction fun hn => ?_
        exact v4 (zc_d r (r v - 1)) (by omega) ⟨r v - 1, by omega, hn, rfl⟩
      have b := (hB (r v) (r v - 1) (by omega)).2 (by omega) (by omega) (zc_A4_s w2)
      have a := hA (r v) (by omega)
      exact done (r v) (by omega) c (by omega)
theorem zc_yfc36 {post : SY → Prop} (hF : zc_Fr B) (hR : zc_Rt B r) (hp : ∀ f, (∀ x, x < 196 → f x = zc_d r x) → post ((nI w), (nI h), (zc_A (zc_c B)), (zc_A ro), (zc_A f), (zc_A re))) :
    ∀ n k f g, 197 < k + n → k ≤ 197 → (∀ x, x < 196 → zc_d r x ≤ f x ∧ f x ≤ 500) → f 0 = 0 → ((g = 0 ∧ ∀ x, x < 196 → f x = zc_d r x) ∨ (g = 1 ∧ ((∀ x, x < 196 → f x = zc_d r x) ∨ k ≤ zc_n (fun x => f x = zc_d r x) 196))) → wY_findChanges_36 post n g (nI k) (nI w) (nI h) (zc_A (zc_c B)) (zc_A ro) (zc_A f) (zc_A re) := by
  intro n
  induction n with
  | zero => intro k f g h1 h2; omega
  | succ n ih =>
    intro k f g h1 h2 h3 h00 h4
    refine pk_le 197 k (fun z => hp f ?_) (fun z => ?_)
    · rcases h4 with h4 | ⟨-, h4 | h4⟩
      · exact h4.2
      · exact h4
      · have := zc_n_le (fun x => f x = zc_d r x) 196
        omega
    · rcases h4 with ⟨g0, h4⟩ | ⟨g1, h4⟩
      · exact br_t g0 (hp f h4)
      · refine br_f (by rw [g1]; decide) (zc_ysc hF hR (fun x hx => (h3 x hx).2) (fun x hx => (h3 x hx).1) (fun f' g' a1 a2 a3 => nm_r (nI_1 k) ?_))
        have h3' : ∀ x, x < 196 → zc_d r x ≤ f' x ∧ f' x ≤ 500 := fun x hx => by have := h3 x hx; have := a1 x hx; omega
        have hg := zc_growC hF hR (fun x hx => (h3 x hx).1) h00 a1 a2
        refine ih (k + 1) f' g' (by omega) (by omega) h3' (by have := a1 0 (by omega); omega) ?_
        rcases a3 with ⟨e, a3⟩ | e
        · left
          refine ⟨e, fun x hx => ?_⟩
          rw [a3 x]
          rcases hg with hg | hg
          · exact hg x hx
          · rw [zc_n_eq (P := fun x => f' x = zc_d r x) (Q := fun x => f x = zc_d r x) (fun x _ => by rw [a3 x])] at hg
            omega
        · right
          refine ⟨e, ?_⟩
          rcases hg with hg | hg
          · left
            intro x hx
            have := hg x hx
            have := a1 x hx
            omega
          · rcases h4 with h4 | h4
            · left
              intro x hx
              have := h4 x hx
              have := a1 x hx
              omega
            · right; omega
theorem zc_yfc2 {post : SY → Prop} (hF : zc_Fr B) (hR : zc_Rt B r) (hp : ∀ f, (∀ x, x < 196 → f x = zc_d r x) → post ((nI w), (nI h), (zc_A (zc_c B)), (zc_A ro), (zc_A f), (zc_A re))) :
    ∀ n p f, 196 < p + n → p ≤ 196 → (∀ x, x < p → f x = if x = 0 then 0 else 500) → wY_findChanges_2 post (nI w) (nI h) n (nI p) (zc_A (zc_c B)) (zc_A ro) (zc_A f) (zc_A re) := by
  intro n
  induction n with
  | zero => intro p f h1 h2; omega
  | succ n ih =>
    intro p f h1 h2 h3
    refine pk_le 196 p (fun z => ?_) (fun z => ?_)
    · have e : p = 196 := by omega
      subst e
      refine ⟨198, zc_yfc36 hF hR hp 198 0 f 1 (by omega) (by omega) (fun x hx => ?_) (by rw [h3 0 (by omega)]; rfl) (Or.inr ⟨rfl, Or.inr (Nat.zero_le _)⟩)⟩
      rw [h3 x hx]
      have dl := zc_d_le hF hR hx
      by_cases x0 : x = 0
      · subst x0
        rw [if_pos rfl, zc_d_0 (zc_Rt_0 hR)]; omega
      · rw [if_neg x0]; omega
    · refine pk_eq p 0 (fun p0 => ?_) (fun p0 => ?_)
      · refine And.intro (vp_in_nI z (by omega)) (nm_r (e' := zc_A (zc_u f p 0)) (zc_A_w (by omega) rfl) (nm_r (nI_1 p) (ih (p + 1) _ (by omega) (by omega) (fun x hx => ?_))))
        by_cases c : x = p
        · rw [c, zc_us, if_pos p0]
        · rw [zc_un c]; exact h3 x (by omega)
      · refine And.intro (vp_in_nI z (by omega)) (nm_r (e' := zc_A (zc_u f p 500)) (zc_A_w (by omega) rfl) (nm_r (nI_1 p) (ih (p + 1) _ (by omega) (by omega) (fun x hx => ?_))))
        by_cases c : x = p
        · rw [c, zc_us, if_neg p0]
        · rw [zc_un c]; exact h3 x (by omega)
theorem zc_yfc {post : SY → Prop} {ch : Nat → Nat} (hF : zc_Fr B) (hR : zc_Rt B r) (hp : ∀ f, (∀ x, x < 196 → f x = zc_d r x) → post ((nI w), (nI h), (zc_A (zc_c B)), (zc_A ro), (zc_A f), (zc_A re))) : wpY_findChanges post ((nI w), (nI h), (zc_A (zc_c B)), (zc_A ro), (zc_A ch), (zc_A re)) :=
  ⟨197, zc_yfc2 hF hR hp 197 0 ch (by omega) (by omega) (fun x hx => by omega)⟩
end
end
section
/-! walks of the reference: findReached -/
def zc_QA (r : Nat → Nat) (a : Nat) (f0 f : Nat → Nat) : Prop := (∀ x, x < 196 → f x = 0 ∨ f x = 1) ∧ (∀ x, x < 196 → f0 x = 1 → f x = 1) ∧ (∀ S : Nat → Prop, zc_Qc r a S → ∀ x, x < 196 → f x = 1 → S x)
def zc_QB (r : Nat → Nat) (a : Nat) (f0 : Nat → Nat) (p : Nat) : Prop := ∀ x y, x < p → x < 196 → y < 196 → zc_A4 x y → r y ≠ a → f0 x = 1 → f0 y = 1
def zc_QC (r : Nat → Nat) (a : Nat) (f0 : Nat → Nat) (p d : Nat) : Prop := ∀ e, e < d → e < 9 → e % 2 = 1 → zc_vq p e → r (zc_q p e) ≠ a → f0 p = 1 → f0 (zc_q p e) = 1
def zc_QF (f0 f : Nat → Nat) (g : Int32) (C : Prop) : Prop := (g = 0 ∧ (∀ x, f x = f0 x) ∧ C) ∨ (g = 1 ∧ ∃ x, x < 196 ∧ f x = 1 ∧ f0 x = 0)
theorem zc_QB_s {r f0 : Nat → Nat} {a p : Nat} (h1 : zc_QB r a f0 p) (h2 : zc_QC r a f0 p 9) : zc_QB r a f0 (p + 1) := by
  intro x y hx hx1 hy h4 hr hf
  by_cases e : x = p
  · subst e
    obtain ⟨d, d1, d2, d3, d4⟩ := zc_q_of4 hx1 hy h4
    have := h2 d d1 d1 d2 d3 (by rw [d4]; exact hr) hf
    rw [d4] at this
    exact this
  · exact h1 x y (by omega) hx1 hy h4 hr hf
section
variable {w h : Nat} {c ro ch : Nat → Nat} {r f0 : Nat → Nat} {a : Nat}
theorem zc_ysq14 {post : Int32 → SY → Prop} {J4 : Int32 → Int32 → (Nat → Int32) → (Nat → Int32) → (Nat → Int32) → (Nat → Int32) → Prop} (hr : ∀ x, x < 196 → r x < 196) (hro : ∀ x, x < 196 → ro x = r x) (ha : a < 196) (h01 : ∀ x, x < 196 → f0 x = 0 ∨ f0 x = 1) {p : Nat} (hp : p < 196)
    (hJ : ∀ f g, zc_QA r a f0 f → zc_QF f0 f g (zc_QB r a f0 (p + 1)) → J4 g (nI (p + 1)) (zc_A c) (zc_A ro) (zc_A ch) (zc_A f)) :
    ∀ n d f g, 10 < d + n → d ≤ 9 → d % 2 = 1 → zc_QA r a f0 f → zc_QF f0 f g (zc_QB r a f0 p ∧ zc_QC r a f0 p d) → wY_spreadReached_14 post J4 (nI a) (nI p) (nI w) (nI h) n g (nI d) (zc_A c) (zc_A ro) (zc_A ch) (zc_A f) := by
  intro n
  induction n with
  | zero => intro d f g h1 h2; omega
  | succ n ih =>
    intro d f g h1 h2 h3 hA hG
    refine pk_le 9 d (fun z => ?_) (fun z => ?_)
    · have e : d = 9 := by omega
      subst e
      refine nm_r (nI_1 p) (hJ f g hA ?_)
      rcases hG with ⟨g1, g2, g3⟩ | g1
      · exact Or.inl ⟨g1, g2, zc_QB_s g3.1 g3.2⟩
      · exact Or.inr g1
    · have ed : nI d + 2 = nI (d + 2) := nI_add d 2
      have skip : ((∀ x, f x = f0 x) → zc_vq p d → r (zc_q p d) ≠ a → f0 p = 1 → f0 (zc_q p d) = 1) → wY_spreadReached_14 post J4 (nI a) (nI p) (nI w) (nI h) n g (nI (d + 2)) (zc_A c) (zc_A ro) (zc_A ch) (zc_A f) := by
        intro hs
        refine ih (d + 2) f g (by omega) (by omega) (by omega) hA ?_
        rcases hG with ⟨g1, g2, g3⟩ | g1
        · refine Or.inl ⟨g1, g2, g3.1, fun e e1 e2 e3 e4 e5 e6 => ?_⟩
          by_cases c : e = d
          · subst c; exact hs g2 e4 e5 e6
          · exact g3.2 e (by omega) e2 e3 e4 e5 e6
        · exact Or.inr g1
      refine zc_ynear hp (by omega) (fun hv => ?_) (fun hv => br_t (by decide) (nm_r ed (skip (fun _ y => absurd y hv))))
      have hq := zc_q_lt hv
      have rq := hr _ hq
      have fp := hA.1 p hp
      have fq := hA.1 _ hq
      refine br_f (nI_pos (by omega)) ⟨vp_in_nI hp (by omega), pk_eq (f p) 0 (fun y => nm_r ed (skip (fun e _ _ y2 => by have := e p; omega))) (fun y => ?_) (zc_A_r (by omega)) rfl⟩
      refine ⟨vp_in_nI hq (by omega), pk_eq (f (zc_q p d)) 0 (fun y2 => ?_) (fun y2 => nm_r ed (skip (fun e _ _ _ => by have := e (zc_q p d); omega))) (zc_A_r (by omega)) rfl⟩
      refine ⟨vp_in_nI hq (by omega), pk_eq (ro (zc_q p d)) a (fun y3 => nm_r ed (skip (fun _ _ y4 => absurd (by rw [← hro _ hq]; exact y3) y4))) (fun y3 => ?_) (zc_A_r (by omega)) rfl (by rw [hro _ hq]; omega) (by omega)⟩
      refine ⟨vp_in_nI hq (by omega), nm_r (e' := zc_A (zc_u f (zc_q p d) 1)) (zc_A_w (by omega) zc_z1) (nm_r ed ?_)⟩
      refine ih (d + 2) (zc_u f (zc_q p d) 1) 1 (by omega) (by omega) (by omega) ⟨fun x hx => ?_, fun x hx hx0 => ?_, fun S hS x hx hx1 => ?_⟩ (Or.inr ⟨rfl, zc_q p d, hq, zc_us, ?_⟩)
      · by_cases c : x = zc_q p d
        · rw [c, zc_us]; exact Or.inr rfl
        · rw [zc_un c]; exact hA.1 x hx
      · by_cases c : x = zc_q p d
        · rw [c, zc_us]
        · rw [zc_un c]; exact hA.2.1 x hx hx0
      · by_cases c : x = zc_q p d
        · rw [c]
          exact hS.2 p _ hp hq (zc_q_4 hv (by omega) h3) (by rw [← hro _ hq]; exact y3) (hA.2.2 S hS p hp (by omega))
        · rw [zc_un c] at hx1
          exact hA.2.2 S hS x hx hx1
      · rcases h01 _ hq with k | k
        · exact k
        · have := hA.2.1 _ hq k
          omega
theorem zc_ysq4 {post : Int32 → SY → Prop} (hr : ∀ x, x < 196 → r x < 196) (hro : ∀ x, x < 196 → ro x = r x) (ha : a < 196) (h01 : ∀ x, x < 196 → f0 x = 0 ∨ f0 x = 1)
    (hp : ∀ f g, zc_QA r a f0 f → zc_QF f0 f g (zc_QB r a f0 196) → post g ((nI w), (nI h), (zc_A c), (zc_A ro), (zc_A ch), (zc_A f))) :
    ∀ n p f g, 196 < p + n → p ≤ 196 → zc_QA r a f0 f → zc_QF f0 f g (zc_QB r a f0 p) → wY_spreadReached_4 post (nI a) (nI w) (nI h) n g (nI p) (zc_A c) (zc_A ro) (zc_A ch) (zc_A f) := by
  intro n
  induction n with
  | zero => intro p f g h1 h2; omega
  | succ n ih =>
    intro p f g h1 h2 hA hG
    refine pk_le 196 p (fun z => ?_) (fun z => ?_)
    · have e : p = 196 := by omega
      subst e
      refine ⟨?_, hp f g hA hG⟩
      rcases hG with ⟨e, -⟩ | ⟨e, -⟩
      · rw [e]; exact narrow_b0
      · rw [e]; exact narrow_b1
    · refine ⟨10, zc_ysq14 hr hro ha h01 z (fun f' g' a1 a2 => ?_) 10 1 f g (by omega) (by omega) (by omega) hA ?_⟩
      · exact ih (p + 1) f' g' (by omega) (by omega) a1 a2
      · rcases hG with ⟨g1, g2, g3⟩ | g1
        · exact Or.inl ⟨g1, g2, g3, fun e e1 e2 e3 => by omega⟩
        · exact Or.inr g1
theorem zc_ysq {post : Int32 → SY → Prop} (hr : ∀ x, x < 196 → r x < 196) (hro : ∀ x, x < 196 → ro x = r x) (ha : a < 196) (h01 : ∀ x, x < 196 → f0 x = 0 ∨ f0 x = 1) (hS : ∀ S : Nat → Prop, zc_Qc r a S → ∀ x, x < 196 → f0 x = 1 → S x)
    (hp : ∀ f g, zc_QA r a f0 f → zc_QF f0 f g (zc_QB r a f0 196) → post g ((nI w), (nI h), (zc_A c), (zc_A ro), (zc_A ch), (zc_A f))) : wpY_spreadReached post ((nI w), (nI h), (zc_A c), (zc_A ro), (zc_A ch), (zc_A f0)) (nI a) :=
  ⟨197, zc_ysq4 hr hro ha h01 hp 197 0 f0 0 (by omega) (by omega) ⟨h01, fun _ _ h => h, hS⟩ (Or.inl ⟨rfl, fun _ => rfl, fun x y hx => by omega⟩)⟩
theorem zc_yfq34 {post : SY → Prop} (hr : ∀ x, x < 196 → r x < 196) (hro : ∀ x, x < 196 → ro x = r x) (ha : a < 196)
    (hp : ∀ f, (∀ x, x < 196 → f x = 0 ∨ f x = 1) → zc_Qc r a (fun x => f x = 1) → (∀ S : Nat → Prop, zc_Qc r a S → ∀ x, x < 196 → f x = 1 → S x) → post ((nI w), (nI h), (zc_A c), (zc_A ro), (zc_A ch), (zc_A f))) :
    ∀ n k f g, 197 < k + n → k ≤ 197 → (∀ x, x < 196 → f x = 0 ∨ f x = 1) → f 0 = 1 → (∀ S : Nat → Prop, zc_Qc r a S → ∀ x, x < 196 → f x = 1 → S x) → ((g = 0 ∧ zc_QB r a f 196) ∨ (g = 1 ∧ k ≤ zc_n (fun x => f x = 1) 196)) → wY_findReached_34 post (nI a) n g (nI k) (nI w) (nI h) (zc_A c) (zc_A ro) (zc_A ch) (zc_A f) := by
  intro n
  induction n with
  | zero => intro k f g h1 h2; omega
  | succ n ih =>
    intro k f g h1 h2 h3 h00 hS h4
    refine pk_le 197 k (fun z => ?_) (fun z => ?_)
    · rcases h4 with ⟨-, h4⟩ | ⟨-, h4⟩
      · exact hp f h3 ⟨h00, fun x y hx hy hxy hn hf => h4 x y hx hx hy hxy hn hf⟩ hS
      · have := zc_n_le (fun x => f x = 1) 196
        omega
    · rcases h4 with ⟨g0, h4⟩ | ⟨g1, h4⟩
      · exact br_t g0 (hp f h3 ⟨h00, fun x y hx hy hxy hn hf => h4 x y hx hx hy hxy hn hf⟩ hS)
      · refine br_f (by rw [g1]; decide) (zc_ysq hr hro ha h3 hS (fun f' g' a1 a2 => nm_r (nI_1 k) ?_))
        refine ih (k + 1) f' g' (by omega) (by omega) a1.1 (a1.2.1 0 (by omega) h00) a1.2.2 ?_
        rcases a2 with ⟨e1, e2, e3⟩ | ⟨e1, x, x1, x2, x3⟩
        · left
          refine ⟨e1, ?_⟩
          have : f' = f := funext e2
          rw [this]
          exact e3
        · right
          refine ⟨e1, ?_⟩
          have := zc_n_lt (P := fun x => f x = 1) (Q := fun x => f' x = 1) x1 (by omega) x2 (fun k hk => a1.2.1 k hk)
          omega
theorem zc_yfq2 {post : SY → Prop} (hr : ∀ x, x < 196 → r x < 196) (hro : ∀ x, x < 196 → ro x = r x) (ha : a < 196)
    (hp : ∀ f, (∀ x, x < 196 → f x = 0 ∨ f x = 1) → zc_Qc r a (fun x => f x = 1) → (∀ S : Nat → Prop, zc_Qc r a S → ∀ x, x < 196 → f x = 1 → S x) → post ((nI w), (nI h), (zc_A c), (zc_A ro), (zc_A ch), (zc_A f))) :
    ∀ n p f, 196 < p + n → p ≤ 196 → (∀ x, x < p → f x = if x = 0 then 1 else 0) → wY_findReached_2 post (nI a) (nI w) (nI h) n (nI p) (zc_A c) (zc_A ro) (zc_A ch) (zc_A f) := by
  intro n
  induction n with
  | zero => intro p f h1 h2; omega
  | succ n ih =>
    intro p f h1 h2 h3
    refine pk_le 196 p (fun z => ?_) (fun z => ?_)
    · have e : p = 196 := by omega
      subst e
      have e0 : ∀ x, x < 196 → x ≠ 0 → f x = 0 := fun x hx x0 => by rw [h3 x hx, if_neg x0]
      have e1 : f 0 = 1 := by rw [h3 0 (by omega)]; rfl
      refine ⟨198, zc_yfq34 hr hro ha hp 198 0 f 1 (by omega) (by omega) (fun x hx => ?_) e1 (fun S hS x hx hf => ?_) (Or.inr ⟨rfl, Nat.zero_le _⟩)⟩
      · by_cases x0 : x = 0
        · subst x0; exact Or.inr e1
        · exact Or.inl (e0 x hx x0)
      · by_cases x0 : x = 0
        · subst x0; exact hS.1
        · rw [e0 x hx x0] at hf; omega
    · refine pk_eq p 0 (fun p0 => ?_) (fun p0 => ?_)
      · refine And.intro (vp_in_nI z (by omega)) (nm_r (e' := zc_A (zc_u f p 1)) (zc_A_w (by omega) zc_z1) (nm_r (nI_1 p) (ih (p + 1) _ (by omega) (by omega) (fun x hx => ?_))))
        by_cases c : x = p
        · rw [c, zc_us, if_pos p0]
        · rw [zc_un c]; exact h3 x (by omega)
      · refine And.intro (vp_in_nI z (by omega)) (nm_r (e' := zc_A (zc_u f p 0)) (zc_A_w (by omega) zc_z0) (nm_r (nI_1 p) (ih (p + 1) _ (by omega) (by omega) (fun x hx => ?_))))
        by_cases c : x = p
        · rw [c, zc_us, if_neg p0]
        · rw [zc_un c]; exact h3 x (by omega)
/-- reached: all that doesn't lie in a -/
theorem zc_yfq {post : SY → Prop} {B : Nat → Bool} {re : Nat → Nat} (hF : zc_Fr B) (hR : zc_Rt B r) (hro : ∀ x, x < 196 → ro x = r x) (ha : a < 196) (ra : r a = a) (hb : B a = true)
    (hp : ∀ f, (∀ x, x < 196 → (f x = 0 ∨ f x = 1) ∧ (f x = 1 ↔ ¬ zc_An r a x)) → post ((nI w), (nI h), (zc_A c), (zc_A ro), (zc_A ch), (zc_A f))) : wpY_findReached post ((nI w), (nI h), (zc_A c), (zc_A ro), (zc_A ch), (zc_A re)) (nI a) :=
  ⟨197, zc_yfq2 (fun _ hx => zc_Rt_lt hR hx) hro ha (fun f h1 h2 h3 => hp f (fun x hx => ⟨h1 x hx, zc_reach hF hR ha ra hb h2 h3 hx⟩)) 197 0 re (by omega) (by omega) (fun x hx => by omega)⟩
end
end
section
/-! walks of the reference: firstOf, area, isHole, holes, around, enclosed -/
section
variable {w h : Nat} {B : Nat → Bool} {r ro ch re : Nat → Nat}
theorem zc_yfo8 {post : Int32 → SY → Prop} {v1 : Int32} (hR : zc_Rt B r) (hro : ∀ x, x < 196 → ro x = r x) (hp : ∀ f, f < 196 → zc_bk B r f → v1 = nI (zc_n (zc_bk B r) f) → post (nI f) ((nI w), (nI h), (zc_A (zc_c B)), (zc_A ro), (zc_A ch), (zc_A re))) (hn : (∀ f, f < 196 → zc_bk B r f → v1 ≠ nI (zc_n (zc_bk B r) f)) → post (-1) ((nI w), (nI h), (zc_A (zc_c B)), (zc_A ro), (zc_A ch), (zc_A re))) :
    ∀ n p, 196 < p + n → p ≤ 196 → (∀ f, f < p → zc_bk B r f → v1 ≠ nI (zc_n (zc_bk B r) f)) → wY_firstOf_8 post v1 (nI w) (nI h) (zc_A (zc_c B)) (zc_A ro) (zc_A ch) (zc_A re) n (nI (zc_n (zc_bk B r) p)) (nI p) := by
  intro n
  induction n with
  | zero => intro p h1 h2; omega
  | succ n ih =>
    intro p h1 h2 h3
    refine pk_le 196 p (fun z => ?_) (fun z => ?_)
    · have e : p = 196 := by omega
      subst e
      exact hn h3
    · have e := ih (p + 1) (by omega) (by omega)
      rw [zc_n_s] at e
      refine zc_yfirst true z (hR.1 p z) (hro p z) (fun y => br_f (by decide) ?_) (fun y => br_t rfl ?_)
      · rw [zc_b_t (P := zc_bk B r p) y] at e
        by_cases c : nI (zc_n (zc_bk B r) p) = v1
        · exact br_t c (hp p z y c.symm)
        · refine br_f c (nm_r (nI_1 _) (nm_r (nI_1 p) (e (fun f hf hb => ?_))))
          by_cases ef : f = p
          · rw [ef]; exact fun t => c t.symm
          · exact h3 f (by omega) hb
      · rw [zc_b_f (P := zc_bk B r p) y, Nat.add_zero] at e
        refine nm_r (nI_1 p) (e (fun f hf hb => ?_))
        by_cases ef : f = p
        · rw [ef] at hb; exact absurd hb y
        · exact h3 f (by omega) hb
theorem zc_yfo {post : Int32 → SY → Prop} {v1 : Int32} (hR : zc_Rt B r) (hp : ∀ ro f, (∀ x, x < 196 → ro x = r x) → f < 196 → zc_bk B r f → v1 = nI (zc_n (zc_bk B r) f) → post (nI f) ((nI w), (nI h), (zc_A (zc_c B)), (zc_A ro), (zc_A ch), (zc_A re))) (hn : ∀ ro, (∀ f, f < 196 → zc_bk B r f → v1 ≠ nI (zc_n (zc_bk B r) f)) → post (-1) ((nI w), (nI h), (zc_A (zc_c B)), (zc_A ro), (zc_A ch), (zc_A re))) : wpY_firstOf post ((nI w), (nI h), (zc_A (zc_c B)), (zc_A ro), (zc_A ch), (zc_A re)) v1 := by
  unfold wpY_firstOf
  refine zc_yfr hR (fun ro' hro => ⟨197, ?_⟩)
  exact zc_yfo8 hR hro (hp ro' · hro) (hn ro') 197 0 (by omega) (by omega) (fun f hf => by omega)
theorem zc_yar17 {post : Int32 → SY → Prop} {f : Nat} (hf : f < 196) (hR : zc_Rt B r) (hro : ∀ x, x < 196 → ro x = r x) (hp : post (nI (zc_n (fun x => r x = f) 196)) ((nI w), (nI h), (zc_A (zc_c B)), (zc_A ro), (zc_A ch), (zc_A re))) :
    ∀ n p, 196 < p + n → p ≤ 196 → wY_area_17 post (nI f) (nI w) (nI h) (zc_A (zc_c B)) (zc_A ro) (zc_A ch) (zc_A re) n (nI (zc_n (fun x => r x = f) p)) (nI p) := by
  intro n
  induction n with
  | zero => intro p h1 h2; omega
  | succ n ih =>
    intro p h1 h2
    refine pk_le 196 p (fun z => ?_) (fun z => ?_)
    · rw [show p = 196 by omega]; exact hp
    · have e := ih (p + 1) (by omega) (by omega)
      have l := zc_Rt_lt hR z
      rw [zc_n_s] at e
      refine And.intro (vp_in_nI z (by omega)) (pk_eq (ro p) f (fun y => ?_) (fun y => ?_) (zc_A_r (by omega)) rfl (by rw [hro p z]; omega) (by omega))
      · rw [zc_b_t (by rw [← hro p z]; exact y)] at e
        exact nm_r (nI_1 _) (nm_r (nI_1 p) e)
      · rw [zc_b_f (by rw [← hro p z]; exact y), Nat.add_zero] at e
        exact nm_r (nI_1 p) e
theorem zc_yen22 {post : Int32 → SY → Prop} {f : Nat} (hf : f < 196) (hR : zc_Rt B r) (hro : ∀ x, x < 196 → ro x = r x) (hre : ∀ x, x < 196 → (re x = 0 ∨ re x = 1) ∧ (re x = 1 ↔ ¬ zc_An r f x)) (hp : post (nI (zc_n (fun x => zc_An r f x ∧ r x ≠ f) 196)) ((nI w), (nI h), (zc_A (zc_c B)), (zc_A ro), (zc_A ch), (zc_A re))) :
    ∀ n p, 196 < p + n → p ≤ 196 → wY_enclosed_22 post (nI f) (nI w) (nI h) (zc_A (zc_c B)) (zc_A ro) (zc_A ch) (zc_A re) n (nI (zc_n (fun x => zc_An r f x ∧ r x ≠ f) p)) (nI p) := by
  intro n
  induction n with
  | zero => intro p h1 h2; omega
  | succ n ih =>
    intro p h1 h2
    refine pk_le 196 p (fun z => ?_) (fun z => ?_)
    · rw [show p = 196 by omega]; exact hp
    · have e := ih (p + 1) (by omega) (by omega)
      have l := zc_Rt_lt hR z
      obtain ⟨r1, r2⟩ := hre p z
      rw [zc_n_s] at e
      refine And.intro (vp_in_nI z (by omega)) (pk_eq (re p) 0 (fun y => ?_) (fun y => ?_) (zc_A_r (by omega)) rfl)
      · have hA : zc_An r f p := Classical.byContradiction fun t => by have := r2.mpr t; omega
        refine And.intro (vp_in_nI z (by omega)) (pk_eq (ro p) f (fun v => ?_) (fun v => ?_) (zc_A_r (by omega)) rfl (by rw [hro p z]; omega) (by omega))
        · rw [zc_b_f (fun t => t.2 (by rw [← hro p z]; exact v)), Nat.add_zero] at e
          exact nm_r (nI_1 p) e
        · rw [zc_b_t ⟨hA, by rw [← hro p z]; exact v⟩] at e
          exact nm_r (nI_1 _) (nm_r (nI_1 p) e)
      · rw [zc_b_f (fun t => r2.mp (by omega) t.1), Nat.add_zero] at e
        exact nm_r (nI_1 p) e
end
/-- places that show a hole -/
def zc_hx (r : Nat → Nat) (g f x y : Nat) : Prop := r x = g ∧ r y = f ∧ zc_d r y + 1 = zc_d r x
section
variable {w h : Nat} {c : Nat → Nat} {B : Nat → Bool} {r ro ch re : Nat → Nat}
theorem zc_yih12 {post : Int32 → Prop} {J2 : Int32 → Prop} {g f x : Nat} (hF : zc_Fr B) (hR : zc_Rt B r) (hro : ∀ x, x < 196 → ro x = r x) (hch : ∀ x, x < 196 → ch x = zc_d r x) (hg : g < 196) (hf : f < 196) (hx : x < 196)
    (h1 : (∃ y, y < 196 ∧ zc_A4 x y ∧ zc_hx r g f x y) → post 1) (hJ : (∀ y, y < 196 → zc_A4 x y → ¬ zc_hx r g f x y) → J2 (nI (x + 1))) :
    ∀ n d, 10 < d + n → d ≤ 9 → d % 2 = 1 → (∀ e, e < d → e < 9 → e % 2 = 1 → zc_vq x e → ¬ zc_hx r g f x (zc_q x e)) → wY_isHole_12 post J2 (nI g) (nI f) (nI x) (nI w) (nI h) (zc_A c) (zc_A ro) (zc_A ch) (zc_A re) n (nI d) := by
  intro n
  induction n with
  | zero => intro d h1 h2; omega
  | succ n ih =>
    intro d h2 h3 h4 h5
    refine pk_le 9 d (fun z => ?_) (fun z => ?_)
    · refine nm_r (nI_1 x) (hJ (fun y hy h => ?_))
      obtain ⟨e, e1, e2, e3, e4⟩ := zc_q_of4 hx hy h
      have := h5 e (by omega) e1 e2 e3
      rw [e4] at this
      exact this
    · have ed : nI d + 2 = nI (d + 2) := nI_add d 2
      have skip : (zc_vq x d → ¬ zc_hx r g f x (zc_q x d)) → wY_isHole_12 post J2 (nI g) (nI f) (nI x) (nI w) (nI h) (zc_A c) (zc_A ro) (zc_A ch) (zc_A re) n (nI (d + 2)) := by
        intro hs
        refine ih (d + 2) (by omega) (by omega) (by omega) (fun e e1 e2 e3 e4 => ?_)
        by_cases ee : e = d
        · subst ee; exact hs e4
        · exact h5 e (by omega) e2 e3 e4
      refine zc_ynear hx (by omega) (fun hv => ?_) (fun hv => br_t (by decide) (nm_r ed (skip (fun y => absurd y hv))))
      have hq := zc_q_lt hv
      have lx := zc_Rt_lt hR hx
      have lq := zc_Rt_lt hR hq
      have dx := zc_d_le hF hR hx
      have dq := zc_d_le hF hR hq
      have cx := hch x hx
      have cq := hch _ hq
      refine br_f (nI_pos (by omega)) ⟨vp_in_nI hx (by omega), pk_eq (ro x) g (fun y1 => ?_) (fun y1 => nm_r ed (skip (fun _ t => y1 (by rw [hro x hx]; exact t.1)))) (zc_A_r (by omega)) rfl (by rw [hro x hx]; omega) (by omega)⟩
      refine ⟨vp_in_nI hq (by omega), pk_eq (ro (zc_q x d)) f (fun y2 => ?_) (fun y2 => nm_r ed (skip (fun _ t => y2 (by rw [hro _ hq]; exact t.2.1)))) (zc_A_r (by omega)) rfl (by rw [hro _ hq]; omega) (by omega)⟩
      refine ⟨vp_in_nI hq (by omega), vp_in_nI hx (by omega), ?_⟩
      by_cases c0 : ch x = 0
      · refine br_f ?_ (nm_r ed (skip (fun _ t => by have := t.2.2; omega)))
        rw [zc_A_r (by omega), zc_A_r (by omega), c0]
        intro t
        have t2 := congrArg Int32.toInt t
        rw [nI_toInt (by omega), show (nI 0 - 1).toInt = -1 by decide] at t2
        omega
      · refine pk_eq (ch (zc_q x d)) (ch x - 1) (fun y3 => h1 ⟨zc_q x d, hq, zc_q_4 hv (by omega) h4, by rw [← hro x hx]; exact y1, by rw [← hro _ hq]; exact y2, by omega⟩) (fun y3 => nm_r ed (skip (fun _ t => by have := t.2.2; omega))) (zc_A_r (by omega)) (by rw [zc_A_r (by omega)]; exact pk_sub (b := 1) (by omega))
theorem zc_yih {post : Int32 → Prop} {g f : Nat} (hF : zc_Fr B) (hR : zc_Rt B r) (hro : ∀ x, x < 196 → ro x = r x) (hch : ∀ x, x < 196 → ch x = zc_d r x) (hg : g < 196) (hf : f < 196)
    (h1 : (∃ x y, x < 196 ∧ y < 196 ∧ zc_A4 x y ∧ zc_hx r g f x y) → post 1) (h0 : ¬ (∃ x y, x < 196 ∧ y < 196 ∧ zc_A4 x y ∧ zc_hx r g f x y) → post 0) : wpY_isHole post ((nI w), (nI h), (zc_A c), (zc_A ro), (zc_A ch), (zc_A re)) (nI g) (nI f) := by
  have key : ∀ n x, 196 < x + n → x ≤ 196 → (∀ u v, u < x → v < 196 → zc_A4 u v → ¬ zc_hx r g f u v) → wY_isHole_2 post (nI g) (nI f) (nI w) (nI h) (zc_A c) (zc_A ro) (zc_A ch) (zc_A re) n (nI x) := by
    intro n
    induction n with
    | zero => intro x h1 h2; omega
    | succ n ih =>
      intro x h2 h3 h4
      refine pk_le 196 x (fun z => h0 ?_) (fun z => ?_)
      · rintro ⟨u, v, u1, v1, uv, t⟩
        exact h4 u v (by omega) v1 uv t
      · refine ⟨10, zc_yih12 hF hR hro hch hg hf z (fun ⟨y, y1, y2, y3⟩ => h1 ⟨x, y, z, y1, y2, y3⟩) (fun hn => ?_) 10 1 (by omega) (by omega) (by omega) (fun e e1 e2 e3 => by omega)⟩
        refine ih (x + 1) (by omega) (by omega) (fun u v u1 v1 uv => ?_)
        by_cases e : u = x
        · subst e; exact hn v v1 uv
        · exact h4 u v (by omega) v1 uv
  exact ⟨197, key 197 0 (by omega) (by omega) (fun u v u1 => by omega)⟩
theorem zc_yho21 {post : Int32 → SY → Prop} {f : Nat} (hF : zc_Fr B) (hR : zc_Rt B r) (hro : ∀ x, x < 196 → ro x = r x) (hch : ∀ x, x < 196 → ch x = zc_d r x) (hf : f < 196) (hb : zc_bk B r f)
    (hp : post (nI (zc_n (fun x => x ≠ 0 ∧ zc_wk B r x ∧ r (x - 1) = f) 196)) ((nI w), (nI h), (zc_A (zc_c B)), (zc_A ro), (zc_A ch), (zc_A re))) :
    ∀ n p, 196 < p + n → 1 ≤ p → p ≤ 196 → wY_holes_21 post (nI f) (nI w) (nI h) (zc_A (zc_c B)) (zc_A ro) (zc_A ch) (zc_A re) n (nI (zc_n (fun x => x ≠ 0 ∧ zc_wk B r x ∧ r (x - 1) = f) p)) (nI p) := by
  intro n
  induction n with
  | zero => intro p h1 h2; omega
  | succ n ih =>
    intro p h1 h2 h3
    refine pk_le 196 p (fun z => ?_) (fun z => ?_)
    · rw [show p = 196 by omega]; exact hp
    · have e := ih (p + 1) (by omega) (by omega) (by omega)
      rw [zc_n_s] at e
      refine zc_yfirst false z (hR.1 p z) (hro p z) (fun y => br_f (by decide) ?_) (fun y => br_t rfl ?_)
      · have hh := zc_hole hF hR hf z hb.2 y.2 hb.1 y.1 (by omega)
        refine zc_yih hF hR hro hch z hf (fun t => br_f (by decide) ?_) (fun t => br_t rfl ?_)
        · rw [zc_b_t ⟨by omega, y, hh.mp t⟩] at e
          exact nm_r (nI_1 _) (nm_r (nI_1 p) e)
        · rw [zc_b_f (fun v => t (hh.mpr v.2.2)), Nat.add_zero] at e
          exact nm_r (nI_1 p) e
      · rw [zc_b_f (fun v => y v.2.1), Nat.add_zero] at e
        exact nm_r (nI_1 p) e
end
section
variable {w h : Nat} {B : Nat → Bool} {r ro ch : Nat → Nat}
theorem zc_yar18 {post : Int32 → SY → Prop} {f : Nat} (hF : zc_Fr B) (hR : zc_Rt B r) (hro : ∀ x, x < 196 → ro x = r x) (hch : ∀ x, x < 196 → ch x = zc_d r x) (hf : f < 196) (hb : zc_bk B r f)
    (h1 : ∀ re, r (f - 1) ≠ 0 → post (nI (zc_n (zc_bk B r) (r (r (f - 1) - 1)))) ((nI w), (nI h), (zc_A (zc_c B)), (zc_A ro), (zc_A ch), (zc_A re))) (h0 : ∀ re, r (f - 1) = 0 → post (-2) ((nI w), (nI h), (zc_A (zc_c B)), (zc_A ro), (zc_A ch), (zc_A re))) :
    ∀ n p re, 196 < p + n → p ≤ 196 → (∀ x, x < p → r (f - 1) ≠ 0 → x ≠ r (r (f - 1) - 1)) → wY_around_18 post (nI f) n (nI p) (nI w) (nI h) (zc_A (zc_c B)) (zc_A ro) (zc_A ch) (zc_A re) := by
  intro n
  induction n with
  | zero => intro p re h2 h3; omega
  | succ n ih =>
    intro p re h2 h3 h4
    refine pk_le 196 p (fun z => ?_) (fun z => ?_)
    · by_cases g0 : r (f - 1) = 0
      · exact h0 re g0
      · have a := zc_around' hF hR hf hb.2 hb.1 g0
        exact absurd rfl (h4 _ (by omega) g0)
    · have dp := zc_d_le hF hR z
      have df := zc_d_le hF hR hf
      have cp := hch p z
      have cf := hch f hf
      have skip : ∀ re, ¬ (r (f - 1) ≠ 0 ∧ p = r (r (f - 1) - 1)) → wY_around_18 post (nI f) n (nI (p + 1)) (nI w) (nI h) (zc_A (zc_c B)) (zc_A ro) (zc_A ch) (zc_A re) := by
        intro re hn
        refine ih (p + 1) re (by omega) (by omega) (fun x hx g0 => ?_)
        by_cases e : x = p
        · subst e; exact fun t => hn ⟨g0, t⟩
        · exact h4 x (by omega) g0
      refine zc_yfirst true z (hR.1 p z) (hro p z) (fun y => br_f (by decide) ?_) (fun y => br_t rfl (nm_r (nI_1 p) (skip re (fun t => ?_))))
      · refine ⟨vp_in_nI z (by omega), vp_in_nI hf (by omega), ?_⟩
        by_cases c2 : ch p + 2 = ch f
        · refine br_t ?_ ?_
          · rw [zc_A_r (by omega), zc_A_r (by omega), ← c2, ← nI_add]
            exact (Int32.add_sub_cancel _ _).symm
          · refine zc_yfq hF hR hro z y.2 y.1 (fun re' hre => ⟨vp_in_nI hf (by omega), ?_⟩)
            obtain ⟨r1, r2⟩ := hre f hf
            refine pk_eq (re' f) 0 (fun t => ?_) (fun t => ?_) (zc_A_r (by omega)) rfl
            · have hA : zc_An r p f := Classical.byContradiction fun v => by have := r2.mpr v; omega
              obtain ⟨a1, a2⟩ := zc_around hF hR hf hb.2 hb.1 z y.2 (by omega) hA
              refine zc_ycount true (by omega) hR.1 hro ?_
              rw [a2]
              exact h1 re' a1
            · refine nm_r (nI_1 p) (skip re' (fun v => ?_))
              have a := zc_around' hF hR hf hb.2 hb.1 v.1
              rw [← v.2] at a
              exact r2.mp (by omega) a.2.2.2.2
        · refine br_f ?_ (nm_r (nI_1 p) (skip re (fun v => ?_)))
          · rw [zc_A_r (by omega), zc_A_r (by omega)]
            intro t
            have t2 := congrArg Int32.toInt t
            rw [nI_toInt (by omega), show (2 : Int32) = nI 2 from rfl, pk_sub_toInt (by omega) (by omega)] at t2
            omega
          · have a := zc_around' hF hR hf hb.2 hb.1 v.1
            rw [← v.2] at a
            omega
      · have a := zc_around' hF hR hf hb.2 hb.1 t.1
        rw [← t.2] at a
        exact y ⟨a.2.2.1, a.2.1⟩
end
end
section
/-! what the labelled state answers -/
def zc_AnsP (w h : Nat) (B : Nat → Bool) (T K L s lv nu r : Nat → Nat) : Prop := ∀ y x, y < h → x < w → ∃ i, s y ≤ i ∧ i < s (y + 1) ∧ s (y + 1) ≤ 145 ∧ T i < 12 ∧ x ≤ T i ∧ (∀ k, s y ≤ k → k < i → T k < x) ∧
  K i = zc_t (B (14 * y + x + 15)) ∧ L i < 145 ∧ lv (L i) = zc_d r (14 * y + x + 15) ∧ (B (14 * y + x + 15) = true → nu (L i) = zc_n (zc_bk B r) (r (14 * y + x + 15)))
def zc_AnsK (B : Nat → Bool) (cc : Nat) (su pl wi ho nu fr r : Nat → Nat) : Prop := ∀ k, k < cc → ∃ f, f < 196 ∧ zc_bk B r f ∧ zc_n (zc_bk B r) f = k ∧ fr k < 145 ∧ pl (fr k) = zc_n (fun x => r x = f) 196 ∧
  ho (fr k) = zc_n (fun x => x ≠ 0 ∧ zc_wk B r x ∧ r (x - 1) = f) 196 ∧ wi (fr k) = zc_n (fun x => zc_An r f x ∧ r x ≠ f) 196 ∧ (r (f - 1) = 0 → su (fr k) = 0) ∧
  (r (f - 1) ≠ 0 → su (fr k) ≠ 0 ∧ su (fr k) < 145 ∧ su (su (fr k)) < 145 ∧ nu (su (su (fr k))) = zc_n (zc_bk B r) (r (r (f - 1) - 1)))
theorem zc_ans {w h : Nat} {B : Nat → Bool} {m cc rc : Nat} {F T K L s su lv pl wi ho nu fr : Nat → Nat} (H : zc_Lab w h B m cc rc F T K L s su lv pl wi ho nu fr) :
    ∃ r, zc_Fr B ∧ zc_Rt B r ∧ cc = zc_n (zc_bk B r) 196 ∧ rc = zc_n (zc_wk B r) 196 ∧ cc ≤ 145 ∧ zc_AnsP w h B T K L s lv nu r ∧ zc_AnsK B cc su pl wi ho nu fr r := by
  obtain ⟨P, R, rn, D, h1, h2, h3, h4, h5, h6, h7, h8⟩ := H
  have hs := D.1.1
  have hm := zc_D_145 D
  have hR := zc_D_Rt D
  have hF := zc_D_Fr D
  have hsu : ∀ i, i < s h → R i = i → i ≠ 0 → zc_Su P R rn su i := fun i a1 a2 a3 => (h5 i a1 a2).2.2.1 a3
  refine ⟨zc_r P R rn, hF, hR, by rw [h2, zc_bk_end D], by rw [h3, zc_wk_end D], by rw [h2]; exact Nat.le_trans (zc_cnt_le D 1 (s h) (Nat.le_refl _)) hm, ?_, ?_⟩
  · intro y x hy hx
    have R1 := D.2.1.2.2 y hy
    obtain ⟨i, i1, i2, i3, i4⟩ := zc_tile R1 x hx
    have e := zc_rn_at D.1 D.2.1 D.2.2.2.2.1 hy i1 i2 i3 i4
    have sm := zc_s_mono D.2.1 (a := y + 1) (b := h) hy (Nat.le_refl _)
    have ti := (R1.2.2 i i1 i2).2.1
    have hp : 14 * y + x + 15 < 196 := by omega
    have ri := zc_D_R D (i := i) (by omega)
    have rp : P (R i) = zc_r P R rn (14 * y + x + 15) := by unfold zc_r; rw [e]
    obtain ⟨v1, v2, v3, v4⟩ := h5 (R i) (by omega) ri.2
    refine ⟨i, i1, i2, by omega, by omega, i4, fun k k1 k2 => ?_, ?_, by rw [h4 i (by omega)]; omega, ?_, fun hb => ?_⟩
    · have := zc_ord' R1 k1 k2 i2; omega
    · rw [zc_D_K D hp, e]
    · rw [h4 i (by omega), v2, rp, zc_d_r hR hp]
    · rw [h4 i (by omega), v4, rp]
      rw [← zc_D_KP D (by omega), rp, zc_Rt_B hR hp, hb]
      rfl
  · intro k hk
    rw [h2] at hk
    obtain ⟨f1, f2, f3, f4⟩ := h6 k hk
    obtain ⟨v1, v2, v3, v4⟩ := h5 (fr k) f1 f2
    have n0 : fr k ≠ 0 := fun z => by rw [z, D.2.2.1] at f3; exact absurd f3 (by decide)
    have hP := zc_D_lt D f1
    have rP : zc_r P R rn (P (fr k)) = P (fr k) := by rw [zc_D_rP D f1, f2]
    have bP : B (P (fr k)) = true := zc_t_1 ((zc_D_KP D f1).trans f3)
    obtain ⟨s1, s2, s3⟩ := v3 n0
    refine ⟨P (fr k), hP, ⟨bP, rP⟩, f4, by omega, ?_, ?_, ?_, fun z => ?_, fun z => ?_⟩
    · rw [v1, zc_pl_end D n0 f1]; rfl
    · rw [h8 _ f1, zc_hc_end D hsu f1]
    · rw [h7 _ f1, zc_wi_end D hsu f1]
    · rw [z] at s3
      exact zc_D_inj D (by omega) (by omega) (s3.trans D.2.1.2.1.symm)
    · have m0 : su (fr k) ≠ 0 := fun y => by rw [y, D.2.1.2.1] at s3; exact z s3.symm
      obtain ⟨t1, t2, t3⟩ := hsu (su (fr k)) (by omega) s2 m0
      rw [s3] at t3
      have ar := zc_around' hF hR hP rP bP z
      refine ⟨m0, by omega, by omega, ?_⟩
      rw [(h5 _ (by omega) t2).2.2.2, t3]
      rw [← zc_D_KP D (by omega), t3, ar.2.2.1]
      rfl
section
variable {w h m cc rc : Nat} {lab : Int32} {rb : Nat → Int32} {F T K L s su lv pl wi ho nu fr : Nat → Nat}
theorem zc_xrunAt {post : Int32 → Prop} {y x i : Nat} (hy : y < 12) (hx : x < 12) (i1 : s y ≤ i) (i2 : i < s (y + 1)) (i3 : s (y + 1) ≤ 145) (i4 : T i < 12) (i5 : x ≤ T i) (i6 : ∀ k, s y ≤ k → k < i → T k < x) (hp : post (nI i)) : wpX_runAt post ((nI w), (nI h), lab, (nI m), (nI cc), (nI rc), rb, (zc_A F), (zc_A T), (zc_A K), (zc_A L), (zc_A s), (zc_A su), (zc_A lv), (zc_A pl), (zc_A wi), (zc_A ho), (zc_A nu), (zc_A fr)) (nI x) (nI y) := by
  have key : ∀ n k, i < k + n → s y ≤ k → k ≤ i → wX_runAt_7 post (nI x) (nI y) (nI w) (nI h) lab (nI m) (nI cc) (nI rc) rb (zc_A F) (zc_A T) (zc_A K) (zc_A L) (zc_A s) (zc_A su) (zc_A lv) (zc_A pl) (zc_A wi) (zc_A ho) (zc_A nu) (zc_A fr) n (nI k) := by
    intro n
    induction n with
    | zero => intro k h1 h2 h3; omega
    | succ n ih =>
      intro k h1 h2 h3
      refine And.intro (by rw [nI_1]; exact vp_in_nI (by omega) (by omega)) (pk_le (s (y + 1) - 1) k (fun z => ?_) (fun z => ?_) (by rw [nI_1, zc_A_r (by omega)]; exact pk_sub (b := 1) (by omega)) rfl)
      · rw [show k = i by omega]; exact hp
      · have tk : T k < 12 := by
          by_cases e : k = i
          · rw [e]; exact i4
          · have := i6 k h2 (by omega); omega
        refine And.intro (vp_in_nI (by omega) (by omega)) (pk_le x (T k) (fun v => ?_) (fun v => nm_r (nI_1 k) ?_) rfl (zc_A_r (by omega)))
        · by_cases e : k = i
          · rw [e]; exact hp
          · have := i6 k h2 (by omega); omega
        · by_cases e : k = i
          · rw [e] at v; omega
          · exact ih (k + 1) (by omega) (by omega) (by omega)
  unfold wpX_runAt
  exact ⟨vp_in_nI (by omega) (by omega), nm_r (zc_A_r (by omega)) ⟨i + 1, key (i + 1) (s y) (by omega) (Nat.le_refl _) i1⟩⟩
end
end
section
/-! drawing: bits of the component, places of the reference -/
def zc_B (w h : Nat) (rb : Nat → Int32) (p : Nat) : Bool := decide (1 ≤ p % 14 ∧ p % 14 ≤ w ∧ 1 ≤ p / 14 ∧ p / 14 ≤ h) && bt (rb (p / 14 - 1)) (p % 14 - 1)
theorem zc_B_in {w h : Nat} {rb : Nat → Int32} {p : Nat} (hI : zc_In w h p) : zc_B w h rb p = bt (rb (p / 14 - 1)) (p % 14 - 1) := by
  unfold zc_In at hI
  unfold zc_B
  rw [decide_eq_true hI, Bool.true_and]
theorem zc_B_out {w h : Nat} {rb : Nat → Int32} {p : Nat} (hI : ¬ zc_In w h p) : zc_B w h rb p = false := by
  unfold zc_In at hI
  unfold zc_B
  rw [decide_eq_false hI, Bool.false_and]
theorem zc_B_Pic {w h : Nat} {rb : Nat → Int32} (hs : 2 ≤ w ∧ w ≤ 12 ∧ 2 ≤ h ∧ h ≤ 12) : zc_Pic w h (zc_B w h rb) := ⟨hs, fun _ hp => zc_B_out hp⟩
theorem zc_B_Bit {w h : Nat} {rb : Nat → Int32} (hs : 2 ≤ w ∧ w ≤ 12 ∧ 2 ≤ h ∧ h ≤ 12) : zc_Bit w h rb (zc_B w h rb) := by
  intro y x hy hx
  rw [zc_B_in (by unfold zc_In; omega), show (14 * y + x + 15) / 14 - 1 = y by omega, show (14 * y + x + 15) % 14 - 1 = x by omega]
theorem zc_B_upd {w h : Nat} {rb : Nat → Int32} (hs : 2 ≤ w ∧ w ≤ 12 ∧ 2 ≤ h ∧ h ≤ 12) {y x : Nat} (hy : y < h) (hx : x < w) {v : Int32} {b : Bool} (hv : ∀ i, i < w → bt v i = if i = x then b else bt (rb y) i) :
    zc_A (zc_u (zc_c (zc_B w h rb)) (14 * y + x + 15) (zc_t b)) = zc_A (zc_c (zc_B w h (upd rb y v))) := by
  refine congrArg zc_A (funext fun p => ?_)
  by_cases hI : zc_In w h p
  · have hI' := hI
    unfold zc_In at hI'
    have e1 : zc_c (zc_B w h (upd rb y v)) p = zc_t (bt (upd rb y v (p / 14 - 1)) (p % 14 - 1)) := congrArg zc_t (zc_B_in hI)
    have e2 : zc_c (zc_B w h rb) p = zc_t (bt (rb (p / 14 - 1)) (p % 14 - 1)) := congrArg zc_t (zc_B_in hI)
    rw [e1]
    by_cases c1 : p / 14 - 1 = y
    · rw [c1, pk_us, hv _ (by omega)]
      by_cases c2 : p % 14 - 1 = x
      · rw [if_pos c2, show p = 14 * y + x + 15 by omega, zc_us]
      · rw [if_neg c2, zc_un (by omega), e2, c1]
    · rw [pk_un c1, zc_un (by omega), e2]
  · have e1 : zc_c (zc_B w h (upd rb y v)) p = zc_t false := congrArg zc_t (zc_B_out hI)
    have e2 : zc_c (zc_B w h rb) p = zc_t false := congrArg zc_t (zc_B_out hI)
    rw [zc_un (fun z => hI (by rw [z]; unfold zc_In; omega)), e1, e2]
theorem zc_b_one {x i : Nat} (hx : x < 32) (hi : i < 32) : bt ((1 : Int32) <<< (nI x &&& 31)) i = decide (i = x) := by
  rw [b_shl x hx 1 hi]
  by_cases c : x ≤ i
  · rw [decide_eq_true c, Bool.true_and, zc_b1 (i - x) (by omega)]
    by_cases e : i = x
    · rw [decide_eq_true e, decide_eq_true (by omega)]
    · rw [decide_eq_false e, decide_eq_false (by omega)]
  · rw [decide_eq_false c, Bool.false_and, decide_eq_false (by omega)]
theorem zc_b_clr {x i : Nat} (v : Int32) (hx : x < 32) (hi : i < 32) : bt (v &&& (((1 : Int32) <<< (nI x &&& 31)) ^^^ (-1))) i = if i = x then false else bt v i := by
  rw [b_and, b_xor, zc_b_one hx hi, b_m1 i hi]
  by_cases e : i = x
  · rw [if_pos e, decide_eq_true e]; cases bt v i <;> rfl
  · rw [if_neg e, decide_eq_false e]; cases bt v i <;> rfl
theorem zc_b_set {x i : Nat} (v : Int32) (hx : x < 32) (hi : i < 32) : bt (v ||| ((1 : Int32) <<< (nI x &&& 31))) i = if i = x then true else bt v i := by
  rw [b_or, zc_b_one hx hi]
  by_cases e : i = x
  · rw [if_pos e, decide_eq_true e]; cases bt v i <;> rfl
  · rw [if_neg e, decide_eq_false e]; cases bt v i <;> rfl
theorem zc_b_low : ∀ n, n < 13 → ∀ i, i < 32 → bt (((1 : Int32) <<< (nI n &&& 31)) - 1) i = decide (i < n) := by decide +kernel
theorem zc_b_strip {n x i : Nat} (hn : n < 13) (hx : x < 32) (hi : i < 32) : bt ((((1 : Int32) <<< (nI n &&& 31)) - 1) <<< (nI x &&& 31)) i = decide (x ≤ i ∧ i < x + n) := by
  rw [b_shl x hx _ hi, zc_b_low n hn (i - x) (by omega)]
  by_cases c : x ≤ i
  · by_cases d : i < x + n
    · rw [decide_eq_true c, decide_eq_true (by omega), decide_eq_true ⟨c, d⟩]; rfl
    · rw [decide_eq_true c, decide_eq_false (by omega), decide_eq_false (by omega)]; rfl
  · rw [decide_eq_false c, Bool.false_and, decide_eq_false (by omega)]
theorem zc_pl_e (x y : Nat) : (14 : Int32) * (nI y + 1) + nI x + 1 = nI (14 * y + x + 15) := by
  rw [show (14 : Int32) = nI 14 from rfl, nI_1, pk_mul, nI_add, nI_1]
  exact congrArg nI (by omega)
/-- rows y to k - 1 inverted by a strip -/
def zc_xr (rb : Nat → Int32) (st : Int32) (y k : Nat) : Nat → Int32 := fun j => if y ≤ j ∧ j < k then rb j ^^^ st else rb j
theorem zc_xr_0 {rb : Nat → Int32} {st : Int32} {y : Nat} : zc_xr rb st y y = rb := by
  funext j; unfold zc_xr; rw [if_neg (by omega)]
theorem zc_xr_s {rb : Nat → Int32} {st : Int32} {y k : Nat} (h : y ≤ k) : upd (zc_xr rb st y k) k (zc_xr rb st y k k ^^^ st) = zc_xr rb st y (k + 1) := by
  funext j
  by_cases e : j = k
  · subst e
    rw [pk_us]
    unfold zc_xr
    rw [if_neg (by omega), if_pos (by omega)]
  · rw [pk_un e]
    unfold zc_xr
    by_cases c : y ≤ j ∧ j < k
    · rw [if_pos c, if_pos (by omega)]
    · rw [if_neg c, if_neg (by omega)]
/-- columns x to x + a - 1 of rows y to j - 1, and of row j as far as column i - 1, are flipped -/
def zc_fl (c : Nat → Nat) (x a y j i : Nat) : Nat → Nat := fun p => if (x + 1 ≤ p % 14 ∧ p % 14 ≤ x + a ∧ y + 1 ≤ p / 14 ∧ p / 14 ≤ j) ∨ (p / 14 = j + 1 ∧ x + 1 ≤ p % 14 ∧ p % 14 ≤ i) then 1 - c p else c p
theorem zc_fl_0 {c : Nat → Nat} {x a y : Nat} : zc_fl c x a y y x = c := by
  funext p; unfold zc_fl; rw [if_neg (by omega)]
theorem zc_fl_n {c : Nat → Nat} {x a y j : Nat} (h : y ≤ j) : zc_fl c x a y j (x + a) = zc_fl c x a y (j + 1) x := by
  funext p
  unfold zc_fl
  by_cases d : (x + 1 ≤ p % 14 ∧ p % 14 ≤ x + a ∧ y + 1 ≤ p / 14 ∧ p / 14 ≤ j) ∨ (p / 14 = j + 1 ∧ x + 1 ≤ p % 14 ∧ p % 14 ≤ x + a)
  · rw [if_pos d, if_pos (by omega)]
  · rw [if_neg d, if_neg (by omega)]
theorem zc_fl_at {c : Nat → Nat} {x a y j i : Nat} (h : y ≤ j) (hi : i < 12) : zc_fl c x a y j i (14 * j + i + 15) = c (14 * j + i + 15) := by
  unfold zc_fl; rw [if_neg (by omega)]
theorem zc_fl_s {c : Nat → Nat} {x a y j i : Nat} (h : y ≤ j) (hx : x ≤ i) (hi : i < 12) : zc_u (zc_fl c x a y j i) (14 * j + i + 15) (1 - c (14 * j + i + 15)) = zc_fl c x a y j (i + 1) := by
  funext p
  by_cases e : p = 14 * j + i + 15
  · rw [e, zc_us]
    unfold zc_fl
    rw [if_pos (by omega)]
  · rw [zc_un e]
    unfold zc_fl
    by_cases d : (x + 1 ≤ p % 14 ∧ p % 14 ≤ x + a ∧ y + 1 ≤ p / 14 ∧ p / 14 ≤ j) ∨ (p / 14 = j + 1 ∧ x + 1 ≤ p % 14 ∧ p % 14 ≤ i)
    · rw [if_pos d, if_pos (by omega)]
    · rw [if_neg d, if_neg (by omega)]
theorem zc_fl_B {w h : Nat} {rb : Nat → Int32} (hs : 2 ≤ w ∧ w ≤ 12 ∧ 2 ≤ h ∧ h ≤ 12) {x a y b : Nat} (hx : x + a ≤ w) (hy : y + b ≤ h) :
    zc_fl (zc_c (zc_B w h rb)) x a y (y + b) x = zc_c (zc_B w h (zc_xr rb ((((1 : Int32) <<< (nI a &&& 31)) - 1) <<< (nI x &&& 31)) y (y + b))) := by
  funext p
  by_cases hI : zc_In w h p
  · have e1 : zc_c (zc_B w h (zc_xr rb ((((1 : Int32) <<< (nI a &&& 31)) - 1) <<< (nI x &&& 31)) y (y + b))) p = zc_t (bt (zc_xr rb ((((1 : Int32) <<< (nI a &&& 31)) - 1) <<< (nI x &&& 31)) y (y + b) (p / 14 - 1)) (p % 14 - 1)) := congrArg zc_t (zc_B_in hI)
    have e2 : zc_c (zc_B w h rb) p = zc_t (bt (rb (p / 14 - 1)) (p % 14 - 1)) := congrArg zc_t (zc_B_in hI)
    unfold zc_In at hI
    rw [e1]
    unfold zc_fl zc_xr
    rw [e2]
    by_cases c1 : y ≤ p / 14 - 1 ∧ p / 14 - 1 < y + b
    · rw [if_pos c1, b_xor, zc_b_strip (by omega) (by omega) (by omega)]
      by_cases c2 : x ≤ p % 14 - 1 ∧ p % 14 - 1 < x + a
      · rw [if_pos (by omega), decide_eq_true c2]
        cases bt (rb (p / 14 - 1)) (p % 14 - 1) <;> rfl
      · rw [if_neg (by omega), decide_eq_false c2]
        cases bt (rb (p / 14 - 1)) (p % 14 - 1) <;> rfl
    · rw [if_neg c1, if_neg (by omega)]
  · have e1 : zc_c (zc_B w h (zc_xr rb ((((1 : Int32) <<< (nI a &&& 31)) - 1) <<< (nI x &&& 31)) y (y + b))) p = zc_t false := congrArg zc_t (zc_B_out hI)
    have e2 : zc_c (zc_B w h rb) p = zc_t false := congrArg zc_t (zc_B_out hI)
    unfold zc_In at hI
    rw [e1]
    unfold zc_fl
    rw [e2, if_neg (by omega)]
end
section
/-! the relation, and the drawing methods -/
def zc_Rl (u : SX) (v : SY) : Prop := ∃ (w h m cc rc : Nat) (lab : Int32) (rb : Nat → Int32) (F T K L s su lv pl wi ho nu fr ro ch re : Nat → Nat), u = ((nI w), (nI h), lab, (nI m), (nI cc), (nI rc), rb, (zc_A F), (zc_A T), (zc_A K), (zc_A L), (zc_A s), (zc_A su), (zc_A lv), (zc_A pl), (zc_A wi), (zc_A ho), (zc_A nu), (zc_A fr)) ∧ v = ((nI w), (nI h), (zc_A (zc_c (zc_B w h rb))), (zc_A ro), (zc_A ch), (zc_A re)) ∧ (2 ≤ w ∧ w ≤ 12 ∧ 2 ≤ h ∧ h ≤ 12) ∧ (lab = 0 ∨ (lab = 1 ∧ zc_Lab w h (zc_B w h rb) m cc rc F T K L s su lv pl wi ho nu fr))
theorem zc_el {Q : SX → SY → Prop} (H : ∀ (w h m cc rc : Nat) (lab : Int32) (rb : Nat → Int32) (F T K L s su lv pl wi ho nu fr ro ch re : Nat → Nat), (2 ≤ w ∧ w ≤ 12 ∧ 2 ≤ h ∧ h ≤ 12) → (lab = 0 ∨ (lab = 1 ∧ zc_Lab w h (zc_B w h rb) m cc rc F T K L s su lv pl wi ho nu fr)) → Q ((nI w), (nI h), lab, (nI m), (nI cc), (nI rc), rb, (zc_A F), (zc_A T), (zc_A K), (zc_A L), (zc_A s), (zc_A su), (zc_A lv), (zc_A pl), (zc_A wi), (zc_A ho), (zc_A nu), (zc_A fr)) ((nI w), (nI h), (zc_A (zc_c (zc_B w h rb))), (zc_A ro), (zc_A ch), (zc_A re))) {u : SX} {v : SY} (I : zc_Rl u v) : Q u v := by
  obtain ⟨w, h, m, cc, rc, lab, rb, F, T, K, L, s, su, lv, pl, wi, ho, nu, fr, ro, ch, re, e1, e2, h1, h2⟩ := I
  rw [e1, e2]
  exact H w h m cc rc lab rb F T K L s su lv pl wi ho nu fr ro ch re h1 h2
def zc_ins (w h : Nat) (v1 v2 : Int32) : Prop := ∃ x y, x < w ∧ y < h ∧ v1 = nI x ∧ v2 = nI y
section
variable {w h m cc rc : Nat} {lab : Int32} {rb : Nat → Int32} {F T K L s su lv pl wi ho nu fr c ro ch re : Nat → Nat} {v1 v2 : Int32}
theorem zc_mk (hs : 2 ≤ w ∧ w ≤ 12 ∧ 2 ≤ h ∧ h ≤ 12) (hl : lab = 0 ∨ (lab = 1 ∧ zc_Lab w h (zc_B w h rb) m cc rc F T K L s su lv pl wi ho nu fr)) : zc_Rl ((nI w), (nI h), lab, (nI m), (nI cc), (nI rc), rb, (zc_A F), (zc_A T), (zc_A K), (zc_A L), (zc_A s), (zc_A su), (zc_A lv), (zc_A pl), (zc_A wi), (zc_A ho), (zc_A nu), (zc_A fr)) ((nI w), (nI h), (zc_A (zc_c (zc_B w h rb))), (zc_A ro), (zc_A ch), (zc_A re)) :=
  ⟨w, h, m, cc, rc, lab, rb, F, T, K, L, s, su, lv, pl, wi, ho, nu, fr, ro, ch, re, rfl, rfl, hs, hl⟩
theorem zc_xin {post : Int32 → Prop} (hs : 2 ≤ w ∧ w ≤ 12 ∧ 2 ≤ h ∧ h ≤ 12) (h1 : ∀ x y, x < w → y < h → v1 = nI x → v2 = nI y → post 1) (h0 : ¬ zc_ins w h v1 v2 → post 0) : wpX_inPicture post ((nI w), (nI h), lab, (nI m), (nI cc), (nI rc), rb, (zc_A F), (zc_A T), (zc_A K), (zc_A L), (zc_A s), (zc_A su), (zc_A lv), (zc_A pl), (zc_A wi), (zc_A ho), (zc_A nu), (zc_A fr)) v1 v2 := by
  unfold wpX_inPicture
  by_cases a : v1 < 0
  · refine br_t a (h0 ?_)
    rintro ⟨x, y, x1, y1, e1, e2⟩
    rw [e1] at a
    exact nI_pos (by omega) a
  · obtain ⟨x, hx, e1⟩ := nI_of a
    subst e1
    refine br_f a (pk_le w x (fun z => h0 ?_) (fun z => ?_))
    · rintro ⟨x', y, x1, y1, e1, e2⟩
      rw [nI_eq hx (by omega)] at e1
      omega
    · by_cases b : v2 < 0
      · refine br_t b (h0 ?_)
        rintro ⟨x', y, x1, y1, e1, e2⟩
        rw [e2] at b
        exact nI_pos (by omega) b
      · obtain ⟨y, hy, e2⟩ := nI_of b
        subst e2
        refine br_f b (pk_le h y (fun z2 => h0 ?_) (fun z2 => h1 x y z z2 rfl rfl))
        rintro ⟨x', y', x1, y1, e1, e2⟩
        rw [nI_eq hy (by omega)] at e2
        omega
theorem zc_yin {post : Int32 → Prop} (hs : 2 ≤ w ∧ w ≤ 12 ∧ 2 ≤ h ∧ h ≤ 12) {x y : Nat} (hx : x < w) (hy : y < h) (h1 : post 1) : wpY_inside post ((nI w), (nI h), (zc_A c), (zc_A ro), (zc_A ch), (zc_A re)) (nI x) (nI y) := by
  unfold wpY_inside
  exact br_f (nI_pos (by omega)) (pk_le w x (fun z => by omega) (fun _ => br_f (nI_pos (by omega)) (pk_le h y (fun z => by omega) (fun _ => h1))))
theorem zc_yin0 {post : Int32 → Prop} (hn : ¬ zc_ins w h v1 v2) (h0 : post 0) (hs : 2 ≤ w ∧ w ≤ 12 ∧ 2 ≤ h ∧ h ≤ 12) : wpY_inside post ((nI w), (nI h), (zc_A c), (zc_A ro), (zc_A ch), (zc_A re)) v1 v2 := by
  unfold wpY_inside
  by_cases a : v1 < 0
  · exact br_t a h0
  · obtain ⟨x, hx, e1⟩ := nI_of a
    subst e1
    refine br_f a (pk_le w x (fun z => h0) (fun z => ?_))
    by_cases b : v2 < 0
    · exact br_t b h0
    · obtain ⟨y, hy, e2⟩ := nI_of b
      subst e2
      exact br_f b (pk_le h y (fun z2 => h0) (fun z2 => absurd ⟨x, y, z, z2, rfl, rfl⟩ hn))
theorem zc_yplace {post : Int32 → Prop} {x y : Nat} (hp : post (nI (14 * y + x + 15))) : wpY_place post ((nI w), (nI h), (zc_A c), (zc_A ro), (zc_A ch), (zc_A re)) (nI x) (nI y) := by
  unfold wpY_place
  dsimp only
  rw [zc_pl_e]
  exact hp
theorem zc_m_set {b : Int32} (hb : b = 0 ∨ b = 1) (hs : 2 ≤ w ∧ w ≤ 12 ∧ 2 ≤ h ∧ h ≤ 12) (hl : lab = 0 ∨ (lab = 1 ∧ zc_Lab w h (zc_B w h rb) m cc rc F T K L s su lv pl wi ho nu fr)) :
    wpX_set (fun r u' => wpY_set (fun r' v' => r' = r ∧ zc_Rl u' v') ((nI w), (nI h), (zc_A (zc_c (zc_B w h rb))), (zc_A ro), (zc_A ch), (zc_A re)) v1 v2 b) ((nI w), (nI h), lab, (nI m), (nI cc), (nI rc), rb, (zc_A F), (zc_A T), (zc_A K), (zc_A L), (zc_A s), (zc_A su), (zc_A lv), (zc_A pl), (zc_A wi), (zc_A ho), (zc_A nu), (zc_A fr)) v1 v2 b := by
  unfold wpX_set
  refine zc_xin hs (fun x y hx hy e1 e2 => ?_) (fun hn => br_t rfl ?_)
  · subst e1 e2
    refine br_f (by decide) ?_
    rcases hb with e | e
    · subst e
      refine br_t rfl ⟨vp_in_nI (by omega) (by omega), vp_in_nI (by omega) (by omega), nm_r (e' := upd rb y (rb y &&& (((1 : Int32) <<< (nI x &&& 31)) ^^^ (-1)))) (by rw [nI_clamp (by omega)]) ?_⟩
      unfold wpY_set
      refine zc_yin hs hx hy (br_f (by decide) (zc_yplace ⟨vp_in_nI (by omega) (by omega), nm_r (e' := zc_A (zc_c (zc_B w h (upd rb y (rb y &&& (((1 : Int32) <<< (nI x &&& 31)) ^^^ (-1))))))) ?_ ⟨rfl, zc_mk hs (Or.inl rfl)⟩⟩))
      exact (zc_A_w (v := 0) (by omega) zc_z0).trans (zc_B_upd (b := false) hs hy hx (fun i hi => zc_b_clr _ (by omega) (by omega)))
    · subst e
      refine br_f (by decide) ⟨vp_in_nI (by omega) (by omega), vp_in_nI (by omega) (by omega), nm_r (e' := upd rb y (rb y ||| ((1 : Int32) <<< (nI x &&& 31)))) (by rw [nI_clamp (by omega)]) ?_⟩
      unfold wpY_set
      refine zc_yin hs hx hy (br_f (by decide) (zc_yplace ⟨vp_in_nI (by omega) (by omega), nm_r (e' := zc_A (zc_c (zc_B w h (upd rb y (rb y ||| ((1 : Int32) <<< (nI x &&& 31))))))) ?_ ⟨rfl, zc_mk hs (Or.inl rfl)⟩⟩))
      exact (zc_A_w (v := 1) (by omega) zc_z1).trans (zc_B_upd (b := true) hs hy hx (fun i hi => zc_b_set _ (by omega) (by omega)))
  · unfold wpY_set
    exact zc_yin0 hn (br_t rfl ⟨rfl, zc_mk hs hl⟩) hs
theorem zc_m_isBlack (hs : 2 ≤ w ∧ w ≤ 12 ∧ 2 ≤ h ∧ h ≤ 12) (hl : lab = 0 ∨ (lab = 1 ∧ zc_Lab w h (zc_B w h rb) m cc rc F T K L s su lv pl wi ho nu fr)) :
    wpX_isBlack (fun r => wpY_isBlack (fun r' => r' = r ∧ zc_Rl ((nI w), (nI h), lab, (nI m), (nI cc), (nI rc), rb, (zc_A F), (zc_A T), (zc_A K), (zc_A L), (zc_A s), (zc_A su), (zc_A lv), (zc_A pl), (zc_A wi), (zc_A ho), (zc_A nu), (zc_A fr)) ((nI w), (nI h), (zc_A (zc_c (zc_B w h rb))), (zc_A ro), (zc_A ch), (zc_A re))) ((nI w), (nI h), (zc_A (zc_c (zc_B w h rb))), (zc_A ro), (zc_A ch), (zc_A re)) v1 v2) ((nI w), (nI h), lab, (nI m), (nI cc), (nI rc), rb, (zc_A F), (zc_A T), (zc_A K), (zc_A L), (zc_A s), (zc_A su), (zc_A lv), (zc_A pl), (zc_A wi), (zc_A ho), (zc_A nu), (zc_A fr)) v1 v2 := by
  unfold wpX_isBlack
  refine zc_xin hs (fun x y hx hy e1 e2 => ?_) (fun hn => br_t rfl ?_)
  · subst e1 e2
    have eb : zc_B w h rb (14 * y + x + 15) = bt (rb y) x := zc_B_Bit hs y x hy hx
    have lb := zc_t_le (bt (rb y) x)
    have ec : zc_A (zc_c (zc_B w h rb)) (nI (14 * y + x + 15)).toNatClampNeg = nI (zc_t (bt (rb y) x)) := by
      rw [zc_A_r (by omega), ← eb]; rfl
    refine br_f (by decide) ⟨vp_in_nI (by omega) (by omega), pk_eq (zc_t (bt (rb y) x)) 0 (fun z => ?_) (fun z => ?_) (by rw [nI_clamp (by omega)]; exact zc_bit _ (by omega)) rfl⟩
    · unfold wpY_isBlack
      exact zc_yin hs hx hy (br_f (by decide) (zc_yplace ⟨vp_in_nI (by omega) (by omega), pk_eq (zc_t (bt (rb y) x)) 0 (fun _ => ⟨rfl, zc_mk hs hl⟩) (fun t => absurd z t) ec rfl⟩))
    · unfold wpY_isBlack
      exact zc_yin hs hx hy (br_f (by decide) (zc_yplace ⟨vp_in_nI (by omega) (by omega), pk_eq (zc_t (bt (rb y) x)) 0 (fun t => absurd t z) (fun _ => ⟨rfl, zc_mk hs hl⟩) ec rfl⟩))
  · unfold wpY_isBlack
    exact zc_yin0 hn (br_t rfl ⟨rfl, zc_mk hs hl⟩) hs
theorem zc_xinv57 {post : Int32 → SX → Prop} {y b : Nat} {st : Int32} (hy : y + b ≤ 12) (hp : post 1 ((nI w), (nI h), 0, (nI m), (nI cc), (nI rc), (zc_xr rb st y (y + b)), (zc_A F), (zc_A T), (zc_A K), (zc_A L), (zc_A s), (zc_A su), (zc_A lv), (zc_A pl), (zc_A wi), (zc_A ho), (zc_A nu), (zc_A fr))) : ∀ n k, y + b < k + n → y ≤ k → k ≤ y + b → wX_invert_57 post (nI y) (nI b) st (nI w) (nI h) lab (nI m) (nI cc) (nI rc) n (nI k) (zc_xr rb st y k) (zc_A F) (zc_A T) (zc_A K) (zc_A L) (zc_A s) (zc_A su) (zc_A lv) (zc_A pl) (zc_A wi) (zc_A ho) (zc_A nu) (zc_A fr) := by
  intro n
  induction n with
  | zero => intro k h1 h2 h3; omega
  | succ n ih =>
    intro k h1 h2 h3
    refine pk_le (y + b) k (fun z => ?_) (fun z => ?_) (nI_add y b) rfl
    · rw [show k = y + b by omega]; exact hp
    · refine And.intro (vp_in_nI (by omega) (by omega)) (And.intro (vp_in_nI (by omega) (by omega)) (nm_r (e' := zc_xr rb st y (k + 1)) (by rw [nI_clamp (by omega)]; exact zc_xr_s h2) (nm_r (nI_1 k) (ih (k + 1) (by omega) (by omega) (by omega)))))
theorem zc_yinv46 {post : Int32 → SY → Prop} {x a y b : Nat} (hc : ∀ p, c p ≤ 1) (hx : x + a ≤ 12) (hy : y + b ≤ 12) (hp : post 1 ((nI w), (nI h), (zc_A (zc_fl c x a y (y + b) x)), (zc_A ro), (zc_A ch), (zc_A re))) : ∀ n j, y + b < j + n → y ≤ j → j ≤ y + b → wY_invert_46 post (nI x) (nI y) (nI a) (nI b) (nI w) (nI h) n (nI j) (zc_A (zc_fl c x a y j x)) (zc_A ro) (zc_A ch) (zc_A re) := by
  intro n
  induction n with
  | zero => intro j h1 h2 h3; omega
  | succ n ih =>
    intro j h1 h2 h3
    refine pk_le (y + b) j (fun z => ?_) (fun z => ⟨a + 1, ?_⟩) (nI_add y b) rfl
    · rw [show j = y + b by omega]; exact hp
    · have key : ∀ n' i, x + a < i + n' → x ≤ i → i ≤ x + a → wY_invert_58 post (wY_invert_46 post (nI x) (nI y) (nI a) (nI b) (nI w) (nI h) n) (nI x) (nI y) (nI a) (nI b) (nI j) (nI w) (nI h) n' (nI i) (zc_A (zc_fl c x a y j i)) (zc_A ro) (zc_A ch) (zc_A re) := by
        intro n'
        induction n' with
        | zero => intro i g1 g2 g3; omega
        | succ n' ih' =>
          intro i g1 g2 g3
          refine pk_le (x + a) i (fun z2 => nm_r (nI_1 j) ?_) (fun z2 => zc_yplace (zc_yplace ⟨vp_in_nI (by omega) (by omega), ?_⟩)) (nI_add x a) rfl
          · rw [show i = x + a by omega, zc_fl_n h2]
            exact ih (j + 1) (by omega) (by omega) (by omega)
          · have hq := hc (14 * j + i + 15)
            have next := ih' (i + 1) (by omega) (by omega) (by omega)
            rw [← zc_fl_s h2 g2 (by omega)] at next
            refine pk_eq (c (14 * j + i + 15)) 0 (fun e => ?_) (fun e => ?_) (by rw [zc_A_r (by omega), zc_fl_at h2 (by omega)]) rfl
            · rw [e] at next
              exact ⟨vp_in_nI (by omega) (by omega), nm_r (zc_A_w (by omega) zc_z1) (nm_r (nI_1 i) next)⟩
            · rw [show c (14 * j + i + 15) = 1 by omega] at next
              exact ⟨vp_in_nI (by omega) (by omega), nm_r (zc_A_w (by omega) zc_z0) (nm_r (nI_1 i) next)⟩
      exact key (a + 1) x (by omega) (Nat.le_refl _) (by omega)
theorem zc_m_invert {v3 v4 : Int32} (hs : 2 ≤ w ∧ w ≤ 12 ∧ 2 ≤ h ∧ h ≤ 12) (hl : lab = 0 ∨ (lab = 1 ∧ zc_Lab w h (zc_B w h rb) m cc rc F T K L s su lv pl wi ho nu fr)) :
    wpX_invert (fun r u' => wpY_invert (fun r' v' => r' = r ∧ zc_Rl u' v') ((nI w), (nI h), (zc_A (zc_c (zc_B w h rb))), (zc_A ro), (zc_A ch), (zc_A re)) v1 v2 v3 v4) ((nI w), (nI h), lab, (nI m), (nI cc), (nI rc), rb, (zc_A F), (zc_A T), (zc_A K), (zc_A L), (zc_A s), (zc_A su), (zc_A lv), (zc_A pl), (zc_A wi), (zc_A ho), (zc_A nu), (zc_A fr)) v1 v2 v3 v4 := by
  unfold wpX_invert
  refine zc_xin hs (fun x y hx hy e1 e2 => ?_) (fun hn => br_t rfl ?_)
  · subst e1 e2
    have ew : nI w - nI x = nI (w - x) := pk_sub (by omega)
    have eh : nI h - nI y = nI (h - y) := pk_sub (by omega)
    have I := zc_mk (ro := ro) (ch := ch) (re := re) hs hl
    refine br_f (by decide) ?_
    by_cases c3 : v3 < 1
    · refine br_t c3 ?_
      unfold wpY_invert
      exact zc_yin hs hx hy (br_f (by decide) (br_t c3 ⟨rfl, I⟩))
    · obtain ⟨a, a1, e3⟩ := nI_of (x := v3) (fun z => c3 (Int32.lt_trans z (by decide)))
      subst e3
      have a2 : 1 ≤ a := by
        rcases Nat.lt_or_ge a 1 with z | z
        · exact absurd (nI_lt (b := 1) z (by omega)) c3
        · exact z
      refine br_f c3 ?_
      rw [ew]
      refine pk_lt (w - x) a (fun z => ?_) (fun z => ?_)
      · unfold wpY_invert
        refine zc_yin hs hx hy (br_f (by decide) (br_f c3 ?_))
        rw [ew]
        exact br_t (nI_lt z a1) ⟨rfl, I⟩
      · by_cases c4 : v4 < 1
        · refine br_t c4 ?_
          unfold wpY_invert
          refine zc_yin hs hx hy (br_f (by decide) (br_f c3 ?_))
          rw [ew]
          exact br_f (nI_nlt z (by omega)) (br_t c4 ⟨rfl, I⟩)
        · obtain ⟨b, b1, e4⟩ := nI_of (x := v4) (fun z => c4 (Int32.lt_trans z (by decide)))
          subst e4
          have b2 : 1 ≤ b := by
            rcases Nat.lt_or_ge b 1 with z | z
            · exact absurd (nI_lt (b := 1) z (by omega)) c4
            · exact z
          refine br_f c4 ?_
          rw [eh]
          refine pk_le b (h - y) (fun z2 => nm_e ⟨b + 1, ?_⟩) (fun z2 => ?_)
          · have go := zc_xinv57 (w := w) (h := h) (m := m) (cc := cc) (rc := rc) (lab := lab) (rb := rb) (F := F) (T := T) (K := K) (L := L) (s := s) (su := su) (lv := lv) (pl := pl) (wi := wi) (ho := ho) (nu := nu) (fr := fr) (y := y) (b := b) (st := (((1 : Int32) <<< (nI a &&& 31)) - 1) <<< (nI x &&& 31))
              (post := fun r u' => wpY_invert (fun r' v' => r' = r ∧ zc_Rl u' v') ((nI w), (nI h), (zc_A (zc_c (zc_B w h rb))), (zc_A ro), (zc_A ch), (zc_A re)) (nI x) (nI y) (nI a) (nI b)) (by omega) ?_ (b + 1) y (by omega) (Nat.le_refl _) (by omega)
            · rw [zc_xr_0] at go
              exact go
            · unfold wpY_invert
              refine zc_yin hs hx hy (br_f (by decide) (br_f c3 ?_))
              rw [ew]
              refine br_f (nI_nlt z (by omega)) (br_f c4 ?_)
              rw [eh]
              refine br_t (nI_le z2 (by omega)) ⟨b + 1, ?_⟩
              have go2 := zc_yinv46 (w := w) (h := h) (c := zc_c (zc_B w h rb)) (ro := ro) (ch := ch) (re := re) (x := x) (a := a) (y := y) (b := b)
                (post := fun r' v' => r' = 1 ∧ zc_Rl ((nI w), (nI h), 0, (nI m), (nI cc), (nI rc), (zc_xr rb ((((1 : Int32) <<< (nI a &&& 31)) - 1) <<< (nI x &&& 31)) y (y + b)), (zc_A F), (zc_A T), (zc_A K), (zc_A L), (zc_A s), (zc_A su), (zc_A lv), (zc_A pl), (zc_A wi), (zc_A ho), (zc_A nu), (zc_A fr)) v') (fun p => zc_t_le _) (by omega) (by omega) ?_ (b + 1) y (by omega) (Nat.le_refl _) (by omega)
              · rw [zc_fl_0] at go2
                exact go2
              · rw [zc_fl_B hs (by omega) (by omega)]
                exact ⟨rfl, zc_mk hs (Or.inl rfl)⟩
          · unfold wpY_invert
            refine zc_yin hs hx hy (br_f (by decide) (br_f c3 ?_))
            rw [ew]
            refine br_f (nI_nlt z (by omega)) (br_f c4 ?_)
            rw [eh]
            exact br_f (nI_ge z2 (by omega)) ⟨rfl, I⟩
  · unfold wpY_invert
    exact zc_yin0 hn (br_t rfl ⟨rfl, zc_mk hs hl⟩) hs
end
end
section
/-! the asking methods -/
theorem zc_bk_lt {B : Nat → Bool} {r : Nat → Nat} {f : Nat} (hf : f < 196) (hb : zc_bk B r f) : zc_n (zc_bk B r) f < zc_n (zc_bk B r) 196 := by
  have := zc_n_up (zc_bk B r) (a := f + 1) (b := 196) hf
  rw [zc_n_s, zc_b_t hb] at this
  omega
theorem zc_k3 {A C : Prop} {v1 : Int32} {cc : Nat} (hcc : cc ≤ 196) (hbad : (v1 < 0 ∨ nI cc ≤ v1) → A) (hgood : ∀ k, k < cc → v1 = nI k → C) : (v1 < 0 → A) ∧ (¬ v1 < 0 → ((v1 < nI cc → C) ∧ (¬ v1 < nI cc → A))) := by
  refine br_c (fun z => hbad (Or.inl z)) (fun z => br_c (fun z2 => ?_) (fun z2 => hbad (Or.inr (Int32.not_lt.mp z2))))
  obtain ⟨k, hk, e⟩ := nI_of z
  subst e
  rw [nI_ltI hk (by omega)] at z2
  exact hgood k z2 rfl
section
variable {w h : Nat} {B : Nat → Bool} {r ro ch re : Nat → Nat}
theorem zc_yfoB {post : Int32 → SY → Prop} {v1 : Int32} {cc : Nat} (hR : zc_Rt B r) (hcc : cc = zc_n (zc_bk B r) 196) (hbad : v1 < 0 ∨ nI cc ≤ v1) (hn : ∀ ro, post (-1) ((nI w), (nI h), (zc_A (zc_c B)), (zc_A ro), (zc_A ch), (zc_A re))) : wpY_firstOf post ((nI w), (nI h), (zc_A (zc_c B)), (zc_A ro), (zc_A ch), (zc_A re)) v1 := by
  refine zc_yfo hR (fun ro f hro hf hb e => ?_) (fun ro _ => hn ro)
  exfalso
  have l := zc_bk_lt hf hb
  have l2 := zc_n_le (zc_bk B r) 196
  rw [e] at hbad
  rcases hbad with z | z
  · exact nI_pos (by omega) z
  · rw [nI_leI (by omega) (by omega)] at z
    omega
theorem zc_yfoG {post : Int32 → SY → Prop} {k f : Nat} (hR : zc_Rt B r) (hf : f < 196) (hb : zc_bk B r f) (hk : zc_n (zc_bk B r) f = k) (hp : ∀ ro, (∀ x, x < 196 → ro x = r x) → post (nI f) ((nI w), (nI h), (zc_A (zc_c B)), (zc_A ro), (zc_A ch), (zc_A re))) : wpY_firstOf post ((nI w), (nI h), (zc_A (zc_c B)), (zc_A ro), (zc_A ch), (zc_A re)) (nI k) := by
  have lk := zc_n_le (zc_bk B r) f
  refine zc_yfo hR (fun ro f' hro hf' hb' e => ?_) (fun ro hn => absurd (by rw [hk]) (hn f hf hb))
  have l2 := zc_n_le (zc_bk B r) f'
  rw [nI_eq (by omega) (by omega)] at e
  have ef : f' = f := zc_n_inj hb' hb (by omega)
  subst ef
  exact hp ro hro
end
section
variable {w h m cc rc : Nat} {lab : Int32} {rb : Nat → Int32} {F T K L s su lv pl wi ho nu fr ro ch re : Nat → Nat} {v1 v2 : Int32}
theorem zc_m_components (hs : 2 ≤ w ∧ w ≤ 12 ∧ 2 ≤ h ∧ h ≤ 12) (hl : lab = 0 ∨ (lab = 1 ∧ zc_Lab w h (zc_B w h rb) m cc rc F T K L s su lv pl wi ho nu fr)) :
    wpX_components (fun r u' => wpY_components (fun r' v' => r' = r ∧ zc_Rl u' v') ((nI w), (nI h), (zc_A (zc_c (zc_B w h rb))), (zc_A ro), (zc_A ch), (zc_A re))) ((nI w), (nI h), lab, (nI m), (nI cc), (nI rc), rb, (zc_A F), (zc_A T), (zc_A K), (zc_A L), (zc_A s), (zc_A su), (zc_A lv), (zc_A pl), (zc_A wi), (zc_A ho), (zc_A nu), (zc_A fr)) := by
  unfold wpX_components
  refine zc_xla (zc_B_Pic hs) (zc_B_Bit hs) hl (fun m cc rc F T K L s su lv pl wi ho nu fr H => ?_)
  obtain ⟨r, hF, hR, h1, h2, h3, hP, hK⟩ := zc_ans H
  unfold wpY_components
  refine zc_yfr hR (fun ro hro => zc_ycount true (N := 196) (by omega) hR.1 hro ⟨?_, zc_mk hs (Or.inr ⟨rfl, H⟩)⟩)
  rw [h1]; rfl
theorem zc_m_euler (hs : 2 ≤ w ∧ w ≤ 12 ∧ 2 ≤ h ∧ h ≤ 12) (hl : lab = 0 ∨ (lab = 1 ∧ zc_Lab w h (zc_B w h rb) m cc rc F T K L s su lv pl wi ho nu fr)) :
    wpX_euler (fun r u' => wpY_euler (fun r' v' => r' = r ∧ zc_Rl u' v') ((nI w), (nI h), (zc_A (zc_c (zc_B w h rb))), (zc_A ro), (zc_A ch), (zc_A re))) ((nI w), (nI h), lab, (nI m), (nI cc), (nI rc), rb, (zc_A F), (zc_A T), (zc_A K), (zc_A L), (zc_A s), (zc_A su), (zc_A lv), (zc_A pl), (zc_A wi), (zc_A ho), (zc_A nu), (zc_A fr)) := by
  unfold wpX_euler
  refine zc_xla (zc_B_Pic hs) (zc_B_Bit hs) hl (fun m cc rc F T K L s su lv pl wi ho nu fr H => ?_)
  obtain ⟨r, hF, hR, h1, h2, h3, hP, hK⟩ := zc_ans H
  unfold wpY_euler
  refine zc_yfr hR (fun ro hro => zc_ycount true (N := 196) (by omega) hR.1 hro (zc_ycount false (N := 196) (by omega) hR.1 hro ⟨?_, zc_mk hs (Or.inr ⟨rfl, H⟩)⟩))
  rw [h1, h2]; rfl
theorem zc_m_label (hs : 2 ≤ w ∧ w ≤ 12 ∧ 2 ≤ h ∧ h ≤ 12) (hl : lab = 0 ∨ (lab = 1 ∧ zc_Lab w h (zc_B w h rb) m cc rc F T K L s su lv pl wi ho nu fr)) :
    wpX_label (fun r u' => wpY_label (fun r' v' => r' = r ∧ zc_Rl u' v') ((nI w), (nI h), (zc_A (zc_c (zc_B w h rb))), (zc_A ro), (zc_A ch), (zc_A re)) v1 v2) ((nI w), (nI h), lab, (nI m), (nI cc), (nI rc), rb, (zc_A F), (zc_A T), (zc_A K), (zc_A L), (zc_A s), (zc_A su), (zc_A lv), (zc_A pl), (zc_A wi), (zc_A ho), (zc_A nu), (zc_A fr)) v1 v2 := by
  unfold wpX_label
  refine zc_xin hs (fun x y hx hy e1 e2 => ?_) (fun hn => br_t rfl ?_)
  · subst e1 e2
    refine br_f (by decide) (zc_xla (zc_B_Pic hs) (zc_B_Bit hs) hl (fun m cc rc F T K L s su lv pl wi ho nu fr H => ?_))
    obtain ⟨r, hF, hR, h1, h2, h3, hP, hK⟩ := zc_ans H
    obtain ⟨i, i1, i2, i3, i4, i5, i6, i7, i8, i9, i10⟩ := hP y x hy hx
    have lb := zc_t_le (zc_B w h rb (14 * y + x + 15))
    have hp : 14 * y + x + 15 < 196 := by omega
    refine zc_xrunAt (by omega) (by omega) i1 i2 i3 i4 i5 i6 ⟨vp_in_nI (by omega) (by omega), pk_eq (K i) 0 (fun k0 => ?_) (fun k0 => ⟨vp_in_nI (by omega) (by omega), by rw [zc_A_r (by omega)]; exact vp_in_nI i8 (by omega), ?_⟩) (zc_A_r (by omega)) rfl⟩
    · unfold wpY_label
      exact zc_yin hs hx hy (br_f (by decide) (zc_yplace ⟨vp_in_nI hp (by omega), pk_eq (zc_t (zc_B w h rb (14 * y + x + 15))) 0 (fun _ => ⟨rfl, zc_mk hs (Or.inr ⟨rfl, H⟩)⟩) (fun t => absurd (by omega) t) (zc_A_r (by omega)) rfl⟩))
    · unfold wpY_label
      refine zc_yin hs hx hy (br_f (by decide) (zc_yplace ⟨vp_in_nI hp (by omega), pk_eq (zc_t (zc_B w h rb (14 * y + x + 15))) 0 (fun t => absurd (by omega) k0) (fun t => ?_) (zc_A_r (by omega)) rfl⟩))
      refine zc_yfr hR (fun ro hro => ⟨vp_in_nI hp (by omega), ?_⟩)
      have l := zc_Rt_lt hR hp
      rw [zc_A_r (f := ro) (by omega), hro _ hp]
      refine zc_ycount true (by omega) hR.1 hro ⟨?_, zc_mk hs (Or.inr ⟨rfl, H⟩)⟩
      rw [zc_A_r (by omega), zc_A_r (by omega), i10 (zc_t_1 (by omega))]
      rfl
  · unfold wpY_label
    exact zc_yin0 hn (br_t rfl ⟨rfl, zc_mk hs hl⟩) hs
theorem zc_m_depth (hs : 2 ≤ w ∧ w ≤ 12 ∧ 2 ≤ h ∧ h ≤ 12) (hl : lab = 0 ∨ (lab = 1 ∧ zc_Lab w h (zc_B w h rb) m cc rc F T K L s su lv pl wi ho nu fr)) :
    wpX_depth (fun r u' => wpY_depth (fun r' v' => r' = r ∧ zc_Rl u' v') ((nI w), (nI h), (zc_A (zc_c (zc_B w h rb))), (zc_A ro), (zc_A ch), (zc_A re)) v1 v2) ((nI w), (nI h), lab, (nI m), (nI cc), (nI rc), rb, (zc_A F), (zc_A T), (zc_A K), (zc_A L), (zc_A s), (zc_A su), (zc_A lv), (zc_A pl), (zc_A wi), (zc_A ho), (zc_A nu), (zc_A fr)) v1 v2 := by
  unfold wpX_depth
  refine zc_xin hs (fun x y hx hy e1 e2 => ?_) (fun hn => br_t rfl ?_)
  · subst e1 e2
    refine br_f (by decide) (zc_xla (zc_B_Pic hs) (zc_B_Bit hs) hl (fun m cc rc F T K L s su lv pl wi ho nu fr H => ?_))
    obtain ⟨r, hF, hR, h1, h2, h3, hP, hK⟩ := zc_ans H
    obtain ⟨i, i1, i2, i3, i4, i5, i6, i7, i8, i9, i10⟩ := hP y x hy hx
    have hp : 14 * y + x + 15 < 196 := by omega
    refine zc_xrunAt (by omega) (by omega) i1 i2 i3 i4 i5 i6 ⟨vp_in_nI (by omega) (by omega), by rw [zc_A_r (by omega)]; exact vp_in_nI i8 (by omega), ?_⟩
    unfold wpY_depth
    refine zc_yin hs hx hy (br_f (by decide) (zc_yfc hF hR (fun ch hch => zc_yplace ⟨vp_in_nI hp (by omega), ?_, zc_mk hs (Or.inr ⟨rfl, H⟩)⟩)))
    rw [zc_A_r (by omega), zc_A_r (by omega), zc_A_r (by omega), hch _ hp, i9]
  · unfold wpY_depth
    exact zc_yin0 hn (br_t rfl ⟨rfl, zc_mk hs hl⟩) hs
theorem zc_m_area (hs : 2 ≤ w ∧ w ≤ 12 ∧ 2 ≤ h ∧ h ≤ 12) (hl : lab = 0 ∨ (lab = 1 ∧ zc_Lab w h (zc_B w h rb) m cc rc F T K L s su lv pl wi ho nu fr)) :
    wpX_area (fun r u' => wpY_area (fun r' v' => r' = r ∧ zc_Rl u' v') ((nI w), (nI h), (zc_A (zc_c (zc_B w h rb))), (zc_A ro), (zc_A ch), (zc_A re)) v1) ((nI w), (nI h), lab, (nI m), (nI cc), (nI rc), rb, (zc_A F), (zc_A T), (zc_A K), (zc_A L), (zc_A s), (zc_A su), (zc_A lv), (zc_A pl), (zc_A wi), (zc_A ho), (zc_A nu), (zc_A fr)) v1 := by
  unfold wpX_area
  refine zc_xla (zc_B_Pic hs) (zc_B_Bit hs) hl (fun m cc rc F T K L s su lv pl wi ho nu fr H => ?_)
  obtain ⟨r, hF, hR, h1, h2, h3, hP, hK⟩ := zc_ans H
  refine zc_k3 (by omega) (fun hbad => ?_) (fun k hk e => ?_)
  · unfold wpY_area
    exact zc_yfoB hR h1 hbad (fun ro => br_f (by decide) ⟨rfl, zc_mk hs (Or.inr ⟨rfl, H⟩)⟩)
  · subst e
    obtain ⟨f, f1, f2, f3, f4, f5, f6, f7, f8, f9⟩ := hK k hk
    refine ⟨vp_in_nI (by omega) (by omega), by rw [zc_A_r (by omega)]; exact vp_in_nI f4 (by omega), ?_⟩
    unfold wpY_area
    refine zc_yfoG hR f1 f2 f3 (fun ro hro => br_t (nI_pos' (by omega)) ⟨197, zc_yar17 f1 hR hro ⟨?_, zc_mk hs (Or.inr ⟨rfl, H⟩)⟩ 197 0 (by omega) (by omega)⟩)
    rw [zc_A_r (by omega), zc_A_r (by omega), f5]
theorem zc_m_holes (hs : 2 ≤ w ∧ w ≤ 12 ∧ 2 ≤ h ∧ h ≤ 12) (hl : lab = 0 ∨ (lab = 1 ∧ zc_Lab w h (zc_B w h rb) m cc rc F T K L s su lv pl wi ho nu fr)) :
    wpX_holes (fun r u' => wpY_holes (fun r' v' => r' = r ∧ zc_Rl u' v') ((nI w), (nI h), (zc_A (zc_c (zc_B w h rb))), (zc_A ro), (zc_A ch), (zc_A re)) v1) ((nI w), (nI h), lab, (nI m), (nI cc), (nI rc), rb, (zc_A F), (zc_A T), (zc_A K), (zc_A L), (zc_A s), (zc_A su), (zc_A lv), (zc_A pl), (zc_A wi), (zc_A ho), (zc_A nu), (zc_A fr)) v1 := by
  unfold wpX_holes
  refine zc_xla (zc_B_Pic hs) (zc_B_Bit hs) hl (fun m cc rc F T K L s su lv pl wi ho nu fr H => ?_)
  obtain ⟨r, hF, hR, h1, h2, h3, hP, hK⟩ := zc_ans H
  refine zc_k3 (by omega) (fun hbad => ?_) (fun k hk e => ?_)
  · unfold wpY_holes
    exact zc_yfoB hR h1 hbad (fun ro => br_f (by decide) ⟨rfl, zc_mk hs (Or.inr ⟨rfl, H⟩)⟩)
  · subst e
    obtain ⟨f, f1, f2, f3, f4, f5, f6, f7, f8, f9⟩ := hK k hk
    refine ⟨vp_in_nI (by omega) (by omega), by rw [zc_A_r (by omega)]; exact vp_in_nI f4 (by omega), ?_⟩
    unfold wpY_holes
    refine zc_yfoG hR f1 f2 f3 (fun ro hro => br_t (nI_pos' (by omega)) (zc_yfc hF hR (fun ch hch => ⟨197, ?_⟩)))
    have e0 : zc_n (fun x => x ≠ 0 ∧ zc_wk (zc_B w h rb) r x ∧ r (x - 1) = f) 1 = 0 := zc_n_0 (fun k hk z => z.1 (by omega))
    have go := zc_yho21 (w := w) (h := h) (ch := ch) (re := re) (post := fun r' v' => r' = zc_A ho (zc_A fr (nI k).toNatClampNeg).toNatClampNeg ∧ zc_Rl ((nI w), (nI h), 1, (nI m), (nI cc), (nI rc), rb, (zc_A F), (zc_A T), (zc_A K), (zc_A L), (zc_A s), (zc_A su), (zc_A lv), (zc_A pl), (zc_A wi), (zc_A ho), (zc_A nu), (zc_A fr)) v') hF hR hro hch f1 f2 ⟨by rw [zc_A_r (by omega), zc_A_r (by omega), f6], zc_mk hs (Or.inr ⟨rfl, H⟩)⟩ 197 1 (by omega) (by omega) (by omega)
    rw [e0] at go
    exact go
theorem zc_m_enclosed (hs : 2 ≤ w ∧ w ≤ 12 ∧ 2 ≤ h ∧ h ≤ 12) (hl : lab = 0 ∨ (lab = 1 ∧ zc_Lab w h (zc_B w h rb) m cc rc F T K L s su lv pl wi ho nu fr)) :
    wpX_enclosed (fun r u' => wpY_enclosed (fun r' v' => r' = r ∧ zc_Rl u' v') ((nI w), (nI h), (zc_A (zc_c (zc_B w h rb))), (zc_A ro), (zc_A ch), (zc_A re)) v1) ((nI w), (nI h), lab, (nI m), (nI cc), (nI rc), rb, (zc_A F), (zc_A T), (zc_A K), (zc_A L), (zc_A s), (zc_A su), (zc_A lv), (zc_A pl), (zc_A wi), (zc_A ho), (zc_A nu), (zc_A fr)) v1 := by
  unfold wpX_enclosed
  refine zc_xla (zc_B_Pic hs) (zc_B_Bit hs) hl (fun m cc rc F T K L s su lv pl wi ho nu fr H => ?_)
  obtain ⟨r, hF, hR, h1, h2, h3, hP, hK⟩ := zc_ans H
  refine zc_k3 (by omega) (fun hbad => ?_) (fun k hk e => ?_)
  · unfold wpY_enclosed
    exact zc_yfoB hR h1 hbad (fun ro => br_f (by decide) ⟨rfl, zc_mk hs (Or.inr ⟨rfl, H⟩)⟩)
  · subst e
    obtain ⟨f, f1, f2, f3, f4, f5, f6, f7, f8, f9⟩ := hK k hk
    refine ⟨vp_in_nI (by omega) (by omega), by rw [zc_A_r (by omega)]; exact vp_in_nI f4 (by omega), ?_⟩
    unfold wpY_enclosed
    refine zc_yfoG hR f1 f2 f3 (fun ro hro => br_t (nI_pos' (by omega)) (zc_yfq hF hR hro f1 f2.2 f2.1 (fun re hre => ⟨197, zc_yen22 f1 hR hro hre ⟨?_, zc_mk hs (Or.inr ⟨rfl, H⟩)⟩ 197 0 (by omega) (by omega)⟩)))
    rw [zc_A_r (by omega), zc_A_r (by omega), f7]
theorem zc_m_around (hs : 2 ≤ w ∧ w ≤ 12 ∧ 2 ≤ h ∧ h ≤ 12) (hl : lab = 0 ∨ (lab = 1 ∧ zc_Lab w h (zc_B w h rb) m cc rc F T K L s su lv pl wi ho nu fr)) :
    wpX_around (fun r u' => wpY_around (fun r' v' => r' = r ∧ zc_Rl u' v') ((nI w), (nI h), (zc_A (zc_c (zc_B w h rb))), (zc_A ro), (zc_A ch), (zc_A re)) v1) ((nI w), (nI h), lab, (nI m), (nI cc), (nI rc), rb, (zc_A F), (zc_A T), (zc_A K), (zc_A L), (zc_A s), (zc_A su), (zc_A lv), (zc_A pl), (zc_A wi), (zc_A ho), (zc_A nu), (zc_A fr)) v1 := by
  unfold wpX_around
  refine zc_xla (zc_B_Pic hs) (zc_B_Bit hs) hl (fun m cc rc F T K L s su lv pl wi ho nu fr H => ?_)
  obtain ⟨r, hF, hR, h1, h2, h3, hP, hK⟩ := zc_ans H
  refine zc_k3 (by omega) (fun hbad => ?_) (fun k hk e => ?_)
  · unfold wpY_around
    exact zc_yfoB hR h1 hbad (fun ro => br_f (by decide) ⟨rfl, zc_mk hs (Or.inr ⟨rfl, H⟩)⟩)
  · subst e
    obtain ⟨f, f1, f2, f3, f4, f5, f6, f7, f8, f9⟩ := hK k hk
    refine ⟨vp_in_nI (by omega) (by omega), by rw [zc_A_r (by omega)]; exact vp_in_nI f4 (by omega), nm_r (e' := nI (su (fr k))) (by rw [zc_A_r (by omega), zc_A_r (by omega)]) ?_⟩
    by_cases g0 : r (f - 1) = 0
    · have s0 := f8 g0
      refine br_t (by rw [s0]; rfl) ?_
      unfold wpY_around
      refine zc_yfoG hR f1 f2 f3 (fun ro hro => br_t (nI_pos' (by omega)) (zc_yfc hF hR (fun ch hch => ⟨197, ?_⟩)))
      exact zc_yar18 hF hR hro hch f1 f2 (fun re z => absurd g0 z) (fun re _ => ⟨rfl, zc_mk hs (Or.inr ⟨rfl, H⟩)⟩) 197 0 re (by omega) (by omega) (fun x hx => by omega)
    · obtain ⟨s0, s1, s2, s3⟩ := f9 g0
      refine br_f (nI_ne0 (by omega) (by omega)) ⟨vp_in_nI s1 (by omega), by rw [zc_A_r (by omega)]; exact vp_in_nI s2 (by omega), ?_⟩
      unfold wpY_around
      refine zc_yfoG hR f1 f2 f3 (fun ro hro => br_t (nI_pos' (by omega)) (zc_yfc hF hR (fun ch hch => ⟨197, ?_⟩)))
      refine zc_yar18 hF hR hro hch f1 f2 (fun re _ => ⟨?_, zc_mk hs (Or.inr ⟨rfl, H⟩)⟩) (fun re z => absurd z g0) 197 0 re (by omega) (by omega) (fun x hx => by omega)
      rw [zc_A_r (by omega), zc_A_r (by omega), s3]
end
end
section
/-! what is owed -/
def i_Rel (k : Nat) (u : SX) (v : SY) : Prop := zc_Rl u v
theorem i_up {k : Nat} {u : SX} {v : SY} (h : i_Rel k u v) : i_Rel (k + 5) u v := h
def zc_cl (k : Int32) : Nat := if 2 ≤ k then (if k ≤ 12 then k.toNatClampNeg else 12) else 2
theorem zc_cl_a {k : Int32} (a : 2 ≤ k) (b : k ≤ 12) : k = nI (zc_cl k) ∧ 2 ≤ zc_cl k ∧ zc_cl k ≤ 12 := by
  have h0 : ¬ k < 0 := fun z => absurd (Int32.lt_of_le_of_lt a z) (by decide)
  obtain ⟨j, hj, e⟩ := nI_of h0
  subst e
  have a' : 2 ≤ j := (nI_leI (a := 2) (by omega) hj).mp a
  have b' : j ≤ 12 := (nI_leI (b := 12) hj (by omega)).mp b
  have e : zc_cl (nI j) = j := by unfold zc_cl; rw [if_pos a, if_pos b, nI_clamp hj]
  rw [e]
  exact ⟨rfl, a', b'⟩
theorem zc_cl_b {k : Int32} (a : 2 ≤ k) (b : ¬ k ≤ 12) : zc_cl k = 12 := by unfold zc_cl; rw [if_pos a, if_neg b]
theorem zc_cl_c {k : Int32} (a : ¬ 2 ≤ k) : zc_cl k = 2 := by unfold zc_cl; rw [if_neg a]
theorem zc_cl_r (k : Int32) : 2 ≤ zc_cl k ∧ zc_cl k ≤ 12 := by
  by_cases a : 2 ≤ k
  · by_cases b : k ≤ 12
    · exact (zc_cl_a a b).2
    · rw [zc_cl_b a b]; omega
  · rw [zc_cl_c a]; omega
theorem zc_ini {k : Int32} {A : Int32 → Prop} (h : A (nI (zc_cl k))) : (2 ≤ k → ((k ≤ 12 → A k) ∧ (¬ k ≤ 12 → A 12))) ∧ (¬ 2 ≤ k → A 2) := by
  refine br_c (fun a => br_c (fun b => ?_) (fun b => ?_)) (fun a => ?_)
  · rw [(zc_cl_a a b).1]; exact h
  · rw [zc_cl_b a b] at h; exact h
  · rw [zc_cl_c a] at h; exact h
theorem zc_B0 (w h : Nat) : (fun _ => 0 : Nat → Int32) = zc_A (zc_c (zc_B w h (fun _ => 0))) := by
  funext p
  have e : zc_B w h (fun _ => 0) p = false := by unfold zc_B; rw [b_0, Bool.and_false]
  show (0 : Int32) = nI (zc_t (zc_B w h (fun _ => 0) p))
  rw [e]
  rfl
theorem zc_Rl0 {w h : Nat} (hs : 2 ≤ w ∧ w ≤ 12 ∧ 2 ≤ h ∧ h ≤ 12) : zc_Rl (nI w, nI h, 0, 0, 0, 0, (fun _ => 0), (fun _ => 0), (fun _ => 0), (fun _ => 0), (fun _ => 0), (fun _ => 0), (fun _ => 0), (fun _ => 0), (fun _ => 0), (fun _ => 0), (fun _ => 0), (fun _ => 0), (fun _ => 0)) (nI w, nI h, (fun _ => 0), (fun _ => 0), (fun _ => 0), (fun _ => 0)) := by
  have e := zc_mk (w := w) (h := h) (m := 0) (cc := 0) (rc := 0) (lab := 0) (rb := fun _ => 0) (F := fun _ => 0) (T := fun _ => 0) (K := fun _ => 0) (L := fun _ => 0) (s := fun _ => 0) (su := fun _ => 0) (lv := fun _ => 0) (pl := fun _ => 0) (wi := fun _ => 0) (ho := fun _ => 0) (nu := fun _ => 0) (fr := fun _ => 0) (ro := fun _ => 0) (ch := fun _ => 0) (re := fun _ => 0) hs (Or.inl rfl)
  rw [← zc_B0] at e
  exact e
theorem i_vc0 (k0 : Int32) (k1 : Int32) : wpX_init (fun u => wpY_init (fun v => i_Rel 2 u v) k0 k1) k0 k1 := by
  have h0 := zc_cl_r k0
  have h1 := zc_cl_r k1
  unfold wpX_init
  refine zc_ini (A := fun z => wX_init_141 (fun u => wpY_init (fun v => i_Rel 2 u v) k0 k1) k1 z 0 0 0 0 0 0 (fun _ => 0) (fun _ => 0) (fun _ => 0) (fun _ => 0) (fun _ => 0) (fun _ => 0) (fun _ => 0) (fun _ => 0) (fun _ => 0) (fun _ => 0) (fun _ => 0) (fun _ => 0) (fun _ => 0)) ?_
  unfold wX_init_141
  refine zc_ini (A := fun z => wpY_init (fun v => i_Rel 2 (nI (zc_cl k0), z, 0, 0, 0, 0, (fun _ => 0), (fun _ => 0), (fun _ => 0), (fun _ => 0), (fun _ => 0), (fun _ => 0), (fun _ => 0), (fun _ => 0), (fun _ => 0), (fun _ => 0), (fun _ => 0), (fun _ => 0), (fun _ => 0)) v) k0 k1) ?_
  unfold wpY_init
  refine zc_ini (A := fun z => wY_init_62 (fun v => i_Rel 2 (nI (zc_cl k0), nI (zc_cl k1), 0, 0, 0, 0, (fun _ => 0), (fun _ => 0), (fun _ => 0), (fun _ => 0), (fun _ => 0), (fun _ => 0), (fun _ => 0), (fun _ => 0), (fun _ => 0), (fun _ => 0), (fun _ => 0), (fun _ => 0), (fun _ => 0)) v) k1 z 0 0 (fun _ => 0) (fun _ => 0) (fun _ => 0) (fun _ => 0)) ?_
  unfold wY_init_62
  refine zc_ini (A := fun z => i_Rel 2 (nI (zc_cl k0), nI (zc_cl k1), 0, 0, 0, 0, (fun _ => 0), (fun _ => 0), (fun _ => 0), (fun _ => 0), (fun _ => 0), (fun _ => 0), (fun _ => 0), (fun _ => 0), (fun _ => 0), (fun _ => 0), (fun _ => 0), (fun _ => 0), (fun _ => 0)) (nI (zc_cl k0), z, (fun _ => 0), (fun _ => 0), (fun _ => 0), (fun _ => 0))) ?_
  exact zc_Rl0 (by omega)
theorem i_vc_set {k : Nat} {u : SX} {v : SY} (I : i_Rel k u v) (hk : k + 5 ≤ 2562) (v1 : Int32) (v2 : Int32) (v3 : Int32) : wpX_set (fun r u' => wpY_set (fun r' v' => r' = r ∧ i_Rel (k + 5) u' v') v v1 v2 (lw_bz v3)) u v1 v2 (lw_bz v3) := by
  refine zc_el (Q := fun u v => wpX_set (fun r u' => wpY_set (fun r' v' => r' = r ∧ zc_Rl u' v') v v1 v2 (lw_bz v3)) u v1 v2 (lw_bz v3)) ?_ I
  intro w h m cc rc lab rb F T K L s su lv pl wi ho nu fr ro ch re hs hl
  exact zc_m_set (lw_bz_01 v3) hs hl
theorem i_vc_invert {k : Nat} {u : SX} {v : SY} (I : i_Rel k u v) (hk : k + 5 ≤ 2562) (v1 : Int32) (v2 : Int32) (v3 : Int32) (v4 : Int32) : wpX_invert (fun r u' => wpY_invert (fun r' v' => r' = r ∧ i_Rel (k + 5) u' v') v v1 v2 v3 v4) u v1 v2 v3 v4 := by
  refine zc_el (Q := fun u v => wpX_invert (fun r u' => wpY_invert (fun r' v' => r' = r ∧ zc_Rl u' v') v v1 v2 v3 v4) u v1 v2 v3 v4) ?_ I
  intro w h m cc rc lab rb F T K L s su lv pl wi ho nu fr ro ch re hs hl
  exact zc_m_invert hs hl
theorem i_vc_isBlack {k : Nat} {u : SX} {v : SY} (I : i_Rel k u v) (hk : k + 5 ≤ 2562) (v1 : Int32) (v2 : Int32) : wpX_isBlack (fun r => wpY_isBlack (fun r' => r' = r ∧ i_Rel (k + 5) u v) v v1 v2) u v1 v2 := by
  refine zc_el (Q := fun u v => wpX_isBlack (fun r => wpY_isBlack (fun r' => r' = r ∧ zc_Rl u v) v v1 v2) u v1 v2) ?_ I
  intro w h m cc rc lab rb F T K L s su lv pl wi ho nu fr ro ch re hs hl
  exact zc_m_isBlack hs hl
theorem i_vc_components {k : Nat} {u : SX} {v : SY} (I : i_Rel k u v) (hk : k + 5 ≤ 2562) : wpX_components (fun r u' => wpY_components (fun r' v' => r' = r ∧ i_Rel (k + 5) u' v') v) u := by
  refine zc_el (Q := fun u v => wpX_components (fun r u' => wpY_components (fun r' v' => r' = r ∧ zc_Rl u' v') v) u) ?_ I
  intro w h m cc rc lab rb F T K L s su lv pl wi ho nu fr ro ch re hs hl
  exact zc_m_components hs hl
theorem i_vc_euler {k : Nat} {u : SX} {v : SY} (I : i_Rel k u v) (hk : k + 5 ≤ 2562) : wpX_euler (fun r u' => wpY_euler (fun r' v' => r' = r ∧ i_Rel (k + 5) u' v') v) u := by
  refine zc_el (Q := fun u v => wpX_euler (fun r u' => wpY_euler (fun r' v' => r' = r ∧ zc_Rl u' v') v) u) ?_ I
  intro w h m cc rc lab rb F T K L s su lv pl wi ho nu fr ro ch re hs hl
  exact zc_m_euler hs hl
theorem i_vc_label {k : Nat} {u : SX} {v : SY} (I : i_Rel k u v) (hk : k + 5 ≤ 2562) (v1 : Int32) (v2 : Int32) : wpX_label (fun r u' => wpY_label (fun r' v' => r' = r ∧ i_Rel (k + 5) u' v') v v1 v2) u v1 v2 := by
  refine zc_el (Q := fun u v => wpX_label (fun r u' => wpY_label (fun r' v' => r' = r ∧ zc_Rl u' v') v v1 v2) u v1 v2) ?_ I
  intro w h m cc rc lab rb F T K L s su lv pl wi ho nu fr ro ch re hs hl
  exact zc_m_label hs hl
theorem i_vc_area {k : Nat} {u : SX} {v : SY} (I : i_Rel k u v) (hk : k + 5 ≤ 2562) (v1 : Int32) : wpX_area (fun r u' => wpY_area (fun r' v' => r' = r ∧ i_Rel (k + 5) u' v') v v1) u v1 := by
  refine zc_el (Q := fun u v => wpX_area (fun r u' => wpY_area (fun r' v' => r' = r ∧ zc_Rl u' v') v v1) u v1) ?_ I
  intro w h m cc rc lab rb F T K L s su lv pl wi ho nu fr ro ch re hs hl
  exact zc_m_area hs hl
theorem i_vc_holes {k : Nat} {u : SX} {v : SY} (I : i_Rel k u v) (hk : k + 5 ≤ 2562) (v1 : Int32) : wpX_holes (fun r u' => wpY_holes (fun r' v' => r' = r ∧ i_Rel (k + 5) u' v') v v1) u v1 := by
  refine zc_el (Q := fun u v => wpX_holes (fun r u' => wpY_holes (fun r' v' => r' = r ∧ zc_Rl u' v') v v1) u v1) ?_ I
  intro w h m cc rc lab rb F T K L s su lv pl wi ho nu fr ro ch re hs hl
  exact zc_m_holes hs hl
theorem i_vc_around {k : Nat} {u : SX} {v : SY} (I : i_Rel k u v) (hk : k + 5 ≤ 2562) (v1 : Int32) : wpX_around (fun r u' => wpY_around (fun r' v' => r' = r ∧ i_Rel (k + 5) u' v') v v1) u v1 := by
  refine zc_el (Q := fun u v => wpX_around (fun r u' => wpY_around (fun r' v' => r' = r ∧ zc_Rl u' v') v v1) u v1) ?_ I
  intro w h m cc rc lab rb F T K L s su lv pl wi ho nu fr ro ch re hs hl
  exact zc_m_around hs hl
theorem i_vc_depth {k : Nat} {u : SX} {v : SY} (I : i_Rel k u v) (hk : k + 5 ≤ 2562) (v1 : Int32) (v2 : Int32) : wpX_depth (fun r u' => wpY_depth (fun r' v' => r' = r ∧ i_Rel (k + 5) u' v') v v1 v2) u v1 v2 := by
  refine zc_el (Q := fun u v => wpX_depth (fun r u' => wpY_depth (fun r' v' => r' = r ∧ zc_Rl u' v') v v1 v2) u v1 v2) ?_ I
  intro w h m cc rc lab rb F T K L s su lv pl wi ho nu fr ro ch re hs hl
  exact zc_m_depth hs hl
theorem i_vc_enclosed {k : Nat} {u : SX} {v : SY} (I : i_Rel k u v) (hk : k + 5 ≤ 2562) (v1 : Int32) : wpX_enclosed (fun r u' => wpY_enclosed (fun r' v' => r' = r ∧ i_Rel (k + 5) u' v') v v1) u v1 := by
  refine zc_el (Q := fun u v => wpX_enclosed (fun r u' => wpY_enclosed (fun r' v' => r' = r ∧ zc_Rl u' v') v v1) u v1) ?_ I
  intro w h m cc rc lab rb F T K L s su lv pl wi ho nu fr ro ch re hs hl
  exact zc_m_enclosed hs hl
end
