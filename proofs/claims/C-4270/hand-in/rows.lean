section
/-! pure rows to paste: stores, nI and lN arithmetic, masks, shifts, narrowing, branches by naturals (pk_le, pk_lt, pk_eq), loops (lp1 .. lp16: the measure of the state; rp1 ..: recursion), negatives. Take what you need -/
theorem pk_us {f : Nat → Int32} {k : Nat} {x : Int32} : upd f k x k = x := if_pos rfl
theorem pk_un {f : Nat → Int32} {k j : Nat} {x : Int32} (h : j ≠ k) : upd f k x j = f j := if_neg h
theorem pk_uLs {f : Nat → Int64} {k : Nat} {x : Int64} : vp_updL f k x k = x := if_pos rfl
theorem pk_uLn {f : Nat → Int64} {k j : Nat} {x : Int64} (h : j ≠ k) : vp_updL f k x j = f j := if_neg h
theorem pk_sub {a b : Nat} (h : b ≤ a) : nI a - nI b = nI (a - b) := by
  obtain ⟨c, rfl⟩ : ∃ c, a = c + b := ⟨a - b, by omega⟩
  rw [← nI_add, Int32.add_sub_cancel, Nat.add_sub_cancel]
theorem pk_m1 (n : Nat) : nI (n + 1) + (-1) = nI n := by
  rw [← nI_1, Int32.add_assoc, show (1 : Int32) + (-1) = 0 from rfl, Int32.add_zero]
theorem pk_mul (a b : Nat) : nI a * nI b = nI (a * b) := (Int32.ofNat_mul a b).symm
theorem pk_div {a d : Nat} (ha : a < 2 ^ 31) (h0 : 0 < d) (hd : d < 2 ^ 31) : nI a / nI d = nI (a / d) := by
  apply Int32.toInt_inj.mp
  rw [lg_idiv_nonneg (by rw [nI_toInt ha]; omega) (by rw [nI_toInt hd]; omega), nI_toInt ha, nI_toInt hd, nI_toInt (Nat.lt_of_le_of_lt (Nat.div_le_self a d) ha)]
  first | rfl | exact (Int.natCast_ediv _ _).symm
theorem pk_rem {a d : Nat} (ha : a < 2 ^ 31) (h0 : 0 < d) (hd : d < 2 ^ 31) : nI a - nI a / nI d * nI d = nI (a % d) := by
  rw [pk_div ha h0 hd, pk_mul, pk_sub (Nat.div_mul_le_self a d)]
  exact congrArg nI (by have := Nat.div_add_mod' a d; omega)
theorem pk_sub_toInt {a b : Nat} (ha : a < 2 ^ 30) (hb : b < 2 ^ 30) : (nI a - nI b).toInt = (a : Int) - b := by
  rw [Int32.toInt_sub, nI_toInt (by omega), nI_toInt (by omega)]
  exact Int.bmod_eq_of_le (by omega) (by omega)
theorem pk_sneg {a b : Nat} (hb : b < 2 ^ 30) (h : a < b) : nI a - nI b < 0 := by
  rw [Int32.lt_iff_toInt_lt, pk_sub_toInt (by omega) hb, show (0 : Int32).toInt = 0 from by decide]
  omega
theorem pk_ix (x : Int32) {n : Nat} (hn : n < 2 ^ 31) : x < 0 ∨ nI n ≤ x ∨ ∃ j : Nat, j < n ∧ x = nI j := by
  by_cases h : x < 0
  · exact Or.inl h
  · obtain ⟨j, hj, rfl⟩ := nI_of h
    by_cases h2 : j < n
    · exact Or.inr (Or.inr ⟨j, h2, rfl⟩)
    · exact Or.inr (Or.inl (nI_le (by omega) hj))
theorem pk_le {x y : Int32} {A B : Prop} (a b : Nat) (f : a ≤ b → A) (g : b < a → B) (hx : x = nI a := by rfl) (hy : y = nI b := by rfl) (ha : a < 2 ^ 31 := by omega) (hb : b < 2 ^ 31 := by omega) : (x ≤ y → A) ∧ (¬ x ≤ y → B) := by
  subst hx hy
  rw [nI_leI ha hb]
  exact ⟨f, fun z => g (by omega)⟩
theorem pk_lt {x y : Int32} {A B : Prop} (a b : Nat) (f : a < b → A) (g : b ≤ a → B) (hx : x = nI a := by rfl) (hy : y = nI b := by rfl) (ha : a < 2 ^ 31 := by omega) (hb : b < 2 ^ 31 := by omega) : (x < y → A) ∧ (¬ x < y → B) := by
  subst hx hy
  rw [nI_ltI ha hb]
  exact ⟨f, fun z => g (by omega)⟩
theorem pk_eq {x y : Int32} {A B : Prop} (a b : Nat) (f : a = b → A) (g : a ≠ b → B) (hx : x = nI a := by rfl) (hy : y = nI b := by rfl) (ha : a < 2 ^ 31 := by omega) (hb : b < 2 ^ 31 := by omega) : (x = y → A) ∧ (¬ x = y → B) := by
  subst hx hy
  rw [nI_eq ha hb]
  exact ⟨f, g⟩
theorem pk_in {x : Int32} (n N : Nat) (h : n < N) (hx : x = nI n := by rfl) (hN : N < 2 ^ 31 := by omega) : vp_in x N := by
  subst hx
  exact vp_in_nI h hN
theorem pk_cl {x : Int32} (n : Nat) (hx : x = nI n := by rfl) (h : n < 2 ^ 31 := by omega) : x.toNatClampNeg = n := by
  subst hx
  exact nI_clamp h
theorem pk_tn {n : Nat} (h : n < 2 ^ 32) : (nI n).toBitVec.toNat = n := Nat.mod_eq_of_lt h
theorem pk_and (x : Int32) {m : Int32} (k : Nat) (hm : m.toBitVec.toNat = 2 ^ k - 1) : x &&& m = nI (x.toBitVec.toNat % 2 ^ k) := by
  apply Int32.toBitVec_inj.mp
  apply BitVec.eq_of_toNat_eq
  rw [Int32.toBitVec_and, BitVec.toNat_and, hm, Nat.and_two_pow_sub_one_eq_mod]
  show _ = (BitVec.ofNat 32 _).toNat
  rw [BitVec.toNat_ofNat]
  exact (Nat.mod_eq_of_lt (Nat.lt_of_le_of_lt (Nat.mod_le _ _) x.toBitVec.isLt)).symm
theorem pk_andN {n : Nat} (h : n < 2 ^ 32) {m : Int32} (k : Nat) (hm : m.toBitVec.toNat = 2 ^ k - 1) : nI n &&& m = nI (n % 2 ^ k) := by
  rw [pk_and _ k hm, pk_tn h]
theorem pk_andE (x : Int32) {m : Int32} (k : Nat) (hm : m.toBitVec.toNat = 2 ^ k - 1) : ∃ j : Nat, j < 2 ^ k ∧ x &&& m = nI j := ⟨_, Nat.mod_lt _ (Nat.two_pow_pos k), pk_and x k hm⟩
theorem pk_andIn (x : Int32) {m : Int32} (k : Nat) (hm : m.toBitVec.toNat = 2 ^ k - 1) (hk : k ≤ 30) : vp_in (x &&& m) (2 ^ k) := by
  obtain ⟨j, hj, e⟩ := pk_andE x k hm
  rw [e]
  exact vp_in_nI hj (Nat.lt_of_le_of_lt (Nat.pow_le_pow_right (by decide) hk) (by decide))
theorem pk_shl (a s : Int32) (k : Nat) (hs : (s.toBitVec.smod 32).toNat = k) : (a <<< s).toBitVec.toNat = a.toBitVec.toNat * 2 ^ k % 2 ^ 32 := by
  show (a.toBitVec <<< (s.toBitVec.smod 32).toNat).toNat = _
  rw [hs, BitVec.toNat_shiftLeft, Nat.shiftLeft_eq]
theorem pk_shlN {n : Nat} (s : Int32) (k : Nat) (hs : (s.toBitVec.smod 32).toNat = k) (h : n * 2 ^ k < 2 ^ 32) : nI n <<< s = nI (n * 2 ^ k) := by
  apply Int32.toBitVec_inj.mp
  apply BitVec.eq_of_toNat_eq
  have hn : n < 2 ^ 32 := Nat.lt_of_le_of_lt (Nat.le_mul_of_pos_right n (Nat.two_pow_pos k)) h
  rw [pk_shl _ _ k hs, pk_tn hn, pk_tn h, Nat.mod_eq_of_lt h]
theorem pk_shr (a s : Int32) (k : Nat) (hs : (s.toBitVec.smod 32).toNat = k) : (a >>> s).toInt = a.toInt >>> k := by
  show (a.toBitVec.sshiftRight (s.toBitVec.smod 32).toNat).toInt = _
  rw [hs, BitVec.toInt_sshiftRight]
  rfl
theorem pk_shrN {n : Nat} (h : n < 2 ^ 31) (s : Int32) (k : Nat) (hs : (s.toBitVec.smod 32).toNat = k) : nI n >>> s = nI (n / 2 ^ k) := by
  apply Int32.toInt_inj.mp
  have h2 : n / 2 ^ k ≤ n := Nat.div_le_self _ _
  rw [pk_shr _ _ k hs, nI_toInt h, nI_toInt (by omega), Int.shiftRight_eq_div_pow]
  rfl
theorem pk_ushr (x s : Int32) (k : Nat) (hs : ((s.toUInt32 &&& Int32.toUInt32 31).toBitVec % 32).toNat = k) : (x.toUInt32 >>> (s.toUInt32 &&& Int32.toUInt32 31)).toInt32.toBitVec.toNat = x.toBitVec.toNat / 2 ^ k := by
  have e : (x.toUInt32 >>> (s.toUInt32 &&& Int32.toUInt32 31)).toInt32.toBitVec = x.toBitVec >>> k := by
    rw [← hs]
    exact UInt32.toBitVec_shiftRight _ _
  rw [e, BitVec.toNat_ushiftRight, Nat.shiftRight_eq_div_pow]
theorem pk_ushrN {n : Nat} (hn : n < 2 ^ 32) (s : Int32) (k : Nat) (hs : ((s.toUInt32 &&& Int32.toUInt32 31).toBitVec % 32).toNat = k) : ((nI n).toUInt32 >>> (s.toUInt32 &&& Int32.toUInt32 31)).toInt32 = nI (n / 2 ^ k) := by
  apply Int32.toBitVec_inj.mp
  apply BitVec.eq_of_toNat_eq
  rw [pk_ushr _ s k hs, pk_tn hn, pk_tn (Nat.lt_of_le_of_lt (Nat.div_le_self _ _) hn)]
theorem pk_nb (z : Int32) : narrow .byte (.int z.toInt8.toInt32) = .int z.toInt8.toInt32 := congrArg Value.int (by simp)
theorem pk_ns (z : Int32) : narrow .short (.int z.toInt16.toInt32) = .int z.toInt16.toInt32 := congrArg Value.int (by simp)
theorem pk_fb (r : Int32) : fits .byte (.int r.toInt8.toInt32) = true := by
  have ⟨a, b⟩ := lg_i2b_range r
  have h1 : (-128 : Int32).toInt = -128 := by decide
  have h2 : (127 : Int32).toInt = 127 := by decide
  simp only [fits, Bool.and_eq_true, decide_eq_true_eq, Int32.le_iff_toInt_le, h1, h2]
  omega
theorem pk_fs (r : Int32) : fits .short (.int r.toInt16.toInt32) = true := by
  have ⟨a, b⟩ := lg_i2s_range r
  have h1 : (-32768 : Int32).toInt = -32768 := by decide
  have h2 : (32767 : Int32).toInt = 32767 := by decide
  simp only [fits, Bool.and_eq_true, decide_eq_true_eq, Int32.le_iff_toInt_le, h1, h2]
  omega
theorem pk_charN {q : Nat} (hq : q < 65536) : narrow .char (.int (nI q)) = .int (nI q) ∧ fits .char (.int (nI q)) = true := by
  constructor
  · have e : (nI q).toUInt32.toUInt16.toUInt32.toInt32 = nI q := by
      apply Int32.toBitVec_inj.mp
      apply BitVec.eq_of_toNat_eq
      show (nI q).toUInt32.toUInt16.toUInt32.toNat = q % 2 ^ 32
      rw [UInt16.toNat_toUInt32, UInt32.toNat_toUInt16, show (nI q).toUInt32.toNat = q % 2 ^ 32 from rfl]
      omega
    exact congrArg Value.int e
  · have a : (0 : Int32) ≤ nI q := nI_pos' (by omega)
    have b : nI q ≤ 65535 := nI_le (b := 65535) (by omega) (by decide)
    show (decide ((0 : Int32) ≤ nI q) && decide (nI q ≤ 65535)) = true
    rw [decide_eq_true a, decide_eq_true b]
    rfl
theorem pk_char (x : Int32) : (x.toUInt32 % 65536).toInt32 = nI (x.toBitVec.toNat % 65536) := by
  apply Int32.toBitVec_inj.mp
  apply BitVec.eq_of_toNat_eq
  rw [pk_tn (by omega)]
  show (x.toUInt32 % 65536).toNat = _
  rw [UInt32.toNat_mod]
  rfl
theorem pk_nc (x : Int32) : narrow .char (.int (x.toUInt32 % 65536).toInt32) = .int (x.toUInt32 % 65536).toInt32 := by
  rw [pk_char]
  exact (pk_charN (Nat.mod_lt _ (by decide))).1
theorem pk_fc (x : Int32) : fits .char (.int (x.toUInt32 % 65536).toInt32) = true := by
  rw [pk_char]
  exact (pk_charN (Nat.mod_lt _ (by decide))).2
theorem pk_vb (z : Int32) : vp_nar .byte z.toInt8.toInt32 = z.toInt8.toInt32 := by rw [vp_nar_byte]; simp
theorem pk_vs (z : Int32) : vp_nar .short z.toInt16.toInt32 = z.toInt16.toInt32 := by rw [vp_nar_short]; simp
theorem pk_vc (z : Int32) : vp_nar .char (z.toUInt32 % 65536).toInt32 = (z.toUInt32 % 65536).toInt32 := Value.int.inj (pk_nc z)
theorem pk_lT {n : Nat} (h : n < 2 ^ 63) : (lN n).toInt = (n : Int) := lg_ofNat_toInt h
theorem pk_lLT {a b : Nat} (ha : a < 2 ^ 63) (hb : b < 2 ^ 63) : lN a < lN b ↔ a < b := by
  rw [Int64.lt_iff_toInt_lt, pk_lT ha, pk_lT hb]; omega
theorem pk_lLE {a b : Nat} (ha : a < 2 ^ 63) (hb : b < 2 ^ 63) : lN a ≤ lN b ↔ a ≤ b := by
  rw [Int64.le_iff_toInt_le, pk_lT ha, pk_lT hb]; omega
theorem pk_lEQ {a b : Nat} (ha : a < 2 ^ 63) (hb : b < 2 ^ 63) : lN a = lN b ↔ a = b := by
  rw [← Int64.toInt_inj, pk_lT ha, pk_lT hb]; omega
theorem pk_lOf {x : Int64} (h : ¬ x < 0) : ∃ k : Nat, k < 2 ^ 63 ∧ x = lN k := by
  rw [Int64.lt_iff_toInt_lt] at h
  have h0 : (0 : Int64).toInt = 0 := by decide
  have hx := Int64.toInt_lt x
  refine ⟨x.toInt.toNat, by omega, Int64.toInt_inj.mp ?_⟩
  rw [pk_lT (by omega)]
  omega
theorem pk_lDiv {a b : Nat} (ha : a < 2 ^ 63) (h0 : 0 < b) (hb : b < 2 ^ 63) : lN a / lN b = lN (a / b) := by
  apply Int64.toInt_inj.mp
  rw [lg_ldiv_nonneg (by rw [pk_lT ha]; omega) (by rw [pk_lT hb]; omega), pk_lT ha, pk_lT hb, pk_lT (Nat.lt_of_le_of_lt (Nat.div_le_self a b) ha)]
  rfl
theorem pk_lRem {a b : Nat} (ha : a < 2 ^ 63) (h0 : 0 < b) (hb : b < 2 ^ 63) : lN a - lN a / lN b * lN b = lN (a % b) := by
  rw [pk_lDiv ha h0 hb, lN_mul, lN_sub (Nat.div_mul_le_self a b)]
  exact congrArg lN (by have := Nat.div_add_mod' a b; omega)
theorem pk_loop {σ : Type} (W : Nat → Nat → σ → Prop) (I : Nat → σ → Prop) (e i0 : Nat) (s : σ) (hi : i0 ≤ e) (h0 : I i0 s) (hx : ∀ n s, I e s → W (n + 1) e s)
    (hs : ∀ n i s, i < e → I i s → (∀ s', I (i + 1) s' → W n (i + 1) s') → W (n + 1) i s) : ∃ n, W n i0 s :=
  ⟨e + 1, loop_i W I e hx hs (e + 1) i0 s hi (by omega) h0⟩
theorem pk_loopD {σ : Type} (W : Nat → Nat → σ → Prop) (I : Nat → σ → Prop) (hx : ∀ n s, I 0 s → W (n + 1) 0 s)
    (hs : ∀ n i s, I (i + 1) s → (∀ s', I i s' → W n i s') → W (n + 1) (i + 1) s) : ∀ (e : Nat) (s : σ), I e s → W (e + 1) e s := by
  intro e
  induction e with
  | zero => exact fun s h => hx 0 s h
  | succ e ih => exact fun s h => hs (e + 1) e s h (fun s' h' => ih s' h')
theorem lp1 {A1 : Type} (W : Nat → A1 → Prop) (I : A1 → Prop) (μ : A1 → Nat) (hs : ∀ (n : Nat) (a1 : A1), I a1 → (∀ (b1 : A1), I b1 → μ b1 < μ a1 → W n b1) → W (n + 1) a1) (a1 : A1) (h : I a1) : ∃ n, W n a1 :=
  loop_m (σ := A1) (fun n s => W n s) (fun s => I s) (fun s => μ s) (fun n s hI hk => hs n s hI (fun b1 h9 hm => hk b1 h9 hm)) a1 h
theorem lp2 {A1 A2 : Type} (W : Nat → A1 → A2 → Prop) (I : A1 → A2 → Prop) (μ : A1 → A2 → Nat) (hs : ∀ (n : Nat) (a1 : A1) (a2 : A2), I a1 a2 → (∀ (b1 : A1) (b2 : A2), I b1 b2 → μ b1 b2 < μ a1 a2 → W n b1 b2) → W (n + 1) a1 a2) (a1 : A1) (a2 : A2) (h : I a1 a2) : ∃ n, W n a1 a2 :=
  loop_m (σ := A1 × A2) (fun n s => W n s.1 s.2) (fun s => I s.1 s.2) (fun s => μ s.1 s.2) (fun n s hI hk => hs n s.1 s.2 hI (fun b1 b2 h9 hm => hk (b1, b2) h9 hm)) (a1, a2) h
theorem lp3 {A1 A2 A3 : Type} (W : Nat → A1 → A2 → A3 → Prop) (I : A1 → A2 → A3 → Prop) (μ : A1 → A2 → A3 → Nat) (hs : ∀ (n : Nat) (a1 : A1) (a2 : A2) (a3 : A3), I a1 a2 a3 → (∀ (b1 : A1) (b2 : A2) (b3 : A3), I b1 b2 b3 → μ b1 b2 b3 < μ a1 a2 a3 → W n b1 b2 b3) → W (n + 1) a1 a2 a3) (a1 : A1) (a2 : A2) (a3 : A3) (h : I a1 a2 a3) : ∃ n, W n a1 a2 a3 :=
  loop_m (σ := A1 × A2 × A3) (fun n s => W n s.1 s.2.1 s.2.2) (fun s => I s.1 s.2.1 s.2.2) (fun s => μ s.1 s.2.1 s.2.2) (fun n s hI hk => hs n s.1 s.2.1 s.2.2 hI (fun b1 b2 b3 h9 hm => hk (b1, b2, b3) h9 hm)) (a1, a2, a3) h
theorem lp4 {A1 A2 A3 A4 : Type} (W : Nat → A1 → A2 → A3 → A4 → Prop) (I : A1 → A2 → A3 → A4 → Prop) (μ : A1 → A2 → A3 → A4 → Nat) (hs : ∀ (n : Nat) (a1 : A1) (a2 : A2) (a3 : A3) (a4 : A4), I a1 a2 a3 a4 → (∀ (b1 : A1) (b2 : A2) (b3 : A3) (b4 : A4), I b1 b2 b3 b4 → μ b1 b2 b3 b4 < μ a1 a2 a3 a4 → W n b1 b2 b3 b4) → W (n + 1) a1 a2 a3 a4) (a1 : A1) (a2 : A2) (a3 : A3) (a4 : A4) (h : I a1 a2 a3 a4) : ∃ n, W n a1 a2 a3 a4 :=
  loop_m (σ := A1 × A2 × A3 × A4) (fun n s => W n s.1 s.2.1 s.2.2.1 s.2.2.2) (fun s => I s.1 s.2.1 s.2.2.1 s.2.2.2) (fun s => μ s.1 s.2.1 s.2.2.1 s.2.2.2) (fun n s hI hk => hs n s.1 s.2.1 s.2.2.1 s.2.2.2 hI (fun b1 b2 b3 b4 h9 hm => hk (b1, b2, b3, b4) h9 hm)) (a1, a2, a3, a4) h
theorem lp5 {A1 A2 A3 A4 A5 : Type} (W : Nat → A1 → A2 → A3 → A4 → A5 → Prop) (I : A1 → A2 → A3 → A4 → A5 → Prop) (μ : A1 → A2 → A3 → A4 → A5 → Nat) (hs : ∀ (n : Nat) (a1 : A1) (a2 : A2) (a3 : A3) (a4 : A4) (a5 : A5), I a1 a2 a3 a4 a5 → (∀ (b1 : A1) (b2 : A2) (b3 : A3) (b4 : A4) (b5 : A5), I b1 b2 b3 b4 b5 → μ b1 b2 b3 b4 b5 < μ a1 a2 a3 a4 a5 → W n b1 b2 b3 b4 b5) → W (n + 1) a1 a2 a3 a4 a5) (a1 : A1) (a2 : A2) (a3 : A3) (a4 : A4) (a5 : A5) (h : I a1 a2 a3 a4 a5) : ∃ n, W n a1 a2 a3 a4 a5 :=
  loop_m (σ := A1 × A2 × A3 × A4 × A5) (fun n s => W n s.1 s.2.1 s.2.2.1 s.2.2.2.1 s.2.2.2.2) (fun s => I s.1 s.2.1 s.2.2.1 s.2.2.2.1 s.2.2.2.2) (fun s => μ s.1 s.2.1 s.2.2.1 s.2.2.2.1 s.2.2.2.2) (fun n s hI hk => hs n s.1 s.2.1 s.2.2.1 s.2.2.2.1 s.2.2.2.2 hI (fun b1 b2 b3 b4 b5 h9 hm => hk (b1, b2, b3, b4, b5) h9 hm)) (a1, a2, a3, a4, a5) h
theorem lp6 {A1 A2 A3 A4 A5 A6 : Type} (W : Nat → A1 → A2 → A3 → A4 → A5 → A6 → Prop) (I : A1 → A2 → A3 → A4 → A5 → A6 → Prop) (μ : A1 → A2 → A3 → A4 → A5 → A6 → Nat) (hs : ∀ (n : Nat) (a1 : A1) (a2 : A2) (a3 : A3) (a4 : A4) (a5 : A5) (a6 : A6), I a1 a2 a3 a4 a5 a6 → (∀ (b1 : A1) (b2 : A2) (b3 : A3) (b4 : A4) (b5 : A5) (b6 : A6), I b1 b2 b3 b4 b5 b6 → μ b1 b2 b3 b4 b5 b6 < μ a1 a2 a3 a4 a5 a6 → W n b1 b2 b3 b4 b5 b6) → W (n + 1) a1 a2 a3 a4 a5 a6) (a1 : A1) (a2 : A2) (a3 : A3) (a4 : A4) (a5 : A5) (a6 : A6) (h : I a1 a2 a3 a4 a5 a6) : ∃ n, W n a1 a2 a3 a4 a5 a6 :=
  loop_m (σ := A1 × A2 × A3 × A4 × A5 × A6) (fun n s => W n s.1 s.2.1 s.2.2.1 s.2.2.2.1 s.2.2.2.2.1 s.2.2.2.2.2) (fun s => I s.1 s.2.1 s.2.2.1 s.2.2.2.1 s.2.2.2.2.1 s.2.2.2.2.2) (fun s => μ s.1 s.2.1 s.2.2.1 s.2.2.2.1 s.2.2.2.2.1 s.2.2.2.2.2) (fun n s hI hk => hs n s.1 s.2.1 s.2.2.1 s.2.2.2.1 s.2.2.2.2.1 s.2.2.2.2.2 hI (fun b1 b2 b3 b4 b5 b6 h9 hm => hk (b1, b2, b3, b4, b5, b6) h9 hm)) (a1, a2, a3, a4, a5, a6) h
theorem lp7 {A1 A2 A3 A4 A5 A6 A7 : Type} (W : Nat → A1 → A2 → A3 → A4 → A5 → A6 → A7 → Prop) (I : A1 → A2 → A3 → A4 → A5 → A6 → A7 → Prop) (μ : A1 → A2 → A3 → A4 → A5 → A6 → A7 → Nat) (hs : ∀ (n : Nat) (a1 : A1) (a2 : A2) (a3 : A3) (a4 : A4) (a5 : A5) (a6 : A6) (a7 : A7), I a1 a2 a3 a4 a5 a6 a7 → (∀ (b1 : A1) (b2 : A2) (b3 : A3) (b4 : A4) (b5 : A5) (b6 : A6) (b7 : A7), I b1 b2 b3 b4 b5 b6 b7 → μ b1 b2 b3 b4 b5 b6 b7 < μ a1 a2 a3 a4 a5 a6 a7 → W n b1 b2 b3 b4 b5 b6 b7) → W (n + 1) a1 a2 a3 a4 a5 a6 a7) (a1 : A1) (a2 : A2) (a3 : A3) (a4 : A4) (a5 : A5) (a6 : A6) (a7 : A7) (h : I a1 a2 a3 a4 a5 a6 a7) : ∃ n, W n a1 a2 a3 a4 a5 a6 a7 :=
  loop_m (σ := A1 × A2 × A3 × A4 × A5 × A6 × A7) (fun n s => W n s.1 s.2.1 s.2.2.1 s.2.2.2.1 s.2.2.2.2.1 s.2.2.2.2.2.1 s.2.2.2.2.2.2) (fun s => I s.1 s.2.1 s.2.2.1 s.2.2.2.1 s.2.2.2.2.1 s.2.2.2.2.2.1 s.2.2.2.2.2.2) (fun s => μ s.1 s.2.1 s.2.2.1 s.2.2.2.1 s.2.2.2.2.1 s.2.2.2.2.2.1 s.2.2.2.2.2.2) (fun n s hI hk => hs n s.1 s.2.1 s.2.2.1 s.2.2.2.1 s.2.2.2.2.1 s.2.2.2.2.2.1 s.2.2.2.2.2.2 hI (fun b1 b2 b3 b4 b5 b6 b7 h9 hm => hk (b1, b2, b3, b4, b5, b6, b7) h9 hm)) (a1, a2, a3, a4, a5, a6, a7) h
theorem lp8 {A1 A2 A3 A4 A5 A6 A7 A8 : Type} (W : Nat → A1 → A2 → A3 → A4 → A5 → A6 → A7 → A8 → Prop) (I : A1 → A2 → A3 → A4 → A5 → A6 → A7 → A8 → Prop) (μ : A1 → A2 → A3 → A4 → A5 → A6 → A7 → A8 → Nat) (hs : ∀ (n : Nat) (a1 : A1) (a2 : A2) (a3 : A3) (a4 : A4) (a5 : A5) (a6 : A6) (a7 : A7) (a8 : A8), I a1 a2 a3 a4 a5 a6 a7 a8 → (∀ (b1 : A1) (b2 : A2) (b3 : A3) (b4 : A4) (b5 : A5) (b6 : A6) (b7 : A7) (b8 : A8), I b1 b2 b3 b4 b5 b6 b7 b8 → μ b1 b2 b3 b4 b5 b6 b7 b8 < μ a1 a2 a3 a4 a5 a6 a7 a8 → W n b1 b2 b3 b4 b5 b6 b7 b8) → W (n + 1) a1 a2 a3 a4 a5 a6 a7 a8) (a1 : A1) (a2 : A2) (a3 : A3) (a4 : A4) (a5 : A5) (a6 : A6) (a7 : A7) (a8 : A8) (h : I a1 a2 a3 a4 a5 a6 a7 a8) : ∃ n, W n a1 a2 a3 a4 a5 a6 a7 a8 :=
  loop_m (σ := A1 × A2 × A3 × A4 × A5 × A6 × A7 × A8) (fun n s => W n s.1 s.2.1 s.2.2.1 s.2.2.2.1 s.2.2.2.2.1 s.2.2.2.2.2.1 s.2.2.2.2.2.2.1 s.2.2.2.2.2.2.2) (fun s => I s.1 s.2.1 s.2.2.1 s.2.2.2.1 s.2.2.2.2.1 s.2.2.2.2.2.1 s.2.2.2.2.2.2.1 s.2.2.2.2.2.2.2) (fun s => μ s.1 s.2.1 s.2.2.1 s.2.2.2.1 s.2.2.2.2.1 s.2.2.2.2.2.1 s.2.2.2.2.2.2.1 s.2.2.2.2.2.2.2) (fun n s hI hk => hs n s.1 s.2.1 s.2.2.1 s.2.2.2.1 s.2.2.2.2.1 s.2.2.2.2.2.1 s.2.2.2.2.2.2.1 s.2.2.2.2.2.2.2 hI (fun b1 b2 b3 b4 b5 b6 b7 b8 h9 hm => hk (b1, b2, b3, b4, b5, b6, b7, b8) h9 hm)) (a1, a2, a3, a4, a5, a6, a7, a8) h
theorem lp9 {A1 A2 A3 A4 A5 A6 A7 A8 A9 : Type} (W : Nat → A1 → A2 → A3 → A4 → A5 → A6 → A7 → A8 → A9 → Prop) (I : A1 → A2 → A3 → A4 → A5 → A6 → A7 → A8 → A9 → Prop) (μ : A1 → A2 → A3 → A4 → A5 → A6 → A7 → A8 → A9 → Nat) (hs : ∀ (n : Nat) (a1 : A1) (a2 : A2) (a3 : A3) (a4 : A4) (a5 : A5) (a6 : A6) (a7 : A7) (a8 : A8) (a9 : A9), I a1 a2 a3 a4 a5 a6 a7 a8 a9 → (∀ (b1 : A1) (b2 : A2) (b3 : A3) (b4 : A4) (b5 : A5) (b6 : A6) (b7 : A7) (b8 : A8) (b9 : A9), I b1 b2 b3 b4 b5 b6 b7 b8 b9 → μ b1 b2 b3 b4 b5 b6 b7 b8 b9 < μ a1 a2 a3 a4 a5 a6 a7 a8 a9 → W n b1 b2 b3 b4 b5 b6 b7 b8 b9) → W (n + 1) a1 a2 a3 a4 a5 a6 a7 a8 a9) (a1 : A1) (a2 : A2) (a3 : A3) (a4 : A4) (a5 : A5) (a6 : A6) (a7 : A7) (a8 : A8) (a9 : A9) (h : I a1 a2 a3 a4 a5 a6 a7 a8 a9) : ∃ n, W n a1 a2 a3 a4 a5 a6 a7 a8 a9 :=
  loop_m (σ := A1 × A2 × A3 × A4 × A5 × A6 × A7 × A8 × A9) (fun n s => W n s.1 s.2.1 s.2.2.1 s.2.2.2.1 s.2.2.2.2.1 s.2.2.2.2.2.1 s.2.2.2.2.2.2.1 s.2.2.2.2.2.2.2.1 s.2.2.2.2.2.2.2.2) (fun s => I s.1 s.2.1 s.2.2.1 s.2.2.2.1 s.2.2.2.2.1 s.2.2.2.2.2.1 s.2.2.2.2.2.2.1 s.2.2.2.2.2.2.2.1 s.2.2.2.2.2.2.2.2) (fun s => μ s.1 s.2.1 s.2.2.1 s.2.2.2.1 s.2.2.2.2.1 s.2.2.2.2.2.1 s.2.2.2.2.2.2.1 s.2.2.2.2.2.2.2.1 s.2.2.2.2.2.2.2.2) (fun n s hI hk => hs n s.1 s.2.1 s.2.2.1 s.2.2.2.1 s.2.2.2.2.1 s.2.2.2.2.2.1 s.2.2.2.2.2.2.1 s.2.2.2.2.2.2.2.1 s.2.2.2.2.2.2.2.2 hI (fun b1 b2 b3 b4 b5 b6 b7 b8 b9 h9 hm => hk (b1, b2, b3, b4, b5, b6, b7, b8, b9) h9 hm)) (a1, a2, a3, a4, a5, a6, a7, a8, a9) h
theorem lp10 {A1 A2 A3 A4 A5 A6 A7 A8 A9 A10 : Type} (W : Nat → A1 → A2 → A3 → A4 → A5 → A6 → A7 → A8 → A9 → A10 → Prop) (I : A1 → A2 → A3 → A4 → A5 → A6 → A7 → A8 → A9 → A10 → Prop) (μ : A1 → A2 → A3 → A4 → A5 → A6 → A7 → A8 → A9 → A10 → Nat) (hs : ∀ (n : Nat) (a1 : A1) (a2 : A2) (a3 : A3) (a4 : A4) (a5 : A5) (a6 : A6) (a7 : A7) (a8 : A8) (a9 : A9) (a10 : A10), I a1 a2 a3 a4 a5 a6 a7 a8 a9 a10 → (∀ (b1 : A1) (b2 : A2) (b3 : A3) (b4 : A4) (b5 : A5) (b6 : A6) (b7 : A7) (b8 : A8) (b9 : A9) (b10 : A10), I b1 b2 b3 b4 b5 b6 b7 b8 b9 b10 → μ b1 b2 b3 b4 b5 b6 b7 b8 b9 b10 < μ a1 a2 a3 a4 a5 a6 a7 a8 a9 a10 → W n b1 b2 b3 b4 b5 b6 b7 b8 b9 b10) → W (n + 1) a1 a2 a3 a4 a5 a6 a7 a8 a9 a10) (a1 : A1) (a2 : A2) (a3 : A3) (a4 : A4) (a5 : A5) (a6 : A6) (a7 : A7) (a8 : A8) (a9 : A9) (a10 : A10) (h : I a1 a2 a3 a4 a5 a6 a7 a8 a9 a10) : ∃ n, W n a1 a2 a3 a4 a5 a6 a7 a8 a9 a10 :=
  loop_m (σ := A1 × A2 × A3 × A4 × A5 × A6 × A7 × A8 × A9 × A10) (fun n s => W n s.1 s.2.1 s.2.2.1 s.2.2.2.1 s.2.2.2.2.1 s.2.2.2.2.2.1 s.2.2.2.2.2.2.1 s.2.2.2.2.2.2.2.1 s.2.2.2.2.2.2.2.2.1 s.2.2.2.2.2.2.2.2.2) (fun s => I s.1 s.2.1 s.2.2.1 s.2.2.2.1 s.2.2.2.2.1 s.2.2.2.2.2.1 s.2.2.2.2.2.2.1 s.2.2.2.2.2.2.2.1 s.2.2.2.2.2.2.2.2.1 s.2.2.2.2.2.2.2.2.2) (fun s => μ s.1 s.2.1 s.2.2.1 s.2.2.2.1 s.2.2.2.2.1 s.2.2.2.2.2.1 s.2.2.2.2.2.2.1 s.2.2.2.2.2.2.2.1 s.2.2.2.2.2.2.2.2.1 s.2.2.2.2.2.2.2.2.2) (fun n s hI hk => hs n s.1 s.2.1 s.2.2.1 s.2.2.2.1 s.2.2.2.2.1 s.2.2.2.2.2.1 s.2.2.2.2.2.2.1 s.2.2.2.2.2.2.2.1 s.2.2.2.2.2.2.2.2.1 s.2.2.2.2.2.2.2.2.2 hI (fun b1 b2 b3 b4 b5 b6 b7 b8 b9 b10 h9 hm => hk (b1, b2, b3, b4, b5, b6, b7, b8, b9, b10) h9 hm)) (a1, a2, a3, a4, a5, a6, a7, a8, a9, a10) h
theorem lp11 {A1 A2 A3 A4 A5 A6 A7 A8 A9 A10 A11 : Type} (W : Nat → A1 → A2 → A3 → A4 → A5 → A6 → A7 → A8 → A9 → A10 → A11 → Prop) (I : A1 → A2 → A3 → A4 → A5 → A6 → A7 → A8 → A9 → A10 → A11 → Prop) (μ : A1 → A2 → A3 → A4 → A5 → A6 → A7 → A8 → A9 → A10 → A11 → Nat) (hs : ∀ (n : Nat) (a1 : A1) (a2 : A2) (a3 : A3) (a4 : A4) (a5 : A5) (a6 : A6) (a7 : A7) (a8 : A8) (a9 : A9) (a10 : A10) (a11 : A11), I a1 a2 a3 a4 a5 a6 a7 a8 a9 a10 a11 → (∀ (b1 : A1) (b2 : A2) (b3 : A3) (b4 : A4) (b5 : A5) (b6 : A6) (b7 : A7) (b8 : A8) (b9 : A9) (b10 : A10) (b11 : A11), I b1 b2 b3 b4 b5 b6 b7 b8 b9 b10 b11 → μ b1 b2 b3 b4 b5 b6 b7 b8 b9 b10 b11 < μ a1 a2 a3 a4 a5 a6 a7 a8 a9 a10 a11 → W n b1 b2 b3 b4 b5 b6 b7 b8 b9 b10 b11) → W (n + 1) a1 a2 a3 a4 a5 a6 a7 a8 a9 a10 a11) (a1 : A1) (a2 : A2) (a3 : A3) (a4 : A4) (a5 : A5) (a6 : A6) (a7 : A7) (a8 : A8) (a9 : A9) (a10 : A10) (a11 : A11) (h : I a1 a2 a3 a4 a5 a6 a7 a8 a9 a10 a11) : ∃ n, W n a1 a2 a3 a4 a5 a6 a7 a8 a9 a10 a11 :=
  loop_m (σ := A1 × A2 × A3 × A4 × A5 × A6 × A7 × A8 × A9 × A10 × A11) (fun n s => W n s.1 s.2.1 s.2.2.1 s.2.2.2.1 s.2.2.2.2.1 s.2.2.2.2.2.1 s.2.2.2.2.2.2.1 s.2.2.2.2.2.2.2.1 s.2.2.2.2.2.2.2.2.1 s.2.2.2.2.2.2.2.2.2.1 s.2.2.2.2.2.2.2.2.2.2) (fun s => I s.1 s.2.1 s.2.2.1 s.2.2.2.1 s.2.2.2.2.1 s.2.2.2.2.2.1 s.2.2.2.2.2.2.1 s.2.2.2.2.2.2.2.1 s.2.2.2.2.2.2.2.2.1 s.2.2.2.2.2.2.2.2.2.1 s.2.2.2.2.2.2.2.2.2.2) (fun s => μ s.1 s.2.1 s.2.2.1 s.2.2.2.1 s.2.2.2.2.1 s.2.2.2.2.2.1 s.2.2.2.2.2.2.1 s.2.2.2.2.2.2.2.1 s.2.2.2.2.2.2.2.2.1 s.2.2.2.2.2.2.2.2.2.1 s.2.2.2.2.2.2.2.2.2.2) (fun n s hI hk => hs n s.1 s.2.1 s.2.2.1 s.2.2.2.1 s.2.2.2.2.1 s.2.2.2.2.2.1 s.2.2.2.2.2.2.1 s.2.2.2.2.2.2.2.1 s.2.2.2.2.2.2.2.2.1 s.2.2.2.2.2.2.2.2.2.1 s.2.2.2.2.2.2.2.2.2.2 hI (fun b1 b2 b3 b4 b5 b6 b7 b8 b9 b10 b11 h9 hm => hk (b1, b2, b3, b4, b5, b6, b7, b8, b9, b10, b11) h9 hm)) (a1, a2, a3, a4, a5, a6, a7, a8, a9, a10, a11) h
theorem lp12 {A1 A2 A3 A4 A5 A6 A7 A8 A9 A10 A11 A12 : Type} (W : Nat → A1 → A2 → A3 → A4 → A5 → A6 → A7 → A8 → A9 → A10 → A11 → A12 → Prop) (I : A1 → A2 → A3 → A4 → A5 → A6 → A7 → A8 → A9 → A10 → A11 → A12 → Prop) (μ : A1 → A2 → A3 → A4 → A5 → A6 → A7 → A8 → A9 → A10 → A11 → A12 → Nat) (hs : ∀ (n : Nat) (a1 : A1) (a2 : A2) (a3 : A3) (a4 : A4) (a5 : A5) (a6 : A6) (a7 : A7) (a8 : A8) (a9 : A9) (a10 : A10) (a11 : A11) (a12 : A12), I a1 a2 a3 a4 a5 a6 a7 a8 a9 a10 a11 a12 → (∀ (b1 : A1) (b2 : A2) (b3 : A3) (b4 : A4) (b5 : A5) (b6 : A6) (b7 : A7) (b8 : A8) (b9 : A9) (b10 : A10) (b11 : A11) (b12 : A12), I b1 b2 b3 b4 b5 b6 b7 b8 b9 b10 b11 b12 → μ b1 b2 b3 b4 b5 b6 b7 b8 b9 b10 b11 b12 < μ a1 a2 a3 a4 a5 a6 a7 a8 a9 a10 a11 a12 → W n b1 b2 b3 b4 b5 b6 b7 b8 b9 b10 b11 b12) → W (n + 1) a1 a2 a3 a4 a5 a6 a7 a8 a9 a10 a11 a12) (a1 : A1) (a2 : A2) (a3 : A3) (a4 : A4) (a5 : A5) (a6 : A6) (a7 : A7) (a8 : A8) (a9 : A9) (a10 : A10) (a11 : A11) (a12 : A12) (h : I a1 a2 a3 a4 a5 a6 a7 a8 a9 a10 a11 a12) : ∃ n, W n a1 a2 a3 a4 a5 a6 a7 a8 a9 a10 a11 a12 :=
  loop_m (σ := A1 × A2 × A3 × A4 × A5 × A6 × A7 × A8 × A9 × A10 × A11 × A12) (fun n s => W n s.1 s.2.1 s.2.2.1 s.2.2.2.1 s.2.2.2.2.1 s.2.2.2.2.2.1 s.2.2.2.2.2.2.1 s.2.2.2.2.2.2.2.1 s.2.2.2.2.2.2.2.2.1 s.2.2.2.2.2.2.2.2.2.1 s.2.2.2.2.2.2.2.2.2.2.1 s.2.2.2.2.2.2.2.2.2.2.2) (fun s => I s.1 s.2.1 s.2.2.1 s.2.2.2.1 s.2.2.2.2.1 s.2.2.2.2.2.1 s.2.2.2.2.2.2.1 s.2.2.2.2.2.2.2.1 s.2.2.2.2.2.2.2.2.1 s.2.2.2.2.2.2.2.2.2.1 s.2.2.2.2.2.2.2.2.2.2.1 s.2.2.2.2.2.2.2.2.2.2.2) (fun s => μ s.1 s.2.1 s.2.2.1 s.2.2.2.1 s.2.2.2.2.1 s.2.2.2.2.2.1 s.2.2.2.2.2.2.1 s.2.2.2.2.2.2.2.1 s.2.2.2.2.2.2.2.2.1 s.2.2.2.2.2.2.2.2.2.1 s.2.2.2.2.2.2.2.2.2.2.1 s.2.2.2.2.2.2.2.2.2.2.2) (fun n s hI hk => hs n s.1 s.2.1 s.2.2.1 s.2.2.2.1 s.2.2.2.2.1 s.2.2.2.2.2.1 s.2.2.2.2.2.2.1 s.2.2.2.2.2.2.2.1 s.2.2.2.2.2.2.2.2.1 s.2.2.2.2.2.2.2.2.2.1 s.2.2.2.2.2.2.2.2.2.2.1 s.2.2.2.2.2.2.2.2.2.2.2 hI (fun b1 b2 b3 b4 b5 b6 b7 b8 b9 b10 b11 b12 h9 hm => hk (b1, b2, b3, b4, b5, b6, b7, b8, b9, b10, b11, b12) h9 hm)) (a1, a2, a3, a4, a5, a6, a7, a8, a9, a10, a11, a12) h
theorem lp13 {A1 A2 A3 A4 A5 A6 A7 A8 A9 A10 A11 A12 A13 : Type} (W : Nat → A1 → A2 → A3 → A4 → A5 → A6 → A7 → A8 → A9 → A10 → A11 → A12 → A13 → Prop) (I : A1 → A2 → A3 → A4 → A5 → A6 → A7 → A8 → A9 → A10 → A11 → A12 → A13 → Prop) (μ : A1 → A2 → A3 → A4 → A5 → A6 → A7 → A8 → A9 → A10 → A11 → A12 → A13 → Nat) (hs : ∀ (n : Nat) (a1 : A1) (a2 : A2) (a3 : A3) (a4 : A4) (a5 : A5) (a6 : A6) (a7 : A7) (a8 : A8) (a9 : A9) (a10 : A10) (a11 : A11) (a12 : A12) (a13 : A13), I a1 a2 a3 a4 a5 a6 a7 a8 a9 a10 a11 a12 a13 → (∀ (b1 : A1) (b2 : A2) (b3 : A3) (b4 : A4) (b5 : A5) (b6 : A6) (b7 : A7) (b8 : A8) (b9 : A9) (b10 : A10) (b11 : A11) (b12 : A12) (b13 : A13), I b1 b2 b3 b4 b5 b6 b7 b8 b9 b10 b11 b12 b13 → μ b1 b2 b3 b4 b5 b6 b7 b8 b9 b10 b11 b12 b13 < μ a1 a2 a3 a4 a5 a6 a7 a8 a9 a10 a11 a12 a13 → W n b1 b2 b3 b4 b5 b6 b7 b8 b9 b10 b11 b12 b13) → W (n + 1) a1 a2 a3 a4 a5 a6 a7 a8 a9 a10 a11 a12 a13) (a1 : A1) (a2 : A2) (a3 : A3) (a4 : A4) (a5 : A5) (a6 : A6) (a7 : A7) (a8 : A8) (a9 : A9) (a10 : A10) (a11 : A11) (a12 : A12) (a13 : A13) (h : I a1 a2 a3 a4 a5 a6 a7 a8 a9 a10 a11 a12 a13) : ∃ n, W n a1 a2 a3 a4 a5 a6 a7 a8 a9 a10 a11 a12 a13 :=
  loop_m (σ := A1 × A2 × A3 × A4 × A5 × A6 × A7 × A8 × A9 × A10 × A11 × A12 × A13) (fun n s => W n s.1 s.2.1 s.2.2.1 s.2.2.2.1 s.2.2.2.2.1 s.2.2.2.2.2.1 s.2.2.2.2.2.2.1 s.2.2.2.2.2.2.2.1 s.2.2.2.2.2.2.2.2.1 s.2.2.2.2.2.2.2.2.2.1 s.2.2.2.2.2.2.2.2.2.2.1 s.2.2.2.2.2.2.2.2.2.2.2.1 s.2.2.2.2.2.2.2.2.2.2.2.2) (fun s => I s.1 s.2.1 s.2.2.1 s.2.2.2.1 s.2.2.2.2.1 s.2.2.2.2.2.1 s.2.2.2.2.2.2.1 s.2.2.2.2.2.2.2.1 s.2.2.2.2.2.2.2.2.1 s.2.2.2.2.2.2.2.2.2.1 s.2.2.2.2.2.2.2.2.2.2.1 s.2.2.2.2.2.2.2.2.2.2.2.1 s.2.2.2.2.2.2.2.2.2.2.2.2) (fun s => μ s.1 s.2.1 s.2.2.1 s.2.2.2.1 s.2.2.2.2.1 s.2.2.2.2.2.1 s.2.2.2.2.2.2.1 s.2.2.2.2.2.2.2.1 s.2.2.2.2.2.2.2.2.1 s.2.2.2.2.2.2.2.2.2.1 s.2.2.2.2.2.2.2.2.2.2.1 s.2.2.2.2.2.2.2.2.2.2.2.1 s.2.2.2.2.2.2.2.2.2.2.2.2) (fun n s hI hk => hs n s.1 s.2.1 s.2.2.1 s.2.2.2.1 s.2.2.2.2.1 s.2.2.2.2.2.1 s.2.2.2.2.2.2.1 s.2.2.2.2.2.2.2.1 s.2.2.2.2.2.2.2.2.1 s.2.2.2.2.2.2.2.2.2.1 s.2.2.2.2.2.2.2.2.2.2.1 s.2.2.2.2.2.2.2.2.2.2.2.1 s.2.2.2.2.2.2.2.2.2.2.2.2 hI (fun b1 b2 b3 b4 b5 b6 b7 b8 b9 b10 b11 b12 b13 h9 hm => hk (b1, b2, b3, b4, b5, b6, b7, b8, b9, b10, b11, b12, b13) h9 hm)) (a1, a2, a3, a4, a5, a6, a7, a8, a9, a10, a11, a12, a13) h
theorem lp14 {A1 A2 A3 A4 A5 A6 A7 A8 A9 A10 A11 A12 A13 A14 : Type} (W : Nat → A1 → A2 → A3 → A4 → A5 → A6 → A7 → A8 → A9 → A10 → A11 → A12 → A13 → A14 → Prop) (I : A1 → A2 → A3 → A4 → A5 → A6 → A7 → A8 → A9 → A10 → A11 → A12 → A13 → A14 → Prop) (μ : A1 → A2 → A3 → A4 → A5 → A6 → A7 → A8 → A9 → A10 → A11 → A12 → A13 → A14 → Nat) (hs : ∀ (n : Nat) (a1 : A1) (a2 : A2) (a3 : A3) (a4 : A4) (a5 : A5) (a6 : A6) (a7 : A7) (a8 : A8) (a9 : A9) (a10 : A10) (a11 : A11) (a12 : A12) (a13 : A13) (a14 : A14), I a1 a2 a3 a4 a5 a6 a7 a8 a9 a10 a11 a12 a13 a14 → (∀ (b1 : A1) (b2 : A2) (b3 : A3) (b4 : A4) (b5 : A5) (b6 : A6) (b7 : A7) (b8 : A8) (b9 : A9) (b10 : A10) (b11 : A11) (b12 : A12) (b13 : A13) (b14 : A14), I b1 b2 b3 b4 b5 b6 b7 b8 b9 b10 b11 b12 b13 b14 → μ b1 b2 b3 b4 b5 b6 b7 b8 b9 b10 b11 b12 b13 b14 < μ a1 a2 a3 a4 a5 a6 a7 a8 a9 a10 a11 a12 a13 a14 → W n b1 b2 b3 b4 b5 b6 b7 b8 b9 b10 b11 b12 b13 b14) → W (n + 1) a1 a2 a3 a4 a5 a6 a7 a8 a9 a10 a11 a12 a13 a14) (a1 : A1) (a2 : A2) (a3 : A3) (a4 : A4) (a5 : A5) (a6 : A6) (a7 : A7) (a8 : A8) (a9 : A9) (a10 : A10) (a11 : A11) (a12 : A12) (a13 : A13) (a14 : A14) (h : I a1 a2 a3 a4 a5 a6 a7 a8 a9 a10 a11 a12 a13 a14) : ∃ n, W n a1 a2 a3 a4 a5 a6 a7 a8 a9 a10 a11 a12 a13 a14 :=
  loop_m (σ := A1 × A2 × A3 × A4 × A5 × A6 × A7 × A8 × A9 × A10 × A11 × A12 × A13 × A14) (fun n s => W n s.1 s.2.1 s.2.2.1 s.2.2.2.1 s.2.2.2.2.1 s.2.2.2.2.2.1 s.2.2.2.2.2.2.1 s.2.2.2.2.2.2.2.1 s.2.2.2.2.2.2.2.2.1 s.2.2.2.2.2.2.2.2.2.1 s.2.2.2.2.2.2.2.2.2.2.1 s.2.2.2.2.2.2.2.2.2.2.2.1 s.2.2.2.2.2.2.2.2.2.2.2.2.1 s.2.2.2.2.2.2.2.2.2.2.2.2.2) (fun s => I s.1 s.2.1 s.2.2.1 s.2.2.2.1 s.2.2.2.2.1 s.2.2.2.2.2.1 s.2.2.2.2.2.2.1 s.2.2.2.2.2.2.2.1 s.2.2.2.2.2.2.2.2.1 s.2.2.2.2.2.2.2.2.2.1 s.2.2.2.2.2.2.2.2.2.2.1 s.2.2.2.2.2.2.2.2.2.2.2.1 s.2.2.2.2.2.2.2.2.2.2.2.2.1 s.2.2.2.2.2.2.2.2.2.2.2.2.2) (fun s => μ s.1 s.2.1 s.2.2.1 s.2.2.2.1 s.2.2.2.2.1 s.2.2.2.2.2.1 s.2.2.2.2.2.2.1 s.2.2.2.2.2.2.2.1 s.2.2.2.2.2.2.2.2.1 s.2.2.2.2.2.2.2.2.2.1 s.2.2.2.2.2.2.2.2.2.2.1 s.2.2.2.2.2.2.2.2.2.2.2.1 s.2.2.2.2.2.2.2.2.2.2.2.2.1 s.2.2.2.2.2.2.2.2.2.2.2.2.2) (fun n s hI hk => hs n s.1 s.2.1 s.2.2.1 s.2.2.2.1 s.2.2.2.2.1 s.2.2.2.2.2.1 s.2.2.2.2.2.2.1 s.2.2.2.2.2.2.2.1 s.2.2.2.2.2.2.2.2.1 s.2.2.2.2.2.2.2.2.2.1 s.2.2.2.2.2.2.2.2.2.2.1 s.2.2.2.2.2.2.2.2.2.2.2.1 s.2.2.2.2.2.2.2.2.2.2.2.2.1 s.2.2.2.2.2.2.2.2.2.2.2.2.2 hI (fun b1 b2 b3 b4 b5 b6 b7 b8 b9 b10 b11 b12 b13 b14 h9 hm => hk (b1, b2, b3, b4, b5, b6, b7, b8, b9, b10, b11, b12, b13, b14) h9 hm)) (a1, a2, a3, a4, a5, a6, a7, a8, a9, a10, a11, a12, a13, a14) h
theorem lp15 {A1 A2 A3 A4 A5 A6 A7 A8 A9 A10 A11 A12 A13 A14 A15 : Type} (W : Nat → A1 → A2 → A3 → A4 → A5 → A6 → A7 → A8 → A9 → A10 → A11 → A12 → A13 → A14 → A15 → Prop) (I : A1 → A2 → A3 → A4 → A5 → A6 → A7 → A8 → A9 → A10 → A11 → A12 → A13 → A14 → A15 → Prop) (μ : A1 → A2 → A3 → A4 → A5 → A6 → A7 → A8 → A9 → A10 → A11 → A12 → A13 → A14 → A15 → Nat) (hs : ∀ (n : Nat) (a1 : A1) (a2 : A2) (a3 : A3) (a4 : A4) (a5 : A5) (a6 : A6) (a7 : A7) (a8 : A8) (a9 : A9) (a10 : A10) (a11 : A11) (a12 : A12) (a13 : A13) (a14 : A14) (a15 : A15), I a1 a2 a3 a4 a5 a6 a7 a8 a9 a10 a11 a12 a13 a14 a15 → (∀ (b1 : A1) (b2 : A2) (b3 : A3) (b4 : A4) (b5 : A5) (b6 : A6) (b7 : A7) (b8 : A8) (b9 : A9) (b10 : A10) (b11 : A11) (b12 : A12) (b13 : A13) (b14 : A14) (b15 : A15), I b1 b2 b3 b4 b5 b6 b7 b8 b9 b10 b11 b12 b13 b14 b15 → μ b1 b2 b3 b4 b5 b6 b7 b8 b9 b10 b11 b12 b13 b14 b15 < μ a1 a2 a3 a4 a5 a6 a7 a8 a9 a10 a11 a12 a13 a14 a15 → W n b1 b2 b3 b4 b5 b6 b7 b8 b9 b10 b11 b12 b13 b14 b15) → W (n + 1) a1 a2 a3 a4 a5 a6 a7 a8 a9 a10 a11 a12 a13 a14 a15) (a1 : A1) (a2 : A2) (a3 : A3) (a4 : A4) (a5 : A5) (a6 : A6) (a7 : A7) (a8 : A8) (a9 : A9) (a10 : A10) (a11 : A11) (a12 : A12) (a13 : A13) (a14 : A14) (a15 : A15) (h : I a1 a2 a3 a4 a5 a6 a7 a8 a9 a10 a11 a12 a13 a14 a15) : ∃ n, W n a1 a2 a3 a4 a5 a6 a7 a8 a9 a10 a11 a12 a13 a14 a15 :=
  loop_m (σ := A1 × A2 × A3 × A4 × A5 × A6 × A7 × A8 × A9 × A10 × A11 × A12 × A13 × A14 × A15) (fun n s => W n s.1 s.2.1 s.2.2.1 s.2.2.2.1 s.2.2.2.2.1 s.2.2.2.2.2.1 s.2.2.2.2.2.2.1 s.2.2.2.2.2.2.2.1 s.2.2.2.2.2.2.2.2.1 s.2.2.2.2.2.2.2.2.2.1 s.2.2.2.2.2.2.2.2.2.2.1 s.2.2.2.2.2.2.2.2.2.2.2.1 s.2.2.2.2.2.2.2.2.2.2.2.2.1 s.2.2.2.2.2.2.2.2.2.2.2.2.2.1 s.2.2.2.2.2.2.2.2.2.2.2.2.2.2) (fun s => I s.1 s.2.1 s.2.2.1 s.2.2.2.1 s.2.2.2.2.1 s.2.2.2.2.2.1 s.2.2.2.2.2.2.1 s.2.2.2.2.2.2.2.1 s.2.2.2.2.2.2.2.2.1 s.2.2.2.2.2.2.2.2.2.1 s.2.2.2.2.2.2.2.2.2.2.1 s.2.2.2.2.2.2.2.2.2.2.2.1 s.2.2.2.2.2.2.2.2.2.2.2.2.1 s.2.2.2.2.2.2.2.2.2.2.2.2.2.1 s.2.2.2.2.2.2.2.2.2.2.2.2.2.2) (fun s => μ s.1 s.2.1 s.2.2.1 s.2.2.2.1 s.2.2.2.2.1 s.2.2.2.2.2.1 s.2.2.2.2.2.2.1 s.2.2.2.2.2.2.2.1 s.2.2.2.2.2.2.2.2.1 s.2.2.2.2.2.2.2.2.2.1 s.2.2.2.2.2.2.2.2.2.2.1 s.2.2.2.2.2.2.2.2.2.2.2.1 s.2.2.2.2.2.2.2.2.2.2.2.2.1 s.2.2.2.2.2.2.2.2.2.2.2.2.2.1 s.2.2.2.2.2.2.2.2.2.2.2.2.2.2) (fun n s hI hk => hs n s.1 s.2.1 s.2.2.1 s.2.2.2.1 s.2.2.2.2.1 s.2.2.2.2.2.1 s.2.2.2.2.2.2.1 s.2.2.2.2.2.2.2.1 s.2.2.2.2.2.2.2.2.1 s.2.2.2.2.2.2.2.2.2.1 s.2.2.2.2.2.2.2.2.2.2.1 s.2.2.2.2.2.2.2.2.2.2.2.1 s.2.2.2.2.2.2.2.2.2.2.2.2.1 s.2.2.2.2.2.2.2.2.2.2.2.2.2.1 s.2.2.2.2.2.2.2.2.2.2.2.2.2.2 hI (fun b1 b2 b3 b4 b5 b6 b7 b8 b9 b10 b11 b12 b13 b14 b15 h9 hm => hk (b1, b2, b3, b4, b5, b6, b7, b8, b9, b10, b11, b12, b13, b14, b15) h9 hm)) (a1, a2, a3, a4, a5, a6, a7, a8, a9, a10, a11, a12, a13, a14, a15) h
theorem lp16 {A1 A2 A3 A4 A5 A6 A7 A8 A9 A10 A11 A12 A13 A14 A15 A16 : Type} (W : Nat → A1 → A2 → A3 → A4 → A5 → A6 → A7 → A8 → A9 → A10 → A11 → A12 → A13 → A14 → A15 → A16 → Prop) (I : A1 → A2 → A3 → A4 → A5 → A6 → A7 → A8 → A9 → A10 → A11 → A12 → A13 → A14 → A15 → A16 → Prop) (μ : A1 → A2 → A3 → A4 → A5 → A6 → A7 → A8 → A9 → A10 → A11 → A12 → A13 → A14 → A15 → A16 → Nat) (hs : ∀ (n : Nat) (a1 : A1) (a2 : A2) (a3 : A3) (a4 : A4) (a5 : A5) (a6 : A6) (a7 : A7) (a8 : A8) (a9 : A9) (a10 : A10) (a11 : A11) (a12 : A12) (a13 : A13) (a14 : A14) (a15 : A15) (a16 : A16), I a1 a2 a3 a4 a5 a6 a7 a8 a9 a10 a11 a12 a13 a14 a15 a16 → (∀ (b1 : A1) (b2 : A2) (b3 : A3) (b4 : A4) (b5 : A5) (b6 : A6) (b7 : A7) (b8 : A8) (b9 : A9) (b10 : A10) (b11 : A11) (b12 : A12) (b13 : A13) (b14 : A14) (b15 : A15) (b16 : A16), I b1 b2 b3 b4 b5 b6 b7 b8 b9 b10 b11 b12 b13 b14 b15 b16 → μ b1 b2 b3 b4 b5 b6 b7 b8 b9 b10 b11 b12 b13 b14 b15 b16 < μ a1 a2 a3 a4 a5 a6 a7 a8 a9 a10 a11 a12 a13 a14 a15 a16 → W n b1 b2 b3 b4 b5 b6 b7 b8 b9 b10 b11 b12 b13 b14 b15 b16) → W (n + 1) a1 a2 a3 a4 a5 a6 a7 a8 a9 a10 a11 a12 a13 a14 a15 a16) (a1 : A1) (a2 : A2) (a3 : A3) (a4 : A4) (a5 : A5) (a6 : A6) (a7 : A7) (a8 : A8) (a9 : A9) (a10 : A10) (a11 : A11) (a12 : A12) (a13 : A13) (a14 : A14) (a15 : A15) (a16 : A16) (h : I a1 a2 a3 a4 a5 a6 a7 a8 a9 a10 a11 a12 a13 a14 a15 a16) : ∃ n, W n a1 a2 a3 a4 a5 a6 a7 a8 a9 a10 a11 a12 a13 a14 a15 a16 :=
  loop_m (σ := A1 × A2 × A3 × A4 × A5 × A6 × A7 × A8 × A9 × A10 × A11 × A12 × A13 × A14 × A15 × A16) (fun n s => W n s.1 s.2.1 s.2.2.1 s.2.2.2.1 s.2.2.2.2.1 s.2.2.2.2.2.1 s.2.2.2.2.2.2.1 s.2.2.2.2.2.2.2.1 s.2.2.2.2.2.2.2.2.1 s.2.2.2.2.2.2.2.2.2.1 s.2.2.2.2.2.2.2.2.2.2.1 s.2.2.2.2.2.2.2.2.2.2.2.1 s.2.2.2.2.2.2.2.2.2.2.2.2.1 s.2.2.2.2.2.2.2.2.2.2.2.2.2.1 s.2.2.2.2.2.2.2.2.2.2.2.2.2.2.1 s.2.2.2.2.2.2.2.2.2.2.2.2.2.2.2) (fun s => I s.1 s.2.1 s.2.2.1 s.2.2.2.1 s.2.2.2.2.1 s.2.2.2.2.2.1 s.2.2.2.2.2.2.1 s.2.2.2.2.2.2.2.1 s.2.2.2.2.2.2.2.2.1 s.2.2.2.2.2.2.2.2.2.1 s.2.2.2.2.2.2.2.2.2.2.1 s.2.2.2.2.2.2.2.2.2.2.2.1 s.2.2.2.2.2.2.2.2.2.2.2.2.1 s.2.2.2.2.2.2.2.2.2.2.2.2.2.1 s.2.2.2.2.2.2.2.2.2.2.2.2.2.2.1 s.2.2.2.2.2.2.2.2.2.2.2.2.2.2.2) (fun s => μ s.1 s.2.1 s.2.2.1 s.2.2.2.1 s.2.2.2.2.1 s.2.2.2.2.2.1 s.2.2.2.2.2.2.1 s.2.2.2.2.2.2.2.1 s.2.2.2.2.2.2.2.2.1 s.2.2.2.2.2.2.2.2.2.1 s.2.2.2.2.2.2.2.2.2.2.1 s.2.2.2.2.2.2.2.2.2.2.2.1 s.2.2.2.2.2.2.2.2.2.2.2.2.1 s.2.2.2.2.2.2.2.2.2.2.2.2.2.1 s.2.2.2.2.2.2.2.2.2.2.2.2.2.2.1 s.2.2.2.2.2.2.2.2.2.2.2.2.2.2.2) (fun n s hI hk => hs n s.1 s.2.1 s.2.2.1 s.2.2.2.1 s.2.2.2.2.1 s.2.2.2.2.2.1 s.2.2.2.2.2.2.1 s.2.2.2.2.2.2.2.1 s.2.2.2.2.2.2.2.2.1 s.2.2.2.2.2.2.2.2.2.1 s.2.2.2.2.2.2.2.2.2.2.1 s.2.2.2.2.2.2.2.2.2.2.2.1 s.2.2.2.2.2.2.2.2.2.2.2.2.1 s.2.2.2.2.2.2.2.2.2.2.2.2.2.1 s.2.2.2.2.2.2.2.2.2.2.2.2.2.2.1 s.2.2.2.2.2.2.2.2.2.2.2.2.2.2.2 hI (fun b1 b2 b3 b4 b5 b6 b7 b8 b9 b10 b11 b12 b13 b14 b15 b16 h9 hm => hk (b1, b2, b3, b4, b5, b6, b7, b8, b9, b10, b11, b12, b13, b14, b15, b16) h9 hm)) (a1, a2, a3, a4, a5, a6, a7, a8, a9, a10, a11, a12, a13, a14, a15, a16) h
theorem pk_least (P : Nat → Prop) (h : ∃ k, P k) : ∃ k, P k ∧ ∀ j, j < k → ¬ P j := by
  obtain ⟨k, hk⟩ := h
  induction k using Nat.strongRecOn with
  | ind k ih =>
    by_cases e : ∃ j, j < k ∧ P j
    · obtain ⟨j, hj, pj⟩ := e
      exact ih j hj pj
    · exact ⟨k, hk, fun j hj pj => e ⟨j, hj, pj⟩⟩
theorem rp1 {ρ A1 : Type} (W : Nat → (ρ → Prop) → A1 → Prop) (ok : A1 → Prop) (μ : A1 → Nat) (val : A1 → ρ)
    (hs : ∀ (d : Nat) (post : ρ → Prop) (a1 : A1), ok a1 → post (val a1) → (∀ (post' : ρ → Prop) (b1 : A1), ok b1 → μ b1 < μ a1 → post' (val b1) → W d post' b1) → W (d + 1) post a1) :
    ∀ (d : Nat) (post : ρ → Prop) (a1 : A1), ok a1 → μ a1 < d → post (val a1) → W d post a1 := by
  intro d
  induction d with
  | zero => intro post a1 _ h; omega
  | succ d ih =>
    intro post a1 ho hm hp
    exact hs d post a1 ho hp (fun post' b1 ho' hm' hp' => ih post' b1 ho' (by omega) hp')
theorem rp2 {ρ A1 A2 : Type} (W : Nat → (ρ → Prop) → A1 → A2 → Prop) (ok : A1 → A2 → Prop) (μ : A1 → A2 → Nat) (val : A1 → A2 → ρ)
    (hs : ∀ (d : Nat) (post : ρ → Prop) (a1 : A1) (a2 : A2), ok a1 a2 → post (val a1 a2) → (∀ (post' : ρ → Prop) (b1 : A1) (b2 : A2), ok b1 b2 → μ b1 b2 < μ a1 a2 → post' (val b1 b2) → W d post' b1 b2) → W (d + 1) post a1 a2) :
    ∀ (d : Nat) (post : ρ → Prop) (a1 : A1) (a2 : A2), ok a1 a2 → μ a1 a2 < d → post (val a1 a2) → W d post a1 a2 := by
  intro d
  induction d with
  | zero => intro post a1 a2 _ h; omega
  | succ d ih =>
    intro post a1 a2 ho hm hp
    exact hs d post a1 a2 ho hp (fun post' b1 b2 ho' hm' hp' => ih post' b1 b2 ho' (by omega) hp')
theorem rp3 {ρ A1 A2 A3 : Type} (W : Nat → (ρ → Prop) → A1 → A2 → A3 → Prop) (ok : A1 → A2 → A3 → Prop) (μ : A1 → A2 → A3 → Nat) (val : A1 → A2 → A3 → ρ)
    (hs : ∀ (d : Nat) (post : ρ → Prop) (a1 : A1) (a2 : A2) (a3 : A3), ok a1 a2 a3 → post (val a1 a2 a3) → (∀ (post' : ρ → Prop) (b1 : A1) (b2 : A2) (b3 : A3), ok b1 b2 b3 → μ b1 b2 b3 < μ a1 a2 a3 → post' (val b1 b2 b3) → W d post' b1 b2 b3) → W (d + 1) post a1 a2 a3) :
    ∀ (d : Nat) (post : ρ → Prop) (a1 : A1) (a2 : A2) (a3 : A3), ok a1 a2 a3 → μ a1 a2 a3 < d → post (val a1 a2 a3) → W d post a1 a2 a3 := by
  intro d
  induction d with
  | zero => intro post a1 a2 a3 _ h; omega
  | succ d ih =>
    intro post a1 a2 a3 ho hm hp
    exact hs d post a1 a2 a3 ho hp (fun post' b1 b2 b3 ho' hm' hp' => ih post' b1 b2 b3 ho' (by omega) hp')
theorem rp4 {ρ A1 A2 A3 A4 : Type} (W : Nat → (ρ → Prop) → A1 → A2 → A3 → A4 → Prop) (ok : A1 → A2 → A3 → A4 → Prop) (μ : A1 → A2 → A3 → A4 → Nat) (val : A1 → A2 → A3 → A4 → ρ)
    (hs : ∀ (d : Nat) (post : ρ → Prop) (a1 : A1) (a2 : A2) (a3 : A3) (a4 : A4), ok a1 a2 a3 a4 → post (val a1 a2 a3 a4) → (∀ (post' : ρ → Prop) (b1 : A1) (b2 : A2) (b3 : A3) (b4 : A4), ok b1 b2 b3 b4 → μ b1 b2 b3 b4 < μ a1 a2 a3 a4 → post' (val b1 b2 b3 b4) → W d post' b1 b2 b3 b4) → W (d + 1) post a1 a2 a3 a4) :
    ∀ (d : Nat) (post : ρ → Prop) (a1 : A1) (a2 : A2) (a3 : A3) (a4 : A4), ok a1 a2 a3 a4 → μ a1 a2 a3 a4 < d → post (val a1 a2 a3 a4) → W d post a1 a2 a3 a4 := by
  intro d
  induction d with
  | zero => intro post a1 a2 a3 a4 _ h; omega
  | succ d ih =>
    intro post a1 a2 a3 a4 ho hm hp
    exact hs d post a1 a2 a3 a4 ho hp (fun post' b1 b2 b3 b4 ho' hm' hp' => ih post' b1 b2 b3 b4 ho' (by omega) hp')
theorem rp5 {ρ A1 A2 A3 A4 A5 : Type} (W : Nat → (ρ → Prop) → A1 → A2 → A3 → A4 → A5 → Prop) (ok : A1 → A2 → A3 → A4 → A5 → Prop) (μ : A1 → A2 → A3 → A4 → A5 → Nat) (val : A1 → A2 → A3 → A4 → A5 → ρ)
    (hs : ∀ (d : Nat) (post : ρ → Prop) (a1 : A1) (a2 : A2) (a3 : A3) (a4 : A4) (a5 : A5), ok a1 a2 a3 a4 a5 → post (val a1 a2 a3 a4 a5) → (∀ (post' : ρ → Prop) (b1 : A1) (b2 : A2) (b3 : A3) (b4 : A4) (b5 : A5), ok b1 b2 b3 b4 b5 → μ b1 b2 b3 b4 b5 < μ a1 a2 a3 a4 a5 → post' (val b1 b2 b3 b4 b5) → W d post' b1 b2 b3 b4 b5) → W (d + 1) post a1 a2 a3 a4 a5) :
    ∀ (d : Nat) (post : ρ → Prop) (a1 : A1) (a2 : A2) (a3 : A3) (a4 : A4) (a5 : A5), ok a1 a2 a3 a4 a5 → μ a1 a2 a3 a4 a5 < d → post (val a1 a2 a3 a4 a5) → W d post a1 a2 a3 a4 a5 := by
  intro d
  induction d with
  | zero => intro post a1 a2 a3 a4 a5 _ h; omega
  | succ d ih =>
    intro post a1 a2 a3 a4 a5 ho hm hp
    exact hs d post a1 a2 a3 a4 a5 ho hp (fun post' b1 b2 b3 b4 b5 ho' hm' hp' => ih post' b1 b2 b3 b4 b5 ho' (by omega) hp')
theorem rp6 {ρ A1 A2 A3 A4 A5 A6 : Type} (W : Nat → (ρ → Prop) → A1 → A2 → A3 → A4 → A5 → A6 → Prop) (ok : A1 → A2 → A3 → A4 → A5 → A6 → Prop) (μ : A1 → A2 → A3 → A4 → A5 → A6 → Nat) (val : A1 → A2 → A3 → A4 → A5 → A6 → ρ)
    (hs : ∀ (d : Nat) (post : ρ → Prop) (a1 : A1) (a2 : A2) (a3 : A3) (a4 : A4) (a5 : A5) (a6 : A6), ok a1 a2 a3 a4 a5 a6 → post (val a1 a2 a3 a4 a5 a6) → (∀ (post' : ρ → Prop) (b1 : A1) (b2 : A2) (b3 : A3) (b4 : A4) (b5 : A5) (b6 : A6), ok b1 b2 b3 b4 b5 b6 → μ b1 b2 b3 b4 b5 b6 < μ a1 a2 a3 a4 a5 a6 → post' (val b1 b2 b3 b4 b5 b6) → W d post' b1 b2 b3 b4 b5 b6) → W (d + 1) post a1 a2 a3 a4 a5 a6) :
    ∀ (d : Nat) (post : ρ → Prop) (a1 : A1) (a2 : A2) (a3 : A3) (a4 : A4) (a5 : A5) (a6 : A6), ok a1 a2 a3 a4 a5 a6 → μ a1 a2 a3 a4 a5 a6 < d → post (val a1 a2 a3 a4 a5 a6) → W d post a1 a2 a3 a4 a5 a6 := by
  intro d
  induction d with
  | zero => intro post a1 a2 a3 a4 a5 a6 _ h; omega
  | succ d ih =>
    intro post a1 a2 a3 a4 a5 a6 ho hm hp
    exact hs d post a1 a2 a3 a4 a5 a6 ho hp (fun post' b1 b2 b3 b4 b5 b6 ho' hm' hp' => ih post' b1 b2 b3 b4 b5 b6 ho' (by omega) hp')
theorem rec_p {σ ρ : Type} (W : Nat → (ρ → Prop) → σ → Prop) (ok : σ → Prop) (μ : σ → Nat) (val : σ → ρ)
    (hs : ∀ d s post, ok s → post (val s) → (∀ s' post', ok s' → μ s' < μ s → post' (val s') → W d post' s') → W (d + 1) post s) :
    ∀ d s post, ok s → μ s < d → post (val s) → W d post s := by
  intro d
  induction d with
  | zero => intro s post _ h; omega
  | succ d ih =>
    intro s post ho hm hp
    exact hs d s post ho hp (fun s' post' ho' hm' hp' => ih s' post' ho' (by omega) hp')
theorem rec_q {σ ρ : Type} (W : Nat → (ρ → Prop) → σ → Prop) (ok : σ → Prop) (μ : σ → Nat) (Q : σ → ρ → Prop)
    (hs : ∀ d s post, ok s → (∀ r, Q s r → post r) → (∀ s' post', ok s' → μ s' < μ s → (∀ r, Q s' r → post' r) → W d post' s') → W (d + 1) post s) :
    ∀ d s post, ok s → μ s < d → (∀ r, Q s r → post r) → W d post s := by
  intro d
  induction d with
  | zero => intro s post _ h; omega
  | succ d ih =>
    intro s post ho hm hp
    exact hs d s post ho hp (fun s' post' ho' hm' hp' => ih s' post' ho' (by omega) hp')
def bx_sum (f : Nat → Int32) : Nat → Int32
  | 0 => 0
  | n + 1 => bx_sum f n + f n
theorem ek_u {A : Prop} {B : Nat → Prop} {k N : Nat} (hk : k < N) (h : B k) : (some k = none → A) ∧ (∀ y : Nat, some k = some y → (y < N ∧ B y)) :=
  ⟨fun z => absurd z (Option.some_ne_none k), fun _ e => (by cases e; exact ⟨hk, h⟩)⟩
theorem ek_nu {A : Prop} {B : Nat → Prop} (h : A) : ((none : Option Nat) = none → A) ∧ (∀ y : Nat, (none : Option Nat) = some y → B y) :=
  ⟨fun _ => h, fun _ e => (by cases e)⟩
theorem ek_if {c d A B : Prop} (e : c ↔ d) (f : d → A) (g : ¬ d → B) : (c → A) ∧ (¬ c → B) :=
  ⟨fun z => f (e.mp z), fun z => g (fun y => z (e.mpr y))⟩
theorem ek_v {α : Sort _} {P : α → Prop} {a b : α} (e : a = b) (h : P b) : P a := e ▸ h
theorem co_some {x : Option Nat} {A : Prop} {B : Nat → Prop} (i : Nat) (h : B i) (hx : x = some i := by rfl) : (x = none → A) ∧ (∀ y : Nat, x = some y → B y) := by
  subst hx
  exact ⟨fun e => (nomatch e), fun y e => Option.some.inj e ▸ h⟩
theorem co_none {x : Option Nat} {A : Prop} {B : Nat → Prop} (h : A) (hx : x = none := by rfl) : (x = none → A) ∧ (∀ y : Nat, x = some y → B y) := by
  subst hx
  exact ⟨fun _ => h, fun y e => (nomatch e)⟩
theorem co_any {x : Option Nat} {A : Prop} {B : Nat → Prop} (hn : x = none → A) (hs : ∀ i : Nat, x = some i → B i) : (x = none → A) ∧ (∀ y : Nat, x = some y → B y) := ⟨hn, hs⟩
theorem co_2 {P : Nat → Prop} (h0 : P 0) (h1 : P 1) {i : Nat} (hi : i < 2) : P i :=
  match i, hi with
  | 0, _ => h0
  | 1, _ => h1
theorem co_3 {P : Nat → Prop} (h0 : P 0) (h1 : P 1) (h2 : P 2) {i : Nat} (hi : i < 3) : P i :=
  match i, hi with
  | 0, _ => h0
  | 1, _ => h1
  | 2, _ => h2
theorem co_4 {P : Nat → Prop} (h0 : P 0) (h1 : P 1) (h2 : P 2) (h3 : P 3) {i : Nat} (hi : i < 4) : P i :=
  match i, hi with
  | 0, _ => h0
  | 1, _ => h1
  | 2, _ => h2
  | 3, _ => h3
theorem co_dec {N : Nat} {P : Nat → Prop} [DecidablePred P] (h : (List.range N).all (fun i => decide (P i)) = true) {i : Nat} (hi : i < N) : P i := by
  have := List.all_eq_true.mp h i (List.mem_range.mpr hi)
  exact of_decide_eq_true this
theorem co_tab {α : Type} {l : List α} {d : α} {P : α → Prop} (h : ∀ a, a ∈ l → P a) {i : Nat} (hi : i < l.length) : P (l.getD i d) := by
  rw [List.getD_eq_getElem?_getD, List.getElem?_eq_getElem hi]
  exact h _ (List.getElem_mem hi)
theorem pk_mu {x : Int32} {L : Nat} (h0 : ¬ x < 0) (h : ¬ nI L ≤ x) (hL : L < 2 ^ 31) : ∃ j : Nat, j < L ∧ x = nI j ∧ x + 1 = nI (j + 1) ∧ x.toNatClampNeg = j ∧ L - (x + 1).toNatClampNeg < L - x.toNatClampNeg := by
  obtain ⟨j, hj, rfl⟩ := nI_of h0
  have hl : j < L := Nat.not_le.mp fun q => h (nI_le q hj)
  refine ⟨j, hl, rfl, nI_1 j, nI_clamp hj, ?_⟩
  rw [nI_1, nI_clamp (by omega), nI_clamp hj]
  omega
theorem op_s {α : Type} {r : Option α} {A : Prop} {B : α → Prop} {y : α} (h : r = some y) (b : B y) : (r = none → A) ∧ ∀ z, r = some z → B z :=
  ⟨fun e => (by rw [h] at e; cases e), fun z e => (by rw [h] at e; cases e; exact b)⟩
def l_holds {α : Type} (a : Nat → Option Nat) (LP : List Nat) (p : Nat → α) (c : Nat) (b : Nat → α) : Prop :=
  ∀ j, j < c → ∃ y, a j = some y ∧ y ∈ LP ∧ p y = b j
theorem l_holds_0 {α : Type} {a : Nat → Option Nat} {LP : List Nat} {p b : Nat → α} : l_holds a LP p 0 b := fun j h => absurd h (Nat.not_lt_zero j)
theorem l_in_new (LP : List Nat) (q : Nat) : q ∈ LP ++ [q] := List.mem_append.mpr (Or.inr (List.mem_singleton.mpr rfl))
def l_sum (b : Nat → Int32) : Nat → Int32
  | 0 => 0
  | k + 1 => l_sum b k + b k
theorem sb_shr0 (x : Int32) : x >>> ((0 : Int32) &&& 31) = x := by
  rw [show ((0 : Int32) &&& 31) = 0 by decide]
  simp
theorem sb_shl0 (x : Int32) : x <<< ((0 : Int32) &&& 31) = x := by
  rw [show ((0 : Int32) &&& 31) = 0 by decide]
  simp
theorem sb_cl0 : (0 : Int32).toNatClampNeg = 0 := by decide
theorem sb_m1 {p : Nat} (h : 0 < p) : nI p + (-1) = nI (p - 1) := by
  obtain ⟨q, rfl⟩ : ∃ q, p = q + 1 := ⟨p - 1, by omega⟩
  exact pk_m1 q
def sb_b (c : Nat) : Int32 := (nI c).toInt8.toInt32
theorem sb_byte : ∀ c, c < 256 → sb_b c &&& 255 = nI c ∧ ((nI c).toUInt32 % 65536).toInt32 = nI c ∧ nI c ≤ 255 := by decide +kernel
def sb_Fit (a : Nat → Int32) : Prop := ∀ j, fits .byte (.int (a j)) = true
def sb_Lat (t : Nat → Nat) (n : Nat) (a : Nat → Int32) : Prop := ∀ j, j < n → t j < 256 ∧ a j = sb_b (t j)
theorem sb_fitB (c : Nat) : fits .byte (.int (sb_b c)) = true := pk_fb _
theorem sb_fit0 : sb_Fit (fun _ => 0) := fun _ => by
  show fits .byte (.int 0) = true
  decide
theorem sb_fitU {a : Nat → Int32} {k : Nat} {x : Int32} (h : sb_Fit a) (hx : fits .byte (.int x) = true) : sb_Fit (upd a k x) := by
  intro j
  by_cases e : j = k
  · subst e
    rw [pk_us]
    exact hx
  · rw [pk_un e]
    exact h j
def sb_cat (t : Nat → Nat) (n : Nat) (s : Nat → Nat) : Nat → Nat := fun j => if j < n then t j else s (j - n)
theorem sb_cat_lo {t s : Nat → Nat} {n j : Nat} (h : j < n) : sb_cat t n s j = t j := if_pos h
theorem sb_cat_hi {t s : Nat → Nat} {n j : Nat} : sb_cat t n s (n + j) = s j := by
  show (if n + j < n then t (n + j) else s (n + j - n)) = s j
  rw [if_neg (by omega), Nat.add_sub_cancel_left]
theorem sb_latPut {t s : Nat → Nat} {n w : Nat} {a a' : Nat → Int32} (h : sb_Lat t n a) (hk : ∀ j, j < n → a' j = a j) (hs : ∀ i, i < w → s i < 256 ∧ a' (n + i) = sb_b (s i)) : sb_Lat (sb_cat t n s) (n + w) a' := by
  intro j hj
  by_cases e : j < n
  · rw [sb_cat_lo e, hk j e]
    exact h j e
  · obtain ⟨i, rfl⟩ : ∃ i, j = n + i := ⟨j - n, by omega⟩
    rw [sb_cat_hi]
    exact hs i (by omega)
theorem sb_latKeep {t : Nat → Nat} {n : Nat} {a a' : Nat → Int32} (h : sb_Lat t n a) (hk : ∀ j, j < n → a' j = a j) : sb_Lat t n a' := fun j hj => by
  rw [hk j hj]
  exact h j hj
def sb_cap (q m : Nat) : Nat := if q ≤ m then m else if 2 * m + 2 < q then q else 2 * m + 2
def sb_Room (q m mc ms : Nat) : Prop := q ≤ m ∨ (1 ≤ mc ∧ sb_cap q m ≤ ms ∧ sb_cap q m ≤ 65536)
theorem sb_cap_ge (q m : Nat) : q ≤ sb_cap q m := by
  unfold sb_cap
  split
  · omega
  · split <;> omega
theorem sb_cap_gem (q m : Nat) : m ≤ sb_cap q m := by
  unfold sb_cap
  split
  · omega
  · split <;> omega
theorem sb_cap_le {q m mc ms : Nat} (hm : m ≤ 65536) (hr : sb_Room q m mc ms) : sb_cap q m ≤ 65536 := by
  rcases hr with h | h
  · rw [sb_cap, if_pos h]
    exact hm
  · exact h.2.2
theorem sb_at {P : Int32 → Prop} {x y : Int32} (e : x = y) (h : P y) : P x := e ▸ h
def sb_dg (w : Nat) : Nat := if w < 10 then 1 else if w < 100 then 2 else if w < 1000 then 3 else if w < 10000 then 4 else if w < 100000 then 5 else if w < 1000000 then 6 else if w < 10000000 then 7 else if w < 100000000 then 8 else if w < 1000000000 then 9 else 10
def sb_dec (v : Nat) : Nat → Nat := fun i => 48 + v / 10 ^ (sb_dg v - 1 - i) % 10
theorem sb_dg_in (w : Nat) : 1 ≤ sb_dg w ∧ sb_dg w ≤ 10 := by
  unfold sb_dg
  constructor <;> (repeat' split) <;> omega
theorem sb_dg100 {w : Nat} (h : 100 ≤ w) (hw : w < 2 ^ 31) : sb_dg w = sb_dg (w / 100) + 2 := by
  rw [sb_dg, sb_dg, if_neg (show ¬ w < 10 by omega), if_neg (show ¬ w < 100 by omega)]
  by_cases h3 : w < 1000
  · rw [if_pos h3, if_pos (show w / 100 < 10 by omega)]
  rw [if_neg h3, if_neg (show ¬ w / 100 < 10 by omega)]
  by_cases h4 : w < 10000
  · rw [if_pos h4, if_pos (show w / 100 < 100 by omega)]
  rw [if_neg h4, if_neg (show ¬ w / 100 < 100 by omega)]
  by_cases h5 : w < 100000
  · rw [if_pos h5, if_pos (show w / 100 < 1000 by omega)]
  rw [if_neg h5, if_neg (show ¬ w / 100 < 1000 by omega)]
  by_cases h6 : w < 1000000
  · rw [if_pos h6, if_pos (show w / 100 < 10000 by omega)]
  rw [if_neg h6, if_neg (show ¬ w / 100 < 10000 by omega)]
  by_cases h7 : w < 10000000
  · rw [if_pos h7, if_pos (show w / 100 < 100000 by omega)]
  rw [if_neg h7, if_neg (show ¬ w / 100 < 100000 by omega)]
  by_cases h8 : w < 100000000
  · rw [if_pos h8, if_pos (show w / 100 < 1000000 by omega)]
  rw [if_neg h8, if_neg (show ¬ w / 100 < 1000000 by omega)]
  by_cases h9 : w < 1000000000
  · rw [if_pos h9, if_pos (show w / 100 < 10000000 by omega)]
  rw [if_neg h9, if_neg (show ¬ w / 100 < 10000000 by omega)]
  rw [if_pos (show w / 100 < 100000000 by omega)]
theorem sb_negT {w : Nat} (h : w < 2 ^ 31) : (-nI w).toInt = -(w : Int) := by
  rw [Int32.toInt_neg, nI_toInt h]
  exact Int.bmod_eq_of_le (by omega) (by omega)
theorem sb_nle {a b : Nat} (ha : a < 2 ^ 31) (hb : b < 2 ^ 31) : -nI a ≤ -nI b ↔ b ≤ a := by
  rw [Int32.le_iff_toInt_le, sb_negT ha, sb_negT hb]
  omega
theorem sb_nlt {a b : Nat} (ha : a < 2 ^ 31) (hb : b < 2 ^ 31) : -nI a < -nI b ↔ b < a := by
  rw [Int32.lt_iff_toInt_lt, sb_negT ha, sb_negT hb]
  omega
theorem sb_cmp {A B : Prop} {x : Int32} (v c : Nat) (f : c ≤ v → A) (g : v < c → B) (hv : v < 2 ^ 31) (hx : x = -nI c := by rfl) (hc : c < 2 ^ 31 := by omega) : (-nI v ≤ x → A) ∧ (¬ -nI v ≤ x → B) := by
  subst hx
  rw [sb_nle hv hc]
  exact ⟨f, fun z => g (by omega)⟩
theorem sb_ndiv {w : Nat} (hw : w < 2 ^ 31) : (-nI w) / 100 = -nI (w / 100) := by
  apply Int32.toInt_inj.mp
  have h100 : (100 : Int32).toInt = 100 := by decide
  rw [Int32.toInt_div, sb_negT hw, h100, sb_negT (by omega), Int.neg_tdiv, Int.tdiv_eq_ediv_of_nonneg (by omega), Int.bmod_eq_of_le (by omega) (by omega)]
  omega
theorem sb_nrem {w : Nat} (hw : w < 2 ^ 31) : (-nI (w / 100)) * 100 - (-nI w) = nI (w % 100) := by
  have h := pk_rem (a := w) (d := 100) hw (by decide) (by decide)
  rw [pk_div hw (by decide) (by decide)] at h
  rw [← h]
  show (-nI (w / 100)) * nI 100 - (-nI w) = nI w - nI (w / 100) * nI 100
  rw [Int32.neg_mul, Int32.sub_neg, Int32.add_comm, ← Int32.sub_eq_add_neg]
end
section
/-! rows on bits, shifts and unsigned numbers, to paste: each family out of a closed proof of our own, whole with what it rests on; each by itself clean at Lean in its own claim (generation 39, form 5). Take a family whole -/
/-! ===== Int32 by its bits: bt x i ===== -/
def bt (x : Int32) (i : Nat) : Bool := x.toBitVec.getLsbD i
theorem b_ext {x y : Int32} (h : ∀ i, i < 32 → bt x i = bt y i) : x = y := Int32.toBitVec_inj.mp (BitVec.eq_of_getLsbD_eq (fun i hi => h i hi))
theorem b_or (x y : Int32) (i : Nat) : bt (x ||| y) i = (bt x i || bt y i) := by unfold bt; rw [Int32.toBitVec_or, BitVec.getLsbD_or]
theorem b_and (x y : Int32) (i : Nat) : bt (x &&& y) i = (bt x i && bt y i) := by unfold bt; rw [Int32.toBitVec_and, BitVec.getLsbD_and]
theorem b_xor (x y : Int32) (i : Nat) : bt (x ^^^ y) i = (bt x i ^^ bt y i) := by unfold bt; rw [Int32.toBitVec_xor, BitVec.getLsbD_xor]
theorem b_big {x : Int32} {i : Nat} (h : 32 ≤ i) : bt x i = false := BitVec.getLsbD_of_ge _ _ h
theorem b_255 (i : Nat) : bt 255 i = decide (i < 8) := by
  rcases Nat.lt_or_ge i 32 with h | h
  · exact (by decide +kernel : ∀ i, i < 32 → bt 255 i = decide (i < 8)) i h
  · rw [b_big h, decide_eq_false (by omega)]
theorem b_65535 (i : Nat) : bt 65535 i = decide (i < 16) := by
  rcases Nat.lt_or_ge i 32 with h | h
  · exact (by decide +kernel : ∀ i, i < 32 → bt 65535 i = decide (i < 16)) i h
  · rw [b_big h, decide_eq_false (by omega)]
theorem b_m1 : ∀ i, i < 32 → bt (-1) i = true := by decide +kernel
theorem b_0 (i : Nat) : bt 0 i = false := BitVec.getLsbD_zero
theorem s_l : ∀ n, n < 32 → ((nI n &&& 31).toBitVec.smod 32).toNat = n := by decide +kernel
theorem s_u : ∀ n, n < 32 → (((nI n).toUInt32 &&& Int32.toUInt32 31).toBitVec % 32).toNat = n := by decide +kernel
theorem b_shl (n : Nat) (hn : n < 32) (x : Int32) {i : Nat} (hi : i < 32) : bt (x <<< (nI n &&& 31)) i = (decide (n ≤ i) && bt x (i - n)) := by
  unfold bt
  rw [Int32.toBitVec_shiftLeft]
  show (x.toBitVec <<< ((nI n &&& 31).toBitVec.smod 32).toNat).getLsbD i = _
  rw [s_l n hn, BitVec.getLsbD_shiftLeft]
  rcases Nat.lt_or_ge i n with h | h
  · simp [h, Nat.not_le.mpr h]
  · simp [hi, h, Nat.not_lt.mpr h]
theorem b_ushr (n : Nat) (hn : n < 32) (x : Int32) (i : Nat) : bt ((x.toUInt32 >>> ((nI n).toUInt32 &&& Int32.toUInt32 31)).toInt32) i = bt x (n + i) := by
  show (x.toUInt32 >>> ((nI n).toUInt32 &&& Int32.toUInt32 31)).toBitVec.getLsbD i = x.toUInt32.toBitVec.getLsbD (n + i)
  rw [UInt32.toBitVec_shiftRight]
  show (x.toUInt32.toBitVec >>> (((nI n).toUInt32 &&& Int32.toUInt32 31).toBitVec % 32).toNat).getLsbD i = _
  rw [s_u n hn, BitVec.getLsbD_ushiftRight]
theorem b_sshr (n : Nat) (hn : n < 32) (x : Int32) {i : Nat} (hi : i < 32) : bt (x >>> (nI n &&& 31)) i = if n + i < 32 then bt x (n + i) else bt x 31 := by
  unfold bt
  rw [Int32.toBitVec_shiftRight]
  show (x.toBitVec.sshiftRight ((nI n &&& 31).toBitVec.smod 32).toNat).getLsbD i = _
  rw [s_l n hn, BitVec.getLsbD_sshiftRight, BitVec.msb_eq_getLsbD_last]
  simp [hi]
theorem b_shl8 (x : Int32) {i : Nat} (hi : i < 32) : bt (x <<< ((8 : Int32) &&& 31)) i = (decide (8 ≤ i) && bt x (i - 8)) := b_shl 8 (by omega) x hi
theorem b_shl16 (x : Int32) {i : Nat} (hi : i < 32) : bt (x <<< ((16 : Int32) &&& 31)) i = (decide (16 ≤ i) && bt x (i - 16)) := b_shl 16 (by omega) x hi
theorem b_shl24 (x : Int32) {i : Nat} (hi : i < 32) : bt (x <<< ((24 : Int32) &&& 31)) i = (decide (24 ≤ i) && bt x (i - 24)) := b_shl 24 (by omega) x hi
theorem b_sshr8 (x : Int32) {i : Nat} (hi : i < 32) : bt (x >>> ((8 : Int32) &&& 31)) i = if 8 + i < 32 then bt x (8 + i) else bt x 31 := b_sshr 8 (by omega) x hi
/-! ===== nI under and, xor, >>>, one bit, 65535 ===== -/
theorem nx_and (a b : Nat) : nI a &&& nI b = nI (a &&& b) := by
  apply Int32.toBitVec_inj.1
  show BitVec.ofNat 32 a &&& BitVec.ofNat 32 b = BitVec.ofNat 32 (a &&& b)
  apply BitVec.eq_of_getLsbD_eq
  intro i hi
  simp [hi]
theorem nx_xor (a b : Nat) : nI a ^^^ nI b = nI (a ^^^ b) := by
  apply Int32.toBitVec_inj.1
  show BitVec.ofNat 32 a ^^^ BitVec.ofNat 32 b = BitVec.ofNat 32 (a ^^^ b)
  apply BitVec.eq_of_getLsbD_eq
  intro i hi
  simp [hi]
theorem nx_cnt : ∀ j : Fin 32, (UInt32.ofNat j.val &&& Int32.toUInt32 31).toNat % 32 = j.val := by decide +kernel
theorem nx_ush {k j : Nat} (hk : k < 65536) (hj : j < 32) : ((nI k).toUInt32 >>> ((nI j).toUInt32 &&& Int32.toUInt32 31)).toInt32 = nI (k >>> j) := by
  have hs : k >>> j ≤ k := by
    rw [Nat.shiftRight_eq_div_pow]
    exact Nat.div_le_self _ _
  have e2 : UInt32.ofNat k >>> (UInt32.ofNat j &&& Int32.toUInt32 31) = UInt32.ofNat (k >>> j) := by
    apply UInt32.toNat_inj.1
    have h1 : (UInt32.ofNat k).toNat = k := Nat.mod_eq_of_lt (by omega)
    have h2 : (UInt32.ofNat (k >>> j)).toNat = k >>> j := Nat.mod_eq_of_lt (by omega)
    rw [UInt32.toNat_shiftRight, nx_cnt ⟨j, hj⟩, h1, h2]
  show (UInt32.ofNat k >>> (UInt32.ofNat j &&& Int32.toUInt32 31)).toInt32 = _
  rw [e2]
  rfl
theorem nx_bit {k j : Nat} (hk : k < 65536) (hj : j < 16) : (((nI k).toUInt32 >>> ((nI j).toUInt32 &&& Int32.toUInt32 31)).toInt32 &&& 1) = 0 ↔ k.testBit j = false := by
  rw [nx_ush hk (by omega)]
  show nI (k >>> j) &&& nI 1 = 0 ↔ _
  rw [nx_and, Nat.and_one_is_mod, ← nI_0, nI_eq (by omega) (by omega), Nat.testBit_eq_decide_div_mod_eq, Nat.shiftRight_eq_div_pow, decide_eq_false_iff_not]
  generalize k / 2 ^ j = z
  omega
theorem nx_mod (k : Nat) : nI k &&& 65535 = nI (k % 65536) := by
  show nI k &&& nI 65535 = _
  rw [nx_and, show (65535 : Nat) = 2 ^ 16 - 1 from rfl, Nat.and_two_pow_sub_one_eq_mod]
theorem nx_m16 {k : Nat} (h : k < 65536) : nI k &&& 65535 = nI k := by rw [nx_mod, Nat.mod_eq_of_lt h]
theorem nx_mask (x : Int32) : ∃ k, k < 65536 ∧ x &&& 65535 = nI k := by
  have e : x = nI x.toBitVec.toNat := by
    apply Int32.toBitVec_inj.1
    show x.toBitVec = BitVec.ofNat 32 x.toBitVec.toNat
    simp
  refine ⟨x.toBitVec.toNat % 65536, Nat.mod_lt _ (by omega), ?_⟩
  rw [← nx_mod, ← e]
/-! ===== Int32 as a set of bits: test, set ===== -/
def nf_M (m : Int32) : Nat := 4294967296 - m.toBitVec.toNat
theorem nf_sh : ∀ l, l < 32 → ((1 : Int32) <<< (nI l &&& 31)).toBitVec = BitVec.twoPow 32 l := by decide +kernel
theorem nf_sl : ∀ l, l < 32 → (((nI l).toUInt32 &&& Int32.toUInt32 31).toBitVec % 32).toNat = l := by decide +kernel
theorem nf_tp : ∀ l, l < 32 → BitVec.twoPow 32 l ≠ 0#32 := by decide +kernel
theorem nf_bit (m : Int32) (l : Nat) (hl : l < 32) : ((m.toUInt32 >>> ((nI l).toUInt32 &&& Int32.toUInt32 31)).toInt32 &&& 1) = 0 ↔ (m &&& ((1 : Int32) <<< (nI l &&& 31))) = 0 := by
  have e : ((m.toUInt32 >>> ((nI l).toUInt32 &&& Int32.toUInt32 31)).toInt32).toBitVec = m.toBitVec >>> l := by
    show m.toBitVec >>> (((nI l).toUInt32 &&& Int32.toUInt32 31).toBitVec % 32) = m.toBitVec >>> l
    rw [BitVec.ushiftRight_eq', nf_sl l hl]
  rw [← Int32.toBitVec_inj, ← Int32.toBitVec_inj, Int32.toBitVec_and, Int32.toBitVec_and, nf_sh l hl, e, BitVec.and_twoPow]
  show (m.toBitVec >>> l &&& 1#32) = 0#32 ↔ _ = 0#32
  rw [BitVec.and_one_eq_setWidth_ofBool_getLsbD, BitVec.getLsbD_ushiftRight, Nat.add_zero]
  cases hb : m.toBitVec.getLsbD l
  · exact ⟨fun _ => by simp, fun _ => by decide⟩
  · exact ⟨fun z => absurd z (by decide), fun z => absurd ((if_pos rfl).symm.trans z) (nf_tp l hl)⟩
theorem nf_gr (m k : Int32) (h : m &&& k = 0) (hk : k ≠ 0) : nf_M (m ||| k) < nf_M m := by
  have hm := m.toBitVec.isLt
  have hm' := (m ||| k).toBitVec.isLt
  have h1 : m.toBitVec.toNat ≤ (m ||| k).toBitVec.toNat := by
    rw [Int32.toBitVec_or, BitVec.toNat_or]
    exact Nat.left_le_or
  have h2 : m.toBitVec.toNat ≠ (m ||| k).toBitVec.toNat := by
    intro e
    have e2 : m = m ||| k := Int32.toBitVec_inj.mp (BitVec.eq_of_toNat_eq e)
    apply hk
    apply Int32.toBitVec_inj.mp
    show k.toBitVec = 0#32
    apply BitVec.eq_of_getLsbD_eq
    intro i hi
    have a : m.toBitVec.getLsbD i = (m.toBitVec.getLsbD i || k.toBitVec.getLsbD i) := by rw [← BitVec.getLsbD_or, ← Int32.toBitVec_or, ← e2]
    have b : (m.toBitVec.getLsbD i && k.toBitVec.getLsbD i) = false := by
      rw [← BitVec.getLsbD_and, ← Int32.toBitVec_and, h]
      exact BitVec.getLsbD_zero
    rw [BitVec.getLsbD_zero]
    revert a b
    cases m.toBitVec.getLsbD i <;> cases k.toBitVec.getLsbD i <;> simp
  unfold nf_M
  omega
/-! ===== a byte read unsigned ===== -/
theorem bp_b (x : Int32) : x.toInt8.toInt32 &&& 255 = x &&& 255 := by
  apply Int32.toBitVec_inj.mp
  rw [Int32.toBitVec_and, Int32.toBitVec_and, Int8.toBitVec_toInt32, Int32.toBitVec_toInt8]
  apply BitVec.eq_of_getLsbD_eq
  intro i hi
  rw [BitVec.getLsbD_and, BitVec.getLsbD_and]
  have hm : ∀ i < 32, 8 ≤ i → (255 : Int32).toBitVec.getLsbD i = false := by decide
  rcases Nat.lt_or_ge i 8 with z | z
  · rw [BitVec.getLsbD_signExtend, BitVec.getLsbD_signExtend, if_pos z, if_pos hi]
    simp only [z, hi, decide_true, Bool.true_and]
  · rw [hm i hi z]; simp
/-! ===== the char cast and 65535 ===== -/
theorem em_w (v : Int32) : ∃ w : Nat, w < 65536 ∧ (v.toUInt32 % 65536).toInt32 = nI w ∧ v &&& 65535 = nI w := by
  have hr := lw_u16_r v
  have h0 : (0 : Int32).toInt = 0 := by decide
  obtain ⟨w, h1, h2⟩ := nI_of (x := lw_u16 v) (by rw [Int32.lt_iff_toInt_lt]; omega)
  have h3 : (v.toUInt32 % 65536).toInt32 = nI w := h2
  rw [h2, nI_toInt h1] at hr
  exact ⟨w, by omega, h3, by rw [← lg_i2c_mask, ← lg_i2c_nf, h3]⟩
/-! ===== Int64 as a set of bits: test, set, clear ===== -/
theorem ts_nf {x : Bool} (h : ¬ x = false) : x = true := by cases x <;> first | rfl | exact absurd rfl h
theorem ts_nt {x : Bool} (h : ¬ x = true) : x = false := by cases x <;> first | rfl | exact absurd rfl h
theorem ts_bit {w : Int64} {s : UInt64} {j : Nat} (hj : j < 64) (hs : s.toNat = j) : ((w.toUInt64 >>> s).toInt64 &&& 1) = 0 ↔ w.toBitVec.getLsbD j = false := by
  have e : (w.toUInt64 >>> s).toInt64.toBitVec = w.toBitVec >>> j := by
    apply BitVec.eq_of_toNat_eq
    show (w.toUInt64 >>> s).toNat = _
    rw [UInt64.toNat_shiftRight, hs, Nat.mod_eq_of_lt hj, BitVec.toNat_ushiftRight]
    rfl
  rw [← Int64.toBitVec_inj, Int64.toBitVec_and, e]
  show w.toBitVec >>> j &&& 1#64 = 0#64 ↔ _
  constructor
  · intro h
    have t := congrArg (fun x => x.getLsbD 0) h
    simpa using t
  · intro h
    apply BitVec.eq_of_getLsbD_eq
    intro i hi
    cases i with
    | zero => simp [h]
    | succ i => simp
theorem ts_or {w m : Int64} {j : Nat} (hj : j < 64) (hm : m.toBitVec = BitVec.twoPow 64 j) : (w ||| m) = w ↔ w.toBitVec.getLsbD j = true := by
  rw [← Int64.toBitVec_inj, Int64.toBitVec_or, hm]
  constructor
  · intro h
    have t := congrArg (fun x => x.getLsbD j) h
    simp only [BitVec.getLsbD_or, BitVec.getLsbD_twoPow] at t
    simpa [hj] using t.symm
  · intro h
    apply BitVec.eq_of_getLsbD_eq
    intro i hi
    rw [BitVec.getLsbD_or, BitVec.getLsbD_twoPow]
    by_cases e : j = i
    · subst e; rw [h, Bool.true_or]
    · simp [e]
theorem ts_and {w m : Int64} {j : Nat} (hj : j < 64) (hm : m.toBitVec = BitVec.twoPow 64 j) : (w &&& (m ^^^ (-1))) = w ↔ w.toBitVec.getLsbD j = false := by
  have ha : (-1 : Int64).toBitVec = BitVec.allOnes 64 := by decide
  rw [← Int64.toBitVec_inj, Int64.toBitVec_and, Int64.toBitVec_xor, hm, ha]
  constructor
  · intro h
    have t := congrArg (fun x => x.getLsbD j) h
    simp only [BitVec.getLsbD_and, BitVec.getLsbD_xor, BitVec.getLsbD_twoPow, BitVec.getLsbD_allOnes] at t
    simpa [hj] using t.symm
  · intro h
    apply BitVec.eq_of_getLsbD_eq
    intro i hi
    rw [BitVec.getLsbD_and, BitVec.getLsbD_xor, BitVec.getLsbD_twoPow, BitVec.getLsbD_allOnes]
    by_cases e : j = i
    · subst e; rw [h, Bool.false_and]
    · simp [e, hi]
/-! ===== lN n to 2^64: shifts, and, or, masks, one bit ===== -/
theorem wb_tb (n : Nat) : (lN n).toBitVec = BitVec.ofNat 64 n := rfl
theorem wb_inj {a b : Int64} (h : a.toBitVec = b.toBitVec) : a = b := Int64.toBitVec_inj.mp h
theorem wb_tn {n : Nat} (h : n < 2 ^ 64) : (lN n).toBitVec.toNat = n := by rw [wb_tb, BitVec.toNat_ofNat, Nat.mod_eq_of_lt h]
theorem wb_of (x : Int64) : ∃ n, n < 2 ^ 64 ∧ x = lN n := ⟨x.toBitVec.toNat, x.toBitVec.isLt, wb_inj (by rw [wb_tb]; simp)⟩
theorem wb_of32 (x : Int32) : ∃ n, n < 2 ^ 32 ∧ x = nI n := ⟨x.toBitVec.toNat, x.toBitVec.isLt, Int32.toBitVec_inj.mp (by show _ = BitVec.ofNat 32 _; simp)⟩
theorem wb_c : ∀ k, k < 64 → ((nI k).toInt64 &&& 63) = lN k := by decide +kernel
theorem wb_cu : ∀ k, k < 64 → ((nI k).toInt64.toUInt64 &&& Int64.toUInt64 63) = UInt64.ofNat k := by decide +kernel
theorem wb_sm : ∀ k, k < 64 → (BitVec.ofNat 64 k).smod 64 = BitVec.ofNat 64 k := by decide +kernel
theorem wb_pw {a b : Nat} (h : a ≤ b) : 2 ^ b = 2 ^ a * 2 ^ (b - a) := by rw [← Nat.pow_add]; congr 1; omega
theorem wb_lt2 {a b : Nat} (h : a < b) : 2 ^ a < 2 ^ b := Nat.pow_lt_pow_right (by decide) h
theorem wb_mod (n : Nat) : lN n = lN (n % 2 ^ 64) := wb_inj (by rw [wb_tb, wb_tb]; apply BitVec.eq_of_toNat_eq; rw [BitVec.toNat_ofNat, BitVec.toNat_ofNat, Nat.mod_mod])
theorem wb_shr {n k : Nat} (hn : n < 2 ^ 64) (hk : k < 64) : ((lN n).toUInt64 >>> ((nI k).toInt64.toUInt64 &&& Int64.toUInt64 63)).toInt64 = lN (n / 2 ^ k) := by
  rw [wb_cu k hk]
  apply wb_inj
  apply BitVec.eq_of_toNat_eq
  show ((lN n).toUInt64 >>> UInt64.ofNat k).toNat = (BitVec.ofNat 64 _).toNat
  have h1 : (UInt64.ofNat k).toNat = k := by
    show (BitVec.ofNat 64 k).toNat = k
    rw [BitVec.toNat_ofNat, Nat.mod_eq_of_lt (by omega)]
  have h2 : (lN n).toUInt64.toNat = n := wb_tn hn
  rw [UInt64.toNat_shiftRight, h1, h2, Nat.mod_eq_of_lt hk, Nat.shiftRight_eq_div_pow, BitVec.toNat_ofNat, Nat.mod_eq_of_lt (Nat.lt_of_le_of_lt (Nat.div_le_self _ _) hn)]
theorem wb_shl (n : Nat) {k : Nat} (hk : k < 64) : lN n <<< ((nI k).toInt64 &&& 63) = lN (n * 2 ^ k) := by
  rw [wb_c k hk]
  apply wb_inj
  rw [Int64.toBitVec_shiftLeft, wb_tb, wb_tb, wb_tb, wb_sm k hk]
  apply BitVec.eq_of_toNat_eq
  rw [BitVec.shiftLeft_eq', BitVec.toNat_shiftLeft, BitVec.toNat_ofNat, BitVec.toNat_ofNat, BitVec.toNat_ofNat, Nat.mod_eq_of_lt (show k < 2 ^ 64 by omega), Nat.shiftLeft_eq, Nat.mul_mod, Nat.mod_mod, ← Nat.mul_mod]
theorem wb_and {a b : Nat} (ha : a < 2 ^ 64) (hb : b < 2 ^ 64) : lN a &&& lN b = lN (a &&& b) := by
  apply wb_inj
  rw [Int64.toBitVec_and, wb_tb, wb_tb, wb_tb]
  apply BitVec.eq_of_toNat_eq
  rw [BitVec.toNat_and, BitVec.toNat_ofNat, BitVec.toNat_ofNat, BitVec.toNat_ofNat, Nat.mod_eq_of_lt ha, Nat.mod_eq_of_lt hb, Nat.mod_eq_of_lt (Nat.and_lt_two_pow _ hb)]
theorem wb_or {a b : Nat} (ha : a < 2 ^ 64) (hb : b < 2 ^ 64) : lN a ||| lN b = lN (a ||| b) := by
  apply wb_inj
  rw [Int64.toBitVec_or, wb_tb, wb_tb, wb_tb]
  apply BitVec.eq_of_toNat_eq
  rw [BitVec.toNat_or, BitVec.toNat_ofNat, BitVec.toNat_ofNat, BitVec.toNat_ofNat, Nat.mod_eq_of_lt ha, Nat.mod_eq_of_lt hb, Nat.mod_eq_of_lt (Nat.or_lt_two_pow ha hb)]
theorem wb_mask {n k : Nat} (hn : n < 2 ^ 64) (hk : k < 64) : lN n &&& lN (2 ^ k - 1) = lN (n % 2 ^ k) := by
  rw [wb_and hn (by have := wb_lt2 hk; omega), Nat.and_two_pow_sub_one_eq_mod]
theorem wb_a1 {n : Nat} (hn : n < 2 ^ 64) : lN n &&& 1 = lN (n % 2) := wb_mask (k := 1) hn (by decide)
theorem wb_bit {n k : Nat} (hn : n < 2 ^ 64) (hk : k < 64) : ((lN n).toUInt64 >>> ((nI k).toInt64.toUInt64 &&& Int64.toUInt64 63)).toInt64 &&& 1 = lN (n / 2 ^ k % 2) := by
  rw [wb_shr hn hk, wb_a1 (Nat.lt_of_le_of_lt (Nat.div_le_self _ _) hn)]
theorem wb_xor {q k : Nat} (hk : k < 63) (h : 2 ^ k ≤ q) (h2 : q < 2 ^ (k + 1)) : lN q ^^^ lN (2 ^ k) = lN (q - 2 ^ k) := by
  obtain ⟨r, rfl⟩ : ∃ r, q = 2 ^ k + r := ⟨q - 2 ^ k, by omega⟩
  have hr : r < 2 ^ k := by rw [Nat.pow_succ] at h2; omega
  have hx : (2 ^ k + r) ^^^ 2 ^ k = r := by
    apply Nat.eq_of_testBit_eq
    intro i
    rw [Nat.testBit_xor, Nat.testBit_two_pow]
    rcases Nat.lt_trichotomy i k with h | h | h
    · rw [Nat.testBit_two_pow_add_gt h]
      simp [show ¬ k = i by omega]
    · subst h
      rw [Nat.testBit_two_pow_add_eq]
      simp
    · have a1 : 2 ^ (k + 1) ≤ 2 ^ i := Nat.pow_le_pow_right (by decide) h
      rw [Nat.testBit_lt_two_pow (show 2 ^ k + r < 2 ^ i by omega), Nat.testBit_lt_two_pow (show r < 2 ^ i by omega)]
      simp [show ¬ k = i by omega]
  have b1 := wb_lt2 (show k + 1 < 64 by omega)
  have b2 := wb_lt2 (show k < 64 by omega)
  apply wb_inj
  rw [Int64.toBitVec_xor, wb_tb, wb_tb, wb_tb]
  apply BitVec.eq_of_toNat_eq
  rw [BitVec.toNat_xor, BitVec.toNat_ofNat, BitVec.toNat_ofNat, BitVec.toNat_ofNat, Nat.mod_eq_of_lt (by omega : 2 ^ k + r < 2 ^ 64), Nat.mod_eq_of_lt b2, hx, Nat.add_sub_cancel_left, Nat.mod_eq_of_lt (by omega)]
/-! ===== lN: masks, 'or' of parts that don't overlap is a sum ===== -/
theorem u_tn {n : Nat} (h : n < 2 ^ 64) : (UInt64.ofNat n).toNat = n := Nat.mod_eq_of_lt h
theorem g_and {a b c : Nat} (ha : a < 2 ^ 64) (hb : b < 2 ^ 64) (hc : a &&& b = c) : lN a &&& lN b = lN c := by
  subst hc
  have h : UInt64.ofNat a &&& UInt64.ofNat b = UInt64.ofNat (a &&& b) := UInt64.toNat_inj.mp (by rw [UInt64.toNat_and, u_tn ha, u_tn hb, u_tn (Nat.and_lt_two_pow a hb)])
  have h2 := congrArg UInt64.toInt64 h
  exact h2
theorem g_and1 {a : Nat} (ha : a < 2 ^ 64) : lN a &&& 1 = lN (a % 2) := g_and (b := 1) ha (by decide) (Nat.and_two_pow_sub_one_eq_mod a 1)
theorem g_mask {a s p : Nat} (hp : 2 ^ s = p) (hs : s < 64) (ha : a < 2 ^ 64) : lN a &&& lN (p - 1) = lN (a % p) := by
  subst hp
  have := Nat.pow_lt_pow_right (show 1 < 2 by decide) hs
  exact g_and ha (by omega) (Nat.and_two_pow_sub_one_eq_mod a s)
theorem g_or {k p a b : Nat} (hp : 2 ^ k = p) (ha : a < p) (h : b * p + a < 2 ^ 64) : lN (b * p) ||| lN a = lN (b * p + a) := by
  subst hp
  have h1 : b * 2 ^ k ||| a = b * 2 ^ k + a := by rw [← Nat.shiftLeft_eq, Nat.shiftLeft_add_eq_or_of_lt ha]
  have h3 : UInt64.ofNat (b * 2 ^ k) ||| UInt64.ofNat a = UInt64.ofNat (b * 2 ^ k + a) := UInt64.toNat_inj.mp (by rw [UInt64.toNat_or, u_tn (by omega), u_tn (by omega), u_tn h, h1])
  have h2 := congrArg UInt64.toInt64 h3
  exact h2
theorem g_or' {k p a b : Nat} (hp : 2 ^ k = p) (ha : a < p) (h : a + b * p < 2 ^ 64) : lN a ||| lN (b * p) = lN (a + b * p) := by
  rw [Int64.or_comm, g_or hp ha (by omega), Nat.add_comm]
theorem g_ushr {a k p : Nat} {y : UInt64} (hy : y = UInt64.ofNat k) (hk : k < 64) (hp : 2 ^ k = p) (ha : a < 2 ^ 64) : ((lN a).toUInt64 >>> y).toInt64 = lN (a / p) := by
  subst hy hp
  have h : UInt64.ofNat a >>> UInt64.ofNat k = UInt64.ofNat (a / 2 ^ k) := UInt64.toNat_inj.mp (by rw [UInt64.toNat_shiftRight, u_tn ha, u_tn (by omega), u_tn (Nat.lt_of_le_of_lt (Nat.div_le_self _ _) ha), Nat.mod_eq_of_lt hk, Nat.shiftRight_eq_div_pow])
  have h2 := congrArg UInt64.toInt64 h
  exact h2
theorem g_shl {a k p : Nat} {y : Int64} (hy : y.toBitVec.smod 64 = BitVec.ofNat 64 k) (hk : k < 64) (hp : 2 ^ k = p) (ha : a < 2 ^ 64) : lN a <<< y = lN (a * p) := by
  subst hp
  apply Int64.toBitVec_inj.mp
  rw [Int64.toBitVec_shiftLeft, hy]
  apply BitVec.eq_of_toNat_eq
  have hb : (lN a).toBitVec.toNat = a := Nat.mod_eq_of_lt ha
  have hk' : (BitVec.ofNat 64 k).toNat = k := Nat.mod_eq_of_lt (by omega)
  have h : ((lN a).toBitVec <<< BitVec.ofNat 64 k).toNat = (a * 2 ^ k) % 2 ^ 64 := by simp only [BitVec.shiftLeft_eq', BitVec.toNat_shiftLeft, hb, hk', Nat.shiftLeft_eq]
  exact h
/-! ===== lN to 2^62 under >> and >>> ===== -/
theorem pf_lI {a : Nat} (h : a < 2 ^ 63) : (lN a).toInt = (a : Int) := lg_ofNat_toInt h
theorem pf_shr {a d : Nat} {D : Int64} (hD : (D.toBitVec.smod 64).toNat = d) (h : a < 2 ^ 62) : lN a >>> D = lN (a / 2 ^ d) := by
  have hd : a / 2 ^ d ≤ a := Nat.div_le_self _ _
  apply Int64.toInt_inj.mp
  have e : (lN a >>> D).toInt = (lN a).toInt >>> d := by
    rw [← hD]
    exact BitVec.toInt_sshiftRight ..
  rw [e, Int.shiftRight_eq_div_pow, pf_lI (by omega), pf_lI (by omega)]
  rfl
theorem pf_ushr {a d : Nat} {D : UInt64} (hD : D.toNat % 64 = d) (h : a < 2 ^ 62) : ((lN a).toUInt64 >>> D).toInt64 = lN (a / 2 ^ d) := by
  have hd : a / 2 ^ d ≤ a := Nat.div_le_self _ _
  have e : (lN a).toUInt64 >>> D = UInt64.ofNat (a / 2 ^ d) := UInt64.toNat_inj.mp (by
    rw [UInt64.toNat_shiftRight, hD, Nat.shiftRight_eq_div_pow, UInt64.toNat_ofNat']
    show (UInt64.ofNat a).toNat / 2 ^ d = _
    rw [UInt64.toNat_ofNat', Nat.mod_eq_of_lt (by omega), Nat.mod_eq_of_lt (by omega)])
  rw [e]
  rfl
theorem pf_andw (x : Int64) : ∃ m, m < 2 ^ 32 ∧ x &&& 4294967295 = lN m := ⟨x.toBitVec.toNat % 2 ^ 32, Nat.mod_lt _ (by decide), Int64.toBitVec_inj.mp (BitVec.eq_of_toNat_eq (by
  show (x.toBitVec &&& 4294967295#64).toNat = (BitVec.ofNat 64 (x.toBitVec.toNat % 2 ^ 32)).toNat
  rw [BitVec.toNat_and, show (4294967295#64).toNat = 2 ^ 32 - 1 from by decide, Nat.and_two_pow_sub_one_eq_mod, BitVec.toNat_ofNat]
  omega))⟩
/-! ===== Int64 as an unsigned number: uN x ===== -/
def uN (x : Int64) : Nat := x.toUInt64.toNat
theorem uN_lt (x : Int64) : uN x < 18446744073709551616 := x.toUInt64.toNat_lt
theorem uN_inj {x y : Int64} (h : uN x = uN y) : x = y := congrArg UInt64.toInt64 (UInt64.toNat_inj.mp h)
theorem uN_add (x y : Int64) : uN (x + y) = (uN x + uN y) % 18446744073709551616 := by
  show (x.toUInt64 + y.toUInt64).toNat = _
  exact UInt64.toNat_add _ _
theorem uN_mul (x y : Int64) : uN (x * y) = (uN x * uN y) % 18446744073709551616 := by
  show (x.toUInt64 * y.toUInt64).toNat = _
  exact UInt64.toNat_mul _ _
theorem uN_shl (x : Int64) : uN (x <<< ((1 : Int32).toInt64 &&& 63)) = (2 * uN x) % 18446744073709551616 := by
  have h : (((1 : Int32).toInt64 &&& 63).toBitVec.smod 64).toNat = 1 := by decide
  show (x.toBitVec <<< (((1 : Int32).toInt64 &&& 63).toBitVec.smod 64).toNat).toNat = _
  rw [h, BitVec.toNat_shiftLeft, Nat.shiftLeft_eq, Nat.mul_comm]
  rfl
theorem uN_shr (x : Int64) (s : UInt64) : uN (x.toUInt64 >>> s).toInt64 = uN x / 2 ^ (s.toNat % 64) := by
  show (x.toUInt64 >>> s).toNat = _
  rw [UInt64.toNat_shiftRight, Nat.shiftRight_eq_div_pow]
  rfl
theorem uN_s32 (x : Int64) : uN (x.toUInt64 >>> ((32 : Int32).toInt64.toUInt64 &&& Int64.toUInt64 63)).toInt64 = uN x / 4294967296 := by
  have h : ((32 : Int32).toInt64.toUInt64 &&& Int64.toUInt64 63).toNat % 64 = 32 := by decide
  rw [uN_shr, h]
theorem uN_s63 (x : Int64) : uN (x.toUInt64 >>> ((63 : Int32).toInt64.toUInt64 &&& Int64.toUInt64 63)).toInt64 = uN x / 9223372036854775808 := by
  have h : ((63 : Int32).toInt64.toUInt64 &&& Int64.toUInt64 63).toNat % 64 = 63 := by decide
  rw [uN_shr, h]
theorem uN_lo (x : Int64) : uN (x &&& 4294967295) = uN x % 4294967296 := by
  show (x.toUInt64 &&& Int64.toUInt64 4294967295).toNat = _
  rw [UInt64.toNat_and]
  exact Nat.and_two_pow_sub_one_eq_mod _ 32
theorem uN_bit (x : Int64) : (x &&& 1) = 0 ↔ uN x % 2 = 0 := by
  have h : uN (x &&& 1) = uN x % 2 := by
    show (x.toUInt64 &&& Int64.toUInt64 1).toNat = _
    rw [UInt64.toNat_and]
    exact Nat.and_two_pow_sub_one_eq_mod _ 1
  rw [← h]
  exact ⟨fun z => by rw [z]; rfl, fun z => uN_inj (z.trans rfl)⟩
theorem uN_or {x y : Int64} (hy : uN y < 2) : uN ((x <<< ((1 : Int32).toInt64 &&& 63)) ||| y) = (2 * uN x) % 18446744073709551616 + uN y := by
  have h1 : uN ((x <<< ((1 : Int32).toInt64 &&& 63)) ||| y) = uN (x <<< ((1 : Int32).toInt64 &&& 63)) ||| uN y := UInt64.toNat_or _ _
  have h2 : (2 * uN x) % 18446744073709551616 = 2 ^ 1 * (uN x % 9223372036854775808) := by omega
  rw [h1, uN_shl, h2]
  exact (Nat.two_pow_add_eq_or_of_lt (i := 1) hy _).symm
theorem nat_xor {a : Nat} (h : a < 18446744073709551616) : a ^^^ 2 ^ 63 = (a + 9223372036854775808) % 18446744073709551616 := by
  have h1 : (a ^^^ 2 ^ 63) % 2 ^ 63 = a % 2 ^ 63 := by rw [Nat.xor_mod_two_pow, Nat.mod_self, Nat.xor_zero]
  have h2 : (a ^^^ 2 ^ 63) / 2 ^ 63 = (a / 2 ^ 63) ^^^ 1 := by rw [Nat.xor_div_two_pow, Nat.div_self (Nat.two_pow_pos 63)]
  have h3 : a / 2 ^ 63 = 0 ∨ a / 2 ^ 63 = 1 := by omega
  generalize a ^^^ 2 ^ 63 = t at h1 h2
  rcases h3 with h3 | h3
  · rw [h3] at h2
    have h2 : t / 2 ^ 63 = 1 := h2
    omega
  · rw [h3] at h2
    have h2 : t / 2 ^ 63 = 0 := h2
    omega
theorem uN_xor (x : Int64) : uN (x ^^^ (-9223372036854775808)) = (uN x + 9223372036854775808) % 18446744073709551616 := by
  rw [← nat_xor (uN_lt x)]
  exact UInt64.toNat_xor _ _
theorem uN_int (x : Int64) : x.toInt = if 2 * uN x < 18446744073709551616 then (uN x : Int) else (uN x : Int) - 18446744073709551616 := BitVec.toInt_eq_toNat_cond _
theorem uN_le (x y : Int64) : (x ^^^ (-9223372036854775808)) ≤ (y ^^^ (-9223372036854775808)) ↔ uN x ≤ uN y := by
  have hx := uN_lt x
  have hy := uN_lt y
  rw [Int64.le_iff_toInt_le, uN_int, uN_int, uN_xor, uN_xor]
  omega
theorem uN_sk (x : Int64) {k : Nat} (hk : k < 64) : uN (x.toUInt64 >>> ((nI k).toInt64.toUInt64 &&& Int64.toUInt64 63)).toInt64 = uN x / 2 ^ k := by
  have h : ((nI k).toInt64.toUInt64 &&& Int64.toUInt64 63).toNat % 64 = k := by
    rw [nI_l (by omega), UInt64.toNat_and]
    have e : (lN k).toUInt64.toNat = k % 2 ^ 64 := rfl
    have e2 : (Int64.toUInt64 63).toNat = 2 ^ 6 - 1 := by decide
    rw [e, e2, Nat.and_two_pow_sub_one_eq_mod]
    omega
  rw [uN_shr, h]
/-! ===== unsigned comparison by xor with the least ===== -/
theorem lN_bv (n : Nat) : (lN n).toBitVec = BitVec.ofNat 64 n := rfl
theorem lN_nat {n : Nat} (h : n < 2 ^ 64) : (lN n).toBitVec.toNat = n := by rw [lN_bv, BitVec.toNat_ofNat]; exact Nat.mod_eq_of_lt h
theorem lN_xor (a b : Nat) : lN a ^^^ lN b = lN (a ^^^ b) := by
  apply Int64.toBitVec_inj.mp; rw [Int64.toBitVec_xor, lN_bv, lN_bv, lN_bv]; apply BitVec.eq_of_getLsbD_eq; intro i hi; simp [BitVec.getLsbD_ofNat, Nat.testBit_xor, hi]
theorem lN_ti {m : Nat} (h : m < 2 ^ 64) : (lN m).toInt = if m < 2 ^ 63 then (m : Int) else (m : Int) - 2 ^ 64 := by
  have c := BitVec.toInt_eq_toNat_cond (lN m).toBitVec
  rw [lN_nat h] at c
  show (lN m).toBitVec.toInt = _
  rw [c]
  split <;> split <;> omega
theorem xor63 {x : Nat} (h : x < 2 ^ 63) : x ^^^ 2 ^ 63 = 2 ^ 63 + x := by
  apply Nat.eq_of_testBit_eq
  intro i
  rw [Nat.testBit_xor, Nat.testBit_two_pow]
  rcases Nat.lt_trichotomy i 63 with z | z | z
  · rw [Nat.testBit_two_pow_add_gt z, decide_eq_false (by omega)]; simp
  · subst z; rw [Nat.testBit_two_pow_add_eq]; simp
  · have hp : 2 ^ 64 ≤ 2 ^ i := Nat.pow_le_pow_right (by decide) z
    rw [Nat.testBit_lt_two_pow (show x < 2 ^ i by omega), Nat.testBit_lt_two_pow (show 2 ^ 63 + x < 2 ^ i by omega), decide_eq_false (by omega)]; rfl
theorem xorS {a : Nat} (h : a < 2 ^ 64) : (lN a ^^^ (-9223372036854775808)).toInt = (a : Int) - 2 ^ 63 := by
  rw [show (-9223372036854775808 : Int64) = lN (2 ^ 63) from by decide +kernel, lN_xor]
  rcases Nat.lt_or_ge a (2 ^ 63) with z | z
  · rw [xor63 z, lN_ti (by omega), if_neg (by omega)]; omega
  · obtain ⟨x, rfl⟩ : ∃ x, a = 2 ^ 63 + x := ⟨a - 2 ^ 63, by omega⟩
    rw [← xor63 (by omega), Nat.xor_assoc, Nat.xor_self, Nat.xor_zero, lN_ti (by omega), if_pos (by omega), xor63 (by omega)]; omega
theorem ultL {a b : Nat} (ha : a < 2 ^ 64) (hb : b < 2 ^ 64) : ((lN b ^^^ (-9223372036854775808)) ≤ (lN a ^^^ (-9223372036854775808))) ↔ b ≤ a := by
  rw [Int64.le_iff_toInt_le, xorS ha, xorS hb]; omega
/-! ===== Int64 masks of n low bits ===== -/
theorem cr_bits (W U M : BitVec 64) : ((W &&& U) &&& (U &&& (M ^^^ BitVec.allOnes 64))) = 0#64 ↔ (W &&& U) &&& M = W &&& U := by
  constructor
  · intro h
    apply BitVec.eq_of_getLsbD_eq
    intro i hi
    have e := congrArg (fun x => BitVec.getLsbD x i) h
    simp only [BitVec.getLsbD_and, BitVec.getLsbD_xor, BitVec.getLsbD_allOnes, BitVec.getLsbD_zero, hi, decide_true] at e ⊢
    revert e
    cases W.getLsbD i <;> cases U.getLsbD i <;> cases M.getLsbD i <;> decide
  · intro h
    apply BitVec.eq_of_getLsbD_eq
    intro i hi
    have e := congrArg (fun x => BitVec.getLsbD x i) h
    simp only [BitVec.getLsbD_and, BitVec.getLsbD_xor, BitVec.getLsbD_allOnes, BitVec.getLsbD_zero, hi, decide_true] at e ⊢
    revert e
    cases W.getLsbD i <;> cases U.getLsbD i <;> cases M.getLsbD i <;> decide
theorem cr_mask (w U m : Int64) (n : Nat) (hm : m.toBitVec.toNat = 2 ^ n - 1) : ((w &&& U) &&& (U &&& (m ^^^ (-1)))) = 0 ↔ (w &&& U).toBitVec.toNat < 2 ^ n := by
  have e0 : (-1 : Int64).toBitVec = BitVec.allOnes 64 := by decide
  have z0 : (0 : Int64).toBitVec = 0#64 := by decide
  rw [← Int64.toBitVec_inj, z0, Int64.toBitVec_and, Int64.toBitVec_and, Int64.toBitVec_and, Int64.toBitVec_xor, e0, cr_bits]
  generalize w.toBitVec &&& U.toBitVec = T
  rw [← BitVec.toNat_inj, BitVec.toNat_and, hm, Nat.and_two_pow_sub_one_eq_mod]
  constructor
  · intro h
    have t := Nat.mod_lt T.toNat (Nat.two_pow_pos n)
    rw [h] at t
    exact t
  · exact Nat.mod_eq_of_lt
theorem cr_shr (t : Int64) (x : UInt64) (n : Nat) (hx : x.toNat % 64 = n) : (t.toUInt64 >>> x).toInt64 = 0 ↔ t.toBitVec.toNat < 2 ^ n := by
  rw [← Int64.toBitVec_inj, ← BitVec.toNat_inj]
  show (t.toUInt64 >>> x).toNat = 0 ↔ t.toUInt64.toNat < 2 ^ n
  rw [UInt64.toNat_shiftRight, hx, Nat.shiftRight_eq_div_pow]
  constructor
  · intro h
    have d : t.toUInt64.toNat / 2 ^ n < 1 := by
      rw [h]
      decide
    have e := (Nat.div_lt_iff_lt_mul (Nat.two_pow_pos n)).mp d
    rw [Nat.one_mul] at e
    exact e
  · exact Nat.div_eq_of_lt
theorem cr_amt (s : Int64) : ∃ n, n < 64 ∧ s &&& 63 = lN n ∧ (s.toUInt64 &&& Int64.toUInt64 63).toNat % 64 = n := by
  have e : (s.toUInt64 &&& Int64.toUInt64 63).toNat = s.toUInt64.toNat % 2 ^ 6 := by
    rw [UInt64.toNat_and, show (Int64.toUInt64 63).toNat = 2 ^ 6 - 1 from by decide, Nat.and_two_pow_sub_one_eq_mod]
  refine ⟨s.toUInt64.toNat % 2 ^ 6, by omega, ?_, by omega⟩
  rw [← Int64.toBitVec_inj, ← BitVec.toNat_inj]
  show (s.toUInt64 &&& Int64.toUInt64 63).toNat = (BitVec.ofNat 64 (s.toUInt64.toNat % 2 ^ 6)).toNat
  rw [e, BitVec.toNat_ofNat]
  omega
end
section
/-! counting over a Bool-valued function, words made of it, sets as naturals -/
def iz_c (P : Nat → Bool) : Nat → Nat
  | 0 => 0
  | k + 1 => iz_c P k + (P k).toNat
def iz_mk (P : Nat → Bool) : Nat → Nat
  | 0 => 0
  | k + 1 => iz_mk P k + (P k).toNat * 2 ^ k
theorem iz_c_congr {P Q : Nat → Bool} : ∀ n : Nat, (∀ k, k < n → P k = Q k) → iz_c P n = iz_c Q n := by
  intro n
  induction n with
  | zero => intro _; rfl
  | succ n ih =>
    intro h
    show iz_c P n + (P n).toNat = iz_c Q n + (Q n).toNat
    rw [ih (fun k hk => h k (by omega)), h n (by omega)]
theorem iz_c_le (P : Nat → Bool) : ∀ n : Nat, iz_c P n ≤ n := by
  intro n
  induction n with
  | zero => exact Nat.le_refl 0
  | succ n ih =>
    show iz_c P n + (P n).toNat ≤ n + 1
    cases P n <;> simp <;> omega
theorem iz_c_not (P : Nat → Bool) : ∀ n : Nat, iz_c P n + iz_c (fun k => !P k) n = n := by
  intro n
  induction n with
  | zero => rfl
  | succ n ih =>
    show (iz_c P n + (P n).toNat) + (iz_c (fun k => !P k) n + (!P n).toNat) = n + 1
    cases P n <;> simp <;> omega
theorem iz_c_split (P Q : Nat → Bool) : ∀ n : Nat, iz_c (fun k => P k && Q k) n + iz_c (fun k => P k && !Q k) n = iz_c P n := by
  intro n
  induction n with
  | zero => rfl
  | succ n ih =>
    show (iz_c (fun k => P k && Q k) n + (P n && Q n).toNat) + (iz_c (fun k => P k && !Q k) n + (P n && !Q n).toNat) = iz_c P n + (P n).toNat
    cases P n <;> cases Q n <;> simp <;> omega
theorem iz_c_mono {P Q : Nat → Bool} : ∀ n : Nat, (∀ k, k < n → P k = true → Q k = true) → iz_c P n ≤ iz_c Q n := by
  intro n
  induction n with
  | zero => intro _; exact Nat.le_refl 0
  | succ n ih =>
    intro h
    show iz_c P n + (P n).toNat ≤ iz_c Q n + (Q n).toNat
    have h1 := ih (fun k hk => h k (by omega))
    have h2 := h n (by omega)
    cases hp : P n with
    | false => simp; omega
    | true => rw [h2 hp]; simp; omega
theorem iz_c_step (P : Nat → Bool) (n : Nat) : iz_c P (n + 1) = iz_c P n + (P n).toNat := rfl
theorem iz_c_flat (P : Nat → Bool) (a : Nat) : ∀ b : Nat, a ≤ b → (∀ k, a ≤ k → k < b → P k = false) → iz_c P b = iz_c P a := by
  intro b
  induction b with
  | zero => intro h _; rw [show a = 0 by omega]
  | succ b ih =>
    intro h hz
    rcases Nat.lt_or_ge b a with hb | hb
    · rw [show a = b + 1 by omega]
    · rw [iz_c_step, hz b hb (by omega), ih hb (fun k h1 h2 => hz k h1 (by omega))]; rfl
theorem iz_c_zero {P : Nat → Bool} : ∀ n : Nat, iz_c P n = 0 ↔ ∀ k, k < n → P k = false := by
  intro n
  induction n with
  | zero => exact ⟨fun _ k hk => absurd hk (by omega), fun _ => rfl⟩
  | succ n ih =>
    rw [iz_c_step]
    constructor
    · intro h k hk
      have h0 : iz_c P n = 0 := by omega
      have h1 : (P n).toNat = 0 := by omega
      rcases Nat.lt_or_ge k n with hh | hh
      · exact ih.mp h0 k hh
      · rw [show k = n by omega]
        cases hp : P n with
        | false => rfl
        | true => rw [hp] at h1; exact absurd h1 (by decide)
    · intro h
      rw [ih.mpr (fun k hk => h k (by omega)), h n (by omega)]; rfl
theorem iz_mk_lt (P : Nat → Bool) : ∀ n : Nat, iz_mk P n < 2 ^ n := by
  intro n
  induction n with
  | zero => exact Nat.one_pos
  | succ n ih =>
    show iz_mk P n + (P n).toNat * 2 ^ n < 2 ^ (n + 1)
    rw [Nat.pow_succ]
    cases P n <;> simp <;> omega
theorem iz_mk_tb (P : Nat → Bool) : ∀ n i : Nat, (iz_mk P n).testBit i = (decide (i < n) && P i) := by
  intro n
  induction n with
  | zero => intro i; show (0 : Nat).testBit i = _; simp
  | succ n ih =>
    intro i
    show (iz_mk P n + (P n).toNat * 2 ^ n).testBit i = _
    rw [Nat.add_comm, Nat.mul_comm, Nat.testBit_two_pow_mul_add _ (iz_mk_lt P n)]
    rcases Nat.lt_trichotomy i n with h | h | h
    · rw [if_pos h, ih, decide_eq_true h, decide_eq_true (show i < n + 1 by omega)]
    · subst h
      rw [if_neg (by omega), decide_eq_true (show i < i + 1 by omega), Nat.sub_self]
      cases P i <;> rfl
    · rw [if_neg (by omega), decide_eq_false (show ¬ i < n + 1 by omega)]
      obtain ⟨j, hj⟩ : ∃ j, i - n = j + 1 := ⟨i - n - 1, by omega⟩
      rw [hj, Bool.false_and]
      cases P n
      · exact Nat.zero_testBit _
      · show (1 : Nat).testBit (j + 1) = false
        exact Nat.testBit_lt_two_pow (Nat.one_lt_two_pow (by omega))
theorem iz_mk_lt64 (P : Nat → Bool) {n : Nat} (h : n ≤ 40) : iz_mk P n < 2 ^ 64 :=
  Nat.lt_of_lt_of_le (iz_mk_lt P n) (Nat.pow_le_pow_right (by decide) (by omega))
theorem iz_mk_lt40 (P : Nat → Bool) {n : Nat} (h : n ≤ 40) : iz_mk P n < 2 ^ 40 :=
  Nat.lt_of_lt_of_le (iz_mk_lt P n) (Nat.pow_le_pow_right (by decide) h)
theorem iz_mk_congr {P Q : Nat → Bool} (n : Nat) (h : ∀ k, k < n → P k = Q k) : iz_mk P n = iz_mk Q n := by
  apply Nat.eq_of_testBit_eq
  intro i
  rw [iz_mk_tb, iz_mk_tb]
  rcases Nat.lt_or_ge i n with hi | hi
  · rw [h i hi]
  · rw [decide_eq_false (by omega)]; rfl
theorem iz_mk_pop (P : Nat → Bool) {n : Nat} (h : n ≤ 40) : iz_c (fun k => (iz_mk P n).testBit k) 40 = iz_c P n := by
  rw [iz_c_flat _ n 40 h]
  · apply iz_c_congr
    intro k hk
    show (iz_mk P n).testBit k = P k
    rw [iz_mk_tb, decide_eq_true hk, Bool.true_and]
  · intro k h1 h2
    show (iz_mk P n).testBit k = false
    rw [iz_mk_tb, decide_eq_false (by omega), Bool.false_and]
theorem iz_mk_zero (P : Nat → Bool) (n : Nat) : iz_mk P n = 0 ↔ iz_c P n = 0 := by
  rw [iz_c_zero]
  constructor
  · intro h k hk
    have t := iz_mk_tb P n k
    rw [h, Nat.zero_testBit, decide_eq_true hk, Bool.true_and] at t
    exact t.symm
  · intro h
    apply Nat.eq_of_testBit_eq
    intro i
    rw [iz_mk_tb, Nat.zero_testBit]
    rcases Nat.lt_or_ge i n with hi | hi
    · rw [h i hi, Bool.and_false]
    · rw [decide_eq_false (by omega), Bool.false_and]
theorem iz_sub (a s : Nat) : a &&& s = s ↔ ∀ i, s.testBit i = true → a.testBit i = true := by
  constructor
  · intro h i hi
    rw [← h, Nat.testBit_and, Bool.and_eq_true] at hi
    exact hi.1
  · intro h
    apply Nat.eq_of_testBit_eq
    intro i
    rw [Nat.testBit_and]
    cases hs : s.testBit i with
    | false => exact Bool.and_false _
    | true => rw [h i hs]; rfl
theorem iz_sub_bit (a s g : Nat) : a &&& (s ||| 2 ^ g) = s ||| 2 ^ g ↔ a &&& s = s ∧ a.testBit g = true := by
  rw [iz_sub, iz_sub]
  constructor
  · intro h
    exact ⟨fun i hi => h i (by rw [Nat.testBit_or, hi]; rfl), h g (by rw [Nat.testBit_or, Nat.testBit_two_pow_self, Bool.or_true])⟩
  · intro h i hi
    rw [Nat.testBit_or, Nat.testBit_two_pow, Bool.or_eq_true, decide_eq_true_eq] at hi
    rcases hi with hi | hi
    · exact h.1 i hi
    · rw [← hi]; exact h.2
theorem iz_sub_trans {a t s : Nat} (h1 : a &&& t = t) (h2 : t &&& s = s) : a &&& s = s :=
  (iz_sub a s).mpr (fun i hi => (iz_sub a t).mp h1 i ((iz_sub t s).mp h2 i hi))
theorem iz_sub_anti {a b : Nat} (h1 : a &&& b = b) (h2 : b &&& a = a) : a = b := by
  rw [← h2, Nat.and_comm, h1]
theorem iz_sub_more {t s : Nat} (h : t &&& s = s) (hn : t ≠ s) (ht : t < 256) : ∃ g, g < 8 ∧ s.testBit g = false ∧ t.testBit g = true ∧ t &&& (s ||| 2 ^ g) = s ||| 2 ^ g := by
  have hx : ∃ g, t.testBit g = true ∧ s.testBit g = false := by
    refine Classical.byContradiction fun hc => hn ?_
    apply Nat.eq_of_testBit_eq
    intro i
    cases h1 : t.testBit i with
    | false =>
      cases h2 : s.testBit i with
      | false => rfl
      | true => rw [(iz_sub t s).mp h i h2] at h1; exact absurd h1 (by decide)
    | true =>
      cases h2 : s.testBit i with
      | false => exact absurd ⟨i, h1, h2⟩ hc
      | true => rfl
  obtain ⟨g, h1, h2⟩ := hx
  refine ⟨g, ?_, h2, h1, (iz_sub_bit t s g).mpr ⟨h, h1⟩⟩
  refine Nat.lt_of_not_le fun hg => ?_
  have : t.testBit g = false := Nat.testBit_lt_two_pow (Nat.lt_of_lt_of_le ht (Nat.pow_le_pow_right (n := 2) (by decide) hg))
  rw [this] at h1
  exact absurd h1 (by decide)
theorem iz_or_lt {s g : Nat} (hs : s < 256) (hg : g < 8) : s ||| 2 ^ g < 256 :=
  Nat.or_lt_two_pow (n := 8) hs (Nat.pow_lt_pow_right (by decide) hg)
theorem iz_low {s g : Nat} (h : s.testBit g = true) : s % 2 ^ (g + 1) = s % 2 ^ g ||| 2 ^ g := by
  apply Nat.eq_of_testBit_eq
  intro i
  rw [Nat.testBit_or, Nat.testBit_mod_two_pow, Nat.testBit_mod_two_pow, Nat.testBit_two_pow]
  rcases Nat.lt_trichotomy i g with hi | hi | hi
  · simp [hi, show i < g + 1 by omega, show ¬ g = i by omega]
  · subst hi; simp [h]
  · simp [show ¬ i < g + 1 by omega, show ¬ i < g by omega, show ¬ g = i by omega]
theorem iz_low0 {s g : Nat} (h : s.testBit g = false) : s % 2 ^ (g + 1) = s % 2 ^ g := by
  apply Nat.eq_of_testBit_eq
  intro i
  rw [Nat.testBit_mod_two_pow, Nat.testBit_mod_two_pow]
  rcases Nat.lt_trichotomy i g with hi | hi | hi
  · simp [hi, show i < g + 1 by omega]
  · subst hi; simp [h]
  · simp [show ¬ i < g + 1 by omega, show ¬ i < g by omega]
end
section
/-! the baskets as naturals below 256: support, lost words, lacking words -/
def iz_sup (n : Nat) (w : Nat → Nat) (s : Nat) : Nat := iz_c (fun k => decide (w k &&& s = s)) n
def iz_LS (n : Nat) (w : Nat → Nat) (s : Nat) : Nat := iz_mk (fun k => !decide (w k &&& s = s)) n
def iz_LK (n : Nat) (w : Nat → Nat) (g : Nat) : Nat := iz_mk (fun k => !(w k).testBit g) n
def iz_MO (n : Nat) (w : Nat → Nat) (s g : Nat) : Nat := iz_mk (fun k => decide (w k &&& s = s) && !(w k).testBit g) n
def iz_b (w : Nat → Nat) : Nat → Int32 := fun i => nI (w i)
def iz_of (n : Nat) (w : Nat → Nat) (m : Int32) (s : Nat) : Bool := decide (¬ m < 1 ∧ ¬ s = 0 ∧ ¬ nI (iz_sup n w s) < m)
theorem iz_b_at (w : Nat → Nat) {i : Nat} (h : i < 2 ^ 31) : iz_b w (nI i).toNatClampNeg = nI (w i) := by
  rw [nI_clamp h]; rfl
theorem iz_sup_s1 {w : Nat → Nat} {i s : Nat} (h : w i &&& s = s) : iz_sup (i + 1) w s = iz_sup i w s + 1 := by
  show iz_sup i w s + (decide (w i &&& s = s)).toNat = _
  rw [decide_eq_true h]; rfl
theorem iz_sup_s0 {w : Nat → Nat} {i s : Nat} (h : ¬ w i &&& s = s) : iz_sup (i + 1) w s = iz_sup i w s := by
  show iz_sup i w s + (decide (w i &&& s = s)).toNat = _
  rw [decide_eq_false h]; rfl
theorem iz_sup_le (n : Nat) (w : Nat → Nat) (s : Nat) : iz_sup n w s ≤ n := iz_c_le _ n
theorem iz_sup_mono (n : Nat) (w : Nat → Nat) {t s : Nat} (h : t &&& s = s) : iz_sup n w t ≤ iz_sup n w s :=
  iz_c_mono n (fun k _ hk => decide_eq_true (iz_sub_trans (of_decide_eq_true hk) h))
theorem iz_LS_0 (n : Nat) (w : Nat → Nat) : iz_LS n w 0 = 0 := by
  refine (iz_mk_zero _ n).mpr ((iz_c_zero n).mpr fun k _ => ?_)
  show (!decide (w k &&& 0 = 0)) = false
  rw [decide_eq_true (Nat.and_zero _)]; rfl
theorem iz_LS_pop {n : Nat} (w : Nat → Nat) (s : Nat) (h : n ≤ 40) : iz_c (fun k => (iz_LS n w s).testBit k) 40 = n - iz_sup n w s := by
  have e : iz_c (fun k => (iz_LS n w s).testBit k) 40 = iz_c (fun k => !decide (w k &&& s = s)) n := iz_mk_pop _ h
  have f : iz_sup n w s + iz_c (fun k => !decide (w k &&& s = s)) n = n := iz_c_not (fun k => decide (w k &&& s = s)) n
  rw [e]; omega
theorem iz_LS_lt {n : Nat} (w : Nat → Nat) (s : Nat) (h : n ≤ 40) : iz_LS n w s < 2 ^ 64 := iz_mk_lt64 _ h
theorem iz_LK_lt {n : Nat} (w : Nat → Nat) (g : Nat) (h : n ≤ 40) : iz_LK n w g < 2 ^ 64 := iz_mk_lt64 _ h
theorem iz_MO_lt {n : Nat} (w : Nat → Nat) (s g : Nat) (h : n ≤ 40) : iz_MO n w s g < 2 ^ 64 := iz_mk_lt64 _ h
theorem iz_LS_or (n : Nat) (w : Nat → Nat) (s g : Nat) : iz_LS n w s ||| iz_LK n w g = iz_LS n w (s ||| 2 ^ g) := by
  apply Nat.eq_of_testBit_eq
  intro i
  rw [Nat.testBit_or]
  unfold iz_LS iz_LK
  rw [iz_mk_tb, iz_mk_tb, iz_mk_tb]
  show (decide (i < n) && !decide (w i &&& s = s) || decide (i < n) && !(w i).testBit g) = (decide (i < n) && !decide (w i &&& (s ||| 2 ^ g) = s ||| 2 ^ g))
  have e : decide (w i &&& (s ||| 2 ^ g) = s ||| 2 ^ g) = (decide (w i &&& s = s) && (w i).testBit g) := by
    rw [Bool.eq_iff_iff, decide_eq_true_eq, Bool.and_eq_true, decide_eq_true_eq]
    exact iz_sub_bit _ _ _
  rw [e]
  cases decide (i < n) <;> cases decide (w i &&& s = s) <;> cases (w i).testBit g <;> rfl
theorem iz_LS_orL {n : Nat} (w : Nat → Nat) (s g : Nat) (h : n ≤ 40) : lN (iz_LS n w s) ||| lN (iz_LK n w g) = lN (iz_LS n w (s ||| 2 ^ g)) := by
  rw [wb_or (iz_LS_lt w s h) (iz_LK_lt w g h), iz_LS_or]
theorem iz_andn {a b c : Nat} (h : ∀ i, c.testBit i = (a.testBit i && !b.testBit i)) : lN a &&& (lN b ^^^ (-1)) = lN c := by
  apply wb_inj
  have ha : (-1 : Int64).toBitVec = BitVec.allOnes 64 := by decide
  rw [Int64.toBitVec_and, Int64.toBitVec_xor, ha, wb_tb, wb_tb, wb_tb]
  apply BitVec.eq_of_getLsbD_eq
  intro i hi
  rw [BitVec.getLsbD_and, BitVec.getLsbD_xor, BitVec.getLsbD_allOnes, BitVec.getLsbD_ofNat, BitVec.getLsbD_ofNat, BitVec.getLsbD_ofNat, h i, decide_eq_true hi]
  cases a.testBit i <;> cases b.testBit i <;> rfl
theorem iz_MO_w (n : Nat) (w : Nat → Nat) (s g : Nat) : lN (iz_LK n w g) &&& (lN (iz_LS n w s) ^^^ (-1)) = lN (iz_MO n w s g) := by
  apply iz_andn
  intro i
  unfold iz_LS iz_LK iz_MO
  rw [iz_mk_tb, iz_mk_tb, iz_mk_tb]
  show (decide (i < n) && (decide (w i &&& s = s) && !(w i).testBit g)) = (decide (i < n) && !(w i).testBit g && !(decide (i < n) && !decide (w i &&& s = s)))
  cases decide (i < n) <;> cases decide (w i &&& s = s) <;> cases (w i).testBit g <;> rfl
theorem iz_MO_c (n : Nat) (w : Nat → Nat) (s g : Nat) : iz_sup n w (s ||| 2 ^ g) + iz_c (fun k => decide (w k &&& s = s) && !(w k).testBit g) n = iz_sup n w s := by
  have e : iz_sup n w (s ||| 2 ^ g) = iz_c (fun k => decide (w k &&& s = s) && (w k).testBit g) n := by
    apply iz_c_congr
    intro i _
    show decide (w i &&& (s ||| 2 ^ g) = s ||| 2 ^ g) = (decide (w i &&& s = s) && (w i).testBit g)
    rw [Bool.eq_iff_iff, decide_eq_true_eq, Bool.and_eq_true, decide_eq_true_eq]
    exact iz_sub_bit _ _ _
  rw [e]
  exact iz_c_split (fun k => decide (w k &&& s = s)) (fun k => (w k).testBit g) n
theorem iz_MO_pop {n : Nat} (w : Nat → Nat) (s g : Nat) (h : n ≤ 40) : iz_c (fun k => (iz_MO n w s g).testBit k) 40 = iz_sup n w s - iz_sup n w (s ||| 2 ^ g) := by
  have e : iz_c (fun k => (iz_MO n w s g).testBit k) 40 = iz_c (fun k => decide (w k &&& s = s) && !(w k).testBit g) n := iz_mk_pop _ h
  have f := iz_MO_c n w s g
  rw [e]; omega
theorem iz_MO_0 {n : Nat} (w : Nat → Nat) (s g : Nat) (h : n ≤ 40) : lN (iz_MO n w s g) = 0 ↔ iz_sup n w (s ||| 2 ^ g) = iz_sup n w s := by
  have f := iz_MO_c n w s g
  have e : lN (iz_MO n w s g) = lN 0 ↔ iz_MO n w s g = 0 := pk_lEQ (Nat.lt_trans (iz_mk_lt40 _ h) (by decide)) (by decide)
  have z : iz_MO n w s g = 0 ↔ iz_c (fun k => decide (w k &&& s = s) && !(w k).testBit g) n = 0 := iz_mk_zero _ n
  refine Iff.trans e (Iff.trans z ?_)
  omega
theorem iz_nlt {a b : Nat} {m : Int32} (h : a ≤ b) (hb : b < 2 ^ 31) (h1 : ¬ nI a < m) : ¬ nI b < m :=
  Int32.not_lt.mpr (Int32.le_trans (Int32.not_lt.mp h1) (nI_le h hb))
theorem iz_of1 {n : Nat} {w : Nat → Nat} {m : Int32} {s : Nat} (h : iz_of n w m s = true) : ¬ m < 1 ∧ ¬ s = 0 ∧ ¬ nI (iz_sup n w s) < m := of_decide_eq_true h
theorem iz_of_0 (n : Nat) (w : Nat → Nat) (m : Int32) : iz_of n w m 0 = false := decide_eq_false (fun h => h.2.1 rfl)
theorem iz_of_mono {n : Nat} {w : Nat → Nat} {m : Int32} {t s : Nat} (hn : n ≤ 40) (h : t &&& s = s) (hs : ¬ s = 0) (ht : iz_of n w m t = true) : iz_of n w m s = true :=
  decide_eq_true ⟨(iz_of1 ht).1, hs, iz_nlt (iz_sup_mono n w h) (by have := iz_sup_le n w s; omega) (iz_of1 ht).2.2⟩
theorem iz_m255 {s : Nat} (h : s < 256) : nI s &&& 255 = nI s := by
  have e : nI s &&& nI 255 = nI (s &&& 255) := nx_and s 255
  have f : s &&& 255 = s := by
    have := Nat.and_two_pow_sub_one_eq_mod s 8
    rw [show (255 : Nat) = 2 ^ 8 - 1 from rfl, this]; omega
  rw [f] at e; exact e
theorem iz_x255 (x : Int32) : x &&& 255 = nI (x.toBitVec.toNat % 256) := pk_and x 8 (by decide)
/-- bit g of an int's low byte -/
theorem iz_xbit (x : Int32) {g : Nat} (hg : g < 8) : ((x.toUInt32 >>> ((nI g).toUInt32 &&& Int32.toUInt32 31)).toInt32 &&& 1) = 0 ↔ (x.toBitVec.toNat % 256).testBit g = false := by
  have e : ((x.toUInt32 >>> ((nI g).toUInt32 &&& Int32.toUInt32 31)).toInt32 &&& 1) = nI ((x.toUInt32 >>> ((nI g).toUInt32 &&& Int32.toUInt32 31)).toInt32.toBitVec.toNat % 2 ^ 1) := pk_and _ 1 (by decide)
  have f : (x.toUInt32 >>> ((nI g).toUInt32 &&& Int32.toUInt32 31)).toInt32.toBitVec.toNat = x.toBitVec.toNat / 2 ^ g := pk_ushr x (nI g) g (s_u g (by omega))
  have t : (x.toBitVec.toNat % 2 ^ 8).testBit g = (decide (g < 8) && x.toBitVec.toNat.testBit g) := Nat.testBit_mod_two_pow _ 8 g
  rw [e, f]
  have u : (x.toBitVec.toNat.testBit g).toNat = x.toBitVec.toNat / 2 ^ g % 2 := Nat.toNat_testBit _ _
  show nI (x.toBitVec.toNat / 2 ^ g % 2) = 0 ↔ (x.toBitVec.toNat % 2 ^ 8).testBit g = false
  rw [t, ← u, decide_eq_true hg]
  cases x.toBitVec.toNat.testBit g
  · exact ⟨fun _ => rfl, fun _ => rfl⟩
  · exact ⟨fun h => absurd h (by decide), fun h => absurd h (by decide)⟩
/-- bit g of a small natural -/
theorem iz_nbit {s g : Nat} (hs : s < 256) (hg : g < 8) : (((nI s).toUInt32 >>> ((nI g).toUInt32 &&& Int32.toUInt32 31)).toInt32 &&& 1) = 0 ↔ s.testBit g = false := nx_bit (by omega) (by omega)
end
section
/-! the reference's support and isOften; the component's ones, sort, lostBy -/
theorem iz_Ysup11 {n s : Nat} {w : Nat → Nat} {post : Int32 → Prop} (hn : n ≤ 40) (hw : ∀ i, w i < 256) (hs : s < 256) (h : post (nI (iz_sup n w s))) : ∀ k i : Nat, i ≤ n → n - i < k → wY_support_11 post (nI s) (nI n) (iz_b w) k (nI (iz_sup i w s)) (nI i) := by
  intro k
  induction k with
  | zero => intro i _ hk; omega
  | succ k ih =>
    intro i hi hk
    refine pk_le n i (fun hle => ?_) (fun hlt => ?_)
    · have e : i = n := by omega
      subst e; exact h
    · refine ⟨vp_in_nI (by omega) (by omega), ?_⟩
      have e : iz_b w (nI i).toNatClampNeg &&& nI s = nI s ↔ w i &&& s = s := by
        have h1 := hw i
        have h2 : w i &&& s ≤ s := Nat.and_le_right
        rw [iz_b_at w (by omega), nx_and, nI_eq (by omega) (by omega)]
      refine ek_if e (fun hh => ?_) (fun hh => ?_)
      · exact nm_r (e' := nI (iz_sup (i + 1) w s)) (by rw [iz_sup_s1 hh, nI_1]) (nm_r (nI_1 i) (ih (i + 1) (by omega) (by omega)))
      · refine nm_r (nI_1 i) ?_
        have := ih (i + 1) (by omega) (by omega)
        rw [iz_sup_s0 hh] at this
        exact this
theorem iz_Ysup {n s : Nat} {w : Nat → Nat} {post : Int32 → Prop} {x : Int32} (hn : n ≤ 40) (hw : ∀ i, w i < 256) (hs : s < 256) (hx : x &&& 255 = nI s) (h : post (nI (iz_sup n w s))) : wpY_support post (nI n, iz_b w) x :=
  nm_r hx ⟨n + 1, iz_Ysup11 hn hw hs h (n + 1) 0 (by omega) (by omega)⟩
theorem iz_Yof {n s : Nat} {w : Nat → Nat} {post : Int32 → Prop} {m : Int32} (hn : n ≤ 40) (hw : ∀ i, w i < 256) (hs : s < 256) (h1 : iz_of n w m s = true → post 1) (h0 : iz_of n w m s = false → post 0) : wpY_isOften post (nI n, iz_b w) (nI s) m := by
  by_cases c1 : m < 1
  · exact br_t c1 (h0 (decide_eq_false fun hc => hc.1 c1))
  · refine br_f c1 ?_
    by_cases c2 : s = 0
    · exact br_t (congrArg nI c2) (h0 (decide_eq_false fun hc => hc.2.1 c2))
    · refine br_f (fun hc => c2 ?_) ?_
      · have : nI s = nI 0 := hc
        rwa [nI_eq (by omega) (by omega)] at this
      · refine iz_Ysup hn hw hs (iz_m255 hs) ?_
        exact br_c (fun c3 => h0 (decide_eq_false fun hc => hc.2.2 c3)) (fun c3 => h1 (decide_eq_true ⟨c1, c2, c3⟩))
/-- the component's count of ones -/
theorem iz_ones4 {x : Nat} {post : Int32 → Prop} (hx : x < 2 ^ 64) (h : post (nI (iz_c (fun k => x.testBit k) 40))) : ∀ k i : Nat, i ≤ 40 → 40 - i < k → wX_ones_4 post (lN x) k (nI (iz_c (fun k => x.testBit k) i)) (nI i) := by
  intro k
  induction k with
  | zero => intro i _ hk; omega
  | succ k ih =>
    intro i hi hk
    refine pk_le 40 i (fun hle => ?_) (fun hlt => ?_)
    · have e : i = 40 := by omega
      subst e; exact h
    · have e : nI (iz_c (fun k => x.testBit k) i) + ((((lN x).toUInt64 >>> ((nI i).toInt64.toUInt64 &&& Int64.toUInt64 63)).toInt64).toInt32 &&& 1) = nI (iz_c (fun k => x.testBit k) (i + 1)) := by
        rw [wb_shr hx (by omega), lN_i]
        show nI _ + (nI (x / 2 ^ i) &&& nI 1) = _
        rw [nx_and, Nat.and_one_is_mod, nI_add, iz_c_step, Nat.toNat_testBit]
      exact nm_r e (nm_r (nI_1 i) (ih (i + 1) (by omega) (by omega)))
theorem iz_ones {x : Nat} {post : Int32 → Prop} (hx : x < 2 ^ 64) (h : post (nI (iz_c (fun k => x.testBit k) 40))) : wpX_ones post (lN x) :=
  ⟨41, iz_ones4 hx h 41 0 (by omega) (by omega)⟩
theorem iz_onesLS {n s : Nat} {w : Nat → Nat} {post : Int32 → Prop} (hn : n ≤ 40) (h : post (nI (n - iz_sup n w s))) : wpX_ones post (lN (iz_LS n w s)) :=
  iz_ones (iz_LS_lt w s hn) (by rw [iz_LS_pop w s hn]; exact h)
theorem iz_bas {n s : Nat} (w : Nat → Nat) : nI n - nI (n - iz_sup n w s) = nI (iz_sup n w s) := by
  have := iz_sup_le n w s
  rw [pk_sub (by omega)]
  exact congrArg nI (by omega)
/-- the words of lacking baskets are up to date -/
def iz_lk (n : Nat) (w : Nat → Nat) (lac : Nat → Int64) : Prop := ∀ g, g < 8 → lac g = lN (iz_LK n w g)
theorem iz_mk1 {P : Nat → Bool} {i : Nat} (h : P i = true) : iz_mk P i ||| 2 ^ i = iz_mk P (i + 1) := by
  apply Nat.eq_of_testBit_eq
  intro j
  rw [Nat.testBit_or, iz_mk_tb, iz_mk_tb, Nat.testBit_two_pow]
  rcases Nat.lt_trichotomy j i with hj | hj | hj
  · rw [decide_eq_true hj, decide_eq_true (show j < i + 1 by omega), decide_eq_false (show ¬ i = j by omega), Bool.or_false]
  · subst hj
    rw [decide_eq_true (show j < j + 1 by omega), decide_eq_true rfl, Bool.or_true, h]; rfl
  · rw [decide_eq_false (show ¬ j < i by omega), decide_eq_false (show ¬ j < i + 1 by omega), decide_eq_false (show ¬ i = j by omega)]; rfl
theorem iz_mk0 {P : Nat → Bool} {i : Nat} (h : P i = false) : iz_mk P (i + 1) = iz_mk P i := by
  show iz_mk P i + (P i).toNat * 2 ^ i = _
  rw [h]; simp
theorem iz_sort30 {n g : Nat} {w : Nat → Nat} {post : SX → Prop} {J : Int32 → (Nat → Int32) → (Nat → Int64) → (Nat → Int64) → (Nat → Int32) → Prop} {fs fe fd : Int32} {lac lost : Nat → Int64} {ch : Nat → Int32} (hn : n ≤ 40) (hw : ∀ i, w i < 256) (hg : g < 8)
    (hJ : ∀ lac' : Nat → Int64, lac' g = lN (iz_LK n w g) → (∀ j, j ≠ g → lac' j = lac j) → J (nI (g + 1)) (iz_b w) lac' lost ch) :
    ∀ (k i : Nat) (la : Nat → Int64), i ≤ n → n - i < k → la g = lN (iz_LK i w g) → (∀ j, j ≠ g → la j = lac j) → wX_sort_30 post J (nI g) (nI n) fs fe fd k (nI i) (iz_b w) la lost ch := by
  intro k
  induction k with
  | zero => intro i la _ hk; omega
  | succ k ih =>
    intro i la hi hk h1 h2
    refine pk_le n i (fun hle => ?_) (fun hlt => ?_)
    · have e : i = n := by omega
      subst e
      exact nm_r (nI_1 g) (hJ la h1 h2)
    · have e : ((((iz_b w (nI i).toNatClampNeg).toUInt32 >>> ((nI g).toUInt32 &&& Int32.toUInt32 31)).toInt32) &&& 1) = 0 ↔ (w i).testBit g = false := by
        rw [iz_b_at w (by omega)]
        exact iz_nbit (hw i) hg
      refine ⟨vp_in_nI hg (by omega), vp_in_nI (by omega) (by omega), ek_if e (fun hh => ?_) (fun hh => ?_)⟩
      · refine ⟨vp_in_nI hg (by omega), nm_e (nm_r (nI_1 i) (ih (i + 1) _ (by omega) (by omega) ?_ ?_))⟩
        · rw [nI_clamp (by omega), pk_uLs, h1]
          have e2 : (1 : Int64) <<< ((nI i).toInt64 &&& 63) = lN (1 * 2 ^ i) := wb_shl 1 (by omega)
          rw [e2, Nat.one_mul, wb_or (iz_LK_lt w g (by omega)) (wb_lt2 (show i < 64 by omega))]
          exact congrArg lN (iz_mk1 (by show (!(w i).testBit g) = true; rw [hh]; rfl))
        · intro j hj
          rw [nI_clamp (by omega), pk_uLn hj]; exact h2 j hj
      · refine ⟨vp_in_nI hg (by omega), nm_e (nm_r (nI_1 i) (ih (i + 1) _ (by omega) (by omega) ?_ ?_))⟩
        · rw [nI_clamp (by omega), pk_uLs, h1, Int64.or_zero]
          exact congrArg lN (iz_mk0 (P := fun k => !(w k).testBit g) (by show (!(w i).testBit g) = false; rw [ts_nf hh]; rfl)).symm
        · intro j hj
          rw [nI_clamp (by omega), pk_uLn hj]; exact h2 j hj
theorem iz_sort15 {n : Nat} {w : Nat → Nat} {post : SX → Prop} {fs fe fd : Int32} {lost : Nat → Int64} {ch : Nat → Int32} (hn : n ≤ 40) (hw : ∀ i, w i < 256)
    (h : ∀ lac' : Nat → Int64, iz_lk n w lac' → post (nI n, fs, fe, fd, iz_b w, lac', lost, ch)) :
    ∀ (k g : Nat) (la : Nat → Int64), g ≤ 8 → 8 - g < k → (∀ j, j < g → la j = lN (iz_LK n w j)) → wX_sort_15 post (nI n) fs fe fd k (nI g) (iz_b w) la lost ch := by
  intro k
  induction k with
  | zero => intro g la _ hk; omega
  | succ k ih =>
    intro g la hg hk h1
    refine pk_le 8 g (fun hle => ?_) (fun hlt => ?_)
    · have e : g = 8 := by omega
      subst e
      exact h la h1
    · refine ⟨vp_in_nI (by omega) (by omega), nm_e ⟨n + 1, ?_⟩⟩
      refine iz_sort30 (lac := la) hn hw hlt ?_ (n + 1) 0 _ (by omega) (by omega) ?_ ?_
      · intro la' e1 e2
        refine ih (g + 1) la' (by omega) (by omega) ?_
        intro j hj
        rcases Nat.lt_or_ge j g with hh | hh
        · rw [e2 j (by omega)]; exact h1 j hh
        · rw [show j = g by omega]; exact e1
      · rw [nI_clamp (by omega), pk_uLs]; rfl
      · intro j hj
        rw [nI_clamp (by omega), pk_uLn hj]
theorem iz_sort {n : Nat} {w : Nat → Nat} {post : SX → Prop} {fs fe fd : Int32} {lac lost : Nat → Int64} {ch : Nat → Int32} (hn : n ≤ 40) (hw : ∀ i, w i < 256) (hl : fs = 0 ∨ iz_lk n w lac)
    (h : ∀ (fs' : Int32) (lac' : Nat → Int64), iz_lk n w lac' → ¬ fs' = 0 → post (nI n, fs', fe, fd, iz_b w, lac', lost, ch)) : wpX_sort post (nI n, fs, fe, fd, iz_b w, lac, lost, ch) := by
  refine br_c (fun _ => ⟨9, iz_sort15 hn hw (fun la hla => h 1 la hla (by decide)) 9 0 lac (by omega) (by omega) (fun j hj => absurd hj (by omega))⟩) (fun c => ?_)
  rcases hl with hl | hl
  · exact absurd hl c
  · exact h fs lac hl c
theorem iz_sort' {n : Nat} {w : Nat → Nat} {post : SX → Prop} {fs fe fd : Int32} {lac lost : Nat → Int64} {ch : Nat → Int32} (hf : ¬ fs = 0)
    (h : post (nI n, fs, fe, fd, iz_b w, lac, lost, ch)) : wpX_sort post (nI n, fs, fe, fd, iz_b w, lac, lost, ch) := br_f hf h
theorem iz_lost9 {n : Nat} {w : Nat → Nat} {post : Int64 → SX → Prop} {x fs fe fd : Int32} {lac lost : Nat → Int64} {ch : Nat → Int32} (hn : n ≤ 40) (hl : iz_lk n w lac)
    (h : post (lN (iz_LS n w (x.toBitVec.toNat % 256))) (nI n, fs, fe, fd, iz_b w, lac, lost, ch)) :
    ∀ k g : Nat, g ≤ 8 → 8 - g < k → wX_lostBy_9 post x (nI n) fs fe fd (iz_b w) lac lost ch k (lN (iz_LS n w (x.toBitVec.toNat % 256 % 2 ^ g))) (nI g) := by
  intro k
  induction k with
  | zero => intro g _ hk; omega
  | succ k ih =>
    intro g hg hk
    refine pk_le 8 g (fun hle => ?_) (fun hlt => ?_)
    · have e : g = 8 := by omega
      subst e
      rw [Nat.mod_mod] at *
      exact h
    · refine ek_if (iz_xbit x hlt) (fun hh => ?_) (fun hh => ?_)
      · refine nm_r (e' := lN (iz_LS n w (x.toBitVec.toNat % 256 % 2 ^ (g + 1)))) ?_ (nm_r (nI_1 g) (ih (g + 1) (by omega) (by omega)))
        rw [Int64.or_zero, iz_low0 hh]
      · refine ⟨vp_in_nI hlt (by omega), nm_r (e' := lN (iz_LS n w (x.toBitVec.toNat % 256 % 2 ^ (g + 1)))) ?_ (nm_r (nI_1 g) (ih (g + 1) (by omega) (by omega)))⟩
        rw [nI_clamp (by omega), hl g hlt, iz_LS_orL w _ g hn, iz_low (ts_nf hh)]
theorem iz_lost {n : Nat} {w : Nat → Nat} {post : Int64 → SX → Prop} {x fs fe fd : Int32} {lac lost : Nat → Int64} {ch : Nat → Int32} (hn : n ≤ 40) (hw : ∀ i, w i < 256) (hl : fs = 0 ∨ iz_lk n w lac)
    (h : ∀ (fs' : Int32) (lac' : Nat → Int64), iz_lk n w lac' → ¬ fs' = 0 → post (lN (iz_LS n w (x.toBitVec.toNat % 256))) (nI n, fs', fe, fd, iz_b w, lac', lost, ch)) : wpX_lostBy post (nI n, fs, fe, fd, iz_b w, lac, lost, ch) x := by
  unfold wpX_lostBy
  dsimp only
  refine iz_sort hn hw hl fun fs' lac' hl' hf => ⟨9, ?_⟩
  have := iz_lost9 (x := x) hn hl' (h fs' lac' hl' hf) 9 0 (by omega) (by omega)
  rw [Nat.pow_zero, Nat.mod_one, iz_LS_0] at this
  exact this
theorem iz_lost' {n : Nat} {w : Nat → Nat} {post : Int64 → SX → Prop} {x fs fe fd : Int32} {lac lost : Nat → Int64} {ch : Nat → Int32} (hn : n ≤ 40) (hl : iz_lk n w lac) (hf : ¬ fs = 0)
    (h : post (lN (iz_LS n w (x.toBitVec.toNat % 256))) (nI n, fs, fe, fd, iz_b w, lac, lost, ch)) : wpX_lostBy post (nI n, fs, fe, fd, iz_b w, lac, lost, ch) x := by
  unfold wpX_lostBy
  dsimp only
  refine iz_sort' hf ⟨9, ?_⟩
  have := iz_lost9 (x := x) hn hl h 9 0 (by omega) (by omega)
  rw [Nat.pow_zero, Nat.mod_one, iz_LS_0] at this
  exact this
end
section
/-! numbers of the growing sets: prefixes, positions, and how many steps are left -/
theorem iz_dv1 (p k : Nat) {c : Nat} (hc : c < 2) : (2 * p + c) / 2 ^ (k + 1) = p / 2 ^ k := by
  rw [Nat.pow_succ', ← Nat.div_div_eq_div_mul, show (2 * p + c) / 2 = p by omega]
theorem iz_dv2 (p k : Nat) : p / 2 / 2 ^ k = p / 2 ^ (k + 1) := by
  rw [Nat.pow_succ', Nat.div_div_eq_div_mul]
theorem iz_clr : ∀ d, d < 8 → ∀ p, p < 2 ^ d → ∀ q, q < 2 → nI (p * 2 ^ (8 - d) + q * 2 ^ (7 - d)) &&& (((1 : Int32) <<< (nI (7 - d) &&& 31)) ^^^ (-1)) = nI (p * 2 ^ (8 - d)) := by decide +kernel
theorem iz_set : ∀ d, d < 8 → ∀ p, p < 2 ^ d → ∀ c, c < 2 → nI (p * 2 ^ (8 - d)) ||| (nI c <<< (nI (7 - d) &&& 31)) = nI ((2 * p + c) * 2 ^ (7 - d)) := by decide +kernel
theorem iz_or1 : ∀ d, d < 8 → ∀ p, p < 2 ^ d → p * 2 ^ (8 - d) ||| 2 ^ (7 - d) = (2 * p + 1) * 2 ^ (7 - d) := by decide +kernel
theorem iz_or0 : ∀ d, d < 8 → ∀ p, p < 2 ^ d → p * 2 ^ (8 - d) = (2 * p + 0) * 2 ^ (7 - d) := by decide +kernel
theorem iz_ups : ∀ d, d < 8 → ∀ p, p < 2 ^ (d + 1) → p * 2 ^ (8 - (d + 1)) = p / 2 * 2 ^ (8 - d) + p % 2 * 2 ^ (7 - d) := by decide +kernel
theorem iz_blk : ∀ h, h < 8 → ∀ t, t < 256 → t &&& (t / 2 ^ h * 2 ^ h) = t / 2 ^ h * 2 ^ h := by decide +kernel
theorem iz_Bup (p : Nat) {d : Nat} (h : d < 7) : (2 * (p / 2) + (p % 2 + 1)) * 2 ^ (7 - d) = (2 * p + 2) * 2 ^ (7 - (d + 1)) := by
  have e : 2 ^ (7 - d) = 2 * 2 ^ (7 - (d + 1)) := by
    rw [← Nat.pow_succ', show (7 - (d + 1)).succ = 7 - d by omega]
  rw [show 2 * (p / 2) + (p % 2 + 1) = p + 1 by omega, e, ← Nat.mul_assoc, show (p + 1) * 2 = 2 * p + 2 by omega]
theorem iz_Bdn (r : Nat) {d : Nat} (h : d < 7) : (2 * r + 0) * 2 ^ (7 - (d + 1)) = r * 2 ^ (7 - d) := by
  have e : 2 ^ (7 - d) = 2 * 2 ^ (7 - (d + 1)) := by
    rw [← Nat.pow_succ', show (7 - (d + 1)).succ = 7 - d by omega]
  rw [e, ← Nat.mul_assoc, show r * 2 = 2 * r + 0 by omega]
def iz_wt (d c : Nat) : Nat := (3 - c) + (2 - c) * (2 ^ (9 - d) - 3)
def iz_an : Nat → Nat → Nat
  | 0, _ => 0
  | d + 1, p => iz_an d (p / 2) + iz_wt d (p % 2 + 1)
theorem iz_wt_dn : ∀ d, d < 7 → ∀ c, c < 2 → iz_wt d (c + 1) + iz_wt (d + 1) 0 + 1 ≤ iz_wt d c := by decide
theorem iz_wt_7 : ∀ c, c < 2 → iz_wt 7 (c + 1) + 2 ≤ iz_wt 7 c := by decide
theorem iz_wt_pr : ∀ d, d < 8 → ∀ c, c < 2 → iz_wt d (c + 1) + 1 ≤ iz_wt d c := by decide
theorem iz_wt_pos (d : Nat) {c : Nat} (h : c ≤ 2) : 1 ≤ iz_wt d c :=
  Nat.le_trans (show 1 ≤ 3 - c by omega) (Nat.le_add_right _ _)
theorem iz_wt_2 (d : Nat) : iz_wt d 2 = 1 := by
  unfold iz_wt
  rw [show 2 - 2 = 0 from rfl, Nat.zero_mul]
theorem iz_an_b : ∀ p, p < 256 → iz_an 8 p ≤ 1021 := by decide +kernel
theorem iz_an_dn (d p : Nat) {c : Nat} (h : c < 2) : iz_an (d + 1) (2 * p + c) = iz_an d p + iz_wt d (c + 1) := by
  show iz_an d ((2 * p + c) / 2) + iz_wt d ((2 * p + c) % 2 + 1) = _
  rw [show (2 * p + c) / 2 = p by omega, show (2 * p + c) % 2 = c by omega]
end
section
/-! growing sets: choose, goOn, start -/
def iz_D (n : Nat) (w : Nat → Nat) (d p c : Nat) (lost : Nat → Int64) (ch : Nat → Int32) : Prop :=
  (∀ i, i ≤ d → lost i = lN (iz_LS n w (p / 2 ^ (d - i) * 2 ^ (8 - i)))) ∧ (∀ i, i < d → ch i = nI (p / 2 ^ (d - 1 - i) % 2)) ∧ ch d = nI c - 1
def iz_S (n : Nat) (w : Nat → Nat) (u : SX) : Prop := ∃ (fs fe fd : Int32) (lac lost : Nat → Int64) (ch : Nat → Int32), u = (nI n, fs, fe, fd, iz_b w, lac, lost, ch) ∧ (fs = 0 ∨ iz_lk n w lac)
def iz_8 (n : Nat) (w : Nat → Nat) (s : Nat) (u : SX) : Prop := ∃ (fs : Int32) (lac lost : Nat → Int64) (ch : Nat → Int32), u = (nI n, fs, nI s, 8, iz_b w, lac, lost, ch) ∧ ¬ fs = 0 ∧ iz_lk n w lac ∧ iz_D n w 8 s 0 lost ch
def iz_G (n : Nat) (w : Nat → Nat) (m : Int32) (B : Nat) (post : Int32 → SX → Prop) : Prop :=
  (∀ (s : Nat) (u : SX), iz_8 n w s u → B ≤ s → s < 256 → iz_of n w m s = true → (∀ t, B ≤ t → t < s → iz_of n w m t = false) → post 1 u) ∧ (∀ u : SX, iz_S n w u → (∀ t, B ≤ t → t < 256 → iz_of n w m t = false) → post 0 u)
theorem iz_G_up {n : Nat} {w : Nat → Nat} {m : Int32} {B B' : Nat} {post : Int32 → SX → Prop} (h : iz_G n w m B post) (hB : B ≤ B') (hz : ∀ t, B ≤ t → t < B' → t < 256 → iz_of n w m t = false) : iz_G n w m B' post := by
  refine ⟨fun s u h8 h1 h2 h3 h4 => h.1 s u h8 (by omega) h2 h3 fun t t1 t2 => ?_, fun u hS h1 => h.2 u hS fun t t1 t2 => ?_⟩
  · rcases Nat.lt_or_ge t B' with hh | hh
    · exact hz t t1 hh (by omega)
    · exact h4 t hh t2
  · rcases Nat.lt_or_ge t B' with hh | hh
    · exact hz t t1 hh t2
    · exact h1 t hh t2
theorem iz_8S {n s : Nat} {w : Nat → Nat} {u : SX} (h : iz_8 n w s u) : iz_S n w u := by
  obtain ⟨fs, lac, lost, ch, rfl, _, hl, _⟩ := h
  exact ⟨fs, _, _, lac, lost, ch, rfl, Or.inr hl⟩
theorem iz_D_up {n d p c : Nat} {w : Nat → Nat} {lost : Nat → Int64} {ch ch' : Nat → Int32} (h : iz_D n w (d + 1) p c lost ch) (hc : ∀ i, i < d + 1 → ch' i = ch i) : iz_D n w d (p / 2) (p % 2 + 1) lost ch' := by
  refine ⟨fun i hi => ?_, fun i hi => ?_, ?_⟩
  · rw [h.1 i (by omega), iz_dv2, show d + 1 - i = d - i + 1 by omega]
  · rw [hc i (by omega), h.2.1 i (by omega), iz_dv2, show d + 1 - 1 - i = d - 1 - i + 1 by omega]
  · rw [hc d (by omega), h.2.1 d (by omega), nI_pred, show d + 1 - 1 - d = 0 by omega, Nat.pow_zero, Nat.div_one]
theorem iz_D_pr {n d p c : Nat} {w : Nat → Nat} {lost : Nat → Int64} {ch : Nat → Int32} (h : iz_D n w d p c lost ch) : iz_D n w d p (c + 1) lost (upd ch d (nI c)) := by
  refine ⟨h.1, fun i hi => ?_, ?_⟩
  · rw [pk_un (by omega)]; exact h.2.1 i hi
  · rw [pk_us, nI_pred]
theorem iz_D_dn {n d p c : Nat} {w : Nat → Nat} {lost : Nat → Int64} {ch : Nat → Int32} (h : iz_D n w d p c lost ch) (hd : d < 8) (hc : c < 2) : iz_D n w (d + 1) (2 * p + c) 0 (vp_updL lost (d + 1) (lN (iz_LS n w ((2 * p + c) * 2 ^ (7 - d))))) (upd (upd ch d (nI c)) (d + 1) (-1)) := by
  refine ⟨fun i hi => ?_, fun i hi => ?_, ?_⟩
  · rcases Nat.lt_or_ge i (d + 1) with hh | hh
    · rw [pk_uLn (by omega), h.1 i (by omega), show d + 1 - i = d - i + 1 by omega, iz_dv1 p _ hc]
    · have e : i = d + 1 := by omega
      subst e
      rw [pk_uLs, Nat.sub_self, Nat.pow_zero, Nat.div_one, show 8 - (d + 1) = 7 - d by omega]
  · rw [pk_un (by omega)]
    rcases Nat.lt_or_ge i d with hh | hh
    · rw [pk_un (by omega), h.2.1 i hh, show d + 1 - 1 - i = d - 1 - i + 1 by omega, iz_dv1 p _ hc]
    · have e : i = d := by omega
      subst e
      rw [pk_us, show i + 1 - 1 - i = 0 by omega, Nat.pow_zero, Nat.div_one, show (2 * p + c) % 2 = c by omega]
  · rw [pk_us]; rfl
theorem iz_c99 {n d p c : Nat} {w : Nat → Nat} {post : SX → Prop} {m fs : Int32} {lac lost : Nat → Int64} {ch : Nat → Int32} {z : Int64} (hn : n ≤ 40) (hd : d < 8) (hp : p < 2 ^ d) (hc : c < 2) (hD : iz_D n w d p c lost ch)
    (hz : z = lN (iz_LS n w ((2 * p + c) * 2 ^ (7 - d))))
    (hpr : nI (iz_sup n w ((2 * p + c) * 2 ^ (7 - d))) < m → post (nI n, fs, nI (p * 2 ^ (8 - d)), nI d, iz_b w, lac, lost, upd ch d (nI c)))
    (hdn : ¬ nI (iz_sup n w ((2 * p + c) * 2 ^ (7 - d))) < m → ∀ (lost' : Nat → Int64) (ch' : Nat → Int32), iz_D n w (d + 1) (2 * p + c) 0 lost' ch' → post (nI n, fs, nI ((2 * p + c) * 2 ^ (7 - d)), nI (d + 1), iz_b w, lac, lost', ch')) :
    wX_choose_99 post m (nI (7 - d)) z (nI n) fs (nI (p * 2 ^ (8 - d))) (nI d) (iz_b w) lac lost (upd ch d (nI c)) := by
  subst hz
  unfold wX_choose_99
  refine iz_onesLS hn ?_
  rw [iz_bas w]
  refine br_c hpr (fun hh => ⟨vp_in_nI (by omega) (by omega), nm_r (e' := nI ((2 * p + c) * 2 ^ (7 - d))) ?_ ?_⟩)
  · rw [nI_clamp (by omega), pk_us]; exact iz_set d hd p hp c hc
  · rw [nI_1 d]
    refine ⟨vp_in_nI (by omega) (by omega), nm_e (nm_e ⟨vp_in_nI (by omega) (by omega), nm_e ?_⟩)⟩
    rw [nI_clamp (by omega)]
    exact hdn hh _ _ (iz_D_dn hD hd hc)
theorem iz_choose {n d p c q : Nat} {w : Nat → Nat} {post : SX → Prop} {m fs : Int32} {lac lost : Nat → Int64} {ch : Nat → Int32} (hn : n ≤ 40) (hd : d < 8) (hp : p < 2 ^ d) (hc : c ≤ 2) (hq : q < 2) (hl : iz_lk n w lac) (hD : iz_D n w d p c lost ch)
    (hup : c = 2 → ∀ ch' : Nat → Int32, (∀ i, i < d → ch' i = ch i) → post (nI n, fs, nI (p * 2 ^ (8 - d)), nI d - 1, iz_b w, lac, lost, ch'))
    (hpr : c < 2 → nI (iz_sup n w ((2 * p + c) * 2 ^ (7 - d))) < m → post (nI n, fs, nI (p * 2 ^ (8 - d)), nI d, iz_b w, lac, lost, upd ch d (nI c)))
    (hdn : c < 2 → ¬ nI (iz_sup n w ((2 * p + c) * 2 ^ (7 - d))) < m → ∀ (lost' : Nat → Int64) (ch' : Nat → Int32), iz_D n w (d + 1) (2 * p + c) 0 lost' ch' → post (nI n, fs, nI ((2 * p + c) * 2 ^ (7 - d)), nI (d + 1), iz_b w, lac, lost', ch')) :
    wpX_choose post (nI n, fs, nI (p * 2 ^ (8 - d) + q * 2 ^ (7 - d)), nI d, iz_b w, lac, lost, ch) m := by
  unfold wpX_choose
  dsimp only
  have e7 : (7 : Int32) - nI d = nI (7 - d) := pk_sub (a := 7) (b := d) (by omega)
  have vi : vp_in (nI d) 9 := vp_in_nI (by omega) (by omega)
  have hL : lost d = lN (iz_LS n w (p * 2 ^ (8 - d))) := by
    rw [hD.1 d (Nat.le_refl d), Nat.sub_self, Nat.pow_zero, Nat.div_one]
  refine nm_r e7 ⟨vi, vi, nm_r (e' := upd ch d (nI c)) ?_ (nm_r (iz_clr d hd p hp q hq) ⟨vi, ?_⟩)⟩
  · rw [nI_clamp (by omega), hD.2.2, Int32.sub_add_cancel]
  · rw [nI_clamp (n := d) (by omega), pk_us]
    refine pk_le c 1 (fun h1 => ⟨vi, pk_eq c 0 (fun h0 => ⟨vi, ?_⟩) (fun h0 => ⟨vi, vp_in_nI (by omega) (by omega), ?_⟩)⟩) (fun h2 => nm_e ?_)
    · refine iz_c99 hn hd hp (by omega) hD ?_ (hpr (by omega)) (hdn (by omega))
      subst h0
      rw [hL, iz_or0 d hd p hp]
    · refine iz_c99 hn hd hp (by omega) hD ?_ (hpr (by omega)) (hdn (by omega))
      have e1 : c = 1 := by omega
      subst e1
      rw [nI_clamp (by omega), hL, hl (7 - d) (by omega), iz_LS_orL w _ _ hn, iz_or1 d hd p hp]
    · exact hup (by omega) _ (fun i hi => pk_un (by omega))
theorem iz_pass {n r h : Nat} {w : Nat → Nat} {m : Int32} (hn : n ≤ 40) (hh : h < 8) (hlt : nI (iz_sup n w (r * 2 ^ h)) < m) : ∀ t, r * 2 ^ h ≤ t → t < (r + 1) * 2 ^ h → t < 256 → iz_of n w m t = false := by
  intro t h1 h2 h3
  refine decide_eq_false fun hc => ?_
  have e : t / 2 ^ h = r := Nat.div_eq_of_lt_le h1 h2
  have f := iz_blk h hh t h3
  rw [e] at f
  have g := iz_sup_le n w (r * 2 ^ h)
  exact iz_nlt (iz_sup_mono n w f) (by omega) hc.2.2 hlt
theorem iz_go {n : Nat} {w : Nat → Nat} {m fs : Int32} {lac : Nat → Int64} {post : Int32 → SX → Prop} (hn : n ≤ 40) (hm : ¬ m < 1) (hf : ¬ fs = 0) (hl : iz_lk n w lac) : ∀ k : Nat,
    (∀ (x d p c q : Nat) (lost : Nat → Int64) (ch : Nat → Int32), d < 8 → p < 2 ^ d → c ≤ 2 → q < 2 → iz_D n w d p c lost ch → iz_an d p + iz_wt d c < k → x + (iz_an d p + iz_wt d c) ≤ 1600 → iz_G n w m ((2 * p + c) * 2 ^ (7 - d)) post → wX_goOn_17 post m k (nI x) (nI n) fs (nI (p * 2 ^ (8 - d) + q * 2 ^ (7 - d))) (nI d) (iz_b w) lac lost ch) ∧
    (∀ (x p : Nat) (lost : Nat → Int64) (ch : Nat → Int32), p < 256 → iz_D n w 8 p 0 lost ch → ¬ nI (iz_sup n w p) < m → iz_an 8 p + 1 < k → x + (iz_an 8 p + 1) ≤ 1600 → iz_G n w m p post → wX_goOn_17 post m k (nI x) (nI n) fs (nI p) 8 (iz_b w) lac lost ch) := by
  intro k
  induction k with
  | zero => exact ⟨fun x d p c q lost ch _ _ _ _ _ hk => by omega, fun x p lost ch _ _ _ hk => by omega⟩
  | succ k ih =>
    constructor
    · intro x d p c q lost ch hd hp hc hq hD hk hx hG
      have hw1 := iz_wt_pos d hc
      refine br_f (nI_ge (b := 1600) (by omega) (by decide)) (br_f (nI_pos (by omega)) (br_f (fun h => ?_) ?_))
      · have h' : nI d = nI 8 := h
        rw [nI_eq (by omega) (by omega)] at h'
        omega
      · refine iz_choose hn hd hp hc hq hl hD ?_ ?_ ?_
        · intro h2 ch' hch
          dsimp only
          refine nm_r (nI_1 x) ?_
          subst h2
          cases d with
          | zero =>
            obtain ⟨k', rfl⟩ : ∃ k', k = k' + 1 := ⟨k - 1, by omega⟩
            have fin : post 0 (nI n, fs, nI (p * 2 ^ (8 - 0)), nI 0 - 1, iz_b w, lac, lost, ch') := by
              refine hG.2 _ ⟨fs, _, _, lac, lost, ch', rfl, Or.inr hl⟩ fun t h1 h2 => ?_
              rw [show (2 * p + 2) * 2 ^ (7 - 0) = (2 * p + 2) * 128 from rfl] at h1
              omega
            exact br_c (fun _ => fin) (fun _ => br_t (by decide) fin)
          | succ d =>
            rw [iz_ups d (by omega) p hp, nI_pred]
            have e : iz_an d (p / 2) + iz_wt d (p % 2 + 1) = iz_an (d + 1) p := rfl
            refine ih.1 (x + 1) d (p / 2) (p % 2 + 1) (p % 2) lost ch' (by omega) ?_ (by omega) (by omega) (iz_D_up hD hch) (by omega) (by omega) ?_
            · rw [Nat.pow_succ] at hp; omega
            · rw [iz_Bup p (by omega)]; exact hG
        · intro hc2 hlt
          dsimp only
          refine nm_r (nI_1 x) ?_
          have e0 : p * 2 ^ (8 - d) = p * 2 ^ (8 - d) + 0 * 2 ^ (7 - d) := by rw [Nat.zero_mul, Nat.add_zero]
          have e1 := iz_wt_pr d hd c hc2
          rw [e0]
          refine ih.1 (x + 1) d p (c + 1) 0 lost _ hd hp (by omega) (by omega) (iz_D_pr hD) (by omega) (by omega) ?_
          refine iz_G_up hG (Nat.mul_le_mul_right _ (by omega)) ?_
          exact iz_pass hn (by omega) hlt
        · intro hc2 hge lost' ch' hD'
          dsimp only
          refine nm_r (nI_1 x) ?_
          have e3 := iz_an_dn d p hc2
          rcases Nat.lt_or_ge d 7 with h7 | h7
          · have e1 := iz_wt_dn d h7 c hc2
            have e0 : (2 * p + c) * 2 ^ (7 - d) = (2 * p + c) * 2 ^ (8 - (d + 1)) + 0 * 2 ^ (7 - (d + 1)) := by
              rw [Nat.zero_mul, Nat.add_zero, show 8 - (d + 1) = 7 - d by omega]
            rw [e0]
            refine ih.1 (x + 1) (d + 1) (2 * p + c) 0 0 lost' ch' (by omega) ?_ (by omega) (by omega) hD' (by omega) (by omega) ?_
            · rw [Nat.pow_succ]; omega
            · rw [iz_Bdn _ h7]; exact hG
          · have e : d = 7 := by omega
            subst e
            have e1 := iz_wt_7 c hc2
            have e3 : iz_an 8 (2 * p + c) = iz_an 7 p + iz_wt 7 (c + 1) := e3
            have hp' : p < 128 := hp
            rw [show (2 * p + c) * 2 ^ (7 - 7) = 2 * p + c from Nat.mul_one _] at hge hG ⊢
            exact ih.2 (x + 1) (2 * p + c) lost' ch' (by omega) hD' hge (by omega) (by omega) hG
    · intro x p lost ch hp hD hs hk hx hG
      refine br_f (nI_ge (b := 1600) (by omega) (by decide)) (br_f (by decide) (br_t rfl ?_))
      refine pk_eq p 0 (fun h0 => nm_r (nI_1 x) ?_) (fun h0 => hG.1 p _ ⟨fs, lac, lost, ch, rfl, hf, hl, hD⟩ (Nat.le_refl p) hp (decide_eq_true ⟨hm, h0, hs⟩) (fun t h1 h2 => absurd h1 (by omega)))
      have e : iz_an 7 (p / 2) + iz_wt 7 (p % 2 + 1) = iz_an 8 p := rfl
      have es : p / 2 * 2 ^ (8 - 7) + p % 2 * 2 ^ (7 - 7) = p := by
        show p / 2 * 2 + p % 2 * 1 = p
        omega
      have := ih.1 (x + 1) 7 (p / 2) (p % 2 + 1) (p % 2) lost ch (by omega) (by show p / 2 < 128; omega) (by omega) (by omega) (iz_D_up hD (fun i _ => rfl)) (by omega) (by omega) ?_
      · rw [es] at this
        exact this
      · show iz_G n w m ((2 * (p / 2) + (p % 2 + 1)) * 1) post
        refine iz_G_up hG (by omega) fun t h1 h2 _ => ?_
        rw [show t = 0 by omega]
        exact iz_of_0 n w m
theorem iz_goOn {n s : Nat} {w : Nat → Nat} {m : Int32} {u : SX} {post : Int32 → SX → Prop} (hn : n ≤ 40) (hm : ¬ m < 1) (hs : s < 256) (h8 : iz_8 n w s u) (hG : iz_G n w m (s + 1) post) : wpX_goOn post u m := by
  obtain ⟨fs, lac, lost, ch, rfl, hf, hl, hD⟩ := h8
  unfold wpX_goOn
  dsimp only
  refine br_t rfl ⟨1100, ?_⟩
  have e : iz_an 7 (s / 2) + iz_wt 7 (s % 2 + 1) = iz_an 8 s := rfl
  have b := iz_an_b s hs
  have es : s / 2 * 2 ^ (8 - 7) + s % 2 * 2 ^ (7 - 7) = s := by
    show s / 2 * 2 + s % 2 * 1 = s
    omega
  have := (iz_go (post := post) (m := m) hn hm hf hl 1100).1 0 7 (s / 2) (s % 2 + 1) (s % 2) lost ch (by omega) (by show s / 2 < 128; omega) (by omega) (by omega) (iz_D_up hD (fun i _ => rfl)) (by omega) (by omega) ?_
  · rw [es] at this
    exact this
  · rw [show (2 * (s / 2) + (s % 2 + 1)) * 2 ^ (7 - 7) = s + 1 by show (2 * (s / 2) + (s % 2 + 1)) * 1 = s + 1; omega]
    exact hG
theorem iz_start {n : Nat} {w : Nat → Nat} {m : Int32} {u : SX} {post : Int32 → SX → Prop} (hn : n ≤ 40) (hw : ∀ i, w i < 256) (hS : iz_S n w u) (hG : iz_G n w m 0 post) : wpX_start post u m := by
  obtain ⟨fs, fe, fd, lac, lost, ch, rfl, hl⟩ := hS
  unfold wpX_start
  dsimp only
  refine iz_sort hn hw hl fun fs' lac' hl' hf => ?_
  dsimp only
  refine nm_e (nm_e (br_c (fun h1 => ?_) (fun hm => ?_)))
  · exact hG.2 _ ⟨fs', _, _, lac', _, _, rfl, Or.inr hl'⟩ (fun t _ _ => decide_eq_false fun hc => hc.1 h1)
  · unfold wpX_goOn
    dsimp only
    refine br_f (by decide) ⟨1100, ?_⟩
    refine (iz_go (m := m) hn hm hf hl' 1100).1 0 0 0 0 0 _ _ (by omega) (by decide) (by omega) (by omega) ?_ (by decide) (by decide) ?_
    · refine ⟨fun i hi => ?_, fun i hi => absurd hi (by omega), pk_us.trans (by decide)⟩
      have e : i = 0 := by omega
      subst e
      rw [pk_uLs, Nat.zero_div, Nat.zero_mul, iz_LS_0]; rfl
    · refine ⟨fun s u h8 h1 h2 h3 h4 => ?_, fun u hS h1 => ?_⟩
      · have k := hG.1 s u h8 (by omega) h2 h3 (fun t _ ht => h4 t (by omega) ht)
        obtain ⟨_, _, _, _, rfl, _⟩ := h8
        exact br_f (by decide) k
      · have k := hG.2 u hS (fun t _ ht => h1 t (by omega) ht)
        obtain ⟨_, _, _, _, _, _, rfl, _⟩ := hS
        exact br_t rfl k
end
section
/-! both sides as one fold over the often sets in ascending order -/
def iz_F (o : Nat → Bool) (f : Nat → Int32 → Int32) : Nat → Int32
  | 0 => 0
  | s + 1 => cond (o s) (f s (iz_F o f s)) (iz_F o f s)
theorem iz_F_t {o : Nat → Bool} {f : Nat → Int32 → Int32} {s : Nat} (h : o s = true) : iz_F o f (s + 1) = f s (iz_F o f s) := by
  show cond (o s) (f s (iz_F o f s)) (iz_F o f s) = _
  rw [h]; rfl
theorem iz_F_f {o : Nat → Bool} {f : Nat → Int32 → Int32} {s : Nat} (h : o s = false) : iz_F o f (s + 1) = iz_F o f s := by
  show cond (o s) (f s (iz_F o f s)) (iz_F o f s) = _
  rw [h]; rfl
theorem iz_F_flat {o : Nat → Bool} {f : Nat → Int32 → Int32} (a : Nat) : ∀ b : Nat, a ≤ b → (∀ t, a ≤ t → t < b → o t = false) → iz_F o f b = iz_F o f a := by
  intro b
  induction b with
  | zero => intro h _; rw [show a = 0 by omega]
  | succ b ih =>
    intro h hz
    rcases Nat.lt_or_ge b a with hb | hb
    · rw [show a = b + 1 by omega]
    · rw [iz_F_f (hz b hb (by omega))]
      exact ih hb (fun t h1 h2 => hz t h1 (by omega))
theorem iz_G_mono {n B : Nat} {w : Nat → Nat} {m : Int32} {post post' : Int32 → SX → Prop} (h : ∀ r u, post r u → post' r u) (hG : iz_G n w m B post) : iz_G n w m B post' :=
  ⟨fun s u a b c d e => h 1 u (hG.1 s u a b c d e), fun u a b => h 0 u (hG.2 u a b)⟩
theorem iz_ev {n : Nat} {w : Nat → Nat} {m : Int32} {f : Nat → Int32 → Int32} (W : Nat → Int32 → Int32 → Int32 → SX → Prop)
    (hx : ∀ (k x : Nat) (u : SX), iz_S n w u → W (k + 1) (iz_F (iz_of n w m) f 256) 0 (nI x) u)
    (hs : ∀ (k x s : Nat) (u : SX), iz_8 n w s u → s < 256 → iz_of n w m s = true → x < 256 → iz_G n w m (s + 1) (fun r u' => W k (iz_F (iz_of n w m) f (s + 1)) r (nI (x + 1)) u') → W (k + 1) (iz_F (iz_of n w m) f s) 1 (nI x) u) :
    ∀ (k s x : Nat) (u : SX), iz_8 n w s u → s < 256 → iz_of n w m s = true → x ≤ s → 256 - s < k → W k (iz_F (iz_of n w m) f s) 1 (nI x) u := by
  intro k
  induction k with
  | zero => intro s x u _ _ _ _ hk; omega
  | succ k ih =>
    intro s x u h8 h1 h2 h3 hk
    refine hs k x s u h8 h1 h2 (by omega) ⟨fun s' u' h8' a b c d => ?_, fun u' hS a => ?_⟩
    · rw [← iz_F_flat (s + 1) s' a d]
      exact ih s' (x + 1) u' h8' b c (by omega) (by omega)
    · obtain ⟨k', rfl⟩ : ∃ k', k = k' + 1 := ⟨k - 1, by omega⟩
      rw [← iz_F_flat (s + 1) 256 (by omega) a]
      exact hx k' (x + 1) u' hS
theorem iz_ev0 {n : Nat} {w : Nat → Nat} {m : Int32} {f : Nat → Int32 → Int32} (W : Nat → Int32 → Int32 → Int32 → SX → Prop)
    (hx : ∀ (k x : Nat) (u : SX), iz_S n w u → W (k + 1) (iz_F (iz_of n w m) f 256) 0 (nI x) u)
    (hs : ∀ (k x s : Nat) (u : SX), iz_8 n w s u → s < 256 → iz_of n w m s = true → x < 256 → iz_G n w m (s + 1) (fun r u' => W k (iz_F (iz_of n w m) f (s + 1)) r (nI (x + 1)) u') → W (k + 1) (iz_F (iz_of n w m) f s) 1 (nI x) u) :
    iz_G n w m 0 (fun r u => W 258 0 r 0 u) := by
  refine ⟨fun s u h8 a b c d => ?_, fun u hS a => ?_⟩
  · have k := iz_ev W hx hs 258 s 0 u h8 b c (by omega) (by omega)
    rw [iz_F_flat 0 s a d] at k
    exact k
  · have k := hx 257 0 u hS
    rw [iz_F_flat 0 256 (by omega) a] at k
    exact k
/-! the least loss -/
def iz_LL (n : Nat) (w : Nat → Nat) (s : Nat) : Nat → Nat
  | 0 => 41
  | g + 1 => if s.testBit g = true then iz_LL n w s g else if iz_LL n w s g ≤ iz_sup n w s - iz_sup n w (s ||| 2 ^ g) then iz_LL n w s g else iz_sup n w s - iz_sup n w (s ||| 2 ^ g)
theorem iz_LL_t {n s g : Nat} {w : Nat → Nat} (h : s.testBit g = true) : iz_LL n w s (g + 1) = iz_LL n w s g := if_pos h
theorem iz_LL_a {n s g : Nat} {w : Nat → Nat} (h : s.testBit g = false) (h1 : iz_LL n w s g ≤ iz_sup n w s - iz_sup n w (s ||| 2 ^ g)) : iz_LL n w s (g + 1) = iz_LL n w s g := by
  show (if s.testBit g = true then iz_LL n w s g else if iz_LL n w s g ≤ iz_sup n w s - iz_sup n w (s ||| 2 ^ g) then iz_LL n w s g else iz_sup n w s - iz_sup n w (s ||| 2 ^ g)) = _
  rw [if_neg (by rw [h]; decide), if_pos h1]
theorem iz_LL_b {n s g : Nat} {w : Nat → Nat} (h : s.testBit g = false) (h1 : ¬ iz_LL n w s g ≤ iz_sup n w s - iz_sup n w (s ||| 2 ^ g)) : iz_LL n w s (g + 1) = iz_sup n w s - iz_sup n w (s ||| 2 ^ g) := by
  show (if s.testBit g = true then iz_LL n w s g else if iz_LL n w s g ≤ iz_sup n w s - iz_sup n w (s ||| 2 ^ g) then iz_LL n w s g else iz_sup n w s - iz_sup n w (s ||| 2 ^ g)) = _
  rw [if_neg (by rw [h]; decide), if_neg h1]
theorem iz_LL_le (n : Nat) (w : Nat → Nat) (s : Nat) : ∀ g, iz_LL n w s g ≤ 41 ∧ (∀ j, j < g → s.testBit j = false → iz_LL n w s g ≤ iz_sup n w s - iz_sup n w (s ||| 2 ^ j)) ∧ (iz_LL n w s g = 41 ∨ ∃ j, j < g ∧ s.testBit j = false ∧ iz_LL n w s g = iz_sup n w s - iz_sup n w (s ||| 2 ^ j)) := by
  intro g
  induction g with
  | zero => exact ⟨Nat.le_refl 41, fun j hj => absurd hj (by omega), Or.inl rfl⟩
  | succ g ih =>
    obtain ⟨h1, h2, h3⟩ := ih
    cases hb : s.testBit g with
    | true =>
      rw [iz_LL_t hb]
      refine ⟨h1, fun j hj hf => ?_, ?_⟩
      · rcases Nat.lt_or_ge j g with hh | hh
        · exact h2 j hh hf
        · rw [show j = g by omega, hb] at hf
          exact absurd hf (by decide)
      · rcases h3 with h3 | ⟨j, a, b, c⟩
        · exact Or.inl h3
        · exact Or.inr ⟨j, by omega, b, c⟩
    | false =>
      by_cases hc : iz_LL n w s g ≤ iz_sup n w s - iz_sup n w (s ||| 2 ^ g)
      · rw [iz_LL_a hb hc]
        refine ⟨h1, fun j hj hf => ?_, ?_⟩
        · rcases Nat.lt_or_ge j g with hh | hh
          · exact h2 j hh hf
          · rw [show j = g by omega]; exact hc
        · rcases h3 with h3 | ⟨j, a, b, c⟩
          · exact Or.inl h3
          · exact Or.inr ⟨j, by omega, b, c⟩
      · rw [iz_LL_b hb hc]
        refine ⟨by omega, fun j hj hf => ?_, Or.inr ⟨g, by omega, hb, rfl⟩⟩
        rcases Nat.lt_or_ge j g with hh | hh
        · have := h2 j hh hf
          omega
        · rw [show j = g by omega]; exact Nat.le_refl _
theorem iz_or_sub (s g : Nat) : (s ||| 2 ^ g) &&& s = s :=
  (iz_sub _ _).mpr fun i hi => by rw [Nat.testBit_or, hi]; rfl
theorem iz_or_ne {s g : Nat} (h : s.testBit g = false) : s ||| 2 ^ g ≠ s := by
  intro hc
  have : (s ||| 2 ^ g).testBit g = true := by rw [Nat.testBit_or, Nat.testBit_two_pow_self, Bool.or_true]
  rw [hc, h] at this
  exact absurd this (by decide)
/-- no further good keeps all baskets -/
def iz_fu (n : Nat) (w : Nat → Nat) (s : Nat) : Bool := decide (¬ iz_LL n w s 8 = 0)
theorem iz_fu_iff (n : Nat) (w : Nat → Nat) {s : Nat} (hs : s < 256) : iz_fu n w s = true ↔ ∀ t, t < 256 → t ≠ s → t &&& s = s → ¬ iz_sup n w t = iz_sup n w s := by
  obtain ⟨h1, h2, h3⟩ := iz_LL_le n w s 8
  refine (decide_eq_true_iff).trans (Iff.symm ⟨fun h hz => ?_, fun h t a b c e => ?_⟩)
  · rcases h3 with h3 | ⟨j, a, b, c⟩
    · omega
    · have d := iz_sup_mono n w (iz_or_sub s j)
      exact h (s ||| 2 ^ j) (iz_or_lt hs a) (iz_or_ne b) (iz_or_sub s j) (by omega)
  · obtain ⟨g, g1, g2, g3, g4⟩ := iz_sub_more c b a
    have d := iz_sup_mono n w g4
    have d2 := iz_sup_mono n w (iz_or_sub s g)
    have d3 := h2 g g1 g2
    omega
/-- no further good leaves the set often -/
def iz_la (n : Nat) (w : Nat → Nat) (m : Int32) (s : Nat) : Bool := decide (¬ m ≤ nI (iz_sup n w s) - nI (iz_LL n w s 8))
theorem iz_nlI {a : Nat} {m : Int32} (h : a < 2 ^ 31) : ¬ nI a < m ↔ m.toInt ≤ (a : Int) := by
  rw [Int32.lt_iff_toInt_lt, nI_toInt h]; omega
theorem iz_la_iff {n : Nat} (w : Nat → Nat) {m : Int32} {s : Nat} (hn : n ≤ 40) (hs : s < 256) (ho : iz_of n w m s = true) : iz_la n w m s = true ↔ ∀ t, t < 256 → t ≠ s → t &&& s = s → iz_of n w m t = false := by
  obtain ⟨h1, h2, h3⟩ := iz_LL_le n w s 8
  obtain ⟨o1, o2, o3⟩ := iz_of1 ho
  have q0 := iz_sup_le n w s
  have m1 : 1 ≤ m.toInt := by
    have : ¬ m.toInt < (1 : Int32).toInt := fun h => o1 (Int32.lt_iff_toInt_lt.mpr h)
    have e : (1 : Int32).toInt = 1 := by decide
    omega
  have e5 : m ≤ nI (iz_sup n w s) - nI (iz_LL n w s 8) ↔ m.toInt ≤ (iz_sup n w s : Int) - (iz_LL n w s 8 : Int) := by
    rw [Int32.le_iff_toInt_le, pk_sub_toInt (by omega) (by omega)]
  refine (decide_eq_true_iff).trans (Iff.symm ⟨fun h hz => ?_, fun h t a b c => ?_⟩)
  · rw [e5] at hz
    rcases h3 with h3 | ⟨j, a, b, c⟩
    · omega
    · have d := iz_sup_mono n w (iz_or_sub s j)
      have z := h (s ||| 2 ^ j) (iz_or_lt hs a) (iz_or_ne b) (iz_or_sub s j)
      have nz : ¬ (s ||| 2 ^ j) = 0 := by
        intro hc
        have t0 : (s ||| 2 ^ j).testBit j = true := by rw [Nat.testBit_or, Nat.testBit_two_pow_self, Bool.or_true]
        rw [hc, Nat.zero_testBit] at t0
        exact absurd t0 (by decide)
      have : iz_of n w m (s ||| 2 ^ j) = true := decide_eq_true ⟨o1, nz, (iz_nlI (by omega)).mpr (by omega)⟩
      rw [this] at z
      exact absurd z (by decide)
  · cases ht : iz_of n w m t with
    | false => rfl
    | true =>
      refine absurd (e5.mpr ?_) h
      obtain ⟨g, g1, g2, g3, g4⟩ := iz_sub_more c b a
      have d := iz_sup_mono n w g4
      have d2 := iz_sup_mono n w (iz_or_sub s g)
      have d3 := h2 g g1 g2
      have d4 := (iz_nlI (by omega)).mp (iz_of1 ht).2.2
      omega
end
section
/-! often, full, largest, size: both sides give iz_F at 256 -/
theorem iz_subI {i s : Nat} (hi : i < 256) (hs : s < 256) : nI i &&& nI s = nI s ↔ i &&& s = s := by
  have h2 : i &&& s ≤ s := Nat.and_le_right
  rw [nx_and, nI_eq (by omega) (by omega)]
/-- the component's least loss at an often set -/
theorem iz_least5 {n s : Nat} {w : Nat → Nat} {post : Int32 → Prop} {fs fd : Int32} {lac lost : Nat → Int64} {ch : Nat → Int32} (hn : n ≤ 40) (hs : s < 256) (hl : iz_lk n w lac) (h8 : lost 8 = lN (iz_LS n w s)) (h : post (nI (iz_LL n w s 8))) :
    ∀ k g : Nat, g ≤ 8 → 8 - g < k → wX_leastLoss_5 post (nI n) fs (nI s) fd (iz_b w) lac lost ch k (nI (iz_LL n w s g)) (nI g) := by
  intro k
  induction k with
  | zero => intro g _ hk; omega
  | succ k ih =>
    intro g hg hk
    have i1 := fun e : g < 8 => ih (g + 1) (by omega) (by omega)
    refine pk_le 8 g (fun hle => ?_) (fun hlt => ?_)
    · have e : g = 8 := by omega
      subst e; exact h
    · refine ek_if (iz_nbit hs hlt) (fun hh => ⟨vp_in_nI hlt (by omega), ?_⟩) (fun hh => ?_)
      · have q := iz_sup_le n w s
        have q2 := (iz_LL_le n w s g).1
        have e : (lac (nI g).toNatClampNeg) &&& ((lost 8) ^^^ (-1)) = lN (iz_MO n w s g) := by
          rw [nI_clamp (by omega), hl g hlt, h8, iz_MO_w]
        rw [e]
        refine iz_ones (iz_MO_lt w s g hn) ?_
        rw [iz_MO_pop w s g hn]
        refine pk_le (iz_LL n w s g) (iz_sup n w s - iz_sup n w (s ||| 2 ^ g)) (fun h1 => nm_r (nI_1 g) ?_) (fun h1 => nm_r (nI_1 g) ?_)
        · have := i1 (by omega)
          rw [iz_LL_a hh h1] at this
          exact this
        · have := i1 (by omega)
          rw [iz_LL_b hh (by omega)] at this
          exact this
      · refine nm_r (nI_1 g) ?_
        have := i1 (by omega)
        rw [iz_LL_t (ts_nf hh)] at this
        exact this
theorem iz_D8 {n s : Nat} {w : Nat → Nat} {lost : Nat → Int64} {ch : Nat → Int32} (h : iz_D n w 8 s 0 lost ch) : lost 8 = lN (iz_LS n w s) := by
  rw [h.1 8 (Nat.le_refl 8), Nat.sub_self, Nat.pow_zero, Nat.div_one, Nat.mul_one]
theorem iz_least {n s : Nat} {w : Nat → Nat} {post : Int32 → Prop} {fs fd : Int32} {lac lost : Nat → Int64} {ch : Nat → Int32} (hn : n ≤ 40) (hs : s < 256) (hl : iz_lk n w lac) (h8 : lost 8 = lN (iz_LS n w s)) (h : post (nI (iz_LL n w s 8))) :
    wpX_leastLoss post (nI n, fs, nI s, fd, iz_b w, lac, lost, ch) :=
  ⟨9, iz_least5 hn hs hl h8 h 9 0 (by omega) (by omega)⟩
/-! often -/
def iz_f1 : Nat → Int32 → Int32 := fun _ a => a + 1
theorem iz_Xoften {n : Nat} {w : Nat → Nat} {m : Int32} {u : SX} {post : Int32 → SX → Prop} (hn : n ≤ 40) (hw : ∀ i, w i < 256) (hS : iz_S n w u) (h : ∀ u', iz_S n w u' → post (iz_F (iz_of n w m) iz_f1 256) u') : wpX_often post u m := by
  obtain ⟨a, b, c, d, e, f, g, z⟩ := u
  unfold wpX_often
  dsimp only
  refine iz_start hn hw hS (iz_G_mono ?_ (iz_ev0 (f := iz_f1) (fun k a r x u => wX_often_11 post m k a r x u.1 u.2.1 u.2.2.1 u.2.2.2.1 u.2.2.2.2.1 u.2.2.2.2.2.1 u.2.2.2.2.2.2.1 u.2.2.2.2.2.2.2) ?_ ?_))
  · rintro r ⟨a, b, c, d, e, f, g, z⟩ k
    exact ⟨258, k⟩
  · rintro k x ⟨a, b, c, d, e, f, g, z⟩ hS
    exact br_c (fun _ => h _ hS) (fun _ => br_t rfl (h _ hS))
  · intro k x s u h8 hs ho hx hG
    obtain ⟨fs, lac, lost, ch, rfl, hf, hl, hD⟩ := h8
    refine br_f (nI_ge (b := 256) hx (by decide)) (br_f (by decide) (nm_r (iz_F_t (f := iz_f1) ho).symm (iz_goOn hn (iz_of1 ho).1 hs ⟨fs, lac, lost, ch, rfl, hf, hl, hD⟩ (iz_G_mono ?_ hG))))
    rintro r ⟨a, b, c, d, e, f, g, z⟩ k
    exact nm_r (nI_1 x) k
theorem iz_Yoften4 {n : Nat} {w : Nat → Nat} {m : Int32} {post : Int32 → Prop} (hn : n ≤ 40) (hw : ∀ i, w i < 256) (h : post (iz_F (iz_of n w m) iz_f1 256)) : ∀ k s : Nat, s ≤ 256 → 256 - s < k → wY_often_4 post m (nI n) (iz_b w) k (iz_F (iz_of n w m) iz_f1 s) (nI s) := by
  intro k
  induction k with
  | zero => intro s _ hk; omega
  | succ k ih =>
    intro s hs hk
    refine pk_le 256 s (fun hle => ?_) (fun hlt => iz_Yof hn hw hlt (fun ho => ?_) (fun ho => ?_))
    · have e : s = 256 := by omega
      subst e; exact h
    · exact br_f (by decide) (nm_r (iz_F_t (f := iz_f1) ho).symm (nm_r (nI_1 s) (ih (s + 1) (by omega) (by omega))))
    · have := ih (s + 1) (by omega) (by omega)
      rw [iz_F_f ho] at this
      exact br_t rfl (nm_r (nI_1 s) this)
theorem iz_F1 {n : Nat} {w : Nat → Nat} {m : Int32} {f : Nat → Int32 → Int32} : iz_F (iz_of n w m) f 1 = 0 := iz_F_f (s := 0) (iz_of_0 n w m)
theorem iz_Yoften {n : Nat} {w : Nat → Nat} {m : Int32} {post : Int32 → Prop} (hn : n ≤ 40) (hw : ∀ i, w i < 256) (h : post (iz_F (iz_of n w m) iz_f1 256)) : wpY_often post (nI n, iz_b w) m := by
  have := iz_Yoften4 hn hw h 256 1 (by omega) (by omega)
  rw [iz_F1] at this
  exact ⟨256, this⟩
/-! full -/
def iz_f2 (n : Nat) (w : Nat → Nat) : Nat → Int32 → Int32 := fun s a => cond (iz_fu n w s) (a + 1) a
theorem iz_Xfull36 {n s x k : Nat} {w : Nat → Nat} {m a z fs : Int32} {f : Nat → Int32 → Int32} {post : Int32 → SX → Prop} {lac lost : Nat → Int64} {ch : Nat → Int32} (hn : n ≤ 40) (hs : s < 256) (ho : iz_of n w m s = true) (hf : ¬ fs = 0) (hl : iz_lk n w lac) (hD : iz_D n w 8 s 0 lost ch) (ha : iz_F (iz_of n w m) f (s + 1) = a + z)
    (hG : iz_G n w m (s + 1) (fun r u => wX_full_11 post m k (iz_F (iz_of n w m) f (s + 1)) r (nI (x + 1)) u.1 u.2.1 u.2.2.1 u.2.2.2.1 u.2.2.2.2.1 u.2.2.2.2.2.1 u.2.2.2.2.2.2.1 u.2.2.2.2.2.2.2)) :
    wX_full_36 post (wX_full_11 post m k) m (nI x) z a (nI n) fs (nI s) 8 (iz_b w) lac lost ch := by
  refine nm_r ha.symm (iz_goOn hn (iz_of1 ho).1 hs ⟨fs, lac, lost, ch, rfl, hf, hl, hD⟩ (iz_G_mono ?_ hG))
  rintro r ⟨a, b, c, d, e, f, g, z⟩ k
  exact nm_r (nI_1 x) k
theorem iz_Xfull {n : Nat} {w : Nat → Nat} {m : Int32} {u : SX} {post : Int32 → SX → Prop} (hn : n ≤ 40) (hw : ∀ i, w i < 256) (hS : iz_S n w u) (h : ∀ u', iz_S n w u' → post (iz_F (iz_of n w m) (iz_f2 n w) 256) u') : wpX_full post u m := by
  obtain ⟨a, b, c, d, e, f, g, z⟩ := u
  unfold wpX_full
  dsimp only
  refine iz_start hn hw hS (iz_G_mono ?_ (iz_ev0 (f := iz_f2 n w) (fun k a r x u => wX_full_11 post m k a r x u.1 u.2.1 u.2.2.1 u.2.2.2.1 u.2.2.2.2.1 u.2.2.2.2.2.1 u.2.2.2.2.2.2.1 u.2.2.2.2.2.2.2) ?_ ?_))
  · rintro r ⟨a, b, c, d, e, f, g, z⟩ k
    exact ⟨258, k⟩
  · rintro k x ⟨a, b, c, d, e, f, g, z⟩ hS
    exact br_c (fun _ => h _ hS) (fun _ => br_t rfl (h _ hS))
  · intro k x s u h8 hs ho hx hG
    obtain ⟨fs, lac, lost, ch, rfl, hf, hl, hD⟩ := h8
    have q := (iz_LL_le n w s 8).1
    refine br_f (nI_ge (b := 256) hx (by decide)) (br_f (by decide) (iz_least hn hs hl (iz_D8 hD) ?_))
    refine pk_le (iz_LL n w s 8) 0 (fun h0 => iz_Xfull36 hn hs ho hf hl hD ?_ hG) (fun h0 => iz_Xfull36 hn hs ho hf hl hD ?_ hG)
    · rw [iz_F_t ho]
      show cond (iz_fu n w s) _ _ = _
      rw [show iz_fu n w s = false from decide_eq_false (fun hc => hc (by omega)), Int32.add_zero]; rfl
    · rw [iz_F_t ho]
      show cond (iz_fu n w s) _ _ = _
      rw [show iz_fu n w s = true from decide_eq_true (by omega)]; rfl
theorem iz_Yfull8 {n s : Nat} {w : Nat → Nat} {post : Int32 → Prop} (hn : n ≤ 40) (hw : ∀ i, w i < 256) (hs : s < 256) (h1 : iz_fu n w s = true → post 1) (h0 : iz_fu n w s = false → post 0) : ∀ k i : Nat, i ≤ 256 → 256 - i < k → (∀ t, t < i → t ≠ s → t &&& s = s → ¬ iz_sup n w t = iz_sup n w s) → wY_isFull_8 post (nI s) (nI (iz_sup n w s)) (nI n) (iz_b w) k (nI i) := by
  intro k
  induction k with
  | zero => intro i _ hk; omega
  | succ k ih =>
    intro i hi hk hz
    have q0 := iz_sup_le n w s
    have q1 := iz_sup_le n w i
    have go : i < 256 → (i ≠ s → i &&& s = s → ¬ iz_sup n w i = iz_sup n w s) → wY_isFull_8 post (nI s) (nI (iz_sup n w s)) (nI n) (iz_b w) k (nI (i + 1)) := by
      intro hlt hh
      refine ih (i + 1) (by omega) (by omega) fun t ht => ?_
      rcases Nat.lt_or_ge t i with h | h
      · exact hz t h
      · rw [show t = i by omega]; exact hh
    refine pk_le 256 i (fun hle => h1 ((iz_fu_iff n w hs).mpr fun t ht => hz t (by omega))) (fun hlt => pk_eq i s (fun e => nm_r (nI_1 i) (go hlt (fun ne => absurd e ne))) (fun ne => ek_if (iz_subI hlt hs) (fun hh => ?_) (fun hh => nm_r (nI_1 i) (go hlt (fun _ hc => absurd hc hh)))))
    refine iz_Ysup hn hw hlt (iz_m255 hlt) (pk_eq (iz_sup n w i) (iz_sup n w s) (fun e => h0 ?_) (fun e => nm_r (nI_1 i) (go hlt (fun _ _ => e))))
    cases hf : iz_fu n w s with
    | false => rfl
    | true => exact absurd e ((iz_fu_iff n w hs).mp hf i hlt ne hh)
theorem iz_Yfu {n s : Nat} {w : Nat → Nat} {post : Int32 → Prop} (hn : n ≤ 40) (hw : ∀ i, w i < 256) (hs : s < 256) (h1 : iz_fu n w s = true → post 1) (h0 : iz_fu n w s = false → post 0) : wpY_isFull post (nI n, iz_b w) (nI s) :=
  iz_Ysup (post := fun r => ∃ k : Nat, wY_isFull_8 post (nI s) r (nI n) (iz_b w) k 0) hn hw hs (iz_m255 hs) ⟨257, iz_Yfull8 hn hw hs h1 h0 257 0 (by omega) (by omega) (fun t ht => absurd ht (by omega))⟩
theorem iz_Yfull4 {n : Nat} {w : Nat → Nat} {m : Int32} {post : Int32 → Prop} (hn : n ≤ 40) (hw : ∀ i, w i < 256) (h : post (iz_F (iz_of n w m) (iz_f2 n w) 256)) : ∀ k s : Nat, s ≤ 256 → 256 - s < k → wY_full_4 post m (nI n) (iz_b w) k (iz_F (iz_of n w m) (iz_f2 n w) s) (nI s) := by
  intro k
  induction k with
  | zero => intro s _ hk; omega
  | succ k ih =>
    intro s hs hk
    refine pk_le 256 s (fun hle => ?_) (fun hlt => iz_Yof hn hw hlt (fun ho => br_f (by decide) (iz_Yfu hn hw hlt (fun hf => ?_) (fun hf => ?_))) (fun ho => ?_))
    · have e : s = 256 := by omega
      subst e; exact h
    · refine br_f (by decide) (nm_r (e' := iz_F (iz_of n w m) (iz_f2 n w) (s + 1)) ?_ (nm_r (nI_1 s) (ih (s + 1) (by omega) (by omega))))
      rw [iz_F_t ho]
      show _ = cond (iz_fu n w s) _ _
      rw [hf]; rfl
    · have := ih (s + 1) (by omega) (by omega)
      rw [show iz_F (iz_of n w m) (iz_f2 n w) (s + 1) = iz_F (iz_of n w m) (iz_f2 n w) s by rw [iz_F_t ho]; show cond (iz_fu n w s) _ _ = _; rw [hf]; rfl] at this
      exact br_t rfl (nm_r (nI_1 s) this)
    · have := ih (s + 1) (by omega) (by omega)
      rw [iz_F_f ho] at this
      exact br_t rfl (nm_r (nI_1 s) this)
theorem iz_Yfull {n : Nat} {w : Nat → Nat} {m : Int32} {post : Int32 → Prop} (hn : n ≤ 40) (hw : ∀ i, w i < 256) (h : post (iz_F (iz_of n w m) (iz_f2 n w) 256)) : wpY_full post (nI n, iz_b w) m := by
  have := iz_Yfull4 hn hw h 256 1 (by omega) (by omega)
  rw [iz_F1] at this
  exact ⟨256, this⟩
end
section
/-! largest, size, next -/
def iz_f3 (n : Nat) (w : Nat → Nat) (m : Int32) : Nat → Int32 → Int32 := fun s a => cond (iz_la n w m s) (a + 1) a
theorem iz_Xlarge57 {n s x k : Nat} {w : Nat → Nat} {m a z fs : Int32} {f : Nat → Int32 → Int32} {post : Int32 → SX → Prop} {lac lost : Nat → Int64} {ch : Nat → Int32} (hn : n ≤ 40) (hs : s < 256) (ho : iz_of n w m s = true) (hf : ¬ fs = 0) (hl : iz_lk n w lac) (hD : iz_D n w 8 s 0 lost ch) (ha : iz_F (iz_of n w m) f (s + 1) = a + z)
    (hG : iz_G n w m (s + 1) (fun r u => wX_largest_11 post m k (iz_F (iz_of n w m) f (s + 1)) r (nI (x + 1)) u.1 u.2.1 u.2.2.1 u.2.2.2.1 u.2.2.2.2.1 u.2.2.2.2.2.1 u.2.2.2.2.2.2.1 u.2.2.2.2.2.2.2)) :
    wX_largest_57 post (wX_largest_11 post m k) m (nI x) z a (nI n) fs (nI s) 8 (iz_b w) lac lost ch := by
  refine nm_r ha.symm (iz_goOn hn (iz_of1 ho).1 hs ⟨fs, lac, lost, ch, rfl, hf, hl, hD⟩ (iz_G_mono ?_ hG))
  rintro r ⟨a, b, c, d, e, f, g, z⟩ k
  exact nm_r (nI_1 x) k
theorem iz_Xlarge {n : Nat} {w : Nat → Nat} {m : Int32} {u : SX} {post : Int32 → SX → Prop} (hn : n ≤ 40) (hw : ∀ i, w i < 256) (hS : iz_S n w u) (h : ∀ u', iz_S n w u' → post (iz_F (iz_of n w m) (iz_f3 n w m) 256) u') : wpX_largest post u m := by
  obtain ⟨a, b, c, d, e, f, g, z⟩ := u
  unfold wpX_largest
  dsimp only
  refine iz_start hn hw hS (iz_G_mono ?_ (iz_ev0 (f := iz_f3 n w m) (fun k a r x u => wX_largest_11 post m k a r x u.1 u.2.1 u.2.2.1 u.2.2.2.1 u.2.2.2.2.1 u.2.2.2.2.2.1 u.2.2.2.2.2.2.1 u.2.2.2.2.2.2.2) ?_ ?_))
  · rintro r ⟨a, b, c, d, e, f, g, z⟩ k
    exact ⟨258, k⟩
  · rintro k x ⟨a, b, c, d, e, f, g, z⟩ hS
    exact br_c (fun _ => h _ hS) (fun _ => br_t rfl (h _ hS))
  · intro k x s u h8 hs ho hx hG
    obtain ⟨fs, lac, lost, ch, rfl, hf, hl, hD⟩ := h8
    refine br_f (nI_ge (b := 256) hx (by decide)) (br_f (by decide) ?_)
    dsimp only
    rw [iz_D8 hD]
    refine iz_onesLS hn (iz_least hn hs hl (iz_D8 hD) ?_)
    rw [iz_bas w]
    refine nm_e (br_c (fun h0 => iz_Xlarge57 hn hs ho hf hl hD ?_ hG) (fun h0 => iz_Xlarge57 hn hs ho hf hl hD ?_ hG))
    · rw [iz_F_t ho]
      show cond (iz_la n w m s) _ _ = _
      rw [show iz_la n w m s = false from decide_eq_false (fun hc => hc h0), Int32.add_zero]; rfl
    · rw [iz_F_t ho]
      show cond (iz_la n w m s) _ _ = _
      rw [show iz_la n w m s = true from decide_eq_true h0]; rfl
theorem iz_Ylarge2 {n s : Nat} {w : Nat → Nat} {m : Int32} {post : Int32 → Prop} (hn : n ≤ 40) (hw : ∀ i, w i < 256) (hs : s < 256) (ho : iz_of n w m s = true) (h1 : iz_la n w m s = true → post 1) (h0 : iz_la n w m s = false → post 0) : ∀ k i : Nat, i ≤ 256 → 256 - i < k → (∀ t, t < i → t ≠ s → t &&& s = s → iz_of n w m t = false) → wY_isLargest_2 post (nI s) m (nI n) (iz_b w) k (nI i) := by
  intro k
  induction k with
  | zero => intro i _ hk; omega
  | succ k ih =>
    intro i hi hk hz
    have go : i < 256 → (i ≠ s → i &&& s = s → iz_of n w m i = false) → wY_isLargest_2 post (nI s) m (nI n) (iz_b w) k (nI (i + 1)) := by
      intro hlt hh
      refine ih (i + 1) (by omega) (by omega) fun t ht => ?_
      rcases Nat.lt_or_ge t i with h | h
      · exact hz t h
      · rw [show t = i by omega]; exact hh
    refine pk_le 256 i (fun hle => h1 ((iz_la_iff w hn hs ho).mpr fun t ht => hz t (by omega))) (fun hlt => pk_eq i s (fun e => nm_r (nI_1 i) (go hlt (fun ne => absurd e ne))) (fun ne => ek_if (iz_subI hlt hs) (fun hh => ?_) (fun hh => nm_r (nI_1 i) (go hlt (fun _ hc => absurd hc hh)))))
    refine iz_Yof hn hw hlt (fun oi => br_f (by decide) (h0 ?_)) (fun oi => br_t rfl (nm_r (nI_1 i) (go hlt (fun _ _ => oi))))
    cases hf : iz_la n w m s with
    | false => rfl
    | true =>
      have := (iz_la_iff w hn hs ho).mp hf i hlt ne hh
      rw [oi] at this
      exact absurd this (by decide)
theorem iz_Yla {n s : Nat} {w : Nat → Nat} {m : Int32} {post : Int32 → Prop} (hn : n ≤ 40) (hw : ∀ i, w i < 256) (hs : s < 256) (ho : iz_of n w m s = true) (h1 : iz_la n w m s = true → post 1) (h0 : iz_la n w m s = false → post 0) : wpY_isLargest post (nI n, iz_b w) (nI s) m :=
  ⟨257, iz_Ylarge2 hn hw hs ho h1 h0 257 0 (by omega) (by omega) (fun t ht => absurd ht (by omega))⟩
theorem iz_Ylarge4 {n : Nat} {w : Nat → Nat} {m : Int32} {post : Int32 → Prop} (hn : n ≤ 40) (hw : ∀ i, w i < 256) (h : post (iz_F (iz_of n w m) (iz_f3 n w m) 256)) : ∀ k s : Nat, s ≤ 256 → 256 - s < k → wY_largest_4 post m (nI n) (iz_b w) k (iz_F (iz_of n w m) (iz_f3 n w m) s) (nI s) := by
  intro k
  induction k with
  | zero => intro s _ hk; omega
  | succ k ih =>
    intro s hs hk
    refine pk_le 256 s (fun hle => ?_) (fun hlt => iz_Yof hn hw hlt (fun ho => br_f (by decide) (iz_Yla hn hw hlt ho (fun hf => ?_) (fun hf => ?_))) (fun ho => ?_))
    · have e : s = 256 := by omega
      subst e; exact h
    · refine br_f (by decide) (nm_r (e' := iz_F (iz_of n w m) (iz_f3 n w m) (s + 1)) ?_ (nm_r (nI_1 s) (ih (s + 1) (by omega) (by omega))))
      rw [iz_F_t ho]
      show _ = cond (iz_la n w m s) _ _
      rw [hf]; rfl
    · have := ih (s + 1) (by omega) (by omega)
      rw [show iz_F (iz_of n w m) (iz_f3 n w m) (s + 1) = iz_F (iz_of n w m) (iz_f3 n w m) s by rw [iz_F_t ho]; show cond (iz_la n w m s) _ _ = _; rw [hf]; rfl] at this
      exact br_t rfl (nm_r (nI_1 s) this)
    · have := ih (s + 1) (by omega) (by omega)
      rw [iz_F_f ho] at this
      exact br_t rfl (nm_r (nI_1 s) this)
theorem iz_Ylarge {n : Nat} {w : Nat → Nat} {m : Int32} {post : Int32 → Prop} (hn : n ≤ 40) (hw : ∀ i, w i < 256) (h : post (iz_F (iz_of n w m) (iz_f3 n w m) 256)) : wpY_largest post (nI n, iz_b w) m := by
  have := iz_Ylarge4 hn hw h 256 1 (by omega) (by omega)
  rw [iz_F1] at this
  exact ⟨256, this⟩
/-! size -/
def iz_gd (s : Nat) : Int32 := nI (iz_c (fun k => s.testBit k) 8)
def iz_f4 : Nat → Int32 → Int32 := fun s a => if iz_gd s ≤ a then a else iz_gd s
theorem iz_Xsize45 {n s x k : Nat} {w : Nat → Nat} {m a fs : Int32} {f : Nat → Int32 → Int32} {post : Int32 → SX → Prop} {lac lost : Nat → Int64} {ch : Nat → Int32} (hn : n ≤ 40) (hs : s < 256) (ho : iz_of n w m s = true) (hf : ¬ fs = 0) (hl : iz_lk n w lac) (hD : iz_D n w 8 s 0 lost ch) (ha : iz_F (iz_of n w m) f (s + 1) = a)
    (hG : iz_G n w m (s + 1) (fun r u => wX_size_11 post m k (iz_F (iz_of n w m) f (s + 1)) r (nI (x + 1)) u.1 u.2.1 u.2.2.1 u.2.2.2.1 u.2.2.2.2.1 u.2.2.2.2.2.1 u.2.2.2.2.2.2.1 u.2.2.2.2.2.2.2)) :
    wX_size_45 post (wX_size_11 post m k) m (nI x) a (nI n) fs (nI s) 8 (iz_b w) lac lost ch := by
  unfold wX_size_45
  rw [← ha]
  refine iz_goOn hn (iz_of1 ho).1 hs ⟨fs, lac, lost, ch, rfl, hf, hl, hD⟩ (iz_G_mono ?_ hG)
  rintro r ⟨a, b, c, d, e, f, g, z⟩ k
  exact nm_r (nI_1 x) k
theorem iz_gd40 {s : Nat} (hs : s < 256) : nI (iz_c (fun k => s.testBit k) 40) = iz_gd s := by
  refine congrArg nI (iz_c_flat _ 8 40 (by omega) fun k h1 _ => ?_)
  exact Nat.testBit_lt_two_pow (Nat.lt_of_lt_of_le hs (Nat.pow_le_pow_right (n := 2) (by decide) h1))
theorem iz_Xsize {n : Nat} {w : Nat → Nat} {m : Int32} {u : SX} {post : Int32 → SX → Prop} (hn : n ≤ 40) (hw : ∀ i, w i < 256) (hS : iz_S n w u) (h : ∀ u', iz_S n w u' → post (iz_F (iz_of n w m) iz_f4 256) u') : wpX_size post u m := by
  obtain ⟨a, b, c, d, e, f, g, z⟩ := u
  unfold wpX_size
  dsimp only
  refine iz_start hn hw hS (iz_G_mono ?_ (iz_ev0 (f := iz_f4) (fun k a r x u => wX_size_11 post m k a r x u.1 u.2.1 u.2.2.1 u.2.2.2.1 u.2.2.2.2.1 u.2.2.2.2.2.1 u.2.2.2.2.2.2.1 u.2.2.2.2.2.2.2) ?_ ?_))
  · rintro r ⟨a, b, c, d, e, f, g, z⟩ k
    exact ⟨258, k⟩
  · rintro k x ⟨a, b, c, d, e, f, g, z⟩ hS
    exact br_c (fun _ => h _ hS) (fun _ => br_t rfl (h _ hS))
  · intro k x s u h8 hs ho hx hG
    obtain ⟨fs, lac, lost, ch, rfl, hf, hl, hD⟩ := h8
    refine br_f (nI_ge (b := 256) hx (by decide)) (br_f (by decide) ?_)
    dsimp only
    rw [nI_l (by omega)]
    refine iz_ones (by omega) ?_
    rw [iz_gd40 hs]
    refine br_c (fun h0 => iz_Xsize45 hn hs ho hf hl hD ?_ hG) (fun h0 => iz_Xsize45 hn hs ho hf hl hD ?_ hG)
    · rw [iz_F_t ho]; exact if_pos h0
    · rw [iz_F_t ho]; exact if_neg h0
theorem iz_Ygoods4 {s : Nat} {post : Int32 → Prop} (hs : s < 256) (h : post (iz_gd s)) : ∀ k g : Nat, g ≤ 8 → 8 - g < k → wY_goods_4 post (nI s) k (nI (iz_c (fun k => s.testBit k) g)) (nI g) := by
  intro k
  induction k with
  | zero => intro g _ hk; omega
  | succ k ih =>
    intro g hg hk
    refine pk_le 8 g (fun hle => ?_) (fun hlt => ?_)
    · have e : g = 8 := by omega
      subst e; exact h
    · refine nm_r (e' := nI (iz_c (fun k => s.testBit k) (g + 1))) ?_ (nm_r (nI_1 g) (ih (g + 1) (by omega) (by omega)))
      rw [pk_shrN (by omega) _ g (s_l g (by omega))]
      show nI _ + (nI (s / 2 ^ g) &&& nI 1) = _
      rw [nx_and, Nat.and_one_is_mod, nI_add, iz_c_step, Nat.toNat_testBit]
theorem iz_Ysize4 {n : Nat} {w : Nat → Nat} {m : Int32} {post : Int32 → Prop} (hn : n ≤ 40) (hw : ∀ i, w i < 256) (h : post (iz_F (iz_of n w m) iz_f4 256)) : ∀ k s : Nat, s ≤ 256 → 256 - s < k → wY_size_4 post m (nI n) (iz_b w) k (iz_F (iz_of n w m) iz_f4 s) (nI s) := by
  intro k
  induction k with
  | zero => intro s _ hk; omega
  | succ k ih =>
    intro s hs hk
    refine pk_le 256 s (fun hle => ?_) (fun hlt => ⟨9, iz_Ygoods4 hlt (br_c (fun c => ?_) (fun c => ?_)) 9 0 (by omega) (by omega)⟩)
    · have e : s = 256 := by omega
      subst e; exact h
    · have := ih (s + 1) (by omega) (by omega)
      have e : iz_F (iz_of n w m) iz_f4 (s + 1) = iz_F (iz_of n w m) iz_f4 s := by
        cases ho : iz_of n w m s with
        | true => rw [iz_F_t ho]; exact if_pos c
        | false => exact iz_F_f ho
      rw [e] at this
      exact nm_r (nI_1 s) this
    · refine iz_Yof hn hw hlt (fun ho => br_f (by decide) ?_) (fun ho => br_t rfl ?_)
      · have := ih (s + 1) (by omega) (by omega)
        rw [iz_F_t ho, show iz_f4 s (iz_F (iz_of n w m) iz_f4 s) = iz_gd s from if_neg c] at this
        exact nm_r (nI_1 s) this
      · have := ih (s + 1) (by omega) (by omega)
        rw [iz_F_f ho] at this
        exact nm_r (nI_1 s) this
theorem iz_Ysize {n : Nat} {w : Nat → Nat} {m : Int32} {post : Int32 → Prop} (hn : n ≤ 40) (hw : ∀ i, w i < 256) (h : post (iz_F (iz_of n w m) iz_f4 256)) : wpY_size post (nI n, iz_b w) m := by
  have := iz_Ysize4 hn hw h 256 1 (by omega) (by omega)
  rw [iz_F1] at this
  exact ⟨256, this⟩
/-! next -/
def iz_nx (n : Nat) (w : Nat → Nat) (m q r : Int32) : Prop :=
  (∃ s, s < 256 ∧ iz_of n w m s = true ∧ ¬ nI s < q ∧ (∀ t, t < s → iz_of n w m t = true → nI t < q) ∧ r = nI s) ∨ ((∀ t, t < 256 → iz_of n w m t = true → nI t < q) ∧ r = -1)
theorem iz_Xnext9 {n : Nat} {w : Nat → Nat} {m q : Int32} {post : Int32 → SX → Prop} (hn : n ≤ 40) (h : ∀ r u', iz_S n w u' → iz_nx n w m q r → post r u') :
    ∀ (k s x : Nat) (u : SX), iz_8 n w s u → s < 256 → iz_of n w m s = true → x ≤ s → 256 - s < k → (∀ t, t < s → iz_of n w m t = true → nI t < q) → wX_next_9 post m q k 1 (nI x) u.1 u.2.1 u.2.2.1 u.2.2.2.1 u.2.2.2.2.1 u.2.2.2.2.2.1 u.2.2.2.2.2.2.1 u.2.2.2.2.2.2.2 := by
  intro k
  induction k with
  | zero => intro s x u _ _ _ _ hk; omega
  | succ k ih =>
    intro s x u h8 hs ho hx hk hz
    have hS := iz_8S h8
    obtain ⟨fs, lac, lost, ch, rfl, hf, hl, hD⟩ := h8
    refine br_f (nI_ge (b := 256) (show x < 256 by omega) (by decide)) (br_f (by decide) (br_c (fun c => ?_) (fun c => h _ _ hS (Or.inl ⟨s, hs, ho, c, hz, rfl⟩))))
    have c' : nI s < q := c
    have hz' : ∀ t, t < s + 1 → iz_of n w m t = true → nI t < q := by
      intro t ht
      rcases Nat.lt_or_ge t s with h | h
      · exact hz t h
      · rw [show t = s by omega]; exact fun _ => c'
    refine iz_goOn hn (iz_of1 ho).1 hs ⟨fs, lac, lost, ch, rfl, hf, hl, hD⟩ ⟨fun s' u' h8' a b o e => ?_, fun u' hS' e => ?_⟩
    · have := ih s' (x + 1) u' h8' b o (by omega) (by omega) (fun t ht o' => by
        rcases Nat.lt_or_ge t (s + 1) with h | h
        · exact hz' t h o'
        · rw [e t h ht] at o'; exact absurd o' (by decide))
      obtain ⟨a, b, c, d, e, f, g, z⟩ := u'
      exact nm_r (nI_1 x) this
    · obtain ⟨k', rfl⟩ : ∃ k', k = k' + 1 := ⟨k - 1, by omega⟩
      obtain ⟨a, b, c, d, e', f, g, z⟩ := u'
      have fin := h (-1) _ hS' (Or.inr ⟨fun t ht o' => by
        rcases Nat.lt_or_ge t (s + 1) with h | h
        · exact hz' t h o'
        · rw [e t h ht] at o'; exact absurd o' (by decide), rfl⟩)
      exact nm_r (nI_1 x) (br_c (fun _ => fin) (fun _ => br_t rfl fin))
theorem iz_Xnext {n : Nat} {w : Nat → Nat} {m q : Int32} {u : SX} {post : Int32 → SX → Prop} (hn : n ≤ 40) (hw : ∀ i, w i < 256) (hS : iz_S n w u) (h : ∀ r u', iz_S n w u' → iz_nx n w m q r → post r u') : wpX_next post u m q := by
  obtain ⟨a, b, c, d, e, f, g, z⟩ := u
  unfold wpX_next
  dsimp only
  refine iz_start hn hw hS ⟨fun s' u' h8' a b o e => ?_, fun u' hS' e => ?_⟩
  · have := iz_Xnext9 hn h 258 s' 0 u' h8' b o (by omega) (by omega) (fun t ht o' => by rw [e t (by omega) ht] at o'; exact absurd o' (by decide))
    obtain ⟨a, b, c, d, e, f, g, z⟩ := u'
    exact ⟨258, this⟩
  · obtain ⟨a, b, c, d, e', f, g, z⟩ := u'
    have fin := h (-1) _ hS' (Or.inr ⟨fun t ht o' => by rw [e t (by omega) ht] at o'; exact absurd o' (by decide), rfl⟩)
    exact ⟨1, br_c (fun _ => fin) (fun _ => br_t rfl fin)⟩
theorem iz_Ynext2 {n : Nat} {w : Nat → Nat} {m q r : Int32} {post : Int32 → Prop} (hn : n ≤ 40) (hw : ∀ i, w i < 256) (hr : iz_nx n w m q r) (h : post r) : ∀ k i : Nat, i ≤ 256 → 256 - i < k → (∀ t, t < i → iz_of n w m t = true → nI t < q) → wY_next_2 post m q (nI n) (iz_b w) k (nI i) := by
  intro k
  induction k with
  | zero => intro i _ hk; omega
  | succ k ih =>
    intro i hi hk hz
    have go : i < 256 → (iz_of n w m i = true → nI i < q) → wY_next_2 post m q (nI n) (iz_b w) k (nI (i + 1)) := by
      intro hlt hh
      refine ih (i + 1) (by omega) (by omega) fun t ht => ?_
      rcases Nat.lt_or_ge t i with h | h
      · exact hz t h
      · rw [show t = i by omega]; exact hh
    refine pk_le 256 i (fun hle => ?_) (fun hlt => br_c (fun c => nm_r (nI_1 i) (go hlt (fun _ => c))) (fun c => iz_Yof hn hw hlt (fun o => br_f (by decide) ?_) (fun o => br_t rfl (nm_r (nI_1 i) (go hlt (fun o' => by rw [o] at o'; exact absurd o' (by decide)))))))
    · rcases hr with ⟨s, a, b, c, d, e⟩ | ⟨a, e⟩
      · exact absurd (hz s (by omega) b) c
      · rw [e] at h; exact h
    · rcases hr with ⟨s, a, b, c', d, e⟩ | ⟨a, e⟩
      · rcases Nat.lt_trichotomy s i with hh | hh | hh
        · exact absurd (hz s hh b) c'
        · rw [e, hh] at h; exact h
        · exact absurd (d i hh o) c
      · exact absurd (a i hlt o) c
theorem iz_Ynext {n : Nat} {w : Nat → Nat} {m q r : Int32} {post : Int32 → Prop} (hn : n ≤ 40) (hw : ∀ i, w i < 256) (hr : iz_nx n w m q r) (h : post r) : wpY_next post (nI n, iz_b w) m q :=
  ⟨256, iz_Ynext2 hn hw hr h 256 1 (by omega) (by omega) (fun t ht o => by rw [show t = 0 by omega, iz_of_0] at o; exact absurd o (by decide))⟩
end
section
/-! closure -/
theorem iz_nor (a b : Nat) : nI a ||| nI b = nI (a ||| b) := by
  apply Int32.toBitVec_inj.1
  show BitVec.ofNat 32 a ||| BitVec.ofNat 32 b = BitVec.ofNat 32 (a ||| b)
  apply BitVec.eq_of_getLsbD_eq
  intro i hi
  simp [hi]
theorem iz_1sh : ∀ g, g < 8 → (1 : Int32) <<< (nI g &&& 31) = nI (2 ^ g) := by decide +kernel
def iz_C (n : Nat) (w : Nat → Nat) (s : Nat) : Nat → Nat
  | 0 => s
  | g + 1 => if iz_sup n w (s ||| 2 ^ g) = iz_sup n w s then iz_C n w s g ||| 2 ^ g else iz_C n w s g
theorem iz_C_t {n s g : Nat} {w : Nat → Nat} (h : iz_sup n w (s ||| 2 ^ g) = iz_sup n w s) : iz_C n w s (g + 1) = iz_C n w s g ||| 2 ^ g := if_pos h
theorem iz_C_f {n s g : Nat} {w : Nat → Nat} (h : ¬ iz_sup n w (s ||| 2 ^ g) = iz_sup n w s) : iz_C n w s (g + 1) = iz_C n w s g := if_neg h
theorem iz_C_lt (n : Nat) (w : Nat → Nat) {s : Nat} (hs : s < 256) : ∀ g, g ≤ 8 → iz_C n w s g < 256 := by
  intro g
  induction g with
  | zero => intro _; exact hs
  | succ g ih =>
    intro hg
    by_cases h : iz_sup n w (s ||| 2 ^ g) = iz_sup n w s
    · rw [iz_C_t h]; exact iz_or_lt (ih (by omega)) (by omega)
    · rw [iz_C_f h]; exact ih (by omega)
theorem iz_C_sub (n : Nat) (w : Nat → Nat) (s : Nat) : ∀ g, iz_C n w s g &&& s = s := by
  intro g
  induction g with
  | zero => exact Nat.and_self s
  | succ g ih =>
    by_cases h : iz_sup n w (s ||| 2 ^ g) = iz_sup n w s
    · rw [iz_C_t h]; exact iz_sub_trans (iz_or_sub _ g) ih
    · rw [iz_C_f h]; exact ih
theorem iz_C_in (n : Nat) (w : Nat → Nat) (s : Nat) : ∀ g j, j < g → iz_sup n w (s ||| 2 ^ j) = iz_sup n w s → (iz_C n w s g).testBit j = true := by
  intro g
  induction g with
  | zero => intro j hj; omega
  | succ g ih =>
    intro j hj hs
    rcases Nat.lt_or_ge j g with hh | hh
    · have := ih j hh hs
      by_cases h : iz_sup n w (s ||| 2 ^ g) = iz_sup n w s
      · rw [iz_C_t h, Nat.testBit_or, this]; rfl
      · rw [iz_C_f h]; exact this
    · have e : j = g := by omega
      subst e
      rw [iz_C_t hs, Nat.testBit_or, Nat.testBit_two_pow_self, Bool.or_true]
theorem iz_all {n s g : Nat} {w : Nat → Nat} (h : iz_sup n w (s ||| 2 ^ g) = iz_sup n w s) : ∀ k, k < n → w k &&& s = s → (w k).testBit g = true := by
  intro k hk hs
  have z : iz_c (fun k => decide (w k &&& s = s) && !(w k).testBit g) n = 0 := by
    have := iz_MO_c n w s g
    omega
  have t : (decide (w k &&& s = s) && !(w k).testBit g) = false := (iz_c_zero n).mp z k hk
  rw [decide_eq_true hs] at t
  cases hb : (w k).testBit g with
  | true => rfl
  | false => rw [hb] at t; exact absurd t (by decide)
theorem iz_C_all (n : Nat) (w : Nat → Nat) (s : Nat) : ∀ g k, k < n → w k &&& s = s → w k &&& iz_C n w s g = iz_C n w s g := by
  intro g
  induction g with
  | zero => intro k _ h; exact h
  | succ g ih =>
    intro k hk hs
    by_cases h : iz_sup n w (s ||| 2 ^ g) = iz_sup n w s
    · rw [iz_C_t h]; exact (iz_sub_bit _ _ _).mpr ⟨ih k hk hs, iz_all h k hk hs⟩
    · rw [iz_C_f h]; exact ih k hk hs
theorem iz_C_sup (n : Nat) (w : Nat → Nat) (s g : Nat) : iz_sup n w (iz_C n w s g) = iz_sup n w s :=
  Nat.le_antisymm (iz_sup_mono n w (iz_C_sub n w s g)) (iz_c_mono n fun k hk h => decide_eq_true (iz_C_all n w s g k hk (of_decide_eq_true h)))
theorem iz_C_max {n s t : Nat} {w : Nat → Nat} (ht : t < 256) (h1 : t &&& s = s) (h2 : iz_sup n w t = iz_sup n w s) : iz_C n w s 8 &&& t = t := by
  refine (iz_sub _ _).mpr fun i hi => ?_
  have i8 : i < 8 := by
    refine Nat.lt_of_not_le fun hg => ?_
    have : t.testBit i = false := Nat.testBit_lt_two_pow (Nat.lt_of_lt_of_le ht (Nat.pow_le_pow_right (n := 2) (by decide) hg))
    rw [this] at hi
    exact absurd hi (by decide)
  refine iz_C_in n w s 8 i i8 ?_
  have a := iz_sup_mono n w ((iz_sub_bit t s i).mpr ⟨h1, hi⟩)
  have b := iz_sup_mono n w (iz_or_sub s i)
  omega
theorem iz_Xclos16 {n s : Nat} {w : Nat → Nat} {post : Int32 → SX → Prop} {fs fe fd : Int32} {lac lost : Nat → Int64} {ch : Nat → Int32} (hn : n ≤ 40) (hl : iz_lk n w lac) (h : post (nI (iz_C n w s 8)) (nI n, fs, fe, fd, iz_b w, lac, lost, ch)) :
    ∀ k g : Nat, g ≤ 8 → 8 - g < k → wX_closure_16 post (lN (iz_LS n w s)) (nI n) fs fe fd (iz_b w) lac lost ch k (nI (iz_C n w s g)) (nI g) := by
  intro k
  induction k with
  | zero => intro g _ hk; omega
  | succ k ih =>
    intro g hg hk
    have i1 := fun e : g < 8 => ih (g + 1) (by omega) (by omega)
    refine pk_le 8 g (fun hle => ?_) (fun hlt => ⟨vp_in_nI hlt (by omega), ?_⟩)
    · have e : g = 8 := by omega
      subst e; exact h
    · have e : (lac (nI g).toNatClampNeg &&& (lN (iz_LS n w s) ^^^ (-1))) = 0 ↔ iz_sup n w (s ||| 2 ^ g) = iz_sup n w s := by
        rw [nI_clamp (by omega), hl g hlt, iz_MO_w]
        exact iz_MO_0 w s g hn
      refine ek_if e (fun hh => ?_) (fun hh => ?_)
      · refine nm_r (e' := nI (iz_C n w s (g + 1))) ?_ (nm_r (nI_1 g) (i1 hlt))
        rw [iz_1sh g hlt, iz_nor, iz_C_t hh]
      · refine nm_r (e' := nI (iz_C n w s (g + 1))) ?_ (nm_r (nI_1 g) (i1 hlt))
        rw [Int32.or_zero, iz_C_f hh]
theorem iz_Xclos {n : Nat} {w : Nat → Nat} {x : Int32} {u : SX} {post : Int32 → SX → Prop} (hn : n ≤ 40) (hw : ∀ i, w i < 256) (hS : iz_S n w u) (h : ∀ u', iz_S n w u' → post (nI (iz_C n w (x.toBitVec.toNat % 256) 8)) u') : wpX_closure post u x := by
  obtain ⟨fs, fe, fd, lac, lost, ch, rfl, hl⟩ := hS
  unfold wpX_closure
  dsimp only
  refine iz_lost hn hw hl fun fs' lac' hl' hf => ?_
  dsimp only
  refine nm_r (iz_x255 x) ⟨9, ?_⟩
  exact iz_Xclos16 hn hl' (h _ ⟨fs', _, _, lac', _, _, rfl, Or.inr hl'⟩) 9 0 (by omega) (by omega)
theorem iz_Yclos26 {n s : Nat} {w : Nat → Nat} {post : Int32 → Prop} (hn : n ≤ 40) (hw : ∀ i, w i < 256) (hs : s < 256) (h : post (nI (iz_C n w s 8))) :
    ∀ k t b : Nat, t ≤ 256 → 256 - t < k → b < 256 → iz_C n w s 8 &&& b = b → (iz_C n w s 8 < t → b = iz_C n w s 8) → wY_closure_26 post (nI s) (nI (iz_sup n w s)) (nI n) (iz_b w) k (nI b) (nI t) := by
  intro k
  induction k with
  | zero => intro t b _ hk; omega
  | succ k ih =>
    intro t b ht hk hb h1 h2
    have hC := iz_C_lt n w hs 8 (Nat.le_refl 8)
    have qs := iz_sup_le n w s
    have qt := iz_sup_le n w t
    have same : t < 256 → (t = iz_C n w s 8 → b = iz_C n w s 8) → wY_closure_26 post (nI s) (nI (iz_sup n w s)) (nI n) (iz_b w) k (nI b) (nI (t + 1)) := by
      intro hlt hh
      refine ih (t + 1) b (by omega) (by omega) hb h1 fun hc => ?_
      rcases Nat.lt_or_ge (iz_C n w s 8) t with h | h
      · exact h2 h
      · exact hh (by omega)
    refine pk_le 256 t (fun hle => ?_) (fun hlt => ek_if (iz_subI hlt hs) (fun hh => ?_) (fun hh => nm_r (nI_1 t) (same hlt (fun e => ?_))))
    · have e := h2 (by omega)
      rw [e]; exact h
    · refine iz_Ysup hn hw hlt (iz_m255 hlt) (pk_eq (iz_sup n w t) (iz_sup n w s) (fun e => ek_if (iz_subI hlt hb) (fun hb2 => nm_r (nI_1 t) ?_) (fun hb2 => nm_r (nI_1 t) (same hlt (fun e2 => ?_)))) (fun e => nm_r (nI_1 t) (same hlt (fun e2 => ?_))))
      · have m := iz_C_max hlt hh e
        refine ih (t + 1) t (by omega) (by omega) hlt m fun hc => ?_
        rcases Nat.lt_or_ge (iz_C n w s 8) t with h | h
        · rw [h2 h] at hb2
          exact iz_sub_anti hb2 m
        · omega
      · rw [e2] at hb2
        exact absurd h1 hb2
      · rw [e2] at e
        exact absurd (iz_C_sup n w s 8) e
    · rw [e] at hh
      exact absurd (iz_C_sub n w s 8) hh
theorem iz_Yclos {n : Nat} {w : Nat → Nat} {x : Int32} {post : Int32 → Prop} (hn : n ≤ 40) (hw : ∀ i, w i < 256) (h : post (nI (iz_C n w (x.toBitVec.toNat % 256) 8))) : wpY_closure post (nI n, iz_b w) x := by
  have hs : x.toBitVec.toNat % 256 < 256 := Nat.mod_lt _ (by decide)
  unfold wpY_closure
  dsimp only
  refine nm_r (iz_x255 x) ?_
  generalize x.toBitVec.toNat % 256 = s at *
  have q := iz_sup_le n w s
  refine iz_Ysup hn hw hs (iz_m255 hs) (pk_eq (iz_sup n w s) 0 (fun e => ?_) (fun e => ?_))
  · have c1 : (255 : Nat) &&& s = s := by
      have := Nat.and_two_pow_sub_one_eq_mod s 8
      rw [Nat.and_comm, show (255 : Nat) = 2 ^ 8 - 1 from rfl, this]; omega
    have c2 := iz_sup_mono n w c1
    have c3 := iz_C_max (n := n) (w := w) (t := 255) (by decide) c1 (by omega)
    have c4 := iz_C_lt n w hs 8 (Nat.le_refl 8)
    have c5 : iz_C n w s 8 &&& 255 ≤ iz_C n w s 8 := Nat.and_le_left
    have c6 : iz_C n w s 8 = 255 := by omega
    rw [c6] at h
    exact h
  · exact ⟨257, iz_Yclos26 hn hw hs h 257 0 s (by omega) (by omega) hs (iz_C_sub n w s 8) (fun hc => absurd hc (by omega))⟩
end
section
/-! rules: the parts of a set, downwards by (p - 1) & s in the component, upwards in the reference -/
theorem iz_pred : ∀ b p x s : Nat, p < 2 ^ b → p &&& s = p → x &&& s = x → x < p → x ≤ (p - 1) &&& s := by
  intro b
  induction b with
  | zero => intro p x s h _ _ h3; rw [Nat.pow_zero] at h; omega
  | succ b ih =>
    intro p x s h h1 h2 h3
    have e0 : ((p - 1) &&& s) / 2 = (p - 1) / 2 &&& s / 2 := Nat.and_div_two
    have e1 : p / 2 &&& s / 2 = p / 2 := by rw [← Nat.and_div_two, h1]
    have e2 : x / 2 &&& s / 2 = x / 2 := by rw [← Nat.and_div_two, h2]
    have e3 : ((p - 1) &&& s) % 2 = 1 ↔ (p - 1) % 2 = 1 ∧ s % 2 = 1 := Nat.and_mod_two_eq_one
    have e4 : (x &&& s) % 2 = 1 ↔ x % 2 = 1 ∧ s % 2 = 1 := Nat.and_mod_two_eq_one
    rw [h2] at e4
    rw [Nat.pow_succ] at h
    rcases Nat.mod_two_eq_zero_or_one p with hp | hp
    · have i := ih (p / 2) (x / 2) (s / 2) (by omega) e1 e2 (by omega)
      rw [show p / 2 - 1 = (p - 1) / 2 by omega, ← e0] at i
      generalize (p - 1) &&& s = y at *
      omega
    · rw [show (p - 1) / 2 = p / 2 by omega, e1] at e0
      generalize (p - 1) &&& s = y at *
      omega
def iz_rk (n : Nat) (w : Nat → Nat) (q : Int32) (s x : Nat) : Bool := decide (¬ x = 0 ∧ x &&& s = x ∧ ¬ 100 * (nI (iz_sup n w s)).toInt64 < q.toInt64 * (nI (iz_sup n w x)).toInt64)
theorem iz_rk_0 (n : Nat) (w : Nat → Nat) (q : Int32) (s : Nat) : iz_c (iz_rk n w q s) 1 = 0 := by
  have e : iz_rk n w q s 0 = false := decide_eq_false (fun h => h.1 rfl)
  show 0 + (iz_rk n w q s 0).toNat = 0
  rw [e]; rfl
theorem iz_rk_down {n s p : Nat} {w : Nat → Nat} {q : Int32} (hp : p < 256) (h0 : 0 < p) (h1 : p &&& s = p) : iz_c (iz_rk n w q s) p = iz_c (iz_rk n w q s) (((p - 1) &&& s) + 1) := by
  have a : (p - 1) &&& s ≤ p - 1 := Nat.and_le_left
  refine iz_c_flat _ _ p (by omega) fun x x1 x2 => decide_eq_false fun hc => ?_
  have := iz_pred 8 p x s hp h1 hc.2.1 x2
  omega
theorem iz_Xwith85 {n s p a c x k : Nat} {w : Nat → Nat} {q fs fe fd z : Int32} {X3 : Int64} {post : Int32 → SX → Prop} {lac lost : Nat → Int64} {ch : Nat → Int32} (h0 : 0 < p) (hz : nI a + z = nI c)
    (h : wX_rulesWithin_34 post (nI s) q X3 k (nI c) (nI ((p - 1) &&& s)) (nI (x + 1)) (nI n) fs fe fd (iz_b w) lac lost ch) :
    wX_rulesWithin_85 post (wX_rulesWithin_34 post (nI s) q X3 k) (nI s) q X3 (nI p) (nI x) z (nI a) (nI n) fs fe fd (iz_b w) lac lost ch := by
  refine nm_r hz (nm_r (e' := nI ((p - 1) &&& s)) ?_ (nm_r (nI_1 x) h))
  obtain ⟨p', rfl⟩ : ∃ p', p = p' + 1 := ⟨p - 1, by omega⟩
  rw [nI_pred, nx_and, Nat.add_sub_cancel]
theorem iz_Xwith34 {n s : Nat} {w : Nat → Nat} {q fs fe fd : Int32} {post : Int32 → SX → Prop} {lac lost : Nat → Int64} {ch : Nat → Int32} (hn : n ≤ 40) (hs : s < 256) (hl : iz_lk n w lac) (hf : ¬ fs = 0)
    (h : post (nI (iz_c (iz_rk n w q s) s)) (nI n, fs, fe, fd, iz_b w, lac, lost, ch)) :
    ∀ k p a x : Nat, p < k → p &&& s = p → a + iz_c (iz_rk n w q s) (p + 1) = iz_c (iz_rk n w q s) s → x + p < 256 → wX_rulesWithin_34 post (nI s) q (100 * (nI (iz_sup n w s)).toInt64) k (nI a) (nI p) (nI x) (nI n) fs fe fd (iz_b w) lac lost ch := by
  intro k
  induction k with
  | zero => intro p a x hk; omega
  | succ k ih =>
    intro p a x hk hp ha hx
    refine br_f (nI_ge (b := 256) (show x < 256 by omega) (by decide)) (pk_le p 0 (fun h0 => ?_) (fun h0 => ?_))
    · have e : p = 0 := by omega
      subst e
      rw [iz_rk_0] at ha
      rw [show a = iz_c (iz_rk n w q s) s by omega]
      exact h
    · have e : (nI p).toBitVec.toNat % 256 = p := by rw [pk_tn (by omega)]; omega
      refine iz_lost' hn hl hf ?_
      rw [e]
      refine iz_onesLS hn ?_
      rw [iz_bas w]
      have d := iz_rk_down (n := n) (w := w) (q := q) (s := s) (p := p) (by omega) h0 hp
      have b : (p - 1) &&& s ≤ p - 1 := Nat.and_le_left
      have pp : ((p - 1) &&& s) &&& s = (p - 1) &&& s := by rw [Nat.and_assoc, Nat.and_self]
      rw [iz_c_step, d] at ha
      refine nm_e (br_c (fun c => iz_Xwith85 (c := a) h0 (Int32.add_zero _) (ih _ a (x + 1) (by omega) pp ?_ (by omega))) (fun c => iz_Xwith85 (c := a + 1) h0 (nI_1 a) (ih _ (a + 1) (x + 1) (by omega) pp ?_ (by omega))))
      · rw [show iz_rk n w q s p = false from decide_eq_false (fun hc => hc.2.2 c)] at ha
        exact ha
      · rw [show iz_rk n w q s p = true from decide_eq_true ⟨by omega, hp, c⟩] at ha
        have ha' : a + (iz_c (iz_rk n w q s) (((p - 1) &&& s) + 1) + 1) = iz_c (iz_rk n w q s) s := ha
        omega
theorem iz_Xwithin {n s : Nat} {w : Nat → Nat} {q fs fd : Int32} {post : Int32 → SX → Prop} {lac lost : Nat → Int64} {ch : Nat → Int32} (hn : n ≤ 40) (hs : s < 256) (h1 : 0 < s) (hl : iz_lk n w lac) (hf : ¬ fs = 0) (h8 : lost 8 = lN (iz_LS n w s))
    (h : post (nI (iz_c (iz_rk n w q s) s)) (nI n, fs, nI s, fd, iz_b w, lac, lost, ch)) : wpX_rulesWithin post (nI n, fs, nI s, fd, iz_b w, lac, lost, ch) (nI s) q := by
  unfold wpX_rulesWithin
  dsimp only
  rw [h8]
  refine iz_onesLS hn ?_
  rw [iz_bas w]
  have b : (s - 1) &&& s ≤ s - 1 := Nat.and_le_left
  refine nm_e (nm_r (e' := nI ((s - 1) &&& s)) ?_ ⟨257, iz_Xwith34 hn hs hl hf h 257 _ 0 0 (by omega) ?_ ?_ (by omega)⟩)
  · obtain ⟨p', rfl⟩ : ∃ p', s = p' + 1 := ⟨s - 1, by omega⟩
    rw [nI_pred, nx_and, Nat.add_sub_cancel]
  · rw [Nat.and_assoc, Nat.and_self]
  · rw [Nat.zero_add]; exact (iz_rk_down hs h1 (Nat.and_self s)).symm
def iz_f5 (n : Nat) (w : Nat → Nat) (q : Int32) : Nat → Int32 → Int32 := fun s a => a + nI (iz_c (iz_rk n w q s) s)
theorem iz_Xrules {n : Nat} {w : Nat → Nat} {m q : Int32} {u : SX} {post : Int32 → SX → Prop} (hn : n ≤ 40) (hw : ∀ i, w i < 256) (hS : iz_S n w u) (h : ∀ u', iz_S n w u' → post (iz_F (iz_of n w m) (iz_f5 n w q) 256) u') : wpX_rules post u m q := by
  obtain ⟨a, b, c, d, e, f, g, z⟩ := u
  unfold wpX_rules
  dsimp only
  refine iz_start hn hw hS (iz_G_mono ?_ (iz_ev0 (f := iz_f5 n w q) (fun k a r x u => wX_rules_12 post m q k a r x u.1 u.2.1 u.2.2.1 u.2.2.2.1 u.2.2.2.2.1 u.2.2.2.2.2.1 u.2.2.2.2.2.2.1 u.2.2.2.2.2.2.2) ?_ ?_))
  · rintro r ⟨a, b, c, d, e, f, g, z⟩ k
    exact ⟨258, k⟩
  · rintro k x ⟨a, b, c, d, e, f, g, z⟩ hS
    exact br_c (fun _ => h _ hS) (fun _ => br_t rfl (h _ hS))
  · intro k x s u h8 hs ho hx hG
    obtain ⟨fs, lac, lost, ch, rfl, hf, hl, hD⟩ := h8
    have h1 := (iz_of1 ho).2.1
    refine br_f (nI_ge (b := 256) hx (by decide)) (br_f (by decide) ?_)
    refine iz_Xwithin hn hs (by omega) hl hf (iz_D8 hD) ?_
    dsimp only
    refine nm_r (iz_F_t (f := iz_f5 n w q) ho).symm (iz_goOn hn (iz_of1 ho).1 hs ⟨fs, lac, lost, ch, rfl, hf, hl, hD⟩ (iz_G_mono ?_ hG))
    rintro r ⟨a, b, c, d, e, f, g, z⟩ k
    exact nm_r (nI_1 x) k
theorem iz_Yrules39 {n s : Nat} {w : Nat → Nat} {m q a : Int32} {post : Int32 → Prop} {J : Int32 → Int32 → Prop} (hn : n ≤ 40) (hw : ∀ i, w i < 256) (hs : s < 256) (hJ : J (a + nI (iz_c (iz_rk n w q s) s)) (nI (s + 1))) :
    ∀ k x : Nat, 0 < x → x ≤ s → s - x < k → wY_rules_39 post J m q (nI s) (100 * (nI (iz_sup n w s)).toInt64) (nI n) (iz_b w) k (a + nI (iz_c (iz_rk n w q s) x)) (nI x) := by
  intro k
  induction k with
  | zero => intro x _ _ hk; omega
  | succ k ih =>
    intro x h0 hx hk
    have same : x < s → iz_rk n w q s x = false → wY_rules_39 post J m q (nI s) (100 * (nI (iz_sup n w s)).toInt64) (nI n) (iz_b w) k (a + nI (iz_c (iz_rk n w q s) x)) (nI (x + 1)) := by
      intro hlt hz
      have := ih (x + 1) (by omega) (by omega) (by omega)
      rw [iz_c_step, hz] at this
      exact this
    have e : nI x &&& nI s = nI x ↔ x &&& s = x := by
      have h2 : x &&& s ≤ s := Nat.and_le_right
      rw [nx_and, nI_eq (by omega) (by omega)]
    refine pk_le s x (fun hle => ?_) (fun hlt => ek_if e (fun hh => ?_) (fun hh => nm_r (nI_1 x) (same hlt (decide_eq_false fun hc => hh hc.2.1))))
    · have e : x = s := by omega
      subst e
      exact nm_r (nI_1 x) hJ
    · have hx256 : x < 256 := by omega
      refine iz_Ysup hn hw hx256 (iz_m255 hx256) (br_c (fun c => nm_r (nI_1 x) (same hlt (decide_eq_false fun hc => hc.2.2 c))) (fun c => ?_))
      have := ih (x + 1) (by omega) (by omega) (by omega)
      rw [iz_c_step, show iz_rk n w q s x = true from decide_eq_true ⟨by omega, hh, c⟩] at this
      refine nm_r (e' := a + nI (iz_c (iz_rk n w q s) x + true.toNat)) ?_ (nm_r (nI_1 x) this)
      rw [Int32.add_assoc, nI_1]; rfl
theorem iz_Yrules5 {n : Nat} {w : Nat → Nat} {m q : Int32} {post : Int32 → Prop} (hn : n ≤ 40) (hw : ∀ i, w i < 256) (h : post (iz_F (iz_of n w m) (iz_f5 n w q) 256)) : ∀ k s : Nat, s ≤ 256 → 256 - s < k → wY_rules_5 post m q (nI n) (iz_b w) k (iz_F (iz_of n w m) (iz_f5 n w q) s) (nI s) := by
  intro k
  induction k with
  | zero => intro s _ hk; omega
  | succ k ih =>
    intro s hs hk
    refine pk_le 256 s (fun hle => ?_) (fun hlt => iz_Yof hn hw hlt (fun ho => br_f (by decide) ?_) (fun ho => ?_))
    · have e : s = 256 := by omega
      subst e; exact h
    · have h1 := (iz_of1 ho).2.1
      refine iz_Ysup hn hw hlt (iz_m255 hlt) (nm_e ⟨257, ?_⟩)
      have i1 := ih (s + 1) (by omega) (by omega)
      rw [iz_F_t ho] at i1
      have := iz_Yrules39 (post := post) (m := m) (q := q) (a := iz_F (iz_of n w m) (iz_f5 n w q) s) (J := wY_rules_5 post m q (nI n) (iz_b w) k) hn hw hlt i1 257 1 (by omega) (by omega) (by omega)
      rw [iz_rk_0, nI_0, Int32.add_zero] at this
      exact this
    · have := ih (s + 1) (by omega) (by omega)
      rw [iz_F_f ho] at this
      exact br_t rfl (nm_r (nI_1 s) this)
theorem iz_Yrules {n : Nat} {w : Nat → Nat} {m q : Int32} {post : Int32 → Prop} (hn : n ≤ 40) (hw : ∀ i, w i < 256) (h : post (iz_F (iz_of n w m) (iz_f5 n w q) 256)) : wpY_rules post (nI n, iz_b w) m q := by
  have := iz_Yrules5 hn hw h 256 1 (by omega) (by omega)
  rw [iz_F1] at this
  exact ⟨256, this⟩
end
section
/-! the relation and what is owed -/
/-- both hold the same baskets; the component's words are out of date or right -/
def i_Rel (k : Nat) (u : SX) (v : SY) : Prop := ∃ (n : Nat) (w : Nat → Nat), n ≤ 40 ∧ (∀ i, w i < 256) ∧ v = (nI n, iz_b w) ∧ iz_S n w u
theorem iz_rel {k n : Nat} {w : Nat → Nat} {u : SX} (hn : n ≤ 40) (hw : ∀ i, w i < 256) (h : iz_S n w u) : i_Rel k u (nI n, iz_b w) := ⟨n, w, hn, hw, rfl, h⟩
theorem i_up {k : Nat} {u : SX} {v : SY} (h : i_Rel k u v) : i_Rel (k + 3) u v := h
theorem i_vc0 : wpX_init (fun u => wpY_init (fun v => i_Rel 0 u v)) :=
  ⟨0, fun _ => 0, by decide, fun _ => Nat.zero_lt_succ 255, rfl, 0, 0, 0, fun _ => 0, fun _ => 0, fun _ => 0, rfl, Or.inl rfl⟩
theorem iz_put (w : Nat → Nat) (n c : Nat) : upd (iz_b w) n (nI c) = iz_b (fun j => if j = n then c else w j) := by
  funext j
  show (if j = n then nI c else nI (w j)) = nI (if j = n then c else w j)
  by_cases h : j = n
  · rw [if_pos h, if_pos h]
  · rw [if_neg h, if_neg h]
theorem iz_put_lt {w : Nat → Nat} {n c : Nat} (hw : ∀ i, w i < 256) (hc : c < 256) : ∀ i, (fun j => if j = n then c else w j) i < 256 := by
  intro i
  show (if i = n then c else w i) < 256
  by_cases h : i = n
  · rw [if_pos h]; exact hc
  · rw [if_neg h]; exact hw i
theorem i_vc_add {k : Nat} {u : SX} {v : SY} (I : i_Rel k u v) (hk : k + 3 ≤ 1536) (v1 : Int32) : wpX_add (fun r u' => wpY_add (fun r' v' => r' = r ∧ i_Rel (k + 3) u' v') v v1) u v1 := by
  obtain ⟨n, w, hn, hw, rfl, fs, fe, fd, lac, lost, ch, rfl, hl⟩ := I
  have hc : v1.toBitVec.toNat % 256 < 256 := Nat.mod_lt _ (by decide)
  have e1 : upd (iz_b w) (nI n).toNatClampNeg (v1 &&& 255) = iz_b (fun j => if j = n then v1.toBitVec.toNat % 256 else w j) := by
    rw [nI_clamp (by omega), iz_x255, iz_put]
  refine pk_lt n 40 (fun h => ⟨vp_in_nI h (by omega), nm_r e1 (nm_r (nI_1 n) ?_)⟩) (fun h => ?_)
  · refine pk_eq n 40 (fun hc => absurd hc (by omega)) (fun _ => ⟨vp_in_nI h (by omega), nm_r e1 (nm_r (nI_1 n) ⟨rfl, ?_⟩)⟩)
    exact iz_rel (by omega) (iz_put_lt hw hc) ⟨0, fe, fd, lac, lost, ch, rfl, Or.inl rfl⟩
  · exact pk_eq n 40 (fun _ => ⟨rfl, iz_rel hn hw ⟨fs, fe, fd, lac, lost, ch, rfl, hl⟩⟩) (fun hc => absurd (show n = 40 by omega) hc)
theorem iz_drop {n : Nat} {fs fe fd : Int32} {lac lost : Nat → Int64} {ch : Nat → Int32} (hn : n < 40) : ∀ (k i : Nat) (w : Nat → Nat), (∀ j, w j < 256) → i ≤ n → n - i < k →
    ∃ w' : Nat → Nat, (∀ j, w' j < 256) ∧ (∀ post : Int32 → SX → Prop, post (nI n) (nI n, 0, fe, fd, iz_b w', lac, lost, ch) → wX_drop_26 post (nI n) fs fe fd k (nI i) (iz_b w) lac lost ch) ∧ (∀ post : Int32 → SY → Prop, post (nI n) (nI n, iz_b w') → wY_drop_26 post (nI n) k (nI i) (iz_b w)) := by
  intro k
  induction k with
  | zero => intro i w _ _ hk; omega
  | succ k ih =>
    intro i w hw hi hk
    rcases Nat.lt_or_ge i n with h | h
    · obtain ⟨w', a, b, c⟩ := ih (i + 1) _ (iz_put_lt (n := i) hw (hw (i + 1))) (by omega) (by omega)
      have e : upd (iz_b w) (nI i).toNatClampNeg (iz_b w (nI i + 1).toNatClampNeg) = iz_b (fun j => if j = i then w (i + 1) else w j) := by
        rw [nI_1, iz_b_at w (by omega), nI_clamp (by omega), iz_put]
      have v1 : vp_in (nI i + 1) 40 := by rw [nI_1]; exact vp_in_nI (by omega) (by omega)
      have v2 : vp_in (nI i) 40 := vp_in_nI (by omega) (by omega)
      exact ⟨w', a, fun post hp => br_f (nI_ge h (by omega)) ⟨v1, v2, nm_r e (nm_r (nI_1 i) (b post hp))⟩, fun post hp => br_f (nI_ge h (by omega)) ⟨v1, v2, nm_r e (nm_r (nI_1 i) (c post hp))⟩⟩
    · exact ⟨w, hw, fun post hp => br_t (nI_le h (by omega)) hp, fun post hp => br_t (nI_le h (by omega)) hp⟩
theorem i_vc_drop {k : Nat} {u : SX} {v : SY} (I : i_Rel k u v) (hk : k + 3 ≤ 1536) (v1 : Int32) : wpX_drop (fun r u' => wpY_drop (fun r' v' => r' = r ∧ i_Rel (k + 3) u' v') v v1) u v1 := by
  obtain ⟨n, w, hn, hw, rfl, fs, fe, fd, lac, lost, ch, rfl, hl⟩ := I
  have hR : i_Rel (k + 3) (nI n, fs, fe, fd, iz_b w, lac, lost, ch) (nI n, iz_b w) := iz_rel hn hw ⟨fs, fe, fd, lac, lost, ch, rfl, hl⟩
  refine br_c (fun h => br_t h ⟨rfl, hR⟩) (fun h => br_c (fun h2 => ?_) (fun h2 => br_f h (br_f h2 ⟨rfl, hR⟩)))
  obtain ⟨j, hj, rfl⟩ := nI_of h
  have h3 : nI j < nI n := h2
  rw [nI_ltI hj (by omega)] at h3
  obtain ⟨n', rfl⟩ : ∃ n', n = n' + 1 := ⟨n - 1, by omega⟩
  obtain ⟨w', a, b, c⟩ := iz_drop (n := n') (fs := fs) (fe := fe) (fd := fd) (lac := lac) (lost := lost) (ch := ch) (by omega) (n' + 1) j w hw (by omega) (by omega)
  refine nm_r (nI_pred n') ⟨n' + 1, b _ ?_⟩
  refine br_f h (br_t h2 (nm_r (nI_pred n') ⟨n' + 1, c _ ⟨rfl, ?_⟩⟩))
  exact iz_rel (by omega) a ⟨0, fe, fd, lac, lost, ch, rfl, Or.inl rfl⟩
theorem i_vc_support {k : Nat} {u : SX} {v : SY} (I : i_Rel k u v) (hk : k + 3 ≤ 1536) (v1 : Int32) : wpX_support (fun r u' => wpY_support (fun r' => r' = r ∧ i_Rel (k + 3) u' v) v v1) u v1 := by
  obtain ⟨n, w, hn, hw, rfl, fs, fe, fd, lac, lost, ch, rfl, hl⟩ := I
  unfold wpX_support
  dsimp only
  refine iz_lost hn hw hl fun fs' lac' hl' hf => ?_
  dsimp only
  refine iz_onesLS hn ?_
  rw [iz_bas w]
  exact iz_Ysup hn hw (Nat.mod_lt _ (by decide)) (iz_x255 v1) ⟨rfl, iz_rel hn hw ⟨fs', fe, fd, lac', lost, ch, rfl, Or.inr hl'⟩⟩
theorem i_vc_often {k : Nat} {u : SX} {v : SY} (I : i_Rel k u v) (hk : k + 3 ≤ 1536) (v1 : Int32) : wpX_often (fun r u' => wpY_often (fun r' => r' = r ∧ i_Rel (k + 3) u' v) v v1) u v1 := by
  obtain ⟨n, w, hn, hw, rfl, hS⟩ := I
  exact iz_Xoften hn hw hS fun u' hS' => iz_Yoften hn hw ⟨rfl, iz_rel hn hw hS'⟩
theorem i_vc_full {k : Nat} {u : SX} {v : SY} (I : i_Rel k u v) (hk : k + 3 ≤ 1536) (v1 : Int32) : wpX_full (fun r u' => wpY_full (fun r' => r' = r ∧ i_Rel (k + 3) u' v) v v1) u v1 := by
  obtain ⟨n, w, hn, hw, rfl, hS⟩ := I
  exact iz_Xfull hn hw hS fun u' hS' => iz_Yfull hn hw ⟨rfl, iz_rel hn hw hS'⟩
theorem i_vc_largest {k : Nat} {u : SX} {v : SY} (I : i_Rel k u v) (hk : k + 3 ≤ 1536) (v1 : Int32) : wpX_largest (fun r u' => wpY_largest (fun r' => r' = r ∧ i_Rel (k + 3) u' v) v v1) u v1 := by
  obtain ⟨n, w, hn, hw, rfl, hS⟩ := I
  exact iz_Xlarge hn hw hS fun u' hS' => iz_Ylarge hn hw ⟨rfl, iz_rel hn hw hS'⟩
theorem i_vc_size {k : Nat} {u : SX} {v : SY} (I : i_Rel k u v) (hk : k + 3 ≤ 1536) (v1 : Int32) : wpX_size (fun r u' => wpY_size (fun r' => r' = r ∧ i_Rel (k + 3) u' v) v v1) u v1 := by
  obtain ⟨n, w, hn, hw, rfl, hS⟩ := I
  exact iz_Xsize hn hw hS fun u' hS' => iz_Ysize hn hw ⟨rfl, iz_rel hn hw hS'⟩
theorem i_vc_next {k : Nat} {u : SX} {v : SY} (I : i_Rel k u v) (hk : k + 3 ≤ 1536) (v1 : Int32) (v2 : Int32) : wpX_next (fun r u' => wpY_next (fun r' => r' = r ∧ i_Rel (k + 3) u' v) v v1 v2) u v1 v2 := by
  obtain ⟨n, w, hn, hw, rfl, hS⟩ := I
  exact iz_Xnext hn hw hS fun r u' hS' hr => iz_Ynext hn hw hr ⟨rfl, iz_rel hn hw hS'⟩
theorem i_vc_closure {k : Nat} {u : SX} {v : SY} (I : i_Rel k u v) (hk : k + 3 ≤ 1536) (v1 : Int32) : wpX_closure (fun r u' => wpY_closure (fun r' => r' = r ∧ i_Rel (k + 3) u' v) v v1) u v1 := by
  obtain ⟨n, w, hn, hw, rfl, hS⟩ := I
  exact iz_Xclos hn hw hS fun u' hS' => iz_Yclos hn hw ⟨rfl, iz_rel hn hw hS'⟩
theorem i_vc_rules {k : Nat} {u : SX} {v : SY} (I : i_Rel k u v) (hk : k + 3 ≤ 1536) (v1 : Int32) (v2 : Int32) : wpX_rules (fun r u' => wpY_rules (fun r' => r' = r ∧ i_Rel (k + 3) u' v) v v1 v2) u v1 v2 := by
  obtain ⟨n, w, hn, hw, rfl, hS⟩ := I
  exact iz_Xrules hn hw hS fun u' hS' => iz_Yrules hn hw ⟨rfl, iz_rel hn hw hS'⟩
end
