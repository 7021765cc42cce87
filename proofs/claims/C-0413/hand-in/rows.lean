section
/-! pure rows to paste: stores, nI and lN arithmetic, masks, shifts, narrowing, branches by naturals (pk_le, pk_lt, pk_eq), loops (lp1 .. lp16: the measure of the state; rp1 ..: recursion), negatives. Take what you need -/
theorem pk_us {f : Nat → Int32} {k : Nat} {x : Int32} : upd f k x k = x := if_pos rfl
theorem pk_un {f : Nat → Int32} {k j : Nat} {x : Int32} (h : j ≠ k) : upd f k x j = f j := if_neg h
theorem pk_uLs {f : Nat → Int64} {k : Nat} {x : Int64} : vp_updL f k x k = x := if_pos rfl
theorem pk_uLn {f : Nat → Int64} {k j : Nat} {x : Int64} (h : j ≠ k) : vp_updL f k x j = f j := if_neg h
theorem pk_sub {a b : Nat} (h : b ≤ a) : nI a - nI b = nI (a - b) := by
  obtain ⟨c, rfl⟩ : ∃ c, a = c + b := ⟨a - b, by omega⟩
  rw [← nI_add, Int32.add_sub_cancel, Nat.add_sub_cancel]
theorem pk_m1 (n : Nat) : nI (n + 1) + (-1) = nI n := by
  rw [← nI_1, Int32.add_assoc, show (1 : Int32) + (-1) = 0 from rfl, Int32.add_zero]
theorem pk_mul (a b : Nat) : nI a * nI b = nI (a * b) := (Int32.ofNat_mul a b).symm
theorem pk_div {a d : Nat} (ha : a < 2 ^ 31) (h0 : 0 < d) (hd : d < 2 ^ 31) : nI a / nI d = nI (a / d) := by
  apply Int32.toInt_inj.mp
  rw [lg_idiv_nonneg (by rw [nI_toInt ha]; omega) (by rw [nI_toInt hd]; omega), nI_toInt ha, nI_toInt hd, nI_toInt (Nat.lt_of_le_of_lt (Nat.div_le_self a d) ha)]
  first | rfl | exact (Int.natCast_ediv _ _).symm
theorem pk_rem {a d : Nat} (ha : a < 2 ^ 31) (h0 : 0 < d) (hd : d < 2 ^ 31) : nI a - nI a / nI d * nI d = nI (a % d) := by
  rw [pk_div ha h0 hd, pk_mul, pk_sub (Nat.div_mul_le_self a d)]
  exact congrArg nI (by have := Nat.div_add_mod' a d; omega)
theorem pk_sub_toInt {a b : Nat} (ha : a < 2 ^ 30) (hb : b < 2 ^ 30) : (nI a - nI b).toInt = (a : Int) - b := by
  rw [Int32.toInt_sub, nI_toInt (by omega), nI_toInt (by omega)]
  exact Int.bmod_eq_of_le (by omega) (by omega)
theorem pk_sneg {a b : Nat} (hb : b < 2 ^ 30) (h : a < b) : nI a - nI b < 0 := by
  rw [Int32.lt_iff_toInt_lt, pk_sub_toInt (by omega) hb, show (0 : Int32).toInt = 0 from by decide]
  omega
theorem pk_ix (x : Int32) {n : Nat} (hn : n < 2 ^ 31) : x < 0 ∨ nI n ≤ x ∨ ∃ j : Nat, j < n ∧ x = nI j := by
  by_cases h : x < 0
  · exact Or.inl h
  · obtain ⟨j, hj, rfl⟩ := nI_of h
    by_cases h2 : j < n
    · exact Or.inr (Or.inr ⟨j, h2, rfl⟩)
    · exact Or.inr (Or.inl (nI_le (by omega) hj))
theorem pk_le {x y : Int32} {A B : Prop} (a b : Nat) (f : a ≤ b → A) (g : b < a → B) (hx : x = nI a := by rfl) (hy : y = nI b := by rfl) (ha : a < 2 ^ 31 := by omega) (hb : b < 2 ^ 31 := by omega) : (x ≤ y → A) ∧ (¬ x ≤ y → B) := by
  subst hx hy
  rw [nI_leI ha hb]
  exact ⟨f, fun z => g (by omega)⟩
theorem pk_lt {x y : Int32} {A B : Prop} (a b : Nat) (f : a < b → A) (g : b ≤ a → B) (hx : x = nI a := by rfl) (hy : y = nI b := by rfl) (ha : a < 2 ^ 31 := by omega) (hb : b < 2 ^ 31 := by omega) : (x < y → A) ∧ (¬ x < y → B) := by
  subst hx hy
  rw [nI_ltI ha hb]
  exact ⟨f, fun z => g (by omega)⟩
theorem pk_eq {x y : Int32} {A B : Prop} (a b : Nat) (f : a = b → A) (g : a ≠ b → B) (hx : x = nI a := by rfl) (hy : y = nI b := by rfl) (ha : a < 2 ^ 31 := by omega) (hb : b < 2 ^ 31 := by omega) : (x = y → A) ∧ (¬ x = y → B) := by
  subst hx hy
  rw [nI_eq ha hb]
  exact ⟨f, g⟩
theorem pk_in {x : Int32} (n N : Nat) (h : n < N) (hx : x = nI n := by rfl) (hN : N < 2 ^ 31 := by omega) : vp_in x N := by
  subst hx
  exact vp_in_nI h hN
theorem pk_cl {x : Int32} (n : Nat) (hx : x = nI n := by rfl) (h : n < 2 ^ 31 := by omega) : x.toNatClampNeg = n := by
  subst hx
  exact nI_clamp h
theorem pk_tn {n : Nat} (h : n < 2 ^ 32) : (nI n).toBitVec.toNat = n := Nat.mod_eq_of_lt h
theorem pk_and (x : Int32) {m : Int32} (k : Nat) (hm : m.toBitVec.toNat = 2 ^ k - 1) : x &&& m = nI (x.toBitVec.toNat % 2 ^ k) := by
  apply Int32.toBitVec_inj.mp
  apply BitVec.eq_of_toNat_eq
  rw [Int32.toBitVec_and, BitVec.toNat_and, hm, Nat.and_two_pow_sub_one_eq_mod]
  show _ = (BitVec.ofNat 32 _).toNat
  rw [BitVec.toNat_ofNat]
  exact (Nat.mod_eq_of_lt (Nat.lt_of_le_of_lt (Nat.mod_le _ _) x.toBitVec.isLt)).symm
theorem pk_andN {n : Nat} (h : n < 2 ^ 32) {m : Int32} (k : Nat) (hm : m.toBitVec.toNat = 2 ^ k - 1) : nI n &&& m = nI (n % 2 ^ k) := by
  rw [pk_and _ k hm, pk_tn h]
theorem pk_andE (x : Int32) {m : Int32} (k : Nat) (hm : m.toBitVec.toNat = 2 ^ k - 1) : ∃ j : Nat, j < 2 ^ k ∧ x &&& m = nI j := ⟨_, Nat.mod_lt _ (Nat.two_pow_pos k), pk_and x k hm⟩
theorem pk_andIn (x : Int32) {m : Int32} (k : Nat) (hm : m.toBitVec.toNat = 2 ^ k - 1) (hk : k ≤ 30) : vp_in (x &&& m) (2 ^ k) := by
  obtain ⟨j, hj, e⟩ := pk_andE x k hm
  rw [e]
  exact vp_in_nI hj (Nat.lt_of_le_of_lt (Nat.pow_le_pow_right (by decide) hk) (by decide))
theorem pk_shl (a s : Int32) (k : Nat) (hs : (s.toBitVec.smod 32).toNat = k) : (a <<< s).toBitVec.toNat = a.toBitVec.toNat * 2 ^ k % 2 ^ 32 := by
  show (a.toBitVec <<< (s.toBitVec.smod 32).toNat).toNat = _
  rw [hs, BitVec.toNat_shiftLeft, Nat.shiftLeft_eq]
theorem pk_shlN {n : Nat} (s : Int32) (k : Nat) (hs : (s.toBitVec.smod 32).toNat = k) (h : n * 2 ^ k < 2 ^ 32) : nI n <<< s = nI (n * 2 ^ k) := by
  apply Int32.toBitVec_inj.mp
  apply BitVec.eq_of_toNat_eq
  have hn : n < 2 ^ 32 := Nat.lt_of_le_of_lt (Nat.le_mul_of_pos_right n (Nat.two_pow_pos k)) h
  rw [pk_shl _ _ k hs, pk_tn hn, pk_tn h, Nat.mod_eq_of_lt h]
theorem pk_shr (a s : Int32) (k : Nat) (hs : (s.toBitVec.smod 32).toNat = k) : (a >>> s).toInt = a.toInt >>> k := by
  show (a.toBitVec.sshiftRight (s.toBitVec.smod 32).toNat).toInt = _
  rw [hs, BitVec.toInt_sshiftRight]
  rfl
theorem pk_shrN {n : Nat} (h : n < 2 ^ 31) (s : Int32) (k : Nat) (hs : (s.toBitVec.smod 32).toNat = k) : nI n >>> s = nI (n / 2 ^ k) := by
  apply Int32.toInt_inj.mp
  have h2 : n / 2 ^ k ≤ n := Nat.div_le_self _ _
  rw [pk_shr _ _ k hs, nI_toInt h, nI_toInt (by omega), Int.shiftRight_eq_div_pow]
  rfl
theorem pk_ushr (x s : Int32) (k : Nat) (hs : ((s.toUInt32 &&& Int32.toUInt32 31).toBitVec % 32).toNat = k) : (x.toUInt32 >>> (s.toUInt32 &&& Int32.toUInt32 31)).toInt32.toBitVec.toNat = x.toBitVec.toNat / 2 ^ k := by
  have e : (x.toUInt32 >>> (s.toUInt32 &&& Int32.toUInt32 31)).toInt32.toBitVec = x.toBitVec >>> k := by
    rw [← hs]
    exact UInt32.toBitVec_shiftRight _ _
  rw [e, BitVec.toNat_ushiftRight, Nat.shiftRight_eq_div_pow]
theorem pk_ushrN {n : Nat} (hn : n < 2 ^ 32) (s : Int32) (k : Nat) (hs : ((s.toUInt32 &&& Int32.toUInt32 31).toBitVec % 32).toNat = k) : ((nI n).toUInt32 >>> (s.toUInt32 &&& Int32.toUInt32 31)).toInt32 = nI (n / 2 ^ k) := by
  apply Int32.toBitVec_inj.mp
  apply BitVec.eq_of_toNat_eq
  rw [pk_ushr _ s k hs, pk_tn hn, pk_tn (Nat.lt_of_le_of_lt (Nat.div_le_self _ _) hn)]
theorem pk_nb (z : Int32) : narrow .byte (.int z.toInt8.toInt32) = .int z.toInt8.toInt32 := congrArg Value.int (by simp)
theorem pk_ns (z : Int32) : narrow .short (.int z.toInt16.toInt32) = .int z.toInt16.toInt32 := congrArg Value.int (by simp)
theorem pk_fb (r : Int32) : fits .byte (.int r.toInt8.toInt32) = true := by
  have ⟨a, b⟩ := lg_i2b_range r
  have h1 : (-128 : Int32).toInt = -128 := by decide
  have h2 : (127 : Int32).toInt = 127 := by decide
  simp only [fits, Bool.and_eq_true, decide_eq_true_eq, Int32.le_iff_toInt_le, h1, h2]
  omega
theorem pk_fs (r : Int32) : fits .short (.int r.toInt16.toInt32) = true := by
  have ⟨a, b⟩ := lg_i2s_range r
  have h1 : (-32768 : Int32).toInt = -32768 := by decide
  have h2 : (32767 : Int32).toInt = 32767 := by decide
  simp only [fits, Bool.and_eq_true, decide_eq_true_eq, Int32.le_iff_toInt_le, h1, h2]
  omega
theorem pk_charN {q : Nat} (hq : q < 65536) : narrow .char (.int (nI q)) = .int (nI q) ∧ fits .char (.int (nI q)) = true := by
  constructor
  · have e : (nI q).toUInt32.toUInt16.toUInt32.toInt32 = nI q := by
      apply Int32.toBitVec_inj.mp
      apply BitVec.eq_of_toNat_eq
      show (nI q).toUInt32.toUInt16.toUInt32.toNat = q % 2 ^ 32
      rw [UInt16.toNat_toUInt32, UInt32.toNat_toUInt16, show (nI q).toUInt32.toNat = q % 2 ^ 32 from rfl]
      omega
    exact congrArg Value.int e
  · have a : (0 : Int32) ≤ nI q := nI_pos' (by omega)
    have b : nI q ≤ 65535 := nI_le (b := 65535) (by omega) (by decide)
    show (decide ((0 : Int32) ≤ nI q) && decide (nI q ≤ 65535)) = true
    rw [decide_eq_true a, decide_eq_true b]
    rfl
theorem pk_char (x : Int32) : (x.toUInt32 % 65536).toInt32 = nI (x.toBitVec.toNat % 65536) := by
  apply Int32.toBitVec_inj.mp
  apply BitVec.eq_of_toNat_eq
  rw [pk_tn (by omega)]
  show (x.toUInt32 % 65536).toNat = _
  rw [UInt32.toNat_mod]
  rfl
theorem pk_nc (x : Int32) : narrow .char (.int (x.toUInt32 % 65536).toInt32) = .int (x.toUInt32 % 65536).toInt32 := by
  rw [pk_char]
  exact (pk_charN (Nat.mod_lt _ (by decide))).1
theorem pk_fc (x : Int32) : fits .char (.int (x.toUInt32 % 65536).toInt32) = true := by
  rw [pk_char]
  exact (pk_charN (Nat.mod_lt _ (by decide))).2
theorem pk_vb (z : Int32) : vp_nar .byte z.toInt8.toInt32 = z.toInt8.toInt32 := by rw [vp_nar_byte]; simp
theorem pk_vs (z : Int32) : vp_nar .short z.toInt16.toInt32 = z.toInt16.toInt32 := by rw [vp_nar_short]; simp
theorem pk_vc (z : Int32) : vp_nar .char (z.toUInt32 % 65536).toInt32 = (z.toUInt32 % 65536).toInt32 := Value.int.inj (pk_nc z)
theorem pk_lT {n : Nat} (h : n < 2 ^ 63) : (lN n).toInt = (n : Int) := lg_ofNat_toInt h
theorem pk_lLT {a b : Nat} (ha : a < 2 ^ 63) (hb : b < 2 ^ 63) : lN a < lN b ↔ a < b := by
  rw [Int64.lt_iff_toInt_lt, pk_lT ha, pk_lT hb]; omega
theorem pk_lLE {a b : Nat} (ha : a < 2 ^ 63) (hb : b < 2 ^ 63) : lN a ≤ lN b ↔ a ≤ b := by
  rw [Int64.le_iff_toInt_le, pk_lT ha, pk_lT hb]; omega
theorem pk_lEQ {a b : Nat} (ha : a < 2 ^ 63) (hb : b < 2 ^ 63) : lN a = lN b ↔ a = b := by
  rw [← Int64.toInt_inj, pk_lT ha, pk_lT hb]; omega
theorem pk_lOf {x : Int64} (h : ¬ x < 0) : ∃ k : Nat, k < 2 ^ 63 ∧ x = lN k := by
  rw [Int64.lt_iff_toInt_lt] at h
  have h0 : (0 : Int64).toInt = 0 := by decide
  have hx := Int64.toInt_lt x
  refine ⟨x.toInt.toNat, by omega, Int64.toInt_inj.mp ?_⟩
  rw [pk_lT (by omega)]
  omega
theorem pk_lDiv {a b : Nat} (ha : a < 2 ^ 63) (h0 : 0 < b) (hb : b < 2 ^ 63) : lN a / lN b = lN (a / b) := by
  apply Int64.toInt_inj.mp
  rw [lg_ldiv_nonneg (by rw [pk_lT ha]; omega) (by rw [pk_lT hb]; omega), pk_lT ha, pk_lT hb, pk_lT (Nat.lt_of_le_of_lt (Nat.div_le_self a b) ha)]
  rfl
theorem pk_lRem {a b : Nat} (ha : a < 2 ^ 63) (h0 : 0 < b) (hb : b < 2 ^ 63) : lN a - lN a / lN b * lN b = lN (a % b) := by
  rw [pk_lDiv ha h0 hb, lN_mul, lN_sub (Nat.div_mul_le_self a b)]
  exact congrArg lN (by have := Nat.div_add_mod' a b; omega)
theorem pk_loop {σ : Type} (W : Nat → Nat → σ → Prop) (I : Nat → σ → Prop) (e i0 : Nat) (s : σ) (hi : i0 ≤ e) (h0 : I i0 s) (hx : ∀ n s, I e s → W (n + 1) e s)
    (hs : ∀ n i s, i < e → I i s → (∀ s', I (i + 1) s' → W n (i + 1) s') → W (n + 1) i s) : ∃ n, W n i0 s :=
  ⟨e + 1, loop_i W I e hx hs (e + 1) i0 s hi (by omega) h0⟩
theorem pk_loopD {σ : Type} (W : Nat → Nat → σ → Prop) (I : Nat → σ → Prop) (hx : ∀ n s, I 0 s → W (n + 1) 0 s)
    (hs : ∀ n i s, I (i + 1) s → (∀ s', I i s' → W n i s') → W (n + 1) (i + 1) s) : ∀ (e : Nat) (s : σ), I e s → W (e + 1) e s := by
  intro e
  induction e with
  | zero => exact fun s h => hx 0 s h
  | succ e ih => exact fun s h => hs (e + 1) e s h (fun s' h' => ih s' h')
theorem lp1 {A1 : Type} (W : Nat → A1 → Prop) (I : A1 → Prop) (μ : A1 → Nat) (hs : ∀ (n : Nat) (a1 : A1), I a1 → (∀ (b1 : A1), I b1 → μ b1 < μ a1 → W n b1) → W (n + 1) a1) (a1 : A1) (h : I a1) : ∃ n, W n a1 :=
  loop_m (σ := A1) (fun n s => W n s) (fun s => I s) (fun s => μ s) (fun n s hI hk => hs n s hI (fun b1 h9 hm => hk b1 h9 hm)) a1 h
theorem lp2 {A1 A2 : Type} (W : Nat → A1 → A2 → Prop) (I : A1 → A2 → Prop) (μ : A1 → A2 → Nat) (hs : ∀ (n : Nat) (a1 : A1) (a2 : A2), I a1 a2 → (∀ (b1 : A1) (b2 : A2), I b1 b2 → μ b1 b2 < μ a1 a2 → W n b1 b2) → W (n + 1) a1 a2) (a1 : A1) (a2 : A2) (h : I a1 a2) : ∃ n, W n a1 a2 :=
  loop_m (σ := A1 × A2) (fun n s => W n s.1 s.2) (fun s => I s.1 s.2) (fun s => μ s.1 s.2) (fun n s hI hk => hs n s.1 s.2 hI (fun b1 b2 h9 hm => hk (b1, b2) h9 hm)) (a1, a2) h
theorem lp3 {A1 A2 A3 : Type} (W : Nat → A1 → A2 → A3 → Prop) (I : A1 → A2 → A3 → Prop) (μ : A1 → A2 → A3 → Nat) (hs : ∀ (n : Nat) (a1 : A1) (a2 : A2) (a3 : A3), I a1 a2 a3 → (∀ (b1 : A1) (b2 : A2) (b3 : A3), I b1 b2 b3 → μ b1 b2 b3 < μ a1 a2 a3 → W n b1 b2 b3) → W (n + 1) a1 a2 a3) (a1 : A1) (a2 : A2) (a3 : A3) (h : I a1 a2 a3) : ∃ n, W n a1 a2 a3 :=
  loop_m (σ := A1 × A2 × A3) (fun n s => W n s.1 s.2.1 s.2.2) (fun s => I s.1 s.2.1 s.2.2) (fun s => μ s.1 s.2.1 s.2.2) (fun n s hI hk => hs n s.1 s.2.1 s.2.2 hI (fun b1 b2 b3 h9 hm => hk (b1, b2, b3) h9 hm)) (a1, a2, a3) h
theorem lp4 {A1 A2 A3 A4 : Type} (W : Nat → A1 → A2 → A3 → A4 → Prop) (I : A1 → A2 → A3 → A4 → Prop) (μ : A1 → A2 → A3 → A4 → Nat) (hs : ∀ (n : Nat) (a1 : A1) (a2 : A2) (a3 : A3) (a4 : A4), I a1 a2 a3 a4 → (∀ (b1 : A1) (b2 : A2) (b3 : A3) (b4 : A4), I b1 b2 b3 b4 → μ b1 b2 b3 b4 < μ a1 a2 a3 a4 → W n b1 b2 b3 b4) → W (n + 1) a1 a2 a3 a4) (a1 : A1) (a2 : A2) (a3 : A3) (a4 : A4) (h : I a1 a2 a3 a4) : ∃ n, W n a1 a2 a3 a4 :=
  loop_m (σ := A1 × A2 × A3 × A4) (fun n s => W n s.1 s.2.1 s.2.2.1 s.2.2.2) (fun s => I s.1 s.2.1 s.2.2.1 s.2.2.2) (fun s => μ s.1 s.2.1 s.2.2.1 s.2.2.2) (fun n s hI hk => hs n s.1 s.2.1 s.2.2.1 s.2.2.2 hI (fun b1 b2 b3 b4 h9 hm => hk (b1, b2, b3, b4) h9 hm)) (a1, a2, a3, a4) h
theorem lp5 {A1 A2 A3 A4 A5 : Type} (W : Nat → A1 → A2 → A3 → A4 → A5 → Prop) (I : A1 → A2 → A3 → A4 → A5 → Prop) (μ : A1 → A2 → A3 → A4 → A5 → Nat) (hs : ∀ (n : Nat) (a1 : A1) (a2 : A2) (a3 : A3) (a4 : A4) (a5 : A5), I a1 a2 a3 a4 a5 → (∀ (b1 : A1) (b2 : A2) (b3 : A3) (b4 : A4) (b5 : A5), I b1 b2 b3 b4 b5 → μ b1 b2 b3 b4 b5 < μ a1 a2 a3 a4 a5 → W n b1 b2 b3 b4 b5) → W (n + 1) a1 a2 a3 a4 a5) (a1 : A1) (a2 : A2) (a3 : A3) (a4 : A4) (a5 : A5) (h : I a1 a2 a3 a4 a5) : ∃ n, W n a1 a2 a3 a4 a5 :=
  loop_m (σ := A1 × A2 × A3 × A4 × A5) (fun n s => W n s.1 s.2.1 s.2.2.1 s.2.2.2.1 s.2.2.2.2) (fun s => I s.1 s.2.1 s.2.2.1 s.2.2.2.1 s.2.2.2.2) (fun s => μ s.1 s.2.1 s.2.2.1 s.2.2.2.1 s.2.2.2.2) (fun n s hI hk => hs n s.1 s.2.1 s.2.2.1 s.2.2.2.1 s.2.2.2.2 hI (fun b1 b2 b3 b4 b5 h9 hm => hk (b1, b2, b3, b4, b5) h9 hm)) (a1, a2, a3, a4, a5) h
theorem lp6 {A1 A2 A3 A4 A5 A6 : Type} (W : Nat → A1 → A2 → A3 → A4 → A5 → A6 → Prop) (I : A1 → A2 → A3 → A4 → A5 → A6 → Prop) (μ : A1 → A2 → A3 → A4 → A5 → A6 → Nat) (hs : ∀ (n : Nat) (a1 : A1) (a2 : A2) (a3 : A3) (a4 : A4) (a5 : A5) (a6 : A6), I a1 a2 a3 a4 a5 a6 → (∀ (b1 : A1) (b2 : A2) (b3 : A3) (b4 : A4) (b5 : A5) (b6 : A6), I b1 b2 b3 b4 b5 b6 → μ b1 b2 b3 b4 b5 b6 < μ a1 a2 a3 a4 a5 a6 → W n b1 b2 b3 b4 b5 b6) → W (n + 1) a1 a2 a3 a4 a5 a6) (a1 : A1) (a2 : A2) (a3 : A3) (a4 : A4) (a5 : A5) (a6 : A6) (h : I a1 a2 a3 a4 a5 a6) : ∃ n, W n a1 a2 a3 a4 a5 a6 :=
  loop_m (σ := A1 × A2 × A3 × A4 × A5 × A6) (fun n s => W n s.1 s.2.1 s.2.2.1 s.2.2.2.1 s.2.2.2.2.1 s.2.2.2.2.2) (fun s => I s.1 s.2.1 s.2.2.1 s.2.2.2.1 s.2.2.2.2.1 s.2.2.2.2.2) (fun s => μ s.1 s.2.1 s.2.2.1 s.2.2.2.1 s.2.2.2.2.1 s.2.2.2.2.2) (fun n s hI hk => hs n s.1 s.2.1 s.2.2.1 s.2.2.2.1 s.2.2.2.2.1 s.2.2.2.2.2 hI (fun b1 b2 b3 b4 b5 b6 h9 hm => hk (b1, b2, b3, b4, b5, b6) h9 hm)) (a1, a2, a3, a4, a5, a6) h
theorem lp7 {A1 A2 A3 A4 A5 A6 A7 : Type} (W : Nat → A1 → A2 → A3 → A4 → A5 → A6 → A7 → Prop) (I : A1 → A2 → A3 → A4 → A5 → A6 → A7 → Prop) (μ : A1 → A2 → A3 → A4 → A5 → A6 → A7 → Nat) (hs : ∀ (n : Nat) (a1 : A1) (a2 : A2) (a3 : A3) (a4 : A4) (a5 : A5) (a6 : A6) (a7 : A7), I a1 a2 a3 a4 a5 a6 a7 → (∀ (b1 : A1) (b2 : A2) (b3 : A3) (b4 : A4) (b5 : A5) (b6 : A6) (b7 : A7), I b1 b2 b3 b4 b5 b6 b7 → μ b1 b2 b3 b4 b5 b6 b7 < μ a1 a2 a3 a4 a5 a6 a7 → W n b1 b2 b3 b4 b5 b6 b7) → W (n + 1) a1 a2 a3 a4 a5 a6 a7) (a1 : A1) (a2 : A2) (a3 : A3) (a4 : A4) (a5 : A5) (a6 : A6) (a7 : A7) (h : I a1 a2 a3 a4 a5 a6 a7) : ∃ n, W n a1 a2 a3 a4 a5 a6 a7 :=
  loop_m (σ := A1 × A2 × A3 × A4 × A5 × A6 × A7) (fun n s => W n s.1 s.2.1 s.2.2.1 s.2.2.2.1 s.2.2.2.2.1 s.2.2.2.2.2.1 s.2.2.2.2.2.2) (fun s => I s.1 s.2.1 s.2.2.1 s.2.2.2.1 s.2.2.2.2.1 s.2.2.2.2.2.1 s.2.2.2.2.2.2) (fun s => μ s.1 s.2.1 s.2.2.1 s.2.2.2.1 s.2.2.2.2.1 s.2.2.2.2.2.1 s.2.2.2.2.2.2) (fun n s hI hk => hs n s.1 s.2.1 s.2.2.1 s.2.2.2.1 s.2.2.2.2.1 s.2.2.2.2.2.1 s.2.2.2.2.2.2 hI (fun b1 b2 b3 b4 b5 b6 b7 h9 hm => hk (b1, b2, b3, b4, b5, b6, b7) h9 hm)) (a1, a2, a3, a4, a5, a6, a7) h
theorem lp8 {A1 A2 A3 A4 A5 A6 A7 A8 : Type} (W : Nat → A1 → A2 → A3 → A4 → A5 → A6 → A7 → A8 → Prop) (I : A1 → A2 → A3 → A4 → A5 → A6 → A7 → A8 → Prop) (μ : A1 → A2 → A3 → A4 → A5 → A6 → A7 → A8 → Nat) (hs : ∀ (n : Nat) (a1 : A1) (a2 : A2) (a3 : A3) (a4 : A4) (a5 : A5) (a6 : A6) (a7 : A7) (a8 : A8), I a1 a2 a3 a4 a5 a6 a7 a8 → (∀ (b1 : A1) (b2 : A2) (b3 : A3) (b4 : A4) (b5 : A5) (b6 : A6) (b7 : A7) (b8 : A8), I b1 b2 b3 b4 b5 b6 b7 b8 → μ b1 b2 b3 b4 b5 b6 b7 b8 < μ a1 a2 a3 a4 a5 a6 a7 a8 → W n b1 b2 b3 b4 b5 b6 b7 b8) → W (n + 1) a1 a2 a3 a4 a5 a6 a7 a8) (a1 : A1) (a2 : A2) (a3 : A3) (a4 : A4) (a5 : A5) (a6 : A6) (a7 : A7) (a8 : A8) (h : I a1 a2 a3 a4 a5 a6 a7 a8) : ∃ n, W n a1 a2 a3 a4 a5 a6 a7 a8 :=
  loop_m (σ := A1 × A2 × A3 × A4 × A5 × A6 × A7 × A8) (fun n s => W n s.1 s.2.1 s.2.2.1 s.2.2.2.1 s.2.2.2.2.1 s.2.2.2.2.2.1 s.2.2.2.2.2.2.1 s.2.2.2.2.2.2.2) (fun s => I s.1 s.2.1 s.2.2.1 s.2.2.2.1 s.2.2.2.2.1 s.2.2.2.2.2.1 s.2.2.2.2.2.2.1 s.2.2.2.2.2.2.2) (fun s => μ s.1 s.2.1 s.2.2.1 s.2.2.2.1 s.2.2.2.2.1 s.2.2.2.2.2.1 s.2.2.2.2.2.2.1 s.2.2.2.2.2.2.2) (fun n s hI hk => hs n s.1 s.2.1 s.2.2.1 s.2.2.2.1 s.2.2.2.2.1 s.2.2.2.2.2.1 s.2.2.2.2.2.2.1 s.2.2.2.2.2.2.2 hI (fun b1 b2 b3 b4 b5 b6 b7 b8 h9 hm => hk (b1, b2, b3, b4, b5, b6, b7, b8) h9 hm)) (a1, a2, a3, a4, a5, a6, a7, a8) h
theorem lp9 {A1 A2 A3 A4 A5 A6 A7 A8 A9 : Type} (W : Nat → A1 → A2 → A3 → A4 → A5 → A6 → A7 → A8 → A9 → Prop) (I : A1 → A2 → A3 → A4 → A5 → A6 → A7 → A8 → A9 → Prop) (μ : A1 → A2 → A3 → A4 → A5 → A6 → A7 → A8 → A9 → Nat) (hs : ∀ (n : Nat) (a1 : A1) (a2 : A2) (a3 : A3) (a4 : A4) (a5 : A5) (a6 : A6) (a7 : A7) (a8 : A8) (a9 : A9), I a1 a2 a3 a4 a5 a6 a7 a8 a9 → (∀ (b1 : A1) (b2 : A2) (b3 : A3) (b4 : A4) (b5 : A5) (b6 : A6) (b7 : A7) (b8 : A8) (b9 : A9), I b1 b2 b3 b4 b5 b6 b7 b8 b9 → μ b1 b2 b3 b4 b5 b6 b7 b8 b9 < μ a1 a2 a3 a4 a5 a6 a7 a8 a9 → W n b1 b2 b3 b4 b5 b6 b7 b8 b9) → W (n + 1) a1 a2 a3 a4 a5 a6 a7 a8 a9) (a1 : A1) (a2 : A2) (a3 : A3) (a4 : A4) (a5 : A5) (a6 : A6) (a7 : A7) (a8 : A8) (a9 : A9) (h : I a1 a2 a3 a4 a5 a6 a7 a8 a9) : ∃ n, W n a1 a2 a3 a4 a5 a6 a7 a8 a9 :=
  loop_m (σ := A1 × A2 × A3 × A4 × A5 × A6 × A7 × A8 × A9) (fun n s => W n s.1 s.2.1 s.2.2.1 s.2.2.2.1 s.2.2.2.2.1 s.2.2.2.2.2.1 s.2.2.2.2.2.2.1 s.2.2.2.2.2.2.2.1 s.2.2.2.2.2.2.2.2) (fun s => I s.1 s.2.1 s.2.2.1 s.2.2.2.1 s.2.2.2.2.1 s.2.2.2.2.2.1 s.2.2.2.2.2.2.1 s.2.2.2.2.2.2.2.1 s.2.2.2.2.2.2.2.2) (fun s => μ s.1 s.2.1 s.2.2.1 s.2.2.2.1 s.2.2.2.2.1 s.2.2.2.2.2.1 s.2.2.2.2.2.2.1 s.2.2.2.2.2.2.2.1 s.2.2.2.2.2.2.2.2) (fun n s hI hk => hs n s.1 s.2.1 s.2.2.1 s.2.2.2.1 s.2.2.2.2.1 s.2.2.2.2.2.1 s.2.2.2.2.2.2.1 s.2.2.2.2.2.2.2.1 s.2.2.2.2.2.2.2.2 hI (fun b1 b2 b3 b4 b5 b6 b7 b8 b9 h9 hm => hk (b1, b2, b3, b4, b5, b6, b7, b8, b9) h9 hm)) (a1, a2, a3, a4, a5, a6, a7, a8, a9) h
theorem lp10 {A1 A2 A3 A4 A5 A6 A7 A8 A9 A10 : Type} (W : Nat → A1 → A2 → A3 → A4 → A5 → A6 → A7 → A8 → A9 → A10 → Prop) (I : A1 → A2 → A3 → A4 → A5 → A6 → A7 → A8 → A9 → A10 → Prop) (μ : A1 → A2 → A3 → A4 → A5 → A6 → A7 → A8 → A9 → A10 → Nat) (hs : ∀ (n : Nat) (a1 : A1) (a2 : A2) (a3 : A3) (a4 : A4) (a5 : A5) (a6 : A6) (a7 : A7) (a8 : A8) (a9 : A9) (a10 : A10), I a1 a2 a3 a4 a5 a6 a7 a8 a9 a10 → (∀ (b1 : A1) (b2 : A2) (b3 : A3) (b4 : A4) (b5 : A5) (b6 : A6) (b7 : A7) (b8 : A8) (b9 : A9) (b10 : A10), I b1 b2 b3 b4 b5 b6 b7 b8 b9 b10 → μ b1 b2 b3 b4 b5 b6 b7 b8 b9 b10 < μ a1 a2 a3 a4 a5 a6 a7 a8 a9 a10 → W n b1 b2 b3 b4 b5 b6 b7 b8 b9 b10) → W (n + 1) a1 a2 a3 a4 a5 a6 a7 a8 a9 a10) (a1 : A1) (a2 : A2) (a3 : A3) (a4 : A4) (a5 : A5) (a6 : A6) (a7 : A7) (a8 : A8) (a9 : A9) (a10 : A10) (h : I a1 a2 a3 a4 a5 a6 a7 a8 a9 a10) : ∃ n, W n a1 a2 a3 a4 a5 a6 a7 a8 a9 a10 :=
  loop_m (σ := A1 × A2 × A3 × A4 × A5 × A6 × A7 × A8 × A9 × A10) (fun n s => W n s.1 s.2.1 s.2.2.1 s.2.2.2.1 s.2.2.2.2.1 s.2.2.2.2.2.1 s.2.2.2.2.2.2.1 s.2.2.2.2.2.2.2.1 s.2.2.2.2.2.2.2.2.1 s.2.2.2.2.2.2.2.2.2) (fun s => I s.1 s.2.1 s.2.2.1 s.2.2.2.1 s.2.2.2.2.1 s.2.2.2.2.2.1 s.2.2.2.2.2.2.1 s.2.2.2.2.2.2.2.1 s.2.2.2.2.2.2.2.2.1 s.2.2.2.2.2.2.2.2.2) (fun s => μ s.1 s.2.1 s.2.2.1 s.2.2.2.1 s.2.2.2.2.1 s.2.2.2.2.2.1 s.2.2.2.2.2.2.1 s.2.2.2.2.2.2.2.1 s.2.2.2.2.2.2.2.2.1 s.2.2.2.2.2.2.2.2.2) (fun n s hI hk => hs n s.1 s.2.1 s.2.2.1 s.2.2.2.1 s.2.2.2.2.1 s.2.2.2.2.2.1 s.2.2.2.2.2.2.1 s.2.2.2.2.2.2.2.1 s.2.2.2.2.2.2.2.2.1 s.2.2.2.2.2.2.2.2.2 hI (fun b1 b2 b3 b4 b5 b6 b7 b8 b9 b10 h9 hm => hk (b1, b2, b3, b4, b5, b6, b7, b8, b9, b10) h9 hm)) (a1, a2, a3, a4, a5, a6, a7, a8, a9, a10) h
theorem lp11 {A1 A2 A3 A4 A5 A6 A7 A8 A9 A10 A11 : Type} (W : Nat → A1 → A2 → A3 → A4 → A5 → A6 → A7 → A8 → A9 → A10 → A11 → Prop) (I : A1 → A2 → A3 → A4 → A5 → A6 → A7 → A8 → A9 → A10 → A11 → Prop) (μ : A1 → A2 → A3 → A4 → A5 → A6 → A7 → A8 → A9 → A10 → A11 → Nat) (hs : ∀ (n : Nat) (a1 : A1) (a2 : A2) (a3 : A3) (a4 : A4) (a5 : A5) (a6 : A6) (a7 : A7) (a8 : A8) (a9 : A9) (a10 : A10) (a11 : A11), I a1 a2 a3 a4 a5 a6 a7 a8 a9 a10 a11 → (∀ (b1 : A1) (b2 : A2) (b3 : A3) (b4 : A4) (b5 : A5) (b6 : A6) (b7 : A7) (b8 : A8) (b9 : A9) (b10 : A10) (b11 : A11), I b1 b2 b3 b4 b5 b6 b7 b8 b9 b10 b11 → μ b1 b2 b3 b4 b5 b6 b7 b8 b9 b10 b11 < μ a1 a2 a3 a4 a5 a6 a7 a8 a9 a10 a11 → W n b1 b2 b3 b4 b5 b6 b7 b8 b9 b10 b11) → W (n + 1) a1 a2 a3 a4 a5 a6 a7 a8 a9 a10 a11) (a1 : A1) (a2 : A2) (a3 : A3) (a4 : A4) (a5 : A5) (a6 : A6) (a7 : A7) (a8 : A8) (a9 : A9) (a10 : A10) (a11 : A11) (h : I a1 a2 a3 a4 a5 a6 a7 a8 a9 a10 a11) : ∃ n, W n a1 a2 a3 a4 a5 a6 a7 a8 a9 a10 a11 :=
  loop_m (σ := A1 × A2 × A3 × A4 × A5 × A6 × A7 × A8 × A9 × A10 × A11) (fun n s => W n s.1 s.2.1 s.2.2.1 s.2.2.2.1 s.2.2.2.2.1 s.2.2.2.2.2.1 s.2.2.2.2.2.2.1 s.2.2.2.2.2.2.2.1 s.2.2.2.2.2.2.2.2.1 s.2.2.2.2.2.2.2.2.2.1 s.2.2.2.2.2.2.2.2.2.2) (fun s => I s.1 s.2.1 s.2.2.1 s.2.2.2.1 s.2.2.2.2.1 s.2.2.2.2.2.1 s.2.2.2.2.2.2.1 s.2.2.2.2.2.2.2.1 s.2.2.2.2.2.2.2.2.1 s.2.2.2.2.2.2.2.2.2.1 s.2.2.2.2.2.2.2.2.2.2) (fun s => μ s.1 s.2.1 s.2.2.1 s.2.2.2.1 s.2.2.2.2.1 s.2.2.2.2.2.1 s.2.2.2.2.2.2.1 s.2.2.2.2.2.2.2.1 s.2.2.2.2.2.2.2.2.1 s.2.2.2.2.2.2.2.2.2.1 s.2.2.2.2.2.2.2.2.2.2) (fun n s hI hk => hs n s.1 s.2.1 s.2.2.1 s.2.2.2.1 s.2.2.2.2.1 s.2.2.2.2.2.1 s.2.2.2.2.2.2.1 s.2.2.2.2.2.2.2.1 s.2.2.2.2.2.2.2.2.1 s.2.2.2.2.2.2.2.2.2.1 s.2.2.2.2.2.2.2.2.2.2 hI (fun b1 b2 b3 b4 b5 b6 b7 b8 b9 b10 b11 h9 hm => hk (b1, b2, b3, b4, b5, b6, b7, b8, b9, b10, b11) h9 hm)) (a1, a2, a3, a4, a5, a6, a7, a8, a9, a10, a11) h
theorem lp12 {A1 A2 A3 A4 A5 A6 A7 A8 A9 A10 A11 A12 : Type} (W : Nat → A1 → A2 → A3 → A4 → A5 → A6 → A7 → A8 → A9 → A10 → A11 → A12 → Prop) (I : A1 → A2 → A3 → A4 → A5 → A6 → A7 → A8 → A9 → A10 → A11 → A12 → Prop) (μ : A1 → A2 → A3 → A4 → A5 → A6 → A7 → A8 → A9 → A10 → A11 → A12 → Nat) (hs : ∀ (n : Nat) (a1 : A1) (a2 : A2) (a3 : A3) (a4 : A4) (a5 : A5) (a6 : A6) (a7 : A7) (a8 : A8) (a9 : A9) (a10 : A10) (a11 : A11) (a12 : A12), I a1 a2 a3 a4 a5 a6 a7 a8 a9 a10 a11 a12 → (∀ (b1 : A1) (b2 : A2) (b3 : A3) (b4 : A4) (b5 : A5) (b6 : A6) (b7 : A7) (b8 : A8) (b9 : A9) (b10 : A10) (b11 : A11) (b12 : A12), I b1 b2 b3 b4 b5 b6 b7 b8 b9 b10 b11 b12 → μ b1 b2 b3 b4 b5 b6 b7 b8 b9 b10 b11 b12 < μ a1 a2 a3 a4 a5 a6 a7 a8 a9 a10 a11 a12 → W n b1 b2 b3 b4 b5 b6 b7 b8 b9 b10 b11 b12) → W (n + 1) a1 a2 a3 a4 a5 a6 a7 a8 a9 a10 a11 a12) (a1 : A1) (a2 : A2) (a3 : A3) (a4 : A4) (a5 : A5) (a6 : A6) (a7 : A7) (a8 : A8) (a9 : A9) (a10 : A10) (a11 : A11) (a12 : A12) (h : I a1 a2 a3 a4 a5 a6 a7 a8 a9 a10 a11 a12) : ∃ n, W n a1 a2 a3 a4 a5 a6 a7 a8 a9 a10 a11 a12 :=
  loop_m (σ := A1 × A2 × A3 × A4 × A5 × A6 × A7 × A8 × A9 × A10 × A11 × A12) (fun n s => W n s.1 s.2.1 s.2.2.1 s.2.2.2.1 s.2.2.2.2.1 s.2.2.2.2.2.1 s.2.2.2.2.2.2.1 s.2.2.2.2.2.2.2.1 s.2.2.2.2.2.2.2.2.1 s.2.2.2.2.2.2.2.2.2.1 s.2.2.2.2.2.2.2.2.2.2.1 s.2.2.2.2.2.2.2.2.2.2.2) (fun s => I s.1 s.2.1 s.2.2.1 s.2.2.2.1 s.2.2.2.2.1 s.2.2.2.2.2.1 s.2.2.2.2.2.2.1 s.2.2.2.2.2.2.2.1 s.2.2.2.2.2.2.2.2.1 s.2.2.2.2.2.2.2.2.2.1 s.2.2.2.2.2.2.2.2.2.2.1 s.2.2.2.2.2.2.2.2.2.2.2) (fun s => μ s.1 s.2.1 s.2.2.1 s.2.2.2.1 s.2.2.2.2.1 s.2.2.2.2.2.1 s.2.2.2.2.2.2.1 s.2.2.2.2.2.2.2.1 s.2.2.2.2.2.2.2.2.1 s.2.2.2.2.2.2.2.2.2.1 s.2.2.2.2.2.2.2.2.2.2.1 s.2.2.2.2.2.2.2.2.2.2.2) (fun n s hI hk => hs n s.1 s.2.1 s.2.2.1 s.2.2.2.1 s.2.2.2.2.1 s.2.2.2.2.2.1 s.2.2.2.2.2.2.1 s.2.2.2.2.2.2.2.1 s.2.2.2.2.2.2.2.2.1 s.2.2.2.2.2.2.2.2.2.1 s.2.2.2.2.2.2.2.2.2.2.1 s.2.2.2.2.2.2.2.2.2.2.2 hI (fun b1 b2 b3 b4 b5 b6 b7 b8 b9 b10 b11 b12 h9 hm => hk (b1, b2, b3, b4, b5, b6, b7, b8, b9, b10, b11, b12) h9 hm)) (a1, a2, a3, a4, a5, a6, a7, a8, a9, a10, a11, a12) h
theorem lp13 {A1 A2 A3 A4 A5 A6 A7 A8 A9 A10 A11 A12 A13 : Type} (W : Nat → A1 → A2 → A3 → A4 → A5 → A6 → A7 → A8 → A9 → A10 → A11 → A12 → A13 → Prop) (I : A1 → A2 → A3 → A4 → A5 → A6 → A7 → A8 → A9 → A10 → A11 → A12 → A13 → Prop) (μ : A1 → A2 → A3 → A4 → A5 → A6 → A7 → A8 → A9 → A10 → A11 → A12 → A13 → Nat) (hs : ∀ (n : Nat) (a1 : A1) (a2 : A2) (a3 : A3) (a4 : A4) (a5 : A5) (a6 : A6) (a7 : A7) (a8 : A8) (a9 : A9) (a10 : A10) (a11 : A11) (a12 : A12) (a13 : A13), I a1 a2 a3 a4 a5 a6 a7 a8 a9 a10 a11 a12 a13 → (∀ (b1 : A1) (b2 : A2) (b3 : A3) (b4 : A4) (b5 : A5) (b6 : A6) (b7 : A7) (b8 : A8) (b9 : A9) (b10 : A10) (b11 : A11) (b12 : A12) (b13 : A13), I b1 b2 b3 b4 b5 b6 b7 b8 b9 b10 b11 b12 b13 → μ b1 b2 b3 b4 b5 b6 b7 b8 b9 b10 b11 b12 b13 < μ a1 a2 a3 a4 a5 a6 a7 a8 a9 a10 a11 a12 a13 → W n b1 b2 b3 b4 b5 b6 b7 b8 b9 b10 b11 b12 b13) → W (n + 1) a1 a2 a3 a4 a5 a6 a7 a8 a9 a10 a11 a12 a13) (a1 : A1) (a2 : A2) (a3 : A3) (a4 : A4) (a5 : A5) (a6 : A6) (a7 : A7) (a8 : A8) (a9 : A9) (a10 : A10) (a11 : A11) (a12 : A12) (a13 : A13) (h : I a1 a2 a3 a4 a5 a6 a7 a8 a9 a10 a11 a12 a13) : ∃ n, W n a1 a2 a3 a4 a5 a6 a7 a8 a9 a10 a11 a12 a13 :=
  loop_m (σ := A1 × A2 × A3 × A4 × A5 × A6 × A7 × A8 × A9 × A10 × A11 × A12 × A13) (fun n s => W n s.1 s.2.1 s.2.2.1 s.2.2.2.1 s.2.2.2.2.1 s.2.2.2.2.2.1 s.2.2.2.2.2.2.1 s.2.2.2.2.2.2.2.1 s.2.2.2.2.2.2.2.2.1 s.2.2.2.2.2.2.2.2.2.1 s.2.2.2.2.2.2.2.2.2.2.1 s.2.2.2.2.2.2.2.2.2.2.2.1 s.2.2.2.2.2.2.2.2.2.2.2.2) (fun s => I s.1 s.2.1 s.2.2.1 s.2.2.2.1 s.2.2.2.2.1 s.2.2.2.2.2.1 s.2.2.2.2.2.2.1 s.2.2.2.2.2.2.2.1 s.2.2.2.2.2.2.2.2.1 s.2.2.2.2.2.2.2.2.2.1 s.2.2.2.2.2.2.2.2.2.2.1 s.2.2.2.2.2.2.2.2.2.2.2.1 s.2.2.2.2.2.2.2.2.2.2.2.2) (fun s => μ s.1 s.2.1 s.2.2.1 s.2.2.2.1 s.2.2.2.2.1 s.2.2.2.2.2.1 s.2.2.2.2.2.2.1 s.2.2.2.2.2.2.2.1 s.2.2.2.2.2.2.2.2.1 s.2.2.2.2.2.2.2.2.2.1 s.2.2.2.2.2.2.2.2.2.2.1 s.2.2.2.2.2.2.2.2.2.2.2.1 s.2.2.2.2.2.2.2.2.2.2.2.2) (fun n s hI hk => hs n s.1 s.2.1 s.2.2.1 s.2.2.2.1 s.2.2.2.2.1 s.2.2.2.2.2.1 s.2.2.2.2.2.2.1 s.2.2.2.2.2.2.2.1 s.2.2.2.2.2.2.2.2.1 s.2.2.2.2.2.2.2.2.2.1 s.2.2.2.2.2.2.2.2.2.2.1 s.2.2.2.2.2.2.2.2.2.2.2.1 s.2.2.2.2.2.2.2.2.2.2.2.2 hI (fun b1 b2 b3 b4 b5 b6 b7 b8 b9 b10 b11 b12 b13 h9 hm => hk (b1, b2, b3, b4, b5, b6, b7, b8, b9, b10, b11, b12, b13) h9 hm)) (a1, a2, a3, a4, a5, a6, a7, a8, a9, a10, a11, a12, a13) h
theorem lp14 {A1 A2 A3 A4 A5 A6 A7 A8 A9 A10 A11 A12 A13 A14 : Type} (W : Nat → A1 → A2 → A3 → A4 → A5 → A6 → A7 → A8 → A9 → A10 → A11 → A12 → A13 → A14 → Prop) (I : A1 → A2 → A3 → A4 → A5 → A6 → A7 → A8 → A9 → A10 → A11 → A12 → A13 → A14 → Prop) (μ : A1 → A2 → A3 → A4 → A5 → A6 → A7 → A8 → A9 → A10 → A11 → A12 → A13 → A14 → Nat) (hs : ∀ (n : Nat) (a1 : A1) (a2 : A2) (a3 : A3) (a4 : A4) (a5 : A5) (a6 : A6) (a7 : A7) (a8 : A8) (a9 : A9) (a10 : A10) (a11 : A11) (a12 : A12) (a13 : A13) (a14 : A14), I a1 a2 a3 a4 a5 a6 a7 a8 a9 a10 a11 a12 a13 a14 → (∀ (b1 : A1) (b2 : A2) (b3 : A3) (b4 : A4) (b5 : A5) (b6 : A6) (b7 : A7) (b8 : A8) (b9 : A9) (b10 : A10) (b11 : A11) (b12 : A12) (b13 : A13) (b14 : A14), I b1 b2 b3 b4 b5 b6 b7 b8 b9 b10 b11 b12 b13 b14 → μ b1 b2 b3 b4 b5 b6 b7 b8 b9 b10 b11 b12 b13 b14 < μ a1 a2 a3 a4 a5 a6 a7 a8 a9 a10 a11 a12 a13 a14 → W n b1 b2 b3 b4 b5 b6 b7 b8 b9 b10 b11 b12 b13 b14) → W (n + 1) a1 a2 a3 a4 a5 a6 a7 a8 a9 a10 a11 a12 a13 a14) (a1 : A1) (a2 : A2) (a3 : A3) (a4 : A4) (a5 : A5) (a6 : A6) (a7 : A7) (a8 : A8) (a9 : A9) (a10 : A10) (a11 : A11) (a12 : A12) (a13 : A13) (a14 : A14) (h : I a1 a2 a3 a4 a5 a6 a7 a8 a9 a10 a11 a12 a13 a14) : ∃ n, W n a1 a2 a3 a4 a5 a6 a7 a8 a9 a10 a11 a12 a13 a14 :=
  loop_m (σ := A1 × A2 × A3 × A4 × A5 × A6 × A7 × A8 × A9 × A10 × A11 × A12 × A13 × A14) (fun n s => W n s.1 s.2.1 s.2.2.1 s.2.2.2.1 s.2.2.2.2.1 s.2.2.2.2.2.1 s.2.2.2.2.2.2.1 s.2.2.2.2.2.2.2.1 s.2.2.2.2.2.2.2.2.1 s.2.2.2.2.2.2.2.2.2.1 s.2.2.2.2.2.2.2.2.2.2.1 s.2.2.2.2.2.2.2.2.2.2.2.1 s.2.2.2.2.2.2.2.2.2.2.2.2.1 s.2.2.2.2.2.2.2.2.2.2.2.2.2) (fun s => I s.1 s.2.1 s.2.2.1 s.2.2.2.1 s.2.2.2.2.1 s.2.2.2.2.2.1 s.2.2.2.2.2.2.1 s.2.2.2.2.2.2.2.1 s.2.2.2.2.2.2.2.2.1 s.2.2.2.2.2.2.2.2.2.1 s.2.2.2.2.2.2.2.2.2.2.1 s.2.2.2.2.2.2.2.2.2.2.2.1 s.2.2.2.2.2.2.2.2.2.2.2.2.1 s.2.2.2.2.2.2.2.2.2.2.2.2.2) (fun s => μ s.1 s.2.1 s.2.2.1 s.2.2.2.1 s.2.2.2.2.1 s.2.2.2.2.2.1 s.2.2.2.2.2.2.1 s.2.2.2.2.2.2.2.1 s.2.2.2.2.2.2.2.2.1 s.2.2.2.2.2.2.2.2.2.1 s.2.2.2.2.2.2.2.2.2.2.1 s.2.2.2.2.2.2.2.2.2.2.2.1 s.2.2.2.2.2.2.2.2.2.2.2.2.1 s.2.2.2.2.2.2.2.2.2.2.2.2.2) (fun n s hI hk => hs n s.1 s.2.1 s.2.2.1 s.2.2.2.1 s.2.2.2.2.1 s.2.2.2.2.2.1 s.2.2.2.2.2.2.1 s.2.2.2.2.2.2.2.1 s.2.2.2.2.2.2.2.2.1 s.2.2.2.2.2.2.2.2.2.1 s.2.2.2.2.2.2.2.2.2.2.1 s.2.2.2.2.2.2.2.2.2.2.2.1 s.2.2.2.2.2.2.2.2.2.2.2.2.1 s.2.2.2.2.2.2.2.2.2.2.2.2.2 hI (fun b1 b2 b3 b4 b5 b6 b7 b8 b9 b10 b11 b12 b13 b14 h9 hm => hk (b1, b2, b3, b4, b5, b6, b7, b8, b9, b10, b11, b12, b13, b14) h9 hm)) (a1, a2, a3, a4, a5, a6, a7, a8, a9, a10, a11, a12, a13, a14) h
theorem lp15 {A1 A2 A3 A4 A5 A6 A7 A8 A9 A10 A11 A12 A13 A14 A15 : Type} (W : Nat → A1 → A2 → A3 → A4 → A5 → A6 → A7 → A8 → A9 → A10 → A11 → A12 → A13 → A14 → A15 → Prop) (I : A1 → A2 → A3 → A4 → A5 → A6 → A7 → A8 → A9 → A10 → A11 → A12 → A13 → A14 → A15 → Prop) (μ : A1 → A2 → A3 → A4 → A5 → A6 → A7 → A8 → A9 → A10 → A11 → A12 → A13 → A14 → A15 → Nat) (hs : ∀ (n : Nat) (a1 : A1) (a2 : A2) (a3 : A3) (a4 : A4) (a5 : A5) (a6 : A6) (a7 : A7) (a8 : A8) (a9 : A9) (a10 : A10) (a11 : A11) (a12 : A12) (a13 : A13) (a14 : A14) (a15 : A15), I a1 a2 a3 a4 a5 a6 a7 a8 a9 a10 a11 a12 a13 a14 a15 → (∀ (b1 : A1) (b2 : A2) (b3 : A3) (b4 : A4) (b5 : A5) (b6 : A6) (b7 : A7) (b8 : A8) (b9 : A9) (b10 : A10) (b11 : A11) (b12 : A12) (b13 : A13) (b14 : A14) (b15 : A15), I b1 b2 b3 b4 b5 b6 b7 b8 b9 b10 b11 b12 b13 b14 b15 → μ b1 b2 b3 b4 b5 b6 b7 b8 b9 b10 b11 b12 b13 b14 b15 < μ a1 a2 a3 a4 a5 a6 a7 a8 a9 a10 a11 a12 a13 a14 a15 → W n b1 b2 b3 b4 b5 b6 b7 b8 b9 b10 b11 b12 b13 b14 b15) → W (n + 1) a1 a2 a3 a4 a5 a6 a7 a8 a9 a10 a11 a12 a13 a14 a15) (a1 : A1) (a2 : A2) (a3 : A3) (a4 : A4) (a5 : A5) (a6 : A6) (a7 : A7) (a8 : A8) (a9 : A9) (a10 : A10) (a11 : A11) (a12 : A12) (a13 : A13) (a14 : A14) (a15 : A15) (h : I a1 a2 a3 a4 a5 a6 a7 a8 a9 a10 a11 a12 a13 a14 a15) : ∃ n, W n a1 a2 a3 a4 a5 a6 a7 a8 a9 a10 a11 a12 a13 a14 a15 :=
  loop_m (σ := A1 × A2 × A3 × A4 × A5 × A6 × A7 × A8 × A9 × A10 × A11 × A12 × A13 × A14 × A15) (fun n s => W n s.1 s.2.1 s.2.2.1 s.2.2.2.1 s.2.2.2.2.1 s.2.2.2.2.2.1 s.2.2.2.2.2.2.1 s.2.2.2.2.2.2.2.1 s.2.2.2.2.2.2.2.2.1 s.2.2.2.2.2.2.2.2.2.1 s.2.2.2.2.2.2.2.2.2.2.1 s.2.2.2.2.2.2.2.2.2.2.2.1 s.2.2.2.2.2.2.2.2.2.2.2.2.1 s.2.2.2.2.2.2.2.2.2.2.2.2.2.1 s.2.2.2.2.2.2.2.2.2.2.2.2.2.2) (fun s => I s.1 s.2.1 s.2.2.1 s.2.2.2.1 s.2.2.2.2.1 s.2.2.2.2.2.1 s.2.2.2.2.2.2.1 s.2.2.2.2.2.2.2.1 s.2.2.2.2.2.2.2.2.1 s.2.2.2.2.2.2.2.2.2.1 s.2.2.2.2.2.2.2.2.2.2.1 s.2.2.2.2.2.2.2.2.2.2.2.1 s.2.2.2.2.2.2.2.2.2.2.2.2.1 s.2.2.2.2.2.2.2.2.2.2.2.2.2.1 s.2.2.2.2.2.2.2.2.2.2.2.2.2.2) (fun s => μ s.1 s.2.1 s.2.2.1 s.2.2.2.1 s.2.2.2.2.1 s.2.2.2.2.2.1 s.2.2.2.2.2.2.1 s.2.2.2.2.2.2.2.1 s.2.2.2.2.2.2.2.2.1 s.2.2.2.2.2.2.2.2.2.1 s.2.2.2.2.2.2.2.2.2.2.1 s.2.2.2.2.2.2.2.2.2.2.2.1 s.2.2.2.2.2.2.2.2.2.2.2.2.1 s.2.2.2.2.2.2.2.2.2.2.2.2.2.1 s.2.2.2.2.2.2.2.2.2.2.2.2.2.2) (fun n s hI hk => hs n s.1 s.2.1 s.2.2.1 s.2.2.2.1 s.2.2.2.2.1 s.2.2.2.2.2.1 s.2.2.2.2.2.2.1 s.2.2.2.2.2.2.2.1 s.2.2.2.2.2.2.2.2.1 s.2.2.2.2.2.2.2.2.2.1 s.2.2.2.2.2.2.2.2.2.2.1 s.2.2.2.2.2.2.2.2.2.2.2.1 s.2.2.2.2.2.2.2.2.2.2.2.2.1 s.2.2.2.2.2.2.2.2.2.2.2.2.2.1 s.2.2.2.2.2.2.2.2.2.2.2.2.2.2 hI (fun b1 b2 b3 b4 b5 b6 b7 b8 b9 b10 b11 b12 b13 b14 b15 h9 hm => hk (b1, b2, b3, b4, b5, b6, b7, b8, b9, b10, b11, b12, b13, b14, b15) h9 hm)) (a1, a2, a3, a4, a5, a6, a7, a8, a9, a10, a11, a12, a13, a14, a15) h
theorem lp16 {A1 A2 A3 A4 A5 A6 A7 A8 A9 A10 A11 A12 A13 A14 A15 A16 : Type} (W : Nat → A1 → A2 → A3 → A4 → A5 → A6 → A7 → A8 → A9 → A10 → A11 → A12 → A13 → A14 → A15 → A16 → Prop) (I : A1 → A2 → A3 → A4 → A5 → A6 → A7 → A8 → A9 → A10 → A11 → A12 → A13 → A14 → A15 → A16 → Prop) (μ : A1 → A2 → A3 → A4 → A5 → A6 → A7 → A8 → A9 → A10 → A11 → A12 → A13 → A14 → A15 → A16 → Nat) (hs : ∀ (n : Nat) (a1 : A1) (a2 : A2) (a3 : A3) (a4 : A4) (a5 : A5) (a6 : A6) (a7 : A7) (a8 : A8) (a9 : A9) (a10 : A10) (a11 : A11) (a12 : A12) (a13 : A13) (a14 : A14) (a15 : A15) (a16 : A16), I a1 a2 a3 a4 a5 a6 a7 a8 a9 a10 a11 a12 a13 a14 a15 a16 → (∀ (b1 : A1) (b2 : A2) (b3 : A3) (b4 : A4) (b5 : A5) (b6 : A6) (b7 : A7) (b8 : A8) (b9 : A9) (b10 : A10) (b11 : A11) (b12 : A12) (b13 : A13) (b14 : A14) (b15 : A15) (b16 : A16), I b1 b2 b3 b4 b5 b6 b7 b8 b9 b10 b11 b12 b13 b14 b15 b16 → μ b1 b2 b3 b4 b5 b6 b7 b8 b9 b10 b11 b12 b13 b14 b15 b16 < μ a1 a2 a3 a4 a5 a6 a7 a8 a9 a10 a11 a12 a13 a14 a15 a16 → W n b1 b2 b3 b4 b5 b6 b7 b8 b9 b10 b11 b12 b13 b14 b15 b16) → W (n + 1) a1 a2 a3 a4 a5 a6 a7 a8 a9 a10 a11 a12 a13 a14 a15 a16) (a1 : A1) (a2 : A2) (a3 : A3) (a4 : A4) (a5 : A5) (a6 : A6) (a7 : A7) (a8 : A8) (a9 : A9) (a10 : A10) (a11 : A11) (a12 : A12) (a13 : A13) (a14 : A14) (a15 : A15) (a16 : A16) (h : I a1 a2 a3 a4 a5 a6 a7 a8 a9 a10 a11 a12 a13 a14 a15 a16) : ∃ n, W n a1 a2 a3 a4 a5 a6 a7 a8 a9 a10 a11 a12 a13 a14 a15 a16 :=
  loop_m (σ := A1 × A2 × A3 × A4 × A5 × A6 × A7 × A8 × A9 × A10 × A11 × A12 × A13 × A14 × A15 × A16) (fun n s => W n s.1 s.2.1 s.2.2.1 s.2.2.2.1 s.2.2.2.2.1 s.2.2.2.2.2.1 s.2.2.2.2.2.2.1 s.2.2.2.2.2.2.2.1 s.2.2.2.2.2.2.2.2.1 s.2.2.2.2.2.2.2.2.2.1 s.2.2.2.2.2.2.2.2.2.2.1 s.2.2.2.2.2.2.2.2.2.2.2.1 s.2.2.2.2.2.2.2.2.2.2.2.2.1 s.2.2.2.2.2.2.2.2.2.2.2.2.2.1 s.2.2.2.2.2.2.2.2.2.2.2.2.2.2.1 s.2.2.2.2.2.2.2.2.2.2.2.2.2.2.2) (fun s => I s.1 s.2.1 s.2.2.1 s.2.2.2.1 s.2.2.2.2.1 s.2.2.2.2.2.1 s.2.2.2.2.2.2.1 s.2.2.2.2.2.2.2.1 s.2.2.2.2.2.2.2.2.1 s.2.2.2.2.2.2.2.2.2.1 s.2.2.2.2.2.2.2.2.2.2.1 s.2.2.2.2.2.2.2.2.2.2.2.1 s.2.2.2.2.2.2.2.2.2.2.2.2.1 s.2.2.2.2.2.2.2.2.2.2.2.2.2.1 s.2.2.2.2.2.2.2.2.2.2.2.2.2.2.1 s.2.2.2.2.2.2.2.2.2.2.2.2.2.2.2) (fun s => μ s.1 s.2.1 s.2.2.1 s.2.2.2.1 s.2.2.2.2.1 s.2.2.2.2.2.1 s.2.2.2.2.2.2.1 s.2.2.2.2.2.2.2.1 s.2.2.2.2.2.2.2.2.1 s.2.2.2.2.2.2.2.2.2.1 s.2.2.2.2.2.2.2.2.2.2.1 s.2.2.2.2.2.2.2.2.2.2.2.1 s.2.2.2.2.2.2.2.2.2.2.2.2.1 s.2.2.2.2.2.2.2.2.2.2.2.2.2.1 s.2.2.2.2.2.2.2.2.2.2.2.2.2.2.1 s.2.2.2.2.2.2.2.2.2.2.2.2.2.2.2) (fun n s hI hk => hs n s.1 s.2.1 s.2.2.1 s.2.2.2.1 s.2.2.2.2.1 s.2.2.2.2.2.1 s.2.2.2.2.2.2.1 s.2.2.2.2.2.2.2.1 s.2.2.2.2.2.2.2.2.1 s.2.2.2.2.2.2.2.2.2.1 s.2.2.2.2.2.2.2.2.2.2.1 s.2.2.2.2.2.2.2.2.2.2.2.1 s.2.2.2.2.2.2.2.2.2.2.2.2.1 s.2.2.2.2.2.2.2.2.2.2.2.2.2.1 s.2.2.2.2.2.2.2.2.2.2.2.2.2.2.1 s.2.2.2.2.2.2.2.2.2.2.2.2.2.2.2 hI (fun b1 b2 b3 b4 b5 b6 b7 b8 b9 b10 b11 b12 b13 b14 b15 b16 h9 hm => hk (b1, b2, b3, b4, b5, b6, b7, b8, b9, b10, b11, b12, b13, b14, b15, b16) h9 hm)) (a1, a2, a3, a4, a5, a6, a7, a8, a9, a10, a11, a12, a13, a14, a15, a16) h
theorem pk_least (P : Nat → Prop) (h : ∃ k, P k) : ∃ k, P k ∧ ∀ j, j < k → ¬ P j := by
  obtain ⟨k, hk⟩ := h
  induction k using Nat.strongRecOn with
  | ind k ih =>
    by_cases e : ∃ j, j < k ∧ P j
    · obtain ⟨j, hj, pj⟩ := e
      exact ih j hj pj
    · exact ⟨k, hk, fun j hj pj => e ⟨j, hj, pj⟩⟩
theorem rp1 {ρ A1 : Type} (W : Nat → (ρ → Prop) → A1 → Prop) (ok : A1 → Prop) (μ : A1 → Nat) (val : A1 → ρ)
    (hs : ∀ (d : Nat) (post : ρ → Prop) (a1 : A1), ok a1 → post (val a1) → (∀ (post' : ρ → Prop) (b1 : A1), ok b1 → μ b1 < μ a1 → post' (val b1) → W d post' b1) → W (d + 1) post a1) :
    ∀ (d : Nat) (post : ρ → Prop) (a1 : A1), ok a1 → μ a1 < d → post (val a1) → W d post a1 := by
  intro d
  induction d with
  | zero => intro post a1 _ h; omega
  | succ d ih =>
    intro post a1 ho hm hp
    exact hs d post a1 ho hp (fun post' b1 ho' hm' hp' => ih post' b1 ho' (by omega) hp')
theorem rp2 {ρ A1 A2 : Type} (W : Nat → (ρ → Prop) → A1 → A2 → Prop) (ok : A1 → A2 → Prop) (μ : A1 → A2 → Nat) (val : A1 → A2 → ρ)
    (hs : ∀ (d : Nat) (post : ρ → Prop) (a1 : A1) (a2 : A2), ok a1 a2 → post (val a1 a2) → (∀ (post' : ρ → Prop) (b1 : A1) (b2 : A2), ok b1 b2 → μ b1 b2 < μ a1 a2 → post' (val b1 b2) → W d post' b1 b2) → W (d + 1) post a1 a2) :
    ∀ (d : Nat) (post : ρ → Prop) (a1 : A1) (a2 : A2), ok a1 a2 → μ a1 a2 < d → post (val a1 a2) → W d post a1 a2 := by
  intro d
  induction d with
  | zero => intro post a1 a2 _ h; omega
  | succ d ih =>
    intro post a1 a2 ho hm hp
    exact hs d post a1 a2 ho hp (fun post' b1 b2 ho' hm' hp' => ih post' b1 b2 ho' (by omega) hp')
theorem rp3 {ρ A1 A2 A3 : Type} (W : Nat → (ρ → Prop) → A1 → A2 → A3 → Prop) (ok : A1 → A2 → A3 → Prop) (μ : A1 → A2 → A3 → Nat) (val : A1 → A2 → A3 → ρ)
    (hs : ∀ (d : Nat) (post : ρ → Prop) (a1 : A1) (a2 : A2) (a3 : A3), ok a1 a2 a3 → post (val a1 a2 a3) → (∀ (post' : ρ → Prop) (b1 : A1) (b2 : A2) (b3 : A3), ok b1 b2 b3 → μ b1 b2 b3 < μ a1 a2 a3 → post' (val b1 b2 b3) → W d post' b1 b2 b3) → W (d + 1) post a1 a2 a3) :
    ∀ (d : Nat) (post : ρ → Prop) (a1 : A1) (a2 : A2) (a3 : A3), ok a1 a2 a3 → μ a1 a2 a3 < d → post (val a1 a2 a3) → W d post a1 a2 a3 := by
  intro d
  induction d with
  | zero => intro post a1 a2 a3 _ h; omega
  | succ d ih =>
    intro post a1 a2 a3 ho hm hp
    exact hs d post a1 a2 a3 ho hp (fun post' b1 b2 b3 ho' hm' hp' => ih post' b1 b2 b3 ho' (by omega) hp')
theorem rp4 {ρ A1 A2 A3 A4 : Type} (W : Nat → (ρ → Prop) → A1 → A2 → A3 → A4 → Prop) (ok : A1 → A2 → A3 → A4 → Prop) (μ : A1 → A2 → A3 → A4 → Nat) (val : A1 → A2 → A3 → A4 → ρ)
    (hs : ∀ (d : Nat) (post : ρ → Prop) (a1 : A1) (a2 : A2) (a3 : A3) (a4 : A4), ok a1 a2 a3 a4 → post (val a1 a2 a3 a4) → (∀ (post' : ρ → Prop) (b1 : A1) (b2 : A2) (b3 : A3) (b4 : A4), ok b1 b2 b3 b4 → μ b1 b2 b3 b4 < μ a1 a2 a3 a4 → post' (val b1 b2 b3 b4) → W d post' b1 b2 b3 b4) → W (d + 1) post a1 a2 a3 a4) :
    ∀ (d : Nat) (post : ρ → Prop) (a1 : A1) (a2 : A2) (a3 : A3) (a4 : A4), ok a1 a2 a3 a4 → μ a1 a2 a3 a4 < d → post (val a1 a2 a3 a4) → W d post a1 a2 a3 a4 := by
  intro d
  induction d with
  | zero => intro post a1 a2 a3 a4 _ h; omega
  | succ d ih =>
    intro post a1 a2 a3 a4 ho hm hp
    exact hs d post a1 a2 a3 a4 ho hp (fun post' b1 b2 b3 b4 ho' hm' hp' => ih post' b1 b2 b3 b4 ho' (by omega) hp')
theorem rp5 {ρ A1 A2 A3 A4 A5 : Type} (W : Nat → (ρ → Prop) → A1 → A2 → A3 → A4 → A5 → Prop) (ok : A1 → A2 → A3 → A4 → A5 → Prop) (μ : A1 → A2 → A3 → A4 → A5 → Nat) (val : A1 → A2 → A3 → A4 → A5 → ρ)
    (hs : ∀ (d : Nat) (post : ρ → Prop) (a1 : A1) (a2 : A2) (a3 : A3) (a4 : A4) (a5 : A5), ok a1 a2 a3 a4 a5 → post (val a1 a2 a3 a4 a5) → (∀ (post' : ρ → Prop) (b1 : A1) (b2 : A2) (b3 : A3) (b4 : A4) (b5 : A5), ok b1 b2 b3 b4 b5 → μ b1 b2 b3 b4 b5 < μ a1 a2 a3 a4 a5 → post' (val b1 b2 b3 b4 b5) → W d post' b1 b2 b3 b4 b5) → W (d + 1) post a1 a2 a3 a4 a5) :
    ∀ (d : Nat) (post : ρ → Prop) (a1 : A1) (a2 : A2) (a3 : A3) (a4 : A4) (a5 : A5), ok a1 a2 a3 a4 a5 → μ a1 a2 a3 a4 a5 < d → post (val a1 a2 a3 a4 a5) → W d post a1 a2 a3 a4 a5 := by
  intro d
  induction d with
  | zero => intro post a1 a2 a3 a4 a5 _ h; omega
  | succ d ih =>
    intro post a1 a2 a3 a4 a5 ho hm hp
    exact hs d post a1 a2 a3 a4 a5 ho hp (fun post' b1 b2 b3 b4 b5 ho' hm' hp' => ih post' b1 b2 b3 b4 b5 ho' (by omega) hp')
theorem rp6 {ρ A1 A2 A3 A4 A5 A6 : Type} (W : Nat → (ρ → Prop) → A1 → A2 → A3 → A4 → A5 → A6 → Prop) (ok : A1 → A2 → A3 → A4 → A5 → A6 → Prop) (μ : A1 → A2 → A3 → A4 → A5 → A6 → Nat) (val : A1 → A2 → A3 → A4 → A5 → A6 → ρ)
    (hs : ∀ (d : Nat) (post : ρ → Prop) (a1 : A1) (a2 : A2) (a3 : A3) (a4 : A4) (a5 : A5) (a6 : A6), ok a1 a2 a3 a4 a5 a6 → post (val a1 a2 a3 a4 a5 a6) → (∀ (post' : ρ → Prop) (b1 : A1) (b2 : A2) (b3 : A3) (b4 : A4) (b5 : A5) (b6 : A6), ok b1 b2 b3 b4 b5 b6 → μ b1 b2 b3 b4 b5 b6 < μ a1 a2 a3 a4 a5 a6 → post' (val b1 b2 b3 b4 b5 b6) → W d post' b1 b2 b3 b4 b5 b6) → W (d + 1) post a1 a2 a3 a4 a5 a6) :
    ∀ (d : Nat) (post : ρ → Prop) (a1 : A1) (a2 : A2) (a3 : A3) (a4 : A4) (a5 : A5) (a6 : A6), ok a1 a2 a3 a4 a5 a6 → μ a1 a2 a3 a4 a5 a6 < d → post (val a1 a2 a3 a4 a5 a6) → W d post a1 a2 a3 a4 a5 a6 := by
  intro d
  induction d with
  | zero => intro post a1 a2 a3 a4 a5 a6 _ h; omega
  | succ d ih =>
    intro post a1 a2 a3 a4 a5 a6 ho hm hp
    exact hs d post a1 a2 a3 a4 a5 a6 ho hp (fun post' b1 b2 b3 b4 b5 b6 ho' hm' hp' => ih post' b1 b2 b3 b4 b5 b6 ho' (by omega) hp')
theorem rec_p {σ ρ : Type} (W : Nat → (ρ → Prop) → σ → Prop) (ok : σ → Prop) (μ : σ → Nat) (val : σ → ρ)
    (hs : ∀ d s post, ok s → post (val s) → (∀ s' post', ok s' → μ s' < μ s → post' (val s') → W d post' s') → W (d + 1) post s) :
    ∀ d s post, ok s → μ s < d → post (val s) → W d post s := by
  intro d
  induction d with
  | zero => intro s post _ h; omega
  | succ d ih =>
    intro s post ho hm hp
    exact hs d s post ho hp (fun s' post' ho' hm' hp' => ih s' post' ho' (by omega) hp')
theorem rec_q {σ ρ : Type} (W : Nat → (ρ → Prop) → σ → Prop) (ok : σ → Prop) (μ : σ → Nat) (Q : σ → ρ → Prop)
    (hs : ∀ d s post, ok s → (∀ r, Q s r → post r) → (∀ s' post', ok s' → μ s' < μ s → (∀ r, Q s' r → post' r) → W d post' s') → W (d + 1) post s) :
    ∀ d s post, ok s → μ s < d → (∀ r, Q s r → post r) → W d post s := by
  intro d
  induction d with
  | zero => intro s post _ h; omega
  | succ d ih =>
    intro s post ho hm hp
    exact hs d s post ho hp (fun s' post' ho' hm' hp' => ih s' post' ho' (by omega) hp')
def bx_sum (f : Nat → Int32) : Nat → Int32
  | 0 => 0
  | n + 1 => bx_sum f n + f n
theorem ek_u {A : Prop} {B : Nat → Prop} {k N : Nat} (hk : k < N) (h : B k) : (some k = none → A) ∧ (∀ y : Nat, some k = some y → (y < N ∧ B y)) :=
  ⟨fun z => absurd z (Option.some_ne_none k), fun _ e => (by cases e; exact ⟨hk, h⟩)⟩
theorem ek_nu {A : Prop} {B : Nat → Prop} (h : A) : ((none : Option Nat) = none → A) ∧ (∀ y : Nat, (none : Option Nat) = some y → B y) :=
  ⟨fun _ => h, fun _ e => (by cases e)⟩
theorem ek_if {c d A B : Prop} (e : c ↔ d) (f : d → A) (g : ¬ d → B) : (c → A) ∧ (¬ c → B) :=
  ⟨fun z => f (e.mp z), fun z => g (fun y => z (e.mpr y))⟩
theorem ek_v {α : Sort _} {P : α → Prop} {a b : α} (e : a = b) (h : P b) : P a := e ▸ h
theorem co_some {x : Option Nat} {A : Prop} {B : Nat → Prop} (i : Nat) (h : B i) (hx : x = some i := by rfl) : (x = none → A) ∧ (∀ y : Nat, x = some y → B y) := by
  subst hx
  exact ⟨fun e => (nomatch e), fun y e => Option.some.inj e ▸ h⟩
theorem co_none {x : Option Nat} {A : Prop} {B : Nat → Prop} (h : A) (hx : x = none := by rfl) : (x = none → A) ∧ (∀ y : Nat, x = some y → B y) := by
  subst hx
  exact ⟨fun _ => h, fun y e => (nomatch e)⟩
theorem co_any {x : Option Nat} {A : Prop} {B : Nat → Prop} (hn : x = none → A) (hs : ∀ i : Nat, x = some i → B i) : (x = none → A) ∧ (∀ y : Nat, x = some y → B y) := ⟨hn, hs⟩
theorem co_2 {P : Nat → Prop} (h0 : P 0) (h1 : P 1) {i : Nat} (hi : i < 2) : P i :=
  match i, hi with
  | 0, _ => h0
  | 1, _ => h1
theorem co_3 {P : Nat → Prop} (h0 : P 0) (h1 : P 1) (h2 : P 2) {i : Nat} (hi : i < 3) : P i :=
  match i, hi with
  | 0, _ => h0
  | 1, _ => h1
  | 2, _ => h2
theorem co_4 {P : Nat → Prop} (h0 : P 0) (h1 : P 1) (h2 : P 2) (h3 : P 3) {i : Nat} (hi : i < 4) : P i :=
  match i, hi with
  | 0, _ => h0
  | 1, _ => h1
  | 2, _ => h2
  | 3, _ => h3
theorem co_dec {N : Nat} {P : Nat → Prop} [DecidablePred P] (h : (List.range N).all (fun i => decide (P i)) = true) {i : Nat} (hi : i < N) : P i := by
  have := List.all_eq_true.mp h i (List.mem_range.mpr hi)
  exact of_decide_eq_true this
theorem co_tab {α : Type} {l : List α} {d : α} {P : α → Prop} (h : ∀ a, a ∈ l → P a) {i : Nat} (hi : i < l.length) : P (l.getD i d) := by
  rw [List.getD_eq_getElem?_getD, List.getElem?_eq_getElem hi]
  exact h _ (List.getElem_mem hi)
theorem pk_mu {x : Int32} {L : Nat} (h0 : ¬ x < 0) (h : ¬ nI L ≤ x) (hL : L < 2 ^ 31) : ∃ j : Nat, j < L ∧ x = nI j ∧ x + 1 = nI (j + 1) ∧ x.toNatClampNeg = j ∧ L - (x + 1).toNatClampNeg < L - x.toNatClampNeg := by
  obtain ⟨j, hj, rfl⟩ := nI_of h0
  have hl : j < L := Nat.not_le.mp fun q => h (nI_le q hj)
  refine ⟨j, hl, rfl, nI_1 j, nI_clamp hj, ?_⟩
  rw [nI_1, nI_clamp (by omega), nI_clamp hj]
  omega
theorem op_s {α : Type} {r : Option α} {A : Prop} {B : α → Prop} {y : α} (h : r = some y) (b : B y) : (r = none → A) ∧ ∀ z, r = some z → B z :=
  ⟨fun e => (by rw [h] at e; cases e), fun z e => (by rw [h] at e; cases e; exact b)⟩
def l_holds {α : Type} (a : Nat → Option Nat) (LP : List Nat) (p : Nat → α) (c : Nat) (b : Nat → α) : Prop :=
  ∀ j, j < c → ∃ y, a j = some y ∧ y ∈ LP ∧ p y = b j
theorem l_holds_0 {α : Type} {a : Nat → Option Nat} {LP : List Nat} {p b : Nat → α} : l_holds a LP p 0 b := fun j h => absurd h (Nat.not_lt_zero j)
theorem l_in_new (LP : List Nat) (q : Nat) : q ∈ LP ++ [q] := List.mem_append.mpr (Or.inr (List.mem_singleton.mpr rfl))
def l_sum (b : Nat → Int32) : Nat → Int32
  | 0 => 0
  | k + 1 => l_sum b k + b k
theorem sb_shr0 (x : Int32) : x >>> ((0 : Int32) &&& 31) = x := by
  rw [show ((0 : Int32) &&& 31) = 0 by decide]
  simp
theorem sb_shl0 (x : Int32) : x <<< ((0 : Int32) &&& 31) = x := by
  rw [show ((0 : Int32) &&& 31) = 0 by decide]
  simp
theorem sb_cl0 : (0 : Int32).toNatClampNeg = 0 := by decide
theorem sb_m1 {p : Nat} (h : 0 < p) : nI p + (-1) = nI (p - 1) := by
  obtain ⟨q, rfl⟩ : ∃ q, p = q + 1 := ⟨p - 1, by omega⟩
  exact pk_m1 q
def sb_b (c : Nat) : Int32 := (nI c).toInt8.toInt32
theorem sb_byte : ∀ c, c < 256 → sb_b c &&& 255 = nI c ∧ ((nI c).toUInt32 % 65536).toInt32 = nI c ∧ nI c ≤ 255 := by decide +kernel
def sb_Fit (a : Nat → Int32) : Prop := ∀ j, fits .byte (.int (a j)) = true
def sb_Lat (t : Nat → Nat) (n : Nat) (a : Nat → Int32) : Prop := ∀ j, j < n → t j < 256 ∧ a j = sb_b (t j)
theorem sb_fitB (c : Nat) : fits .byte (.int (sb_b c)) = true := pk_fb _
theorem sb_fit0 : sb_Fit (fun _ => 0) := fun _ => by
  show fits .byte (.int 0) = true
  decide
theorem sb_fitU {a : Nat → Int32} {k : Nat} {x : Int32} (h : sb_Fit a) (hx : fits .byte (.int x) = true) : sb_Fit (upd a k x) := by
  intro j
  by_cases e : j = k
  · subst e
    rw [pk_us]
    exact hx
  · rw [pk_un e]
    exact h j
def sb_cat (t : Nat → Nat) (n : Nat) (s : Nat → Nat) : Nat → Nat := fun j => if j < n then t j else s (j - n)
theorem sb_cat_lo {t s : Nat → Nat} {n j : Nat} (h : j < n) : sb_cat t n s j = t j := if_pos h
theorem sb_cat_hi {t s : Nat → Nat} {n j : Nat} : sb_cat t n s (n + j) = s j := by
  show (if n + j < n then t (n + j) else s (n + j - n)) = s j
  rw [if_neg (by omega), Nat.add_sub_cancel_left]
theorem sb_latPut {t s : Nat → Nat} {n w : Nat} {a a' : Nat → Int32} (h : sb_Lat t n a) (hk : ∀ j, j < n → a' j = a j) (hs : ∀ i, i < w → s i < 256 ∧ a' (n + i) = sb_b (s i)) : sb_Lat (sb_cat t n s) (n + w) a' := by
  intro j hj
  by_cases e : j < n
  · rw [sb_cat_lo e, hk j e]
    exact h j e
  · obtain ⟨i, rfl⟩ : ∃ i, j = n + i := ⟨j - n, by omega⟩
    rw [sb_cat_hi]
    exact hs i (by omega)
theorem sb_latKeep {t : Nat → Nat} {n : Nat} {a a' : Nat → Int32} (h : sb_Lat t n a) (hk : ∀ j, j < n → a' j = a j) : sb_Lat t n a' := fun j hj => by
  rw [hk j hj]
  exact h j hj
def sb_cap (q m : Nat) : Nat := if q ≤ m then m else if 2 * m + 2 < q then q else 2 * m + 2
def sb_Room (q m mc ms : Nat) : Prop := q ≤ m ∨ (1 ≤ mc ∧ sb_cap q m ≤ ms ∧ sb_cap q m ≤ 65536)
theorem sb_cap_ge (q m : Nat) : q ≤ sb_cap q m := by
  unfold sb_cap
  split
  · omega
  · split <;> omega
theorem sb_cap_gem (q m : Nat) : m ≤ sb_cap q m := by
  unfold sb_cap
  split
  · omega
  · split <;> omega
theorem sb_cap_le {q m mc ms : Nat} (hm : m ≤ 65536) (hr : sb_Room q m mc ms) : sb_cap q m ≤ 65536 := by
  rcases hr with h | h
  · rw [sb_cap, if_pos h]
    exact hm
  · exact h.2.2
theorem sb_at {P : Int32 → Prop} {x y : Int32} (e : x = y) (h : P y) : P x := e ▸ h
def sb_dg (w : Nat) : Nat := if w < 10 then 1 else if w < 100 then 2 else if w < 1000 then 3 else if w < 10000 then 4 else if w < 100000 then 5 else if w < 1000000 then 6 else if w < 10000000 then 7 else if w < 100000000 then 8 else if w < 1000000000 then 9 else 10
def sb_dec (v : Nat) : Nat → Nat := fun i => 48 + v / 10 ^ (sb_dg v - 1 - i) % 10
theorem sb_dg_in (w : Nat) : 1 ≤ sb_dg w ∧ sb_dg w ≤ 10 := by
  unfold sb_dg
  constructor <;> (repeat' split) <;> omega
theorem sb_dg100 {w : Nat} (h : 100 ≤ w) (hw : w < 2 ^ 31) : sb_dg w = sb_dg (w / 100) + 2 := by
  rw [sb_dg, sb_dg, if_neg (show ¬ w < 10 by omega), if_neg (show ¬ w < 100 by omega)]
  by_cases h3 : w < 1000
  · rw [if_pos h3, if_pos (show w / 100 < 10 by omega)]
  rw [if_neg h3, if_neg (show ¬ w / 100 < 10 by omega)]
  by_cases h4 : w < 10000
  · rw [if_pos h4, if_pos (show w / 100 < 100 by omega)]
  rw [if_neg h4, if_neg (show ¬ w / 100 < 100 by omega)]
  by_cases h5 : w < 100000
  · rw [if_pos h5, if_pos (show w / 100 < 1000 by omega)]
  rw [if_neg h5, if_neg (show ¬ w / 100 < 1000 by omega)]
  by_cases h6 : w < 1000000
  · rw [if_pos h6, if_pos (show w / 100 < 10000 by omega)]
  rw [if_neg h6, if_neg (show ¬ w / 100 < 10000 by omega)]
  by_cases h7 : w < 10000000
  · rw [if_pos h7, if_pos (show w / 100 < 100000 by omega)]
  rw [if_neg h7, if_neg (show ¬ w / 100 < 100000 by omega)]
  by_cases h8 : w < 100000000
  · rw [if_pos h8, if_pos (show w / 100 < 1000000 by omega)]
  rw [if_neg h8, if_neg (show ¬ w / 100 < 1000000 by omega)]
  by_cases h9 : w < 1000000000
  · rw [if_pos h9, if_pos (show w / 100 < 10000000 by omega)]
  rw [if_neg h9, if_neg (show ¬ w / 100 < 10000000 by omega)]
  rw [if_pos (show w / 100 < 100000000 by omega)]
theorem sb_negT {w : Nat} (h : w < 2 ^ 31) : (-nI w).toInt = -(w : Int) := by
  rw [Int32.toInt_neg, nI_toInt h]
  exact Int.bmod_eq_of_le (by omega) (by omega)
theorem sb_nle {a b : Nat} (ha : a < 2 ^ 31) (hb : b < 2 ^ 31) : -nI a ≤ -nI b ↔ b ≤ a := by
  rw [Int32.le_iff_toInt_le, sb_negT ha, sb_negT hb]
  omega
theorem sb_nlt {a b : Nat} (ha : a < 2 ^ 31) (hb : b < 2 ^ 31) : -nI a < -nI b ↔ b < a := by
  rw [Int32.lt_iff_toInt_lt, sb_negT ha, sb_negT hb]
  omega
theorem sb_cmp {A B : Prop} {x : Int32} (v c : Nat) (f : c ≤ v → A) (g : v < c → B) (hv : v < 2 ^ 31) (hx : x = -nI c := by rfl) (hc : c < 2 ^ 31 := by omega) : (-nI v ≤ x → A) ∧ (¬ -nI v ≤ x → B) := by
  subst hx
  rw [sb_nle hv hc]
  exact ⟨f, fun z => g (by omega)⟩
theorem sb_ndiv {w : Nat} (hw : w < 2 ^ 31) : (-nI w) / 100 = -nI (w / 100) := by
  apply Int32.toInt_inj.mp
  have h100 : (100 : Int32).toInt = 100 := by decide
  rw [Int32.toInt_div, sb_negT hw, h100, sb_negT (by omega), Int.neg_tdiv, Int.tdiv_eq_ediv_of_nonneg (by omega), Int.bmod_eq_of_le (by omega) (by omega)]
  omega
theorem sb_nrem {w : Nat} (hw : w < 2 ^ 31) : (-nI (w / 100)) * 100 - (-nI w) = nI (w % 100) := by
  have h := pk_rem (a := w) (d := 100) hw (by decide) (by decide)
  rw [pk_div hw (by decide) (by decide)] at h
  rw [← h]
  show (-nI (w / 100)) * nI 100 - (-nI w) = nI w - nI (w / 100) * nI 100
  rw [Int32.neg_mul, Int32.sub_neg, Int32.add_comm, ← Int32.sub_eq_add_neg]
end
section
/-! ints as images of integers; digits, carries, comparisons to a base: no program in sight -/
def iz_I (z : Int) : Int32 := Int32.ofInt z
theorem iz_n (n : Nat) : nI n = iz_I (n : Int) := Int32.ofInt_eq_ofNat.symm
theorem iz_t {z : Int} (h : -2147483648 ≤ z) (h' : z < 2147483648) : (iz_I z).toInt = z := Int32.toInt_ofInt_of_le (by omega) (by omega)
theorem iz_le {a b : Int} (ha : -2147483648 ≤ a) (ha' : a < 2147483648) (hb : -2147483648 ≤ b) (hb' : b < 2147483648) : iz_I a ≤ iz_I b ↔ a ≤ b := by
  rw [Int32.le_iff_toInt_le, iz_t ha ha', iz_t hb hb']
theorem iz_lt {a b : Int} (ha : -2147483648 ≤ a) (ha' : a < 2147483648) (hb : -2147483648 ≤ b) (hb' : b < 2147483648) : iz_I a < iz_I b ↔ a < b := by
  rw [Int32.lt_iff_toInt_lt, iz_t ha ha', iz_t hb hb']
theorem iz_eq {a b : Int} (ha : -2147483648 ≤ a) (ha' : a < 2147483648) (hb : -2147483648 ≤ b) (hb' : b < 2147483648) : iz_I a = iz_I b ↔ a = b := by
  rw [← Int32.toInt_inj, iz_t ha ha', iz_t hb hb']
theorem iz_add (a b : Int) : iz_I a + iz_I b = iz_I (a + b) := (Int32.ofInt_add a b).symm
theorem iz_sub (a b : Int) : iz_I a - iz_I b = iz_I (a - b) := (Int32.ofInt_sub a b).symm
theorem iz_mul (a b : Int) : iz_I a * iz_I b = iz_I (a * b) := (Int32.ofInt_mul a b).symm
theorem iz_neg (a : Int) : - iz_I a = iz_I (-a) := (Int32.ofInt_neg a).symm
theorem iz_of (x : Int32) : x = iz_I x.toInt := (Int32.ofInt_toInt x).symm
theorem iz_0 : (0 : Int32) = iz_I 0 := rfl
theorem iz_1 : (1 : Int32) = iz_I 1 := rfl
theorem iz_m1 : (-1 : Int32) = iz_I (-1) := by decide
def jz_I (z : Int) : Int64 := Int64.ofInt z
theorem jz_n (n : Nat) : lN n = jz_I (n : Int) := Int64.ofInt_eq_ofNat.symm
theorem jz_t {z : Int} (h : -9223372036854775808 ≤ z) (h' : z < 9223372036854775808) : (jz_I z).toInt = z := Int64.toInt_ofInt_of_le (by omega) (by omega)
theorem jz_le {a b : Int} (ha : -9223372036854775808 ≤ a) (ha' : a < 9223372036854775808) (hb : -9223372036854775808 ≤ b) (hb' : b < 9223372036854775808) : jz_I a ≤ jz_I b ↔ a ≤ b := by
  rw [Int64.le_iff_toInt_le, jz_t ha ha', jz_t hb hb']
theorem jz_lt {a b : Int} (ha : -9223372036854775808 ≤ a) (ha' : a < 9223372036854775808) (hb : -9223372036854775808 ≤ b) (hb' : b < 9223372036854775808) : jz_I a < jz_I b ↔ a < b := by
  rw [Int64.lt_iff_toInt_lt, jz_t ha ha', jz_t hb hb']
theorem jz_eq {a b : Int} (ha : -9223372036854775808 ≤ a) (ha' : a < 9223372036854775808) (hb : -9223372036854775808 ≤ b) (hb' : b < 9223372036854775808) : jz_I a = jz_I b ↔ a = b := by
  rw [← Int64.toInt_inj, jz_t ha ha', jz_t hb hb']
theorem jz_add (a b : Int) : jz_I a + jz_I b = jz_I (a + b) := (Int64.ofInt_add a b).symm
theorem jz_sub (a b : Int) : jz_I a - jz_I b = jz_I (a - b) := (Int64.ofInt_sub a b).symm
theorem jz_mul (a b : Int) : jz_I a * jz_I b = jz_I (a * b) := (Int64.ofInt_mul a b).symm
theorem jz_neg (a : Int) : - jz_I a = jz_I (-a) := (Int64.ofInt_neg a).symm
theorem jz_div {a b : Int} (ha : -9223372036854775808 ≤ a) (ha' : a < 9223372036854775808) (hb : -9223372036854775808 ≤ b) (hb' : b < 9223372036854775808) : jz_I a / jz_I b = jz_I (a.tdiv b) :=
  (Int64.ofInt_tdiv (by rw [show Int64.minValue.toInt = -9223372036854775808 from by decide]; omega) (by rw [show Int64.maxValue.toInt = 9223372036854775807 from by decide]; omega) (by rw [show Int64.minValue.toInt = -9223372036854775808 from by decide]; omega) (by rw [show Int64.maxValue.toInt = 9223372036854775807 from by decide]; omega)).symm
theorem jz_i (x : Int32) : x.toInt64 = jz_I x.toInt := rfl
theorem jz_iz {z : Int} (h : -2147483648 ≤ z) (h' : z < 2147483648) : (iz_I z).toInt64 = jz_I z := by rw [jz_i, iz_t h h']
theorem jz_32 {z : Int} (h : -9223372036854775808 ≤ z) (h' : z < 9223372036854775808) : (jz_I z).toInt32 = iz_I z := by
  rw [← Int32.ofInt_int64ToInt, jz_t h h']; rfl
/-! a store at a natural's place -/
theorem up_e {f : Nat → Int32} {x v w : Int32} {i : Nat} (hx : x = nI i) (hi : i < 2147483648) (hv : v = w) : upd f x.toNatClampNeg v = upd f i w := by
  rw [hx, nI_clamp (by omega), hv]
theorem rd_e {f : Nat → Int32} {x v : Int32} {i : Nat} (hx : x = nI i) (hi : i < 2147483648) (hv : f i = v) : f x.toNatClampNeg = v := by
  rw [hx, nI_clamp (by omega), hv]
/-! digits to a base -/
def dg_ (b V j : Nat) : Nat := V / b ^ j % b
theorem dg_lt {b : Nat} (hb : 0 < b) (V j : Nat) : dg_ b V j < b := Nat.mod_lt _ hb
theorem dg_ps (b k : Nat) : b ^ (k + 1) = b ^ k * b := Nat.pow_succ b k
theorem dg_pp {b : Nat} (hb : 0 < b) (k : Nat) : 0 < b ^ k := Nat.pow_pos hb
theorem dg_md (b V j : Nat) : V % b ^ (j + 1) = V % b ^ j + dg_ b V j * b ^ j := by
  rw [Nat.mod_pow_succ, Nat.mul_comm]; rfl
theorem dg_cong {b T V k : Nat} (h : T % b ^ (k + 1) = V % b ^ (k + 1)) : T / b ^ k % b = dg_ b V k := by
  unfold dg_
  rw [← Nat.mod_mul_right_div_self T, ← Nat.mod_mul_right_div_self V, ← dg_ps, h]
theorem dg_z {b V k j : Nat} (h : V < b ^ k) (hk : k ≤ j) (hb : 0 < b) : dg_ b V j = 0 := by
  unfold dg_
  rw [Nat.div_eq_of_lt (Nat.lt_of_lt_of_le h (Nat.pow_le_pow_right hb hk))]; exact Nat.zero_mod b
theorem dg_00 (b j : Nat) : dg_ b 0 j = 0 := by
  unfold dg_; rw [Nat.zero_div]; exact Nat.zero_mod b
theorem dg_dv (b V k : Nat) : V / b ^ k = V / b ^ (k + 1) * b + dg_ b V k := by
  rw [dg_ps, ← Nat.div_div_eq_div_mul]; exact (Nat.div_add_mod' _ _).symm
theorem dg_sh {b : Nat} (V a j : Nat) (ha : a < b) : dg_ b (V * b + a) (j + 1) = dg_ b V j := by
  unfold dg_
  have hb : 0 < b := by omega
  rw [dg_ps, Nat.mul_comm (b ^ j), ← Nat.div_div_eq_div_mul, Nat.add_comm, Nat.add_mul_div_right _ _ hb, Nat.div_eq_of_lt ha, Nat.zero_add]
theorem dg_s0 {b : Nat} (V a : Nat) (ha : a < b) : dg_ b (V * b + a) 0 = a := by
  unfold dg_
  rw [Nat.pow_zero, Nat.div_one, Nat.add_comm, Nat.add_mul_mod_self_right, Nat.mod_eq_of_lt ha]
/-! carries -/
theorem cy_1 {b : Nat} (hb : 0 < b) (T w k : Nat) : (T + w * b ^ k) / b ^ k = T / b ^ k + w := Nat.add_mul_div_right T w (Nat.pow_pos hb)
theorem cy_s {b T T' V w k : Nat} (hb : 0 < b) (hT : T' = T + w * b ^ k) (hV : T' % b ^ (k + 1) = V % b ^ (k + 1)) : (T / b ^ k + w) % b = dg_ b V k ∧ (T / b ^ k + w) / b = T' / b ^ (k + 1) := by
  subst hT
  rw [← cy_1 hb]
  exact ⟨dg_cong hV, by rw [Nat.div_div_eq_div_mul, ← dg_ps]⟩
def cs_ (b A B k : Nat) : Nat := (A % b ^ k + B % b ^ k) / b ^ k
theorem cs_0 (b A B : Nat) : cs_ b A B 0 = 0 := by
  unfold cs_; rw [Nat.pow_zero, Nat.mod_one, Nat.mod_one]
theorem cs_s {b : Nat} (hb : 0 < b) (A B k : Nat) : (dg_ b A k + dg_ b B k + cs_ b A B k) % b = dg_ b (A + B) k ∧ (dg_ b A k + dg_ b B k + cs_ b A B k) / b = cs_ b A B (k + 1) := by
  have h := cy_s hb (T := A % b ^ k + B % b ^ k) (T' := A % b ^ (k + 1) + B % b ^ (k + 1)) (V := A + B) (w := dg_ b A k + dg_ b B k) (k := k) (by rw [dg_md, dg_md, Nat.add_mul]; omega) (Nat.add_mod A B _).symm
  rw [Nat.add_comm (dg_ b A k + dg_ b B k)]; exact h
theorem cs_lt {b : Nat} (hb : 0 < b) (A B k : Nat) : cs_ b A B k < 2 := by
  have h1 := Nat.mod_lt A (dg_pp hb k)
  have h2 := Nat.mod_lt B (dg_pp hb k)
  exact Nat.div_lt_of_lt_mul (by omega)
def cm_ (b B q k : Nat) : Nat := (B % b ^ k * q) / b ^ k
theorem cm_0 (b B q : Nat) : cm_ b B q 0 = 0 := by
  unfold cm_; rw [Nat.pow_zero, Nat.mod_one, Nat.zero_mul]
theorem cm_s {b : Nat} (hb : 0 < b) (B q k : Nat) : (dg_ b B k * q + cm_ b B q k) % b = dg_ b (B * q) k ∧ (dg_ b B k * q + cm_ b B q k) / b = cm_ b B q (k + 1) := by
  have h := cy_s hb (T := B % b ^ k * q) (T' := B % b ^ (k + 1) * q) (V := B * q) (w := dg_ b B k * q) (k := k) (by rw [dg_md, Nat.add_mul, Nat.mul_right_comm]) (Nat.mod_mul_mod B q _)
  rw [Nat.add_comm (dg_ b B k * q)]; exact h
theorem cm_le {b : Nat} (hb : 0 < b) (B q k : Nat) : cm_ b B q k ≤ q := by
  have h1 := Nat.mod_lt B (dg_pp hb k)
  exact Nat.div_le_of_le_mul (Nat.mul_le_mul_right q (Nat.le_of_lt h1))
theorem cm_e {b B q k : Nat} (h : B * q < b ^ k) (hq : 0 < q ∨ B < b ^ k) : cm_ b B q k = 0 := by
  have hB : B < b ^ k := by
    rcases hq with hq | hq
    · exact Nat.lt_of_le_of_lt (Nat.le_mul_of_pos_right B hq) h
    · exact hq
  unfold cm_
  rw [Nat.mod_eq_of_lt hB]; exact Nat.div_eq_of_lt h
/-! subtraction: D + B = A; the borrow is the carry of D + B -/
theorem bo_s {b : Nat} (hb : 0 < b) {A B D : Nat} (h : D + B = A) (k : Nat) : dg_ b A k + b * cs_ b D B (k + 1) = dg_ b D k + dg_ b B k + cs_ b D B k := by
  obtain ⟨h1, h2⟩ := cs_s hb D B k
  rw [h] at h1
  rw [← h1, ← h2]; exact Nat.mod_add_div _ _
/-! comparison from below -/
theorem cp_e {b : Nat} {A B k : Nat} (h : dg_ b A k = dg_ b B k) : (A % b ^ (k + 1) < B % b ^ (k + 1) ↔ A % b ^ k < B % b ^ k) ∧ (A % b ^ (k + 1) = B % b ^ (k + 1) ↔ A % b ^ k = B % b ^ k) := by
  rw [dg_md, dg_md, h]; omega
theorem cp_l {b : Nat} (hb : 0 < b) {A B k : Nat} (h : dg_ b A k < dg_ b B k) : A % b ^ (k + 1) < B % b ^ (k + 1) := by
  rw [dg_md, dg_md]
  have h1 := Nat.mod_lt A (dg_pp hb k)
  have h2 := Nat.mul_le_mul_right (b ^ k) (show dg_ b A k + 1 ≤ dg_ b B k from h)
  rw [Nat.add_mul, Nat.one_mul] at h2
  have h3 := Nat.zero_le (B % b ^ k)
  omega
def sc_ (x y : Nat) : Int32 := if x < y then -1 else if x = y then 0 else 1
theorem sc_l {x y : Nat} (h : x < y) : sc_ x y = -1 := if_pos h
theorem sc_e {x y : Nat} (h : x = y) : sc_ x y = 0 := by unfold sc_; rw [if_neg (by omega), if_pos h]
theorem sc_g {x y : Nat} (h : y < x) : sc_ x y = 1 := by unfold sc_; rw [if_neg (by omega), if_neg (by omega)]
theorem sc_lt0 (x y : Nat) : sc_ x y < 0 ↔ x < y := by
  rcases Nat.lt_trichotomy x y with h | h | h
  · rw [sc_l h]; exact ⟨fun _ => h, fun _ => by decide⟩
  · rw [sc_e h]; exact ⟨fun z => absurd z (by decide), fun _ => by omega⟩
  · rw [sc_g h]; exact ⟨fun z => absurd z (by decide), fun _ => by omega⟩
theorem sc_neg (x y : Nat) : - sc_ x y = sc_ y x := by
  rcases Nat.lt_trichotomy x y with h | h | h
  · rw [sc_l h, sc_g h]; decide
  · rw [sc_e h, sc_e h.symm]; decide
  · rw [sc_g h, sc_l h]
theorem sc_s {b A B k : Nat} (h : dg_ b A k = dg_ b B k) : sc_ (A % b ^ (k + 1)) (B % b ^ (k + 1)) = sc_ (A % b ^ k) (B % b ^ k) := by
  obtain ⟨h1, h2⟩ := cp_e h
  unfold sc_
  by_cases c1 : A % b ^ k < B % b ^ k
  · rw [if_pos c1, if_pos (h1.mpr c1)]
  · rw [if_neg c1, if_neg (fun z => c1 (h1.mp z))]
    by_cases c2 : A % b ^ k = B % b ^ k
    · rw [if_pos c2, if_pos (h2.mpr c2)]
    · rw [if_neg c2, if_neg (fun z => c2 (h2.mp z))]
/-! comparison from above -/
theorem ca_l {b A B k : Nat} (h : A / b ^ (k + 1) = B / b ^ (k + 1)) (hd : dg_ b A k < dg_ b B k) : A < B := by
  apply Nat.lt_of_div_lt_div (c := b ^ k)
  rw [dg_dv b A k, dg_dv b B k, h]; omega
theorem ca_e {b A B k : Nat} (h : A / b ^ (k + 1) = B / b ^ (k + 1)) (hd : dg_ b A k = dg_ b B k) : A / b ^ k = B / b ^ k := by
  rw [dg_dv b A k, dg_dv b B k, h, hd]
/-! the length -/
def Ln_ (b L A : Nat) : Prop := A < b ^ L ∧ (0 < L → b ^ (L - 1) ≤ A)
theorem ln_0 (b : Nat) : Ln_ b 0 0 := ⟨by rw [Nat.pow_zero]; omega, fun h => absurd h (by omega)⟩
theorem ln_z {b A : Nat} (h : Ln_ b 0 A) : A = 0 := by
  have := h.1; rw [Nat.pow_zero] at this; omega
theorem ln_p {b L A : Nat} (hb : 0 < b) (h : Ln_ b L A) (hL : 0 < L) : 0 < A := Nat.lt_of_lt_of_le (dg_pp hb _) (h.2 hL)
theorem ln_iff {b L A : Nat} (hb : 0 < b) (h : Ln_ b L A) : L = 0 ↔ A = 0 := by
  constructor
  · intro e; subst e; exact ln_z h
  · intro e
    rcases Nat.eq_zero_or_pos L with z | z
    · exact z
    · have := ln_p hb h z; omega
theorem ln_lt {b L M A B : Nat} (hb : 0 < b) (hA : Ln_ b L A) (hB : Ln_ b M B) (h : L < M) : A < B :=
  Nat.lt_of_lt_of_le hA.1 (Nat.le_trans (Nat.pow_le_pow_right hb (show L ≤ M - 1 by omega)) (hB.2 (by omega)))
theorem ln_u {b L M A : Nat} (hb : 0 < b) (hA : Ln_ b L A) (hB : Ln_ b M A) : L = M := by
  rcases Nat.lt_trichotomy L M with h | h | h
  · have := ln_lt hb hA hB h; omega
  · exact h
  · have := ln_lt hb hB hA h; omega
theorem ln_le {b L A n : Nat} (hb : 1 < b) (h : Ln_ b L A) : A < b ^ n ↔ L ≤ n := by
  constructor
  · intro hA
    rcases Nat.lt_or_ge n L with z | z
    · have h1 := h.2 (by omega)
      have h2 := Nat.pow_le_pow_right (show b > 0 by omega) (show n ≤ L - 1 by omega)
      omega
    · exact z
  · intro hn
    exact Nat.lt_of_lt_of_le h.1 (Nat.pow_le_pow_right (by omega) hn)
/-- the next digit and the length so far -/
theorem ln_s0 {b V k n : Nat} (h : Ln_ b n (V % b ^ k)) (hd : dg_ b V k = 0) : Ln_ b n (V % b ^ (k + 1)) := by
  rw [dg_md, hd, Nat.zero_mul, Nat.add_zero]; exact h
theorem ln_s1 {b V k : Nat} (hb : 0 < b) (hd : dg_ b V k ≠ 0) : Ln_ b (k + 1) (V % b ^ (k + 1)) := by
  refine ⟨Nat.mod_lt _ (dg_pp hb _), fun _ => ?_⟩
  rw [Nat.add_sub_cancel, dg_md]
  have := Nat.mul_le_mul_right (b ^ k) (show 1 ≤ dg_ b V k by omega)
  rw [Nat.one_mul] at this
  have h3 := Nat.zero_le (V % b ^ k)
  omega
/-- a leading zero falls -/
theorem ln_t0 {b V k : Nat} (h : V < b ^ (k + 1)) (hd : dg_ b V k = 0) : V < b ^ k := by
  have h1 := dg_md b V k
  rw [hd, Nat.zero_mul, Nat.add_zero, Nat.mod_eq_of_lt h] at h1
  have hb : 0 < b := by
    rcases Nat.eq_zero_or_pos b with z | z
    · subst z; rw [dg_ps, Nat.mul_zero] at h; omega
    · exact z
  rw [h1]; exact Nat.mod_lt _ (dg_pp hb k)
theorem ln_t1 {b V k : Nat} (hb : 0 < b) (h : V < b ^ (k + 1)) (hd : dg_ b V k ≠ 0) : Ln_ b (k + 1) V := by
  have h1 := ln_s1 (V := V) (k := k) hb hd
  rw [Nat.mod_eq_of_lt h] at h1; exact h1
/-! values of digit rows that needn't be digits -/
def vl_ (b : Nat) (f : Nat → Nat) : Nat → Nat
  | 0 => 0
  | n + 1 => vl_ b f n + f n * b ^ n
theorem vl_0 (b n : Nat) : vl_ b (fun _ => 0) n = 0 := by
  induction n with
  | zero => rfl
  | succ n ih => show vl_ b (fun _ => 0) n + 0 * b ^ n = 0; rw [ih, Nat.zero_mul]
theorem vl_c {b : Nat} {f g : Nat → Nat} : ∀ n, (∀ j, j < n → f j = g j) → vl_ b f n = vl_ b g n := by
  intro n
  induction n with
  | zero => intro _; rfl
  | succ n ih => intro h; show vl_ b f n + f n * b ^ n = vl_ b g n + g n * b ^ n; rw [ih (fun j hj => h j (by omega)), h n (by omega)]
theorem vl_a {b : Nat} {f : Nat → Nat} {k w : Nat} : ∀ n, k < n → vl_ b (fun j => if j = k then f k + w else f j) n = vl_ b f n + w * b ^ k := by
  intro n
  induction n with
  | zero => intro h; omega
  | succ n ih =>
    intro h
    show vl_ b (fun j => if j = k then f k + w else f j) n + (if n = k then f k + w else f n) * b ^ n = vl_ b f n + f n * b ^ n + w * b ^ k
    by_cases e : n = k
    · subst e
      rw [if_pos rfl, vl_c (g := f) n (fun j hj => if_neg (by omega)), Nat.add_mul]; omega
    · rw [if_neg e, ih (by omega)]; omega
theorem vl_lt {b : Nat} {f : Nat → Nat} (hb : 0 < b) : ∀ n m, n ≤ m → ∃ t, vl_ b f m = vl_ b f n + t * b ^ n := by
  intro n m
  induction m with
  | zero => intro h; cases (show n = 0 by omega); exact ⟨0, by rw [Nat.zero_mul]; rfl⟩
  | succ m ih =>
    intro h
    by_cases e : n = m + 1
    · subst e; exact ⟨0, by rw [Nat.zero_mul]; rfl⟩
    · obtain ⟨t, ht⟩ := ih (by omega)
      refine ⟨t + f m * b ^ (m - n), ?_⟩
      show vl_ b f m + f m * b ^ m = _
      rw [ht, Nat.add_mul, Nat.mul_assoc (f m), ← Nat.pow_add, show m - n + n = m by omega]; omega
theorem vl_s {b : Nat} (hb : 0 < b) {f : Nat → Nat} {k n V : Nat} (hk : k < n) (hV : vl_ b f n = V) : (f k + vl_ b f k / b ^ k) % b = dg_ b V k ∧ (f k + vl_ b f k / b ^ k) / b = vl_ b f (k + 1) / b ^ (k + 1) := by
  obtain ⟨t, ht⟩ := vl_lt (f := f) hb (k + 1) n (by omega)
  have h := cy_s hb (T := vl_ b f k) (T' := vl_ b f (k + 1)) (V := V) (w := f k) (k := k) rfl (by rw [← hV, ht, Nat.add_mul_mod_self_right])
  rw [Nat.add_comm (f k)]; exact h
theorem vl_d (b V : Nat) : ∀ n, vl_ b (dg_ b V) n = V % b ^ n := by
  intro n
  induction n with
  | zero => rw [Nat.pow_zero, Nat.mod_one]; rfl
  | succ n ih => show vl_ b (dg_ b V) n + dg_ b V n * b ^ n = _; rw [ih, dg_md]
/-! four decimal digits a limb -/
theorem d4_p (j : Nat) : 10000 ^ j = 10 ^ (4 * j) := by rw [Nat.pow_mul]
theorem d4_ (V j k : Nat) (hk : k < 4) : dg_ 10000 V j / 10 ^ k % 10 = dg_ 10 V (4 * j + k) := by
  unfold dg_
  rw [Nat.pow_add, ← d4_p, ← Nat.div_div_eq_div_mul]
  generalize V / 10000 ^ j = W
  rcases (show k = 0 ∨ k = 1 ∨ k = 2 ∨ k = 3 by omega) with e | e | e | e <;> subst e <;> omega
/-! division from above -/
theorem dv_s {b A B i : Nat} (hB : 0 < B) : A / b ^ (i + 1) % B * b + dg_ b A i < B * b ∨ b = 0 := by
  rcases Nat.eq_zero_or_pos b with z | z
  · exact Or.inr z
  · left
    have h1 := Nat.mod_lt (A / b ^ (i + 1)) hB
    have h2 := dg_lt z A i
    have h3 := Nat.mul_le_mul_right b (show A / b ^ (i + 1) % B + 1 ≤ B from h1)
    rw [Nat.add_mul, Nat.one_mul] at h3
    omega
theorem dv_r {b A B i : Nat} : (A / b ^ (i + 1) % B * b + dg_ b A i) % B = A / b ^ i % B := by
  rw [dg_dv b A i, Nat.add_mod, Nat.mod_mul_mod, ← Nat.add_mod]
theorem dv_q {b A B i : Nat} (hb : 0 < b) (hB : 0 < B) : (A / b ^ (i + 1) % B * b + dg_ b A i) / B = dg_ b (A / B) i := by
  have h1 : A / b ^ i = (A / b ^ (i + 1) % B * b + dg_ b A i) + B * (A / b ^ (i + 1) / B * b) := by
    rw [dg_dv b A i]
    have := Nat.div_add_mod (A / b ^ (i + 1)) B
    generalize A / b ^ (i + 1) = W at *
    have h2 : W * b = (B * (W / B) + W % B) * b := by rw [this]
    rw [h2, Nat.add_mul, Nat.mul_assoc]; omega
  have h2 : (A / b ^ (i + 1) % B * b + dg_ b A i) / B < b := by
    rcases dv_s (b := b) (A := A) (i := i) hB with h | h
    · exact Nat.div_lt_of_lt_mul h
    · omega
  unfold dg_ at *
  rw [Nat.div_div_eq_div_mul, Nat.mul_comm B, ← Nat.div_div_eq_div_mul]
  generalize hX : A / b ^ (i + 1) % B * b + A / b ^ i % b = X at *
  rw [h1, Nat.add_mul_div_left _ _ hB, Nat.add_mul_mod_self_right, Nat.mod_eq_of_lt h2]
end
section
/-! the reference's numbers: digit rows of slots of 82 -/
theorem eq_0 {x : Int32} {n : Nat} (h : x = nI n) (hn : n < 2147483648) : x = 0 ↔ n = 0 := by
  rw [h]; exact nI_eq (a := n) (b := 0) (by omega) (by omega)
theorem yi_ (s i : Nat) : nI s * 82 + nI i = nI (s * 82 + i) := by
  rw [show (82 : Int32) = nI 82 from rfl, pk_mul, nI_add]
theorem yi_14 (i : Nat) : 1148 + nI i = nI (14 * 82 + i) := by
  rw [show (1148 : Int32) = nI (14 * 82) from rfl, nI_add]
theorem yi_15 (i : Nat) : 1230 + nI i = nI (15 * 82 + i) := by
  rw [show (1230 : Int32) = nI (15 * 82) from rfl, nI_add]
def yn_ (d : Nat → Int32) (s V : Nat) : Prop := ∀ j, j < 82 → d (s * 82 + j) = nI (dg_ 10 V j)
/-- only the first i cells of slot t have changed -/
def yg_ (d d' : Nat → Int32) (t i : Nat) : Prop := ∀ k, ¬ (t * 82 ≤ k ∧ k < t * 82 + i) → d' k = d k
theorem yg_0 (d : Nat → Int32) (t : Nat) : yg_ d d t 0 := fun _ _ => rfl
theorem yg_u {d d' : Nat → Int32} {t i : Nat} {v : Int32} (h : yg_ d d' t i) : yg_ d (upd d' (t * 82 + i) v) t (i + 1) := fun k hk => by
  rw [pk_un (by omega), h k (by omega)]
theorem yg_in {d d' : Nat → Int32} {t i : Nat} {v : Int32} (h : yg_ d d' t 82) (hi : i < 82) : yg_ d (upd d' (t * 82 + i) v) t 82 := fun k hk => by
  rw [pk_un (by omega), h k hk]
theorem yg_t {d d' d'' : Nat → Int32} {t i : Nat} (h : yg_ d d' t i) (h' : yg_ d' d'' t i) : yg_ d d'' t i := fun k hk => by rw [h' k hk, h k hk]
theorem yg_n {d d' : Nat → Int32} {t s V : Nat} (h : yg_ d d' t 82) (hs : s ≠ t) (hn : yn_ d s V) : yn_ d' s V := fun j hj => by
  rw [h _ (by omega), hn j hj]
theorem yw_u {d : Nat → Int32} {o i : Nat} {v : Int32} {g : Nat → Int32} (hw : ∀ j, j < i → d (o + j) = g j) (hv : v = g i) : ∀ j, j < i + 1 → upd d (o + i) v (o + j) = g j := by
  intro j hj
  by_cases e : j = i
  · subst e; rw [pk_us, hv]
  · rw [pk_un (by omega), hw j (by omega)]
theorem yb_ {c : Int32} (h : c = 0 ∨ c = 1) : vp_nar .boolean c = c := by
  rcases h with h | h <;> subst h <;> rfl
def sv_ (c : Int32) (C : Nat) : Int := if c = 0 then (C : Int) else -(C : Int)
theorem sv_0 (C : Nat) : sv_ 0 C = C := if_pos rfl
theorem sv_1 (C : Nat) : sv_ 1 C = -(C : Int) := if_neg (by decide)
section
variable {f_size f_depth f_open : Int32} {a_ops a_args a_d a_minus a_begins a_times : Nat → Int32}
theorem yw_loop {post : SY → Prop} {s V : Nat} (hs : s < 16) (hV : V < 9223372036854775808) (d0 : Nat → Int32) (K : ∀ d', yn_ d' s V → yg_ d0 d' s 82 → post (f_size, f_depth, f_open, a_ops, a_args, d', a_minus, a_begins, a_times)) : ∀ m i d, i + m = 82 → (∀ j, j < i → d (s * 82 + j) = nI (dg_ 10 V j)) → yg_ d0 d s i → wY_write_30 post (nI s) f_size f_depth f_open (m + 1) (lN (V / 10 ^ i)) (nI i) a_ops a_args d a_minus a_begins a_times := by
  intro m
  induction m with
  | zero =>
    intro i d hi hw hf
    cases (show i = 82 by omega)
    exact br_t (nI_le (a := 82) (b := 82) (by omega) (by omega)) (K d hw hf)
  | succ m ih =>
    intro i d hi hw hf
    have hb : V / 10 ^ i < 2 ^ 63 := Nat.lt_of_le_of_lt (Nat.div_le_self _ _) hV
    have hv : (lN (V / 10 ^ i) - lN (V / 10 ^ i) / 10 * 10).toInt32 = nI (dg_ 10 V i) :=
      (congrArg Int64.toInt32 (pk_lRem (a := V / 10 ^ i) (b := 10) hb (by decide) (by decide))).trans (lN_i _)
    have hq : lN (V / 10 ^ i) / 10 = lN (V / 10 ^ (i + 1)) :=
      (pk_lDiv (a := V / 10 ^ i) (b := 10) hb (by decide) (by decide)).trans (congrArg lN (by rw [Nat.div_div_eq_div_mul, ← dg_ps]))
    refine br_f (nI_ge (b := 82) (by omega) (by omega)) ⟨by decide, pk_in (s * 82 + i) 1312 (by omega) (yi_ s i), ?_⟩
    refine nm_r (up_e (yi_ s i) (by omega) hv) ⟨by decide, nm_r hq (nm_r (nI_1 i) ?_)⟩
    exact ih (i + 1) _ (by omega) (yw_u hw rfl) (yg_u hf)
theorem y_write {post : SY → Prop} {s : Nat} {x : Int32} (hs : s < 16) (K : ∀ d' c V, yn_ d' s V → V ≤ 2147483648 → yg_ a_d d' s 82 → (c = 0 ∨ c = 1) → x.toInt = sv_ c V → post (f_size, f_depth, f_open, a_ops, a_args, d', (upd a_minus s c), a_begins, a_times)) : wpY_write post (f_size, f_depth, f_open, a_ops, a_args, a_d, a_minus, a_begins, a_times) (nI s) x := by
  have h1 := x.le_toInt
  have h2 := x.toInt_lt
  have e0 : (0 : Int64) = jz_I 0 := rfl
  by_cases h : 0 ≤ x
  · have h' : 0 ≤ x.toInt := by rw [Int32.le_iff_toInt_le] at h; exact h
    obtain ⟨V, hV⟩ : ∃ V : Nat, x.toInt = V := ⟨x.toInt.toNat, by omega⟩
    have e1 : x.toInt64 = lN V := by rw [jz_i, hV, jz_n]
    refine br_t h ⟨vp_in_nI hs (by omega), ?_⟩
    refine nm_r (up_e rfl (by omega) (yb_ (Or.inl rfl))) ?_
    refine br_t (by rw [jz_i, e0, jz_le (by omega) (by omega) (by omega) (by omega)]; exact h') ?_
    refine ⟨82 + 1, ?_⟩
    have := yw_loop (post := post) (f_size := f_size) (f_depth := f_depth) (f_open := f_open) (a_ops := a_ops) (a_args := a_args) (a_minus := upd a_minus s 0) (a_begins := a_begins) (a_times := a_times) hs (V := V) (by omega) a_d (fun d' hn hf => K d' 0 V hn (by omega) hf (Or.inl rfl) (by rw [sv_0, hV])) 82 0 a_d (by omega) (fun j hj => absurd hj (by omega)) (yg_0 _ _)
    rw [Nat.pow_zero, Nat.div_one, ← e1] at this
    exact this
  · have h' : ¬ 0 ≤ x.toInt := by rw [Int32.le_iff_toInt_le] at h; exact h
    obtain ⟨V, hV⟩ : ∃ V : Nat, x.toInt = -(V : Int) := ⟨(-x.toInt).toNat, by omega⟩
    have e1 : - x.toInt64 = lN V := by rw [jz_i, hV, jz_n, jz_neg, Int.neg_neg]
    refine br_f h ⟨vp_in_nI hs (by omega), ?_⟩
    refine nm_r (up_e rfl (by omega) (yb_ (Or.inr rfl))) ?_
    refine br_f (by rw [jz_i, e0, jz_le (by omega) (by omega) (by omega) (by omega)]; exact h') ?_
    refine nm_r e1 ⟨82 + 1, ?_⟩
    have := yw_loop (post := post) (f_size := f_size) (f_depth := f_depth) (f_open := f_open) (a_ops := a_ops) (a_args := a_args) (a_minus := upd a_minus s 1) (a_begins := a_begins) (a_times := a_times) hs (V := V) (by omega) a_d (fun d' hn hf => K d' 1 V hn (by omega) hf (Or.inr rfl) (by rw [sv_1, hV])) 82 0 a_d (by omega) (fun j hj => absurd hj (by omega)) (yg_0 _ _)
    rw [Nat.pow_zero, Nat.div_one] at this
    exact this
theorem yc_loop {post : SY → Prop} {s t V : Nat} (hs : s < 16) (ht : t < 16) (d0 : Nat → Int32) (hst : s ≠ t) (hn : yn_ d0 s V) (K : ∀ d', yn_ d' t V → yg_ d0 d' t 82 → post (f_size, f_depth, f_open, a_ops, a_args, d', a_minus, a_begins, a_times)) : ∀ m i d, i + m = 82 → (∀ j, j < i → d (t * 82 + j) = nI (dg_ 10 V j)) → yg_ d0 d t i → wY_copy_14 post (nI s) (nI t) f_size f_depth f_open (m + 1) (nI i) a_ops a_args d a_minus a_begins a_times := by
  intro m
  induction m with
  | zero =>
    intro i d hi hw hf
    cases (show i = 82 by omega)
    exact br_t (nI_le (a := 82) (b := 82) (by omega) (by omega)) (K d hw hf)
  | succ m ih =>
    intro i d hi hw hf
    have hr : d (nI s * 82 + nI i).toNatClampNeg = nI (dg_ 10 V i) := rd_e (yi_ s i) (by omega) ((hf _ (by omega)).trans (hn i (by omega)))
    refine br_f (nI_ge (b := 82) (by omega) (by omega)) ⟨pk_in (s * 82 + i) 1312 (by omega) (yi_ s i), pk_in (t * 82 + i) 1312 (by omega) (yi_ t i), ?_⟩
    refine nm_r (up_e (yi_ t i) (by omega) hr) (nm_r (nI_1 i) ?_)
    exact ih (i + 1) _ (by omega) (yw_u hw rfl) (yg_u hf)
theorem y_copy {post : SY → Prop} {s t V : Nat} (hs : s < 16) (ht : t < 16) (hst : s ≠ t) (hm : a_minus s = 0 ∨ a_minus s = 1) (hn : yn_ a_d s V) (K : ∀ d', yn_ d' t V → yg_ a_d d' t 82 → post (f_size, f_depth, f_open, a_ops, a_args, d', (upd a_minus t (a_minus s)), a_begins, a_times)) : wpY_copy post (f_size, f_depth, f_open, a_ops, a_args, a_d, a_minus, a_begins, a_times) (nI s) (nI t) := by
  refine And.intro (vp_in_nI hs (by omega)) ⟨vp_in_nI ht (by omega), ?_⟩
  refine nm_r (up_e rfl (by omega) ((congrArg (vp_nar .boolean) (rd_e rfl (by omega) rfl)).trans (yb_ hm))) ?_
  exact ⟨82 + 1, yc_loop hs ht a_d hst hn K 82 0 a_d (by omega) (fun j hj => absurd hj (by omega)) (yg_0 _ _)⟩
theorem yl_loop {post : Int32 → Prop} {s V : Nat} (hs : s < 16) (hn : yn_ a_d s V) (hV : V < 10 ^ 82) (K : ∀ L, Ln_ 10 L V → L ≤ 82 → post (nI L)) : ∀ m i c, i + m = 82 → Ln_ 10 c (V % 10 ^ i) → c ≤ i → wY_length_4 post (nI s) f_size f_depth f_open a_ops a_args a_d a_minus a_begins a_times (m + 1) (nI c) (nI i) := by
  intro m
  induction m with
  | zero =>
    intro i c hi hL hc
    cases (show i = 82 by omega)
    rw [Nat.mod_eq_of_lt hV] at hL
    exact br_t (nI_le (a := 82) (b := 82) (by omega) (by omega)) (K c hL hc)
  | succ m ih =>
    intro i c hi hL hc
    have hr : a_d (nI s * 82 + nI i).toNatClampNeg = nI (dg_ 10 V i) := rd_e (yi_ s i) (by omega) (hn i (by omega))
    have hd := dg_lt (b := 10) (by omega) V i
    refine br_f (nI_ge (b := 82) (by omega) (by omega)) ⟨pk_in (s * 82 + i) 1312 (by omega) (yi_ s i), ?_⟩
    refine ek_if (eq_0 hr (by omega)) (fun e => nm_r (nI_1 i) ?_) (fun e => nm_r (nI_1 i) (nm_r (nI_1 i) ?_))
    · exact ih (i + 1) c (by omega) (ln_s0 hL e) (by omega)
    · exact ih (i + 1) (i + 1) (by omega) (ln_s1 (by omega) e) (by omega)
theorem y_length {post : Int32 → Prop} {s V : Nat} (hs : s < 16) (hn : yn_ a_d s V) (hV : V < 10 ^ 82) (K : ∀ L, Ln_ 10 L V → L ≤ 82 → post (nI L)) : wpY_length post (f_size, f_depth, f_open, a_ops, a_args, a_d, a_minus, a_begins, a_times) (nI s) :=
  Exists.intro (82 + 1) (yl_loop hs hn hV K 82 0 0 (by omega) (by rw [Nat.pow_zero, Nat.mod_one]; exact ln_0 10) (by omega))
theorem ys_loop {post : Int32 → Prop} {s t A B : Nat} (hs : s < 16) (ht : t < 16) (hA : yn_ a_d s A) (hB : yn_ a_d t B) (hA' : A < 10 ^ 82) (hB' : B < 10 ^ 82) (K : post (sc_ A B)) : ∀ m i, i + m = 82 → wY_size_5 post (nI s) (nI t) f_size f_depth f_open a_ops a_args a_d a_minus a_begins a_times (m + 1) (sc_ (A % 10 ^ i) (B % 10 ^ i)) (nI i) := by
  intro m
  induction m with
  | zero =>
    intro i hi
    cases (show i = 82 by omega)
    rw [Nat.mod_eq_of_lt hA', Nat.mod_eq_of_lt hB']
    exact br_t (nI_le (a := 82) (b := 82) (by omega) (by omega)) K
  | succ m ih =>
    intro i hi
    have hr : a_d (nI s * 82 + nI i).toNatClampNeg = nI (dg_ 10 A i) := rd_e (yi_ s i) (by omega) (hA i (by omega))
    have hr' : a_d (nI t * 82 + nI i).toNatClampNeg = nI (dg_ 10 B i) := rd_e (yi_ t i) (by omega) (hB i (by omega))
    have hd := dg_lt (b := 10) (by omega) A i
    have hd' := dg_lt (b := 10) (by omega) B i
    have i1 := pk_in (x := nI s * 82 + nI i) (s * 82 + i) 1312 (by omega) (yi_ s i)
    have i2 := pk_in (x := nI t * 82 + nI i) (t * 82 + i) 1312 (by omega) (yi_ t i)
    have h := ih (i + 1) (by omega)
    refine br_f (nI_ge (b := 82) (by omega) (by omega)) ⟨i1, i2, ?_⟩
    rw [hr, hr']
    refine ek_if (nI_eq (by omega) (by omega)) (fun e => nm_r (nI_1 i) ?_) (fun e => ⟨i1, i2, ek_if (nI_leI (by omega) (by omega)) (fun e' => nm_r (nI_1 i) ?_) (fun e' => nm_r (nI_1 i) ?_)⟩)
    · rw [sc_s e] at h; exact h
    · rw [sc_g (cp_l (by omega) (by omega))] at h; exact h
    · rw [sc_l (cp_l (by omega) (by omega))] at h; exact h
theorem y_size {post : Int32 → Prop} {s t A B : Nat} (hs : s < 16) (ht : t < 16) (hA : yn_ a_d s A) (hB : yn_ a_d t B) (hA' : A < 10 ^ 82) (hB' : B < 10 ^ 82) (K : post (sc_ A B)) : wpY_size post (f_size, f_depth, f_open, a_ops, a_args, a_d, a_minus, a_begins, a_times) (nI s) (nI t) := by
  refine Exists.intro (82 + 1) ?_
  have h := ys_loop (f_size := f_size) (f_depth := f_depth) (f_open := f_open) (a_ops := a_ops) (a_args := a_args) (a_minus := a_minus) (a_begins := a_begins) (a_times := a_times) hs ht hA hB hA' hB' K 82 0 (by omega)
  rw [Nat.pow_zero, Nat.mod_one, Nat.mod_one, sc_e rfl] at h
  exact h
theorem yp_loop {post : SY → Prop} {s t A B : Nat} (hs : s < 14) (ht : t < 14) (d0 : Nat → Int32) (hA : yn_ d0 s A) (hB : yn_ d0 t B) (K : ∀ d', yn_ d' 14 (A + B) → yg_ d0 d' 14 82 → post (f_size, f_depth, f_open, a_ops, a_args, d', a_minus, a_begins, a_times)) : ∀ m i d, i + m = 82 → (∀ j, j < i → d (14 * 82 + j) = nI (dg_ 10 (A + B) j)) → yg_ d0 d 14 i → wY_sum_5 post (nI s) (nI t) f_size f_depth f_open (m + 1) (nI (cs_ 10 A B i)) (nI i) a_ops a_args d a_minus a_begins a_times := by
  intro m
  induction m with
  | zero =>
    intro i d hi hw hf
    cases (show i = 82 by omega)
    exact br_t (nI_le (a := 82) (b := 82) (by omega) (by omega)) (K d hw hf)
  | succ m ih =>
    intro i d hi hw hf
    have hr : d (nI s * 82 + nI i).toNatClampNeg = nI (dg_ 10 A i) := rd_e (yi_ s i) (by omega) ((hf _ (by omega)).trans (hA i (by omega)))
    have hr' : d (nI t * 82 + nI i).toNatClampNeg = nI (dg_ 10 B i) := rd_e (yi_ t i) (by omega) ((hf _ (by omega)).trans (hB i (by omega)))
    have hd := dg_lt (b := 10) (by omega) A i
    have hd' := dg_lt (b := 10) (by omega) B i
    have hc := cs_lt (b := 10) (by omega) A B i
    obtain ⟨q1, q2⟩ := cs_s (b := 10) (by omega) A B i
    have he : (d (nI s * 82 + nI i).toNatClampNeg + d (nI t * 82 + nI i).toNatClampNeg) + nI (cs_ 10 A B i) = nI (dg_ 10 A i + dg_ 10 B i + cs_ 10 A B i) := by rw [hr, hr', nI_add, nI_add]
    have hm : nI (dg_ 10 A i + dg_ 10 B i + cs_ 10 A B i) - nI (dg_ 10 A i + dg_ 10 B i + cs_ 10 A B i) / 10 * 10 = nI (dg_ 10 (A + B) i) := (pk_rem (d := 10) (by omega) (by omega) (by omega)).trans (congrArg nI q1)
    have hq : nI (dg_ 10 A i + dg_ 10 B i + cs_ 10 A B i) / 10 = nI (cs_ 10 A B (i + 1)) := (pk_div (d := 10) (by omega) (by omega) (by omega)).trans (congrArg nI q2)
    refine br_f (nI_ge (b := 82) (by omega) (by omega)) ⟨pk_in (s * 82 + i) 1312 (by omega) (yi_ s i), pk_in (t * 82 + i) 1312 (by omega) (yi_ t i), nm_r he ⟨by decide, pk_in (14 * 82 + i) 1312 (by omega) (yi_14 i), ?_⟩⟩
    refine nm_r (up_e (yi_14 i) (by omega) hm) ⟨by decide, nm_r hq (nm_r (nI_1 i) ?_)⟩
    exact ih (i + 1) _ (by omega) (yw_u hw rfl) (yg_u hf)
theorem y_sum {post : SY → Prop} {s t A B : Nat} (hs : s < 14) (ht : t < 14) (hA : yn_ a_d s A) (hB : yn_ a_d t B) (K : ∀ d', yn_ d' 14 (A + B) → yg_ a_d d' 14 82 → post (f_size, f_depth, f_open, a_ops, a_args, d', a_minus, a_begins, a_times)) : wpY_sum post (f_size, f_depth, f_open, a_ops, a_args, a_d, a_minus, a_begins, a_times) (nI s) (nI t) := by
  refine Exists.intro (82 + 1) ?_
  have h := yp_loop hs ht a_d hA hB K 82 0 a_d (by omega) (fun j hj => absurd hj (by omega)) (yg_0 _ _)
  rw [cs_0] at h; exact h
theorem yd_loop {post : SY → Prop} {s t w A B D : Nat} (hs : s < 16) (ht : t < 16) (hw' : w < 16) (htw : t ≠ w) (hD : D + B = A) (d0 : Nat → Int32) (hA : yn_ d0 s A) (hB : yn_ d0 t B) (K : ∀ d', yn_ d' w D → yg_ d0 d' w 82 → post (f_size, f_depth, f_open, a_ops, a_args, d', a_minus, a_begins, a_times)) : ∀ m i d, i + m = 82 → (∀ j, j < i → d (w * 82 + j) = nI (dg_ 10 D j)) → yg_ d0 d w i → wY_difference_6 post (nI s) (nI t) (nI w) f_size f_depth f_open (m + 1) (nI (cs_ 10 D B i)) (nI i) a_ops a_args d a_minus a_begins a_times := by
  intro m
  induction m with
  | zero =>
    intro i d hi hw hf
    cases (show i = 82 by omega)
    exact br_t (nI_le (a := 82) (b := 82) (by omega) (by omega)) (K d hw hf)
  | succ m ih =>
    intro i d hi hw hf
    have hr : d (nI s * 82 + nI i).toNatClampNeg = nI (dg_ 10 A i) := rd_e (yi_ s i) (by omega) ((hf _ (by omega)).trans (hA i (by omega)))
    have hr' : d (nI t * 82 + nI i).toNatClampNeg = nI (dg_ 10 B i) := rd_e (yi_ t i) (by omega) ((hf _ (by omega)).trans (hB i (by omega)))
    have hd := dg_lt (b := 10) (by omega) A i
    have hd' := dg_lt (b := 10) (by omega) B i
    have hdd := dg_lt (b := 10) (by omega) D i
    have hc := cs_lt (b := 10) (by omega) D B i
    have hc' := cs_lt (b := 10) (by omega) D B (i + 1)
    have q := bo_s (b := 10) (by omega) hD i
    have he : ((d (nI s * 82 + nI i).toNatClampNeg - d (nI t * 82 + nI i).toNatClampNeg) - nI (cs_ 10 D B i)) + 10 = nI (dg_ 10 D i + 10 * (1 - cs_ 10 D B (i + 1))) := by
      rw [hr, hr', iz_n, iz_n, iz_n, iz_n, iz_sub, iz_sub, show (10 : Int32) = iz_I 10 from rfl, iz_add]
      exact congrArg iz_I (by omega)
    have hm : nI (dg_ 10 D i + 10 * (1 - cs_ 10 D B (i + 1))) - nI (dg_ 10 D i + 10 * (1 - cs_ 10 D B (i + 1))) / 10 * 10 = nI (dg_ 10 D i) := (pk_rem (d := 10) (by omega) (by omega) (by omega)).trans (congrArg nI (by omega))
    refine br_f (nI_ge (b := 82) (by omega) (by omega)) ⟨pk_in (s * 82 + i) 1312 (by omega) (yi_ s i), pk_in (t * 82 + i) 1312 (by omega) (yi_ t i), nm_r he ⟨by decide, pk_in (w * 82 + i) 1312 (by omega) (yi_ w i), ?_⟩⟩
    refine nm_r (up_e (yi_ w i) (by omega) hm) ?_
    have h := ih (i + 1) _ (by omega) (yw_u hw rfl) (yg_u hf)
    refine ek_if (nI_leI (a := 10) (by omega) (by omega)) (fun e => nm_r (nI_1 i) ?_) (fun e => nm_r (nI_1 i) ?_)
    · rw [show cs_ 10 D B (i + 1) = 0 by omega] at h; exact h
    · rw [show cs_ 10 D B (i + 1) = 1 by omega] at h; exact h
theorem y_difference {post : SY → Prop} {s t w A B D : Nat} (hs : s < 16) (ht : t < 16) (hw' : w < 16) (htw : t ≠ w) (hD : D + B = A) (hA : yn_ a_d s A) (hB : yn_ a_d t B) (K : ∀ d', yn_ d' w D → yg_ a_d d' w 82 → post (f_size, f_depth, f_open, a_ops, a_args, d', a_minus, a_begins, a_times)) : wpY_difference post (f_size, f_depth, f_open, a_ops, a_args, a_d, a_minus, a_begins, a_times) (nI s) (nI t) (nI w) := by
  refine Exists.intro (82 + 1) ?_
  have h := yd_loop hs ht hw' htw hD a_d hA hB K 82 0 a_d (by omega) (fun j hj => absurd hj (by omega)) (yg_0 _ _)
  rw [cs_0] at h; exact h
end
end
section
/-! the reference's operations on its numbers -/
def yh_ (d d' : Nat → Int32) : Prop := ∀ k, k < 1148 → d' k = d k
theorem yh_g {d d' : Nat → Int32} {t : Nat} (h : yg_ d d' t 82) (ht : 14 ≤ t) : yh_ d d' := fun k hk => h k (by omega)
theorem yh_n {d d' : Nat → Int32} {s V : Nat} (h : yh_ d d') (hs : s < 14) (hn : yn_ d s V) : yn_ d' s V := fun j hj => by
  rw [h _ (by omega), hn j hj]
theorem p_41 {A B : Nat} (hA : A < 10 ^ 40) (hB : B < 10 ^ 40) : A + B < 10 ^ 41 := by
  rw [dg_ps 10 40]
  generalize 10 ^ 40 = P at *
  omega
theorem p_82 {A n : Nat} (hn : n ≤ 82) (hA : A < 10 ^ n) : A < 10 ^ 82 := Nat.lt_of_lt_of_le hA (Nat.pow_le_pow_right (by omega) hn)
theorem p_mul {A B m n k : Nat} (hA : A < 10 ^ m) (hB : B < 10 ^ n) (hk : m + n = k) : A * B < 10 ^ k := by
  rw [← hk, Nat.pow_add]
  exact Nat.mul_lt_mul_of_lt_of_lt hA hB
def xs_ (a b : Int32) : Int32 := if a = b then 0 else 1
theorem xs_01 (a b : Int32) : xs_ a b = 0 ∨ xs_ a b = 1 := by
  unfold xs_
  by_cases h : a = b
  · rw [if_pos h]; exact Or.inl rfl
  · rw [if_neg h]; exact Or.inr rfl
theorem sv_mul {a b : Int32} (ha : a = 0 ∨ a = 1) (hb : b = 0 ∨ b = 1) (A B : Nat) : sv_ (xs_ a b) (A * B) = sv_ a A * sv_ b B := by
  rcases ha with h | h <;> rcases hb with h' | h' <;> subst h <;> subst h'
  · show sv_ 0 _ = _; rw [sv_0, sv_0, sv_0, Int.natCast_mul]
  · show sv_ 1 _ = _; rw [sv_1, sv_0, sv_1, Int.natCast_mul, Int.mul_neg]
  · show sv_ 1 _ = _; rw [sv_1, sv_0, sv_1, Int.natCast_mul, Int.neg_mul]
  · show sv_ 0 _ = _; rw [sv_0, sv_1, sv_1, Int.natCast_mul, Int.neg_mul_neg]
theorem sv_div {a b : Int32} (ha : a = 0 ∨ a = 1) (hb : b = 0 ∨ b = 1) (A B : Nat) : sv_ (xs_ a b) (A / B) = (sv_ a A).tdiv (sv_ b B) := by
  rcases ha with h | h <;> rcases hb with h' | h' <;> subst h <;> subst h'
  · show sv_ 0 _ = _; rw [sv_0, sv_0, sv_0, Int.ofNat_tdiv]
  · show sv_ 1 _ = _; rw [sv_1, sv_0, sv_1, Int.tdiv_neg, Int.ofNat_tdiv]
  · show sv_ 1 _ = _; rw [sv_1, sv_0, sv_1, Int.neg_tdiv, Int.ofNat_tdiv]
  · show sv_ 0 _ = _; rw [sv_0, sv_1, sv_1, Int.neg_tdiv, Int.tdiv_neg, Int.neg_neg, Int.ofNat_tdiv]
theorem sv_mod {a b : Int32} (ha : a = 0 ∨ a = 1) (hb : b = 0 ∨ b = 1) (A B : Nat) : sv_ a (A % B) = (sv_ a A).tmod (sv_ b B) := by
  rcases ha with h | h <;> rcases hb with h' | h' <;> subst h <;> subst h'
  · rw [sv_0, sv_0, sv_0, Int.ofNat_tmod]
  · rw [sv_0, sv_0, sv_1, Int.tmod_neg, Int.ofNat_tmod]
  · rw [sv_1, sv_1, sv_0, Int.neg_tmod, Int.ofNat_tmod]
  · rw [sv_1, sv_1, sv_1, Int.neg_tmod, Int.tmod_neg, Int.ofNat_tmod]
theorem sv_abs {c : Int32} (h : c = 0 ∨ c = 1) (C : Nat) : (sv_ c C).natAbs = C := by
  rcases h with h | h <;> subst h
  · rw [sv_0]; omega
  · rw [sv_1]; omega
theorem sv_df {a b : Int32} (ha : a = 0 ∨ a = 1) (hb : b = 0 ∨ b = 1) (hne : ¬ a = b) {A B : Nat} (h : B ≤ A) : sv_ a (A - B) = sv_ a A + sv_ b B := by
  rcases ha with h1 | h1 <;> rcases hb with h2 | h2 <;> subst h1 <;> subst h2
  · exact absurd rfl hne
  · rw [sv_0, sv_0, sv_1]; omega
  · rw [sv_1, sv_1, sv_0]; omega
  · exact absurd rfl hne
/-- how two integers compare -/
def oc_ (x y : Int) : Int32 := if x < y then -1 else if x = y then 0 else 1
theorem oc_l {x y : Int} (h : x < y) : oc_ x y = -1 := if_pos h
theorem oc_e {x y : Int} (h : x = y) : oc_ x y = 0 := by unfold oc_; rw [if_neg (by omega), if_pos h]
theorem oc_g {x y : Int} (h : y < x) : oc_ x y = 1 := by unfold oc_; rw [if_neg (by omega), if_neg (by omega)]
theorem oc_sc (x y : Nat) : oc_ (x : Int) (y : Int) = sc_ x y := by
  rcases Nat.lt_trichotomy x y with h | h | h
  · rw [sc_l h, oc_l (by omega)]
  · rw [sc_e h, oc_e (by omega)]
  · rw [sc_g h, oc_g (by omega)]
theorem oc_sn (x y : Nat) : oc_ (-(x : Int)) (-(y : Int)) = sc_ y x := by
  rcases Nat.lt_trichotomy x y with h | h | h
  · rw [sc_g h, oc_g (by omega)]
  · rw [sc_e h.symm, oc_e (by omega)]
  · rw [sc_l h, oc_l (by omega)]
theorem oc_lt0 (x y : Int) : (0 : Int32) ≤ oc_ x y ↔ ¬ x < y := by
  rcases Int.lt_trichotomy x y with h | h | h
  · rw [oc_l h]; exact ⟨fun z => absurd z (by decide), fun z => absurd h z⟩
  · rw [oc_e h]; exact ⟨fun _ => by omega, fun _ => by decide⟩
  · rw [oc_g h]; exact ⟨fun _ => by omega, fun _ => by decide⟩
section
variable {f_size f_depth f_open : Int32} {a_ops a_args a_d a_minus a_begins a_times : Nat → Int32}
theorem y_add {post : SY → Prop} {s t A B : Nat} {cb : Int32} (hs : s < 14) (ht : t < 14) (hA : yn_ a_d s A) (hB : yn_ a_d t B) (hA' : A < 10 ^ 40) (hB' : B < 10 ^ 40) (hm : a_minus s = 0 ∨ a_minus s = 1) (hc : cb = 0 ∨ cb = 1) (K : ∀ d' c C, yn_ d' 14 C → yh_ a_d d' → (c = 0 ∨ c = 1) → C ≤ A + B → sv_ c C = sv_ (a_minus s) A + sv_ cb B → post (f_size, f_depth, f_open, a_ops, a_args, d', (upd a_minus 14 c), a_begins, a_times)) : wpY_add post (f_size, f_depth, f_open, a_ops, a_args, a_d, a_minus, a_begins, a_times) (nI s) (nI t) cb := by
  have hm' : a_minus (nI s).toNatClampNeg = a_minus s := rd_e rfl (by omega) rfl
  have i1 := vp_in_nI (n := s) (N := 16) (by omega) (by omega)
  refine And.intro i1 ?_
  rw [hm']
  refine br_c (fun e => ?_) (fun e => ?_)
  · refine y_sum hs ht hA hB (fun d' hn hf => ?_)
    refine nm_r (congrArg (upd a_minus 14) (yb_ hc)) ?_
    refine K d' cb (A + B) hn (yh_g hf (by omega)) hc (by omega) ?_
    rw [e]
    rcases hc with h | h <;> subst h
    · rw [sv_0, sv_0, sv_0]; omega
    · rw [sv_1, sv_1, sv_1]; omega
  · refine y_size (by omega) (by omega) hA hB (p_82 (by omega) hA') (p_82 (by omega) hB') ?_
    refine ek_if (sc_lt0 A B) (fun h => ?_) (fun h => ?_)
    · refine y_difference (w := 14) (D := B - A) (by omega) (by omega) (by omega) (by omega) (by omega) hB hA (fun d' hn hf => ?_)
      refine nm_r (congrArg (upd a_minus 14) (yb_ hc)) ?_
      refine K d' cb (B - A) hn (yh_g hf (by omega)) hc (by omega) ?_
      rw [Int.add_comm]
      exact sv_df hc hm (fun z => e z.symm) (by omega)
    · refine y_difference (w := 14) (D := A - B) (by omega) (by omega) (by omega) (by omega) (by omega) hA hB (fun d' hn hf => ?_)
      refine And.intro i1 (nm_r (congrArg (upd a_minus 14) ((congrArg (vp_nar .boolean) hm').trans (yb_ hm))) ?_)
      refine K d' (a_minus s) (A - B) hn (yh_g hf (by omega)) hm (by omega) ?_
      exact sv_df hm hc e (by omega)
/-! the product -/
theorem ym_zero {post : SY → Prop} {s t : Nat} (d0 : Nat → Int32) (K : ∀ d', (∀ j, j < 82 → d' (14 * 82 + j) = nI 0) → yg_ d0 d' 14 82 → ∃ n, wY_product_27 post (nI s) (nI t) f_size f_depth f_open n 0 a_ops a_args d' a_minus a_begins a_times) : ∀ m i d, i + m = 82 → (∀ j, j < i → d (14 * 82 + j) = nI 0) → yg_ d0 d 14 i → wY_product_2 post (nI s) (nI t) f_size f_depth f_open (m + 1) (nI i) a_ops a_args d a_minus a_begins a_times := by
  intro m
  induction m with
  | zero =>
    intro i d hi hw hf
    cases (show i = 82 by omega)
    exact br_t (nI_le (a := 82) (b := 82) (by omega) (by omega)) (K d hw hf)
  | succ m ih =>
    intro i d hi hw hf
    refine br_f (nI_ge (b := 82) (by omega) (by omega)) ⟨pk_in (14 * 82 + i) 1312 (by omega) (yi_14 i), ?_⟩
    refine nm_r (up_e (yi_14 i) (by omega) rfl) (nm_r (nI_1 i) ?_)
    exact ih (i + 1) _ (by omega) (yw_u (g := fun _ => nI 0) hw rfl) (yg_u hf)
theorem ym_in {post : SY → Prop} {J : Int32 → (Nat → Int32) → (Nat → Int32) → (Nat → Int32) → (Nat → Int32) → (Nat → Int32) → (Nat → Int32) → Prop} {s t A B i : Nat} (hs : s < 14) (ht : t < 14) (hi : i < 41) (d0 : Nat → Int32) (hA : yn_ d0 s A) (hB : yn_ d0 t B) (KJ : ∀ d' c, (∀ k, k < 82 → d' (14 * 82 + k) = nI (c k) ∧ c k ≤ 81 * (41 * (i + 1))) → vl_ 10 c 82 = A % 10 ^ (i + 1) * (B % 10 ^ 41) → yg_ d0 d' 14 82 → J (nI (i + 1)) a_ops a_args d' a_minus a_begins a_times) : ∀ m j d c, j + m = 41 → (∀ k, k < 82 → d (14 * 82 + k) = nI (c k) ∧ c k ≤ 81 * (41 * i + j)) → vl_ 10 c 82 = A % 10 ^ i * (B % 10 ^ 41) + dg_ 10 A i * 10 ^ i * (B % 10 ^ j) → yg_ d0 d 14 82 → wY_product_36 post J (nI s) (nI t) (nI i) f_size f_depth f_open (m + 1) (nI j) a_ops a_args d a_minus a_begins a_times := by
  intro m
  induction m with
  | zero =>
    intro j d c hj hc hv hf
    cases (show j = 41 by omega)
    refine br_t (nI_le (a := 41) (b := 41) (by omega) (by omega)) (nm_r (nI_1 i) ?_)
    refine KJ d c (fun k hk => ⟨(hc k hk).1, by have := (hc k hk).2; omega⟩) ?_ hf
    rw [hv, dg_md 10 A i, Nat.add_mul]
  | succ m ih =>
    intro j d c hj hc hv hf
    have hd := dg_lt (b := 10) (by omega) A i
    have hd' := dg_lt (b := 10) (by omega) B j
    have hp : dg_ 10 A i * dg_ 10 B j ≤ 81 := Nat.mul_le_mul (show _ ≤ 9 by omega) (show _ ≤ 9 by omega)
    have ix : (1148 + nI i) + nI j = nI (14 * 82 + (i + j)) := by rw [yi_14, nI_add, Nat.add_assoc]
    have hr : d (nI s * 82 + nI i).toNatClampNeg = nI (dg_ 10 A i) := rd_e (yi_ s i) (by omega) ((hf _ (by omega)).trans (hA i (by omega)))
    have hr' : d (nI t * 82 + nI j).toNatClampNeg = nI (dg_ 10 B j) := rd_e (yi_ t j) (by omega) ((hf _ (by omega)).trans (hB j (by omega)))
    have hr0 : d ((1148 + nI i) + nI j).toNatClampNeg = nI (c (i + j)) := rd_e ix (by omega) (hc (i + j) (by omega)).1
    have he : d ((1148 + nI i) + nI j).toNatClampNeg + d (nI s * 82 + nI i).toNatClampNeg * d (nI t * 82 + nI j).toNatClampNeg = nI (c (i + j) + dg_ 10 A i * dg_ 10 B j) := by rw [hr, hr', hr0, pk_mul, nI_add]
    have i0 := pk_in (14 * 82 + (i + j)) 1312 (by omega) ix
    refine br_f (nI_ge (b := 41) (by omega) (by omega)) ⟨i0, pk_in (s * 82 + i) 1312 (by omega) (yi_ s i), pk_in (t * 82 + j) 1312 (by omega) (yi_ t j), i0, nm_r (up_e ix (by omega) he) (nm_r (nI_1 j) ?_)⟩
    refine ih (j + 1) _ (fun k => if k = i + j then c (i + j) + dg_ 10 A i * dg_ 10 B j else c k) (by omega) ?_ ?_ (yg_in hf (by omega))
    · intro k hk
      by_cases e : k = i + j
      · subst e
        rw [pk_us, if_pos rfl]
        exact ⟨rfl, by have := (hc (i + j) hk).2; omega⟩
      · rw [pk_un (by omega), if_neg e]
        exact ⟨(hc k hk).1, by have := (hc k hk).2; omega⟩
    · rw [vl_a 82 (by omega), hv, dg_md 10 B j, Nat.mul_add, Nat.mul_mul_mul_comm, ← Nat.pow_add, Nat.add_assoc]
theorem ym_out {post : SY → Prop} {s t A B : Nat} (hs : s < 14) (ht : t < 14) (d0 : Nat → Int32) (hA : yn_ d0 s A) (hB : yn_ d0 t B) (K : ∀ d' c, (∀ k, k < 82 → d' (14 * 82 + k) = nI (c k) ∧ c k ≤ 200000) → vl_ 10 c 82 = A % 10 ^ 41 * (B % 10 ^ 41) → yg_ d0 d' 14 82 → ∃ n, wY_product_111 post (nI s) (nI t) f_size f_depth f_open n 0 0 a_ops a_args d' a_minus a_begins a_times) : ∀ m i d c, i + m = 41 → (∀ k, k < 82 → d (14 * 82 + k) = nI (c k) ∧ c k ≤ 81 * (41 * i)) → vl_ 10 c 82 = A % 10 ^ i * (B % 10 ^ 41) → yg_ d0 d 14 82 → wY_product_27 post (nI s) (nI t) f_size f_depth f_open (m + 1) (nI i) a_ops a_args d a_minus a_begins a_times := by
  intro m
  induction m with
  | zero =>
    intro i d c hi hc hv hf
    cases (show i = 41 by omega)
    exact br_t (nI_le (a := 41) (b := 41) (by omega) (by omega)) (K d c (fun k hk => ⟨(hc k hk).1, by have := (hc k hk).2; omega⟩) hv hf)
  | succ m ih =>
    intro i d c hi hc hv hf
    refine br_f (nI_ge (b := 41) (by omega) (by omega)) ⟨41 + 1, ?_⟩
    refine ym_in hs ht (by omega) d0 hA hB (fun d' c' hc' hv' hf' => ih (i + 1) d' c' (by omega) hc' hv' hf') 41 0 d c (by omega) hc ?_ hf
    rw [Nat.pow_zero, Nat.mod_one, Nat.mul_zero, Nat.add_zero]; exact hv
theorem ym_cy {post : SY → Prop} {s t V : Nat} {c : Nat → Nat} (hs : s < 14) (ht : t < 14) (d0 : Nat → Int32) (hc : ∀ k, k < 82 → c k ≤ 200000) (hV : vl_ 10 c 82 = V) (K : ∀ d', yn_ d' 14 V → yg_ d0 d' 14 82 → post (f_size, f_depth, f_open, a_ops, a_args, d', (upd a_minus 14 (xs_ (a_minus s) (a_minus t))), a_begins, a_times)) : ∀ m i d, i + m = 82 → (∀ j, j < i → d (14 * 82 + j) = nI (dg_ 10 V j)) → (∀ j, i ≤ j → j < 82 → d (14 * 82 + j) = nI (c j)) → yg_ d0 d 14 82 → vl_ 10 c i / 10 ^ i ≤ 200000 → wY_product_111 post (nI s) (nI t) f_size f_depth f_open (m + 1) (nI (vl_ 10 c i / 10 ^ i)) (nI i) a_ops a_args d a_minus a_begins a_times := by
  intro m
  induction m with
  | zero =>
    intro i d hi hw _ hf _
    cases (show i = 82 by omega)
    have h1 : a_minus (nI s).toNatClampNeg = a_minus s := rd_e rfl (by omega) rfl
    have h2 : a_minus (nI t).toNatClampNeg = a_minus t := rd_e rfl (by omega) rfl
    have h := K d hw hf
    refine br_t (nI_le (a := 82) (b := 82) (by omega) (by omega)) ⟨vp_in_nI (by omega) (by omega), vp_in_nI (by omega) (by omega), ?_⟩
    rw [h1, h2]
    refine br_c (fun e => nm_r (congrArg (upd a_minus 14) (yb_ (Or.inl rfl))) ?_) (fun e => nm_r (congrArg (upd a_minus 14) (yb_ (Or.inr rfl))) ?_)
    · rw [show xs_ (a_minus s) (a_minus t) = 0 from if_pos e] at h; exact h
    · rw [show xs_ (a_minus s) (a_minus t) = 1 from if_neg e] at h; exact h
  | succ m ih =>
    intro i d hi hw hr hf hb
    obtain ⟨q1, q2⟩ := vl_s (b := 10) (by omega) (f := c) (k := i) (n := 82) (by omega) hV
    have hci := hc i (by omega)
    have he : d (1148 + nI i).toNatClampNeg + nI (vl_ 10 c i / 10 ^ i) = nI (c i + vl_ 10 c i / 10 ^ i) := by rw [rd_e (yi_14 i) (by omega) (hr i (by omega) (by omega)), nI_add]
    generalize vl_ 10 c i / 10 ^ i = y at *
    have hm : nI (c i + y) - nI (c i + y) / 10 * 10 = nI (dg_ 10 V i) := (pk_rem (d := 10) (by omega) (by omega) (by omega)).trans (congrArg nI q1)
    have hq : nI (c i + y) / 10 = nI (vl_ 10 c (i + 1) / 10 ^ (i + 1)) := (pk_div (d := 10) (by omega) (by omega) (by omega)).trans (congrArg nI q2)
    have i0 := pk_in (14 * 82 + i) 1312 (by omega) (yi_14 i)
    refine br_f (nI_ge (b := 82) (by omega) (by omega)) ⟨i0, nm_r he ⟨by decide, i0, nm_r (up_e (yi_14 i) (by omega) hm) ⟨by decide, nm_r hq (nm_r (nI_1 i) ?_)⟩⟩⟩
    refine ih (i + 1) _ (by omega) (yw_u hw rfl) (fun j hj hj' => ?_) (yg_in hf (by omega)) (by omega)
    rw [pk_un (by omega)]; exact hr j (by omega) hj'
theorem y_product {post : SY → Prop} {s t A B : Nat} (hs : s < 14) (ht : t < 14) (hA : yn_ a_d s A) (hB : yn_ a_d t B) (hA' : A < 10 ^ 41) (hB' : B < 10 ^ 41) (K : ∀ d', yn_ d' 14 (A * B) → yh_ a_d d' → post (f_size, f_depth, f_open, a_ops, a_args, d', (upd a_minus 14 (xs_ (a_minus s) (a_minus t))), a_begins, a_times)) : wpY_product post (f_size, f_depth, f_open, a_ops, a_args, a_d, a_minus, a_begins, a_times) (nI s) (nI t) := by
  refine Exists.intro (82 + 1) (ym_zero a_d (fun d1 z1 f1 => ⟨41 + 1, ?_⟩) 82 0 a_d (by omega) (fun j hj => absurd hj (by omega)) (yg_0 _ _))
  refine ym_out hs ht a_d hA hB (fun d2 c hc hv f2 => ⟨82 + 1, ?_⟩) 41 0 d1 (fun _ => 0) (by omega) (fun k hk => ⟨z1 k hk, by omega⟩) (by rw [vl_0, Nat.pow_zero, Nat.mod_one, Nat.zero_mul]) f1
  rw [Nat.mod_eq_of_lt hA', Nat.mod_eq_of_lt hB'] at hv
  have h := ym_cy (f_size := f_size) (f_depth := f_depth) (f_open := f_open) (a_ops := a_ops) (a_args := a_args) (a_minus := a_minus) (a_begins := a_begins) (a_times := a_times) hs ht a_d (fun k hk => (hc k hk).2) hv (fun d' hn hf => K d' hn (yh_g hf (by omega))) 82 0 d2 (by omega) (fun j hj => absurd hj (by omega)) (fun j _ hj => (hc j hj).1) f2 (by rw [show vl_ 10 c 0 = 0 from rfl, Nat.zero_div]; omega)
  rw [show vl_ 10 c 0 = 0 from rfl, Nat.zero_div] at h
  exact h
/-! the division -/
theorem yt_loop {post : Int32 → SY → Prop} {t R B Q : Nat} (ht : t < 14) (hQ : Q * B ≤ R) (hQ' : R < Q * B + B) (hQ9 : Q ≤ 9) (hB' : B < 10 ^ 40) (d0 : Nat → Int32) (hB : yn_ d0 t B) (hR : R < 10 ^ 82) (K : ∀ d', yn_ d' 15 (R - Q * B) → yg_ d0 d' 15 82 → post (nI Q) (f_size, f_depth, f_open, a_ops, a_args, d', a_minus, a_begins, a_times)) : ∀ m k q d, k + m = 9 → q ≤ k → q ≤ Q → (q = k ∨ q = Q) → yn_ d 15 (R - q * B) → yg_ d0 d 15 82 → wY_times_4 post (nI t) (m + 1) (nI q) (nI k) f_size f_depth f_open a_ops a_args d a_minus a_begins a_times := by
  intro m
  induction m with
  | zero =>
    intro k q d hk h1 h2 h3 hn hf
    cases (show k = 9 by omega)
    cases (show q = Q by omega)
    exact br_t (nI_le (a := 9) (b := 9) (by omega) (by omega)) (K d hn hf)
  | succ m ih =>
    intro k q d hk h1 h2 h3 hn hf
    refine br_f (nI_ge (b := 9) (by omega) (by omega)) ?_
    refine y_size (s := 15) (by omega) (by omega) hn (yg_n hf (by omega) hB) (by omega) (p_82 (by omega) hB') ?_
    refine ek_if (sc_lt0 _ _) (fun h => nm_r (nI_1 k) ?_) (fun h => ?_)
    · refine ih (k + 1) q d (by omega) (by omega) h2 (Or.inr ?_) hn hf
      rcases Nat.lt_or_ge q Q with z | z
      · have := Nat.mul_le_mul_right B (show q + 1 ≤ Q from z)
        rw [Nat.add_mul, Nat.one_mul] at this
        omega
      · omega
    · have hqQ : q < Q := by
        rcases Nat.lt_or_ge q Q with z | z
        · exact z
        · cases (show q = Q by omega); omega
      have h4 := Nat.mul_le_mul_right B (show q + 1 ≤ Q from hqQ)
      have h5 : (q + 1) * B = q * B + B := by rw [Nat.add_mul, Nat.one_mul]
      refine y_difference (s := 15) (w := 15) (D := R - (q + 1) * B) (by omega) (by omega) (by omega) (by omega) (by omega) hn (yg_n hf (by omega) hB) (fun d' hn' hf' => ?_)
      refine nm_r (nI_1 q) (nm_r (nI_1 k) ?_)
      exact ih (k + 1) (q + 1) d' (by omega) (by omega) (by omega) (by omega) hn' (yg_t hf hf')
theorem y_times {post : Int32 → SY → Prop} {t R B : Nat} (ht : t < 14) (hB0 : 0 < B) (hR : yn_ a_d 15 R) (hB : yn_ a_d t B) (hRB : R < B * 10) (hB' : B < 10 ^ 40) (K : ∀ d', yn_ d' 15 (R % B) → yg_ a_d d' 15 82 → post (nI (R / B)) (f_size, f_depth, f_open, a_ops, a_args, d', a_minus, a_begins, a_times)) : wpY_times post (f_size, f_depth, f_open, a_ops, a_args, a_d, a_minus, a_begins, a_times) (nI t) := by
  have hd := Nat.div_add_mod R B
  have hm := Nat.mod_lt R hB0
  have hq : R / B < 10 := Nat.div_lt_of_lt_mul hRB
  have hR' : R < 10 ^ 82 := by
    refine Nat.lt_trans hRB (Nat.lt_of_lt_of_le (Nat.mul_lt_mul_of_pos_right hB' (by omega)) ?_)
    rw [← dg_ps]; exact Nat.pow_le_pow_right (by omega) (by omega)
  rw [Nat.mul_comm] at hd
  refine Exists.intro (9 + 1) (yt_loop ht (Q := R / B) (by omega) (by omega) (by omega) hB' a_d hB hR' (fun d' hn hf => ?_) 9 0 0 a_d (by omega) (by omega) (Nat.zero_le _) (Or.inl rfl) (by rw [Nat.zero_mul]; exact hR) (fun _ _ => rfl))
  rw [show R - R / B * B = R % B by omega] at hn
  exact K d' hn hf
theorem yv_sh {post : SY → Prop} {J : Int32 → Int32 → Int32 → Int32 → (Nat → Int32) → (Nat → Int32) → (Nat → Int32) → (Nat → Int32) → (Nat → Int32) → (Nat → Int32) → Prop} {s t i R a B : Nat} (hs : s < 14) (ht : t < 14) (hi : i < 41) (d0 : Nat → Int32) (hR : yn_ d0 15 R) (hB : yn_ d0 t B) (ha : d0 (s * 82 + i) = nI a) (ha' : a < 10) (hB0 : 0 < B) (hRB : R < B) (hB' : B < 10 ^ 40) (K : ∀ d', yn_ d' 15 ((R * 10 + a) % B) → d' (14 * 82 + i) = nI ((R * 10 + a) / B) → (∀ c, c < 1230 → c ≠ 14 * 82 + i → d' c = d0 c) → J (nI i + (-1)) f_size f_depth f_open a_ops a_args d' a_minus a_begins a_times) : ∀ k d, k ≤ 41 → (∀ j, k < j → j ≤ 41 → d (15 * 82 + j) = d0 (15 * 82 + (j - 1))) → (∀ c, ¬ (15 * 82 + k < c ∧ c ≤ 15 * 82 + 41) → d c = d0 c) → wY_divide_47 post J (nI s) (nI t) (nI i) f_size f_depth f_open (k + 1) (nI k) a_ops a_args d a_minus a_begins a_times := by
  intro k
  induction k with
  | zero =>
    intro d _ hw hf
    refine br_t (nI_le (a := 0) (b := 0) (by omega) (by omega)) ⟨pk_in (s * 82 + i) 1312 (by omega) (yi_ s i), ?_⟩
    refine nm_r (congrArg (upd d 1230) (rd_e (yi_ s i) (by omega) ((hf _ (by omega)).trans ha))) ?_
    have hn : yn_ (upd d 1230 (nI a)) 15 (R * 10 + a) := by
      intro j hj
      rcases Nat.eq_zero_or_pos j with z | z
      · subst z
        rw [dg_s0 R a ha']; exact pk_us
      · obtain ⟨l, rfl⟩ : ∃ l, j = l + 1 := ⟨j - 1, by omega⟩
        rw [dg_sh R a l ha', pk_un (by omega)]
        by_cases h : l + 1 ≤ 41
        · rw [hw (l + 1) (by omega) h]; exact hR l (by omega)
        · rw [hf _ (by omega), hR (l + 1) hj, dg_z (Nat.lt_trans hRB hB') (show 40 ≤ l + 1 by omega) (by omega), dg_z (Nat.lt_trans hRB hB') (show 40 ≤ l by omega) (by omega)]
    have hbb : yn_ (upd d 1230 (nI a)) t B := by
      intro j hj
      rw [pk_un (by omega), hf _ (by omega)]; exact hB j hj
    refine y_times ht hB0 hn hbb (by omega) hB' (fun d' hn' hf' => ?_)
    refine And.intro (pk_in (14 * 82 + i) 1312 (by omega) (yi_14 i)) (nm_r (up_e (yi_14 i) (by omega) rfl) (nm_e ?_))
    refine K _ (fun j hj => ?_) pk_us (fun c hc hc' => ?_)
    · rw [pk_un (by omega)]; exact hn' j hj
    · rw [pk_un hc', hf' c (by omega), pk_un (by omega), hf c (by omega)]
  | succ k ih =>
    intro d hk hw hf
    have e1 : (1230 + nI (k + 1)) - 1 = nI (15 * 82 + k) := by rw [yi_15, ← Nat.add_assoc, nI_pred]
    refine br_f (nI_nle (by omega) (by omega)) ⟨pk_in (15 * 82 + k) 1312 (by omega) e1, pk_in (15 * 82 + (k + 1)) 1312 (by omega) (yi_15 (k + 1)), ?_⟩
    refine nm_r (up_e (yi_15 (k + 1)) (by omega) (rd_e e1 (by omega) (hf _ (by omega)))) (nm_r (pk_m1 k) ?_)
    refine ih _ (by omega) (fun j h1 h2 => ?_) (fun c hc => ?_)
    · by_cases e : j = k + 1
      · subst e; rw [pk_us]; rfl
      · rw [pk_un (by omega)]; exact hw j (by omega) h2
    · rw [pk_un (by omega)]; exact hf c (by omega)
theorem yv_out {post : SY → Prop} {s t A B : Nat} (hs : s < 14) (ht : t < 14) (d0 : Nat → Int32) (hA : yn_ d0 s A) (hB : yn_ d0 t B) (hB0 : 0 < B) (hB' : B < 10 ^ 40) (hm : a_minus s = 0 ∨ a_minus s = 1) (K : ∀ d', yn_ d' 14 (A / B) → yn_ d' 15 (A % B) → yh_ d0 d' → post (f_size, f_depth, f_open, a_ops, a_args, d', (upd (upd a_minus 14 (xs_ (a_minus s) (a_minus t))) 15 (a_minus s)), a_begins, a_times)) : ∀ e d, e ≤ 41 → yn_ d 15 (A / 10 ^ e % B) → (∀ j, j < 82 → d (14 * 82 + j) = nI (if e ≤ j then dg_ 10 (A / B) j else 0)) → yh_ d0 d → wY_divide_39 post (nI s) (nI t) (e + 1) (nI e + (-1)) f_size f_depth f_open a_ops a_args d a_minus a_begins a_times := by
  intro e
  induction e with
  | zero =>
    intro d _ h15 h14 hf
    have h1 : a_minus (nI s).toNatClampNeg = a_minus s := rd_e rfl (by omega) rfl
    have h2 : a_minus (nI t).toNatClampNeg = a_minus t := rd_e rfl (by omega) rfl
    rw [Nat.pow_zero, Nat.div_one] at h15
    have h := K d (fun j hj => by rw [h14 j hj, if_pos (by omega)]) h15 hf
    have i1 := vp_in_nI (n := s) (N := 16) (by omega) (by omega)
    have h3 : ∀ z : Int32, vp_nar .boolean (upd a_minus 14 z (nI s).toNatClampNeg) = a_minus s := by
      intro z
      rw [rd_e (f := upd a_minus 14 z) (v := a_minus s) rfl (by omega) (pk_un (by omega))]; exact yb_ hm
    refine br_t (by decide) ⟨i1, vp_in_nI (by omega) (by omega), ?_⟩
    rw [h1, h2]
    refine br_c (fun e => ?_) (fun e => ?_)
    · rw [show xs_ (a_minus s) (a_minus t) = 0 from if_pos e] at h
      refine And.intro (vp_in_iff.mpr (by decide)) (nm_r (up_e (i := 14) rfl (by omega) (yb_ (Or.inl rfl))) ⟨i1, nm_r (congrArg (upd _ 15) (h3 _)) h⟩)
    · rw [show xs_ (a_minus s) (a_minus t) = 1 from if_neg e] at h
      refine And.intro (vp_in_iff.mpr (by decide)) (nm_r (up_e (i := 14) rfl (by omega) (yb_ (Or.inr rfl))) ⟨i1, nm_r (congrArg (upd _ 15) (h3 _)) h⟩)
  | succ e ih =>
    intro d he h15 h14 hf
    rw [pk_m1]
    refine br_f (nI_pos (by omega)) ⟨41 + 1, ?_⟩
    refine yv_sh (a := dg_ 10 A e) hs ht (by omega) d h15 (yh_n hf ht hB) ((hf _ (by omega)).trans (hA e (by omega))) (dg_lt (by omega) _ _) hB0 (Nat.mod_lt _ hB0) hB' (fun d' k1 k2 k3 => ?_) 41 d (by omega) (fun j h1 h2 => by omega) (fun _ _ => rfl)
    rw [dv_r] at k1
    rw [dv_q (by omega) hB0] at k2
    refine ih d' (by omega) k1 (fun j hj => ?_) (fun c hc => by rw [k3 c (by omega) (by omega), hf c hc])
    by_cases z : j = e
    · subst z; rw [if_pos (by omega)]; exact k2
    · rw [k3 _ (by omega) (by omega), h14 j hj]
      by_cases z' : e + 1 ≤ j
      · rw [if_pos z', if_pos (by omega)]
      · rw [if_neg z', if_neg (by omega)]
theorem yv_zero {post : SY → Prop} {s t : Nat} (d0 : Nat → Int32) (K : ∀ d', (∀ j, j < 82 → d' (14 * 82 + j) = nI 0) → (∀ j, j < 82 → d' (15 * 82 + j) = nI 0) → yh_ d0 d' → ∃ n, wY_divide_39 post (nI s) (nI t) n 40 f_size f_depth f_open a_ops a_args d' a_minus a_begins a_times) : ∀ m i d, i + m = 82 → (∀ j, j < i → d (14 * 82 + j) = nI 0) → (∀ j, j < i → d (15 * 82 + j) = nI 0) → yh_ d0 d → wY_divide_2 post (nI s) (nI t) f_size f_depth f_open (m + 1) (nI i) a_ops a_args d a_minus a_begins a_times := by
  intro m
  induction m with
  | zero =>
    intro i d hi h1 h2 hf
    cases (show i = 82 by omega)
    exact br_t (nI_le (a := 82) (b := 82) (by omega) (by omega)) (K d h1 h2 hf)
  | succ m ih =>
    intro i d hi h1 h2 hf
    refine br_f (nI_ge (b := 82) (by omega) (by omega)) ⟨pk_in (14 * 82 + i) 1312 (by omega) (yi_14 i), ?_⟩
    refine nm_r (up_e (yi_14 i) (by omega) rfl) ⟨pk_in (15 * 82 + i) 1312 (by omega) (yi_15 i), nm_r (up_e (yi_15 i) (by omega) rfl) (nm_r (nI_1 i) ?_)⟩
    refine ih (i + 1) _ (by omega) (fun j hj => ?_) (yw_u (g := fun _ => nI 0) (fun j hj => ?_) rfl) (fun c hc => ?_)
    · rw [pk_un (by omega)]
      exact yw_u (g := fun _ => nI 0) h1 rfl j hj
    · rw [pk_un (by omega)]; exact h2 j hj
    · rw [pk_un (by omega), pk_un (by omega)]; exact hf c hc
theorem y_divide {post : SY → Prop} {s t A B : Nat} (hs : s < 14) (ht : t < 14) (hA : yn_ a_d s A) (hB : yn_ a_d t B) (hB0 : 0 < B) (hA' : A < 10 ^ 40) (hB' : B < 10 ^ 40) (hm : a_minus s = 0 ∨ a_minus s = 1) (K : ∀ d', yn_ d' 14 (A / B) → yn_ d' 15 (A % B) → yh_ a_d d' → post (f_size, f_depth, f_open, a_ops, a_args, d', (upd (upd a_minus 14 (xs_ (a_minus s) (a_minus t))) 15 (a_minus s)), a_begins, a_times)) : wpY_divide post (f_size, f_depth, f_open, a_ops, a_args, a_d, a_minus, a_begins, a_times) (nI s) (nI t) := by
  have h41 : A < 10 ^ 41 := Nat.lt_of_lt_of_le hA' (Nat.pow_le_pow_right (by omega) (by omega))
  refine Exists.intro (82 + 1) (yv_zero a_d (fun d1 z1 z2 f1 => ⟨41 + 1, ?_⟩) 82 0 a_d (by omega) (fun j hj => absurd hj (by omega)) (fun j hj => absurd hj (by omega)) (fun _ _ => rfl))
  refine yv_out hs ht a_d hA hB hB0 hB' hm K 41 d1 (by omega) (fun j hj => ?_) (fun j hj => ?_) f1
  · rw [z2 j hj, Nat.div_eq_of_lt h41, Nat.zero_mod, dg_00]
  · rw [z1 j hj]
    by_cases h : 41 ≤ j
    · rw [if_pos h, dg_z (Nat.lt_of_le_of_lt (Nat.div_le_self A B) h41) h (by omega)]
    · rw [if_neg h]
end
end
section
/-! the reference: order, calculate, the questions -/
def ys_ (d m : Nat → Int32) (s : Nat) (V : Int) : Prop := ∃ A : Nat, yn_ d s A ∧ A < 10 ^ 40 ∧ (m s = 0 ∨ m s = 1) ∧ V = sv_ (m s) A
theorem ys_b {d m : Nat → Int32} {s : Nat} {V : Int} (h : ys_ d m s V) : V.natAbs < 10 ^ 40 := by
  obtain ⟨A, _, hA, hm, rfl⟩ := h
  rw [sv_abs hm]; exact hA
theorem ys_n {d m : Nat → Int32} {s : Nat} {V : Int} (h : ys_ d m s V) : yn_ d s V.natAbs := by
  obtain ⟨A, hn, hA, hm, rfl⟩ := h
  rw [sv_abs hm]; exact hn
theorem ys_m {d m : Nat → Int32} {s : Nat} {V : Int} (h : ys_ d m s V) : m s = 0 ∨ m s = 1 := by
  obtain ⟨A, hn, hA, hm, rfl⟩ := h; exact hm
theorem ys_v {d m : Nat → Int32} {s : Nat} {V : Int} (h : ys_ d m s V) : V = sv_ (m s) V.natAbs := by
  obtain ⟨A, hn, hA, hm, e⟩ := h
  have : V.natAbs = A := by rw [e, sv_abs hm]
  rw [this]; exact e
theorem ys_p {d m : Nat → Int32} {s : Nat} {V : Int} (h : ys_ d m s V) (h0 : m s = 0) : V = (V.natAbs : Int) := by
  have e := ys_v h
  rw [h0, sv_0] at e; exact e
theorem ys_q {d m : Nat → Int32} {s : Nat} {V : Int} (h : ys_ d m s V) (h0 : ¬ m s = 0) : V = -(V.natAbs : Int) := by
  have e := ys_v h
  rw [show m s = 1 from (ys_m h).resolve_left h0, sv_1] at e; exact e
theorem ys_mk {d m : Nat → Int32} {s A : Nat} {V : Int} {c : Int32} (hn : yn_ d s A) (hA : A < 10 ^ 40) (hm : m s = c) (hc : c = 0 ∨ c = 1) (hV : V = sv_ c A) : ys_ d m s V := ⟨A, hn, hA, by rw [hm]; exact hc, by rw [hm]; exact hV⟩
theorem ys_f {d m d' m' : Nat → Int32} {s : Nat} {V : Int} (h : ys_ d m s V) (hd : ∀ j, j < 82 → d' (s * 82 + j) = d (s * 82 + j)) (hm : m' s = m s) : ys_ d' m' s V := by
  obtain ⟨A, hn, hA, h01, e⟩ := h
  exact ⟨A, fun j hj => by rw [hd j hj, hn j hj], hA, by rw [hm]; exact h01, by rw [hm]; exact e⟩
/-- what an operation gives: why the run stops (0: it doesn't), and the value -/
def av_ (o : Nat) (x y : Int) : Int := if o = 3 then x + y else if o = 4 then x - y else if o = 5 then x * y else if o = 6 then x.tdiv y else if o = 7 then x.tmod y else if x < y then 1 else 0
def al_ (o : Nat) (x y : Int) : Nat × Int := if (o = 6 ∨ o = 7) ∧ y = 0 then (1, 0) else if (av_ o x y).natAbs < 10 ^ 40 then (0, av_ o x y) else (2, 0)
theorem al_z {o : Nat} {x y : Int} (h : o = 6 ∨ o = 7) (hy : y = 0) : al_ o x y = (1, 0) := if_pos ⟨h, hy⟩
theorem al_k {o : Nat} {x y : Int} (h : ¬ ((o = 6 ∨ o = 7) ∧ y = 0)) (hb : (av_ o x y).natAbs < 10 ^ 40) : al_ o x y = (0, av_ o x y) := by unfold al_; rw [if_neg h, if_pos hb]
theorem al_2 {o : Nat} {x y : Int} (h : ¬ ((o = 6 ∨ o = 7) ∧ y = 0)) (hb : ¬ (av_ o x y).natAbs < 10 ^ 40) : al_ o x y = (2, 0) := by unfold al_; rw [if_neg h, if_neg hb]
def yo_ (d m : Nat → Int32) (s : Nat) (r : Nat × Int) (c : Int32) (d' m' : Nat → Int32) : Prop := c = nI r.1 ∧ (∀ u V, u < 14 → u ≠ s → ys_ d m u V → ys_ d' m' u V) ∧ (r.1 = 0 → ys_ d' m' s r.2)
section
variable {f_size f_depth f_open : Int32} {a_ops a_args a_d a_minus a_begins a_times : Nat → Int32}
theorem y_o45 {post : Int32 → Prop} {s t : Nat} {x y : Int} {p q : Int32} (hs : s < 14) (ht : t < 14) (hx : ys_ a_d a_minus s x) (hy : ys_ a_d a_minus t y) (hp : (p = 0 ∧ 0 ≤ x) ∨ (p = 1 ∧ x < 0)) (hq : (q = 0 ∧ 0 ≤ y) ∨ (q = 1 ∧ y < 0)) (K : post (oc_ x y)) : wY_order_45 post (nI s) (nI t) p q f_size f_depth f_open a_ops a_args a_d a_minus a_begins a_times := by
  have bx := p_82 (by omega) (ys_b hx)
  have by' := p_82 (by omega) (ys_b hy)
  rcases hp with ⟨rfl, h1⟩ | ⟨rfl, h1⟩ <;> rcases hq with ⟨rfl, h2⟩ | ⟨rfl, h2⟩
  · refine br_t rfl (br_t rfl (y_size (by omega) (by omega) (ys_n hx) (ys_n hy) bx by' ?_))
    rw [← oc_sc, show (x.natAbs : Int) = x by omega, show (y.natAbs : Int) = y by omega]; exact K
  · refine br_f (by decide) (br_t rfl ?_)
    rw [oc_g (by omega)] at K; exact K
  · refine br_f (by decide) (br_f (by decide) ?_)
    rw [oc_l (by omega)] at K; exact K
  · refine br_t rfl (br_f (by decide) (y_size (by omega) (by omega) (ys_n hy) (ys_n hx) by' bx ?_))
    rw [← oc_sn, show -(x.natAbs : Int) = x by omega, show -(y.natAbs : Int) = y by omega]; exact K
theorem y_o22 {post : Int32 → Prop} {s t : Nat} {x y : Int} {p : Int32} (hs : s < 14) (ht : t < 14) (hx : ys_ a_d a_minus s x) (hy : ys_ a_d a_minus t y) (hp : (p = 0 ∧ 0 ≤ x) ∨ (p = 1 ∧ x < 0)) (K : post (oc_ x y)) : wY_order_22 post (nI s) (nI t) p f_size f_depth f_open a_ops a_args a_d a_minus a_begins a_times := by
  have hm : a_minus (nI t).toNatClampNeg = a_minus t := rd_e rfl (by omega) rfl
  refine And.intro (vp_in_nI (by omega) (by omega)) ?_
  rw [hm]
  refine br_c (fun e => y_o45 hs ht hx hy hp (Or.inl ⟨rfl, ?_⟩) K) (fun e => ?_)
  · have := ys_p hy e; omega
  · have e2 := ys_q hy e
    refine y_length (by omega) (ys_n hy) (p_82 (by omega) (ys_b hy)) (fun L hL hL' => ?_)
    have h3 := ln_iff (by omega) hL
    refine ek_if (nI_leI (b := 0) (by omega) (by omega)) (fun h => y_o45 hs ht hx hy hp (Or.inl ⟨rfl, ?_⟩) K) (fun h => y_o45 hs ht hx hy hp (Or.inr ⟨rfl, ?_⟩) K)
    · have := h3.mp (by omega); omega
    · have : ¬ y.natAbs = 0 := fun z => h (by rw [h3.mpr z]; omega)
      omega
theorem y_order {post : Int32 → Prop} {s t : Nat} {x y : Int} (hs : s < 14) (ht : t < 14) (hx : ys_ a_d a_minus s x) (hy : ys_ a_d a_minus t y) (K : post (oc_ x y)) : wpY_order post (f_size, f_depth, f_open, a_ops, a_args, a_d, a_minus, a_begins, a_times) (nI s) (nI t) := by
  have hm : a_minus (nI s).toNatClampNeg = a_minus s := rd_e rfl (by omega) rfl
  refine And.intro (vp_in_nI (by omega) (by omega)) ?_
  rw [hm]
  refine br_c (fun e => y_o22 hs ht hx hy (Or.inl ⟨rfl, ?_⟩) K) (fun e => ?_)
  · have := ys_p hx e; omega
  · have e2 := ys_q hx e
    refine y_length (by omega) (ys_n hx) (p_82 (by omega) (ys_b hx)) (fun L hL hL' => ?_)
    have h3 := ln_iff (by omega) hL
    refine ek_if (nI_leI (b := 0) (by omega) (by omega)) (fun h => y_o22 hs ht hx hy (Or.inl ⟨rfl, ?_⟩) K) (fun h => y_o22 hs ht hx hy (Or.inr ⟨rfl, ?_⟩) K)
    · have := h3.mp (by omega); omega
    · have : ¬ x.natAbs = 0 := fun z => h (by rw [h3.mpr z]; omega)
      omega
theorem y_c136 {post : Int32 → SY → Prop} {s z C : Nat} (hs : s < 14) (hz : z = 14 ∨ z = 15) (hn : yn_ a_d z C) (hC : C < 10 ^ 82) (hm : a_minus z = 0 ∨ a_minus z = 1) (K0 : C < 10 ^ 40 → ∀ d', yn_ d' s C → yg_ a_d d' s 82 → post 0 (f_size, f_depth, f_open, a_ops, a_args, d', (upd a_minus s (a_minus z)), a_begins, a_times)) (K2 : ¬ C < 10 ^ 40 → post 2 (f_size, f_depth, f_open, a_ops, a_args, a_d, a_minus, a_begins, a_times)) : wY_calculate_136 post (nI s) (nI z) f_size f_depth f_open a_ops a_args a_d a_minus a_begins a_times := by
  refine y_length (by omega) hn hC (fun L hL hL' => ?_)
  have h3 := ln_le (n := 40) (by omega) hL
  refine ek_if (nI_leI (b := 40) (by omega) (by omega)) (fun h => ?_) (fun h => K2 (fun z => h (h3.mp z)))
  exact y_copy (by omega) (by omega) (by omega) hm hn (fun d' hn' hf => K0 (h3.mpr h) d' hn' hf)
/-- the end of calculate: what lies in slot 14 or 15 is the value -/
theorem y_fin {post : Int32 → SY → Prop} {o s z C : Nat} {x y : Int} {d0 m0 : Nat → Int32} (hs : s < 14) (hz : z = 14 ∨ z = 15) (hn : yn_ a_d z C) (hC : C < 10 ^ 82) (hm : a_minus z = 0 ∨ a_minus z = 1) (hd : yh_ d0 a_d) (hm0 : ∀ u, u < 14 → a_minus u = m0 u) (hne : ¬ ((o = 6 ∨ o = 7) ∧ y = 0)) (hv : av_ o x y = sv_ (a_minus z) C) (K : ∀ c d' m', yo_ d0 m0 s (al_ o x y) c d' m' → post c (f_size, f_depth, f_open, a_ops, a_args, d', m', a_begins, a_times)) : wY_calculate_136 post (nI s) (nI z) f_size f_depth f_open a_ops a_args a_d a_minus a_begins a_times := by
  have ha : (av_ o x y).natAbs = C := by rw [hv, sv_abs hm]
  refine y_c136 hs hz hn hC hm (fun h d' hn' hf => K _ _ _ ?_) (fun h => K _ _ _ ?_)
  · rw [al_k hne (by rw [ha]; exact h)]
    refine ⟨rfl, fun u V hu hus hV => ys_f hV (fun j hj => ?_) ?_, fun _ => ys_mk hn' h pk_us hm hv⟩
    · rw [hf _ (by omega)]; exact hd _ (by omega)
    · rw [pk_un hus]; exact hm0 u hu
  · rw [al_2 hne (by rw [ha]; exact h)]
    refine ⟨rfl, fun u V hu hus hV => ys_f hV (fun j hj => ?_) (hm0 u hu), fun z => absurd z (by decide)⟩
    exact hd _ (by omega)
theorem y_c22 {post : Int32 → SY → Prop} {o s t : Nat} {x y : Int} (ho : 3 ≤ o) (ho' : o ≤ 8) (hs : s < 14) (ht : t < 14) (hx : ys_ a_d a_minus s x) (hy : ys_ a_d a_minus t y) (hne : ¬ ((o = 6 ∨ o = 7) ∧ y = 0)) (K : ∀ c d' m', yo_ a_d a_minus s (al_ o x y) c d' m' → post c (f_size, f_depth, f_open, a_ops, a_args, d', m', a_begins, a_times)) : wY_calculate_22 post (nI o) (nI s) (nI t) f_size f_depth f_open a_ops a_args a_d a_minus a_begins a_times := by
  have bx := ys_b hx
  have by' := ys_b hy
  have vx := ys_v hx
  have vy := ys_v hy
  have mx := ys_m hx
  have my := ys_m hy
  have hmt : a_minus (nI t).toNatClampNeg = a_minus t := rd_e rfl (by omega) rfl
  have i2 := vp_in_nI (n := t) (N := 16) (by omega) (by omega)
  have n7 : o ≠ 7 → ¬ nI o = (7 : Int32) := fun h z => h ((nI_eq (b := 7) (by omega) (by omega)).mp z)
  refine pk_eq o 3 (fun e => ?_) (fun e3 => ?_)
  · subst e
    refine And.intro i2 ?_
    rw [hmt]
    refine y_add hs ht (ys_n hx) (ys_n hy) bx by' mx my (fun d' c C hn hf hc hC hv => ?_)
    refine br_f (n7 (by omega)) (y_fin (z := 14) (m0 := a_minus) (d0 := a_d) hs (Or.inl rfl) hn (Nat.lt_of_le_of_lt hC (p_82 (by omega) (p_41 bx by'))) (by rw [pk_us]; exact hc) hf (fun u hu => pk_un (by omega)) hne ?_ K)
    rw [pk_us, hv, ← vx, ← vy]; rfl
  refine pk_eq o 4 (fun e => ?_) (fun e4 => ?_)
  · subst e
    refine And.intro i2 ?_
    rw [hmt]
    refine br_c (fun e => ?_) (fun e => ?_)
    · refine y_add (cb := 1) hs ht (ys_n hx) (ys_n hy) bx by' mx (Or.inr rfl) (fun d' c C hn hf hc hC hv => ?_)
      refine br_f (n7 (by omega)) (y_fin (z := 14) (m0 := a_minus) (d0 := a_d) hs (Or.inl rfl) hn (Nat.lt_of_le_of_lt hC (p_82 (by omega) (p_41 bx by'))) (by rw [pk_us]; exact hc) hf (fun u hu => pk_un (by omega)) hne ?_ K)
      have h1 := ys_p hy e
      rw [pk_us, hv, ← vx, sv_1, ← h1]; rfl
    · refine y_add (cb := 0) hs ht (ys_n hx) (ys_n hy) bx by' mx (Or.inl rfl) (fun d' c C hn hf hc hC hv => ?_)
      refine br_f (n7 (by omega)) (y_fin (z := 14) (m0 := a_minus) (d0 := a_d) hs (Or.inl rfl) hn (Nat.lt_of_le_of_lt hC (p_82 (by omega) (p_41 bx by'))) (by rw [pk_us]; exact hc) hf (fun u hu => pk_un (by omega)) hne ?_ K)
      have h1 := ys_q hy e
      rw [pk_us, hv, ← vx, sv_0]
      show x - y = _
      omega
  refine pk_eq o 5 (fun e => ?_) (fun e5 => ?_)
  · subst e
    have b41 : ∀ {A : Nat}, A < 10 ^ 40 → A < 10 ^ 41 := fun h => Nat.lt_of_lt_of_le h (Nat.pow_le_pow_right (by omega) (by omega))
    refine y_product hs ht (ys_n hx) (ys_n hy) (b41 bx) (b41 by') (fun d' hn hf => ?_)
    refine br_f (n7 (by omega)) (y_fin (z := 14) (m0 := a_minus) (d0 := a_d) hs (Or.inl rfl) hn (p_mul (b41 bx) (b41 by') rfl) (by rw [pk_us]; exact xs_01 _ _) hf (fun u hu => pk_un (by omega)) hne ?_ K)
    rw [pk_us, sv_mul mx my, ← vx, ← vy]; rfl
  refine pk_eq o 8 (fun e => ?_) (fun e8 => ?_)
  · subst e
    refine y_order hs ht hx hy ?_
    have h82 : (1 : Nat) < 10 ^ 82 := Nat.one_lt_pow (by omega) (by omega)
    refine ek_if (oc_lt0 x y) (fun h => ?_) (fun h => ?_)
    · refine y_write (s := 14) (x := 0) (by omega) (fun d' c V hn hV hf hc hv => ?_)
      have h0 : V = 0 := by rw [← sv_abs hc V, ← hv]; rfl
      subst h0
      refine br_f (n7 (by omega)) (y_fin (z := 14) (m0 := a_minus) (d0 := a_d) hs (Or.inl rfl) hn (by omega) (by rw [pk_us]; exact hc) (yh_g hf (by omega)) (fun u hu => pk_un (by omega)) hne ?_ K)
      rw [pk_us, ← hv]
      exact if_neg h
    · refine y_write (s := 14) (x := 1) (by omega) (fun d' c V hn hV hf hc hv => ?_)
      have h0 : V = 1 := by rw [← sv_abs hc V, ← hv]; rfl
      subst h0
      refine br_f (n7 (by omega)) (y_fin (z := 14) (m0 := a_minus) (d0 := a_d) hs (Or.inl rfl) hn h82 (by rw [pk_us]; exact hc) (yh_g hf (by omega)) (fun u hu => pk_un (by omega)) hne ?_ K)
      rw [pk_us, ← hv]
      exact if_pos (Decidable.of_not_not h)
  have hB0 : 0 < y.natAbs := by
    have : ¬ y = 0 := fun z => hne ⟨by omega, z⟩
    omega
  refine y_divide hs ht (ys_n hx) (ys_n hy) hB0 bx by' mx (fun d' hn hn' hf => ?_)
  refine pk_eq o 7 (fun e => ?_) (fun e7 => ?_)
  · subst e
    refine y_fin (z := 15) (m0 := a_minus) (d0 := a_d) hs (Or.inr rfl) hn' (Nat.lt_of_le_of_lt (Nat.mod_le _ _) (p_82 (by omega) bx)) (by rw [pk_us]; exact mx) hf (fun u hu => by rw [pk_un (by omega), pk_un (by omega)]) hne ?_ K
    rw [pk_us, sv_mod mx my, ← vx, ← vy]; rfl
  · cases (show o = 6 by omega)
    refine y_fin (z := 14) (m0 := a_minus) (d0 := a_d) hs (Or.inl rfl) hn (Nat.lt_of_le_of_lt (Nat.div_le_self _ _) (p_82 (by omega) bx)) (by rw [pk_un (by omega), pk_us]; exact xs_01 _ _) hf (fun u hu => by rw [pk_un (by omega), pk_un (by omega)]) hne ?_ K
    rw [pk_un (by omega), pk_us, sv_div mx my, ← vx, ← vy]; rfl
theorem y_c12 {post : Int32 → SY → Prop} {o s t : Nat} {x y : Int} (ho : o = 6 ∨ o = 7) (hs : s < 14) (ht : t < 14) (hx : ys_ a_d a_minus s x) (hy : ys_ a_d a_minus t y) (K : ∀ c d' m', yo_ a_d a_minus s (al_ o x y) c d' m' → post c (f_size, f_depth, f_open, a_ops, a_args, d', m', a_begins, a_times)) : wY_calculate_12 post (nI o) (nI s) (nI t) f_size f_depth f_open a_ops a_args a_d a_minus a_begins a_times := by
  refine y_length (by omega) (ys_n hy) (p_82 (by omega) (ys_b hy)) (fun L hL hL' => ?_)
  have h3 := ln_iff (by omega) hL
  refine ek_if (eq_0 rfl (by omega)) (fun h => K _ _ _ ?_) (fun h => y_c22 (by omega) (by omega) hs ht hx hy (fun z => h (h3.mpr (by rw [z.2]; rfl))) K)
  rw [al_z ho (by have := h3.mp h; omega)]
  exact ⟨rfl, fun u V _ _ hV => hV, fun z => absurd z (by decide)⟩
theorem y_calc {post : Int32 → SY → Prop} {o s t : Nat} {x y : Int} (ho : 3 ≤ o) (ho' : o ≤ 8) (hs : s < 14) (ht : t < 14) (hx : ys_ a_d a_minus s x) (hy : ys_ a_d a_minus t y) (K : ∀ c d' m', yo_ a_d a_minus s (al_ o x y) c d' m' → post c (f_size, f_depth, f_open, a_ops, a_args, d', m', a_begins, a_times)) : wpY_calculate post (f_size, f_depth, f_open, a_ops, a_args, a_d, a_minus, a_begins, a_times) (nI o) (nI s) (nI t) :=
  pk_eq o 6 (fun e => y_c12 (Or.inl e) hs ht hx hy K) (fun e6 => pk_eq o 7 (fun e => y_c12 (Or.inr e) hs ht hx hy K) (fun e7 => y_c22 ho ho' hs ht hx hy (fun z => by omega) K))
/-! the questions -/
theorem y_bad0 {post : Int32 → Prop} {v : Nat} (hv : v < 8) (K : post 0) : wpY_bad post (f_size, f_depth, f_open, a_ops, a_args, a_d, a_minus, a_begins, a_times) (nI v) :=
  br_f (nI_pos (by omega)) (br_t (nI_le (a := v) (b := 7) (by omega) (by omega)) K)
theorem y_bad1 {post : Int32 → Prop} {x : Int32} (hv : x < 0 ∨ nI 8 ≤ x) (K : post 1) : wpY_bad post (f_size, f_depth, f_open, a_ops, a_args, a_d, a_minus, a_begins, a_times) x := by
  by_cases h : x < 0
  · exact br_t h K
  · refine br_f h (br_f (fun z => ?_) K)
    have h8 := hv.resolve_left h
    rw [Int32.le_iff_toInt_le] at z h8
    have e1 : (nI 8).toInt = 8 := by decide
    have e2 : (7 : Int32).toInt = 7 := by decide
    omega
theorem y_sign {post : Int32 → Prop} {v : Nat} {V : Int} (hv : v < 8) (hV : ys_ a_d a_minus v V) (K : post (oc_ V 0)) : wpY_sign post (f_size, f_depth, f_open, a_ops, a_args, a_d, a_minus, a_begins, a_times) (nI v) := by
  unfold wpY_sign
  refine y_bad0 hv (br_t rfl ?_)
  refine y_length (by omega) (ys_n hV) (p_82 (by omega) (ys_b hV)) (fun L hL hL' => ?_)
  have h3 := ln_iff (by omega) hL
  have hm : a_minus (nI v).toNatClampNeg = a_minus v := rd_e rfl (by omega) rfl
  refine ek_if (eq_0 rfl (by omega)) (fun h => ?_) (fun h => And.intro (vp_in_nI (by omega) (by omega)) ?_)
  · rw [oc_e (by have := h3.mp h; omega)] at K; exact K
  · have h4 : ¬ V.natAbs = 0 := fun z => h (h3.mpr z)
    rw [hm]
    refine br_c (fun e => ?_) (fun e => ?_)
    · have := ys_p hV e
      rw [oc_g (by omega)] at K; exact K
    · have := ys_q hV e
      rw [oc_l (by omega)] at K; exact K
theorem y_digits {post : Int32 → Prop} {v : Nat} {V : Int} (hv : v < 8) (hV : ys_ a_d a_minus v V) (K : ∀ L, Ln_ 10 L V.natAbs → post (nI (if L = 0 then 1 else L))) : wpY_digits post (f_size, f_depth, f_open, a_ops, a_args, a_d, a_minus, a_begins, a_times) (nI v) := by
  unfold wpY_digits
  refine y_bad0 hv (br_t rfl ?_)
  refine y_length (by omega) (ys_n hV) (p_82 (by omega) (ys_b hV)) (fun L hL hL' => ?_)
  have h := K L hL
  refine ek_if (eq_0 rfl (by omega)) (fun e => ?_) (fun e => ?_)
  · rw [if_pos e] at h; exact h
  · rw [if_neg e] at h; exact h
theorem y_digit {post : Int32 → Prop} {v i : Nat} {V : Int} (hv : v < 8) (hi : i < 2147483648) (hV : ys_ a_d a_minus v V) (K : post (nI (dg_ 10 V.natAbs i))) : wpY_digit post (f_size, f_depth, f_open, a_ops, a_args, a_d, a_minus, a_begins, a_times) (nI v) (nI i) := by
  unfold wpY_digit
  refine y_bad0 hv ?_
  refine (br_t rfl (br_t (nI_pos' (by omega)) (pk_le 82 i (fun h => ?_) (fun h => ⟨pk_in (v * 82 + i) 1312 (by omega) (yi_ v i), ?_⟩))))
  · rw [dg_z (p_82 (by omega) (ys_b hV)) h (by omega)] at K; exact K
  · rw [rd_e (yi_ v i) (by omega) (ys_n hV i (by omega))]; exact K
theorem y_compare {post : Int32 → Prop} {v w : Nat} {V W : Int} (hv : v < 8) (hw : w < 8) (hV : ys_ a_d a_minus v V) (hW : ys_ a_d a_minus w W) (K : post (oc_ V W)) : wpY_compare post (f_size, f_depth, f_open, a_ops, a_args, a_d, a_minus, a_begins, a_times) (nI v) (nI w) := by
  unfold wpY_compare
  refine y_bad0 hv (br_t rfl ?_)
  refine y_bad0 hw (br_t rfl ?_)
  exact y_order (by omega) (by omega) hV hW K
theorem ysm_loop {post : Int64 → Prop} {v A : Nat} (hv : v < 8) (hn : yn_ a_d v A) (hA : A < 10000000000) (K : a_minus v = 0 → post (lN A)) (K' : ¬ a_minus v = 0 → post (-lN A)) : ∀ e, e ≤ 10 → wY_small_6 post (nI v) f_size f_depth f_open a_ops a_args a_d a_minus a_begins a_times (e + 1) (lN (A / 10 ^ e)) (nI e + (-1)) := by
  intro e
  induction e with
  | zero =>
    intro _
    have hm : a_minus (nI v).toNatClampNeg = a_minus v := rd_e rfl (by omega) rfl
    refine br_t (by decide) ⟨vp_in_nI (by omega) (by omega), ?_⟩
    rw [hm, Nat.pow_zero, Nat.div_one]
    exact br_c K K'
  | succ e ih =>
    intro he
    rw [pk_m1]
    have hd := dg_lt (b := 10) (by omega) A e
    have hx : lN (A / 10 ^ (e + 1)) * 10 + (a_d (nI v * 82 + nI e).toNatClampNeg).toInt64 = lN (A / 10 ^ e) := by
      rw [rd_e (yi_ v e) (by omega) (hn e (by omega)), nI_l (by omega), show (10 : Int64) = lN 10 from rfl, lN_mul, lN_add, ← dg_dv]
    refine br_f (nI_pos (by omega)) ⟨pk_in (v * 82 + e) 1312 (by omega) (yi_ v e), nm_r hx (nm_e ?_)⟩
    exact ih (by omega)
theorem y_small {post : Int64 → Prop} {v : Nat} {V : Int} (hv : v < 8) (hV : ys_ a_d a_minus v V) (hA : V.natAbs < 10000000000) (K : post (jz_I V)) : wpY_small post (f_size, f_depth, f_open, a_ops, a_args, a_d, a_minus, a_begins, a_times) (nI v) := by
  refine Exists.intro (10 + 1) ?_
  have h := ysm_loop (f_size := f_size) (f_depth := f_depth) (f_open := f_open) (a_ops := a_ops) (a_args := a_args) (a_minus := a_minus) (a_begins := a_begins) (a_times := a_times) (post := post) hv (ys_n hV) hA (fun e => by rw [jz_n, ← ys_p hV e]; exact K) (fun e => by rw [jz_n, jz_neg, ← ys_q hV e]; exact K) 10 (by omega)
  rw [Nat.div_eq_of_lt hA] at h
  exact h
def ii_ (V : Int) : Prop := -2147483648 ≤ V ∧ V ≤ 2147483647
theorem y_isInt {post : Int32 → Prop} {v : Nat} {V : Int} (hv : v < 8) (hV : ys_ a_d a_minus v V) (K1 : ii_ V → post 1) (K0 : ¬ ii_ V → post 0) : wpY_isInt post (f_size, f_depth, f_open, a_ops, a_args, a_d, a_minus, a_begins, a_times) (nI v) := by
  unfold wpY_isInt
  refine y_bad0 hv (br_t rfl ?_)
  refine y_length (by omega) (ys_n hV) (p_82 (by omega) (ys_b hV)) (fun L hL hL' => ?_)
  have h3 := ln_le (n := 10) (by omega) hL
  have e1 : (-2147483648 : Int64) = jz_I (-2147483648) := by decide
  have e2 : (2147483647 : Int64) = jz_I 2147483647 := by decide
  refine ek_if (nI_leI (b := 10) (by omega) (by omega)) (fun h => ?_) (fun h => K0 (fun z => ?_))
  · have hA : V.natAbs < 10000000000 := h3.mpr h
    refine y_small hv hV hA ?_
    rw [e1, e2]
    refine ek_if (jz_lt (by omega) (by omega) (by omega) (by omega)) (fun h => K0 (fun z => ?_)) (fun h => ek_if (jz_lt (by omega) (by omega) (by omega) (by omega)) (fun h' => K0 (fun z => ?_)) (fun h' => K1 ?_))
    · have := z.1; omega
    · have := z.2; omega
    · exact ⟨by omega, by omega⟩
  · apply h; apply h3.mp
    have := z.1; have := z.2
    show V.natAbs < 10000000000
    omega
theorem y_asInt {post : Int32 → Prop} {v : Nat} {V : Int} (hv : v < 8) (hV : ys_ a_d a_minus v V) (K1 : ii_ V → post (iz_I V)) (K0 : ¬ ii_ V → post 0) : wpY_asInt post (f_size, f_depth, f_open, a_ops, a_args, a_d, a_minus, a_begins, a_times) (nI v) := by
  unfold wpY_asInt
  refine y_isInt hv hV (fun h => ?_) (fun h => br_t rfl (K0 h))
  refine br_f (by decide) ?_
  have h1 := h.1
  have h2 := h.2
  refine y_small hv hV (by omega) ?_
  rw [jz_32 (by omega) (by omega)]; exact K1 h
theorem y_set {post : Int32 → SY → Prop} {v : Nat} {x : Int32} (hv : v < 8) (K : ∀ d' m', ys_ d' m' v x.toInt → (∀ u V, u < 14 → u ≠ v → ys_ a_d a_minus u V → ys_ d' m' u V) → post 0 (f_size, f_depth, f_open, a_ops, a_args, d', m', a_begins, a_times)) : wpY_set post (f_size, f_depth, f_open, a_ops, a_args, a_d, a_minus, a_begins, a_times) (nI v) x := by
  unfold wpY_set
  refine y_bad0 hv (br_t rfl ?_)
  refine y_write (by omega) (fun d' c V hn hV hf hc hx => ?_)
  refine K _ _ (ys_mk hn (Nat.lt_of_le_of_lt hV (Nat.lt_of_lt_of_le (show 2147483648 < 10 ^ 10 by decide) (Nat.pow_le_pow_right (by omega) (by omega)))) pk_us hc hx) (fun u V hu huv hV => ys_f hV (fun j hj => hf _ (by omega)) (pk_un huv))
end
end
section
/-! the component's words and blocks -/
def sg_ (V : Int) : Int32 := if V < 0 then -1 else 1
def sm_ (V : Int) : Prop := -1073741824 ≤ V ∧ V ≤ 1073741823
def wd_ (z s l : Nat → Int32) (w : Int32) (V : Int) : Prop :=
  (sm_ V ∧ w = iz_I (2 * V + 1)) ∨ (∃ h L : Nat, h < 24 ∧ w = nI (2 * h) ∧ ¬ sm_ V ∧ V.natAbs < 10000 ^ 10 ∧ s h = sg_ V ∧ z h = nI L ∧ Ln_ 10000 L V.natAbs ∧ ∀ j, j < 10 → l (h * 10 + j) = nI (dg_ 10000 V.natAbs j))
theorem p_10 : 10000 ^ 10 = 10 ^ 40 := by rw [d4_p]
theorem sm_b {V : Int} (h : sm_ V) : V.natAbs < 10000 ^ 3 := by
  have h1 := h.1; have h2 := h.2
  show V.natAbs < 1000000000000
  omega
theorem p_x {A n : Nat} (h : A < 10000 ^ n) (hn : n ≤ 10) : A < 10000 ^ 10 := Nat.lt_of_lt_of_le h (Nat.pow_le_pow_right (by omega) hn)
theorem wd_b {z s l : Nat → Int32} {w : Int32} {V : Int} (h : wd_ z s l w V) : V.natAbs < 10000 ^ 10 := by
  rcases h with ⟨h, _⟩ | ⟨_, _, _, _, _, h, _⟩
  · exact p_x (sm_b h) (by omega)
  · exact h
theorem wb_odd {V : Int} (h : sm_ V) : (iz_I (2 * V + 1)) &&& 1 = 1 := by
  have h1 := h.1; have h2 := h.2
  have e : (iz_I (2 * V + 1)).toBitVec.toInt = 2 * V + 1 := iz_t (by omega) (by omega)
  rw [BitVec.toInt_eq_toNat_cond] at e
  rw [pk_and _ 1 (by decide), show (iz_I (2 * V + 1)).toBitVec.toNat % 2 ^ 1 = 1 by split at e <;> omega]
  rfl
theorem wb_ev {h : Nat} (hh : h < 24) : (nI (2 * h)) &&& 1 = nI 0 := by
  rw [pk_andN (by omega) 1 (by decide)]
  exact congrArg nI (by omega)
theorem wb_so {V : Int} (h : sm_ V) : (iz_I (2 * V + 1)) >>> ((1 : Int32) &&& 31) = iz_I V := by
  have h1 := h.1; have h2 := h.2
  apply Int32.toInt_inj.mp
  rw [pk_shr _ _ 1 (by decide), iz_t (by omega) (by omega), iz_t (by omega) (by omega), Int.shiftRight_eq_div_pow]
  omega
theorem wb_se {h : Nat} (hh : h < 24) : (nI (2 * h)) >>> ((1 : Int32) &&& 31) = nI h := by
  rw [pk_shrN (by omega) _ 1 (by decide)]
  exact congrArg nI (by omega)
theorem wb_mk {V : Int} (h : sm_ V) : ((jz_I V).toInt32 <<< ((1 : Int32) &&& 31)) ||| 1 = iz_I (2 * V + 1) := by
  have h1 := h.1; have h2 := h.2
  rw [jz_32 (by omega) (by omega)]
  have e1 : iz_I V <<< ((1 : Int32) &&& 31) = iz_I V * 2 := by
    apply Int32.toBitVec_inj.mp
    apply BitVec.eq_of_toNat_eq
    rw [pk_shl _ _ 1 (by decide), Int32.toBitVec_mul, BitVec.toNat_mul]
    rfl
  have e2 : (iz_I V * 2).toBitVec.toNat % 2 ^ 1 = 0 := by
    rw [← e1, pk_shl _ _ 1 (by decide)]; omega
  have e3 : (iz_I V * 2) &&& 1 = 0 := by
    rw [pk_and _ 1 (by decide), e2]; rfl
  have e4 : iz_I V * 2 ||| 1 = iz_I V * 2 + 1 := by
    apply Int32.toBitVec_inj.mp
    rw [Int32.toBitVec_or, Int32.toBitVec_add]
    refine (BitVec.add_eq_or_of_and_eq_zero _ _ ?_).symm
    have := congrArg Int32.toBitVec e3
    rw [Int32.toBitVec_and] at this
    exact this
  rw [e1, e4, show (2 : Int32) = iz_I 2 from rfl, iz_mul, iz_1, iz_add, Int.mul_comm]
theorem wb_ne {V : Int} (hV : sm_ V) {h : Nat} (hh : h < 24) : ¬ iz_I (2 * V + 1) = nI (2 * h) := by
  intro e
  have h1 := wb_odd hV
  rw [e, wb_ev hh] at h1
  exact absurd h1 (by decide)
theorem wd_0 {z s l : Nat → Int32} {w : Int32} {V : Int} (h : wd_ z s l w V) : w = 1 ↔ V = 0 := by
  rcases h with ⟨h, e⟩ | ⟨k, _, hk, e, hn, _⟩
  · have h1 := h.1; have h2 := h.2
    rw [e, iz_1, iz_eq (by omega) (by omega) (by omega) (by omega)]; omega
  · constructor
    · intro e1
      rw [e1] at e
      have := wb_ev hk
      rw [← e] at this
      exact absurd this (by decide)
    · intro e1
      exact absurd (by rw [e1]; exact ⟨by omega, by omega⟩) hn
/-! counting the holders -/
def hb_ (w : Int32) (h : Nat) : Nat := if w = nI (2 * h) then 1 else 0
def cn_ (W : Nat → Int32) : Nat → Nat → Nat
  | 0, _ => 0
  | n + 1, h => cn_ W n h + hb_ (W n) h
theorem hb_le (w : Int32) (h : Nat) : hb_ w h ≤ 1 := by
  unfold hb_
  by_cases e : w = nI (2 * h)
  · rw [if_pos e]; omega
  · rw [if_neg e]; omega
theorem hb_s {V : Int} (hV : sm_ V) {h : Nat} (hh : h < 24) : hb_ (iz_I (2 * V + 1)) h = 0 := if_neg (wb_ne hV hh)
theorem hb_b {k h : Nat} (hk : k < 24) (hh : h < 24) : hb_ (nI (2 * k)) h = if h = k then 1 else 0 := by
  unfold hb_
  by_cases e : h = k
  · subst e; rw [if_pos rfl, if_pos rfl]
  · rw [if_neg e, if_neg (fun z => e (by have := (nI_eq (by omega) (by omega)).mp z; omega))]
theorem cn_le (W : Nat → Int32) (n h : Nat) : cn_ W n h ≤ n := by
  induction n with
  | zero => exact Nat.le_refl 0
  | succ n ih => show cn_ W n h + hb_ (W n) h ≤ n + 1; have := hb_le (W n) h; omega
theorem cn_in {W : Nat → Int32} {n i h : Nat} (hi : i < n) (hw : W i = nI (2 * h)) : cn_ W n h ≠ 0 := by
  induction n with
  | zero => omega
  | succ n ih =>
    show cn_ W n h + hb_ (W n) h ≠ 0
    by_cases e : i = n
    · subst e; rw [show hb_ (W i) h = 1 from if_pos hw]; omega
    · have := ih (by omega); omega
theorem cn_c {W W' : Nat → Int32} {n h : Nat} (e : ∀ i, i < n → W' i = W i) : cn_ W' n h = cn_ W n h := by
  induction n with
  | zero => rfl
  | succ n ih => show cn_ W' n h + hb_ (W' n) h = cn_ W n h + hb_ (W n) h; rw [ih (fun i hi => e i (by omega)), e n (by omega)]
theorem cn_u {W : Nat → Int32} {n k h : Nat} {w : Int32} (hk : k < n) : cn_ (upd W k w) n h + hb_ (W k) h = cn_ W n h + hb_ w h := by
  induction n with
  | zero => omega
  | succ n ih =>
    show cn_ (upd W k w) n h + hb_ (upd W k w n) h + hb_ (W k) h = cn_ W n h + hb_ (W n) h + hb_ w h
    by_cases e : k = n
    · subst e
      rw [cn_c (W := W) (fun i hi => pk_un (by omega)), pk_us]; omega
    · have := ih (by omega)
      rw [pk_un (by omega)]; omega
def sn_ (c : Nat → Nat) : Nat → Nat
  | 0 => 0
  | n + 1 => sn_ c n + c n
theorem sn_hb (w : Int32) : ∀ n, n ≤ 24 → sn_ (hb_ w) n ≤ 1 := by
  intro n
  by_cases hw : ∃ k, k < 24 ∧ w = nI (2 * k)
  · obtain ⟨k, hk, rfl⟩ := hw
    suffices h : ∀ n, n ≤ 24 → sn_ (hb_ (nI (2 * k))) n = if k < n then 1 else 0 by
      intro hn
      rw [h n hn]
      by_cases e : k < n
      · rw [if_pos e]; omega
      · rw [if_neg e]; omega
    intro n
    induction n with
    | zero => intro _; rw [if_neg (by omega)]; rfl
    | succ n ih =>
      intro hn
      show sn_ _ n + hb_ _ n = _
      rw [ih (by omega), hb_b hk (by omega)]
      by_cases e : k < n
      · rw [if_pos e, if_neg (by omega), if_pos (by omega)]
      · rw [if_neg e]
        by_cases e' : n = k
        · rw [if_pos e', if_pos (by omega)]
        · rw [if_neg e', if_neg (by omega)]
  · induction n with
    | zero => intro _; exact Nat.zero_le 1
    | succ n ih =>
      intro hn
      show sn_ _ n + hb_ _ n ≤ 1
      rw [show hb_ w n = 0 from if_neg (fun z => hw ⟨n, by omega, z⟩)]
      exact ih (by omega)
theorem sn_a {c c1 c2 : Nat → Nat} : ∀ n, (∀ h, h < n → c h = c1 h + c2 h) → sn_ c n = sn_ c1 n + sn_ c2 n := by
  intro n
  induction n with
  | zero => intro _; rfl
  | succ n ih =>
    intro h
    show sn_ c n + c n = sn_ c1 n + c1 n + (sn_ c2 n + c2 n)
    rw [ih (fun i hi => h i (by omega)), h n (by omega)]; omega
theorem sn_cn (W : Nat → Int32) : ∀ m, sn_ (cn_ W m) 23 ≤ m := by
  intro m
  induction m with
  | zero => exact Nat.le_of_eq (by rfl)
  | succ m ih =>
    rw [sn_a (c := cn_ W (m + 1)) (c1 := cn_ W m) (c2 := hb_ (W m)) 23 (fun _ _ => rfl)]
    have := sn_hb (W m) 23 (by omega)
    omega
theorem sn_p {c : Nat → Nat} : ∀ n, (∀ h, h < n → c h ≠ 0) → n ≤ sn_ c n := by
  intro n
  induction n with
  | zero => intro _; exact Nat.zero_le _
  | succ n ih =>
    intro h
    have h1 := ih (fun i hi => h i (by omega))
    have h2 := h n (by omega)
    show n + 1 ≤ sn_ c n + c n
    omega
/-- the memory: what the holders count, and that a block is free -/
def hc_ (H : Nat → Int32) (c : Nat → Nat) : Prop := (∀ h, h < 24 → H h = nI (c h) ∧ c h < 1000) ∧ sn_ c 23 < 23
theorem hc_cn {H W : Nat → Int32} {m : Nat} (h : ∀ k, k < 24 → H k = nI (cn_ W m k)) (hm : m < 23) : hc_ H (cn_ W m) :=
  ⟨fun k hk => ⟨h k hk, by have := cn_le W m k; omega⟩, by have := sn_cn W m; omega⟩
/-- a new word: it stands for V, its holder is counted, and what is held stays -/
def nw_ (c : Nat → Nat) (z s l : Nat → Int32) (w : Int32) (V : Int) (H' z' s' l' : Nat → Int32) : Prop :=
  wd_ z' s' l' w V ∧ (∀ h, h < 24 → H' h = nI (c h + hb_ w h)) ∧ (∀ w' V', wd_ z s l w' V' → (∀ h, h < 24 → w' = nI (2 * h) → c h ≠ 0) → wd_ z' s' l' w' V')
theorem nw_s {c : Nat → Nat} {H z s l : Nat → Int32} {V : Int} (hH : hc_ H c) (hV : sm_ V) : nw_ c z s l (iz_I (2 * V + 1)) V H z s l :=
  ⟨Or.inl ⟨hV, rfl⟩, fun h hh => by rw [hb_s hV hh, Nat.add_zero]; exact (hH.1 h hh).1, fun _ _ h _ => h⟩
section
variable {f_length f_depth f_open f_top f_repeats f_lenA f_signA f_lenB f_signB f_lenR f_signR f_fault : Int32} {a_op a_arg a_mate a_openAt a_var a_stack a_turns a_holders a_size a_signOf a_limb a_a a_b a_r a_rest : Nat → Int32}
theorem x_s1 {post : Int32 → Prop} {V : Int} (h : sm_ V) (K : post 1) : wpX_isSmall post (iz_I (2 * V + 1)) := br_t (wb_odd h) K
theorem x_s0 {post : Int32 → Prop} {h : Nat} (hh : h < 24) (K : post 0) : wpX_isSmall post (nI (2 * h)) :=
  br_f (by rw [wb_ev hh]; decide) K
theorem x_hold {post : SX → Prop} {w : Int32} {V : Int} (hw : wd_ a_size a_signOf a_limb w V) (K : ∀ H', (∀ h, h < 24 → H' h = a_holders h + nI (hb_ w h)) → post (f_length, f_depth, f_open, f_top, f_repeats, f_lenA, f_signA, f_lenB, f_signB, f_lenR, f_signR, f_fault, a_op, a_arg, a_mate, a_openAt, a_var, a_stack, a_turns, H', a_size, a_signOf, a_limb, a_a, a_b, a_r, a_rest)) : wpX_hold post (f_length, f_depth, f_open, f_top, f_repeats, f_lenA, f_signA, f_lenB, f_signB, f_lenR, f_signR, f_fault, a_op, a_arg, a_mate, a_openAt, a_var, a_stack, a_turns, a_holders, a_size, a_signOf, a_limb, a_a, a_b, a_r, a_rest) w := by
  unfold wpX_hold
  rcases hw with ⟨h, rfl⟩ | ⟨k, _, hk, rfl, _⟩
  · refine x_s1 h ?_
    exact (br_f (by decide) (K a_holders (fun j hj => by rw [hb_s h hj, nI_0, Int32.add_zero])))
  · have i1 := pk_in (x := nI (2 * k) >>> ((1 : Int32) &&& 31)) k 24 hk (wb_se hk)
    refine x_s0 hk ?_
    refine (br_t rfl ⟨i1, i1, nm_r (up_e (wb_se hk) (by omega) rfl) (K _ (fun j hj => ?_))⟩)
    rw [rd_e (f := a_holders) (wb_se hk) (by omega) rfl, hb_b hk hj]
    by_cases e : j = k
    · subst e; rw [pk_us, if_pos rfl]; rfl
    · rw [pk_un e, if_neg e, nI_0, Int32.add_zero]
theorem x_letGo {post : SX → Prop} {w : Int32} {V : Int} (hw : wd_ a_size a_signOf a_limb w V) (K : ∀ H', (∀ h, h < 24 → H' h = a_holders h - nI (hb_ w h)) → post (f_length, f_depth, f_open, f_top, f_repeats, f_lenA, f_signA, f_lenB, f_signB, f_lenR, f_signR, f_fault, a_op, a_arg, a_mate, a_openAt, a_var, a_stack, a_turns, H', a_size, a_signOf, a_limb, a_a, a_b, a_r, a_rest)) : wpX_letGo post (f_length, f_depth, f_open, f_top, f_repeats, f_lenA, f_signA, f_lenB, f_signB, f_lenR, f_signR, f_fault, a_op, a_arg, a_mate, a_openAt, a_var, a_stack, a_turns, a_holders, a_size, a_signOf, a_limb, a_a, a_b, a_r, a_rest) w := by
  unfold wpX_letGo
  rcases hw with ⟨h, rfl⟩ | ⟨k, _, hk, rfl, _⟩
  · refine x_s1 h ?_
    exact (br_f (by decide) (K a_holders (fun j hj => by rw [hb_s h hj, nI_0, Int32.sub_zero])))
  · have i1 := pk_in (x := nI (2 * k) >>> ((1 : Int32) &&& 31)) k 24 hk (wb_se hk)
    refine x_s0 hk ?_
    refine (br_t rfl ⟨i1, i1, nm_r (up_e (wb_se hk) (by omega) rfl) (K _ (fun j hj => ?_))⟩)
    rw [rd_e (f := a_holders) (wb_se hk) (by omega) rfl, hb_b hk hj]
    by_cases e : j = k
    · subst e; rw [pk_us, if_pos rfl]; rfl
    · rw [pk_un e, if_neg e, nI_0, Int32.sub_zero]
theorem xf_loop {post : Int32 → Prop} {c : Nat → Nat} (hH : hc_ a_holders c) (K : ∀ h, h < 24 → c h = 0 → post (nI h)) : ∀ m i, i + m = 23 → (∀ j, j < i → c j ≠ 0) → wX_freeBlock_2 post f_length f_depth f_open f_top f_repeats f_lenA f_signA f_lenB f_signB f_lenR f_signR f_fault a_op a_arg a_mate a_openAt a_var a_stack a_turns a_holders a_size a_signOf a_limb a_a a_b a_r a_rest (m + 1) (nI i) := by
  intro m
  induction m with
  | zero =>
    intro i hi hj
    cases (show i = 23 by omega)
    have h1 := sn_p 23 hj
    have h2 := hH.2
    omega
  | succ m ih =>
    intro i hi hj
    obtain ⟨h1, h2⟩ := hH.1 i (by omega)
    refine br_f (nI_ge (b := 23) (by omega) (by omega)) ⟨vp_in_nI (by omega) (by omega), ?_⟩
    rw [rd_e (f := a_holders) rfl (by omega) h1]
    refine ek_if (nI_leI (b := 0) (by omega) (by omega)) (fun e => K i (by omega) (by omega)) (fun e => nm_r (nI_1 i) ?_)
    refine ih (i + 1) (by omega) (fun j hj' => ?_)
    by_cases e' : j = i
    · subst e'; omega
    · exact hj j (by omega)
theorem x_free {post : Int32 → Prop} {c : Nat → Nat} (hH : hc_ a_holders c) (K : ∀ h, h < 24 → c h = 0 → post (nI h)) : wpX_freeBlock post (f_length, f_depth, f_open, f_top, f_repeats, f_lenA, f_signA, f_lenB, f_signB, f_lenR, f_signR, f_fault, a_op, a_arg, a_mate, a_openAt, a_var, a_stack, a_turns, a_holders, a_size, a_signOf, a_limb, a_a, a_b, a_r, a_rest) :=
  Exists.intro (23 + 1) (xf_loop hH K 23 0 (by omega) (fun j hj => absurd hj (by omega)))
theorem xi_ (h i : Nat) : nI h * 10 + nI i = nI (h * 10 + i) := by
  rw [show (10 : Int32) = nI 10 from rfl, pk_mul, nI_add]
theorem xs_loop {post : Int32 → SX → Prop} {h L A : Nat} (hh : h < 24) (hL : L ≤ 10) (hlen : f_lenR = nI L) (hA : A < 10000 ^ L) (hr : ∀ j, j < L → a_r j = nI (dg_ 10000 A j)) (l0 : Nat → Int32) (K : ∀ l', (∀ j, j < 10 → l' (h * 10 + j) = nI (dg_ 10000 A j)) → (∀ k, ¬ (h * 10 ≤ k ∧ k < h * 10 + 10) → l' k = l0 k) → post (nI (2 * h)) (f_length, f_depth, f_open, f_top, f_repeats, f_lenA, f_signA, f_lenB, f_signB, f_lenR, f_signR, f_fault, a_op, a_arg, a_mate, a_openAt, a_var, a_stack, a_turns, a_holders, a_size, a_signOf, l', a_a, a_b, a_r, a_rest)) : ∀ m i l, i + m = 10 → (∀ j, j < i → l (h * 10 + j) = nI (dg_ 10000 A j)) → (∀ k, ¬ (h * 10 ≤ k ∧ k < h * 10 + i) → l k = l0 k) → wX_storeResult_34 post (nI h) f_length f_depth f_open f_top f_repeats f_lenA f_signA f_lenB f_signB f_lenR f_signR f_fault (m + 1) (nI i) a_op a_arg a_mate a_openAt a_var a_stack a_turns a_holders a_size a_signOf l a_a a_b a_r a_rest := by
  intro m
  induction m with
  | zero =>
    intro i l hi hw hf
    cases (show i = 10 by omega)
    refine br_t (nI_le (a := 10) (b := 10) (by omega) (by omega)) ?_
    rw [pk_shlN _ 1 (by decide) (by omega), show h * 2 ^ 1 = 2 * h by omega]
    exact K l hw hf
  | succ m ih =>
    intro i l hi hw hf
    have i1 := pk_in (x := nI h * 10 + nI i) (h * 10 + i) 240 (by omega) (xi_ h i)
    have st : ∀ v, v = nI (dg_ 10000 A i) → wX_storeResult_34 post (nI h) f_length f_depth f_open f_top f_repeats f_lenA f_signA f_lenB f_signB f_lenR f_signR f_fault (m + 1) (nI (i + 1)) a_op a_arg a_mate a_openAt a_var a_stack a_turns a_holders a_size a_signOf (upd l (h * 10 + i) v) a_a a_b a_r a_rest := by
      intro v hv
      refine ih (i + 1) _ (by omega) (yw_u hw hv) (fun k hk => ?_)
      rw [pk_un (by omega)]; exact hf k (by omega)
    refine br_f (nI_ge (b := 10) (by omega) (by omega)) ?_
    rw [hlen]
    refine ek_if (nI_leI (by omega) (by omega)) (fun e => ⟨i1, nm_r (up_e (xi_ h i) (by omega) rfl) (nm_r (nI_1 i) ?_)⟩) (fun e => ⟨vp_in_nI (by omega) (by omega), i1, nm_r (up_e (xi_ h i) (by omega) (rd_e rfl (by omega) rfl)) (nm_r (nI_1 i) ?_)⟩)
    · have := st 0 (by rw [dg_z hA e (by omega)]; rfl)
      rw [hlen] at this; exact this
    · have := st _ (hr i (by omega))
      rw [hlen] at this; exact this
theorem x_store {post : Int32 → SX → Prop} {c : Nat → Nat} {V : Int} {L : Nat} (hH : hc_ a_holders c) (hL : L ≤ 10) (hlen : f_lenR = nI L) (hsg : f_signR = sg_ V) (hLn : Ln_ 10000 L V.natAbs) (hns : ¬ sm_ V) (hr : ∀ j, j < L → a_r j = nI (dg_ 10000 V.natAbs j)) (K : ∀ w H' z' s' l', nw_ c a_size a_signOf a_limb w V H' z' s' l' → post w (f_length, f_depth, f_open, f_top, f_repeats, f_lenA, f_signA, f_lenB, f_signB, f_lenR, f_signR, f_fault, a_op, a_arg, a_mate, a_openAt, a_var, a_stack, a_turns, H', z', s', l', a_a, a_b, a_r, a_rest)) : wpX_storeResult post (f_length, f_depth, f_open, f_top, f_repeats, f_lenA, f_signA, f_lenB, f_signB, f_lenR, f_signR, f_fault, a_op, a_arg, a_mate, a_openAt, a_var, a_stack, a_turns, a_holders, a_size, a_signOf, a_limb, a_a, a_b, a_r, a_rest) := by
  refine x_free hH (fun h hh h0 => ?_)
  have i1 := vp_in_nI (n := h) (N := 24) hh (by omega)
  refine And.intro i1 (nm_r (up_e rfl (by omega) rfl) ⟨i1, nm_r (up_e rfl (by omega) rfl) ⟨i1, nm_r (up_e rfl (by omega) rfl) ⟨10 + 1, ?_⟩⟩⟩)
  refine xs_loop hh hL hlen hLn.1 hr a_limb (fun l' hl hf => K _ _ _ _ _ ⟨?_, ?_, ?_⟩) 10 0 a_limb (by omega) (fun j hj => absurd hj (by omega)) (fun _ _ => rfl)
  · exact Or.inr ⟨h, L, hh, rfl, hns, p_x hLn.1 hL, by rw [pk_us]; exact hsg, by rw [pk_us]; exact hlen, hLn, hl⟩
  · intro k hk
    rw [hb_b hh hk]
    by_cases e : k = h
    · subst e; rw [pk_us, if_pos rfl, h0]; rfl
    · rw [pk_un e, if_neg e, Nat.add_zero]; exact (hH.1 k hk).1
  · intro w' V' hw hc
    rcases hw with hw | ⟨k, M, hk, e, q1, q2, q3, q4, q5, q6⟩
    · exact Or.inl hw
    · have hkh : k ≠ h := by intro z; subst z; exact hc k hk e h0
      refine Or.inr ⟨k, M, hk, e, q1, q2, by rw [pk_un hkh]; exact q3, by rw [pk_un hkh]; exact q4, q5, fun j hj => ?_⟩
      rw [hf _ (by omega)]; exact q6 j hj
/-! wordOf -/
theorem xw_loop {post : Int32 → SX → Prop} {A : Nat} (hA : A < 9223372036854775808) (K : ∀ r' i, i ≤ 6 → Ln_ 10000 i A → (∀ j, j < i → r' j = nI (dg_ 10000 A j)) → wX_wordOf_105 post f_length f_depth f_open f_top f_repeats f_lenA f_signA f_lenB f_signB (nI i) f_signR f_fault a_op a_arg a_mate a_openAt a_var a_stack a_turns a_holders a_size a_signOf a_limb a_a a_b r' a_rest) : ∀ m i r, i + m = 6 → (0 < i → 10000 ^ (i - 1) ≤ A) → (∀ j, j < i → r j = nI (dg_ 10000 A j)) → wX_wordOf_59 post f_length f_depth f_open f_top f_repeats f_lenA f_signA f_lenB f_signB f_signR f_fault (m + 1) (lN (A / 10000 ^ i)) (nI i) (nI i) a_op a_arg a_mate a_openAt a_var a_stack a_turns a_holders a_size a_signOf a_limb a_a a_b r a_rest := by
  intro m
  induction m with
  | zero =>
    intro i r hi h1 hw
    cases (show i = 6 by omega)
    exact br_t (nI_le (a := 6) (b := 6) (by omega) (by omega)) (K r 6 (by omega) ⟨Nat.lt_trans hA (by decide), h1⟩ hw)
  | succ m ih =>
    intro i r hi h1 hw
    have hb : A / 10000 ^ i < 2 ^ 63 := Nat.lt_of_le_of_lt (Nat.div_le_self _ _) hA
    have hv : (lN (A / 10000 ^ i) - lN (A / 10000 ^ i) / 10000 * 10000).toInt32 = nI (dg_ 10000 A i) :=
      (congrArg Int64.toInt32 (pk_lRem (a := A / 10000 ^ i) (b := 10000) hb (by decide) (by decide))).trans (lN_i _)
    have hq : lN (A / 10000 ^ i) / 10000 = lN (A / 10000 ^ (i + 1)) :=
      (pk_lDiv (a := A / 10000 ^ i) (b := 10000) hb (by decide) (by decide)).trans (congrArg lN (by rw [Nat.div_div_eq_div_mul, ← dg_ps]))
    have hp := dg_pp (b := 10000) (by omega) i
    refine br_f (nI_ge (b := 6) (by omega) (by omega)) ?_
    refine ek_if (pk_lLE (b := 0) hb (by omega)) (fun e => K r i (by omega) ⟨?_, h1⟩ hw) (fun e => ⟨by decide, vp_in_nI (by omega) (by omega), nm_r (up_e rfl (by omega) hv) ⟨by decide, nm_r hq (nm_r (nI_1 i) (nm_r (nI_1 i) ?_))⟩⟩)
    · rcases Nat.lt_or_ge A (10000 ^ i) with z | z
      · exact z
      · have := Nat.div_pos z hp; omega
    · refine ih (i + 1) _ (by omega) (fun _ => ?_) ?_
      · rw [Nat.add_sub_cancel]
        rcases Nat.lt_or_ge A (10000 ^ i) with z | z
        · have := Nat.div_eq_of_lt z; omega
        · exact z
      · have := yw_u (o := 0) (d := r) (i := i) (g := fun j => nI (dg_ 10000 A j)) (fun j hj => by rw [Nat.zero_add]; exact hw j hj) rfl
        intro j hj
        have := this j hj
        rw [Nat.zero_add, Nat.zero_add] at this
        exact this
theorem xw_store {post : Int32 → SX → Prop} {c : Nat → Nat} {V : Int} {A : Nat} (hH : hc_ a_holders c) (hA : A < 9223372036854775808) (hVA : V.natAbs = A) (hns : ¬ sm_ V) (hsg : f_signR = sg_ V) (K : ∀ w H' z' s' l' e r', nw_ c a_size a_signOf a_limb w V H' z' s' l' → post w (f_length, f_depth, f_open, f_top, f_repeats, f_lenA, f_signA, f_lenB, f_signB, e, f_signR, f_fault, a_op, a_arg, a_mate, a_openAt, a_var, a_stack, a_turns, H', z', s', l', a_a, a_b, r', a_rest)) : ∃ n, wX_wordOf_59 post f_length f_depth f_open f_top f_repeats f_lenA f_signA f_lenB f_signB f_signR f_fault n (lN A) 0 0 a_op a_arg a_mate a_openAt a_var a_stack a_turns a_holders a_size a_signOf a_limb a_a a_b a_r a_rest := by
  have kk : ∀ r' i, i ≤ 6 → Ln_ 10000 i A → (∀ j, j < i → r' j = nI (dg_ 10000 A j)) → wX_wordOf_105 post f_length f_depth f_open f_top f_repeats f_lenA f_signA f_lenB f_signB (nI i) f_signR f_fault a_op a_arg a_mate a_openAt a_var a_stack a_turns a_holders a_size a_signOf a_limb a_a a_b r' a_rest := by
    intro r' i hi hL hr
    rw [← hVA] at hL hr
    exact x_store hH (by omega) rfl hsg hL hns hr (fun w H' z' s' l' hn => K w H' z' s' l' _ _ hn)
  have h := xw_loop hA kk 6 0 a_r (by omega) (fun z => absurd z (by omega)) (fun j hj => absurd hj (by omega))
  rw [Nat.pow_zero, Nat.div_one] at h
  exact ⟨6 + 1, h⟩
theorem x_wordOf {post : Int32 → SX → Prop} {c : Nat → Nat} {V : Int} (hH : hc_ a_holders c) (hV : -4611686018427387904 ≤ V) (hV' : V ≤ 4611686018427387904) (K : ∀ w H' z' s' l' e g r', nw_ c a_size a_signOf a_limb w V H' z' s' l' → post w (f_length, f_depth, f_open, f_top, f_repeats, f_lenA, f_signA, f_lenB, f_signB, e, g, f_fault, a_op, a_arg, a_mate, a_openAt, a_var, a_stack, a_turns, H', z', s', l', a_a, a_b, r', a_rest)) : wpX_wordOf post (f_length, f_depth, f_open, f_top, f_repeats, f_lenA, f_signA, f_lenB, f_signB, f_lenR, f_signR, f_fault, a_op, a_arg, a_mate, a_openAt, a_var, a_stack, a_turns, a_holders, a_size, a_signOf, a_limb, a_a, a_b, a_r, a_rest) (jz_I V) := by
  have e1 : (-1073741824 : Int64) = jz_I (-1073741824) := by decide
  have e2 : (1073741823 : Int64) = jz_I 1073741823 := by decide
  have e0 : (0 : Int64) = jz_I 0 := rfl
  have big : ¬ sm_ V → wX_wordOf_23 post (jz_I V) f_length f_depth f_open f_top f_repeats f_lenA f_signA f_lenB f_signB f_lenR f_signR f_fault a_op a_arg a_mate a_openAt a_var a_stack a_turns a_holders a_size a_signOf a_limb a_a a_b a_r a_rest := by
    intro hns
    refine ek_if (jz_le (a := 0) (by omega) (by omega) (by omega) (by omega)) (fun h => ?_) (fun h => ?_)
    · refine ek_if (jz_le (a := 0) (by omega) (by omega) (by omega) (by omega)) (fun _ => ?_) (fun z => absurd h z)
      have := xw_store (post := post) (f_length := f_length) (f_depth := f_depth) (f_open := f_open) (f_top := f_top) (f_repeats := f_repeats) (f_lenA := f_lenA) (f_signA := f_signA) (f_lenB := f_lenB) (f_signB := f_signB) (f_signR := 1) (f_fault := f_fault) (a_op := a_op) (a_arg := a_arg) (a_mate := a_mate) (a_openAt := a_openAt) (a_var := a_var) (a_stack := a_stack) (a_turns := a_turns) (a_holders := a_holders) (a_size := a_size) (a_signOf := a_signOf) (a_limb := a_limb) (a_a := a_a) (a_b := a_b) (a_r := a_r) (a_rest := a_rest) (V := V) (A := V.natAbs) hH (by omega) rfl hns (if_neg (by omega)).symm (fun w H' z' s' l' e r' hn => K w H' z' s' l' e 1 r' hn)
      rw [jz_n, show (V.natAbs : Int) = V by omega] at this
      exact this
    · refine ek_if (jz_le (a := 0) (by omega) (by omega) (by omega) (by omega)) (fun z => absurd z h) (fun _ => nm_r (jz_neg V) ?_)
      have := xw_store (post := post) (f_length := f_length) (f_depth := f_depth) (f_open := f_open) (f_top := f_top) (f_repeats := f_repeats) (f_lenA := f_lenA) (f_signA := f_signA) (f_lenB := f_lenB) (f_signB := f_signB) (f_signR := -1) (f_fault := f_fault) (a_op := a_op) (a_arg := a_arg) (a_mate := a_mate) (a_openAt := a_openAt) (a_var := a_var) (a_stack := a_stack) (a_turns := a_turns) (a_holders := a_holders) (a_size := a_size) (a_signOf := a_signOf) (a_limb := a_limb) (a_a := a_a) (a_b := a_b) (a_r := a_r) (a_rest := a_rest) (V := V) (A := V.natAbs) hH (by omega) rfl hns (if_pos (by omega)).symm (fun w H' z' s' l' e r' hn => K w H' z' s' l' e (-1) r' hn)
      rw [jz_n, show (V.natAbs : Int) = -V by omega] at this
      exact this
  have l1 : jz_I V < (-1073741824) ↔ V < -1073741824 := by rw [e1]; exact jz_lt (by omega) (by omega) (by omega) (by omega)
  have l2 : 1073741823 < jz_I V ↔ 1073741823 < V := by rw [e2]; exact jz_lt (by omega) (by omega) (by omega) (by omega)
  refine ek_if l1 (fun h => big (fun z => by have := z.1; omega)) (fun h => ek_if l2 (fun h' => big (fun z => by have := z.2; omega)) (fun h' => ?_))
  have hs : sm_ V := ⟨by omega, by omega⟩
  rw [wb_mk hs]
  exact K _ _ _ _ _ _ _ _ (nw_s hH hs)
end
end
section
/-! the component: pack, unpack, sums and differences of limbs -/
def tv_ (s : Int32) (R : Nat) : Int := if s = 1 then (R : Int) else -(R : Int)
theorem tv_1 (R : Nat) : tv_ 1 R = R := if_pos rfl
theorem tv_m (R : Nat) : tv_ (-1) R = -(R : Int) := if_neg (by decide)
theorem tv_abs {s : Int32} (h : s = 1 ∨ s = -1) (R : Nat) : (tv_ s R).natAbs = R := by
  rcases h with h | h <;> subst h
  · rw [tv_1]; omega
  · rw [tv_m]; omega
theorem sg_or (V : Int) : sg_ V = 1 ∨ sg_ V = -1 := by
  unfold sg_
  by_cases h : V < 0
  · rw [if_pos h]; exact Or.inr rfl
  · rw [if_neg h]; exact Or.inl rfl
theorem tv_sg (V : Int) : tv_ (sg_ V) V.natAbs = V := by
  unfold sg_
  by_cases h : V < 0
  · rw [if_pos h, tv_m]; omega
  · rw [if_neg h, tv_1]; omega
theorem sg_tv {s : Int32} {R : Nat} {V : Int} (h : s = 1 ∨ s = -1) (hV : V = tv_ s R) (h0 : V ≠ 0) : s = sg_ V := by
  rcases h with h | h <;> subst h
  · rw [tv_1] at hV; exact (if_neg (by omega)).symm
  · rw [tv_m] at hV; exact (if_pos (by omega)).symm
/-- a store at the next place of a row -/
theorem st_n {f : Nat → Int32} {i : Nat} {v : Int32} {g : Nat → Int32} (h : ∀ j, j < i → f j = g j) (hv : v = g i) : ∀ j, j < i + 1 → upd f i v j = g j := by
  intro j hj
  by_cases e : j = i
  · subst e; rw [pk_us, hv]
  · rw [pk_un e, h j (by omega)]
section
variable {f_length f_depth f_open f_top f_repeats f_lenA f_signA f_lenB f_signB f_lenR f_signR f_fault : Int32} {a_op a_arg a_mate a_openAt a_var a_stack a_turns a_holders a_size a_signOf a_limb a_a a_b a_r a_rest : Nat → Int32}
theorem xp_store {post : Int32 → SX → Prop} {c : Nat → Nat} {V : Int} {R L : Nat} (hH : hc_ a_holders c) (hL : L ≤ 10) (hs : f_signR = 1 ∨ f_signR = -1) (hV : V = tv_ f_signR R) (hLn : Ln_ 10000 L R) (hns : ¬ sm_ V) (hr : ∀ j, j < L → a_r j = nI (dg_ 10000 R j)) (K : ∀ w H' z' s' l', nw_ c a_size a_signOf a_limb w V H' z' s' l' → post w (f_length, f_depth, f_open, f_top, f_repeats, f_lenA, f_signA, f_lenB, f_signB, (nI L), f_signR, f_fault, a_op, a_arg, a_mate, a_openAt, a_var, a_stack, a_turns, H', z', s', l', a_a, a_b, a_r, a_rest)) : wX_pack_124 post f_length f_depth f_open f_top f_repeats f_lenA f_signA f_lenB f_signB (nI L) f_signR f_fault a_op a_arg a_mate a_openAt a_var a_stack a_turns a_holders a_size a_signOf a_limb a_a a_b a_r a_rest := by
  have ha : V.natAbs = R := by rw [hV, tv_abs hs]
  have hsg : f_signR = sg_ V := sg_tv hs hV (fun z => hns (by rw [z]; exact ⟨by omega, by omega⟩))
  rw [← ha] at hLn hr
  exact x_store hH hL rfl hsg hLn hns hr K
theorem xp_101 {post : Int32 → SX → Prop} {c : Nat → Nat} {V : Int} {R L : Nat} (hH : hc_ a_holders c) (hL : L ≤ 3) (hs : f_signR = 1 ∨ f_signR = -1) (hV : V = tv_ f_signR R) (hLn : Ln_ 10000 L R) (hr : ∀ j, j < L → a_r j = nI (dg_ 10000 R j)) (K : ∀ w H' z' s' l', nw_ c a_size a_signOf a_limb w V H' z' s' l' → post w (f_length, f_depth, f_open, f_top, f_repeats, f_lenA, f_signA, f_lenB, f_signB, (nI L), f_signR, f_fault, a_op, a_arg, a_mate, a_openAt, a_var, a_stack, a_turns, H', z', s', l', a_a, a_b, a_r, a_rest)) : wX_pack_101 post (jz_I V) f_length f_depth f_open f_top f_repeats f_lenA f_signA f_lenB f_signB (nI L) f_signR f_fault a_op a_arg a_mate a_openAt a_var a_stack a_turns a_holders a_size a_signOf a_limb a_a a_b a_r a_rest := by
  have ha : V.natAbs = R := by rw [hV, tv_abs hs]
  have hb : V.natAbs < 1000000000000 := by
    rw [ha]; exact Nat.lt_of_lt_of_le hLn.1 (Nat.pow_le_pow_right (n := 10000) (by omega) hL)
  have e1 : (-1073741824 : Int64) = jz_I (-1073741824) := by decide
  have e2 : (1073741823 : Int64) = jz_I 1073741823 := by decide
  have l1 : jz_I V < (-1073741824) ↔ V < -1073741824 := by rw [e1]; exact jz_lt (by omega) (by omega) (by omega) (by omega)
  have l2 : 1073741823 < jz_I V ↔ 1073741823 < V := by rw [e2]; exact jz_lt (by omega) (by omega) (by omega) (by omega)
  have big : ¬ sm_ V → wX_pack_124 post f_length f_depth f_open f_top f_repeats f_lenA f_signA f_lenB f_signB (nI L) f_signR f_fault a_op a_arg a_mate a_openAt a_var a_stack a_turns a_holders a_size a_signOf a_limb a_a a_b a_r a_rest := fun hns => xp_store hH (by omega) hs hV hLn hns hr K
  refine ek_if l1 (fun h => big (fun z => by have := z.1; omega)) (fun h => ek_if l2 (fun h' => big (fun z => by have := z.2; omega)) (fun h' => ?_))
  have hs : sm_ V := ⟨by omega, by omega⟩
  rw [wb_mk hs]
  exact K _ _ _ _ _ (nw_s hH hs)
theorem xp_67 {post : Int32 → SX → Prop} {c : Nat → Nat} {V : Int} {R L : Nat} (hH : hc_ a_holders c) (hL : L ≤ 3) (hs : f_signR = 1 ∨ f_signR = -1) (hV : V = tv_ f_signR R) (hLn : Ln_ 10000 L R) (hr : ∀ j, j < L → a_r j = nI (dg_ 10000 R j)) (K : ∀ w H' z' s' l', nw_ c a_size a_signOf a_limb w V H' z' s' l' → post w (f_length, f_depth, f_open, f_top, f_repeats, f_lenA, f_signA, f_lenB, f_signB, (nI L), f_signR, f_fault, a_op, a_arg, a_mate, a_openAt, a_var, a_stack, a_turns, H', z', s', l', a_a, a_b, a_r, a_rest)) : ∀ e, e ≤ L → wX_pack_67 post f_length f_depth f_open f_top f_repeats f_lenA f_signA f_lenB f_signB (nI L) f_signR f_fault a_op a_arg a_mate a_openAt a_var a_stack a_turns a_holders a_size a_signOf a_limb a_a a_b a_r a_rest (e + 1) (lN (R / 10000 ^ e)) (nI e + (-1)) := by
  intro e
  induction e with
  | zero =>
    intro _
    have h := xp_101 (f_length := f_length) (f_depth := f_depth) (f_open := f_open) (f_top := f_top) (f_repeats := f_repeats) (f_lenA := f_lenA) (f_signA := f_signA) (f_lenB := f_lenB) (f_signB := f_signB) (f_signR := f_signR) (f_fault := f_fault) (a_op := a_op) (a_arg := a_arg) (a_mate := a_mate) (a_openAt := a_openAt) (a_var := a_var) (a_stack := a_stack) (a_turns := a_turns) (a_holders := a_holders) (a_size := a_size) (a_signOf := a_signOf) (a_limb := a_limb) (a_a := a_a) (a_b := a_b) (a_r := a_r) (a_rest := a_rest) hH hL hs hV hLn hr K
    refine br_t (by decide) ?_
    rw [Nat.pow_zero, Nat.div_one]
    rcases hs with hs | hs <;> subst hs
    · rw [tv_1] at hV
      refine br_t (by decide) ?_
      rw [jz_n, ← hV]; exact h
    · rw [tv_m] at hV
      refine br_f (by decide) (nm_r (e' := jz_I V) (by rw [jz_n, jz_neg, ← hV]) h)
  | succ e ih =>
    intro he
    rw [pk_m1]
    have hd := dg_lt (b := 10000) (by omega) R e
    have hx : lN (R / 10000 ^ (e + 1)) * 10000 + (a_r (nI e).toNatClampNeg).toInt64 = lN (R / 10000 ^ e) := by
      rw [rd_e rfl (by omega) (hr e (by omega)), nI_l (by omega), show (10000 : Int64) = lN 10000 from rfl, lN_mul, lN_add, ← dg_dv]
    exact br_f (nI_pos (by omega)) ⟨vp_in_nI (by omega) (by omega), nm_r hx (nm_e (ih (by omega)))⟩
theorem xp_34 {post : Int32 → SX → Prop} {c : Nat → Nat} {V : Int} {R L : Nat} (hH : hc_ a_holders c) (hL : L ≤ 24) (hs : f_signR = 1 ∨ f_signR = -1) (hV : V = tv_ f_signR R) (hLn : Ln_ 10000 L R) (hr : ∀ j, j < L → a_r j = nI (dg_ 10000 R j)) (K0 : V.natAbs < 10000 ^ 10 → ∀ w H' z' s' l' e, nw_ c a_size a_signOf a_limb w V H' z' s' l' → post w (f_length, f_depth, f_open, f_top, f_repeats, f_lenA, f_signA, f_lenB, f_signB, e, f_signR, f_fault, a_op, a_arg, a_mate, a_openAt, a_var, a_stack, a_turns, H', z', s', l', a_a, a_b, a_r, a_rest)) (K2 : ¬ V.natAbs < 10000 ^ 10 → ∀ e, post 1 (f_length, f_depth, f_open, f_top, f_repeats, f_lenA, f_signA, f_lenB, f_signB, e, f_signR, 2, a_op, a_arg, a_mate, a_openAt, a_var, a_stack, a_turns, a_holders, a_size, a_signOf, a_limb, a_a, a_b, a_r, a_rest)) : wX_pack_34 post f_length f_depth f_open f_top f_repeats f_lenA f_signA f_lenB f_signB (nI L) f_signR f_fault a_op a_arg a_mate a_openAt a_var a_stack a_turns a_holders a_size a_signOf a_limb a_a a_b a_r a_rest := by
  have ha : V.natAbs = R := by rw [hV, tv_abs hs]
  have h10 := ln_le (n := 10) (by omega) hLn
  rw [ha] at K0 K2
  refine pk_le L 10 (fun h => ?_) (fun h => K2 (fun z => by have := h10.mp z; omega) _)
  have k0 := K0 (h10.mpr h)
  refine pk_lt 3 L (fun h3 => ?_) (fun h3 => nm_r (e' := nI L + (-1)) (Int32.sub_eq_add_neg _ _) ⟨L + 1, ?_⟩)
  · refine xp_store hH h hs hV hLn (fun z => ?_) hr (fun w H' z' s' l' hn => k0 w H' z' s' l' _ hn)
    have h1 := hLn.2 (by omega)
    have h2 := sm_b z
    rw [ha] at h2
    have h3 := Nat.pow_le_pow_right (show 10000 > 0 by omega) (show 3 ≤ L - 1 by omega)
    omega
  · have := xp_67 (f_length := f_length) (f_depth := f_depth) (f_open := f_open) (f_top := f_top) (f_repeats := f_repeats) (f_lenA := f_lenA) (f_signA := f_signA) (f_lenB := f_lenB) (f_signB := f_signB) (f_signR := f_signR) (f_fault := f_fault) (a_op := a_op) (a_arg := a_arg) (a_mate := a_mate) (a_openAt := a_openAt) (a_var := a_var) (a_stack := a_stack) (a_turns := a_turns) (a_holders := a_holders) (a_size := a_size) (a_signOf := a_signOf) (a_limb := a_limb) (a_a := a_a) (a_b := a_b) (a_r := a_r) (a_rest := a_rest) hH h3 hs hV hLn hr (fun w H' z' s' l' hn => k0 w H' z' s' l' _ hn) L (by omega)
    rw [Nat.div_eq_of_lt hLn.1] at this
    exact this
theorem xp_strip {post : Int32 → SX → Prop} {R M : Nat} (K : ∀ L, L ≤ M → Ln_ 10000 L R → wX_pack_34 post f_length f_depth f_open f_top f_repeats f_lenA f_signA f_lenB f_signB (nI L) f_signR f_fault a_op a_arg a_mate a_openAt a_var a_stack a_turns a_holders a_size a_signOf a_limb a_a a_b a_r a_rest) (hM : M ≤ 24) (hr : ∀ j, j < M → a_r j = nI (dg_ 10000 R j)) : ∀ L, L ≤ M → R < 10000 ^ L → wX_pack_0 post f_length f_depth f_open f_top f_repeats f_lenA f_signA f_lenB f_signB f_signR f_fault a_op a_arg a_mate a_openAt a_var a_stack a_turns a_holders a_size a_signOf a_limb a_a a_b a_r a_rest (L + 1) (nI L) := by
  intro L
  induction L with
  | zero => intro hL hR; exact br_t (by decide) (K 0 hL ⟨hR, fun z => absurd z (by omega)⟩)
  | succ L ih =>
    intro hL hR
    have hd := dg_lt (b := 10000) (by omega) R L
    have e1 : nI (L + 1) - 1 = nI L := nI_pred L
    refine br_f (nI_nle (by omega) (by omega)) ⟨pk_in L 24 (by omega) e1, ?_⟩
    refine ek_if (eq_0 (rd_e (f := a_r) e1 (by omega) (hr L (by omega))) (by omega)) (fun h => nm_r e1 (ih (by omega) (ln_t0 hR h))) (fun h => K (L + 1) hL (ln_t1 (by omega) hR h))
theorem x_pack {post : Int32 → SX → Prop} {c : Nat → Nat} {V : Int} {R L : Nat} (hH : hc_ a_holders c) (hL : L ≤ 24) (hs : f_signR = 1 ∨ f_signR = -1) (hV : V = tv_ f_signR R) (hR : R < 10000 ^ L) (hr : ∀ j, j < L → a_r j = nI (dg_ 10000 R j)) (K0 : V.natAbs < 10000 ^ 10 → ∀ w H' z' s' l' e, nw_ c a_size a_signOf a_limb w V H' z' s' l' → post w (f_length, f_depth, f_open, f_top, f_repeats, f_lenA, f_signA, f_lenB, f_signB, e, f_signR, f_fault, a_op, a_arg, a_mate, a_openAt, a_var, a_stack, a_turns, H', z', s', l', a_a, a_b, a_r, a_rest)) (K2 : ¬ V.natAbs < 10000 ^ 10 → ∀ e, post 1 (f_length, f_depth, f_open, f_top, f_repeats, f_lenA, f_signA, f_lenB, f_signB, e, f_signR, 2, a_op, a_arg, a_mate, a_openAt, a_var, a_stack, a_turns, a_holders, a_size, a_signOf, a_limb, a_a, a_b, a_r, a_rest)) : wpX_pack post (f_length, f_depth, f_open, f_top, f_repeats, f_lenA, f_signA, f_lenB, f_signB, (nI L), f_signR, f_fault, a_op, a_arg, a_mate, a_openAt, a_var, a_stack, a_turns, a_holders, a_size, a_signOf, a_limb, a_a, a_b, a_r, a_rest) :=
  Exists.intro (L + 1) (xp_strip (fun M hM hLn => xp_34 hH (by omega) hs hV hLn (fun j hj => hr j (by omega)) K0 K2) hL hr L (Nat.le_refl L) hR)
/-! unpack -/
theorem xu_59 {post : SX → Prop} {A : Nat} (hA : A ≤ 1073741824) (K : ∀ L a', Ln_ 10000 L A → L ≤ 3 → (∀ j, j < 12 → a' j = nI (dg_ 10000 A j)) → post (f_length, f_depth, f_open, f_top, f_repeats, (nI L), f_signA, f_lenB, f_signB, f_lenR, f_signR, f_fault, a_op, a_arg, a_mate, a_openAt, a_var, a_stack, a_turns, a_holders, a_size, a_signOf, a_limb, a', a_b, a_r, a_rest)) : ∀ m i a, i + m = 3 → (0 < i → 10000 ^ (i - 1) ≤ A) → (∀ j, j < i → a j = nI (dg_ 10000 A j)) → (∀ j, i ≤ j → j < 12 → a j = nI 0) → wX_unpackA_59 post f_length f_depth f_open f_top f_repeats f_signA f_lenB f_signB f_lenR f_signR f_fault (m + 1) (nI (A / 10000 ^ i)) (nI i) (nI i) a_op a_arg a_mate a_openAt a_var a_stack a_turns a_holders a_size a_signOf a_limb a a_b a_r a_rest := by
  have fin : ∀ i a, i ≤ 3 → A < 10000 ^ i → (0 < i → 10000 ^ (i - 1) ≤ A) → (∀ j, j < i → a j = nI (dg_ 10000 A j)) → (∀ j, i ≤ j → j < 12 → a j = nI 0) → post (f_length, f_depth, f_open, f_top, f_repeats, (nI i), f_signA, f_lenB, f_signB, f_lenR, f_signR, f_fault, a_op, a_arg, a_mate, a_openAt, a_var, a_stack, a_turns, a_holders, a_size, a_signOf, a_limb, a, a_b, a_r, a_rest) := by
    intro i a hi hA' h1 hw hz
    refine K i a ⟨hA', h1⟩ hi (fun j hj => ?_)
    by_cases e : j < i
    · exact hw j e
    · rw [hz j (by omega) hj, dg_z hA' (by omega) (by omega)]
  intro m
  induction m with
  | zero =>
    intro i a hi h1 hw hz
    cases (show i = 3 by omega)
    exact br_t (nI_le (a := 3) (b := 3) (by omega) (by omega)) (fin 3 a (by omega) (Nat.lt_of_le_of_lt hA (by decide)) h1 hw hz)
  | succ m ih =>
    intro i a hi h1 hw hz
    have hb : A / 10000 ^ i ≤ A := Nat.div_le_self _ _
    have hv : nI (A / 10000 ^ i) - nI (A / 10000 ^ i) / 10000 * 10000 = nI (dg_ 10000 A i) := pk_rem (d := 10000) (by omega) (by omega) (by omega)
    have hq : nI (A / 10000 ^ i) / 10000 = nI (A / 10000 ^ (i + 1)) :=
      (pk_div (d := 10000) (by omega) (by omega) (by omega)).trans (congrArg nI (by rw [Nat.div_div_eq_div_mul, ← dg_ps]))
    have hp := dg_pp (b := 10000) (by omega) i
    refine br_f (nI_ge (b := 3) (by omega) (by omega)) ?_
    refine ek_if (nI_leI (b := 0) (by omega) (by omega)) (fun e => fin i a (by omega) ?_ h1 hw hz) (fun e => ⟨by decide, vp_in_nI (by omega) (by omega), nm_r (up_e rfl (by omega) hv) ⟨by decide, nm_r hq (nm_r (nI_1 i) (nm_r (nI_1 i) ?_))⟩⟩)
    · rcases Nat.lt_or_ge A (10000 ^ i) with z | z
      · exact z
      · have := Nat.div_pos z hp; omega
    · refine ih (i + 1) _ (by omega) (fun _ => ?_) (st_n hw rfl) (fun j hj hj' => ?_)
      · rw [Nat.add_sub_cancel]
        rcases Nat.lt_or_ge A (10000 ^ i) with z | z
        · have := Nat.div_eq_of_lt z; omega
        · exact z
      · rw [pk_un (by omega)]; exact hz j (by omega) hj'
theorem xu_125 {post : SX → Prop} {A h : Nat} (hh : h < 24) (hA : A < 10000 ^ 10) (hl : ∀ j, j < 10 → a_limb (h * 10 + j) = nI (dg_ 10000 A j)) (K : ∀ a', (∀ j, j < 12 → a' j = nI (dg_ 10000 A j)) → post (f_length, f_depth, f_open, f_top, f_repeats, f_lenA, f_signA, f_lenB, f_signB, f_lenR, f_signR, f_fault, a_op, a_arg, a_mate, a_openAt, a_var, a_stack, a_turns, a_holders, a_size, a_signOf, a_limb, a', a_b, a_r, a_rest)) : ∀ m i a, i + m = 10 → (∀ j, j < i → a j = nI (dg_ 10000 A j)) → (∀ j, i ≤ j → j < 12 → a j = nI 0) → wX_unpackA_125 post (nI h) f_length f_depth f_open f_top f_repeats f_lenA f_signA f_lenB f_signB f_lenR f_signR f_fault (m + 1) (nI i) a_op a_arg a_mate a_openAt a_var a_stack a_turns a_holders a_size a_signOf a_limb a a_b a_r a_rest := by
  intro m
  induction m with
  | zero =>
    intro i a hi hw hz
    cases (show i = 10 by omega)
    refine br_t (nI_le (a := 10) (b := 10) (by omega) (by omega)) (K a (fun j hj => ?_))
    by_cases e : j < 10
    · exact hw j e
    · rw [hz j (by omega) hj, dg_z hA (by omega) (by omega)]
  | succ m ih =>
    intro i a hi hw hz
    refine br_f (nI_ge (b := 10) (by omega) (by omega)) ⟨pk_in (h * 10 + i) 240 (by omega) (xi_ h i), vp_in_nI (by omega) (by omega), nm_r (up_e rfl (by omega) (rd_e (xi_ h i) (by omega) (hl i (by omega)))) (nm_r (nI_1 i) ?_)⟩
    refine ih (i + 1) _ (by omega) (st_n hw rfl) (fun j hj hj' => ?_)
    rw [pk_un (by omega)]; exact hz j (by omega) hj'
theorem xu_47 {post : SX → Prop} {V : Int} (hV : sm_ V) (hz : ∀ j, j < 12 → a_a j = nI 0) (K : ∀ L a', Ln_ 10000 L V.natAbs → L ≤ 3 → (∀ j, j < 12 → a' j = nI (dg_ 10000 V.natAbs j)) → post (f_length, f_depth, f_open, f_top, f_repeats, (nI L), (sg_ V), f_lenB, f_signB, f_lenR, f_signR, f_fault, a_op, a_arg, a_mate, a_openAt, a_var, a_stack, a_turns, a_holders, a_size, a_signOf, a_limb, a', a_b, a_r, a_rest)) : ((0 : Int32) ≤ iz_I V → wX_unpackA_47 post (iz_I V) 1 f_length f_depth f_open f_top f_repeats 0 f_signA f_lenB f_signB f_lenR f_signR f_fault a_op a_arg a_mate a_openAt a_var a_stack a_turns a_holders a_size a_signOf a_limb a_a a_b a_r a_rest) ∧ (¬ (0 : Int32) ≤ iz_I V → wX_unpackA_47 post (iz_I V) (-1) f_length f_depth f_open f_top f_repeats 0 f_signA f_lenB f_signB f_lenR f_signR f_fault a_op a_arg a_mate a_openAt a_var a_stack a_turns a_holders a_size a_signOf a_limb a_a a_b a_r a_rest) := by
  have h1 := hV.1; have h2 := hV.2
  have l1 : (0 : Int32) ≤ iz_I V ↔ 0 ≤ V := iz_le (a := 0) (by omega) (by omega) (by omega) (by omega)
  have h := xu_59 (post := post) (f_length := f_length) (f_depth := f_depth) (f_open := f_open) (f_top := f_top) (f_repeats := f_repeats) (f_signA := (sg_ V)) (f_lenB := f_lenB) (f_signB := f_signB) (f_lenR := f_lenR) (f_signR := f_signR) (f_fault := f_fault) (a_op := a_op) (a_arg := a_arg) (a_mate := a_mate) (a_openAt := a_openAt) (a_var := a_var) (a_stack := a_stack) (a_turns := a_turns) (a_holders := a_holders) (a_size := a_size) (a_signOf := a_signOf) (a_limb := a_limb) (a_b := a_b) (a_r := a_r) (a_rest := a_rest) (A := V.natAbs) (by omega) K 3 0 a_a (by omega) (fun z => absurd z (by omega)) (fun j hj => absurd hj (by omega)) (fun j _ hj => hz j hj)
  rw [Nat.pow_zero, Nat.div_one] at h
  refine ek_if l1 (fun e => ek_if l1 (fun _ => ⟨3 + 1, ?_⟩) (fun z => absurd e z)) (fun e => ek_if l1 (fun z => absurd z e) (fun _ => nm_r (iz_neg V) ⟨3 + 1, ?_⟩))
  · rw [iz_n, show (V.natAbs : Int) = V by omega, show sg_ V = 1 from if_neg (by omega)] at h
    exact h
  · rw [iz_n, show (V.natAbs : Int) = -V by omega, show sg_ V = -1 from if_pos (by omega)] at h
    exact h
theorem xu_7 {post : SX → Prop} {w : Int32} {V : Int} (hw : wd_ a_size a_signOf a_limb w V) (K : ∀ L a', Ln_ 10000 L V.natAbs → L ≤ 10 → (∀ j, j < 12 → a' j = nI (dg_ 10000 V.natAbs j)) → post (f_length, f_depth, f_open, f_top, f_repeats, (nI L), (sg_ V), f_lenB, f_signB, f_lenR, f_signR, f_fault, a_op, a_arg, a_mate, a_openAt, a_var, a_stack, a_turns, a_holders, a_size, a_signOf, a_limb, a', a_b, a_r, a_rest)) : ∀ m i a, i + m = 12 → (∀ j, j < i → a j = nI 0) → wX_unpackA_7 post w f_length f_depth f_open f_top f_repeats 0 f_signA f_lenB f_signB f_lenR f_signR f_fault (m + 1) (nI i) a_op a_arg a_mate a_openAt a_var a_stack a_turns a_holders a_size a_signOf a_limb a a_b a_r a_rest := by
  intro m
  induction m with
  | zero =>
    intro i a hi hz
    cases (show i = 12 by omega)
    refine br_t (nI_le (a := 12) (b := 12) (by omega) (by omega)) ?_
    rcases hw with ⟨h, rfl⟩ | ⟨k, L, hk, rfl, hn, hA, hsg, hsz, hLn, hl⟩
    · refine x_s1 h ?_
      refine br_f (by decide) (nm_r (wb_so h) ?_)
      exact xu_47 h hz (fun L a' hL hL' ha => K L a' hL (by omega) ha)
    · have i1 := vp_in_nI (n := k) (N := 24) hk (by omega)
      refine x_s0 hk ?_
      refine br_t rfl (nm_r (wb_se hk) ⟨i1, nm_r (rd_e rfl (by omega) hsg) ⟨i1, nm_r (rd_e rfl (by omega) hsz) ⟨10 + 1, ?_⟩⟩⟩)
      exact xu_125 hk hA hl (fun a' ha => K L a' hLn ((ln_le (by omega) hLn).mp hA) ha) 10 0 a (by omega) (fun j hj => absurd hj (by omega)) (fun j _ hj => hz j hj)
  | succ m ih =>
    intro i a hi hz
    refine br_f (nI_ge (b := 12) (by omega) (by omega)) ⟨vp_in_nI (by omega) (by omega), nm_r (up_e rfl (by omega) rfl) (nm_r (nI_1 i) ?_)⟩
    exact ih (i + 1) _ (by omega) (st_n (g := fun _ => nI 0) hz rfl)
theorem x_unpackA {post : SX → Prop} {w : Int32} {V : Int} (hw : wd_ a_size a_signOf a_limb w V) (K : ∀ L a', Ln_ 10000 L V.natAbs → L ≤ 10 → (∀ j, j < 12 → a' j = nI (dg_ 10000 V.natAbs j)) → post (f_length, f_depth, f_open, f_top, f_repeats, (nI L), (sg_ V), f_lenB, f_signB, f_lenR, f_signR, f_fault, a_op, a_arg, a_mate, a_openAt, a_var, a_stack, a_turns, a_holders, a_size, a_signOf, a_limb, a', a_b, a_r, a_rest)) : wpX_unpackA post (f_length, f_depth, f_open, f_top, f_repeats, f_lenA, f_signA, f_lenB, f_signB, f_lenR, f_signR, f_fault, a_op, a_arg, a_mate, a_openAt, a_var, a_stack, a_turns, a_holders, a_size, a_signOf, a_limb, a_a, a_b, a_r, a_rest) w :=
  Exists.intro (12 + 1) (xu_7 hw K 12 0 a_a (by omega) (fun j hj => absurd hj (by omega)))
theorem xc_loop {post : SX → Prop} (K : ∀ b', (∀ j, j < 12 → b' j = a_a j) → post (f_length, f_depth, f_open, f_top, f_repeats, f_lenA, f_signA, f_lenA, f_signA, f_lenR, f_signR, f_fault, a_op, a_arg, a_mate, a_openAt, a_var, a_stack, a_turns, a_holders, a_size, a_signOf, a_limb, a_a, b', a_r, a_rest)) : ∀ m i b, i + m = 12 → (∀ j, j < i → b j = a_a j) → wX_copyAToB_2 post f_length f_depth f_open f_top f_repeats f_lenA f_signA f_lenB f_signB f_lenR f_signR f_fault (m + 1) (nI i) a_op a_arg a_mate a_openAt a_var a_stack a_turns a_holders a_size a_signOf a_limb a_a b a_r a_rest := by
  intro m
  induction m with
  | zero =>
    intro i b hi hw
    cases (show i = 12 by omega)
    exact br_t (nI_le (a := 12) (b := 12) (by omega) (by omega)) (K b hw)
  | succ m ih =>
    intro i b hi hw
    have i1 := vp_in_nI (n := i) (N := 12) (by omega) (by omega)
    refine br_f (nI_ge (b := 12) (by omega) (by omega)) ⟨i1, i1, nm_r (up_e rfl (by omega) (rd_e rfl (by omega) rfl)) (nm_r (nI_1 i) ?_)⟩
    exact ih (i + 1) _ (by omega) (st_n (g := a_a) hw rfl)
theorem x_copyAToB {post : SX → Prop} (K : ∀ b', (∀ j, j < 12 → b' j = a_a j) → post (f_length, f_depth, f_open, f_top, f_repeats, f_lenA, f_signA, f_lenA, f_signA, f_lenR, f_signR, f_fault, a_op, a_arg, a_mate, a_openAt, a_var, a_stack, a_turns, a_holders, a_size, a_signOf, a_limb, a_a, b', a_r, a_rest)) : wpX_copyAToB post (f_length, f_depth, f_open, f_top, f_repeats, f_lenA, f_signA, f_lenB, f_signB, f_lenR, f_signR, f_fault, a_op, a_arg, a_mate, a_openAt, a_var, a_stack, a_turns, a_holders, a_size, a_signOf, a_limb, a_a, a_b, a_r, a_rest) :=
  Exists.intro (12 + 1) (xc_loop K 12 0 a_b (by omega) (fun j hj => absurd hj (by omega)))
theorem x_unpack {post : SX → Prop} {w w' : Int32} {V V' : Int} (hw : wd_ a_size a_signOf a_limb w V) (hw' : wd_ a_size a_signOf a_limb w' V') (K : ∀ L M a' b', Ln_ 10000 L V.natAbs → L ≤ 10 → Ln_ 10000 M V'.natAbs → M ≤ 10 → (∀ j, j < 12 → a' j = nI (dg_ 10000 V.natAbs j)) → (∀ j, j < 12 → b' j = nI (dg_ 10000 V'.natAbs j)) → post (f_length, f_depth, f_open, f_top, f_repeats, (nI L), (sg_ V), (nI M), (sg_ V'), f_lenR, f_signR, f_fault, a_op, a_arg, a_mate, a_openAt, a_var, a_stack, a_turns, a_holders, a_size, a_signOf, a_limb, a', b', a_r, a_rest)) : wpX_unpack post (f_length, f_depth, f_open, f_top, f_repeats, f_lenA, f_signA, f_lenB, f_signB, f_lenR, f_signR, f_fault, a_op, a_arg, a_mate, a_openAt, a_var, a_stack, a_turns, a_holders, a_size, a_signOf, a_limb, a_a, a_b, a_r, a_rest) w w' := by
  unfold wpX_unpack
  refine x_unpackA hw' (fun M b1 hM hM' hb => ?_)
  refine x_copyAToB (fun b' hb' => ?_)
  refine x_unpackA hw (fun L a' hL hL' ha => ?_)
  exact K L M a' b' hL hL' hM hM' ha (fun j hj => by rw [hb' j hj, hb j hj])
/-! sums and differences -/
theorem xm_loop {post : Int32 → Prop} {A B : Nat} (ha : ∀ j, j < 12 → a_a j = nI (dg_ 10000 A j)) (hb : ∀ j, j < 12 → a_b j = nI (dg_ 10000 B j)) (K : post (sc_ A B)) : ∀ e, e ≤ 12 → A / 10000 ^ e = B / 10000 ^ e → wX_compareMagnitudes_35 post f_length f_depth f_open f_top f_repeats f_lenA f_signA f_lenB f_signB f_lenR f_signR f_fault a_op a_arg a_mate a_openAt a_var a_stack a_turns a_holders a_size a_signOf a_limb a_a a_b a_r a_rest (e + 1) (nI e + (-1)) := by
  intro e
  induction e with
  | zero =>
    intro _ h
    rw [Nat.pow_zero, Nat.div_one, Nat.div_one] at h
    rw [sc_e h] at K
    exact br_t (by decide) K
  | succ e ih =>
    intro he h
    rw [pk_m1]
    have hd := dg_lt (b := 10000) (by omega) A e
    have hd' := dg_lt (b := 10000) (by omega) B e
    have i1 := vp_in_nI (n := e) (N := 12) (by omega) (by omega)
    have r1 : a_a (nI e).toNatClampNeg = nI (dg_ 10000 A e) := rd_e rfl (by omega) (ha e (by omega))
    have r2 : a_b (nI e).toNatClampNeg = nI (dg_ 10000 B e) := rd_e rfl (by omega) (hb e (by omega))
    refine br_f (nI_pos (by omega)) ⟨i1, i1, ?_⟩
    rw [r1, r2]
    refine ek_if (nI_eq (by omega) (by omega)) (fun z => nm_e (ih (by omega) (ca_e h z))) (fun z => ⟨i1, i1, ek_if (nI_leI (by omega) (by omega)) (fun z' => ?_) (fun z' => ?_)⟩)
    · rw [sc_g (ca_l h.symm (by omega))] at K; exact K
    · rw [sc_l (ca_l h (by omega))] at K; exact K
theorem x_cmp {post : Int32 → Prop} {A B L M : Nat} (hA : Ln_ 10000 L A) (hB : Ln_ 10000 M B) (hL : L ≤ 10) (hM : M ≤ 10) (ha : ∀ j, j < 12 → a_a j = nI (dg_ 10000 A j)) (hb : ∀ j, j < 12 → a_b j = nI (dg_ 10000 B j)) (K : post (sc_ A B)) : wpX_compareMagnitudes post (f_length, f_depth, f_open, f_top, f_repeats, (nI L), f_signA, (nI M), f_signB, f_lenR, f_signR, f_fault, a_op, a_arg, a_mate, a_openAt, a_var, a_stack, a_turns, a_holders, a_size, a_signOf, a_limb, a_a, a_b, a_r, a_rest) := by
  refine pk_eq L M (fun h => nm_r (e' := nI L + (-1)) (Int32.sub_eq_add_neg _ _) ⟨L + 1, ?_⟩) (fun h => pk_le M L (fun h' => ?_) (fun h' => ?_))
  · subst h
    exact xm_loop ha hb K L (by omega) (by rw [Nat.div_eq_of_lt hA.1, Nat.div_eq_of_lt hB.1])
  · rw [sc_g (ln_lt (by omega) hB hA (by omega))] at K; exact K
  · rw [sc_l (ln_lt (by omega) hA hB h')] at K; exact K
theorem xr_loop {post : SX → Prop} (K : ∀ r', (∀ j, j < 24 → r' j = nI 0) → post (f_length, f_depth, f_open, f_top, f_repeats, f_lenA, f_signA, f_lenB, f_signB, 0, 1, f_fault, a_op, a_arg, a_mate, a_openAt, a_var, a_stack, a_turns, a_holders, a_size, a_signOf, a_limb, a_a, a_b, r', a_rest)) : ∀ m i r, i + m = 24 → (∀ j, j < i → r j = nI 0) → wX_clearResult_2 post f_length f_depth f_open f_top f_repeats f_lenA f_signA f_lenB f_signB f_lenR f_signR f_fault (m + 1) (nI i) a_op a_arg a_mate a_openAt a_var a_stack a_turns a_holders a_size a_signOf a_limb a_a a_b r a_rest := by
  intro m
  induction m with
  | zero =>
    intro i r hi hw
    cases (show i = 24 by omega)
    exact br_t (nI_le (a := 24) (b := 24) (by omega) (by omega)) (K r hw)
  | succ m ih =>
    intro i r hi hw
    refine br_f (nI_ge (b := 24) (by omega) (by omega)) ⟨vp_in_nI (by omega) (by omega), nm_r (up_e rfl (by omega) rfl) (nm_r (nI_1 i) ?_)⟩
    exact ih (i + 1) _ (by omega) (st_n (g := fun _ => nI 0) hw rfl)
theorem x_clear {post : SX → Prop} (K : ∀ r', (∀ j, j < 24 → r' j = nI 0) → post (f_length, f_depth, f_open, f_top, f_repeats, f_lenA, f_signA, f_lenB, f_signB, 0, 1, f_fault, a_op, a_arg, a_mate, a_openAt, a_var, a_stack, a_turns, a_holders, a_size, a_signOf, a_limb, a_a, a_b, r', a_rest)) : wpX_clearResult post (f_length, f_depth, f_open, f_top, f_repeats, f_lenA, f_signA, f_lenB, f_signB, f_lenR, f_signR, f_fault, a_op, a_arg, a_mate, a_openAt, a_var, a_stack, a_turns, a_holders, a_size, a_signOf, a_limb, a_a, a_b, a_r, a_rest) :=
  Exists.intro (24 + 1) (xr_loop K 24 0 a_r (by omega) (fun j hj => absurd hj (by omega)))
theorem xa_loop {post : SX → Prop} {A B : Nat} (ha : ∀ j, j < 12 → a_a j = nI (dg_ 10000 A j)) (hb : ∀ j, j < 12 → a_b j = nI (dg_ 10000 B j)) (K : ∀ r', (∀ j, j < 11 → r' j = nI (dg_ 10000 (A + B) j)) → post (f_length, f_depth, f_open, f_top, f_repeats, f_lenA, f_signA, f_lenB, f_signB, 11, f_signR, f_fault, a_op, a_arg, a_mate, a_openAt, a_var, a_stack, a_turns, a_holders, a_size, a_signOf, a_limb, a_a, a_b, r', a_rest)) : ∀ m i r, i + m = 11 → (∀ j, j < i → r j = nI (dg_ 10000 (A + B) j)) → wX_addMagnitudes_4 post f_length f_depth f_open f_top f_repeats f_lenA f_signA f_lenB f_signB f_lenR f_signR f_fault (m + 1) (nI (cs_ 10000 A B i)) (nI i) a_op a_arg a_mate a_openAt a_var a_stack a_turns a_holders a_size a_signOf a_limb a_a a_b r a_rest := by
  intro m
  induction m with
  | zero =>
    intro i r hi hw
    cases (show i = 11 by omega)
    exact br_t (nI_le (a := 11) (b := 11) (by omega) (by omega)) (K r hw)
  | succ m ih =>
    intro i r hi hw
    have hd := dg_lt (b := 10000) (by omega) A i
    have hd' := dg_lt (b := 10000) (by omega) B i
    have hc := cs_lt (b := 10000) (by omega) A B i
    obtain ⟨q1, q2⟩ := cs_s (b := 10000) (by omega) A B i
    have i1 := vp_in_nI (n := i) (N := 12) (by omega) (by omega)
    have he : (a_a (nI i).toNatClampNeg + a_b (nI i).toNatClampNeg) + nI (cs_ 10000 A B i) = nI (dg_ 10000 A i + dg_ 10000 B i + cs_ 10000 A B i) := by
      rw [rd_e (f := a_a) rfl (by omega) (ha i (by omega)), rd_e (f := a_b) rfl (by omega) (hb i (by omega)), nI_add, nI_add]
    have h := ih (i + 1) _ (by omega) (st_n (g := fun j => nI (dg_ 10000 (A + B) j)) hw rfl)
    refine br_f (nI_ge (b := 11) (by omega) (by omega)) ⟨i1, i1, nm_r he ?_⟩
    have hs2 : dg_ 10000 A i + dg_ 10000 B i + cs_ 10000 A B i < 20000 := by omega
    generalize dg_ 10000 A i + dg_ 10000 B i + cs_ 10000 A B i = s at *
    refine pk_lt s 10000 (fun z => And.intro (vp_in_nI (by omega) (by omega)) (nm_r (up_e (w := nI (dg_ 10000 (A + B) i)) rfl (by omega) ?_) (nm_r (nI_1 i) ?_))) (fun z => And.intro (vp_in_nI (by omega) (by omega)) (nm_r (up_e (w := nI (dg_ 10000 (A + B) i)) rfl (by omega) ?_) (nm_r (nI_1 i) ?_)))
    · rw [← q1, show (0 : Int32) * 10000 = nI 0 from by decide, pk_sub (by omega)]; exact congrArg nI (by omega)
    · rw [show cs_ 10000 A B (i + 1) = 0 by omega] at h; exact h
    · rw [← q1, show (1 : Int32) * 10000 = nI 10000 from by decide, pk_sub z]; exact congrArg nI (by omega)
    · rw [show cs_ 10000 A B (i + 1) = 1 by omega] at h; exact h
theorem x_addM {post : SX → Prop} {A B : Nat} (ha : ∀ j, j < 12 → a_a j = nI (dg_ 10000 A j)) (hb : ∀ j, j < 12 → a_b j = nI (dg_ 10000 B j)) (K : ∀ r', (∀ j, j < 11 → r' j = nI (dg_ 10000 (A + B) j)) → post (f_length, f_depth, f_open, f_top, f_repeats, f_lenA, f_signA, f_lenB, f_signB, 11, f_signR, f_fault, a_op, a_arg, a_mate, a_openAt, a_var, a_stack, a_turns, a_holders, a_size, a_signOf, a_limb, a_a, a_b, r', a_rest)) : wpX_addMagnitudes post (f_length, f_depth, f_open, f_top, f_repeats, f_lenA, f_signA, f_lenB, f_signB, f_lenR, f_signR, f_fault, a_op, a_arg, a_mate, a_openAt, a_var, a_stack, a_turns, a_holders, a_size, a_signOf, a_limb, a_a, a_b, a_r, a_rest) := by
  have h := xa_loop (f_lenR := f_lenR) ha hb K 11 0 a_r (by omega) (fun j hj => absurd hj (by omega))
  rw [cs_0] at h
  exact Exists.intro (11 + 1) h
theorem xb_loop {post : SX → Prop} {P Q D : Nat} {w : Int32} (hD : D + Q = P) (hw' : ∀ i, i < 12 → w * (a_a i - a_b i) = iz_I ((dg_ 10000 P i : Int) - dg_ 10000 Q i)) (K : ∀ r', (∀ j, j < 11 → r' j = nI (dg_ 10000 D j)) → post (f_length, f_depth, f_open, f_top, f_repeats, f_lenA, f_signA, f_lenB, f_signB, 11, f_signR, f_fault, a_op, a_arg, a_mate, a_openAt, a_var, a_stack, a_turns, a_holders, a_size, a_signOf, a_limb, a_a, a_b, r', a_rest)) : ∀ m i r, i + m = 11 → (∀ j, j < i → r j = nI (dg_ 10000 D j)) → wX_subtract_4 post w f_length f_depth f_open f_top f_repeats f_lenA f_signA f_lenB f_signB f_lenR f_signR f_fault (m + 1) (nI (cs_ 10000 D Q i)) (nI i) a_op a_arg a_mate a_openAt a_var a_stack a_turns a_holders a_size a_signOf a_limb a_a a_b r a_rest := by
  intro m
  induction m with
  | zero =>
    intro i r hi hw
    cases (show i = 11 by omega)
    exact br_t (nI_le (a := 11) (b := 11) (by omega) (by omega)) (K r hw)
  | succ m ih =>
    intro i r hi hw
    have hd := dg_lt (b := 10000) (by omega) D i
    have hc' := cs_lt (b := 10000) (by omega) D Q (i + 1)
    have q := bo_s (b := 10000) (by omega) hD i
    have i1 := vp_in_nI (n := i) (N := 12) (by omega) (by omega)
    have he : (w * (a_a (nI i).toNatClampNeg - a_b (nI i).toNatClampNeg)) - nI (cs_ 10000 D Q i) = iz_I ((dg_ 10000 D i : Int) - 10000 * cs_ 10000 D Q (i + 1)) := by
      rw [nI_clamp (by omega), hw' i (by omega), iz_n, iz_sub]
      exact congrArg iz_I (by omega)
    have h := ih (i + 1) _ (by omega) (st_n (g := fun j => nI (dg_ 10000 D j)) hw rfl)
    refine br_f (nI_ge (b := 11) (by omega) (by omega)) ⟨i1, i1, nm_r he ?_⟩
    refine ek_if (iz_le (a := 0) (by omega) (by omega) (by omega) (by omega)) (fun z => And.intro (vp_in_nI (by omega) (by omega)) (nm_r (up_e (w := nI (dg_ 10000 D i)) rfl (by omega) ?_) (nm_r (nI_1 i) ?_))) (fun z => And.intro (vp_in_nI (by omega) (by omega)) (nm_r (up_e (w := nI (dg_ 10000 D i)) rfl (by omega) ?_) (nm_r (nI_1 i) ?_)))
    · rw [show (0 : Int32) * 10000 = iz_I 0 from by decide, iz_add, iz_n]; exact congrArg iz_I (by omega)
    · rw [show cs_ 10000 D Q (i + 1) = 0 by omega] at h; exact h
    · rw [show (1 : Int32) * 10000 = iz_I 10000 from by decide, iz_add, iz_n]; exact congrArg iz_I (by omega)
    · rw [show cs_ 10000 D Q (i + 1) = 1 by omega] at h; exact h
theorem x_sub {post : SX → Prop} {P Q D : Nat} {w : Int32} (hD : D + Q = P) (hw' : ∀ i, i < 12 → w * (a_a i - a_b i) = iz_I ((dg_ 10000 P i : Int) - dg_ 10000 Q i)) (K : ∀ r', (∀ j, j < 11 → r' j = nI (dg_ 10000 D j)) → post (f_length, f_depth, f_open, f_top, f_repeats, f_lenA, f_signA, f_lenB, f_signB, 11, f_signR, f_fault, a_op, a_arg, a_mate, a_openAt, a_var, a_stack, a_turns, a_holders, a_size, a_signOf, a_limb, a_a, a_b, r', a_rest)) : wpX_subtract post (f_length, f_depth, f_open, f_top, f_repeats, f_lenA, f_signA, f_lenB, f_signB, f_lenR, f_signR, f_fault, a_op, a_arg, a_mate, a_openAt, a_var, a_stack, a_turns, a_holders, a_size, a_signOf, a_limb, a_a, a_b, a_r, a_rest) w := by
  have h := xb_loop (f_lenR := f_lenR) hD hw' K 11 0 a_r (by omega) (fun j hj => absurd hj (by omega))
  rw [cs_0] at h
  exact Exists.intro (11 + 1) h
theorem x_addS {post : SX → Prop} {A B L M : Nat} (hA : Ln_ 10000 L A) (hB : Ln_ 10000 M B) (hL : L ≤ 10) (hM : M ≤ 10) (ha : ∀ j, j < 12 → a_a j = nI (dg_ 10000 A j)) (hb : ∀ j, j < 12 → a_b j = nI (dg_ 10000 B j)) (hsa : f_signA = 1 ∨ f_signA = -1) (hsb : f_signB = 1 ∨ f_signB = -1) (K : ∀ r' R s, (∀ j, j < 11 → r' j = nI (dg_ 10000 R j)) → R ≤ A + B → (s = 1 ∨ s = -1) → tv_ s R = tv_ f_signA A + tv_ f_signB B → post (f_length, f_depth, f_open, f_top, f_repeats, (nI L), f_signA, (nI M), f_signB, 11, s, f_fault, a_op, a_arg, a_mate, a_openAt, a_var, a_stack, a_turns, a_holders, a_size, a_signOf, a_limb, a_a, a_b, r', a_rest)) : wpX_addSigned post (f_length, f_depth, f_open, f_top, f_repeats, (nI L), f_signA, (nI M), f_signB, f_lenR, f_signR, f_fault, a_op, a_arg, a_mate, a_openAt, a_var, a_stack, a_turns, a_holders, a_size, a_signOf, a_limb, a_a, a_b, a_r, a_rest) := by
  unfold wpX_addSigned
  refine x_clear (fun r0 h0 => ?_)
  refine br_c (fun e => ?_) (fun e => ?_)
  · refine x_addM ha hb (fun r' hr => ?_)
    refine K r' (A + B) f_signA hr (by omega) hsa ?_
    rw [← e]
    rcases hsa with h | h <;> rw [h]
    · rw [tv_1, tv_1, tv_1]; omega
    · rw [tv_m, tv_m, tv_m]; omega
  · refine x_cmp hA hB hL hM ha hb ?_
    refine ek_if (sc_lt0 A B) (fun h => ?_) (fun h => ?_)
    · refine x_sub (P := B) (Q := A) (D := B - A) (by omega) (fun i hi => ?_) (fun r' hr => ?_)
      · rw [ha i hi, hb i hi, iz_n, iz_n, iz_sub, iz_m1, iz_mul]; exact congrArg iz_I (by omega)
      · refine K r' (B - A) f_signB hr (by omega) hsb ?_
        rcases hsa with h1 | h1 <;> rcases hsb with h2 | h2 <;> subst h1 <;> subst h2
        · exact absurd rfl e
        · rw [tv_m, tv_1, tv_m]; omega
        · rw [tv_1, tv_m, tv_1]; omega
        · exact absurd rfl e
    · refine x_sub (P := A) (Q := B) (D := A - B) (by omega) (fun i hi => ?_) (fun r' hr => ?_)
      · rw [ha i hi, hb i hi, iz_n, iz_n, iz_sub, iz_1, iz_mul]; exact congrArg iz_I (by omega)
      · refine K r' (A - B) f_signA hr (by omega) hsa ?_
        rcases hsa with h1 | h1 <;> rcases hsb with h2 | h2 <;> subst h1 <;> subst h2
        · exact absurd rfl e
        · rw [tv_1, tv_1, tv_m]; omega
        · rw [tv_m, tv_m, tv_1]; omega
        · exact absurd rfl e
end
end
section
/-! the component: products and quotients of limbs -/
/-- one more limb of the product's row -/
theorem mu_s {b U W a B i j : Nat} (hb : 0 < b) (hW : W = U + a * B * b ^ i) : ((U % b ^ (i + j) + a * (B % b ^ j) * b ^ i) / b ^ (i + j) + (dg_ b U (i + j) + a * dg_ b B j)) % b = dg_ b W (i + j) ∧ ((U % b ^ (i + j) + a * (B % b ^ j) * b ^ i) / b ^ (i + j) + (dg_ b U (i + j) + a * dg_ b B j)) / b = (U % b ^ (i + (j + 1)) + a * (B % b ^ (j + 1)) * b ^ i) / b ^ (i + (j + 1)) := by
  refine cy_s hb (k := i + j) ?_ ?_
  · rw [← Nat.add_assoc, dg_md b U, dg_md b B, Nat.mul_add, Nat.add_mul, Nat.add_mul, ← Nat.mul_assoc a, Nat.mul_assoc (a * dg_ b B j), ← Nat.pow_add, Nat.add_comm j i]
    omega
  · have h1 := Nat.mod_add_div U (b ^ (i + j + 1))
    have h2 := Nat.mod_add_div B (b ^ (j + 1))
    have h3 : W = (U % b ^ (i + j + 1) + a * (B % b ^ (j + 1)) * b ^ i) + (U / b ^ (i + j + 1) + a * (B / b ^ (j + 1))) * b ^ (i + j + 1) := by
      rw [hW, Nat.add_mul, Nat.mul_comm (U / _)]
      have h4 : a * B * b ^ i = a * (B % b ^ (j + 1)) * b ^ i + a * (B / b ^ (j + 1)) * b ^ (i + j + 1) := by
        conv => lhs; rw [← h2]
        rw [Nat.mul_add, Nat.add_mul, Nat.mul_comm (b ^ (j + 1)), ← Nat.mul_assoc a, Nat.mul_assoc _ (b ^ (j + 1)), ← Nat.pow_add, show j + 1 + i = i + j + 1 by omega]
      omega
    rw [h3, Nat.add_mul_mod_self_right, ← Nat.add_assoc]
/-- the product's last limb -/
theorem mu_e {b U W a B i j : Nat} (hb : 0 < b) (hW : W = U + a * B * b ^ i) (hU : U < b ^ (i + j)) (hB : B < b ^ j) (hW' : W < b ^ (i + j + 1)) : (U % b ^ (i + j) + a * (B % b ^ j) * b ^ i) / b ^ (i + j) = dg_ b W (i + j) := by
  rw [Nat.mod_eq_of_lt hU, Nat.mod_eq_of_lt hB, ← hW]
  unfold dg_
  rw [Nat.mod_eq_of_lt]
  exact Nat.div_lt_of_lt_mul (by rw [← dg_ps]; exact hW')
theorem dg_low {b U t i k : Nat} (hk : k < i) : dg_ b (U + t * b ^ i) k = dg_ b U k := by
  show (U + t * b ^ i) / b ^ k % b = _
  refine dg_cong ?_
  rw [show b ^ i = b ^ (i - (k + 1)) * b ^ (k + 1) by rw [← Nat.pow_add, show i - (k + 1) + (k + 1) = i by omega], ← Nat.mul_assoc, Nat.add_mul_mod_self_right]
section
variable {f_length f_depth f_open f_top f_repeats f_lenA f_signA f_lenB f_signB f_lenR f_signR f_fault : Int32} {a_op a_arg a_mate a_openAt a_var a_stack a_turns a_holders a_size a_signOf a_limb a_a a_b a_r a_rest : Nat → Int32}
theorem xl_in {post : SX → Prop} {J : Int32 → (Nat → Int32) → (Nat → Int32) → (Nat → Int32) → (Nat → Int32) → (Nat → Int32) → (Nat → Int32) → (Nat → Int32) → (Nat → Int32) → (Nat → Int32) → (Nat → Int32) → (Nat → Int32) → (Nat → Int32) → (Nat → Int32) → (Nat → Int32) → (Nat → Int32) → Prop} {A B i M : Nat} (hi : i < 10) (hM : M ≤ 10) (hB : B < 10000 ^ M) (ha : ∀ j, j < 12 → a_a j = nI (dg_ 10000 A j)) (hb : ∀ j, j < 12 → a_b j = nI (dg_ 10000 B j)) (KJ : ∀ r', (∀ k, k < 24 → r' k = nI (dg_ 10000 (A % 10000 ^ (i + 1) * B) k)) → J (nI (i + 1)) a_op a_arg a_mate a_openAt a_var a_stack a_turns a_holders a_size a_signOf a_limb a_a a_b r' a_rest) : ∀ m j r, j + m = M → (∀ k, k < 24 → r k = nI (if k < i + j then dg_ 10000 (A % 10000 ^ (i + 1) * B) k else dg_ 10000 (A % 10000 ^ i * B) k)) → (A % 10000 ^ i * B % 10000 ^ (i + j) + dg_ 10000 A i * (B % 10000 ^ j) * 10000 ^ i) / 10000 ^ (i + j) ≤ 9999 → wX_multiply_18 post J (nI i) f_length f_depth f_open f_top f_repeats f_lenA f_signA (nI M) f_signB f_lenR f_signR f_fault (m + 1) (nI ((A % 10000 ^ i * B % 10000 ^ (i + j) + dg_ 10000 A i * (B % 10000 ^ j) * 10000 ^ i) / 10000 ^ (i + j))) (nI j) a_op a_arg a_mate a_openAt a_var a_stack a_turns a_holders a_size a_signOf a_limb a_a a_b r a_rest := by
  have hW : A % 10000 ^ (i + 1) * B = A % 10000 ^ i * B + dg_ 10000 A i * B * 10000 ^ i := by rw [dg_md, Nat.add_mul, Nat.mul_right_comm]
  have hp := dg_pp (b := 10000) (by omega)
  have hU : ∀ k, A % 10000 ^ k * B < 10000 ^ (k + M) := by
    intro k
    rw [Nat.pow_add]
    exact Nat.mul_lt_mul_of_lt_of_lt (Nat.mod_lt _ (hp k)) hB
  intro m
  induction m with
  | zero =>
    intro j r hj hw hc
    cases (show j = M by omega)
    have e1 : nI i + nI M = nI (i + M) := nI_add i M
    have hW2 : A % 10000 ^ (i + 1) * B < 10000 ^ (i + M + 1) := by have := hU (i + 1); rw [show i + 1 + M = i + M + 1 by omega] at this; exact this
    rw [mu_e (by omega) hW (hU i) hB hW2]
    refine br_t (nI_le (Nat.le_refl M) (by omega)) ⟨pk_in (i + M) 24 (by omega) e1, nm_r (up_e e1 (by omega) rfl) (nm_r (nI_1 i) (KJ _ (fun k hk => ?_)))⟩
    by_cases e : k = i + M
    · subst e; rw [pk_us]
    · rw [pk_un e, hw k hk]
      by_cases e' : k < i + M
      · rw [if_pos e']
      · rw [if_neg e', dg_z (hU i) (by omega) (by omega), dg_z hW2 (by omega) (by omega)]
  | succ m ih =>
    intro j r hj hw hc
    have hd := dg_lt (b := 10000) (by omega) A i
    have hd' := dg_lt (b := 10000) (by omega) B j
    have hd2 := dg_lt (b := 10000) (by omega) (A % 10000 ^ i * B) (i + j)
    have hp : dg_ 10000 A i * dg_ 10000 B j ≤ 99980001 := Nat.mul_le_mul (show _ ≤ 9999 by omega) (show _ ≤ 9999 by omega)
    obtain ⟨q1, q2⟩ := mu_s (j := j) (show 0 < 10000 by omega) hW
    have ih' := ih (j + 1)
    have e1 : nI i + nI j = nI (i + j) := nI_add i j
    have i1 := pk_in (x := nI i + nI j) (i + j) 24 (by omega) e1
    have hr := hw (i + j) (by omega)
    rw [if_neg (by omega)] at hr
    generalize (A % 10000 ^ i * B % 10000 ^ (i + j) + dg_ 10000 A i * (B % 10000 ^ j) * 10000 ^ i) / 10000 ^ (i + j) = y at *
    generalize (A % 10000 ^ i * B % 10000 ^ (i + (j + 1)) + dg_ 10000 A i * (B % 10000 ^ (j + 1)) * 10000 ^ i) / 10000 ^ (i + (j + 1)) = y' at *
    have he : (r (nI i + nI j).toNatClampNeg + a_a (nI i).toNatClampNeg * a_b (nI j).toNatClampNeg) + nI y = nI (y + (dg_ 10000 (A % 10000 ^ i * B) (i + j) + dg_ 10000 A i * dg_ 10000 B j)) := by
      rw [rd_e (f := r) e1 (by omega) hr, rd_e (f := a_a) rfl (by omega) (ha i (by omega)), rd_e (f := a_b) rfl (by omega) (hb j (by omega)), pk_mul, nI_add, nI_add, Nat.add_comm y]
    have hy : y + (dg_ 10000 (A % 10000 ^ i * B) (i + j) + dg_ 10000 A i * dg_ 10000 B j) ≤ 99999999 := by omega
    generalize y + (dg_ 10000 (A % 10000 ^ i * B) (i + j) + dg_ 10000 A i * dg_ 10000 B j) = s at *
    have hm : nI s - nI s / 10000 * 10000 = nI (dg_ 10000 (A % 10000 ^ (i + 1) * B) (i + j)) := (pk_rem (d := 10000) (by omega) (by omega) (by omega)).trans (congrArg nI q1)
    have hq : nI s / 10000 = nI y' := (pk_div (d := 10000) (by omega) (by omega) (by omega)).trans (congrArg nI q2)
    refine br_f (nI_ge (b := M) (by omega) (by omega)) ⟨i1, vp_in_nI (by omega) (by omega), vp_in_nI (by omega) (by omega), nm_r he ⟨by decide, i1, nm_r (up_e e1 (by omega) hm) ⟨by decide, nm_r hq (nm_r (nI_1 j) ?_)⟩⟩⟩
    refine ih' _ (by omega) (fun k hk => ?_) (by omega)
    by_cases e : k = i + j
    · subst e; rw [pk_us, if_pos (by omega)]
    · rw [pk_un e, hw k hk]
      by_cases e' : k < i + j
      · rw [if_pos e', if_pos (by omega)]
      · rw [if_neg e', if_neg (by omega)]
theorem xl_out {post : SX → Prop} {A B L M : Nat} (hL : L ≤ 10) (hM : M ≤ 10) (hA : A < 10000 ^ L) (hB : B < 10000 ^ M) (ha : ∀ j, j < 12 → a_a j = nI (dg_ 10000 A j)) (hb : ∀ j, j < 12 → a_b j = nI (dg_ 10000 B j)) (K : ∀ r', (∀ k, k < 24 → r' k = nI (dg_ 10000 (A * B) k)) → post (f_length, f_depth, f_open, f_top, f_repeats, (nI L), f_signA, (nI M), f_signB, (nI (L + M)), (f_signA * f_signB), f_fault, a_op, a_arg, a_mate, a_openAt, a_var, a_stack, a_turns, a_holders, a_size, a_signOf, a_limb, a_a, a_b, r', a_rest)) : ∀ m i r, i + m = L → (∀ k, k < 24 → r k = nI (dg_ 10000 (A % 10000 ^ i * B) k)) → wX_multiply_6 post f_length f_depth f_open f_top f_repeats (nI L) f_signA (nI M) f_signB f_lenR f_signR f_fault (m + 1) (nI i) a_op a_arg a_mate a_openAt a_var a_stack a_turns a_holders a_size a_signOf a_limb a_a a_b r a_rest := by
  intro m
  induction m with
  | zero =>
    intro i r hi hw
    cases (show i = L by omega)
    rw [Nat.mod_eq_of_lt hA] at hw
    exact br_t (nI_le (Nat.le_refl L) (by omega)) (nm_r (nI_add L M) (nm_e (K r hw)))
  | succ m ih =>
    intro i r hi hw
    refine br_f (nI_ge (b := L) (by omega) (by omega)) ⟨M + 1, ?_⟩
    have hz : (A % 10000 ^ i * B % 10000 ^ (i + 0) + dg_ 10000 A i * (B % 10000 ^ 0) * 10000 ^ i) / 10000 ^ (i + 0) = 0 := by
      rw [Nat.pow_zero, Nat.mod_one, Nat.mul_zero, Nat.zero_mul, Nat.add_zero, Nat.add_zero]
      exact Nat.div_eq_of_lt (Nat.mod_lt _ (dg_pp (by omega) i))
    have hW : A % 10000 ^ (i + 1) * B = A % 10000 ^ i * B + dg_ 10000 A i * B * 10000 ^ i := by rw [dg_md, Nat.add_mul, Nat.mul_right_comm]
    have h := xl_in (post := post) (f_length := f_length) (f_depth := f_depth) (f_open := f_open) (f_top := f_top) (f_repeats := f_repeats) (f_lenA := (nI L)) (f_signA := f_signA) (f_signB := f_signB) (f_lenR := f_lenR) (f_signR := f_signR) (f_fault := f_fault) (a_op := a_op) (a_arg := a_arg) (a_mate := a_mate) (a_openAt := a_openAt) (a_var := a_var) (a_stack := a_stack) (a_turns := a_turns) (a_holders := a_holders) (a_size := a_size) (a_signOf := a_signOf) (a_limb := a_limb) (a_a := a_a) (a_b := a_b) (a_rest := a_rest) (i := i) (by omega) hM hB ha hb (fun r' hr' => ih (i + 1) r' (by omega) hr') M 0 r (by omega) (fun k hk => by
      rw [hw k hk, Nat.add_zero]
      by_cases e : k < i
      · rw [if_pos e, hW, dg_low e]
      · rw [if_neg e]) (by rw [hz]; omega)
    rw [hz] at h
    exact h
theorem x_mul {post : SX → Prop} {A B L M : Nat} (hL : L ≤ 10) (hM : M ≤ 10) (hA : A < 10000 ^ L) (hB : B < 10000 ^ M) (ha : ∀ j, j < 12 → a_a j = nI (dg_ 10000 A j)) (hb : ∀ j, j < 12 → a_b j = nI (dg_ 10000 B j)) (K : ∀ r', (∀ k, k < 24 → r' k = nI (dg_ 10000 (A * B) k)) → post (f_length, f_depth, f_open, f_top, f_repeats, (nI L), f_signA, (nI M), f_signB, (nI (L + M)), (f_signA * f_signB), f_fault, a_op, a_arg, a_mate, a_openAt, a_var, a_stack, a_turns, a_holders, a_size, a_signOf, a_limb, a_a, a_b, r', a_rest)) : wpX_multiply post (f_length, f_depth, f_open, f_top, f_repeats, (nI L), f_signA, (nI M), f_signB, f_lenR, f_signR, f_fault, a_op, a_arg, a_mate, a_openAt, a_var, a_stack, a_turns, a_holders, a_size, a_signOf, a_limb, a_a, a_b, a_r, a_rest) := by
  unfold wpX_multiply
  refine x_clear (fun r0 h0 => ?_)
  refine Exists.intro (L + 1) (xl_out hL hM hA hB ha hb K L 0 r0 (by omega) (fun k hk => ?_))
  rw [h0 k hk, Nat.pow_zero, Nat.mod_one, Nat.zero_mul, dg_00]
/-! division -/
theorem xt_34 {post : Int32 → Prop} {J : Int32 → Int32 → Int32 → Prop} {B q R i : Nat} {z o x1 : Int32} (hq : q < 10000) (hi : i < 13) (hz : z = nI (dg_ 10000 B i * q)) (hr : a_rest i = nI (dg_ 10000 R i)) (ho : o < 0 ↔ R % 10000 ^ i < B * q % 10000 ^ i) (KJ : ∀ o', (o' < 0 ↔ R % 10000 ^ (i + 1) < B * q % 10000 ^ (i + 1)) → J (nI (cm_ 10000 B q (i + 1))) o' (nI (i + 1))) : wX_fits_34 post J x1 (nI (cm_ 10000 B q i)) o (nI i) z f_length f_depth f_open f_top f_repeats f_lenA f_signA f_lenB f_signB f_lenR f_signR f_fault a_op a_arg a_mate a_openAt a_var a_stack a_turns a_holders a_size a_signOf a_limb a_a a_b a_r a_rest := by
  have hd := dg_lt (b := 10000) (by omega) B i
  have hd2 := dg_lt (b := 10000) (by omega) R i
  have hd3 := dg_lt (b := 10000) (by omega) (B * q) i
  have hc := cm_le (b := 10000) (by omega) B q i
  have hp : dg_ 10000 B i * q ≤ 99980001 := Nat.mul_le_mul (show _ ≤ 9999 by omega) (show _ ≤ 9999 by omega)
  obtain ⟨q1, q2⟩ := cm_s (b := 10000) (by omega) B q i
  have he : z + nI (cm_ 10000 B q i) = nI (dg_ 10000 B i * q + cm_ 10000 B q i) := by rw [hz, nI_add]
  have hs : dg_ 10000 B i * q + cm_ 10000 B q i ≤ 99999999 := by omega
  have c1 := cp_e (b := 10000) (A := R) (B := B * q) (k := i)
  have c2 := cp_l (b := 10000) (by omega) (A := R) (B := B * q) (k := i)
  have c3 := cp_l (b := 10000) (by omega) (A := B * q) (B := R) (k := i)
  generalize dg_ 10000 B i * q + cm_ 10000 B q i = s at *
  have hm : nI s - nI s / 10000 * 10000 = nI (dg_ 10000 (B * q) i) := (pk_rem (d := 10000) (by omega) (by omega) (by omega)).trans (congrArg nI q1)
  have hqq : nI s / 10000 = nI (cm_ 10000 B q (i + 1)) := (pk_div (d := 10000) (by omega) (by omega) (by omega)).trans (congrArg nI q2)
  have hx : a_rest (nI i).toNatClampNeg - (nI s - nI s / 10000 * 10000) = iz_I ((dg_ 10000 R i : Int) - dg_ 10000 (B * q) i) := by
    rw [hm, rd_e (f := a_rest) rfl (by omega) hr, iz_n, iz_n, iz_sub]
  refine nm_r he ⟨by decide, nm_r hqq ⟨vp_in_nI hi (by omega), by decide, nm_r hx ?_⟩⟩
  refine ek_if (iz_eq (b := 0) (by omega) (by omega) (by omega) (by omega)) (fun e => nm_r (nI_1 i) (KJ o ?_)) (fun e => nm_r (nI_1 i) (KJ _ ?_))
  · rw [ho, (c1 (by omega)).1]
  · rw [show (iz_I ((dg_ 10000 R i : Int) - dg_ 10000 (B * q) i) < 0 ↔ _) from iz_lt (b := 0) (by omega) (by omega) (by omega) (by omega)]
    constructor
    · intro h; exact c2 (by omega)
    · intro h
      rcases Nat.lt_trichotomy (dg_ 10000 R i) (dg_ 10000 (B * q) i) with g | g | g
      · omega
      · omega
      · have := c3 g; omega
theorem xt_loop {post : Int32 → Prop} {B q R : Nat} (hq : q < 10000) (hB : B < 10000 ^ 10) (hR : R < 10000 ^ 13) (hb : ∀ j, j < 12 → a_b j = nI (dg_ 10000 B j)) (hr : ∀ j, j < 13 → a_rest j = nI (dg_ 10000 R j)) (K1 : B * q ≤ R → post 1) (K0 : R < B * q → post 0) : ∀ m i o, i + m = 13 → (o < 0 ↔ R % 10000 ^ i < B * q % 10000 ^ i) → wX_fits_7 post (nI q) f_length f_depth f_open f_top f_repeats f_lenA f_signA f_lenB f_signB f_lenR f_signR f_fault a_op a_arg a_mate a_openAt a_var a_stack a_turns a_holders a_size a_signOf a_limb a_a a_b a_r a_rest (m + 1) (nI (cm_ 10000 B q i)) o (nI i) := by
  have hBq : B * q < 10000 ^ 11 := by
    rw [dg_ps]; exact Nat.mul_lt_mul_of_lt_of_lt hB hq
  have hBq' : B * q < 10000 ^ 13 := Nat.lt_of_lt_of_le hBq (Nat.pow_le_pow_right (by omega) (by omega))
  intro m
  induction m with
  | zero =>
    intro i o hi ho
    cases (show i = 13 by omega)
    rw [Nat.mod_eq_of_lt hR, Nat.mod_eq_of_lt hBq'] at ho
    rw [cm_e hBq' (Or.inr (Nat.lt_of_lt_of_le hB (Nat.pow_le_pow_right (by omega) (by omega))))]
    exact br_t (nI_le (a := 13) (b := 13) (by omega) (by omega)) (br_t rfl (ek_if ho K0 (fun h => K1 (by omega))))
  | succ m ih =>
    intro i o hi ho
    refine br_f (nI_ge (b := 13) (by omega) (by omega)) ?_
    refine pk_le 12 i (fun h => ?_) (fun h => ⟨vp_in_nI (by omega) (by omega), ?_⟩)
    · exact xt_34 hq (by omega) (by rw [dg_z hB (by omega) (by omega), Nat.zero_mul]; rfl) (hr i (by omega)) ho (fun o' ho' => ih (i + 1) o' (by omega) ho')
    · exact xt_34 hq (by omega) (by rw [rd_e (f := a_b) rfl (by omega) (hb i (by omega)), pk_mul]) (hr i (by omega)) ho (fun o' ho' => ih (i + 1) o' (by omega) ho')
theorem x_fits {post : Int32 → Prop} {B q R : Nat} (hq : q < 10000) (hB : B < 10000 ^ 10) (hR : R < 10000 ^ 13) (hb : ∀ j, j < 12 → a_b j = nI (dg_ 10000 B j)) (hr : ∀ j, j < 13 → a_rest j = nI (dg_ 10000 R j)) (K1 : B * q ≤ R → post 1) (K0 : R < B * q → post 0) : wpX_fits post (f_length, f_depth, f_open, f_top, f_repeats, f_lenA, f_signA, f_lenB, f_signB, f_lenR, f_signR, f_fault, a_op, a_arg, a_mate, a_openAt, a_var, a_stack, a_turns, a_holders, a_size, a_signOf, a_limb, a_a, a_b, a_r, a_rest) (nI q) := by
  have h := xt_loop (f_length := f_length) (f_depth := f_depth) (f_open := f_open) (f_top := f_top) (f_repeats := f_repeats) (f_lenA := f_lenA) (f_signA := f_signA) (f_lenB := f_lenB) (f_signB := f_signB) (f_lenR := f_lenR) (f_signR := f_signR) (f_fault := f_fault) (a_op := a_op) (a_arg := a_arg) (a_mate := a_mate) (a_openAt := a_openAt) (a_var := a_var) (a_stack := a_stack) (a_turns := a_turns) (a_holders := a_holders) (a_size := a_size) (a_signOf := a_signOf) (a_limb := a_limb) (a_a := a_a) (a_b := a_b) (a_r := a_r) (a_rest := a_rest) hq hB hR hb hr K1 K0 13 0 0 (by omega) (by rw [Nat.pow_zero, Nat.mod_one, Nat.mod_one]; decide)
  rw [cm_0] at h
  exact Exists.intro (13 + 1) h
theorem xq_loop {post : Int32 → Prop} {B Q R : Nat} (hB0 : 0 < B) (hQ : Q = R / B) (hB : B < 10000 ^ 10) (hR : R < 10000 ^ 13) (hb : ∀ j, j < 12 → a_b j = nI (dg_ 10000 B j)) (hr : ∀ j, j < 13 → a_rest j = nI (dg_ 10000 R j)) (K : post (nI Q)) : ∀ n lo hi, hi - lo ≤ n → lo ≤ Q → Q < hi → hi ≤ 10000 → wX_quotientLimb_6 post f_length f_depth f_open f_top f_repeats f_lenA f_signA f_lenB f_signB f_lenR f_signR f_fault a_op a_arg a_mate a_openAt a_var a_stack a_turns a_holders a_size a_signOf a_limb a_a a_b a_r a_rest (n + 1) (nI lo) (nI hi) := by
  intro n
  induction n with
  | zero => intro lo hi h1 h2 h3; omega
  | succ n ih =>
    intro lo hi h1 h2 h3 h4
    have e1 : nI hi - nI lo = nI (hi - lo) := pk_sub (by omega)
    refine pk_le (hi - lo) 1 (fun h => ?_) (fun h => ⟨by decide, nm_r (e' := nI ((lo + hi) / 2)) ((congrArg (· / 2) (nI_add lo hi)).trans (pk_div (d := 2) (by omega) (by omega) (by omega))) ?_⟩) e1
    · cases (show lo = Q by omega); exact K
    · have hle := Nat.le_div_iff_mul_le hB0 (x := (lo + hi) / 2) (y := R)
      rw [Nat.mul_comm, ← hQ] at hle
      refine x_fits (by omega) hB hR hb hr (fun h5 => ?_) (fun h5 => ?_)
      · exact br_f (by decide) (ih _ _ (by omega) (hle.mpr h5) h3 h4)
      · refine br_t rfl (ih _ _ (by omega) h2 ?_ (by omega))
        rcases Nat.lt_or_ge Q ((lo + hi) / 2) with z | z
        · exact z
        · have := hle.mp z; omega
theorem x_quot {post : Int32 → Prop} {B R : Nat} (hB0 : 0 < B) (hRB : R < B * 10000) (hB : B < 10000 ^ 10) (hR : R < 10000 ^ 13) (hb : ∀ j, j < 12 → a_b j = nI (dg_ 10000 B j)) (hr : ∀ j, j < 13 → a_rest j = nI (dg_ 10000 R j)) (K : post (nI (R / B))) : wpX_quotientLimb post (f_length, f_depth, f_open, f_top, f_repeats, f_lenA, f_signA, f_lenB, f_signB, f_lenR, f_signR, f_fault, a_op, a_arg, a_mate, a_openAt, a_var, a_stack, a_turns, a_holders, a_size, a_signOf, a_limb, a_a, a_b, a_r, a_rest) :=
  Exists.intro (10000 + 1) (xq_loop hB0 rfl hB hR hb hr K 10000 0 10000 (by omega) (Nat.zero_le _) (Nat.div_lt_of_lt_mul hRB) (by omega))
theorem xo_34 {post : SX → Prop} {J : Int32 → Int32 → Int32 → (Nat → Int32) → (Nat → Int32) → (Nat → Int32) → (Nat → Int32) → (Nat → Int32) → (Nat → Int32) → (Nat → Int32) → (Nat → Int32) → (Nat → Int32) → (Nat → Int32) → (Nat → Int32) → (Nat → Int32) → (Nat → Int32) → (Nat → Int32) → (Nat → Int32) → Prop} {B q R D i : Nat} {z x1 : Int32} (hD : D + B * q = R) (hq : q < 10000) (hi : i < 13) (hz : z = nI (dg_ 10000 B i * q)) (hr : a_rest i = nI (dg_ 10000 R i)) (KJ : J (nI (cm_ 10000 B q (i + 1))) (nI (cs_ 10000 D (B * q) (i + 1))) (nI (i + 1)) a_op a_arg a_mate a_openAt a_var a_stack a_turns a_holders a_size a_signOf a_limb a_a a_b a_r (upd a_rest i (nI (dg_ 10000 D i)))) : wX_takeOff_34 post J x1 (nI (cm_ 10000 B q i)) (nI (cs_ 10000 D (B * q) i)) (nI i) z f_length f_depth f_open f_top f_repeats f_lenA f_signA f_lenB f_signB f_lenR f_signR f_fault a_op a_arg a_mate a_openAt a_var a_stack a_turns a_holders a_size a_signOf a_limb a_a a_b a_r a_rest := by
  have hd := dg_lt (b := 10000) (by omega) B i
  have hd2 := dg_lt (b := 10000) (by omega) D i
  have hc' := cs_lt (b := 10000) (by omega) D (B * q) (i + 1)
  have hc := cm_le (b := 10000) (by omega) B q i
  have hp : dg_ 10000 B i * q ≤ 99980001 := Nat.mul_le_mul (show _ ≤ 9999 by omega) (show _ ≤ 9999 by omega)
  obtain ⟨q1, q2⟩ := cm_s (b := 10000) (by omega) B q i
  have qb := bo_s (b := 10000) (by omega) hD i
  have he : z + nI (cm_ 10000 B q i) = nI (dg_ 10000 B i * q + cm_ 10000 B q i) := by rw [hz, nI_add]
  have hs : dg_ 10000 B i * q + cm_ 10000 B q i ≤ 99999999 := by omega
  generalize dg_ 10000 B i * q + cm_ 10000 B q i = s at *
  have hm : nI s - nI s / 10000 * 10000 = nI (dg_ 10000 (B * q) i) := (pk_rem (d := 10000) (by omega) (by omega) (by omega)).trans (congrArg nI q1)
  have hqq : nI s / 10000 = nI (cm_ 10000 B q (i + 1)) := (pk_div (d := 10000) (by omega) (by omega) (by omega)).trans (congrArg nI q2)
  have hx : (a_rest (nI i).toNatClampNeg - (nI s - nI s / 10000 * 10000)) - nI (cs_ 10000 D (B * q) i) = iz_I ((dg_ 10000 D i : Int) - 10000 * cs_ 10000 D (B * q) (i + 1)) := by
    rw [hm, rd_e (f := a_rest) rfl (by omega) hr, iz_n, iz_n, iz_n, iz_sub, iz_sub]
    exact congrArg iz_I (by omega)
  have i1 := vp_in_nI (n := i) (N := 13) hi (by omega)
  refine nm_r he ⟨by decide, nm_r hqq ⟨i1, by decide, nm_r hx ?_⟩⟩
  refine ek_if (iz_le (a := 0) (by omega) (by omega) (by omega) (by omega)) (fun e => And.intro i1 (nm_r (up_e (w := nI (dg_ 10000 D i)) rfl (by omega) ?_) (nm_r (nI_1 i) ?_))) (fun e => And.intro i1 (nm_r (up_e (w := nI (dg_ 10000 D i)) rfl (by omega) ?_) (nm_r (nI_1 i) ?_)))
  · rw [show (0 : Int32) * 10000 = iz_I 0 from by decide, iz_add, iz_n]; exact congrArg iz_I (by omega)
  · rw [show cs_ 10000 D (B * q) (i + 1) = 0 by omega] at KJ; exact KJ
  · rw [show (1 : Int32) * 10000 = iz_I 10000 from by decide, iz_add, iz_n]; exact congrArg iz_I (by omega)
  · rw [show cs_ 10000 D (B * q) (i + 1) = 1 by omega] at KJ; exact KJ
theorem xo_loop {post : SX → Prop} {B q R D : Nat} (hD : D + B * q = R) (hq : q < 10000) (hB : B < 10000 ^ 10) (hb : ∀ j, j < 12 → a_b j = nI (dg_ 10000 B j)) (K : ∀ t', (∀ j, j < 13 → t' j = nI (dg_ 10000 D j)) → post (f_length, f_depth, f_open, f_top, f_repeats, f_lenA, f_signA, f_lenB, f_signB, f_lenR, f_signR, f_fault, a_op, a_arg, a_mate, a_openAt, a_var, a_stack, a_turns, a_holders, a_size, a_signOf, a_limb, a_a, a_b, a_r, t')) : ∀ m i t, i + m = 13 → (∀ j, j < i → t j = nI (dg_ 10000 D j)) → (∀ j, i ≤ j → j < 13 → t j = nI (dg_ 10000 R j)) → wX_takeOff_7 post (nI q) f_length f_depth f_open f_top f_repeats f_lenA f_signA f_lenB f_signB f_lenR f_signR f_fault (m + 1) (nI (cm_ 10000 B q i)) (nI (cs_ 10000 D (B * q) i)) (nI i) a_op a_arg a_mate a_openAt a_var a_stack a_turns a_holders a_size a_signOf a_limb a_a a_b a_r t := by
  intro m
  induction m with
  | zero =>
    intro i t hi hw _
    cases (show i = 13 by omega)
    exact br_t (nI_le (a := 13) (b := 13) (by omega) (by omega)) (K t hw)
  | succ m ih =>
    intro i t hi hw hr
    have h := ih (i + 1) (upd t i (nI (dg_ 10000 D i))) (by omega) (st_n hw rfl) (fun j hj hj' => by rw [pk_un (by omega)]; exact hr j (by omega) hj')
    refine br_f (nI_ge (b := 13) (by omega) (by omega)) ?_
    refine pk_le 12 i (fun z => ?_) (fun z => ⟨vp_in_nI (by omega) (by omega), ?_⟩)
    · exact xo_34 hD hq (by omega) (by rw [dg_z hB (by omega) (by omega), Nat.zero_mul]; rfl) (hr i (by omega) (by omega)) h
    · exact xo_34 hD hq (by omega) (by rw [rd_e (f := a_b) rfl (by omega) (hb i (by omega)), pk_mul]) (hr i (by omega) (by omega)) h
theorem x_takeOff {post : SX → Prop} {B q R D : Nat} (hD : D + B * q = R) (hq : q < 10000) (hB : B < 10000 ^ 10) (hb : ∀ j, j < 12 → a_b j = nI (dg_ 10000 B j)) (hr : ∀ j, j < 13 → a_rest j = nI (dg_ 10000 R j)) (K : ∀ t', (∀ j, j < 13 → t' j = nI (dg_ 10000 D j)) → post (f_length, f_depth, f_open, f_top, f_repeats, f_lenA, f_signA, f_lenB, f_signB, f_lenR, f_signR, f_fault, a_op, a_arg, a_mate, a_openAt, a_var, a_stack, a_turns, a_holders, a_size, a_signOf, a_limb, a_a, a_b, a_r, t')) : wpX_takeOff post (f_length, f_depth, f_open, f_top, f_repeats, f_lenA, f_signA, f_lenB, f_signB, f_lenR, f_signR, f_fault, a_op, a_arg, a_mate, a_openAt, a_var, a_stack, a_turns, a_holders, a_size, a_signOf, a_limb, a_a, a_b, a_r, a_rest) (nI q) := by
  have h := xo_loop hD hq hB hb K 13 0 a_rest (by omega) (fun j hj => absurd hj (by omega)) (fun j _ hj => hr j hj)
  rw [cm_0, cs_0] at h
  exact Exists.intro (13 + 1) h
theorem xd_sh {post : SX → Prop} {J : Int32 → Int32 → Int32 → Int32 → Int32 → Int32 → Int32 → Int32 → Int32 → Int32 → Int32 → Int32 → Int32 → (Nat → Int32) → (Nat → Int32) → (Nat → Int32) → (Nat → Int32) → (Nat → Int32) → (Nat → Int32) → (Nat → Int32) → (Nat → Int32) → (Nat → Int32) → (Nat → Int32) → (Nat → Int32) → (Nat → Int32) → (Nat → Int32) → (Nat → Int32) → (Nat → Int32) → Prop} {i R a B : Nat} (hi : i < 10) (hR : ∀ j, j < 13 → a_rest j = nI (dg_ 10000 R j)) (hb : ∀ j, j < 12 → a_b j = nI (dg_ 10000 B j)) (ha : a_a i = nI a) (ha' : a < 10000) (hB0 : 0 < B) (hRB : R < B) (hB : B < 10000 ^ 10) (K : ∀ t', (∀ j, j < 13 → t' j = nI (dg_ 10000 ((R * 10000 + a) % B) j)) → J (nI i + (-1)) f_length f_depth f_open f_top f_repeats f_lenA f_signA f_lenB f_signB f_lenR f_signR f_fault a_op a_arg a_mate a_openAt a_var a_stack a_turns a_holders a_size a_signOf a_limb a_a a_b (upd a_r i (nI ((R * 10000 + a) / B))) t') : ∀ k t, k ≤ 12 → (∀ j, k < j → j < 13 → t j = nI (dg_ 10000 R (j - 1))) → (∀ j, j ≤ k → t j = a_rest j) → wX_divide_39 post J (nI i) f_length f_depth f_open f_top f_repeats f_lenA f_signA f_lenB f_signB f_lenR f_signR f_fault (k + 1) (nI k) a_op a_arg a_mate a_openAt a_var a_stack a_turns a_holders a_size a_signOf a_limb a_a a_b a_r t := by
  intro k
  induction k with
  | zero =>
    intro t _ hw hf
    have i1 := vp_in_nI (n := i) (N := 24) (by omega) (by omega)
    have hn : ∀ j, j < 13 → upd t 0 (nI a) j = nI (dg_ 10000 (R * 10000 + a) j) := by
      intro j hj
      rcases Nat.eq_zero_or_pos j with z | z
      · subst z; rw [pk_us, dg_s0 R a ha']
      · obtain ⟨l, rfl⟩ : ∃ l, j = l + 1 := ⟨j - 1, by omega⟩
        rw [dg_sh R a l ha', pk_un (by omega), hw (l + 1) (by omega) hj, Nat.add_sub_cancel]
    have h1 : R * 10000 + a < B * 10000 := by omega
    have h2 : R * 10000 + a < 10000 ^ 13 := by
      refine Nat.lt_trans h1 (Nat.lt_of_lt_of_le (Nat.mul_lt_mul_of_pos_right hB (by omega)) ?_)
      rw [← dg_ps]; exact Nat.pow_le_pow_right (by omega) (by omega)
    have h3 := Nat.mod_add_div (R * 10000 + a) B
    have h4 : (R * 10000 + a) / B < 10000 := Nat.div_lt_of_lt_mul h1
    refine br_t (by decide) ⟨vp_in_nI (by omega) (by omega), nm_r (congrArg (upd t 0) (rd_e rfl (by omega) ha)) ?_⟩
    refine x_quot hB0 h1 hB h2 hb hn ?_
    refine And.intro i1 (nm_r (up_e rfl (by omega) rfl) ⟨i1, ?_⟩)
    rw [rd_e (f := upd a_r i (nI ((R * 10000 + a) / B))) rfl (by omega) pk_us]
    exact x_takeOff h3 h4 hB hb hn (fun t' ht => nm_e (K t' ht))
  | succ k ih =>
    intro t hk hw hf
    have e1 : nI (k + 1) - 1 = nI k := nI_pred k
    refine br_f (nI_nle (by omega) (by omega)) ⟨pk_in k 13 (by omega) e1, vp_in_nI (by omega) (by omega), nm_r (up_e rfl (by omega) (rd_e e1 (by omega) ((hf k (by omega)).trans (hR k (by omega))))) (nm_r (pk_m1 k) ?_)⟩
    refine ih _ (by omega) (fun j h1 h2 => ?_) (fun j hj => ?_)
    · by_cases e : j = k + 1
      · subst e; rw [pk_us]; rfl
      · rw [pk_un e]; exact hw j (by omega) h2
    · rw [pk_un (by omega)]; exact hf j (by omega)
theorem xd_out {post : SX → Prop} {A B L : Nat} (hL : L ≤ 10) (ha : ∀ j, j < 12 → a_a j = nI (dg_ 10000 A j)) (hb : ∀ j, j < 12 → a_b j = nI (dg_ 10000 B j)) (hB0 : 0 < B) (hB : B < 10000 ^ 10) (K : ∀ r' t', (∀ j, j < 24 → r' j = nI (dg_ 10000 (A / B) j)) → (∀ j, j < 13 → t' j = nI (dg_ 10000 (A % B) j)) → post (f_length, f_depth, f_open, f_top, f_repeats, f_lenA, f_signA, f_lenB, f_signB, f_lenA, (f_signA * f_signB), f_fault, a_op, a_arg, a_mate, a_openAt, a_var, a_stack, a_turns, a_holders, a_size, a_signOf, a_limb, a_a, a_b, r', t')) : ∀ e r t, e ≤ 10 → (∀ j, j < 13 → t j = nI (dg_ 10000 (A / 10000 ^ e % B) j)) → (∀ j, j < 24 → r j = nI (if e ≤ j then dg_ 10000 (A / B) j else 0)) → wX_divide_32 post (e + 1) (nI e + (-1)) f_length f_depth f_open f_top f_repeats f_lenA f_signA f_lenB f_signB f_lenR f_signR f_fault a_op a_arg a_mate a_openAt a_var a_stack a_turns a_holders a_size a_signOf a_limb a_a a_b r t := by
  intro e
  induction e with
  | zero =>
    intro r t _ ht hr
    rw [Nat.pow_zero, Nat.div_one] at ht
    exact br_t (by decide) (nm_e (K r t (fun j hj => by rw [hr j hj, if_pos (by omega)]) ht))
  | succ e ih =>
    intro r t he ht hr
    rw [pk_m1]
    refine br_f (nI_pos (by omega)) ⟨12 + 1, ?_⟩
    refine xd_sh (a := dg_ 10000 A e) (R := A / 10000 ^ (e + 1) % B) (by omega) ht hb (ha e (by omega)) (dg_lt (by omega) _ _) hB0 (Nat.mod_lt _ hB0) hB (fun t' ht' => ?_) 12 t (by omega) (fun j h1 h2 => by omega) (fun _ _ => rfl)
    rw [dv_r] at ht'
    rw [dv_q (by omega) hB0]
    refine ih _ t' (by omega) ht' (fun j hj => ?_)
    by_cases z : j = e
    · subst z; rw [pk_us, if_pos (by omega)]
    · rw [pk_un z, hr j hj]
      by_cases z' : e + 1 ≤ j
      · rw [if_pos z', if_pos (by omega)]
      · rw [if_neg z', if_neg (by omega)]
theorem xd_zero {post : SX → Prop} (K : ∀ t', (∀ j, j < 13 → t' j = nI 0) → ∃ n, wX_divide_32 post n (f_lenA - 1) f_length f_depth f_open f_top f_repeats f_lenA f_signA f_lenB f_signB f_lenR f_signR f_fault a_op a_arg a_mate a_openAt a_var a_stack a_turns a_holders a_size a_signOf a_limb a_a a_b a_r t') : ∀ m i t, i + m = 13 → (∀ j, j < i → t j = nI 0) → wX_divide_6 post f_length f_depth f_open f_top f_repeats f_lenA f_signA f_lenB f_signB f_lenR f_signR f_fault (m + 1) (nI i) a_op a_arg a_mate a_openAt a_var a_stack a_turns a_holders a_size a_signOf a_limb a_a a_b a_r t := by
  intro m
  induction m with
  | zero =>
    intro i t hi hw
    cases (show i = 13 by omega)
    exact br_t (nI_le (a := 13) (b := 13) (by omega) (by omega)) (nm_e (K t hw))
  | succ m ih =>
    intro i t hi hw
    refine br_f (nI_ge (b := 13) (by omega) (by omega)) ⟨vp_in_nI (by omega) (by omega), nm_r (up_e rfl (by omega) rfl) (nm_r (nI_1 i) ?_)⟩
    exact ih (i + 1) _ (by omega) (st_n (g := fun _ => nI 0) hw rfl)
theorem x_div {post : SX → Prop} {A B L : Nat} (hL : L ≤ 10) (hA : A < 10000 ^ L) (ha : ∀ j, j < 12 → a_a j = nI (dg_ 10000 A j)) (hb : ∀ j, j < 12 → a_b j = nI (dg_ 10000 B j)) (hB0 : 0 < B) (hB : B < 10000 ^ 10) (K : ∀ r' t', (∀ j, j < 24 → r' j = nI (dg_ 10000 (A / B) j)) → (∀ j, j < 13 → t' j = nI (dg_ 10000 (A % B) j)) → post (f_length, f_depth, f_open, f_top, f_repeats, (nI L), f_signA, f_lenB, f_signB, (nI L), (f_signA * f_signB), f_fault, a_op, a_arg, a_mate, a_openAt, a_var, a_stack, a_turns, a_holders, a_size, a_signOf, a_limb, a_a, a_b, r', t')) : wpX_divide post (f_length, f_depth, f_open, f_top, f_repeats, (nI L), f_signA, f_lenB, f_signB, f_lenR, f_signR, f_fault, a_op, a_arg, a_mate, a_openAt, a_var, a_stack, a_turns, a_holders, a_size, a_signOf, a_limb, a_a, a_b, a_r, a_rest) := by
  unfold wpX_divide
  refine x_clear (fun r0 h0 => ?_)
  refine Exists.intro (13 + 1) (xd_zero (fun t0 ht => ⟨L + 1, ?_⟩) 13 0 a_rest (by omega) (fun j hj => absurd hj (by omega)))
  rw [Int32.sub_eq_add_neg]
  refine xd_out hL ha hb hB0 hB K L r0 t0 hL (fun j hj => ?_) (fun j hj => ?_)
  · rw [ht j hj, Nat.div_eq_of_lt hA, Nat.zero_mod, dg_00]
  · rw [h0 j hj]
    by_cases e : L ≤ j
    · rw [if_pos e, dg_z (Nat.lt_of_le_of_lt (Nat.div_le_self A B) hA) e (by omega)]
    · rw [if_neg e]
theorem xrr_loop {post : SX → Prop} (K : ∀ r', (∀ j, j < 12 → r' j = a_rest j) → post (f_length, f_depth, f_open, f_top, f_repeats, f_lenA, f_signA, f_lenB, f_signB, 12, f_signA, f_fault, a_op, a_arg, a_mate, a_openAt, a_var, a_stack, a_turns, a_holders, a_size, a_signOf, a_limb, a_a, a_b, r', a_rest)) : ∀ m i r, i + m = 12 → (∀ j, j < i → r j = a_rest j) → wX_restToResult_2 post f_length f_depth f_open f_top f_repeats f_lenA f_signA f_lenB f_signB f_lenR f_signR f_fault (m + 1) (nI i) a_op a_arg a_mate a_openAt a_var a_stack a_turns a_holders a_size a_signOf a_limb a_a a_b r a_rest := by
  intro m
  induction m with
  | zero =>
    intro i r hi hw
    cases (show i = 12 by omega)
    exact br_t (nI_le (a := 12) (b := 12) (by omega) (by omega)) (K r hw)
  | succ m ih =>
    intro i r hi hw
    refine br_f (nI_ge (b := 12) (by omega) (by omega)) ⟨vp_in_nI (by omega) (by omega), vp_in_nI (by omega) (by omega), nm_r (up_e rfl (by omega) (rd_e rfl (by omega) rfl)) (nm_r (nI_1 i) ?_)⟩
    exact ih (i + 1) _ (by omega) (st_n (g := a_rest) hw rfl)
theorem x_rest {post : SX → Prop} (K : ∀ r', (∀ j, j < 12 → r' j = a_rest j) → post (f_length, f_depth, f_open, f_top, f_repeats, f_lenA, f_signA, f_lenB, f_signB, 12, f_signA, f_fault, a_op, a_arg, a_mate, a_openAt, a_var, a_stack, a_turns, a_holders, a_size, a_signOf, a_limb, a_a, a_b, r', a_rest)) : wpX_restToResult post (f_length, f_depth, f_open, f_top, f_repeats, f_lenA, f_signA, f_lenB, f_signB, f_lenR, f_signR, f_fault, a_op, a_arg, a_mate, a_openAt, a_var, a_stack, a_turns, a_holders, a_size, a_signOf, a_limb, a_a, a_b, a_r, a_rest) :=
  Exists.intro (12 + 1) (xrr_loop K 12 0 a_r (by omega) (fun j hj => absurd hj (by omega)))
end
end
section
/-! the component: order, combine, the questions -/
/-- the outcome of an operation: the fault, and the new word -/
def xo_ (c : Nat → Nat) (z s l : Nat → Int32) (r : Nat × Int) (w : Int32) (H' z' s' l' : Nat → Int32) (ft : Int32) : Prop := ft = nI r.1 ∧ nw_ c z s l w r.2 H' z' s' l'
theorem xo_1 {c : Nat → Nat} {H z s l : Nat → Int32} (hH : hc_ H c) : nw_ c z s l 1 0 H z s l := nw_s (V := 0) hH ⟨by omega, by omega⟩
theorem xo_3 {c : Nat → Nat} {H z s l : Nat → Int32} (hH : hc_ H c) : nw_ c z s l 3 1 H z s l := nw_s (V := 1) hH ⟨by omega, by omega⟩
theorem sg_0 {V : Int} (h : 0 ≤ V) : sg_ V = 1 := if_neg (by omega)
theorem sg_m {V : Int} (h : V < 0) : sg_ V = -1 := if_pos h
section
variable {f_length f_depth f_open f_top f_repeats f_lenA f_signA f_lenB f_signB f_lenR f_signR f_fault : Int32} {a_op a_arg a_mate a_openAt a_var a_stack a_turns a_holders a_size a_signOf a_limb a_a a_b a_r a_rest : Nat → Int32}
theorem xr_16 {post : Int32 → Prop} {x y : Int} {L M : Nat} (hA : Ln_ 10000 L x.natAbs) (hB : Ln_ 10000 M y.natAbs) (hL : L ≤ 10) (hM : M ≤ 10) (h0 : L ≠ 0 ∨ M ≠ 0) (ha : ∀ j, j < 12 → a_a j = nI (dg_ 10000 x.natAbs j)) (hb : ∀ j, j < 12 → a_b j = nI (dg_ 10000 y.natAbs j)) (K : post (oc_ x y)) : wX_order_16 post f_length f_depth f_open f_top f_repeats (nI L) (sg_ x) (nI M) (sg_ y) f_lenR f_signR f_fault a_op a_arg a_mate a_openAt a_var a_stack a_turns a_holders a_size a_signOf a_limb a_a a_b a_r a_rest := by
  have zx := ln_iff (by omega) hA
  have zy := ln_iff (by omega) hB
  refine pk_eq L 0 (fun h => ?_) (fun h => ?_)
  · have hx : x = 0 := by have := zx.mp h; omega
    have hy : y ≠ 0 := fun z => by rcases h0 with g | g; · exact g h
                                   · exact g (zy.mpr (by omega))
    rcases Int.lt_trichotomy y 0 with g | g | g
    · rw [sg_m g]; rw [oc_g (by omega)] at K; exact K
    · exact absurd g hy
    · rw [sg_0 (by omega)]; rw [oc_l (by omega)] at K; exact K
  · have hx : x ≠ 0 := fun z => h (zx.mpr (by omega))
    refine pk_eq M 0 (fun h' => ?_) (fun h' => ?_)
    · have hy : y = 0 := by have := zy.mp h'; omega
      rcases Int.lt_trichotomy x 0 with g | g | g
      · rw [sg_m g]; rw [oc_l (by omega)] at K; exact K
      · exact absurd g hx
      · rw [sg_0 (by omega)]; rw [oc_g (by omega)] at K; exact K
    · have hy : y ≠ 0 := fun z => h' (zy.mpr (by omega))
      refine br_c (fun e => ?_) (fun e => ?_)
      · refine x_cmp hA hB hL hM ha hb ?_
        rcases Int.lt_trichotomy x 0 with g | g | g
        · rw [sg_m g] at e ⊢
          have gy : y < 0 := by
            rcases Int.lt_or_le y 0 with z | z
            · exact z
            · rw [sg_0 z] at e; exact absurd e (by decide)
          rw [show (-1 : Int32) * sc_ x.natAbs y.natAbs = - sc_ x.natAbs y.natAbs by rw [Int32.neg_mul, Int32.one_mul], sc_neg, ← oc_sn, show -(x.natAbs : Int) = x by omega, show -(y.natAbs : Int) = y by omega]
          exact K
        · exact absurd g hx
        · rw [sg_0 (by omega)] at e ⊢
          have gy : 0 ≤ y := by
            rcases Int.lt_or_le y 0 with z | z
            · rw [sg_m z] at e; exact absurd e (by decide)
            · exact z
          rw [Int32.one_mul, ← oc_sc, show (x.natAbs : Int) = x by omega, show (y.natAbs : Int) = y by omega]
          exact K
      · rcases Int.lt_trichotomy x 0 with g | g | g
        · rw [sg_m g] at e ⊢
          have gy : 0 ≤ y := by
            rcases Int.lt_or_le y 0 with z | z
            · rw [sg_m z] at e; exact absurd rfl e
            · exact z
          rw [oc_l (by omega)] at K; exact K
        · exact absurd g hx
        · rw [sg_0 (by omega)] at e ⊢
          have gy : y < 0 := by
            rcases Int.lt_or_le y 0 with z | z
            · exact z
            · rw [sg_0 z] at e; exact absurd rfl e
          rw [oc_g (by omega)] at K; exact K
theorem x_order {post : Int32 → Prop} {x y : Int} {L M : Nat} (hA : Ln_ 10000 L x.natAbs) (hB : Ln_ 10000 M y.natAbs) (hL : L ≤ 10) (hM : M ≤ 10) (ha : ∀ j, j < 12 → a_a j = nI (dg_ 10000 x.natAbs j)) (hb : ∀ j, j < 12 → a_b j = nI (dg_ 10000 y.natAbs j)) (K : post (oc_ x y)) : wpX_order post (f_length, f_depth, f_open, f_top, f_repeats, (nI L), (sg_ x), (nI M), (sg_ y), f_lenR, f_signR, f_fault, a_op, a_arg, a_mate, a_openAt, a_var, a_stack, a_turns, a_holders, a_size, a_signOf, a_limb, a_a, a_b, a_r, a_rest) := by
  have zx := ln_iff (by omega) hA
  have zy := ln_iff (by omega) hB
  refine pk_eq L 0 (fun h => pk_eq M 0 (fun h' => ?_) (fun h' => xr_16 hA hB hL hM (Or.inr h') ha hb K)) (fun h => xr_16 hA hB hL hM (Or.inl h) ha hb K)
  have := zx.mp h
  have := zy.mp h'
  rw [oc_e (by omega)] at K; exact K
/-! small numbers by machine arithmetic -/
theorem x_csmall {post : Int32 → SX → Prop} {c : Nat → Nat} {o : Nat} {x y : Int} (hH : hc_ a_holders c) (ho : 3 ≤ o) (ho' : o ≤ 8) (hx : sm_ x) (hy : sm_ y) (hne : ¬ ((o = 6 ∨ o = 7) ∧ y = 0)) (hf : f_fault = 0) (K : ∀ w H' z' s' l' ft e5 e6 q3, xo_ c a_size a_signOf a_limb (al_ o x y) w H' z' s' l' ft → post w (f_length, f_depth, f_open, f_top, f_repeats, f_lenA, f_signA, f_lenB, f_signB, e5, e6, ft, a_op, a_arg, a_mate, a_openAt, a_var, a_stack, a_turns, H', z', s', l', a_a, a_b, q3, a_rest)) : wpX_combineSmall post (f_length, f_depth, f_open, f_top, f_repeats, f_lenA, f_signA, f_lenB, f_signB, f_lenR, f_signR, f_fault, a_op, a_arg, a_mate, a_openAt, a_var, a_stack, a_turns, a_holders, a_size, a_signOf, a_limb, a_a, a_b, a_r, a_rest) (nI o) (jz_I x) (jz_I y) := by
  subst hf
  have x1 := hx.1; have x2 := hx.2; have y1 := hy.1; have y2 := hy.2
  have big : (4611686018427387904 : Nat) < 10 ^ 40 := by decide
  have fin : ∀ V : Int, -4611686018427387904 ≤ V → V ≤ 4611686018427387904 → av_ o x y = V → ∀ p, p = jz_I V → wpX_wordOf post (f_length, f_depth, f_open, f_top, f_repeats, f_lenA, f_signA, f_lenB, f_signB, f_lenR, f_signR, 0, a_op, a_arg, a_mate, a_openAt, a_var, a_stack, a_turns, a_holders, a_size, a_signOf, a_limb, a_a, a_b, a_r, a_rest) p := by
    intro V h1 h2 h3 p hp
    subst hp
    refine x_wordOf hH h1 h2 (fun w H' z' s' l' e g r' hn => K w H' z' s' l' 0 e g r' ?_)
    rw [al_k hne (by rw [h3]; omega), h3]
    exact ⟨rfl, hn⟩
  have n6 : o ≠ 6 → ¬ nI o = (6 : Int32) := fun h z => h ((nI_eq (b := 6) (by omega) (by omega)).mp z)
  refine pk_lt o 3 (fun h => by omega) (fun _ => ?_)
  refine pk_lt 7 o (fun h => ?_) (fun h => ?_)
  · cases (show o = 8 by omega)
    have l1 : jz_I y ≤ jz_I x ↔ y ≤ x := jz_le (by omega) (by omega) (by omega) (by omega)
    refine ek_if l1 (fun h => K _ _ _ _ _ _ _ _ _ ?_) (fun h => K _ _ _ _ _ _ _ _ _ ?_)
    · have e : av_ 8 x y = 0 := if_neg (show ¬ x < y by omega)
      rw [al_k hne (by rw [e]; decide), e]
      exact ⟨rfl, xo_1 hH⟩
    · have e : av_ 8 x y = 1 := if_pos (show x < y by omega)
      rw [al_k hne (by rw [e]; decide), e]
      exact ⟨rfl, xo_3 hH⟩
  refine pk_eq o 3 (fun e => ?_) (fun e3 => ?_)
  · subst e
    exact fin (x + y) (by omega) (by omega) rfl _ (jz_add x y)
  refine pk_eq o 4 (fun e => ?_) (fun e4 => ?_)
  · subst e
    exact fin (x - y) (by omega) (by omega) rfl _ (jz_sub x y)
  refine pk_eq o 5 (fun e => ?_) (fun e5 => ?_)
  · subst e
    have hm : (x * y).natAbs ≤ 1073741824 * 1073741824 := by
      rw [Int.natAbs_mul]; exact Nat.mul_le_mul (by omega) (by omega)
    exact fin (x * y) (by omega) (by omega) rfl _ (jz_mul x y)
  have l0 : jz_I y = 0 ↔ y = 0 := jz_eq (b := 0) (by omega) (by omega) (by omega) (by omega)
  refine pk_eq o 6 (fun e => ?_) (fun e6 => ?_)
  · subst e
    refine ek_if l0 (fun h => absurd ⟨Or.inl rfl, h⟩ hne) (fun h => ⟨fun z => h (l0.mp z), ?_⟩)
    have hm := Int.natAbs_tdiv_le_natAbs x y
    exact fin (x.tdiv y) (by omega) (by omega) rfl _ (jz_div (by omega) (by omega) (by omega) (by omega))
  refine pk_eq o 7 (fun e => ?_) (fun e7 => by omega)
  subst e
  refine ek_if l0 (fun h => absurd ⟨Or.inr rfl, h⟩ hne) (fun h => ⟨fun z => h (l0.mp z), ?_⟩)
  have hm : (x.tmod y).natAbs ≤ x.natAbs := by rw [Int.natAbs_tmod]; exact Nat.mod_le _ _
  refine fin (x.tmod y) (by omega) (by omega) rfl _ ?_
  rw [jz_div (by omega) (by omega) (by omega) (by omega), jz_mul, jz_sub, Int.tmod_def, Int.mul_comm]
/-! big numbers by limbs -/
theorem tv_mul {a b : Int32} (ha : a = 1 ∨ a = -1) (hb : b = 1 ∨ b = -1) (A B : Nat) : tv_ (a * b) (A * B) = tv_ a A * tv_ b B ∧ (a * b = 1 ∨ a * b = -1) := by
  rcases ha with h | h <;> rcases hb with h' | h' <;> subst h <;> subst h'
  · refine ⟨?_, Or.inl (by decide)⟩; show tv_ 1 _ = _; rw [tv_1, tv_1, tv_1, Int.natCast_mul]
  · refine ⟨?_, Or.inr (by decide)⟩; show tv_ (-1) _ = _; rw [tv_m, tv_1, tv_m, Int.natCast_mul, Int.mul_neg]
  · refine ⟨?_, Or.inr (by decide)⟩; show tv_ (-1) _ = _; rw [tv_m, tv_1, tv_m, Int.natCast_mul, Int.neg_mul]
  · refine ⟨?_, Or.inl (by decide)⟩; show tv_ 1 _ = _; rw [tv_1, tv_m, tv_m, Int.natCast_mul, Int.neg_mul_neg]
theorem tv_div {a b : Int32} (ha : a = 1 ∨ a = -1) (hb : b = 1 ∨ b = -1) (A B : Nat) : tv_ (a * b) (A / B) = (tv_ a A).tdiv (tv_ b B) := by
  rcases ha with h | h <;> rcases hb with h' | h' <;> subst h <;> subst h'
  · show tv_ 1 _ = _; rw [tv_1, tv_1, tv_1, Int.ofNat_tdiv]
  · show tv_ (-1) _ = _; rw [tv_m, tv_1, tv_m, Int.tdiv_neg, Int.ofNat_tdiv]
  · show tv_ (-1) _ = _; rw [tv_m, tv_1, tv_m, Int.neg_tdiv, Int.ofNat_tdiv]
  · show tv_ 1 _ = _; rw [tv_1, tv_m, tv_m, Int.neg_tdiv, Int.tdiv_neg, Int.neg_neg, Int.ofNat_tdiv]
theorem tv_mod {a b : Int32} (ha : a = 1 ∨ a = -1) (hb : b = 1 ∨ b = -1) (A B : Nat) : tv_ a (A % B) = (tv_ a A).tmod (tv_ b B) := by
  rcases ha with h | h <;> rcases hb with h' | h' <;> subst h <;> subst h'
  · rw [tv_1, tv_1, tv_1, Int.ofNat_tmod]
  · rw [tv_1, tv_1, tv_m, Int.tmod_neg, Int.ofNat_tmod]
  · rw [tv_m, tv_m, tv_1, Int.neg_tmod, Int.ofNat_tmod]
  · rw [tv_m, tv_m, tv_m, Int.neg_tmod, Int.tmod_neg, Int.ofNat_tmod]
theorem tv_neg {s : Int32} (h : s = 1 ∨ s = -1) (R : Nat) : tv_ (-s) R = - tv_ s R ∧ (-s = 1 ∨ -s = -1) := by
  rcases h with h | h <;> subst h
  · exact ⟨by rw [tv_m, tv_1], Or.inr rfl⟩
  · refine ⟨?_, Or.inl (by decide)⟩; show tv_ 1 _ = _; rw [tv_m, tv_1, Int.neg_neg]
theorem x_pk {post : Int32 → SX → Prop} {c : Nat → Nat} {o : Nat} {x y V : Int} {R L : Nat} (hH : hc_ a_holders c) (hne : ¬ ((o = 6 ∨ o = 7) ∧ y = 0)) (hf : f_fault = 0) (hL : L ≤ 24) (hs : f_signR = 1 ∨ f_signR = -1) (hV : V = tv_ f_signR R) (hR : R < 10000 ^ L) (hr : ∀ j, j < L → a_r j = nI (dg_ 10000 R j)) (hav : av_ o x y = V) (K : ∀ w H' z' s' l' ft e5, xo_ c a_size a_signOf a_limb (al_ o x y) w H' z' s' l' ft → post w (f_length, f_depth, f_open, f_top, f_repeats, f_lenA, f_signA, f_lenB, f_signB, e5, f_signR, ft, a_op, a_arg, a_mate, a_openAt, a_var, a_stack, a_turns, H', z', s', l', a_a, a_b, a_r, a_rest)) : wpX_pack post (f_length, f_depth, f_open, f_top, f_repeats, f_lenA, f_signA, f_lenB, f_signB, (nI L), f_signR, f_fault, a_op, a_arg, a_mate, a_openAt, a_var, a_stack, a_turns, a_holders, a_size, a_signOf, a_limb, a_a, a_b, a_r, a_rest) := by
  subst hf
  refine x_pack hH hL hs hV hR hr (fun hb w H' z' s' l' e hn => K w H' z' s' l' 0 e ?_) (fun hb e => K 1 a_holders a_size a_signOf a_limb 2 e ?_)
  · rw [p_10] at hb
    rw [al_k hne (by rw [hav]; exact hb), hav]
    exact ⟨rfl, hn⟩
  · rw [p_10] at hb
    rw [al_2 hne (by rw [hav]; exact hb)]
    exact ⟨rfl, xo_1 hH⟩
theorem x_cbig {post : Int32 → SX → Prop} {c : Nat → Nat} {o : Nat} {x y : Int} {w w' : Int32} (hH : hc_ a_holders c) (ho : 3 ≤ o) (ho' : o ≤ 8) (hx : wd_ a_size a_signOf a_limb w x) (hy : wd_ a_size a_signOf a_limb w' y) (hne : ¬ ((o = 6 ∨ o = 7) ∧ y = 0)) (hf : f_fault = 0) (K : ∀ w H' z' s' l' ft e1 e2 e3 e4 e5 e6 q1 q2 q3 q4, xo_ c a_size a_signOf a_limb (al_ o x y) w H' z' s' l' ft → post w (f_length, f_depth, f_open, f_top, f_repeats, e1, e2, e3, e4, e5, e6, ft, a_op, a_arg, a_mate, a_openAt, a_var, a_stack, a_turns, H', z', s', l', q1, q2, q3, q4)) : wpX_combineBig post (f_length, f_depth, f_open, f_top, f_repeats, f_lenA, f_signA, f_lenB, f_signB, f_lenR, f_signR, f_fault, a_op, a_arg, a_mate, a_openAt, a_var, a_stack, a_turns, a_holders, a_size, a_signOf, a_limb, a_a, a_b, a_r, a_rest) (nI o) w w' := by
  unfold wpX_combineBig
  refine x_unpack hx hy (fun L M a' b' hL hL' hM hM' ha hb => ?_)
  have sx := sg_or x
  have sy := sg_or y
  have p11 : 10000 ^ 10 ≤ 10000 ^ 11 := Nat.pow_le_pow_right (by omega) (by omega)
  have hA10 : x.natAbs < 10000 ^ 10 := p_x hL.1 hL'
  have hB10 : y.natAbs < 10000 ^ 10 := p_x hM.1 hM'
  have hAB : ∀ R, R ≤ x.natAbs + y.natAbs → R < 10000 ^ 11 := by
    intro R hR
    have e := dg_ps 10000 10
    generalize 10000 ^ 11 = q at *
    generalize 10000 ^ 10 = p at *
    omega
  have lst : o = 8 → wpX_order (fun r => ((0 ≤ r → post 1 (f_length, f_depth, f_open, f_top, f_repeats, (nI L), (sg_ x), (nI M), (sg_ y), f_lenR, f_signR, f_fault, a_op, a_arg, a_mate, a_openAt, a_var, a_stack, a_turns, a_holders, a_size, a_signOf, a_limb, a', b', a_r, a_rest)) ∧ (¬ 0 ≤ r → post 3 (f_length, f_depth, f_open, f_top, f_repeats, (nI L), (sg_ x), (nI M), (sg_ y), f_lenR, f_signR, f_fault, a_op, a_arg, a_mate, a_openAt, a_var, a_stack, a_turns, a_holders, a_size, a_signOf, a_limb, a', b', a_r, a_rest)))) (f_length, f_depth, f_open, f_top, f_repeats, (nI L), (sg_ x), (nI M), (sg_ y), f_lenR, f_signR, f_fault, a_op, a_arg, a_mate, a_openAt, a_var, a_stack, a_turns, a_holders, a_size, a_signOf, a_limb, a', b', a_r, a_rest) := by
    intro e
    subst e
    subst hf
    refine x_order hL hM hL' hM' ha hb ?_
    refine ek_if (oc_lt0 x y) (fun h => K _ _ _ _ _ _ _ _ _ _ _ _ _ _ _ _ ?_) (fun h => K _ _ _ _ _ _ _ _ _ _ _ _ _ _ _ _ ?_)
    · have e : av_ 8 x y = 0 := if_neg h
      rw [al_k hne (by rw [e]; decide), e]
      exact ⟨rfl, xo_1 hH⟩
    · have e : av_ 8 x y = 1 := if_pos (Decidable.of_not_not h)
      rw [al_k hne (by rw [e]; decide), e]
      exact ⟨rfl, xo_3 hH⟩
  refine pk_lt o 3 (fun h => by omega) (fun _ => pk_lt 7 o (fun h => lst (by omega)) (fun h => ?_))
  refine pk_eq o 3 (fun e => ?_) (fun e3 => ?_)
  · subst e
    refine x_addS hL hM hL' hM' ha hb sx sy (fun r' R s hr hR hs hv => ?_)
    refine x_pk (o := 3) (x := x) (y := y) (L := 11) hH hne hf (by omega) hs rfl (hAB R hR) hr ?_ (fun w H' z' s' l' ft e5 h => K w H' z' s' l' ft _ _ _ _ e5 _ _ _ _ _ h)
    rw [hv, tv_sg, tv_sg]; rfl
  refine pk_eq o 4 (fun e => ?_) (fun e4 => ?_)
  · subst e
    refine nm_e ?_
    refine x_addS hL hM hL' hM' ha hb sx (tv_neg sy 0).2 (fun r' R s hr hR hs hv => ?_)
    refine x_pk (o := 4) (x := x) (y := y) (L := 11) hH hne hf (by omega) hs rfl (hAB R hR) hr ?_ (fun w H' z' s' l' ft e5 h => K w H' z' s' l' ft _ _ _ _ e5 _ _ _ _ _ h)
    rw [hv, tv_sg, (tv_neg sy _).1, tv_sg]
    show x - y = x + -y
    omega
  refine pk_eq o 5 (fun e => ?_) (fun e5 => ?_)
  · subst e
    refine x_mul hL' hM' hL.1 hM.1 ha hb (fun r' hr => ?_)
    refine x_pk (o := 5) (x := x) (y := y) (L := L + M) (R := x.natAbs * y.natAbs) hH hne hf (by omega) (tv_mul sx sy 0 0).2 rfl (by rw [Nat.pow_add]; exact Nat.mul_lt_mul_of_lt_of_lt hL.1 hM.1) (fun j hj => hr j (by omega)) ?_ (fun w H' z' s' l' ft e5 h => K w H' z' s' l' ft _ _ _ _ e5 _ _ _ _ _ h)
    rw [(tv_mul sx sy _ _).1, tv_sg, tv_sg]; rfl
  have hB0 : o = 6 ∨ o = 7 → 0 < y.natAbs := by
    intro e
    have : ¬ y = 0 := fun z => hne ⟨e, z⟩
    omega
  refine pk_eq o 6 (fun e => ?_) (fun e6 => ?_)
  · subst e
    refine x_div hL' hL.1 ha hb (hB0 (Or.inl rfl)) hB10 (fun r' t' hr ht => ?_)
    refine x_pk (o := 6) (x := x) (y := y) (L := L) (R := x.natAbs / y.natAbs) hH hne hf (by omega) (tv_mul sx sy 0 0).2 rfl (Nat.lt_of_le_of_lt (Nat.div_le_self _ _) hL.1) (fun j hj => hr j (by omega)) ?_ (fun w H' z' s' l' ft e5 h => K w H' z' s' l' ft _ _ _ _ e5 _ _ _ _ _ h)
    rw [tv_div sx sy, tv_sg, tv_sg]; rfl
  refine pk_eq o 7 (fun e => ?_) (fun e7 => by omega)
  subst e
  refine x_div hL' hL.1 ha hb (hB0 (Or.inr rfl)) hB10 (fun r' t' hr ht => ?_)
  refine x_rest (fun r2 hr2 => ?_)
  refine x_pk (o := 7) (x := x) (y := y) (L := 12) (R := x.natAbs % y.natAbs) hH hne hf (by omega) sx rfl (Nat.lt_of_le_of_lt (Nat.mod_le _ _) (Nat.lt_of_lt_of_le hA10 (Nat.pow_le_pow_right (by omega) (by omega)))) (fun j hj => by rw [hr2 j hj, ht j (by omega)]) ?_ (fun w H' z' s' l' ft e5 h => K w H' z' s' l' ft _ _ _ _ e5 _ _ _ _ _ h)
  rw [tv_mod sx sy, tv_sg, tv_sg]; rfl
theorem x_c24 {post : Int32 → SX → Prop} {c : Nat → Nat} {o : Nat} {x y : Int} {w w' : Int32} (hH : hc_ a_holders c) (ho : 3 ≤ o) (ho' : o ≤ 8) (hx : wd_ a_size a_signOf a_limb w x) (hy : wd_ a_size a_signOf a_limb w' y) (hne : ¬ ((o = 6 ∨ o = 7) ∧ y = 0)) (hf : f_fault = 0) (K : ∀ w H' z' s' l' ft e1 e2 e3 e4 e5 e6 q1 q2 q3 q4, xo_ c a_size a_signOf a_limb (al_ o x y) w H' z' s' l' ft → post w (f_length, f_depth, f_open, f_top, f_repeats, e1, e2, e3, e4, e5, e6, ft, a_op, a_arg, a_mate, a_openAt, a_var, a_stack, a_turns, H', z', s', l', q1, q2, q3, q4)) : wX_combine_24 post (nI o) w w' f_length f_depth f_open f_top f_repeats f_lenA f_signA f_lenB f_signB f_lenR f_signR f_fault a_op a_arg a_mate a_openAt a_var a_stack a_turns a_holders a_size a_signOf a_limb a_a a_b a_r a_rest := by
  have big := x_cbig (f_length := f_length) (f_depth := f_depth) (f_open := f_open) (f_top := f_top) (f_repeats := f_repeats) (f_lenA := f_lenA) (f_signA := f_signA) (f_lenB := f_lenB) (f_signB := f_signB) (f_lenR := f_lenR) (f_signR := f_signR) (f_fault := f_fault) (a_op := a_op) (a_arg := a_arg) (a_mate := a_mate) (a_openAt := a_openAt) (a_var := a_var) (a_stack := a_stack) (a_turns := a_turns) (a_holders := a_holders) (a_size := a_size) (a_signOf := a_signOf) (a_limb := a_limb) (a_a := a_a) (a_b := a_b) (a_r := a_r) (a_rest := a_rest) hH ho ho' hx hy hne hf K
  unfold wX_combine_24
  rcases id hx with ⟨h, rfl⟩ | ⟨k, _, hk, rfl, _⟩
  · refine x_s1 h ?_
    refine br_f (by decide) ?_
    rcases id hy with ⟨h', rfl⟩ | ⟨k, _, hk, rfl, _⟩
    · refine x_s1 h' ?_
      refine br_f (by decide) ?_
      have h1 := h.1; have h2 := h.2; have h3 := h'.1; have h4 := h'.2
      rw [wb_so h, wb_so h', jz_iz (by omega) (by omega), jz_iz (by omega) (by omega)]
      exact x_csmall hH ho ho' h h' hne hf (fun w H' z' s' l' ft e5 e6 q3 hh => K w H' z' s' l' ft _ _ _ _ e5 e6 _ _ q3 _ hh)
    · refine x_s0 hk ?_
      exact br_t rfl big
  · refine x_s0 hk ?_
    exact br_t rfl big
theorem x_combine {post : Int32 → SX → Prop} {c : Nat → Nat} {o : Nat} {x y : Int} {w w' : Int32} (hH : hc_ a_holders c) (ho : 3 ≤ o) (ho' : o ≤ 8) (hx : wd_ a_size a_signOf a_limb w x) (hy : wd_ a_size a_signOf a_limb w' y) (hf : f_fault = 0) (K : ∀ w H' z' s' l' ft e1 e2 e3 e4 e5 e6 q1 q2 q3 q4, xo_ c a_size a_signOf a_limb (al_ o x y) w H' z' s' l' ft → post w (f_length, f_depth, f_open, f_top, f_repeats, e1, e2, e3, e4, e5, e6, ft, a_op, a_arg, a_mate, a_openAt, a_var, a_stack, a_turns, H', z', s', l', q1, q2, q3, q4)) : wpX_combine post (f_length, f_depth, f_open, f_top, f_repeats, f_lenA, f_signA, f_lenB, f_signB, f_lenR, f_signR, f_fault, a_op, a_arg, a_mate, a_openAt, a_var, a_stack, a_turns, a_holders, a_size, a_signOf, a_limb, a_a, a_b, a_r, a_rest) (nI o) w w' := by
  have h12 : (o = 6 ∨ o = 7) → wX_combine_12 post (nI o) w w' f_length f_depth f_open f_top f_repeats f_lenA f_signA f_lenB f_signB f_lenR f_signR f_fault a_op a_arg a_mate a_openAt a_var a_stack a_turns a_holders a_size a_signOf a_limb a_a a_b a_r a_rest := by
    intro ho6
    refine ek_if (wd_0 hy) (fun h => K _ _ _ _ _ _ _ _ _ _ _ _ _ _ _ _ ?_) (fun h => x_c24 hH ho ho' hx hy (fun z => h z.2) hf K)
    rw [al_z ho6 h]
    exact ⟨rfl, xo_1 hH⟩
  exact pk_eq o 6 (fun e => h12 (Or.inl e)) (fun e6 => pk_eq o 7 (fun e => h12 (Or.inr e)) (fun e7 => x_c24 hH ho ho' hx hy (fun z => by omega) hf K))
end
end
section
/-! the program: nesting, stack heights, the pure machine and its measure -/
def ns_ (O : Nat → Nat) : Nat → Nat
  | 0 => 0
  | i + 1 => if O i = 9 ∨ O i = 10 then ns_ O i + 1 else if O i = 11 then ns_ O i - 1 else ns_ O i
def dp_ (O : Nat → Nat) : Nat → Nat
  | 0 => 0
  | i + 1 => if O i ≤ 1 then dp_ O i + 1 else if O i ≤ 9 then dp_ O i - 1 else dp_ O i
theorem ns_o {O : Nat → Nat} {i : Nat} (h : O i = 9 ∨ O i = 10) : ns_ O (i + 1) = ns_ O i + 1 := if_pos h
theorem ns_e {O : Nat → Nat} {i : Nat} (h : O i = 11) : ns_ O (i + 1) = ns_ O i - 1 := by
  show (if O i = 9 ∨ O i = 10 then ns_ O i + 1 else if O i = 11 then ns_ O i - 1 else ns_ O i) = _
  rw [if_neg (by omega), if_pos h]
theorem ns_n {O : Nat → Nat} {i : Nat} (h : O i ≤ 8) : ns_ O (i + 1) = ns_ O i := by
  show (if O i = 9 ∨ O i = 10 then ns_ O i + 1 else if O i = 11 then ns_ O i - 1 else ns_ O i) = _
  rw [if_neg (by omega), if_neg (by omega)]
theorem dp_1 {O : Nat → Nat} {i : Nat} (h : O i ≤ 1) : dp_ O (i + 1) = dp_ O i + 1 := if_pos h
theorem dp_9 {O : Nat → Nat} {i : Nat} (h : 1 < O i) (h' : O i ≤ 9) : dp_ O (i + 1) = dp_ O i - 1 := by
  show (if O i ≤ 1 then dp_ O i + 1 else if O i ≤ 9 then dp_ O i - 1 else dp_ O i) = _
  rw [if_neg (by omega), if_pos h']
theorem dp_0 {O : Nat → Nat} {i : Nat} (h : 9 < O i) : dp_ O (i + 1) = dp_ O i := by
  show (if O i ≤ 1 then dp_ O i + 1 else if O i ≤ 9 then dp_ O i - 1 else dp_ O i) = _
  rw [if_neg (by omega), if_neg (by omega)]
theorem ns_c {O O' : Nat → Nat} : ∀ i, (∀ j, j < i → O' j = O j) → ns_ O' i = ns_ O i := by
  intro i
  induction i with
  | zero => intro _; rfl
  | succ i ih =>
    intro h
    show (if O' i = 9 ∨ O' i = 10 then ns_ O' i + 1 else if O' i = 11 then ns_ O' i - 1 else ns_ O' i) = (if O i = 9 ∨ O i = 10 then ns_ O i + 1 else if O i = 11 then ns_ O i - 1 else ns_ O i)
    rw [ih (fun j hj => h j (by omega)), h i (by omega)]
theorem dp_c {O O' : Nat → Nat} : ∀ i, (∀ j, j < i → O' j = O j) → dp_ O' i = dp_ O i := by
  intro i
  induction i with
  | zero => intro _; rfl
  | succ i ih =>
    intro h
    show (if O' i ≤ 1 then dp_ O' i + 1 else if O' i ≤ 9 then dp_ O' i - 1 else dp_ O' i) = (if O i ≤ 1 then dp_ O i + 1 else if O i ≤ 9 then dp_ O i - 1 else dp_ O i)
    rw [ih (fun j hj => h j (by omega)), h i (by omega)]
def po_ (o : Nat) : Nat := if 3 ≤ o ∧ o ≤ 8 then 2 else if o = 2 ∨ o = 9 then 1 else 0
/-- a token that was let in -/
def wt_ (O : Nat → Nat) (G : Nat → Int32) (i : Nat) : Prop := O i ≤ 11 ∧ ((O i = 1 ∨ O i = 2) → ∃ v, v < 8 ∧ G i = nI v) ∧ (O i = 10 → ∃ t, 1 ≤ t ∧ t ≤ 6 ∧ G i = nI t) ∧ po_ (O i) ≤ dp_ O i ∧ (O i ≤ 1 → dp_ O i < 6) ∧ (O i = 9 → dp_ O i = 1) ∧ (10 ≤ O i → dp_ O i = 0) ∧ ((O i = 9 ∨ O i = 10) → ns_ O i < 3) ∧ (O i = 11 → 0 < ns_ O i)
/-- a closed block -/
def cl_ (O mt : Nat → Nat) (L s : Nat) : Prop := s < mt s ∧ mt s < L ∧ O (mt s) = 11 ∧ mt (mt s) = s ∧ ns_ O (mt s + 1) = ns_ O s ∧ ∀ j, s < j → j ≤ mt s → ns_ O s < ns_ O j
def ok_ (O : Nat → Nat) (G : Nat → Int32) (mt : Nat → Nat) (L : Nat) : Prop := L ≤ 40 ∧ (∀ i, i < L → wt_ O G i) ∧ (∀ s, s < L → (O s = 9 ∨ O s = 10) → cl_ O mt L s)
theorem cl_n {O mt : Nat → Nat} {L b s : Nat} (hb : cl_ O mt L b) (hs : cl_ O mt L s) (hO : O s = 9 ∨ O s = 10) (h1 : b < s) (h2 : s ≤ mt b) : mt s < mt b := by
  obtain ⟨b1, b2, b3, b4, b5, b6⟩ := hb
  obtain ⟨s1, s2, s3, s4, s5, s6⟩ := hs
  rcases Nat.lt_trichotomy (mt s) (mt b) with h | h | h
  · exact h
  · rw [h] at s4; omega
  · have h3 : s ≠ mt b := by intro z; rw [z] at hO; omega
    have h4 := s6 (mt b + 1) (by omega) (by omega)
    have h5 := b6 s h1 h2
    omega
/-- the open blocks at a place, the innermost first: where they begin, how many turns are left -/
def nb_ (O mt : Nat → Nat) : Nat → List (Nat × Nat) → Prop
  | _, [] => True
  | a, (b, t) :: r => b < a ∧ a ≤ mt b ∧ (O b = 9 ∨ O b = 10) ∧ ns_ O b = r.length ∧ 1 ≤ t ∧ t ≤ 6 ∧ (O b = 9 → t = 1) ∧ nb_ O mt b r
def me_ (mt : Nat → Nat) (L : Nat) : Nat → List (Nat × Nat) → Nat
  | a, [] => (L - a) * 216
  | a, (b, t) :: r => ((mt b + 1 - a) + (t - 1) * (mt b - b)) * 6 ^ (2 - r.length) + me_ mt L (mt b + 1) r
def iv_ (O mt : Nat → Nat) (L a : Nat) (bs : List (Nat × Nat)) : Prop := a ≤ L ∧ nb_ O mt a bs ∧ ns_ O a = bs.length
/-- how far a place may be moved on within its block -/
def bd_ (mt : Nat → Nat) (L a : Nat) : List (Nat × Nat) → Prop
  | [] => a ≤ L
  | (b, _) :: _ => a ≤ mt b
theorem me_v {mt : Nat → Nat} {L a a' : Nat} {bs : List (Nat × Nat)} (h : a ≤ a') (hb : bd_ mt L a' bs) : me_ mt L a bs = me_ mt L a' bs + (a' - a) * 6 ^ (3 - bs.length) := by
  match bs, hb with
  | [], hb =>
    have hb : a' ≤ L := hb
    show (L - a) * 216 = (L - a') * 216 + (a' - a) * 216
    omega
  | (b, t) :: r, hb =>
    have hb : a' ≤ mt b := hb
    show ((mt b + 1 - a) + (t - 1) * (mt b - b)) * 6 ^ (2 - r.length) + me_ mt L (mt b + 1) r = ((mt b + 1 - a') + (t - 1) * (mt b - b)) * 6 ^ (2 - r.length) + me_ mt L (mt b + 1) r + (a' - a) * 6 ^ (3 - (r.length + 1))
    rw [show 3 - (r.length + 1) = 2 - r.length by omega, show mt b + 1 - a = (mt b + 1 - a') + (a' - a) by omega]
    generalize 6 ^ (2 - r.length) = p
    rw [Nat.add_right_comm, Nat.add_mul (mt b + 1 - a' + (t - 1) * (mt b - b)) (a' - a)]
    omega
theorem nb_v {O mt : Nat → Nat} {L a a' : Nat} {bs : List (Nat × Nat)} (hn : nb_ O mt a bs) (h : a ≤ a') (hb : bd_ mt L a' bs) : nb_ O mt a' bs := by
  match bs, hn, hb with
  | [], _, _ => exact True.intro
  | (b, t) :: r, hn, hb =>
    obtain ⟨h1, h2⟩ := hn
    exact ⟨by omega, hb, h2.2⟩
/-- a place that is not its block's end may be moved on -/
theorem bd_s {O mt : Nat → Nat} {G : Nat → Int32} {L a : Nat} {bs : List (Nat × Nat)} (ho : ok_ O G mt L) (hn : nb_ O mt a bs) (ha : a < L) (h11 : O a ≠ 11) : bd_ mt L (a + 1) bs := by
  match bs, hn with
  | [], _ => exact ha
  | (b, t) :: r, hn =>
    obtain ⟨h1, h2, h3, _⟩ := hn
    have hc := ho.2.2 b (by omega) h3
    show a + 1 ≤ mt b
    have : a ≠ mt b := by intro z; rw [z] at h11; exact h11 hc.2.2.1
    omega
/-- so may a block's beginning, to behind its end -/
theorem bd_b {O mt : Nat → Nat} {G : Nat → Int32} {L a : Nat} {bs : List (Nat × Nat)} (ho : ok_ O G mt L) (hn : nb_ O mt a bs) (ha : a < L) (hO : O a = 9 ∨ O a = 10) : bd_ mt L (mt a + 1) bs := by
  have hc := ho.2.2 a ha hO
  match bs, hn with
  | [], _ => exact hc.2.1
  | (b, t) :: r, hn =>
    obtain ⟨h1, h2, h3, _⟩ := hn
    exact cl_n (ho.2.2 b (by omega) h3) hc hO h1 h2
theorem me_p (k : Nat) : 0 < 6 ^ k := Nat.pow_pos (by omega)
theorem iv_n {O mt : Nat → Nat} {G : Nat → Int32} {L a : Nat} {bs : List (Nat × Nat)} (ho : ok_ O G mt L) (hi : iv_ O mt L a bs) (ha : a < L) (h : O a ≤ 8) : iv_ O mt L (a + 1) bs ∧ me_ mt L (a + 1) bs < me_ mt L a bs := by
  obtain ⟨_, h2, h3⟩ := hi
  have hb := bd_s ho h2 ha (by omega)
  refine ⟨⟨ha, nb_v h2 (by omega) hb, by rw [ns_n h, h3]⟩, ?_⟩
  rw [me_v (show a ≤ a + 1 by omega) hb, show a + 1 - a = 1 by omega, Nat.one_mul]
  have := me_p (3 - bs.length)
  omega
theorem iv_sk {O mt : Nat → Nat} {G : Nat → Int32} {L a : Nat} {bs : List (Nat × Nat)} (ho : ok_ O G mt L) (hi : iv_ O mt L a bs) (ha : a < L) (hO : O a = 9 ∨ O a = 10) : iv_ O mt L (mt a + 1) bs ∧ me_ mt L (mt a + 1) bs < me_ mt L a bs := by
  obtain ⟨_, h2, h3⟩ := hi
  have hc := ho.2.2 a ha hO
  have hb := bd_b ho h2 ha hO
  have hlt := hc.1
  refine ⟨⟨hc.2.1, nb_v h2 (by omega) hb, by rw [hc.2.2.2.2.1, h3]⟩, ?_⟩
  rw [me_v (show a ≤ mt a + 1 by omega) hb]
  have h4 := Nat.mul_le_mul (show 1 ≤ mt a + 1 - a by omega) (show 1 ≤ 6 ^ (3 - bs.length) from me_p _)
  omega
theorem iv_in {O mt : Nat → Nat} {G : Nat → Int32} {L a t : Nat} {bs : List (Nat × Nat)} (ho : ok_ O G mt L) (hi : iv_ O mt L a bs) (ha : a < L) (hO : O a = 9 ∨ O a = 10) (ht : 1 ≤ t) (ht' : t ≤ 6) (h9 : O a = 9 → t = 1) : iv_ O mt L (a + 1) ((a, t) :: bs) ∧ me_ mt L (a + 1) ((a, t) :: bs) < me_ mt L a bs := by
  obtain ⟨_, h2, h3⟩ := hi
  have hc := ho.2.2 a ha hO
  have hb := bd_b ho h2 ha hO
  have hlt := hc.1
  have hns := (ho.2.1 a ha).2.2.2.2.2.2.2.1 hO
  refine ⟨⟨ha, ⟨by omega, hlt, hO, h3, ht, ht', h9, h2⟩, by rw [ns_o hO, h3]; rfl⟩, ?_⟩
  rw [me_v (show a ≤ mt a + 1 by omega) hb]
  show ((mt a + 1 - (a + 1)) + (t - 1) * (mt a - a)) * 6 ^ (2 - bs.length) + me_ mt L (mt a + 1) bs < _
  obtain ⟨d, hd⟩ : ∃ d, mt a = a + d := ⟨mt a - a, by omega⟩
  rw [show 3 - bs.length = (2 - bs.length) + 1 by omega, dg_ps, show mt a + 1 - (a + 1) = d by omega, show mt a - a = d by omega, show mt a + 1 - a = d + 1 by omega]
  have hp := me_p (2 - bs.length)
  generalize 6 ^ (2 - bs.length) = p at *
  have h5 : d + (t - 1) * d = t * d := by
    obtain ⟨u, rfl⟩ : ∃ u, t = u + 1 := ⟨t - 1, by omega⟩
    rw [Nat.add_sub_cancel, Nat.add_mul]; omega
  have h6 : t * d * p ≤ 6 * d * p := Nat.mul_le_mul_right p (Nat.mul_le_mul_right d ht')
  have h7 : (d + 1) * (p * 6) = 6 * d * p + 6 * p := by
    rw [Nat.add_mul, Nat.mul_comm p 6, ← Nat.mul_assoc, Nat.mul_comm d 6]; omega
  rw [h5, h7]
  omega
theorem iv_e {O mt : Nat → Nat} {G : Nat → Int32} {L a : Nat} {bs : List (Nat × Nat)} (ho : ok_ O G mt L) (hi : iv_ O mt L a bs) (ha : a < L) (hO : O a = 11) : ∃ b t r, bs = (b, t) :: r ∧ a = mt b ∧ mt a = b ∧ b < a := by
  obtain ⟨_, h2, h3⟩ := hi
  have hns := (ho.2.1 a ha).2.2.2.2.2.2.2.2 hO
  match bs, h2, h3 with
  | [], _, h3 => have h3 : ns_ O a = 0 := h3; omega
  | (b, t) :: r, h2, h3 =>
    have h3 : ns_ O a = r.length + 1 := h3
    obtain ⟨k1, k2, k3, k4, _⟩ := h2
    have hc := ho.2.2 b (by omega) k3
    have : a = mt b := by
      rcases Nat.lt_or_ge a (mt b) with z | z
      · have h5 := hc.2.2.2.2.2 (a + 1) (by omega) (by omega)
        rw [ns_e hO] at h5
        omega
      · omega
    exact ⟨b, t, r, rfl, this, by rw [this]; exact hc.2.2.2.1, k1⟩
theorem iv_ag {O mt : Nat → Nat} {G : Nat → Int32} {L a b t : Nat} {r : List (Nat × Nat)} (ho : ok_ O G mt L) (hi : iv_ O mt L a ((b, t) :: r)) (ha : a < L) (hab : a = mt b) (ht : 1 < t) : iv_ O mt L (b + 1) ((b, t - 1) :: r) ∧ me_ mt L (b + 1) ((b, t - 1) :: r) < me_ mt L a ((b, t) :: r) := by
  obtain ⟨_, ⟨k1, k2, k3, k4, k5, k6, k7, k8⟩, h3⟩ := hi
  have hc := ho.2.2 b (by omega) k3
  have hlt := hc.1
  refine ⟨⟨by omega, ⟨by omega, by omega, k3, k4, by omega, by omega, fun z => by have := k7 z; omega, k8⟩, by rw [ns_o k3, k4]; rfl⟩, ?_⟩
  show ((mt b + 1 - (b + 1)) + (t - 1 - 1) * (mt b - b)) * 6 ^ (2 - r.length) + me_ mt L (mt b + 1) r < ((mt b + 1 - a) + (t - 1) * (mt b - b)) * 6 ^ (2 - r.length) + me_ mt L (mt b + 1) r
  obtain ⟨d, hd⟩ : ∃ d, mt b = b + d := ⟨mt b - b, by omega⟩
  obtain ⟨u, rfl⟩ : ∃ u, t = u + 2 := ⟨t - 2, by omega⟩
  rw [show mt b + 1 - (b + 1) = d by omega, show mt b - b = d by omega, show mt b + 1 - a = 1 by omega, show u + 2 - 1 - 1 = u by omega, show u + 2 - 1 = u + 1 by omega]
  have hp := me_p (2 - r.length)
  generalize 6 ^ (2 - r.length) = p at *
  have h6 : (1 + (u + 1) * d) * p = p + (d + u * d) * p := by rw [Nat.add_mul 1, Nat.one_mul, Nat.add_mul u 1 d, Nat.one_mul, Nat.add_comm d]
  rw [h6]
  omega
theorem iv_po {O mt : Nat → Nat} {G : Nat → Int32} {L a b t : Nat} {r : List (Nat × Nat)} (ho : ok_ O G mt L) (hi : iv_ O mt L a ((b, t) :: r)) (ha : a < L) (hab : a = mt b) : iv_ O mt L (a + 1) r ∧ me_ mt L (a + 1) r < me_ mt L a ((b, t) :: r) := by
  obtain ⟨_, ⟨k1, k2, k3, k4, k5, k6, k7, k8⟩, h3⟩ := hi
  have hc := ho.2.2 b (by omega) k3
  have hb := bd_b ho k8 (by omega) k3
  subst hab
  refine ⟨⟨ha, nb_v k8 (by omega) hb, by rw [hc.2.2.2.2.1, k4]⟩, ?_⟩
  show _ < ((mt b + 1 - mt b) + (t - 1) * (mt b - b)) * 6 ^ (2 - r.length) + me_ mt L (mt b + 1) r
  have h4 := Nat.mul_le_mul (show 1 ≤ (mt b + 1 - mt b) + (t - 1) * (mt b - b) by omega) (show 1 ≤ 6 ^ (2 - r.length) from me_p _)
  omega
/-! the pure machine -/
def un_ (N : Nat → Int) (k : Nat) (V : Int) : Nat → Int := fun j => if j = k then V else N j
theorem un_s {N : Nat → Int} {k : Nat} {V : Int} : un_ N k V k = V := if_pos rfl
theorem un_n {N : Nat → Int} {k j : Nat} {V : Int} (h : j ≠ k) : un_ N k V j = N j := if_neg h
def sp_ (O : Nat → Nat) (G : Nat → Int32) (mt : Nat → Nat) (a : Nat) (N : Nat → Int) (bs : List (Nat × Nat)) : Nat × Nat × (Nat → Int) × List (Nat × Nat) :=
  if O a = 0 then (0, a + 1, un_ N (8 + dp_ O a) (G a).toInt, bs)
  else if O a = 1 then (0, a + 1, un_ N (8 + dp_ O a) (N (G a).toNatClampNeg), bs)
  else if O a = 2 then (0, a + 1, un_ N (G a).toNatClampNeg (N (7 + dp_ O a)), bs)
  else if O a ≤ 8 then ((al_ (O a) (N (6 + dp_ O a)) (N (7 + dp_ O a))).1, a + 1, un_ N (6 + dp_ O a) (al_ (O a) (N (6 + dp_ O a)) (N (7 + dp_ O a))).2, bs)
  else if O a = 9 then (if N (7 + dp_ O a) = 0 then (0, mt a + 1, N, bs) else (0, a + 1, N, (a, 1) :: bs))
  else if O a = 10 then (0, a + 1, N, (a, (G a).toNatClampNeg) :: bs)
  else match bs with
    | [] => (0, a + 1, N, bs)
    | (b, t) :: r => if 1 < t then (0, b + 1, N, (b, t - 1) :: r) else (0, a + 1, N, r)
section
variable {O : Nat → Nat} {G : Nat → Int32} {mt : Nat → Nat} {a : Nat} {N : Nat → Int} {bs : List (Nat × Nat)}
theorem sp_0 (h : O a = 0) : sp_ O G mt a N bs = (0, a + 1, un_ N (8 + dp_ O a) (G a).toInt, bs) := if_pos h
theorem sp_1 (h : O a = 1) : sp_ O G mt a N bs = (0, a + 1, un_ N (8 + dp_ O a) (N (G a).toNatClampNeg), bs) := by unfold sp_; rw [if_neg (by omega), if_pos h]
theorem sp_2 (h : O a = 2) : sp_ O G mt a N bs = (0, a + 1, un_ N (G a).toNatClampNeg (N (7 + dp_ O a)), bs) := by unfold sp_; rw [if_neg (by omega), if_neg (by omega), if_pos h]
theorem sp_8 (h : 3 ≤ O a) (h' : O a ≤ 8) : sp_ O G mt a N bs = ((al_ (O a) (N (6 + dp_ O a)) (N (7 + dp_ O a))).1, a + 1, un_ N (6 + dp_ O a) (al_ (O a) (N (6 + dp_ O a)) (N (7 + dp_ O a))).2, bs) := by unfold sp_; rw [if_neg (by omega), if_neg (by omega), if_neg (by omega), if_pos h']
theorem sp_9z (h : O a = 9) (hz : N (7 + dp_ O a) = 0) : sp_ O G mt a N bs = (0, mt a + 1, N, bs) := by unfold sp_; rw [if_neg (by omega), if_neg (by omega), if_neg (by omega), if_neg (by omega), if_pos h, if_pos hz]
theorem sp_9n (h : O a = 9) (hz : ¬ N (7 + dp_ O a) = 0) : sp_ O G mt a N bs = (0, a + 1, N, (a, 1) :: bs) := by unfold sp_; rw [if_neg (by omega), if_neg (by omega), if_neg (by omega), if_neg (by omega), if_pos h, if_neg hz]
theorem sp_10 (h : O a = 10) : sp_ O G mt a N bs = (0, a + 1, N, (a, (G a).toNatClampNeg) :: bs) := by unfold sp_; rw [if_neg (by omega), if_neg (by omega), if_neg (by omega), if_neg (by omega), if_neg (by omega), if_pos h]
theorem sp_11 {b t : Nat} {r : List (Nat × Nat)} (h : O a = 11) : sp_ O G mt a N ((b, t) :: r) = if 1 < t then (0, b + 1, N, (b, t - 1) :: r) else (0, a + 1, N, r) := by unfold sp_; rw [if_neg (by omega), if_neg (by omega), if_neg (by omega), if_neg (by omega), if_neg (by omega), if_neg (by omega)]
theorem sp_iv {L : Nat} (ho : ok_ O G mt L) (hi : iv_ O mt L a bs) (ha : a < L) : iv_ O mt L (sp_ O G mt a N bs).2.1 (sp_ O G mt a N bs).2.2.2 ∧ me_ mt L (sp_ O G mt a N bs).2.1 (sp_ O G mt a N bs).2.2.2 < me_ mt L a bs := by
  have hw := ho.2.1 a ha
  rcases (show O a = 0 ∨ O a = 1 ∨ O a = 2 ∨ (3 ≤ O a ∧ O a ≤ 8) ∨ O a = 9 ∨ O a = 10 ∨ O a = 11 by have := hw.1; omega) with h | h | h | h | h | h | h
  · rw [sp_0 h]; exact iv_n ho hi ha (by omega)
  · rw [sp_1 h]; exact iv_n ho hi ha (by omega)
  · rw [sp_2 h]; exact iv_n ho hi ha (by omega)
  · rw [sp_8 h.1 h.2]; exact iv_n ho hi ha (by omega)
  · by_cases hz : N (7 + dp_ O a) = 0
    · rw [sp_9z h hz]; exact iv_sk ho hi ha (Or.inl h)
    · rw [sp_9n h hz]; exact iv_in ho hi ha (Or.inl h) (by omega) (by omega) (fun _ => rfl)
  · obtain ⟨t, h1, h2, h3⟩ := hw.2.2.1 h
    rw [sp_10 h, h3, nI_clamp (by omega)]
    exact iv_in ho hi ha (Or.inr h) h1 h2 (fun z => by omega)
  · obtain ⟨b, t, r, rfl, h1, h2, h3⟩ := iv_e ho hi ha h
    rw [sp_11 h]
    by_cases ht : 1 < t
    · rw [if_pos ht]; exact iv_ag ho hi ha h1 ht
    · rw [if_neg ht]; exact iv_po ho hi ha h1
end
def ru_ (O : Nat → Nat) (G : Nat → Int32) (mt : Nat → Nat) (L : Nat) : Nat → Nat → (Nat → Int) → List (Nat × Nat) → Nat × (Nat → Int)
  | 0, _, N, _ => (0, N)
  | n + 1, a, N, bs => if L ≤ a then (0, N) else if (sp_ O G mt a N bs).1 = 0 then ru_ O G mt L n (sp_ O G mt a N bs).2.1 (sp_ O G mt a N bs).2.2.1 (sp_ O G mt a N bs).2.2.2 else ((sp_ O G mt a N bs).1, N)
theorem ru_e {O : Nat → Nat} {G : Nat → Int32} {mt : Nat → Nat} {L n a : Nat} {N : Nat → Int} {bs : List (Nat × Nat)} (h : L ≤ a) : ru_ O G mt L n a N bs = (0, N) := by
  cases n with
  | zero => rfl
  | succ n => exact if_pos h
theorem ru_s {O : Nat → Nat} {G : Nat → Int32} {mt : Nat → Nat} {L n a : Nat} {N : Nat → Int} {bs : List (Nat × Nat)} (h : a < L) (h0 : (sp_ O G mt a N bs).1 = 0) : ru_ O G mt L (n + 1) a N bs = ru_ O G mt L n (sp_ O G mt a N bs).2.1 (sp_ O G mt a N bs).2.2.1 (sp_ O G mt a N bs).2.2.2 := by
  show (if L ≤ a then (0, N) else if (sp_ O G mt a N bs).1 = 0 then ru_ O G mt L n (sp_ O G mt a N bs).2.1 (sp_ O G mt a N bs).2.2.1 (sp_ O G mt a N bs).2.2.2 else ((sp_ O G mt a N bs).1, N)) = _
  rw [if_neg (by omega), if_pos h0]
theorem ru_f {O : Nat → Nat} {G : Nat → Int32} {mt : Nat → Nat} {L n a : Nat} {N : Nat → Int} {bs : List (Nat × Nat)} (h : a < L) (h0 : ¬ (sp_ O G mt a N bs).1 = 0) : ru_ O G mt L (n + 1) a N bs = ((sp_ O G mt a N bs).1, N) := by
  show (if L ≤ a then (0, N) else if (sp_ O G mt a N bs).1 = 0 then ru_ O G mt L n (sp_ O G mt a N bs).2.1 (sp_ O G mt a N bs).2.2.1 (sp_ O G mt a N bs).2.2.2 else ((sp_ O G mt a N bs).1, N)) = _
  rw [if_neg (by omega), if_neg h0]
theorem me_z {O mt : Nat → Nat} {G : Nat → Int32} {L a : Nat} {bs : List (Nat × Nat)} (ho : ok_ O G mt L) (hi : iv_ O mt L a bs) (ha : a < L) : 0 < me_ mt L a bs := by
  have := (sp_iv (N := fun _ => 0) ho hi ha).2
  omega
end
section
/-! the component's memory through a run -/
def wf_ (v s : Nat → Int32) : Nat → Int32 := fun i => if i < 8 then v i else s (i - 8)
theorem wf_v {v s : Nat → Int32} {i : Nat} (h : i < 8) : wf_ v s i = v i := if_pos h
theorem wf_s (v s : Nat → Int32) (i : Nat) : wf_ v s (8 + i) = s i := by
  show (if 8 + i < 8 then v (8 + i) else s (8 + i - 8)) = _
  rw [if_neg (by omega), Nat.add_sub_cancel_left]
theorem wf_uv {v s : Nat → Int32} {i : Nat} {w : Int32} (h : i < 8) : wf_ (upd v i w) s = upd (wf_ v s) i w := by
  funext j
  by_cases e : j = i
  · subst e; rw [wf_v h, pk_us, pk_us]
  · rw [pk_un e]
    by_cases e' : j < 8
    · rw [wf_v e', wf_v e', pk_un e]
    · obtain ⟨l, rfl⟩ : ∃ l, j = 8 + l := ⟨j - 8, by omega⟩
      rw [wf_s, wf_s]
theorem wf_us {v s : Nat → Int32} {i : Nat} {w : Int32} : wf_ v (upd s i w) = upd (wf_ v s) (8 + i) w := by
  funext j
  by_cases e : j = 8 + i
  · subst e; rw [wf_s, pk_us, pk_us]
  · rw [pk_un e]
    by_cases e' : j < 8
    · rw [wf_v e', wf_v e']
    · obtain ⟨l, rfl⟩ : ∃ l, j = 8 + l := ⟨j - 8, by omega⟩
      rw [wf_s, wf_s, pk_un (by omega)]
def xm_ (H z s l W : Nat → Int32) (N : Nat → Int) (m : Nat) : Prop := (∀ i, i < m → wd_ z s l (W i) (N i)) ∧ (∀ h, h < 24 → H h = nI (cn_ W m h))
/-- a word more, held but not yet stored -/
def xn_ (H z s l W : Nat → Int32) (N : Nat → Int) (m : Nat) (w : Int32) (V : Int) : Prop := (∀ i, i < m → wd_ z s l (W i) (N i)) ∧ wd_ z s l w V ∧ (∀ h, h < 24 → H h = nI (cn_ W m h + hb_ w h))
section
variable {H H' z s l z' s' l' W : Nat → Int32} {N : Nat → Int} {m i : Nat} {w : Int32} {V : Int}
theorem xm_hc (h : xm_ H z s l W N m) (hm : m < 23) : hc_ H (cn_ W m) := hc_cn h.2 hm
theorem xn_nw (h : xm_ H z s l W N m) (hn : nw_ (cn_ W m) z s l w V H' z' s' l') : xn_ H' z' s' l' W N m w V :=
  ⟨fun i hi => hn.2.2 _ _ (h.1 i hi) (fun _ _ e => cn_in hi e), hn.1, hn.2.1⟩
theorem xn_ho (h : xm_ H z s l W N m) (hi : i < m) (hH : ∀ h, h < 24 → H' h = H h + nI (hb_ (W i) h)) : xn_ H' z s l W N m (W i) (N i) :=
  ⟨h.1, h.1 i hi, fun k hk => by rw [hH k hk, h.2 k hk, nI_add]⟩
theorem xn_po (h : xm_ H z s l W N (m + 1)) : xn_ H z s l W N m (W m) (N m) :=
  ⟨fun i hi => h.1 i (by omega), h.1 m (by omega), fun k hk => h.2 k hk⟩
theorem xm_pu (h : xn_ H z s l W N m w V) : xm_ H z s l (upd W m w) (un_ N m V) (m + 1) := by
  refine ⟨fun i hi => ?_, fun k hk => ?_⟩
  · by_cases e : i = m
    · subst e; rw [pk_us, un_s]; exact h.2.1
    · rw [pk_un e, un_n e]; exact h.1 i (by omega)
  · rw [h.2.2 k hk]
    show _ = nI (cn_ (upd W m w) m k + hb_ (upd W m w m) k)
    rw [cn_c (W := W) (fun i hi => pk_un (by omega)), pk_us]
theorem xm_dr (h : xn_ H z s l W N m w V) (hH : ∀ h, h < 24 → H' h = H h - nI (hb_ w h)) : xm_ H' z s l W N m :=
  ⟨h.1, fun k hk => by rw [hH k hk, h.2.2 k hk, pk_sub (by omega), Nat.add_sub_cancel]⟩
theorem xm_st (h : xn_ H z s l W N m w V) (hi : i < m) (hH : ∀ h, h < 24 → H' h = H h - nI (hb_ (W i) h)) : xm_ H' z s l (upd W i w) (un_ N i V) m := by
  refine ⟨fun j hj => ?_, fun k hk => ?_⟩
  · by_cases e : j = i
    · subst e; rw [pk_us, un_s]; exact h.2.1
    · rw [pk_un e, un_n e]; exact h.1 j hj
  · have := cn_u (W := W) (h := k) (w := w) hi
    rw [hH k hk, h.2.2 k hk, pk_sub (by omega)]
    exact congrArg nI (by omega)
end
section
variable {f_length f_depth f_open f_top f_repeats f_lenA f_signA f_lenB f_signB f_lenR f_signR f_fault : Int32} {a_op a_arg a_mate a_openAt a_var a_stack a_turns a_holders a_size a_signOf a_limb a_a a_b a_r a_rest : Nat → Int32}
theorem x_push {post : SX → Prop} {w : Int32} {k : Nat} (hk : k < 6) (K : post (f_length, f_depth, f_open, (nI (k + 1)), f_repeats, f_lenA, f_signA, f_lenB, f_signB, f_lenR, f_signR, f_fault, a_op, a_arg, a_mate, a_openAt, a_var, (upd a_stack k w), a_turns, a_holders, a_size, a_signOf, a_limb, a_a, a_b, a_r, a_rest)) : wpX_push post (f_length, f_depth, f_open, (nI k), f_repeats, f_lenA, f_signA, f_lenB, f_signB, f_lenR, f_signR, f_fault, a_op, a_arg, a_mate, a_openAt, a_var, a_stack, a_turns, a_holders, a_size, a_signOf, a_limb, a_a, a_b, a_r, a_rest) w :=
  br_t (nI_lt (b := 6) hk (by omega)) ⟨vp_in_nI hk (by omega), nm_r (up_e rfl (by omega) rfl) (nm_r (nI_1 k) K)⟩
theorem x_pop {post : Int32 → SX → Prop} {k : Nat} (hk : k < 6) (K : post (a_stack k) (f_length, f_depth, f_open, (nI k), f_repeats, f_lenA, f_signA, f_lenB, f_signB, f_lenR, f_signR, f_fault, a_op, a_arg, a_mate, a_openAt, a_var, a_stack, a_turns, a_holders, a_size, a_signOf, a_limb, a_a, a_b, a_r, a_rest)) : wpX_pop post (f_length, f_depth, f_open, (nI (k + 1)), f_repeats, f_lenA, f_signA, f_lenB, f_signB, f_lenR, f_signR, f_fault, a_op, a_arg, a_mate, a_openAt, a_var, a_stack, a_turns, a_holders, a_size, a_signOf, a_limb, a_a, a_b, a_r, a_rest) := by
  refine br_f (nI_ne0 (by omega) (by omega)) (nm_r (nI_pred k) ⟨vp_in_nI hk (by omega), ?_⟩)
  rw [rd_e (f := a_stack) rfl (by omega) rfl]; exact K
theorem x_mv0 {post : SX → Prop} {x : Int32} {k : Nat} {N : Nat → Int} (hk : k < 6) (hm : xm_ a_holders a_size a_signOf a_limb (wf_ a_var a_stack) N (8 + k)) (K : ∀ H' z' s' l' st' e5 e6 q3, xm_ H' z' s' l' (wf_ a_var st') (un_ N (8 + k) x.toInt) (8 + k + 1) → post (f_length, f_depth, f_open, (nI (k + 1)), f_repeats, f_lenA, f_signA, f_lenB, f_signB, e5, e6, f_fault, a_op, a_arg, a_mate, a_openAt, a_var, st', a_turns, H', z', s', l', a_a, a_b, q3, a_rest)) : wpX_move post (f_length, f_depth, f_open, (nI k), f_repeats, f_lenA, f_signA, f_lenB, f_signB, f_lenR, f_signR, f_fault, a_op, a_arg, a_mate, a_openAt, a_var, a_stack, a_turns, a_holders, a_size, a_signOf, a_limb, a_a, a_b, a_r, a_rest) (nI 0) x := by
  have h1 := x.le_toInt
  have h2 := x.toInt_lt
  refine br_t rfl ?_
  rw [jz_i]
  refine x_wordOf (xm_hc hm (by omega)) (by omega) (by omega) (fun w H' z' s' l' e g r' hn => ?_)
  refine x_push hk ?_
  refine K H' z' s' l' _ e g r' ?_
  rw [wf_us]
  exact xm_pu (xn_nw hm hn)
theorem x_mv1 {post : SX → Prop} {v k : Nat} {N : Nat → Int} (hk : k < 6) (hv : v < 8) (hm : xm_ a_holders a_size a_signOf a_limb (wf_ a_var a_stack) N (8 + k)) (K : ∀ H' st', xm_ H' a_size a_signOf a_limb (wf_ a_var st') (un_ N (8 + k) (N v)) (8 + k + 1) → post (f_length, f_depth, f_open, (nI (k + 1)), f_repeats, f_lenA, f_signA, f_lenB, f_signB, f_lenR, f_signR, f_fault, a_op, a_arg, a_mate, a_openAt, a_var, st', a_turns, H', a_size, a_signOf, a_limb, a_a, a_b, a_r, a_rest)) : wpX_move post (f_length, f_depth, f_open, (nI k), f_repeats, f_lenA, f_signA, f_lenB, f_signB, f_lenR, f_signR, f_fault, a_op, a_arg, a_mate, a_openAt, a_var, a_stack, a_turns, a_holders, a_size, a_signOf, a_limb, a_a, a_b, a_r, a_rest) (nI 1) (nI v) := by
  have hw := hm.1 v (by omega)
  rw [wf_v hv] at hw
  refine br_f (by decide) (br_t rfl ⟨vp_in_nI hv (by omega), nm_r (rd_e rfl (by omega) rfl) ?_⟩)
  refine x_hold hw (fun H' hH => ?_)
  refine x_push hk ?_
  refine K H' _ ?_
  rw [wf_us]
  have h := xn_ho (H' := H') hm (show v < 8 + k by omega) (by rw [wf_v hv]; exact hH)
  rw [wf_v hv] at h
  exact xm_pu h
theorem x_mv2 {post : SX → Prop} {v k : Nat} {N : Nat → Int} (hk : k < 6) (hv : v < 8) (hm : xm_ a_holders a_size a_signOf a_limb (wf_ a_var a_stack) N (8 + k + 1)) (K : ∀ H' v', xm_ H' a_size a_signOf a_limb (wf_ v' a_stack) (un_ N v (N (8 + k))) (8 + k) → post (f_length, f_depth, f_open, (nI k), f_repeats, f_lenA, f_signA, f_lenB, f_signB, f_lenR, f_signR, f_fault, a_op, a_arg, a_mate, a_openAt, v', a_stack, a_turns, H', a_size, a_signOf, a_limb, a_a, a_b, a_r, a_rest)) : wpX_move post (f_length, f_depth, f_open, (nI (k + 1)), f_repeats, f_lenA, f_signA, f_lenB, f_signB, f_lenR, f_signR, f_fault, a_op, a_arg, a_mate, a_openAt, a_var, a_stack, a_turns, a_holders, a_size, a_signOf, a_limb, a_a, a_b, a_r, a_rest) (nI 2) (nI v) := by
  have hw := hm.1 v (by omega)
  rw [wf_v hv] at hw
  have i1 := vp_in_nI (n := v) (N := 8) hv (by omega)
  refine br_f (by decide) (br_f (by decide) ?_)
  refine x_pop hk ?_
  refine And.intro i1 ?_
  rw [rd_e (f := a_var) rfl (by omega) rfl]
  refine x_letGo hw (fun H' hH => ?_)
  refine And.intro i1 (nm_r (up_e rfl (by omega) rfl) (K H' _ ?_))
  rw [wf_uv hv]
  have h := xn_po hm
  rw [wf_s] at h
  exact xm_st h (by omega) (by rw [wf_v hv]; exact hH)
theorem x_calc {post : SX → Prop} {o k : Nat} {N : Nat → Int} (ho : 3 ≤ o) (ho' : o ≤ 8) (hk : k + 1 < 6) (hf : f_fault = 0) (hm : xm_ a_holders a_size a_signOf a_limb (wf_ a_var a_stack) N (8 + k + 1 + 1)) (K0 : (al_ o (N (8 + k)) (N (8 + k + 1))).1 = 0 → ∀ H' z' s' l' st' e1 e2 e3 e4 e5 e6 q1 q2 q3 q4, xm_ H' z' s' l' (wf_ a_var st') (un_ N (8 + k) (al_ o (N (8 + k)) (N (8 + k + 1))).2) (8 + k + 1) → post (f_length, f_depth, f_open, (nI (k + 1)), f_repeats, e1, e2, e3, e4, e5, e6, 0, a_op, a_arg, a_mate, a_openAt, a_var, st', a_turns, H', z', s', l', q1, q2, q3, q4)) (K1 : ¬ (al_ o (N (8 + k)) (N (8 + k + 1))).1 = 0 → ∀ H' z' s' l' e1 e2 e3 e4 e5 e6 q1 q2 q3 q4, xm_ H' z' s' l' (wf_ a_var a_stack) N (8 + k) → post (f_length, f_depth, f_open, (nI k), f_repeats, e1, e2, e3, e4, e5, e6, (nI (al_ o (N (8 + k)) (N (8 + k + 1))).1), a_op, a_arg, a_mate, a_openAt, a_var, a_stack, a_turns, H', z', s', l', q1, q2, q3, q4)) : wpX_calculate post (f_length, f_depth, f_open, (nI (k + 1 + 1)), f_repeats, f_lenA, f_signA, f_lenB, f_signB, f_lenR, f_signR, f_fault, a_op, a_arg, a_mate, a_openAt, a_var, a_stack, a_turns, a_holders, a_size, a_signOf, a_limb, a_a, a_b, a_r, a_rest) (nI o) := by
  have hx := hm.1 (8 + k) (by omega)
  have hy := hm.1 (8 + k + 1) (by omega)
  have eW : wf_ a_var a_stack (8 + k + 1) = a_stack (k + 1) := wf_s a_var a_stack (k + 1)
  rw [wf_s] at hx
  rw [eW] at hy
  have hc := xm_hc hm (by omega)
  have hc3 : (al_ o (N (8 + k)) (N (8 + k + 1))).1 < 3 := by
    unfold al_
    split
    · show 1 < 3; omega
    · split
      · show 0 < 3; omega
      · show 2 < 3; omega
  unfold wpX_calculate
  refine x_pop hk ?_
  refine x_pop (by omega) ?_
  refine x_combine hc ho ho' hx hy hf (fun w H' z' s' l' ft e1 e2 e3 e4 e5 e6 q1 q2 q3 q4 hxo => ?_)
  obtain ⟨hft, hn⟩ := hxo
  have hall := xn_nw hm hn
  have hx' := hall.1 (8 + k) (by omega)
  have hy' := hall.1 (8 + k + 1) (by omega)
  rw [wf_s] at hx'
  rw [eW] at hy'
  refine x_letGo hx' (fun H1 h1 => ?_)
  refine x_letGo hy' (fun H2 h2 => ?_)
  have hfin : xn_ H2 z' s' l' (wf_ a_var a_stack) N (8 + k) w (al_ o (N (8 + k)) (N (8 + k + 1))).2 := by
    refine ⟨fun i hi => hall.1 i (by omega), hall.2.1, fun j hj => ?_⟩
    have e := hall.2.2 j hj
    rw [show cn_ (wf_ a_var a_stack) (8 + k + 1 + 1) j = cn_ (wf_ a_var a_stack) (8 + k) j + hb_ (wf_ a_var a_stack (8 + k)) j + hb_ (wf_ a_var a_stack (8 + k + 1)) j from rfl, wf_s, eW] at e
    rw [h2 j hj, h1 j hj, e, pk_sub (by omega), pk_sub (by omega)]
    exact congrArg nI (by omega)
  rw [hft]
  refine ek_if (eq_0 rfl (by omega)) (fun h => ?_) (fun h => ?_)
  · refine x_push (by omega) ?_
    rw [h]
    refine K0 h _ _ _ _ _ _ _ _ _ _ _ _ _ _ _ ?_
    rw [wf_us]
    exact xm_pu hfin
  · refine K1 h _ _ _ _ _ _ _ _ _ _ _ _ _ _ ?_
    have hz : (al_ o (N (8 + k)) (N (8 + k + 1))).2 = 0 := by
      revert h
      unfold al_
      split
      · intro _; rfl
      · split
        · intro h; exact absurd rfl h
        · intro _; rfl
    rw [hz] at hfin
    refine ⟨hfin.1, fun j hj => ?_⟩
    have hw1 := (wd_0 hfin.2.1).mpr rfl
    rw [hfin.2.2 j hj, hw1, show (1 : Int32) = iz_I (2 * 0 + 1) from rfl, hb_s (V := 0) ⟨by omega, by omega⟩ hj, Nat.add_zero]
/-! blocks of a run -/
end
def rp_ (O : Nat → Nat) : List (Nat × Nat) → Nat
  | [] => 0
  | (b, _) :: r => rp_ O r + (if O b = 10 then 1 else 0)
def xb_ (O : Nat → Nat) (T : Nat → Int32) : List (Nat × Nat) → Prop
  | [] => True
  | (b, t) :: r => (O b = 10 → T (rp_ O r) = nI t) ∧ xb_ O T r
theorem rp_le (O : Nat → Nat) (bs : List (Nat × Nat)) : rp_ O bs ≤ bs.length := by
  induction bs with
  | nil => exact Nat.le_refl 0
  | cons p r ih =>
    show rp_ O r + (if O p.1 = 10 then 1 else 0) ≤ r.length + 1
    split <;> omega
theorem xb_u {O : Nat → Nat} {T : Nat → Int32} {k : Nat} {v : Int32} : ∀ bs, rp_ O bs ≤ k → xb_ O T bs → xb_ O (upd T k v) bs := by
  intro bs
  induction bs with
  | nil => intro _ _; exact True.intro
  | cons p r ih =>
    intro hk h
    have hk : rp_ O r + (if O p.1 = 10 then 1 else 0) ≤ k := hk
    refine ⟨fun e => ?_, ih (by omega) h.2⟩
    rw [if_pos e] at hk
    rw [pk_un (by omega)]; exact h.1 e
theorem nb_len {O mt : Nat → Nat} {L a : Nat} {bs : List (Nat × Nat)} {G : Nat → Int32} (ho : ok_ O G mt L) (hi : iv_ O mt L a bs) : bs.length ≤ 3 := by
  match bs, hi with
  | [], _ => exact Nat.zero_le 3
  | (b, t) :: r, hi =>
    obtain ⟨h1, ⟨k1, k2, k3, k4, _⟩, h3⟩ := hi
    have := (ho.2.1 b (by omega)).2.2.2.2.2.2.2.1 k3
    show r.length + 1 ≤ 3
    omega
theorem dp_le {O : Nat → Nat} {G : Nat → Int32} {L : Nat} (hw : ∀ i, i < L → wt_ O G i) : ∀ a, a ≤ L → dp_ O a ≤ 6 := by
  intro a
  induction a with
  | zero => intro _; exact Nat.zero_le 6
  | succ a ih =>
    intro ha
    have h := ih (by omega)
    have hw := hw a (by omega)
    rcases (show O a ≤ 1 ∨ (1 < O a ∧ O a ≤ 9) ∨ 9 < O a by omega) with e | e | e
    · rw [dp_1 e]; have := hw.2.2.2.2.1 e; omega
    · rw [dp_9 e.1 e.2]; omega
    · rw [dp_0 e]; exact h
end
section
/-! the component: one step, the run -/
theorem dp_cl {O : Nat → Nat} {G : Nat → Int32} {mt : Nat → Nat} {L s : Nat} (ho : ok_ O G mt L) (hs : cl_ O mt L s) : dp_ O (mt s + 1) = 0 := by
  have h := hs.2.2.1
  rw [dp_0 (by omega)]
  exact (ho.2.1 (mt s) hs.2.1).2.2.2.2.2.2.1 (by omega)
theorem dp_op {O : Nat → Nat} {G : Nat → Int32} {i : Nat} (hw : wt_ O G i) (hO : O i = 9 ∨ O i = 10) : dp_ O (i + 1) = 0 := by
  rcases hO with h | h
  · rw [dp_9 (by omega) (by omega), hw.2.2.2.2.2.1 h]
  · rw [dp_0 (by omega)]; exact hw.2.2.2.2.2.2.1 (by omega)
section
variable {f_length f_depth f_open f_top f_repeats f_lenA f_signA f_lenB f_signB f_lenR f_signR f_fault : Int32} {a_op a_arg a_mate a_openAt a_var a_stack a_turns a_holders a_size a_signOf a_limb a_a a_b a_r a_rest : Nat → Int32}
variable {O : Nat → Nat} {mt : Nat → Nat} {L a : Nat} {N : Nat → Int} {bs : List (Nat × Nat)}
theorem x_p9 {post : Int32 → SX → Prop} (ho : ok_ O a_arg mt L) (ha : a < L) (hO : O a = 9) (hmt : ∀ i, i < L → a_mate i = nI (mt i)) (hxb : xb_ O a_turns bs) (hm : xm_ a_holders a_size a_signOf a_limb (wf_ a_var a_stack) N (8 + 0 + 1)) (K0 : (sp_ O a_arg mt a N bs).1 = 0 → ∀ H' z' s' l' v' st' tn' tp rp e1 e2 e3 e4 e5 e6 q1 q2 q3 q4, tp = nI (dp_ O (sp_ O a_arg mt a N bs).2.1) → rp = nI (rp_ O (sp_ O a_arg mt a N bs).2.2.2) → xb_ O tn' (sp_ O a_arg mt a N bs).2.2.2 → xm_ H' z' s' l' (wf_ v' st') (sp_ O a_arg mt a N bs).2.2.1 (8 + dp_ O (sp_ O a_arg mt a N bs).2.1) → post (nI (sp_ O a_arg mt a N bs).2.1) (f_length, f_depth, f_open, tp, rp, e1, e2, e3, e4, e5, e6, 0, a_op, a_arg, a_mate, a_openAt, v', st', tn', H', z', s', l', q1, q2, q3, q4)) : wpX_control post (f_length, f_depth, f_open, (nI 1), (nI (rp_ O bs)), f_lenA, f_signA, f_lenB, f_signB, f_lenR, f_signR, 0, a_op, a_arg, a_mate, a_openAt, a_var, a_stack, a_turns, a_holders, a_size, a_signOf, a_limb, a_a, a_b, a_r, a_rest) (nI 9) (nI a) := by
  have hL := ho.1
  have hd : dp_ O a = 1 := (ho.2.1 a ha).2.2.2.2.2.1 hO
  have hw := hm.1 (8 + 0) (by omega)
  rw [wf_s] at hw
  have hc := ho.2.2 a ha (Or.inl hO)
  refine br_t rfl ?_
  refine x_pop (k := 0) (by omega) ?_
  refine x_letGo hw (fun H' hH => ?_)
  have hm' : xm_ H' a_size a_signOf a_limb (wf_ a_var a_stack) N (8 + 0) := xm_dr (xn_po hm) (by rw [wf_s]; exact hH)
  refine ek_if (wd_0 hw) (fun hz => ⟨vp_in_nI (by omega) (by omega), ?_⟩) (fun hz => ?_)
  · rw [sp_9z hO (by rw [hd]; exact hz)] at K0
    dsimp only at K0
    rw [rd_e (f := a_mate) rfl (by omega) (hmt a ha), nI_1]
    rw [dp_cl ho hc] at K0
    exact K0 rfl _ _ _ _ _ _ _ _ _ _ _ _ _ _ _ _ _ _ _ rfl rfl hxb hm'
  · rw [sp_9n hO (by rw [hd]; exact hz)] at K0
    dsimp only at K0
    rw [nI_1]
    rw [dp_op (ho.2.1 a ha) (Or.inl hO)] at K0
    refine K0 rfl _ _ _ _ _ _ _ _ _ _ _ _ _ _ _ _ _ _ _ rfl ?_ ⟨fun z => by omega, hxb⟩ hm'
    show _ = nI (rp_ O bs + (if O a = 10 then 1 else 0))
    rw [if_neg (by omega)]; rfl
theorem x_p10 {post : Int32 → SX → Prop} (ho : ok_ O a_arg mt L) (hi : iv_ O mt L a bs) (ha : a < L) (hO : O a = 10) (hxb : xb_ O a_turns bs) (hm : xm_ a_holders a_size a_signOf a_limb (wf_ a_var a_stack) N (8 + 0)) (K0 : (sp_ O a_arg mt a N bs).1 = 0 → ∀ H' z' s' l' v' st' tn' tp rp e1 e2 e3 e4 e5 e6 q1 q2 q3 q4, tp = nI (dp_ O (sp_ O a_arg mt a N bs).2.1) → rp = nI (rp_ O (sp_ O a_arg mt a N bs).2.2.2) → xb_ O tn' (sp_ O a_arg mt a N bs).2.2.2 → xm_ H' z' s' l' (wf_ v' st') (sp_ O a_arg mt a N bs).2.2.1 (8 + dp_ O (sp_ O a_arg mt a N bs).2.1) → post (nI (sp_ O a_arg mt a N bs).2.1) (f_length, f_depth, f_open, tp, rp, e1, e2, e3, e4, e5, e6, 0, a_op, a_arg, a_mate, a_openAt, v', st', tn', H', z', s', l', q1, q2, q3, q4)) : wpX_control post (f_length, f_depth, f_open, (nI 0), (nI (rp_ O bs)), f_lenA, f_signA, f_lenB, f_signB, f_lenR, f_signR, 0, a_op, a_arg, a_mate, a_openAt, a_var, a_stack, a_turns, a_holders, a_size, a_signOf, a_limb, a_a, a_b, a_r, a_rest) (nI 10) (nI a) := by
  have hL := ho.1
  have hw := ho.2.1 a ha
  obtain ⟨t, ht1, ht2, ht⟩ := hw.2.2.1 hO
  have hr := rp_le O bs
  have hr2 := hi.2.2
  have hr3 := hw.2.2.2.2.2.2.2.1 (Or.inr hO)
  rw [sp_10 hO] at K0
  dsimp only at K0
  rw [dp_op hw (Or.inr hO), ht, nI_clamp (by omega)] at K0
  refine br_f (by decide) (br_t rfl (br_f (nI_ge (b := 3) (by omega) (by omega)) ⟨vp_in_nI (by omega) (by omega), vp_in_nI (by omega) (by omega), nm_r (up_e rfl (by omega) ((rd_e rfl (by omega) rfl).trans ht)) ?_⟩))
  refine nm_r (nI_1 _) ?_
  rw [nI_1]
  refine K0 rfl _ _ _ _ _ _ _ _ _ _ _ _ _ _ _ _ _ _ _ rfl ?_ ⟨fun _ => pk_us, xb_u bs (Nat.le_refl _) hxb⟩ hm
  show _ = nI (rp_ O bs + (if O a = 10 then 1 else 0))
  rw [if_pos hO]
theorem x_p11 {post : Int32 → SX → Prop} (ho : ok_ O a_arg mt L) (hi : iv_ O mt L a bs) (ha : a < L) (hO : O a = 11) (hop : ∀ i, i < L → a_op i = nI (O i)) (hmt : ∀ i, i < L → a_mate i = nI (mt i)) (hxb : xb_ O a_turns bs) (hm : xm_ a_holders a_size a_signOf a_limb (wf_ a_var a_stack) N (8 + 0)) (K0 : (sp_ O a_arg mt a N bs).1 = 0 → ∀ H' z' s' l' v' st' tn' tp rp e1 e2 e3 e4 e5 e6 q1 q2 q3 q4, tp = nI (dp_ O (sp_ O a_arg mt a N bs).2.1) → rp = nI (rp_ O (sp_ O a_arg mt a N bs).2.2.2) → xb_ O tn' (sp_ O a_arg mt a N bs).2.2.2 → xm_ H' z' s' l' (wf_ v' st') (sp_ O a_arg mt a N bs).2.2.1 (8 + dp_ O (sp_ O a_arg mt a N bs).2.1) → post (nI (sp_ O a_arg mt a N bs).2.1) (f_length, f_depth, f_open, tp, rp, e1, e2, e3, e4, e5, e6, 0, a_op, a_arg, a_mate, a_openAt, v', st', tn', H', z', s', l', q1, q2, q3, q4)) : wpX_control post (f_length, f_depth, f_open, (nI 0), (nI (rp_ O bs)), f_lenA, f_signA, f_lenB, f_signB, f_lenR, f_signR, 0, a_op, a_arg, a_mate, a_openAt, a_var, a_stack, a_turns, a_holders, a_size, a_signOf, a_limb, a_a, a_b, a_r, a_rest) (nI 11) (nI a) := by
  have hL := ho.1
  have hw := ho.2.1 a ha
  have hlen := nb_len ho hi
  obtain ⟨b, t, r, rfl, h1, h2, h3⟩ := iv_e ho hi ha hO
  obtain ⟨_, ⟨_, _, k3, _, k5, k6, k7, _⟩, _⟩ := hi
  have hob := hop b (by omega)
  have hr := rp_le O r
  have hlen' : r.length + 1 ≤ 3 := hlen
  have hO9 := ho.2.1 b (by omega)
  have hda : dp_ O (a + 1) = 0 := by rw [dp_0 (by omega)]; exact hw.2.2.2.2.2.2.1 (by omega)
  have hdb : dp_ O (b + 1) = 0 := dp_op hO9 k3
  have ob := hO9.1
  refine br_f (by decide) (br_f (by decide) ⟨vp_in_nI (by omega) (by omega), nm_r (e' := nI b) ((rd_e rfl (by omega) (hmt a ha)).trans (congrArg nI h2)) ⟨vp_in_nI (by omega) (by omega), ?_⟩⟩)
  rw [rd_e (f := a_op) rfl (by omega) hob]
  rw [sp_11 hO] at K0
  refine pk_eq (O b) 9 (fun e => ?_) (fun e => ?_)
  · rw [if_neg (by have := k7 e; omega)] at K0
    dsimp only at K0
    rw [hda] at K0
    rw [nI_1]
    refine K0 rfl _ _ _ _ _ _ _ _ _ _ _ _ _ _ _ _ _ _ _ rfl ?_ hxb.2 hm
    show nI (rp_ O r + (if O b = 10 then 1 else 0)) = _
    rw [if_neg (by omega)]; rfl
  · have hb10 : O b = 10 := by omega
    have er : rp_ O ((b, t) :: r) = rp_ O r + 1 := by
      show rp_ O r + (if O b = 10 then 1 else 0) = _
      rw [if_pos hb10]
    rw [er]
    have e1 : nI (rp_ O r + 1) - 1 = nI (rp_ O r) := nI_pred _
    have i1 := pk_in (x := nI (rp_ O r + 1) - 1) (rp_ O r) 3 (by omega) e1
    have ht : nI t - 1 = nI (t - 1) := pk_sub (a := t) (b := 1) k5
    refine br_f (nI_ne0 (by omega) (by omega)) ⟨i1, i1, nm_r (up_e e1 (by omega) ((congrArg (· - 1) (rd_e e1 (by omega) (hxb.1 hb10))).trans ht)) ⟨i1, ?_⟩⟩
    rw [rd_e (f := upd a_turns (rp_ O r) (nI (t - 1))) e1 (by omega) pk_us]
    refine ek_if (nI_leI (b := 0) (by omega) (by omega)) (fun z => nm_r e1 ?_) (fun z => ?_)
    · rw [if_neg (by omega)] at K0
      dsimp only at K0
      rw [hda] at K0
      rw [nI_1]
      exact K0 rfl _ _ _ _ _ _ _ _ _ _ _ _ _ _ _ _ _ _ _ rfl rfl (xb_u r (Nat.le_refl _) hxb.2) hm
    · rw [if_pos (by omega)] at K0
      dsimp only at K0
      rw [hdb] at K0
      rw [nI_1]
      refine K0 rfl _ _ _ _ _ _ _ _ _ _ _ _ _ _ _ _ _ _ _ rfl ?_ ⟨fun _ => pk_us, xb_u r (Nat.le_refl _) hxb.2⟩ hm
      show nI (rp_ O r + 1) = nI (rp_ O r + (if O b = 10 then 1 else 0))
      rw [if_pos hb10]
theorem x_perform {post : Int32 → SX → Prop} (ho : ok_ O a_arg mt L) (hi : iv_ O mt L a bs) (ha : a < L) (hop : ∀ i, i < L → a_op i = nI (O i)) (hmt : ∀ i, i < L → a_mate i = nI (mt i)) (hxb : xb_ O a_turns bs) (hm : xm_ a_holders a_size a_signOf a_limb (wf_ a_var a_stack) N (8 + dp_ O a)) (K0 : (sp_ O a_arg mt a N bs).1 = 0 → ∀ H' z' s' l' v' st' tn' tp rp e1 e2 e3 e4 e5 e6 q1 q2 q3 q4, tp = nI (dp_ O (sp_ O a_arg mt a N bs).2.1) → rp = nI (rp_ O (sp_ O a_arg mt a N bs).2.2.2) → xb_ O tn' (sp_ O a_arg mt a N bs).2.2.2 → xm_ H' z' s' l' (wf_ v' st') (sp_ O a_arg mt a N bs).2.2.1 (8 + dp_ O (sp_ O a_arg mt a N bs).2.1) → post (nI (sp_ O a_arg mt a N bs).2.1) (f_length, f_depth, f_open, tp, rp, e1, e2, e3, e4, e5, e6, 0, a_op, a_arg, a_mate, a_openAt, v', st', tn', H', z', s', l', q1, q2, q3, q4)) (K1 : ¬ (sp_ O a_arg mt a N bs).1 = 0 → ∀ H' z' s' l' e1 e2 e3 e4 e5 e6 q1 q2 q3 q4 k, k ≤ 6 → xm_ H' z' s' l' (wf_ a_var a_stack) N (8 + k) → post (nI (a + 1)) (f_length, f_depth, f_open, (nI k), (nI (rp_ O bs)), e1, e2, e3, e4, e5, e6, (nI (sp_ O a_arg mt a N bs).1), a_op, a_arg, a_mate, a_openAt, a_var, a_stack, a_turns, H', z', s', l', q1, q2, q3, q4)) : wpX_perform post (f_length, f_depth, f_open, (nI (dp_ O a)), (nI (rp_ O bs)), f_lenA, f_signA, f_lenB, f_signB, f_lenR, f_signR, 0, a_op, a_arg, a_mate, a_openAt, a_var, a_stack, a_turns, a_holders, a_size, a_signOf, a_limb, a_a, a_b, a_r, a_rest) (nI a) := by
  have hL := ho.1
  have hw := ho.2.1 a ha
  have h11 := hw.1
  have hd6 := dp_le ho.2.1 a (by omega)
  have i1 := vp_in_nI (n := a) (N := 40) (by omega) (by omega)
  have hg : a_arg (nI a).toNatClampNeg = a_arg a := rd_e rfl (by omega) rfl
  refine And.intro i1 (nm_r (rd_e rfl (by omega) (hop a ha)) ?_)
  refine pk_lt 2 (O a) (fun h2 => pk_lt 8 (O a) (fun h8 => ?_) (fun h8 => ?_)) (fun h2 => ⟨i1, ?_⟩)
  · rcases (show O a = 9 ∨ O a = 10 ∨ O a = 11 by omega) with e | e | e
    · have hd : dp_ O a = 1 := hw.2.2.2.2.2.1 e
      rw [hd] at hm ⊢
      rw [e]
      exact x_p9 ho ha e hmt hxb hm K0
    · have hd : dp_ O a = 0 := hw.2.2.2.2.2.2.1 (by omega)
      rw [hd] at hm ⊢
      rw [e]
      exact x_p10 ho hi ha e hxb hm K0
    · have hd : dp_ O a = 0 := hw.2.2.2.2.2.2.1 (by omega)
      rw [hd] at hm ⊢
      rw [e]
      exact x_p11 ho hi ha e hop hmt hxb hm K0
  · have hp := hw.2.2.2.1
    rw [show po_ (O a) = 2 from if_pos ⟨by omega, h8⟩] at hp
    obtain ⟨k, hk⟩ : ∃ k, dp_ O a = k + 1 + 1 := ⟨dp_ O a - 2, by omega⟩
    rw [sp_8 (by omega) h8, show 6 + dp_ O a = 8 + k by omega, show 7 + dp_ O a = 8 + k + 1 by omega] at K0 K1
    dsimp only at K0 K1
    rw [dp_9 (by omega) (by omega), show dp_ O a - 1 = k + 1 by omega] at K0
    rw [hk] at hm ⊢
    refine x_calc (by omega) h8 (by omega) rfl hm (fun h H' z' s' l' st' e1 e2 e3 e4 e5 e6 q1 q2 q3 q4 hm' => ?_) (fun h H' z' s' l' e1 e2 e3 e4 e5 e6 q1 q2 q3 q4 hm' => ?_)
    · rw [nI_1]
      exact K0 h _ _ _ _ _ _ _ _ _ _ _ _ _ _ _ _ _ _ _ rfl rfl hxb hm'
    · rw [nI_1]
      exact K1 h H' z' s' l' e1 e2 e3 e4 e5 e6 q1 q2 q3 q4 k (by omega) hm'
  · rw [hg]
    rcases (show O a = 0 ∨ O a = 1 ∨ O a = 2 by omega) with e | e | e
    · have hd := hw.2.2.2.2.1 (by omega)
      rw [sp_0 e] at K0
      dsimp only at K0
      rw [dp_1 (by omega)] at K0
      rw [e]
      refine x_mv0 hd hm (fun H' z' s' l' st' e5 e6 q3 hm' => ?_)
      rw [nI_1]
      exact K0 rfl _ _ _ _ _ _ _ _ _ _ _ _ _ _ _ _ _ _ _ rfl rfl hxb hm'
    · have hd := hw.2.2.2.2.1 (by omega)
      obtain ⟨v, hv, hgv⟩ := hw.2.1 (Or.inl e)
      rw [sp_1 e, hgv, nI_clamp (by omega)] at K0
      dsimp only at K0
      rw [dp_1 (by omega)] at K0
      rw [e, hgv]
      refine x_mv1 hd hv hm (fun H' st' hm' => ?_)
      rw [nI_1]
      exact K0 rfl _ _ _ _ _ _ _ _ _ _ _ _ _ _ _ _ _ _ _ rfl rfl hxb hm'
    · have hp := hw.2.2.2.1
      rw [e, show po_ 2 = 1 from rfl] at hp
      obtain ⟨k, hk⟩ : ∃ k, dp_ O a = k + 1 := ⟨dp_ O a - 1, by omega⟩
      obtain ⟨v, hv, hgv⟩ := hw.2.1 (Or.inr e)
      rw [sp_2 e, hgv, nI_clamp (by omega), show 7 + dp_ O a = 8 + k by omega] at K0
      dsimp only at K0
      rw [dp_9 (by omega) (by omega), show dp_ O a - 1 = k by omega] at K0
      rw [e, hgv]
      rw [hk] at hm ⊢
      refine x_mv2 (by omega) hv hm (fun H' v' hm' => ?_)
      rw [nI_1]
      exact K0 rfl _ _ _ _ _ _ _ _ _ _ _ _ _ _ _ _ _ _ _ rfl rfl hxb hm'
/-! the stack is let go -/
theorem x_72 {post : Int32 → SX → Prop} {k : Nat} (hk : k ≤ 6) (hw : ∀ i, i < 8 + k → wd_ a_size a_signOf a_limb (wf_ a_var a_stack i) (N i)) (K : ∀ H', xm_ H' a_size a_signOf a_limb (wf_ a_var a_stack) N 8 → post f_fault (f_length, f_depth, f_open, 0, f_repeats, f_lenA, f_signA, f_lenB, f_signB, f_lenR, f_signR, f_fault, a_op, a_arg, a_mate, a_openAt, a_var, a_stack, a_turns, H', a_size, a_signOf, a_limb, a_a, a_b, a_r, a_rest)) : ∀ m i H, i + m = k → (∀ h, h < 24 → ∃ c, H h = nI c ∧ c + cn_ (wf_ a_var a_stack) (8 + i) h = cn_ (wf_ a_var a_stack) (8 + k) h + cn_ (wf_ a_var a_stack) 8 h) → wX_run_72 post (m + 1) (nI i) f_length f_depth f_open (nI k) f_repeats f_lenA f_signA f_lenB f_signB f_lenR f_signR f_fault a_op a_arg a_mate a_openAt a_var a_stack a_turns H a_size a_signOf a_limb a_a a_b a_r a_rest := by
  intro m
  induction m with
  | zero =>
    intro i H hi hH
    cases (show i = k by omega)
    refine br_t (nI_le (Nat.le_refl _) (by omega)) (K H ⟨fun i hi => hw i (by omega), fun h hh => ?_⟩)
    obtain ⟨c, e1, e2⟩ := hH h hh
    rw [e1]; exact congrArg nI (by omega)
  | succ m ih =>
    intro i H hi hH
    have hwi := hw (8 + i) (by omega)
    rw [wf_s] at hwi
    refine br_f (nI_ge (b := k) (by omega) (by omega)) ⟨vp_in_nI (by omega) (by omega), ?_⟩
    rw [rd_e (f := a_stack) rfl (by omega) rfl]
    refine x_letGo hwi (fun H' hH' => nm_r (nI_1 i) ?_)
    refine ih (i + 1) H' (by omega) (fun h hh => ?_)
    obtain ⟨c, e1, e2⟩ := hH h hh
    have e3 : cn_ (wf_ a_var a_stack) (8 + (i + 1)) h = cn_ (wf_ a_var a_stack) (8 + i) h + hb_ (a_stack i) h := by
      show cn_ (wf_ a_var a_stack) (8 + i) h + hb_ (wf_ a_var a_stack (8 + i)) h = _
      rw [wf_s]
    have e4 : cn_ (wf_ a_var a_stack) 8 h + hb_ (a_stack i) h ≤ c := by
      have : cn_ (wf_ a_var a_stack) (8 + i) h + hb_ (a_stack i) h ≤ cn_ (wf_ a_var a_stack) (8 + k) h := by
        rw [← e3]
        have mono : ∀ d, cn_ (wf_ a_var a_stack) (8 + (i + 1)) h ≤ cn_ (wf_ a_var a_stack) (8 + (i + 1) + d) h := by
          intro d
          induction d with
          | zero => exact Nat.le_refl _
          | succ d ihd =>
            show _ ≤ cn_ (wf_ a_var a_stack) (8 + (i + 1) + d) h + hb_ _ h
            omega
        have := mono (k - (i + 1))
        rw [show 8 + (i + 1) + (k - (i + 1)) = 8 + k by omega] at this
        exact this
      omega
    refine ⟨c - hb_ (a_stack i) h, ?_, ?_⟩
    · rw [hH' h hh, e1, pk_sub (by omega)]
    · rw [e3]; omega
theorem x_end {post : Int32 → SX → Prop} {k : Nat} (hk : k ≤ 6) (hm : xm_ a_holders a_size a_signOf a_limb (wf_ a_var a_stack) N (8 + k)) (K : ∀ H', xm_ H' a_size a_signOf a_limb (wf_ a_var a_stack) N 8 → post f_fault (f_length, f_depth, f_open, 0, f_repeats, f_lenA, f_signA, f_lenB, f_signB, f_lenR, f_signR, f_fault, a_op, a_arg, a_mate, a_openAt, a_var, a_stack, a_turns, H', a_size, a_signOf, a_limb, a_a, a_b, a_r, a_rest)) : ∃ n, wX_run_72 post n 0 f_length f_depth f_open (nI k) f_repeats f_lenA f_signA f_lenB f_signB f_lenR f_signR f_fault a_op a_arg a_mate a_openAt a_var a_stack a_turns a_holders a_size a_signOf a_limb a_a a_b a_r a_rest :=
  ⟨k + 1, x_72 hk hm.1 K k 0 a_holders (by omega) (fun h hh => ⟨_, hm.2 h hh, rfl⟩)⟩
end
end
section
/-! the component: the run, set, the questions -/
section
variable {f_length f_depth f_open f_top f_repeats f_lenA f_signA f_lenB f_signB f_lenR f_signR f_fault : Int32} {a_op a_arg a_mate a_openAt a_var a_stack a_turns a_holders a_size a_signOf a_limb a_a a_b a_r a_rest : Nat → Int32}
theorem x_flt {post : Int32 → SX → Prop} {k st : Nat} {N : Nat → Int} {x : Int32} (hst : st < 9000) (hf : ¬ f_fault = 0) (hk : k ≤ 6) (hm : xm_ a_holders a_size a_signOf a_limb (wf_ a_var a_stack) N (8 + k)) (K : ∀ H', xm_ H' a_size a_signOf a_limb (wf_ a_var a_stack) N 8 → post f_fault (f_length, f_depth, f_open, 0, f_repeats, f_lenA, f_signA, f_lenB, f_signB, f_lenR, f_signR, f_fault, a_op, a_arg, a_mate, a_openAt, a_var, a_stack, a_turns, H', a_size, a_signOf, a_limb, a_a, a_b, a_r, a_rest)) : ∀ n, wX_run_36 post (n + 1) x (nI st) f_length f_depth f_open (nI k) f_repeats f_lenA f_signA f_lenB f_signB f_lenR f_signR f_fault a_op a_arg a_mate a_openAt a_var a_stack a_turns a_holders a_size a_signOf a_limb a_a a_b a_r a_rest := by
  intro n
  have h := x_end (post := post) (f_length := f_length) (f_depth := f_depth) (f_open := f_open) (f_repeats := f_repeats) (f_lenA := f_lenA) (f_signA := f_signA) (f_lenB := f_lenB) (f_signB := f_signB) (f_lenR := f_lenR) (f_signR := f_signR) (f_fault := f_fault) (a_op := a_op) (a_arg := a_arg) (a_mate := a_mate) (a_openAt := a_openAt) (a_var := a_var) (a_stack := a_stack) (a_turns := a_turns) (a_holders := a_holders) (a_size := a_size) (a_signOf := a_signOf) (a_limb := a_limb) (a_a := a_a) (a_b := a_b) (a_r := a_r) (a_rest := a_rest) hk hm K
  exact br_f (nI_ge (b := 9000) hst (by omega)) (br_c (fun _ => h) (fun _ => br_f hf h))
theorem x_36 {post : Int32 → SX → Prop} {O mt : Nat → Nat} {L : Nat} (ho : ok_ O a_arg mt L) (hop : ∀ i, i < L → a_op i = nI (O i)) (hmt : ∀ i, i < L → a_mate i = nI (mt i)) : ∀ n a N bs st H' z' s' l' v' st' tn' tp rp e1 e2 e3 e4 e5 e6 q1 q2 q3 q4, iv_ O mt L a bs → me_ mt L a bs ≤ n → st + me_ mt L a bs ≤ 8640 → xb_ O tn' bs → xm_ H' z' s' l' (wf_ v' st') N (8 + dp_ O a) → tp = nI (dp_ O a) → rp = nI (rp_ O bs) → (∀ H' z' s' l' v' st' tn' rp e1 e2 e3 e4 e5 e6 q1 q2 q3 q4, xm_ H' z' s' l' (wf_ v' st') (ru_ O a_arg mt L n a N bs).2 8 → post (nI (ru_ O a_arg mt L n a N bs).1) ((nI L), f_depth, f_open, 0, rp, e1, e2, e3, e4, e5, e6, (nI (ru_ O a_arg mt L n a N bs).1), a_op, a_arg, a_mate, a_openAt, v', st', tn', H', z', s', l', q1, q2, q3, q4)) → wX_run_36 post (n + 1) (nI a) (nI st) (nI L) f_depth f_open tp rp e1 e2 e3 e4 e5 e6 0 a_op a_arg a_mate a_openAt v' st' tn' H' z' s' l' q1 q2 q3 q4 := by
  have hL := ho.1
  have fin : ∀ n a N bs st H' z' s' l' v' st' tn' tp rp e1 e2 e3 e4 e5 e6 q1 q2 q3 q4, iv_ O mt L a bs → L ≤ a → st ≤ 8640 → xm_ H' z' s' l' (wf_ v' st') N (8 + dp_ O a) → tp = nI (dp_ O a) → (∀ H' z' s' l' v' st' tn' rp e1 e2 e3 e4 e5 e6 q1 q2 q3 q4, xm_ H' z' s' l' (wf_ v' st') (ru_ O a_arg mt L n a N bs).2 8 → post (nI (ru_ O a_arg mt L n a N bs).1) ((nI L), f_depth, f_open, 0, rp, e1, e2, e3, e4, e5, e6, (nI (ru_ O a_arg mt L n a N bs).1), a_op, a_arg, a_mate, a_openAt, v', st', tn', H', z', s', l', q1, q2, q3, q4)) → wX_run_36 post (n + 1) (nI a) (nI st) (nI L) f_depth f_open tp rp e1 e2 e3 e4 e5 e6 0 a_op a_arg a_mate a_openAt v' st' tn' H' z' s' l' q1 q2 q3 q4 := by
    intro n a N bs st H' z' s' l' v' st' tn' tp rp e1 e2 e3 e4 e5 e6 q1 q2 q3 q4 hi hLa hst hm htp K
    subst htp
    rw [ru_e hLa] at K
    refine br_f (nI_ge (b := 9000) (by omega) (by omega)) (br_t (nI_le hLa (by have := hi.1; omega)) ?_)
    exact x_end (dp_le ho.2.1 a hi.1) hm (fun H2 h2 => K H2 _ _ _ _ _ _ _ _ _ _ _ _ _ _ _ _ _ h2)
  intro n
  induction n with
  | zero =>
    intro a N bs st H' z' s' l' v' st' tn' tp rp e1 e2 e3 e4 e5 e6 q1 q2 q3 q4 hi hme hst hxb hm htp hrp K
    refine fin 0 a N bs st H' z' s' l' v' st' tn' tp rp e1 e2 e3 e4 e5 e6 q1 q2 q3 q4 hi ?_ (by omega) hm htp K
    rcases Nat.lt_or_ge a L with z | z
    · have := me_z ho hi z; omega
    · exact z
  | succ n ih =>
    intro a N bs st H' z' s' l' v' st' tn' tp rp e1 e2 e3 e4 e5 e6 q1 q2 q3 q4 hi hme hst hxb hm htp hrp K
    rcases Nat.lt_or_ge a L with ha | ha
    · obtain ⟨hi', hlt⟩ := sp_iv (N := N) ho hi ha
      subst htp
      subst hrp
      refine br_f (nI_ge (b := 9000) (by omega) (by omega)) (br_f (nI_ge ha (by omega)) (br_t rfl ?_))
      refine x_perform ho hi ha hop hmt hxb hm (fun h0 H2 z2 s2 l2 v2 st2 tn2 tp2 rp2 g1 g2 g3 g4 g5 g6 p1 p2 p3 p4 k1 k2 k3 k4 => nm_r (nI_1 st) ?_) (fun h0 H2 z2 s2 l2 g1 g2 g3 g4 g5 g6 p1 p2 p3 p4 k hk hm2 => nm_r (nI_1 st) ?_)
      · rw [ru_s ha h0] at K
        exact ih _ _ _ (st + 1) H2 z2 s2 l2 v2 st2 tn2 tp2 rp2 g1 g2 g3 g4 g5 g6 p1 p2 p3 p4 hi' (by omega) (by omega) k3 k4 k1 k2 K
      · rw [ru_f ha h0] at K
        have hc3 : (sp_ O a_arg mt a N bs).1 < 2147483648 := by
          have hw := (ho.2.1 a ha).1
          rcases (show O a = 0 ∨ O a = 1 ∨ O a = 2 ∨ (3 ≤ O a ∧ O a ≤ 8) ∨ O a = 9 ∨ O a = 10 ∨ O a = 11 by omega) with h | h | h | h | h | h | h
          · rw [sp_0 h] at h0; exact absurd rfl h0
          · rw [sp_1 h] at h0; exact absurd rfl h0
          · rw [sp_2 h] at h0; exact absurd rfl h0
          · rw [sp_8 h.1 h.2]
            show (al_ _ _ _).1 < _
            unfold al_
            split
            · show 1 < 2147483648; omega
            · split
              · show 0 < 2147483648; omega
              · show 2 < 2147483648; omega
          · by_cases hz : N (7 + dp_ O a) = 0
            · rw [sp_9z h hz] at h0; exact absurd rfl h0
            · rw [sp_9n h hz] at h0; exact absurd rfl h0
          · rw [sp_10 h] at h0; exact absurd rfl h0
          · obtain ⟨b, t, r, rfl, _⟩ := iv_e ho hi ha h
            rw [sp_11 h] at h0
            by_cases ht : 1 < t
            · rw [if_pos ht] at h0; exact absurd rfl h0
            · rw [if_neg ht] at h0; exact absurd rfl h0
        exact x_flt (by omega) (fun z => h0 ((eq_0 rfl hc3).mp z)) hk hm2 (fun H3 h3 => K H3 _ _ _ _ _ _ _ _ _ _ _ _ _ _ _ _ _ h3) n
    · exact fin (n + 1) a N bs st H' z' s' l' v' st' tn' tp rp e1 e2 e3 e4 e5 e6 q1 q2 q3 q4 hi ha (by omega) hm htp K
theorem x_run {post : Int32 → SX → Prop} {O mt : Nat → Nat} {L : Nat} {N : Nat → Int} (ho : ok_ O a_arg mt L) (hop : ∀ i, i < L → a_op i = nI (O i)) (hmt : ∀ i, i < L → a_mate i = nI (mt i)) (hd : f_depth = 0) (hq : f_open = 0) (hm : xm_ a_holders a_size a_signOf a_limb (wf_ a_var a_stack) N 8) (K : ∀ ft H' z' s' l' v' st' tn' rp e1 e2 e3 e4 e5 e6 q1 q2 q3 q4, xm_ H' z' s' l' (wf_ v' st') (ru_ O a_arg mt L 8640 0 N []).2 8 → post (nI (ru_ O a_arg mt L 8640 0 N []).1) ((nI L), f_depth, f_open, 0, rp, e1, e2, e3, e4, e5, e6, ft, a_op, a_arg, a_mate, a_openAt, v', st', tn', H', z', s', l', q1, q2, q3, q4)) : wpX_run post ((nI L), f_depth, f_open, f_top, f_repeats, f_lenA, f_signA, f_lenB, f_signB, f_lenR, f_signR, f_fault, a_op, a_arg, a_mate, a_openAt, a_var, a_stack, a_turns, a_holders, a_size, a_signOf, a_limb, a_a, a_b, a_r, a_rest) := by
  have hL := ho.1
  have hme : me_ mt L 0 [] ≤ 8640 := by
    show (L - 0) * 216 ≤ 8640
    omega
  refine br_t hd (br_t hq ⟨8640 + 1, ?_⟩)
  exact x_36 ho hop hmt 8640 0 N [] 0 _ _ _ _ _ _ _ _ _ _ _ _ _ _ _ _ _ _ _ ⟨Nat.zero_le _, True.intro, rfl⟩ hme (by omega) True.intro hm rfl rfl (fun H' z' s' l' v' st' tn' rp e1 e2 e3 e4 e5 e6 q1 q2 q3 q4 h => K _ H' z' s' l' v' st' tn' rp e1 e2 e3 e4 e5 e6 q1 q2 q3 q4 h)
/-! set -/
theorem x_set {post : Int32 → SX → Prop} {v : Nat} {x : Int32} {N : Nat → Int} (hv : v < 8) (hm : xm_ a_holders a_size a_signOf a_limb (wf_ a_var a_stack) N 8) (K : ∀ H' z' s' l' v' e5 e6 q3, xm_ H' z' s' l' (wf_ v' a_stack) (un_ N v x.toInt) 8 → post 0 (f_length, f_depth, f_open, f_top, f_repeats, f_lenA, f_signA, f_lenB, f_signB, e5, e6, f_fault, a_op, a_arg, a_mate, a_openAt, v', a_stack, a_turns, H', z', s', l', a_a, a_b, q3, a_rest)) : wpX_set post (f_length, f_depth, f_open, f_top, f_repeats, f_lenA, f_signA, f_lenB, f_signB, f_lenR, f_signR, f_fault, a_op, a_arg, a_mate, a_openAt, a_var, a_stack, a_turns, a_holders, a_size, a_signOf, a_limb, a_a, a_b, a_r, a_rest) (nI v) x := by
  have h1 := x.le_toInt
  have h2 := x.toInt_lt
  have i1 := vp_in_nI (n := v) (N := 8) hv (by omega)
  refine br_f (nI_pos (by omega)) (br_t (nI_le (a := v) (b := 7) (by omega) (by omega)) ⟨i1, nm_r (rd_e rfl (by omega) rfl) ?_⟩)
  rw [jz_i]
  refine x_wordOf (xm_hc hm (by omega)) (by omega) (by omega) (fun w H' z' s' l' e g r' hn => ?_)
  have h := xn_nw hm hn
  have hw := h.1 v hv
  rw [wf_v hv] at hw
  refine And.intro i1 (nm_r (up_e rfl (by omega) rfl) ?_)
  refine x_letGo hw (fun H2 h2 => ?_)
  refine K H2 z' s' l' _ e g r' ?_
  rw [wf_uv hv]
  exact xm_st h hv (by rw [wf_v hv]; exact h2)
theorem x_set1 {post : Int32 → SX → Prop} {v x : Int32} (hv : v < 0 ∨ nI 8 ≤ v) (K : post (-2) (f_length, f_depth, f_open, f_top, f_repeats, f_lenA, f_signA, f_lenB, f_signB, f_lenR, f_signR, f_fault, a_op, a_arg, a_mate, a_openAt, a_var, a_stack, a_turns, a_holders, a_size, a_signOf, a_limb, a_a, a_b, a_r, a_rest)) : wpX_set post (f_length, f_depth, f_open, f_top, f_repeats, f_lenA, f_signA, f_lenB, f_signB, f_lenR, f_signR, f_fault, a_op, a_arg, a_mate, a_openAt, a_var, a_stack, a_turns, a_holders, a_size, a_signOf, a_limb, a_a, a_b, a_r, a_rest) v x := by
  by_cases h : v < 0
  · exact br_t h K
  · refine br_f h (br_f (fun z => ?_) K)
    have h8 := hv.resolve_left h
    rw [Int32.le_iff_toInt_le] at z h8
    have e1 : (nI 8).toInt = 8 := by decide
    have e2 : (7 : Int32).toInt = 7 := by decide
    omega
/-! the questions -/
theorem x_nv0 {post : Int32 → Prop} {v : Nat} (hv : v < 8) (K : post 0) : wpX_noVariable post (nI v) :=
  br_f (nI_pos (by omega)) (br_t (nI_le (a := v) (b := 7) (by omega) (by omega)) K)
theorem x_nv1 {post : Int32 → Prop} {x : Int32} (hv : x < 0 ∨ nI 8 ≤ x) (K : post 1) : wpX_noVariable post x := by
  by_cases h : x < 0
  · exact br_t h K
  · refine br_f h (br_f (fun z => ?_) K)
    have h8 := hv.resolve_left h
    rw [Int32.le_iff_toInt_le] at z h8
    have e1 : (nI 8).toInt = 8 := by decide
    have e2 : (7 : Int32).toInt = 7 := by decide
    omega
theorem x_sign {post : Int32 → SX → Prop} {v : Nat} {V : Int} (hv : v < 8) (hV : wd_ a_size a_signOf a_limb (a_var v) V) (K : ∀ e1 e2 q1, post (oc_ V 0) (f_length, f_depth, f_open, f_top, f_repeats, e1, e2, f_lenB, f_signB, f_lenR, f_signR, f_fault, a_op, a_arg, a_mate, a_openAt, a_var, a_stack, a_turns, a_holders, a_size, a_signOf, a_limb, q1, a_b, a_r, a_rest)) : wpX_sign post (f_length, f_depth, f_open, f_top, f_repeats, f_lenA, f_signA, f_lenB, f_signB, f_lenR, f_signR, f_fault, a_op, a_arg, a_mate, a_openAt, a_var, a_stack, a_turns, a_holders, a_size, a_signOf, a_limb, a_a, a_b, a_r, a_rest) (nI v) := by
  unfold wpX_sign
  refine x_nv0 hv ?_
  refine br_t rfl (And.intro (vp_in_nI hv (by omega)) ?_)
  rw [rd_e (f := a_var) rfl (by omega) rfl]
  refine x_unpackA hV (fun L a' hL hL' ha => ?_)
  have hz := ln_iff (by omega) hL
  refine ek_if (eq_0 rfl (by omega)) (fun h => ?_) (fun h => ?_)
  · rw [oc_e (by have := hz.mp h; omega)] at K; exact K _ _ _
  · have hn : ¬ V = 0 := fun z => h (hz.mpr (by omega))
    rcases Int.lt_or_le V 0 with g | g
    · rw [oc_l g] at K; rw [sg_m g]; exact K _ _ _
    · rw [oc_g (by omega)] at K; rw [sg_0 g]; exact K _ _ _
theorem x_dig {post : Int32 → Prop} {A j k : Nat} (hk : k < 4) (K : post (nI (dg_ 10 A (4 * j + k)))) : wpX_digitOf post (nI (dg_ 10000 A j)) (nI k) := by
  have hd := dg_lt (b := 10000) (by omega) A j
  have e := d4_ A j k hk
  generalize dg_ 10000 A j = D at *
  have d1 : ∀ d : Nat, 0 < d → d < 2147483648 → nI D / nI d = nI (D / d) := fun d h1 h2 => pk_div (by omega) h1 (by omega)
  have d2 : ∀ x : Nat, x < 10000 → nI x - nI x / nI 10 * nI 10 = nI (x % 10) := fun x hx => pk_rem (by omega) (by omega) (by omega)
  refine pk_eq k 0 (fun h => ⟨by decide, ?_⟩) (fun h0 => pk_eq k 1 (fun h => ⟨by decide, by decide, ?_⟩) (fun h1 => pk_eq k 2 (fun h => ⟨by decide, by decide, ?_⟩) (fun h2 => ⟨by decide, ?_⟩)))
  · subst h
    have : nI D - nI D / 10 * 10 = nI (D % 10) := d2 D hd
    rw [this, show D % 10 = dg_ 10 A (4 * j + 0) by rw [← e]; omega]; exact K
  · subst h
    have t1 : nI D / 10 = nI (D / 10) := d1 10 (by omega) (by omega)
    have t2 : nI (D / 10) - nI (D / 10) / 10 * 10 = nI (D / 10 % 10) := d2 _ (by omega)
    rw [t1, t2, show D / 10 % 10 = dg_ 10 A (4 * j + 1) by rw [← e]]; exact K
  · subst h
    have t1 : nI D / 100 = nI (D / 100) := d1 100 (by omega) (by omega)
    have t2 : nI (D / 100) - nI (D / 100) / 10 * 10 = nI (D / 100 % 10) := d2 _ (by omega)
    rw [t1, t2, show D / 100 % 10 = dg_ 10 A (4 * j + 2) by rw [← e]]; exact K
  · cases (show k = 3 by omega)
    have t1 : nI D / 1000 = nI (D / 1000) := d1 1000 (by omega) (by omega)
    rw [t1, show D / 1000 = dg_ 10 A (4 * j + 3) by rw [← e]; omega]; exact K
theorem x_ix {i : Nat} (hi : i < 48) : nI i >>> ((2 : Int32) &&& 31) = nI (i / 4) := pk_shrN (by omega) _ 2 (by decide)
theorem x_iy {i : Nat} (hi : i < 48) : nI i &&& 3 = nI (i % 4) := pk_andN (by omega) 2 (by decide)
theorem xg_loop {post : Int32 → SX → Prop} {A L : Nat} (hL : L ≤ 10) (hA : A < 10000 ^ L) (ha : ∀ j, j < 12 → a_a j = nI (dg_ 10000 A j)) (K : ∀ M, Ln_ 10 M A → post (nI (if M = 0 then 1 else M)) (f_length, f_depth, f_open, f_top, f_repeats, (nI L), f_signA, f_lenB, f_signB, f_lenR, f_signR, f_fault, a_op, a_arg, a_mate, a_openAt, a_var, a_stack, a_turns, a_holders, a_size, a_signOf, a_limb, a_a, a_b, a_r, a_rest)) : ∀ m i c, i + m = L * 4 → Ln_ 10 c (A % 10 ^ i) → c ≤ i → wX_digits_24 post f_length f_depth f_open f_top f_repeats (nI L) f_signA f_lenB f_signB f_lenR f_signR f_fault a_op a_arg a_mate a_openAt a_var a_stack a_turns a_holders a_size a_signOf a_limb a_a a_b a_r a_rest (m + 1) (nI (if c = 0 then 1 else c)) (nI i) := by
  have e4 : nI L * 4 = nI (L * 4) := pk_mul L 4
  intro m
  induction m with
  | zero =>
    intro i c hi hc hci
    cases (show i = L * 4 by omega)
    rw [Nat.mul_comm L 4, ← d4_p, Nat.mod_eq_of_lt hA] at hc
    exact pk_le (L * 4) (L * 4) (fun _ => K c hc) (fun z => by omega) e4
  | succ m ih =>
    intro i c hi hc hci
    have hd := dg_lt (b := 10) (by omega) A i
    refine pk_le (L * 4) i (fun z => by omega) (fun _ => ⟨pk_in (i / 4) 12 (by omega) (x_ix (by omega)), ?_⟩) e4
    rw [rd_e (f := a_a) (x_ix (by omega)) (by omega) (ha (i / 4) (by omega)), x_iy (by omega)]
    refine x_dig (by omega) ?_
    rw [show 4 * (i / 4) + i % 4 = i by omega]
    refine ek_if (eq_0 rfl (by omega)) (fun e => nm_r (nI_1 i) ?_) (fun e => nm_r (nI_1 i) (nm_r (nI_1 i) ?_))
    · exact ih (i + 1) c (by omega) (ln_s0 hc e) (by omega)
    · have h := ih (i + 1) (i + 1) (by omega) (ln_s1 (by omega) e) (by omega)
      rw [if_neg (by omega)] at h
      exact h
theorem x_digits {post : Int32 → SX → Prop} {v : Nat} {V : Int} (hv : v < 8) (hV : wd_ a_size a_signOf a_limb (a_var v) V) (K : ∀ M, Ln_ 10 M V.natAbs → ∀ e1 e2 q1, post (nI (if M = 0 then 1 else M)) (f_length, f_depth, f_open, f_top, f_repeats, e1, e2, f_lenB, f_signB, f_lenR, f_signR, f_fault, a_op, a_arg, a_mate, a_openAt, a_var, a_stack, a_turns, a_holders, a_size, a_signOf, a_limb, q1, a_b, a_r, a_rest)) : wpX_digits post (f_length, f_depth, f_open, f_top, f_repeats, f_lenA, f_signA, f_lenB, f_signB, f_lenR, f_signR, f_fault, a_op, a_arg, a_mate, a_openAt, a_var, a_stack, a_turns, a_holders, a_size, a_signOf, a_limb, a_a, a_b, a_r, a_rest) (nI v) := by
  unfold wpX_digits
  refine x_nv0 hv ?_
  refine br_t rfl (And.intro (vp_in_nI hv (by omega)) ?_)
  rw [rd_e (f := a_var) rfl (by omega) rfl]
  refine x_unpackA hV (fun L a' hL hL' ha => ?_)
  exact ⟨L * 4 + 1, xg_loop hL' hL.1 ha (fun M hM => K M hM _ _ _) (L * 4) 0 0 (by omega) (by rw [Nat.pow_zero, Nat.mod_one]; exact ln_0 10) (by omega)⟩
theorem x_digit {post : Int32 → SX → Prop} {v i : Nat} {V : Int} (hv : v < 8) (hi : i < 2147483648) (hV : wd_ a_size a_signOf a_limb (a_var v) V) (K : ∀ e1 e2 q1, post (nI (dg_ 10 V.natAbs i)) (f_length, f_depth, f_open, f_top, f_repeats, e1, e2, f_lenB, f_signB, f_lenR, f_signR, f_fault, a_op, a_arg, a_mate, a_openAt, a_var, a_stack, a_turns, a_holders, a_size, a_signOf, a_limb, q1, a_b, a_r, a_rest)) : wpX_digit post (f_length, f_depth, f_open, f_top, f_repeats, f_lenA, f_signA, f_lenB, f_signB, f_lenR, f_signR, f_fault, a_op, a_arg, a_mate, a_openAt, a_var, a_stack, a_turns, a_holders, a_size, a_signOf, a_limb, a_a, a_b, a_r, a_rest) (nI v) (nI i) := by
  unfold wpX_digit
  refine x_nv0 hv ?_
  refine br_t rfl (br_t (nI_pos' (by omega)) (pk_lt i 40 (fun h => And.intro (vp_in_nI hv (by omega)) ?_) (fun h => ?_)))
  · rw [rd_e (f := a_var) rfl (by omega) rfl]
    refine x_unpackA hV (fun L a' hL hL' ha => ?_)
    refine And.intro (pk_in (i / 4) 12 (by omega) (x_ix (by omega))) ?_
    rw [rd_e (f := a') (x_ix (by omega)) (by omega) (ha (i / 4) (by omega)), x_iy (by omega)]
    refine x_dig (by omega) ?_
    rw [show 4 * (i / 4) + i % 4 = i by omega]
    exact K _ _ _
  · have hb := wd_b hV
    rw [p_10] at hb
    rw [dg_z hb h (by omega)] at K
    exact K _ _ _
theorem x_compare {post : Int32 → SX → Prop} {v w : Nat} {V W : Int} (hv : v < 8) (hw : w < 8) (hV : wd_ a_size a_signOf a_limb (a_var v) V) (hW : wd_ a_size a_signOf a_limb (a_var w) W) (K : ∀ e1 e2 e3 e4 q1 q2, post (oc_ V W) (f_length, f_depth, f_open, f_top, f_repeats, e1, e2, e3, e4, f_lenR, f_signR, f_fault, a_op, a_arg, a_mate, a_openAt, a_var, a_stack, a_turns, a_holders, a_size, a_signOf, a_limb, q1, q2, a_r, a_rest)) : wpX_compare post (f_length, f_depth, f_open, f_top, f_repeats, f_lenA, f_signA, f_lenB, f_signB, f_lenR, f_signR, f_fault, a_op, a_arg, a_mate, a_openAt, a_var, a_stack, a_turns, a_holders, a_size, a_signOf, a_limb, a_a, a_b, a_r, a_rest) (nI v) (nI w) := by
  unfold wpX_compare
  refine x_nv0 hv ?_
  refine br_t rfl ?_
  refine x_nv0 hw ?_
  refine br_t rfl (And.intro (vp_in_nI hv (by omega)) (And.intro (vp_in_nI hw (by omega)) ?_))
  rw [rd_e (f := a_var) (x := nI v) rfl (by omega) rfl, rd_e (f := a_var) (x := nI w) rfl (by omega) rfl]
  refine x_unpack hV hW (fun L M a' b' hL hL' hM hM' ha hb => ?_)
  exact x_order hL hM hL' hM' ha hb (K _ _ _ _ _ _)
theorem xh_loop {post : Int64 → SX → Prop} {A L : Nat} {V : Int} (hL : L ≤ 3) (hsV : f_signA = sg_ V) (hVA : V.natAbs = A) (ha : ∀ j, j < 12 → a_a j = nI (dg_ 10000 A j)) (K : post (jz_I V) (f_length, f_depth, f_open, f_top, f_repeats, f_lenA, f_signA, f_lenB, f_signB, f_lenR, f_signR, f_fault, a_op, a_arg, a_mate, a_openAt, a_var, a_stack, a_turns, a_holders, a_size, a_signOf, a_limb, a_a, a_b, a_r, a_rest)) : ∀ e, e ≤ L → wX_machineNumber_32 post f_length f_depth f_open f_top f_repeats f_lenA f_signA f_lenB f_signB f_lenR f_signR f_fault a_op a_arg a_mate a_openAt a_var a_stack a_turns a_holders a_size a_signOf a_limb a_a a_b a_r a_rest (e + 1) (lN (A / 10000 ^ e)) (nI e + (-1)) := by
  intro e
  induction e with
  | zero =>
    intro _
    refine br_t (by decide) ?_
    rw [Nat.pow_zero, Nat.div_one, hsV]
    rcases Int.lt_or_le V 0 with g | g
    · rw [sg_m g]
      refine br_f (by decide) ?_
      rw [jz_n, jz_neg, show -(A : Int) = V by omega]
      rw [hsV, sg_m g] at K; exact K
    · rw [sg_0 g]
      refine br_t (by decide) ?_
      rw [jz_n, show (A : Int) = V by omega]
      rw [hsV, sg_0 g] at K; exact K
  | succ e ih =>
    intro he
    rw [pk_m1]
    have hd := dg_lt (b := 10000) (by omega) A e
    have hx : lN (A / 10000 ^ (e + 1)) * 10000 + (a_a (nI e).toNatClampNeg).toInt64 = lN (A / 10000 ^ e) := by
      rw [rd_e rfl (by omega) (ha e (by omega)), nI_l (by omega), show (10000 : Int64) = lN 10000 from rfl, lN_mul, lN_add, ← dg_dv]
    exact br_f (nI_pos (by omega)) ⟨vp_in_nI (by omega) (by omega), nm_r hx (nm_e (ih (by omega)))⟩
theorem x_mn {post : Int64 → SX → Prop} {v : Nat} {V : Int} (hv : v < 8) (hV : wd_ a_size a_signOf a_limb (a_var v) V) (K : V.natAbs < 1000000000000 → ∀ e1 e2 q1, post (jz_I V) (f_length, f_depth, f_open, f_top, f_repeats, e1, e2, f_lenB, f_signB, f_lenR, f_signR, f_fault, a_op, a_arg, a_mate, a_openAt, a_var, a_stack, a_turns, a_holders, a_size, a_signOf, a_limb, q1, a_b, a_r, a_rest)) (K' : ¬ V.natAbs < 1000000000000 → ∀ e1 e2 q1, post (jz_I 4000000000000) (f_length, f_depth, f_open, f_top, f_repeats, e1, e2, f_lenB, f_signB, f_lenR, f_signR, f_fault, a_op, a_arg, a_mate, a_openAt, a_var, a_stack, a_turns, a_holders, a_size, a_signOf, a_limb, q1, a_b, a_r, a_rest)) : wpX_machineNumber post (f_length, f_depth, f_open, f_top, f_repeats, f_lenA, f_signA, f_lenB, f_signB, f_lenR, f_signR, f_fault, a_op, a_arg, a_mate, a_openAt, a_var, a_stack, a_turns, a_holders, a_size, a_signOf, a_limb, a_a, a_b, a_r, a_rest) (nI v) := by
  refine And.intro (vp_in_nI hv (by omega)) ?_
  rw [rd_e (f := a_var) rfl (by omega) rfl]
  refine x_unpackA hV (fun L a' hL hL' ha => ?_)
  have h3 := ln_le (n := 3) (by omega) hL
  refine pk_le L 3 (fun h => nm_r (e' := nI L + (-1)) (Int32.sub_eq_add_neg _ _) ⟨L + 1, ?_⟩) (fun h => ?_)
  · have hb : V.natAbs < 1000000000000 := h3.mpr h
    have := xh_loop (post := post) (f_length := f_length) (f_depth := f_depth) (f_open := f_open) (f_top := f_top) (f_repeats := f_repeats) (f_lenA := (nI L)) (f_signA := (sg_ V)) (f_lenB := f_lenB) (f_signB := f_signB) (f_lenR := f_lenR) (f_signR := f_signR) (f_fault := f_fault) (a_op := a_op) (a_arg := a_arg) (a_mate := a_mate) (a_openAt := a_openAt) (a_var := a_var) (a_stack := a_stack) (a_turns := a_turns) (a_holders := a_holders) (a_size := a_size) (a_signOf := a_signOf) (a_limb := a_limb) (a_a := a') (a_b := a_b) (a_r := a_r) (a_rest := a_rest) (V := V) h rfl rfl ha (K hb _ _ _) L (by omega)
    rw [Nat.div_eq_of_lt hL.1] at this
    exact this
  · exact K' (fun z => by have := h3.mp z; omega) _ _ _
theorem x_isInt {post : Int32 → SX → Prop} {v : Nat} {V : Int} (hv : v < 8) (hV : wd_ a_size a_signOf a_limb (a_var v) V) (K1 : ii_ V → ∀ e1 e2 q1, post 1 (f_length, f_depth, f_open, f_top, f_repeats, e1, e2, f_lenB, f_signB, f_lenR, f_signR, f_fault, a_op, a_arg, a_mate, a_openAt, a_var, a_stack, a_turns, a_holders, a_size, a_signOf, a_limb, q1, a_b, a_r, a_rest)) (K0 : ¬ ii_ V → ∀ e1 e2 q1, post 0 (f_length, f_depth, f_open, f_top, f_repeats, e1, e2, f_lenB, f_signB, f_lenR, f_signR, f_fault, a_op, a_arg, a_mate, a_openAt, a_var, a_stack, a_turns, a_holders, a_size, a_signOf, a_limb, q1, a_b, a_r, a_rest)) : wpX_isInt post (f_length, f_depth, f_open, f_top, f_repeats, f_lenA, f_signA, f_lenB, f_signB, f_lenR, f_signR, f_fault, a_op, a_arg, a_mate, a_openAt, a_var, a_stack, a_turns, a_holders, a_size, a_signOf, a_limb, a_a, a_b, a_r, a_rest) (nI v) := by
  unfold wpX_isInt
  refine x_nv0 hv ?_
  refine br_t rfl ?_
  have e1 : (-2147483648 : Int64) = jz_I (-2147483648) := by decide
  have e2 : (2147483647 : Int64) = jz_I 2147483647 := by decide
  refine x_mn hv hV (fun hb g1 g2 q1 => ?_) (fun hb g1 g2 q1 => ?_)
  · rw [e1, e2]
    refine ek_if (jz_lt (by omega) (by omega) (by omega) (by omega)) (fun h => K0 (fun z => ?_) _ _ _) (fun h => ek_if (jz_lt (by omega) (by omega) (by omega) (by omega)) (fun h' => K0 (fun z => ?_) _ _ _) (fun h' => K1 ⟨by omega, by omega⟩ _ _ _))
    · have := z.1; omega
    · have := z.2; omega
  · rw [e1, e2]
    refine ek_if (jz_lt (by omega) (by omega) (by omega) (by omega)) (fun h => absurd h (by omega)) (fun h => ek_if (jz_lt (by omega) (by omega) (by omega) (by omega)) (fun h' => K0 (fun z => ?_) _ _ _) (fun h' => absurd h' (by omega)))
    have := z.1; have := z.2; omega
theorem x_asInt {post : Int32 → SX → Prop} {v : Nat} {V : Int} (hv : v < 8) (hV : wd_ a_size a_signOf a_limb (a_var v) V) (K1 : ii_ V → ∀ e1 e2 q1, post (iz_I V) (f_length, f_depth, f_open, f_top, f_repeats, e1, e2, f_lenB, f_signB, f_lenR, f_signR, f_fault, a_op, a_arg, a_mate, a_openAt, a_var, a_stack, a_turns, a_holders, a_size, a_signOf, a_limb, q1, a_b, a_r, a_rest)) (K0 : ¬ ii_ V → ∀ e1 e2 q1, post 0 (f_length, f_depth, f_open, f_top, f_repeats, e1, e2, f_lenB, f_signB, f_lenR, f_signR, f_fault, a_op, a_arg, a_mate, a_openAt, a_var, a_stack, a_turns, a_holders, a_size, a_signOf, a_limb, q1, a_b, a_r, a_rest)) : wpX_asInt post (f_length, f_depth, f_open, f_top, f_repeats, f_lenA, f_signA, f_lenB, f_signB, f_lenR, f_signR, f_fault, a_op, a_arg, a_mate, a_openAt, a_var, a_stack, a_turns, a_holders, a_size, a_signOf, a_limb, a_a, a_b, a_r, a_rest) (nI v) := by
  unfold wpX_asInt
  refine x_nv0 hv ?_
  refine br_t rfl ?_
  have e1 : (-2147483648 : Int64) = jz_I (-2147483648) := by decide
  have e2 : (2147483647 : Int64) = jz_I 2147483647 := by decide
  refine x_mn hv hV (fun hb g1 g2 q1 => ?_) (fun hb g1 g2 q1 => ?_)
  · rw [e1, e2]
    refine ek_if (jz_lt (by omega) (by omega) (by omega) (by omega)) (fun h => K0 (fun z => ?_) _ _ _) (fun h => ek_if (jz_lt (by omega) (by omega) (by omega) (by omega)) (fun h' => K0 (fun z => ?_) _ _ _) (fun h' => ?_))
    · have := z.1; omega
    · have := z.2; omega
    · rw [jz_32 (by omega) (by omega)]
      exact K1 ⟨by omega, by omega⟩ _ _ _
  · rw [e1, e2]
    refine ek_if (jz_lt (by omega) (by omega) (by omega) (by omega)) (fun h => absurd h (by omega)) (fun h => ek_if (jz_lt (by omega) (by omega) (by omega) (by omega)) (fun h' => K0 (fun z => ?_) _ _ _) (fun h' => absurd h' (by omega)))
    have := z.1; have := z.2; omega
end
end
section
/-! the reference: a run -/
def yk_ (B T : Nat → Int32) : List (Nat × Nat) → Prop
  | [] => True
  | (b, t) :: r => B r.length = nI b ∧ T r.length = nI t ∧ yk_ B T r
theorem yk_b {B T : Nat → Int32} {k : Nat} {v : Int32} : ∀ bs : List (Nat × Nat), bs.length ≤ k → yk_ B T bs → yk_ (upd B k v) T bs := by
  intro bs
  induction bs with
  | nil => intro _ _; exact True.intro
  | cons p r ih =>
    intro hk h
    have hk : r.length + 1 ≤ k := hk
    exact ⟨by rw [pk_un (by omega)]; exact h.1, h.2.1, ih (by omega) h.2.2⟩
theorem yk_t {B T : Nat → Int32} {k : Nat} {v : Int32} : ∀ bs : List (Nat × Nat), bs.length ≤ k → yk_ B T bs → yk_ B (upd T k v) bs := by
  intro bs
  induction bs with
  | nil => intro _ _; exact True.intro
  | cons p r ih =>
    intro hk h
    have hk : r.length + 1 ≤ k := hk
    exact ⟨h.1, by rw [pk_un (by omega)]; exact h.2.1, ih (by omega) h.2.2⟩
section
variable {f_size f_depth f_open : Int32} {a_ops a_args a_d a_minus a_begins a_times : Nat → Int32}
theorem y_writeS {post : SY → Prop} {s : Nat} {x : Int32} (hs : s < 14) (K : ∀ d' m', ys_ d' m' s x.toInt → (∀ u V, u < 14 → u ≠ s → ys_ a_d a_minus u V → ys_ d' m' u V) → post (f_size, f_depth, f_open, a_ops, a_args, d', m', a_begins, a_times)) : wpY_write post (f_size, f_depth, f_open, a_ops, a_args, a_d, a_minus, a_begins, a_times) (nI s) x := by
  refine y_write (by omega) (fun d' c V hn hV hf hc hx => ?_)
  refine K _ _ (ys_mk hn (Nat.lt_of_le_of_lt hV (Nat.lt_of_lt_of_le (show 2147483648 < 10 ^ 10 by decide) (Nat.pow_le_pow_right (by omega) (by omega)))) pk_us hc hx) (fun u V hu huv hV => ys_f hV (fun j hj => hf _ (by omega)) (pk_un huv))
theorem y_copyS {post : SY → Prop} {s t : Nat} {V : Int} (hs : s < 14) (ht : t < 14) (hst : s ≠ t) (hV : ys_ a_d a_minus s V) (K : ∀ d' m', ys_ d' m' t V → (∀ u V, u < 14 → u ≠ t → ys_ a_d a_minus u V → ys_ d' m' u V) → post (f_size, f_depth, f_open, a_ops, a_args, d', m', a_begins, a_times)) : wpY_copy post (f_size, f_depth, f_open, a_ops, a_args, a_d, a_minus, a_begins, a_times) (nI s) (nI t) := by
  refine y_copy (by omega) (by omega) hst (ys_m hV) (ys_n hV) (fun d' hn hf => ?_)
  refine K _ _ (ys_mk hn (ys_b hV) pk_us (ys_m hV) (ys_v hV)) (fun u V hu huv hV => ys_f hV (fun j hj => hf _ (by omega)) (pk_un huv))
variable {O : Nat → Nat} {mt : Nat → Nat} {L a : Nat} {N : Nat → Int} {bs : List (Nat × Nat)}
theorem ye_loop {post : Int32 → Prop} {s : Nat} (hL : L ≤ 40) (hc : cl_ O mt L s) (hO : O s = 9 ∨ O s = 10) (hop : ∀ i, i < L → a_ops i = nI (O i)) (hns : ∀ i, i < L → ns_ O i ≤ 40 ∧ O i ≤ 11) (K : post (nI (mt s))) : ∀ m i, i + m = mt s → s ≤ i → wY_end_4 post (nI L) f_depth f_open a_ops a_args a_d a_minus a_begins a_times (m + 1) (nI (ns_ O i - ns_ O s)) (nI i) := by
  obtain ⟨c1, c2, c3, c4, c5, c6⟩ := hc
  intro m
  induction m with
  | zero =>
    intro i hi hsi
    cases (show i = mt s by omega)
    have h1 := c6 (mt s) c1 (Nat.le_refl _)
    rw [ns_e c3] at c5
    have i1 := vp_in_nI (n := mt s) (N := 40) (by omega) (by omega)
    refine br_f (nI_ge c2 (by omega)) ⟨i1, ?_⟩
    rw [rd_e (f := a_ops) rfl (by omega) (hop _ c2), c3]
    refine br_f (by decide) ⟨i1, br_f (by decide) (And.intro i1 ?_)⟩
    rw [rd_e (f := a_ops) rfl (by omega) (hop _ c2), c3]
    refine br_t rfl (nm_r (e' := nI 0) ?_ (br_t rfl K))
    rw [show ns_ O (mt s) - ns_ O s = 0 + 1 by omega, pk_m1]
  | succ m ih =>
    intro i hi hsi
    have i1 := vp_in_nI (n := i) (N := 40) (by omega) (by omega)
    have h1 := c6 (i + 1) (by omega) (by omega)
    have h0 : ns_ O s ≤ ns_ O i := by
      rcases Nat.eq_or_lt_of_le hsi with z | z
      · rw [z]; exact Nat.le_refl _
      · have := c6 i z (by omega); omega
    have hb := hns i (by omega)
    have hnx := ih (i + 1) (by omega) (by omega)
    have hr : a_ops (nI i).toNatClampNeg = nI (O i) := rd_e (f := a_ops) rfl (by omega) (hop _ (by omega))
    have opn : O i = 9 ∨ O i = 10 → wY_end_34 post (wY_end_4 post (nI L) f_depth f_open a_ops a_args a_d a_minus a_begins a_times (m + 1)) (nI (ns_ O i - ns_ O s)) (nI i) (nI L) f_depth f_open a_ops a_args a_d a_minus a_begins a_times := by
      intro ho
      refine nm_r (nI_1 _) (And.intro i1 ?_)
      rw [hr]
      refine pk_eq (O i) 11 (fun z => by omega) (fun _ => nm_r (nI_1 i) ?_)
      rw [ns_o ho, show ns_ O i + 1 - ns_ O s = ns_ O i - ns_ O s + 1 by omega] at hnx
      exact hnx
    refine br_f (nI_ge (b := L) (by omega) (by omega)) ⟨i1, ?_⟩
    rw [hr]
    refine pk_eq (O i) 9 (fun e => opn (Or.inl e)) (fun e9 => ⟨i1, pk_eq (O i) 10 (fun e => opn (Or.inr e)) (fun e10 => And.intro i1 ?_)⟩)
    rw [hr]
    refine pk_eq (O i) 11 (fun e => ?_) (fun e11 => nm_r (nI_1 i) ?_)
    · rw [ns_e e] at hnx h1
      obtain ⟨q, hq⟩ : ∃ q, ns_ O i - ns_ O s = q + 1 := ⟨ns_ O i - ns_ O s - 1, by omega⟩
      rw [hq]
      rw [show ns_ O i - 1 - ns_ O s = q by omega] at hnx
      exact nm_r (pk_m1 q) (br_f (nI_ne0 (by omega) (by omega)) (nm_r (nI_1 i) hnx))
    · rw [ns_n (by omega)] at hnx
      exact hnx
theorem y_end {post : Int32 → Prop} {s : Nat} (hL : L ≤ 40) (hc : cl_ O mt L s) (hO : O s = 9 ∨ O s = 10) (hop : ∀ i, i < L → a_ops i = nI (O i)) (hns : ∀ i, i < L → ns_ O i ≤ 40 ∧ O i ≤ 11) (K : post (nI (mt s))) : wpY_end post ((nI L), f_depth, f_open, a_ops, a_args, a_d, a_minus, a_begins, a_times) (nI s) := by
  have h := ye_loop (f_depth := f_depth) (f_open := f_open) (a_ops := a_ops) (a_args := a_args) (a_d := a_d) (a_minus := a_minus) (a_begins := a_begins) (a_times := a_times) hL hc hO hop hns K (mt s - s) s (by have := hc.1; omega) (Nat.le_refl s)
  rw [Nat.sub_self] at h
  exact Exists.intro _ h
theorem ns_le (O : Nat → Nat) (i : Nat) : ns_ O i ≤ i := by
  induction i with
  | zero => exact Nat.le_refl 0
  | succ i ih =>
    show (if O i = 9 ∨ O i = 10 then ns_ O i + 1 else if O i = 11 then ns_ O i - 1 else ns_ O i) ≤ i + 1
    split
    · omega
    · split <;> omega
/-! the step -/
theorem yr_up {post : Int32 → SY → Prop} {J : Int32 → Int32 → Int32 → Int32 → Int32 → Int32 → Int32 → (Nat → Int32) → (Nat → Int32) → (Nat → Int32) → (Nat → Int32) → (Nat → Int32) → (Nat → Int32) → Prop} {o k q st : Nat} {x : Int32} (ho : o ≤ 1) (K : J x (nI (k + 1)) (nI q) (nI (st + 1)) f_size f_depth f_open a_ops a_args a_d a_minus a_begins a_times) : wY_run_284 post J (nI k) (nI q) (nI st) (nI o) x f_size f_depth f_open a_ops a_args a_d a_minus a_begins a_times :=
  pk_lt 1 o (fun h => by omega) (fun _ => nm_r (nI_1 k) (nm_r (nI_1 st) K))
theorem yr_dn {post : Int32 → SY → Prop} {J : Int32 → Int32 → Int32 → Int32 → Int32 → Int32 → Int32 → (Nat → Int32) → (Nat → Int32) → (Nat → Int32) → (Nat → Int32) → (Nat → Int32) → (Nat → Int32) → Prop} {o k q st : Nat} {x : Int32} (ho : 1 < o) (ho' : o ≤ 9) (K : J x (nI k) (nI q) (nI (st + 1)) f_size f_depth f_open a_ops a_args a_d a_minus a_begins a_times) : wY_run_284 post J (nI (k + 1)) (nI q) (nI st) (nI o) x f_size f_depth f_open a_ops a_args a_d a_minus a_begins a_times :=
  pk_lt 1 o (fun _ => pk_lt 9 o (fun h => by omega) (fun _ => nm_r (pk_m1 k) (nm_r (nI_1 st) K))) (fun h => by omega)
theorem yr_ct {post : Int32 → SY → Prop} {J : Int32 → Int32 → Int32 → Int32 → Int32 → Int32 → Int32 → (Nat → Int32) → (Nat → Int32) → (Nat → Int32) → (Nat → Int32) → (Nat → Int32) → (Nat → Int32) → Prop} {o k q st : Nat} {x : Int32} (ho : 9 < o) (ho' : o ≤ 11) (K : J x (nI k) (nI q) (nI (st + 1)) f_size f_depth f_open a_ops a_args a_d a_minus a_begins a_times) : wY_run_284 post J (nI k) (nI q) (nI st) (nI o) x f_size f_depth f_open a_ops a_args a_d a_minus a_begins a_times :=
  pk_lt 1 o (fun _ => pk_lt 9 o (fun _ => nm_r (nI_1 st) K) (fun h => by omega)) (fun h => by omega)
/-- a block is entered -/
theorem yr_201 {post : Int32 → SY → Prop} {J : Int32 → Int32 → Int32 → Int32 → Int32 → Int32 → Int32 → (Nat → Int32) → (Nat → Int32) → (Nat → Int32) → (Nat → Int32) → (Nat → Int32) → (Nat → Int32) → Prop} {o t q : Nat} {x2 x4 x : Int32} (ho : o = 9 ∧ t = 1 ∨ o = 10 ∧ a_args a = nI t) (ha : a < 40) (hq : q < 3) (K : wY_run_284 post J x2 (nI (q + 1)) x4 (nI o) x f_size f_depth f_open a_ops a_args a_d a_minus (upd a_begins q (nI a)) (upd a_times q (nI t))) : wY_run_201 post J (nI a) x2 (nI q) x4 (nI o) x f_size f_depth f_open a_ops a_args a_d a_minus a_begins a_times := by
  have i1 := vp_in_nI (n := q) (N := 4) (by omega) (by omega)
  refine And.intro i1 (nm_r (up_e rfl (by omega) rfl) ?_)
  refine pk_eq o 10 (fun e => ⟨vp_in_nI ha (by omega), And.intro i1 (nm_r (up_e rfl (by omega) ((rd_e rfl (by omega) rfl).trans ?_)) (nm_r (nI_1 q) K))⟩) (fun e => And.intro i1 (nm_r (up_e (w := nI t) rfl (by omega) ?_) (nm_r (nI_1 q) K)))
  · rcases ho with ⟨h, _⟩ | ⟨_, h⟩
    · omega
    · exact h
  · rcases ho with ⟨_, h⟩ | ⟨h, _⟩
    · rw [h]; rfl
    · omega
theorem y_step {post : Int32 → SY → Prop} {st n : Nat} (ho : ok_ O a_args mt L) (hi : iv_ O mt L a bs) (ha : a < L) (hst : st < 8640) (hop : ∀ i, i < L → a_ops i = nI (O i)) (hyb : yk_ a_begins a_times bs) (hm : ∀ i, i < 8 + dp_ O a → ys_ a_d a_minus i (N i)) (K0 : (sp_ O a_args mt a N bs).1 = 0 → ∀ d' m' B' T', (∀ i, i < 8 + dp_ O (sp_ O a_args mt a N bs).2.1 → ys_ d' m' i ((sp_ O a_args mt a N bs).2.2.1 i)) → yk_ B' T' (sp_ O a_args mt a N bs).2.2.2 → wY_run_26 post n (nI (sp_ O a_args mt a N bs).2.1) (nI (dp_ O (sp_ O a_args mt a N bs).2.1)) (nI (sp_ O a_args mt a N bs).2.2.2.length) (nI (st + 1)) (nI L) f_depth f_open a_ops a_args d' m' B' T') (K1 : ¬ (sp_ O a_args mt a N bs).1 = 0 → ∀ d' m', (∀ i, i < 8 → ys_ d' m' i (N i)) → post (nI (sp_ O a_args mt a N bs).1) ((nI L), f_depth, f_open, a_ops, a_args, d', m', a_begins, a_times)) : wY_run_26 post (n + 1) (nI a) (nI (dp_ O a)) (nI bs.length) (nI st) (nI L) f_depth f_open a_ops a_args a_d a_minus a_begins a_times := by
  have hL := ho.1
  have hw := ho.2.1 a ha
  have h11 := hw.1
  have hd6 := dp_le ho.2.1 a (by omega)
  have hlen := nb_len ho hi
  have i1 := vp_in_nI (n := a) (N := 40) (by omega) (by omega)
  have hg : a_args (nI a).toNatClampNeg = a_args a := rd_e rfl (by omega) rfl
  refine br_f (nI_ge (b := 8640) hst (by omega)) (br_f (nI_ge ha (by omega)) ⟨i1, nm_r (rd_e rfl (by omega) (hop a ha)) (nm_r (nI_1 a) ?_)⟩)
  refine pk_eq (O a) 0 (fun e => ⟨i1, ?_⟩) (fun e0 => pk_eq (O a) 1 (fun e => ⟨i1, ?_⟩) (fun e1 => pk_eq (O a) 2 (fun e => ⟨i1, ?_⟩) (fun e2 => pk_lt 8 (O a) (fun h8 => ?_) (fun h8 => ?_))))
  · have hd := hw.2.2.2.2.1 (by omega)
    rw [sp_0 e] at K0
    dsimp only at K0
    rw [dp_1 (by omega)] at K0
    rw [hg, show (8 : Int32) + nI (dp_ O a) = nI (8 + dp_ O a) from nI_add 8 _]
    refine y_writeS (by omega) (fun d' m' h1 h2 => ?_)
    refine yr_up (by omega) (K0 rfl d' m' _ _ (fun i hi => ?_) hyb)
    by_cases z : i = 8 + dp_ O a
    · subst z; rw [un_s]; exact h1
    · rw [un_n z]; exact h2 i _ (by omega) z (hm i (by omega))
  · have hd := hw.2.2.2.2.1 (by omega)
    obtain ⟨v, hv, hgv⟩ := hw.2.1 (Or.inl e)
    rw [sp_1 e, hgv, nI_clamp (by omega)] at K0
    dsimp only at K0
    rw [dp_1 (by omega)] at K0
    rw [hg, hgv, show (8 : Int32) + nI (dp_ O a) = nI (8 + dp_ O a) from nI_add 8 _]
    refine y_copyS (by omega) (by omega) (by omega) (hm v (by omega)) (fun d' m' h1 h2 => ?_)
    refine yr_up (by omega) (K0 rfl d' m' _ _ (fun i hi => ?_) hyb)
    by_cases z : i = 8 + dp_ O a
    · subst z; rw [un_s]; exact h1
    · rw [un_n z]; exact h2 i _ (by omega) z (hm i (by omega))
  · have hp := hw.2.2.2.1
    rw [e, show po_ 2 = 1 from rfl] at hp
    obtain ⟨k, hk⟩ : ∃ k, dp_ O a = k + 1 := ⟨dp_ O a - 1, by omega⟩
    obtain ⟨v, hv, hgv⟩ := hw.2.1 (Or.inr e)
    rw [sp_2 e, hgv, nI_clamp (by omega), show 7 + dp_ O a = 8 + k by omega] at K0
    dsimp only at K0
    rw [dp_9 (by omega) (by omega), show dp_ O a - 1 = k by omega] at K0
    rw [hk] at hm ⊢
    rw [hg, hgv, show (7 : Int32) + nI (k + 1) = nI (8 + k) from (nI_add 7 _).trans (congrArg nI (by omega))]
    refine y_copyS (by omega) (by omega) (by omega) (hm (8 + k) (by omega)) (fun d' m' h1 h2 => ?_)
    refine yr_dn (by omega) (by omega) (K0 rfl d' m' _ _ (fun i hi => ?_) hyb)
    by_cases z : i = v
    · subst z; rw [un_s]; exact h1
    · rw [un_n z]; exact h2 i _ (by omega) z (hm i (by omega))
  · have ent : ∀ t, (O a = 9 ∨ O a = 10) → (O a = 9 ∧ t = 1 ∨ O a = 10 ∧ a_args a = nI t) → wY_run_284 post (wY_run_26 post n) (nI (dp_ O a)) (nI (bs.length + 1)) (nI st) (nI (O a)) (nI (a + 1)) (nI L) f_depth f_open a_ops a_args a_d a_minus (upd a_begins bs.length (nI a)) (upd a_times bs.length (nI t)) → wY_run_187 post (wY_run_26 post n) (nI a) (nI (dp_ O a)) (nI bs.length) (nI st) (nI (O a)) (nI (a + 1)) (nI L) f_depth f_open a_ops a_args a_d a_minus a_begins a_times := by
      intro t h1 h2 h3
      have hns := hw.2.2.2.2.2.2.2.1 h1
      have hlen2 := hi.2.2
      have h := yr_201 (a := a) h2 (by omega) (by omega) h3
      exact pk_eq (O a) 9 (fun _ => h) (fun _ => pk_eq (O a) 10 (fun _ => h) (fun _ => by omega))
    have ybn : ∀ t, yk_ (upd a_begins bs.length (nI a)) (upd a_times bs.length (nI t)) ((a, t) :: bs) := fun t => ⟨pk_us, pk_us, yk_b bs (Nat.le_refl _) (yk_t bs (Nat.le_refl _) hyb)⟩
    refine pk_eq (O a) 9 (fun e => ?_) (fun e9 => ?_)
    · have hd : dp_ O a = 1 := hw.2.2.2.2.2.1 e
      have hc := ho.2.2 a ha (Or.inl e)
      have hV := hm 8 (by omega)
      have hdd : dp_ O (a + 1) = 0 := dp_op hw (Or.inl e)
      have ent' := ent 1 (Or.inl e) (Or.inl ⟨e, rfl⟩)
      rw [hd] at ent' ⊢
      rw [show (7 : Int32) + nI 1 = nI 8 from rfl]
      refine y_length (by omega) (ys_n hV) (p_82 (by omega) (ys_b hV)) (fun M hM hM' => ?_)
      have hz := ln_iff (by omega) hM
      refine ek_if (eq_0 rfl (by omega)) (fun h => ?_) (fun h => ?_)
      · rw [sp_9z e (by rw [hd]; have := hz.mp h; show N 8 = 0; omega)] at K0
        dsimp only at K0
        rw [dp_cl ho hc] at K0
        refine y_end hL hc (Or.inl e) hop (fun i hi => ⟨by have := ns_le O i; omega, (ho.2.1 i hi).1⟩) ?_
        refine nm_r (nI_1 _) ?_
        exact yr_dn (k := 0) (by omega) (by omega) (K0 rfl _ _ _ _ (fun i hi => hm i (by omega)) hyb)
      · rw [sp_9n e (by rw [hd]; intro z; have z : N 8 = 0 := z; exact h (hz.mpr (by omega)))] at K0
        dsimp only at K0
        rw [hdd] at K0
        exact ent' (yr_dn (k := 0) (by omega) (by omega) (K0 rfl _ _ _ _ (fun i hi => hm i (by omega)) (ybn 1)))
    · have hd : dp_ O a = 0 := hw.2.2.2.2.2.2.1 (by omega)
      rcases (show O a = 10 ∨ O a = 11 by omega) with e | e
      · obtain ⟨t, ht1, ht2, ht⟩ := hw.2.2.1 e
        have hdd : dp_ O (a + 1) = 0 := dp_op hw (Or.inr e)
        rw [sp_10 e, ht, nI_clamp (by omega)] at K0
        dsimp only at K0
        rw [hdd] at K0
        have ent' := ent t (Or.inr e) (Or.inr ⟨e, ht⟩)
        rw [hd] at ent' hm ⊢
        exact ent' (yr_ct (by omega) (by omega) (K0 rfl _ _ _ _ (fun i hi => hm i (by omega)) (ybn t)))
      · obtain ⟨b, t, r, rfl, h1, h2, h3⟩ := iv_e ho hi ha e
        obtain ⟨_, ⟨_, _, k3, _, k5, k6, k7, _⟩, _⟩ := hi
        have hlen' : r.length + 1 ≤ 3 := hlen
        have hda : dp_ O (a + 1) = 0 := by rw [dp_0 (by omega)]; exact hd
        have hdb : dp_ O (b + 1) = 0 := dp_op (ho.2.1 b (by omega)) k3
        have hl : ((b, t) :: r).length = r.length + 1 := rfl
        have q1 : nI (r.length + 1) - 1 = nI r.length := nI_pred _
        have j1 := pk_in (x := nI (r.length + 1) - 1) r.length 4 (by omega) q1
        have ht : nI t - 1 = nI (t - 1) := pk_sub (a := t) (b := 1) k5
        rw [sp_11 e] at K0
        rw [hl]
        refine pk_eq (O a) 9 (fun z => by omega) (fun _ => pk_eq (O a) 10 (fun z => by omega) (fun _ => ⟨j1, j1, nm_r (up_e q1 (by omega) ((congrArg (· - 1) (rd_e q1 (by omega) hyb.2.1)).trans ht)) ⟨j1, ?_⟩⟩))
        rw [rd_e (f := upd a_times r.length (nI (t - 1))) q1 (by omega) pk_us]
        rw [hd] at hm ⊢
        refine ek_if (nI_leI (b := 0) (by omega) (by omega)) (fun z => nm_r (pk_m1 _) ?_) (fun z => ⟨j1, nm_r (e' := nI (b + 1)) ((congrArg (· + 1) (rd_e q1 (by omega) hyb.1)).trans (nI_1 b)) ?_⟩)
        · rw [if_neg (by omega)] at K0
          dsimp only at K0
          rw [hda] at K0
          exact yr_ct (by omega) (by omega) (K0 rfl _ _ _ _ (fun i hi => hm i (by omega)) (yk_t r (Nat.le_refl _) hyb.2.2))
        · rw [if_pos (by omega)] at K0
          dsimp only at K0
          rw [hdb] at K0
          exact yr_ct (by omega) (by omega) (K0 rfl _ _ _ _ (fun i hi => hm i (by omega)) ⟨hyb.1, pk_us, yk_t r (Nat.le_refl _) hyb.2.2⟩)
  · have hp := hw.2.2.2.1
    rw [show po_ (O a) = 2 from if_pos ⟨by omega, h8⟩] at hp
    obtain ⟨k, hk⟩ : ∃ k, dp_ O a = k + 1 + 1 := ⟨dp_ O a - 2, by omega⟩
    rw [sp_8 (by omega) h8, show 6 + dp_ O a = 8 + k by omega, show 7 + dp_ O a = 8 + k + 1 by omega] at K0 K1
    dsimp only at K0 K1
    rw [dp_9 (by omega) (by omega), show dp_ O a - 1 = k + 1 by omega] at K0
    rw [hk] at hm ⊢
    rw [show (6 : Int32) + nI (k + 1 + 1) = nI (8 + k) from (nI_add 6 _).trans (congrArg nI (by omega)), show (7 : Int32) + nI (k + 1 + 1) = nI (8 + k + 1) from (nI_add 7 _).trans (congrArg nI (by omega))]
    refine y_calc (by omega) h8 (by omega) (by omega) (hm (8 + k) (by omega)) (hm (8 + k + 1) (by omega)) (fun c d' m' hy => ?_)
    obtain ⟨y1, y2, y3⟩ := hy
    have hc3 : (al_ (O a) (N (8 + k)) (N (8 + k + 1))).1 < 2147483648 := by
      unfold al_
      split
      · show 1 < 2147483648; omega
      · split
        · show 0 < 2147483648; omega
        · show 2 < 2147483648; omega
    refine ek_if (eq_0 y1 hc3) (fun h => ?_) (fun h => ?_)
    · refine yr_dn (by omega) (by omega) (K0 h d' m' _ _ (fun i hi => ?_) hyb)
      by_cases z : i = 8 + k
      · subst z; rw [un_s]; exact y3 h
      · rw [un_n z]; exact y2 i _ (by omega) z (hm i (by omega))
    · rw [y1]
      exact K1 h d' m' (fun i hi => y2 i _ (by omega) (by omega) (hm i (by omega)))
theorem y_26 {post : Int32 → SY → Prop} (ho : ok_ O a_args mt L) (hop : ∀ i, i < L → a_ops i = nI (O i)) : ∀ n a N bs st d m B T, iv_ O mt L a bs → me_ mt L a bs ≤ n → st + me_ mt L a bs ≤ 8640 → yk_ B T bs → (∀ i, i < 8 + dp_ O a → ys_ d m i (N i)) → (∀ d' m' B' T', (∀ i, i < 8 → ys_ d' m' i ((ru_ O a_args mt L n a N bs).2 i)) → post (nI (ru_ O a_args mt L n a N bs).1) ((nI L), f_depth, f_open, a_ops, a_args, d', m', B', T')) → wY_run_26 post (n + 1) (nI a) (nI (dp_ O a)) (nI bs.length) (nI st) (nI L) f_depth f_open a_ops a_args d m B T := by
  have hL := ho.1
  have fin : ∀ n a N bs st d m B T, iv_ O mt L a bs → L ≤ a → (∀ i, i < 8 + dp_ O a → ys_ d m i (N i)) → (∀ d' m' B' T', (∀ i, i < 8 → ys_ d' m' i ((ru_ O a_args mt L n a N bs).2 i)) → post (nI (ru_ O a_args mt L n a N bs).1) ((nI L), f_depth, f_open, a_ops, a_args, d', m', B', T')) → wY_run_26 post (n + 1) (nI a) (nI (dp_ O a)) (nI bs.length) (nI st) (nI L) f_depth f_open a_ops a_args d m B T := by
    intro n a N bs st d m B T hi hLa hm K
    rw [ru_e hLa] at K
    have h := K d m B T (fun i hi => hm i (by omega))
    exact br_c (fun _ => h) (fun _ => br_t (nI_le hLa (by have := hi.1; omega)) h)
  intro n
  induction n with
  | zero =>
    intro a N bs st d m B T hi hme hst hyb hm K
    refine fin 0 a N bs st d m B T hi ?_ hm K
    rcases Nat.lt_or_ge a L with z | z
    · have := me_z ho hi z; omega
    · exact z
  | succ n ih =>
    intro a N bs st d m B T hi hme hst hyb hm K
    rcases Nat.lt_or_ge a L with ha | ha
    · obtain ⟨hi', hlt⟩ := sp_iv (N := N) ho hi ha
      refine y_step ho hi ha (by omega) hop hyb hm (fun h0 d' m' B' T' h1 h2 => ?_) (fun h0 d' m' h1 => ?_)
      · rw [ru_s ha h0] at K
        exact ih _ _ _ (st + 1) d' m' B' T' hi' (by omega) (by omega) h2 h1 K
      · rw [ru_f ha h0] at K
        exact K d' m' B T h1
    · exact fin (n + 1) a N bs st d m B T hi ha hm K
theorem y_run {post : Int32 → SY → Prop} (ho : ok_ O a_args mt L) (hop : ∀ i, i < L → a_ops i = nI (O i)) (hd : f_depth = 0) (hq : f_open = 0) (hm : ∀ i, i < 8 → ys_ a_d a_minus i (N i)) (K : ∀ d' m' B' T', (∀ i, i < 8 → ys_ d' m' i ((ru_ O a_args mt L 8640 0 N []).2 i)) → post (nI (ru_ O a_args mt L 8640 0 N []).1) ((nI L), f_depth, f_open, a_ops, a_args, d', m', B', T')) : wpY_run post ((nI L), f_depth, f_open, a_ops, a_args, a_d, a_minus, a_begins, a_times) := by
  have hL := ho.1
  have hme : me_ mt L 0 [] ≤ 8640 := by
    show (L - 0) * 216 ≤ 8640
    omega
  refine br_t hd (br_t hq ⟨8640 + 1, ?_⟩)
  exact y_26 ho hop 8640 0 N [] 0 _ _ _ _ ⟨Nat.zero_le _, True.intro, rfl⟩ hme (by omega) True.intro hm K
end
end
section
/-! a token is taken in: the program stays well formed -/
def pg_ (op ar ma oA : Nat → Int32) (O mt oa : Nat → Nat) (L : Nat) : Prop :=
  L ≤ 40 ∧ (∀ i, i < L → op i = nI (O i)) ∧ (∀ i, i < L → wt_ O ar i) ∧ (∀ i, i < L → ma i = nI (mt i)) ∧ ns_ O L ≤ 3 ∧ (∀ k, k < ns_ O L → oA k = nI (oa k) ∧ oa k < L ∧ (O (oa k) = 9 ∨ O (oa k) = 10) ∧ ns_ O (oa k) = k ∧ ∀ j, oa k < j → j ≤ L → k < ns_ O j) ∧ (∀ s, s < L → (O s = 9 ∨ O s = 10) → (∃ k, k < ns_ O L ∧ s = oa k) ∨ cl_ O mt L s)
theorem pg_0 (op ar ma oA : Nat → Int32) (O mt oa : Nat → Nat) : pg_ op ar ma oA O mt oa 0 :=
  ⟨by omega, fun i hi => absurd hi (by omega), fun i hi => absurd hi (by omega), fun i hi => absurd hi (by omega), Nat.zero_le 3, fun k hk => absurd hk (Nat.not_lt_zero k), fun s hs => absurd hs (by omega)⟩
theorem pg_ok {op ar ma oA : Nat → Int32} {O mt oa : Nat → Nat} {L : Nat} (h : pg_ op ar ma oA O mt oa L) (h0 : ns_ O L = 0) : ok_ O ar mt L :=
  ⟨h.1, h.2.2.1, fun s hs hO => by
    rcases h.2.2.2.2.2.2 s hs hO with ⟨k, hk, _⟩ | hc
    · omega
    · exact hc⟩
theorem pg_d {op ar ma oA : Nat → Int32} {O mt oa : Nat → Nat} {L : Nat} (h : pg_ op ar ma oA O mt oa L) : dp_ O L ≤ 6 := dp_le h.2.2.1 L (Nat.le_refl L)
def on_ (f : Nat → Nat) (k v : Nat) : Nat → Nat := fun j => if j = k then v else f j
theorem on_s {f : Nat → Nat} {k v : Nat} : on_ f k v k = v := if_pos rfl
theorem on_n {f : Nat → Nat} {k j v : Nat} (h : j ≠ k) : on_ f k v j = f j := if_neg h
/-- what a let-in token has -/
def ac_ (n : Nat) (x : Int32) (D Q : Nat) : Prop := n ≤ 11 ∧ ((n = 1 ∨ n = 2) → ∃ v, v < 8 ∧ x = nI v) ∧ (n = 10 → ∃ t, 1 ≤ t ∧ t ≤ 6 ∧ x = nI t) ∧ po_ n ≤ D ∧ (n ≤ 1 → D < 6) ∧ (n = 9 → D = 1) ∧ (10 ≤ n → D = 0) ∧ ((n = 9 ∨ n = 10) → Q < 3) ∧ (n = 11 → 0 < Q)
section
variable {op ar ma oA : Nat → Int32} {O mt oa : Nat → Nat} {L n : Nat} {x : Int32}
theorem on_ns (i : Nat) (hi : i ≤ L) : ns_ (on_ O L n) i = ns_ O i := ns_c i (fun j hj => on_n (by omega))
theorem on_dp (i : Nat) (hi : i ≤ L) : dp_ (on_ O L n) i = dp_ O i := dp_c i (fun j hj => on_n (by omega))
theorem wt_c {i : Nat} (hi : i < L) (h : wt_ O ar i) : wt_ (on_ O L n) (upd ar L x) i := by
  unfold wt_ at *
  rw [on_ns i (by omega), on_dp i (by omega), on_n (show i ≠ L by omega), pk_un (show i ≠ L by omega)]
  exact h
theorem wt_l (h : ac_ n x (dp_ O L) (ns_ O L)) : wt_ (on_ O L n) (upd ar L x) L := by
  unfold wt_
  rw [on_ns L (by omega), on_dp L (by omega), on_s, pk_us]
  exact h
theorem cl_c {mt' : Nat → Nat} {s : Nat} (h : cl_ O mt L s) (h1 : mt' s = mt s) (h2 : mt' (mt s) = mt (mt s)) : cl_ (on_ O L n) mt' (L + 1) s := by
  obtain ⟨c1, c2, c3, c4, c5, c6⟩ := h
  unfold cl_
  rw [h1, h2, on_ns (mt s + 1) (by omega), on_ns s (by omega), on_n (show mt s ≠ L by omega)]
  exact ⟨c1, by omega, c3, c4, c5, fun j hj hj' => by rw [on_ns j (by omega)]; exact c6 j hj hj'⟩
theorem pg_b1 (h : pg_ op ar ma oA O mt oa L) : ∀ i, i < L + 1 → upd op L (nI n) i = nI (on_ O L n i) := by
  intro i hi
  by_cases e : i = L
  · subst e; rw [pk_us, on_s]
  · rw [pk_un e, on_n e]; exact h.2.1 i (by omega)
theorem pg_b2 (h : pg_ op ar ma oA O mt oa L) (ha : ac_ n x (dp_ O L) (ns_ O L)) : ∀ i, i < L + 1 → wt_ (on_ O L n) (upd ar L x) i := by
  intro i hi
  by_cases e : i = L
  · subst e; exact wt_l ha
  · exact wt_c (by omega) (h.2.2.1 i (by omega))
theorem pg_b3 (h : pg_ op ar ma oA O mt oa L) : ∀ i, i < L + 1 → upd ma L (nI L) i = nI (on_ mt L L i) := by
  intro i hi
  by_cases e : i = L
  · subst e; rw [pk_us, on_s]
  · rw [pk_un e, on_n e]; exact h.2.2.2.1 i (by omega)
theorem pg_n (h : pg_ op ar ma oA O mt oa L) (hL : L < 40) (ha : ac_ n x (dp_ O L) (ns_ O L)) (hn : n ≤ 8) : pg_ (upd op L (nI n)) (upd ar L x) (upd ma L (nI L)) oA (on_ O L n) (on_ mt L L) oa (L + 1) ∧ ns_ (on_ O L n) (L + 1) = ns_ O L := by
  have e : ns_ (on_ O L n) (L + 1) = ns_ O L := by rw [ns_n (by rw [on_s]; exact hn), on_ns L (by omega)]
  refine ⟨⟨by omega, pg_b1 h, pg_b2 h ha, pg_b3 h, by rw [e]; exact h.2.2.2.2.1, fun k hk => ?_, fun s hs hO => ?_⟩, e⟩
  · rw [e] at hk
    obtain ⟨k1, k2, k3, k4, k5⟩ := h.2.2.2.2.2.1 k hk
    refine ⟨k1, by omega, by rw [on_n (by omega)]; exact k3, by rw [on_ns _ (by omega)]; exact k4, fun j hj hj' => ?_⟩
    by_cases z : j = L + 1
    · subst z; rw [e]; exact hk
    · rw [on_ns j (by omega)]; exact k5 j hj (by omega)
  · by_cases z : s = L
    · subst z; rw [on_s] at hO; omega
    · rw [on_n z] at hO
      rcases h.2.2.2.2.2.2 s (by omega) hO with ⟨k, hk, hs'⟩ | hc
      · exact Or.inl ⟨k, by rw [e]; exact hk, hs'⟩
      · have c1 := hc.1
        have c2 := hc.2.1
        exact Or.inr (cl_c hc (on_n (by omega)) (on_n (by omega)))
theorem pg_o (h : pg_ op ar ma oA O mt oa L) (hL : L < 40) (ha : ac_ n x (dp_ O L) (ns_ O L)) (hn : n = 9 ∨ n = 10) : pg_ (upd op L (nI n)) (upd ar L x) (upd ma L (nI L)) (upd oA (ns_ O L) (nI L)) (on_ O L n) (on_ mt L L) (on_ oa (ns_ O L) L) (L + 1) ∧ ns_ (on_ O L n) (L + 1) = ns_ O L + 1 := by
  have e : ns_ (on_ O L n) (L + 1) = ns_ O L + 1 := by rw [ns_o (by rw [on_s]; exact hn), on_ns L (by omega)]
  have hq := ha.2.2.2.2.2.2.2.1 hn
  refine ⟨⟨by omega, pg_b1 h, pg_b2 h ha, pg_b3 h, by rw [e]; omega, fun k hk => ?_, fun s hs hO => ?_⟩, e⟩
  · rw [e] at hk
    by_cases z : k = ns_ O L
    · subst z
      rw [pk_us, on_s, on_s, on_ns L (by omega)]
      refine ⟨rfl, by omega, hn, rfl, fun j hj hj' => ?_⟩
      cases (show j = L + 1 by omega)
      rw [e]; omega
    · obtain ⟨k1, k2, k3, k4, k5⟩ := h.2.2.2.2.2.1 k (by omega)
      rw [pk_un z, on_n z]
      refine ⟨k1, by omega, by rw [on_n (by omega)]; exact k3, by rw [on_ns _ (by omega)]; exact k4, fun j hj hj' => ?_⟩
      by_cases z' : j = L + 1
      · subst z'; rw [e]; omega
      · rw [on_ns j (by omega)]; exact k5 j hj (by omega)
  · by_cases z : s = L
    · subst z; exact Or.inl ⟨ns_ O s, by rw [e]; omega, by rw [on_s]⟩
    · rw [on_n z] at hO
      rcases h.2.2.2.2.2.2 s (by omega) hO with ⟨k, hk, hs'⟩ | hc
      · exact Or.inl ⟨k, by rw [e]; omega, by rw [on_n (by omega)]; exact hs'⟩
      · have c1 := hc.1
        have c2 := hc.2.1
        exact Or.inr (cl_c hc (on_n (by omega)) (on_n (by omega)))
theorem pg_e {q : Nat} (h : pg_ op ar ma oA O mt oa L) (hL : L < 40) (ha : ac_ n x (dp_ O L) (ns_ O L)) (hn : n = 11) (hq : ns_ O L = q + 1) : pg_ (upd op L (nI n)) (upd ar L x) (upd (upd (upd ma L (nI L)) L (nI (oa q))) (oa q) (nI L)) oA (on_ O L n) (on_ (on_ mt L (oa q)) (oa q) L) oa (L + 1) ∧ ns_ (on_ O L n) (L + 1) = q := by
  have e : ns_ (on_ O L n) (L + 1) = q := by rw [ns_e (by rw [on_s]; exact hn), on_ns L (by omega), hq]; rfl
  obtain ⟨q1, q2, q3, q4, q5⟩ := h.2.2.2.2.2.1 q (by omega)
  have h3 := h.2.2.2.2.1
  refine ⟨⟨by omega, pg_b1 h, pg_b2 h ha, fun i hi => ?_, by rw [e]; omega, fun k hk => ?_, fun s hs hO => ?_⟩, e⟩
  · by_cases z : i = oa q
    · subst z; rw [pk_us, on_s]
    · rw [pk_un z, on_n z]
      by_cases z' : i = L
      · subst z'; rw [pk_us, on_s]
      · rw [pk_un z', pk_un z', on_n z']; exact h.2.2.2.1 i (by omega)
  · rw [e] at hk
    obtain ⟨k1, k2, k3, k4, k5⟩ := h.2.2.2.2.2.1 k (by omega)
    refine ⟨k1, by omega, by rw [on_n (by omega)]; exact k3, by rw [on_ns _ (by omega)]; exact k4, fun j hj hj' => ?_⟩
    by_cases z' : j = L + 1
    · subst z'; rw [e]; exact hk
    · rw [on_ns j (by omega)]; exact k5 j hj (by omega)
  · by_cases z : s = L
    · subst z; rw [on_s] at hO; omega
    · rw [on_n z] at hO
      by_cases z2 : s = oa q
      · right
        subst z2
        unfold cl_
        rw [on_s, on_n (show L ≠ oa q by omega), on_s, on_s, e, on_ns _ (by omega)]
        refine ⟨q2, by omega, hn, rfl, by omega, fun j hj hj' => ?_⟩
        rw [on_ns j hj', q4]; exact q5 j hj hj'
      · rcases h.2.2.2.2.2.2 s (by omega) hO with ⟨k, hk, hs'⟩ | hc
        · refine Or.inl ⟨k, ?_, hs'⟩
          rw [e]
          have : k ≠ q := by intro z3; subst z3; exact z2 hs'
          omega
        · have c1 := hc.1
          have c2 := hc.2.1
          have c3 := hc.2.2.1
          have : mt s ≠ oa q := by intro z3; rw [z3] at c3; omega
          exact Or.inr (cl_c hc (by rw [on_n z2, on_n z]) (by rw [on_n this, on_n (by omega)]))
end
/-! what refuses a token -/
def r1_ (n Q : Nat) : Int32 := if n = 11 ∧ Q = 0 then -8 else 0
def r2_ (n Q : Nat) : Int32 := if (n = 9 ∨ n = 10) ∧ 3 ≤ Q then -7 else r1_ n Q
def r3_ (n D Q : Nat) : Int32 := if 10 ≤ n ∧ D ≠ 0 then -6 else r2_ n Q
def r4_ (n D Q : Nat) : Int32 := if n = 9 ∧ D ≠ 1 then -6 else r3_ n D Q
def r5_ (n D Q : Nat) : Int32 := if D < po_ n then -4 else if n ≤ 1 ∧ 6 ≤ D then -5 else r4_ n D Q
def r6_ (n : Nat) (x : Int32) (D Q : Nat) : Int32 := if n = 10 ∧ (x < 1 ∨ ¬ x ≤ 6) then -2 else r5_ n D Q
def r7_ (n : Nat) (x : Int32) (D Q : Nat) : Int32 := if (n = 1 ∨ n = 2) ∧ (x < 0 ∨ ¬ x ≤ 7) then -2 else r6_ n x D Q
def r8_ (n : Nat) (x : Int32) (L D Q : Nat) : Int32 := if 40 ≤ L then -3 else r7_ n x D Q
theorem rn_ {c : Prop} [Decidable c] {k r : Int32} (hk : k ≠ 0) (h : (if c then k else r) = 0) : ¬ c ∧ r = 0 := by
  by_cases hc : c
  · rw [if_pos hc] at h; exact absurd h hk
  · rw [if_neg hc] at h; exact ⟨hc, h⟩
theorem r8_ok {n L D Q : Nat} {x : Int32} (hn : n ≤ 11) (h : r8_ n x L D Q = 0) : L < 40 ∧ ac_ n x D Q := by
  obtain ⟨a8, h⟩ := rn_ (by decide) h
  obtain ⟨a7, h⟩ := rn_ (by decide) h
  obtain ⟨a6, h⟩ := rn_ (by decide) h
  obtain ⟨a5, h⟩ := rn_ (by decide) h
  obtain ⟨a5', h⟩ := rn_ (by decide) h
  obtain ⟨a4, h⟩ := rn_ (by decide) h
  obtain ⟨a3, h⟩ := rn_ (by decide) h
  obtain ⟨a2, h⟩ := rn_ (by decide) h
  obtain ⟨a1, _⟩ := rn_ (by decide) h
  refine ⟨by omega, hn, fun e => ?_, fun e => ?_, by omega, by omega, by omega, by omega, by omega, by omega⟩
  · have b1 : ¬ x < 0 := fun z => a7 ⟨e, Or.inl z⟩
    have b2 : x ≤ 7 := Decidable.of_not_not (fun z => a7 ⟨e, Or.inr z⟩)
    obtain ⟨v, hv, rfl⟩ := nI_of2 (M := 7) (n := 7) (by decide) b1 b2
    exact ⟨v, by omega, rfl⟩
  · have b1 : ¬ x < 1 := fun z => a6 ⟨e, Or.inl z⟩
    have b2 : x ≤ 6 := Decidable.of_not_not (fun z => a6 ⟨e, Or.inr z⟩)
    have b0 : ¬ x < 0 := by
      intro z
      apply b1
      rw [Int32.lt_iff_toInt_lt] at z ⊢
      have e1 : (0 : Int32).toInt = 0 := by decide
      have e2 : (1 : Int32).toInt = 1 := by decide
      omega
    obtain ⟨v, hv, rfl⟩ := nI_of2 (M := 6) (n := 6) (by decide) b0 b2
    refine ⟨v, ?_, by omega, rfl⟩
    rcases Nat.eq_zero_or_pos v with z | z
    · subst z; exact absurd (by decide) b1
    · exact z
section
variable {f_length f_depth f_open f_top f_repeats f_lenA f_signA f_lenB f_signB f_lenR f_signR f_fault : Int32} {a_op a_arg a_mate a_openAt a_var a_stack a_turns a_holders a_size a_signOf a_limb a_a a_b a_r a_rest : Nat → Int32}
theorem x_pops {post : Int32 → Prop} {n : Nat} (hn : n ≤ 11) (K : post (nI (po_ n))) : wpX_pops post (nI n) := by
  have k13 : (n < 3 ∨ 8 < n) → wX_pops_13 post (nI n) := by
    intro h
    refine pk_eq n 2 (fun e => ?_) (fun e2 => pk_eq n 9 (fun e => ?_) (fun e9 => ?_))
    · rw [show po_ n = 1 by unfold po_; rw [if_neg (by omega), if_pos (by omega)]] at K; exact K
    · rw [show po_ n = 1 by unfold po_; rw [if_neg (by omega), if_pos (by omega)]] at K; exact K
    · rw [show po_ n = 0 by unfold po_; rw [if_neg (by omega), if_neg (by omega)]] at K; exact K
  refine pk_lt n 3 (fun h => k13 (Or.inl h)) (fun h => pk_lt 8 n (fun h' => k13 (Or.inr h')) (fun h' => ?_))
  rw [show po_ n = 2 from if_pos ⟨h, h'⟩] at K; exact K
theorem x_ref {post : Int32 → Prop} {n L D Q : Nat} {x : Int32} (hn : n ≤ 11) (hL : L ≤ 40) (hD : D ≤ 6) (hQ : Q ≤ 3) (K : post (r8_ n x L D Q)) : wpX_refusal post ((nI L), (nI D), (nI Q), f_top, f_repeats, f_lenA, f_signA, f_lenB, f_signB, f_lenR, f_signR, f_fault, a_op, a_arg, a_mate, a_openAt, a_var, a_stack, a_turns, a_holders, a_size, a_signOf, a_limb, a_a, a_b, a_r, a_rest) (nI n) x := by
  have k1 : post (r1_ n Q) → wX_refusal_156 post (nI n) (nI L) (nI D) (nI Q) f_top f_repeats f_lenA f_signA f_lenB f_signB f_lenR f_signR f_fault a_op a_arg a_mate a_openAt a_var a_stack a_turns a_holders a_size a_signOf a_limb a_a a_b a_r a_rest := by
    intro K
    refine pk_eq n 11 (fun e => pk_eq Q 0 (fun e' => ?_) (fun e' => ?_)) (fun e => ?_)
    · rw [show r1_ n Q = -8 from if_pos ⟨e, e'⟩] at K; exact K
    · rw [show r1_ n Q = 0 from if_neg (fun z => e' z.2)] at K; exact K
    · rw [show r1_ n Q = 0 from if_neg (fun z => e z.1)] at K; exact K
  have k2 : post (r2_ n Q) → wX_refusal_133 post (nI n) (nI L) (nI D) (nI Q) f_top f_repeats f_lenA f_signA f_lenB f_signB f_lenR f_signR f_fault a_op a_arg a_mate a_openAt a_var a_stack a_turns a_holders a_size a_signOf a_limb a_a a_b a_r a_rest := by
    intro K
    have k145 : (n = 9 ∨ n = 10) → wX_refusal_145 post (nI n) (nI L) (nI D) (nI Q) f_top f_repeats f_lenA f_signA f_lenB f_signB f_lenR f_signR f_fault a_op a_arg a_mate a_openAt a_var a_stack a_turns a_holders a_size a_signOf a_limb a_a a_b a_r a_rest := by
      intro e
      refine pk_lt Q 3 (fun h => k1 ?_) (fun h => ?_)
      · rw [show r2_ n Q = r1_ n Q from if_neg (fun z => by omega)] at K; exact K
      · rw [show r2_ n Q = -7 from if_pos ⟨e, h⟩] at K; exact K
    refine pk_eq n 9 (fun e => k145 (Or.inl e)) (fun e9 => pk_eq n 10 (fun e => k145 (Or.inr e)) (fun e10 => k1 ?_))
    rw [show r2_ n Q = r1_ n Q from if_neg (fun z => by omega)] at K; exact K
  have k3 : post (r3_ n D Q) → wX_refusal_117 post (nI n) (nI L) (nI D) (nI Q) f_top f_repeats f_lenA f_signA f_lenB f_signB f_lenR f_signR f_fault a_op a_arg a_mate a_openAt a_var a_stack a_turns a_holders a_size a_signOf a_limb a_a a_b a_r a_rest := by
    intro K
    refine pk_lt n 10 (fun h => k2 ?_) (fun h => pk_eq D 0 (fun e => k2 ?_) (fun e => ?_))
    · rw [show r3_ n D Q = r2_ n Q from if_neg (fun z => by omega)] at K; exact K
    · rw [show r3_ n D Q = r2_ n Q from if_neg (fun z => z.2 e)] at K; exact K
    · rw [show r3_ n D Q = -6 from if_pos ⟨h, e⟩] at K; exact K
  have k4 : post (r4_ n D Q) → wX_refusal_100 post (nI n) (nI L) (nI D) (nI Q) f_top f_repeats f_lenA f_signA f_lenB f_signB f_lenR f_signR f_fault a_op a_arg a_mate a_openAt a_var a_stack a_turns a_holders a_size a_signOf a_limb a_a a_b a_r a_rest := by
    intro K
    refine pk_eq n 9 (fun h => pk_eq D 1 (fun e => k3 ?_) (fun e => ?_)) (fun h => k3 ?_)
    · rw [show r4_ n D Q = r3_ n D Q from if_neg (fun z => z.2 e)] at K; exact K
    · rw [show r4_ n D Q = -6 from if_pos ⟨h, e⟩] at K; exact K
    · rw [show r4_ n D Q = r3_ n D Q from if_neg (fun z => h z.1)] at K; exact K
  have k5 : post (r5_ n D Q) → wX_refusal_67 post (nI n) (nI L) (nI D) (nI Q) f_top f_repeats f_lenA f_signA f_lenB f_signB f_lenR f_signR f_fault a_op a_arg a_mate a_openAt a_var a_stack a_turns a_holders a_size a_signOf a_limb a_a a_b a_r a_rest := by
    intro K
    have hp : po_ n ≤ 2 := by
      unfold po_
      split
      · omega
      · split <;> omega
    unfold wX_refusal_67
    refine x_pops hn ?_
    refine pk_le (po_ n) D (fun h => pk_lt 1 n (fun h' => k4 ?_) (fun h' => pk_lt D 6 (fun e => k4 ?_) (fun e => ?_))) (fun h => ?_)
    · rw [show r5_ n D Q = r4_ n D Q by unfold r5_; rw [if_neg (by omega), if_neg (by omega)]] at K; exact K
    · rw [show r5_ n D Q = r4_ n D Q by unfold r5_; rw [if_neg (by omega), if_neg (by omega)]] at K; exact K
    · rw [show r5_ n D Q = -5 by unfold r5_; rw [if_neg (by omega), if_pos ⟨h', e⟩]] at K; exact K
    · rw [show r5_ n D Q = -4 from if_pos h] at K; exact K
  have k6 : post (r6_ n x D Q) → wX_refusal_47 post (nI n) x (nI L) (nI D) (nI Q) f_top f_repeats f_lenA f_signA f_lenB f_signB f_lenR f_signR f_fault a_op a_arg a_mate a_openAt a_var a_stack a_turns a_holders a_size a_signOf a_limb a_a a_b a_r a_rest := by
    intro K
    refine pk_eq n 10 (fun h => br_c (fun e => ?_) (fun e => br_c (fun e' => k5 ?_) (fun e' => ?_))) (fun h => k5 ?_)
    · rw [show r6_ n x D Q = -2 from if_pos ⟨h, Or.inl e⟩] at K; exact K
    · rw [show r6_ n x D Q = r5_ n D Q from if_neg (fun z => by rcases z.2 with g | g; exact e g; exact g e')] at K; exact K
    · rw [show r6_ n x D Q = -2 from if_pos ⟨h, Or.inr e'⟩] at K; exact K
    · rw [show r6_ n x D Q = r5_ n D Q from if_neg (fun z => h z.1)] at K; exact K
  have k7 : post (r7_ n x D Q) → (n = 1 ∨ n = 2) → wX_refusal_34 post (nI n) x (nI L) (nI D) (nI Q) f_top f_repeats f_lenA f_signA f_lenB f_signB f_lenR f_signR f_fault a_op a_arg a_mate a_openAt a_var a_stack a_turns a_holders a_size a_signOf a_limb a_a a_b a_r a_rest := by
    intro K h
    refine br_c (fun e => ?_) (fun e => br_c (fun e' => k6 ?_) (fun e' => ?_))
    · rw [show r7_ n x D Q = -2 from if_pos ⟨h, Or.inl e⟩] at K; exact K
    · rw [show r7_ n x D Q = r6_ n x D Q from if_neg (fun z => by rcases z.2 with g | g; exact e g; exact g e')] at K; exact K
    · rw [show r7_ n x D Q = -2 from if_pos ⟨h, Or.inr e'⟩] at K; exact K
  refine br_f (nI_pos (by omega)) (br_t (nI_le (a := n) (b := 11) hn (by omega)) (pk_lt L 40 (fun h => ?_) (fun h => ?_)))
  · rw [show r8_ n x L D Q = r7_ n x D Q from if_neg (by omega)] at K
    refine pk_eq n 1 (fun e => k7 K (Or.inl e)) (fun e1 => pk_eq n 2 (fun e => k7 K (Or.inr e)) (fun e2 => k6 ?_))
    rw [show r7_ n x D Q = r6_ n x D Q from if_neg (fun z => by omega)] at K; exact K
  · rw [show r8_ n x L D Q = -3 from if_pos h] at K; exact K
end
section
variable {f_size f_depth f_open : Int32} {a_ops a_args a_d a_minus a_begins a_times : Nat → Int32}
theorem y_pops {post : Int32 → Prop} {n : Nat} (hn : n ≤ 11) (K : post (nI (po_ n))) : wpY_pops post (f_size, f_depth, f_open, a_ops, a_args, a_d, a_minus, a_begins, a_times) (nI n) := by
  have k13 : (n < 3 ∨ 8 < n) → wY_pops_13 post (nI n) f_size f_depth f_open a_ops a_args a_d a_minus a_begins a_times := by
    intro h
    refine pk_eq n 2 (fun e => ?_) (fun e2 => pk_eq n 9 (fun e => ?_) (fun e9 => ?_))
    · rw [show po_ n = 1 by unfold po_; rw [if_neg (by omega), if_pos (by omega)]] at K; exact K
    · rw [show po_ n = 1 by unfold po_; rw [if_neg (by omega), if_pos (by omega)]] at K; exact K
    · rw [show po_ n = 0 by unfold po_; rw [if_neg (by omega), if_neg (by omega)]] at K; exact K
  refine pk_lt n 3 (fun h => k13 (Or.inl h)) (fun h => pk_lt 8 n (fun h' => k13 (Or.inr h')) (fun h' => ?_))
  rw [show po_ n = 2 from if_pos ⟨h, h'⟩] at K; exact K
theorem y_ref {post : Int32 → SY → Prop} {n L D Q : Nat} {x : Int32} (hn : n ≤ 11) (hL : L ≤ 40) (hD : D ≤ 6) (hQ : Q ≤ 3) (K0 : r8_ n x L D Q = 0 → wY_emit_168 post (nI n) x (nI L) (nI D) (nI Q) a_ops a_args a_d a_minus a_begins a_times) (K1 : ¬ r8_ n x L D Q = 0 → post (r8_ n x L D Q) ((nI L), (nI D), (nI Q), a_ops, a_args, a_d, a_minus, a_begins, a_times)) : wpY_emit post ((nI L), (nI D), (nI Q), a_ops, a_args, a_d, a_minus, a_begins, a_times) (nI n) x := by
  have k1 : (r1_ n Q = 0 → wY_emit_168 post (nI n) x (nI L) (nI D) (nI Q) a_ops a_args a_d a_minus a_begins a_times) → (¬ r1_ n Q = 0 → post (r1_ n Q) ((nI L), (nI D), (nI Q), a_ops, a_args, a_d, a_minus, a_begins, a_times)) → wY_emit_152 post (nI n) x (nI L) (nI D) (nI Q) a_ops a_args a_d a_minus a_begins a_times := by
    intro K0 K1
    refine pk_eq n 11 (fun e => pk_eq Q 0 (fun e' => ?_) (fun e' => ?_)) (fun e => ?_)
    · rw [show r1_ n Q = -8 from if_pos ⟨e, e'⟩] at K1; exact K1 (by decide)
    · rw [show r1_ n Q = 0 from if_neg (fun z => e' z.2)] at K0; exact K0 rfl
    · rw [show r1_ n Q = 0 from if_neg (fun z => e z.1)] at K0; exact K0 rfl
  have k2 : (r2_ n Q = 0 → wY_emit_168 post (nI n) x (nI L) (nI D) (nI Q) a_ops a_args a_d a_minus a_begins a_times) → (¬ r2_ n Q = 0 → post (r2_ n Q) ((nI L), (nI D), (nI Q), a_ops, a_args, a_d, a_minus, a_begins, a_times)) → wY_emit_129 post (nI n) x (nI L) (nI D) (nI Q) a_ops a_args a_d a_minus a_begins a_times := by
    intro K0 K1
    have k141 : (n = 9 ∨ n = 10) → wY_emit_141 post (nI n) x (nI L) (nI D) (nI Q) a_ops a_args a_d a_minus a_begins a_times := by
      intro e
      refine pk_eq Q 3 (fun h => ?_) (fun h => ?_)
      · rw [show r2_ n Q = -7 from if_pos ⟨e, by omega⟩] at K1; exact K1 (by decide)
      · rw [show r2_ n Q = r1_ n Q from if_neg (fun z => by omega)] at K0 K1; exact k1 K0 K1
    refine pk_eq n 9 (fun e => k141 (Or.inl e)) (fun e9 => pk_eq n 10 (fun e => k141 (Or.inr e)) (fun e10 => ?_))
    rw [show r2_ n Q = r1_ n Q from if_neg (fun z => by omega)] at K0 K1; exact k1 K0 K1
  have k3 : (r3_ n D Q = 0 → wY_emit_168 post (nI n) x (nI L) (nI D) (nI Q) a_ops a_args a_d a_minus a_begins a_times) → (¬ r3_ n D Q = 0 → post (r3_ n D Q) ((nI L), (nI D), (nI Q), a_ops, a_args, a_d, a_minus, a_begins, a_times)) → wY_emit_113 post (nI n) x (nI L) (nI D) (nI Q) a_ops a_args a_d a_minus a_begins a_times := by
    intro K0 K1
    refine pk_lt n 10 (fun h => ?_) (fun h => pk_eq D 0 (fun e => ?_) (fun e => ?_))
    · rw [show r3_ n D Q = r2_ n Q from if_neg (fun z => by omega)] at K0 K1; exact k2 K0 K1
    · rw [show r3_ n D Q = r2_ n Q from if_neg (fun z => z.2 e)] at K0 K1; exact k2 K0 K1
    · rw [show r3_ n D Q = -6 from if_pos ⟨h, e⟩] at K1; exact K1 (by decide)
  have k4 : (r4_ n D Q = 0 → wY_emit_168 post (nI n) x (nI L) (nI D) (nI Q) a_ops a_args a_d a_minus a_begins a_times) → (¬ r4_ n D Q = 0 → post (r4_ n D Q) ((nI L), (nI D), (nI Q), a_ops, a_args, a_d, a_minus, a_begins, a_times)) → wY_emit_99 post (nI n) x (nI L) (nI D) (nI Q) a_ops a_args a_d a_minus a_begins a_times := by
    intro K0 K1
    refine pk_eq n 9 (fun h => pk_eq D 1 (fun e => ?_) (fun e => ?_)) (fun h => ?_)
    · rw [show r4_ n D Q = r3_ n D Q from if_neg (fun z => z.2 e)] at K0 K1; exact k3 K0 K1
    · rw [show r4_ n D Q = -6 from if_pos ⟨h, e⟩] at K1; exact K1 (by decide)
    · rw [show r4_ n D Q = r3_ n D Q from if_neg (fun z => h z.1)] at K0 K1; exact k3 K0 K1
  have k5 : (r5_ n D Q = 0 → wY_emit_168 post (nI n) x (nI L) (nI D) (nI Q) a_ops a_args a_d a_minus a_begins a_times) → (¬ r5_ n D Q = 0 → post (r5_ n D Q) ((nI L), (nI D), (nI Q), a_ops, a_args, a_d, a_minus, a_begins, a_times)) → wY_emit_67 post (nI n) x (nI L) (nI D) (nI Q) a_ops a_args a_d a_minus a_begins a_times := by
    intro K0 K1
    have hp : po_ n ≤ 2 := by
      unfold po_
      split
      · omega
      · split <;> omega
    unfold wY_emit_67
    refine y_pops hn ?_
    refine pk_le (po_ n) D (fun h => pk_lt 1 n (fun h' => ?_) (fun h' => pk_eq D 6 (fun e => ?_) (fun e => ?_))) (fun h => ?_)
    · rw [show r5_ n D Q = r4_ n D Q by unfold r5_; rw [if_neg (by omega), if_neg (by omega)]] at K0 K1; exact k4 K0 K1
    · rw [show r5_ n D Q = -5 by unfold r5_; rw [if_neg (by omega), if_pos ⟨h', by omega⟩]] at K1; exact K1 (by decide)
    · rw [show r5_ n D Q = r4_ n D Q by unfold r5_; rw [if_neg (by omega), if_neg (by omega)]] at K0 K1; exact k4 K0 K1
    · rw [show r5_ n D Q = -4 from if_pos h] at K1; exact K1 (by decide)
  have k6 : (r6_ n x D Q = 0 → wY_emit_168 post (nI n) x (nI L) (nI D) (nI Q) a_ops a_args a_d a_minus a_begins a_times) → (¬ r6_ n x D Q = 0 → post (r6_ n x D Q) ((nI L), (nI D), (nI Q), a_ops, a_args, a_d, a_minus, a_begins, a_times)) → wY_emit_47 post (nI n) x (nI L) (nI D) (nI Q) a_ops a_args a_d a_minus a_begins a_times := by
    intro K0 K1
    refine pk_eq n 10 (fun h => br_c (fun e => ?_) (fun e => br_c (fun e' => ?_) (fun e' => ?_))) (fun h => ?_)
    · rw [show r6_ n x D Q = -2 from if_pos ⟨h, Or.inl e⟩] at K1; exact K1 (by decide)
    · rw [show r6_ n x D Q = r5_ n D Q from if_neg (fun z => by rcases z.2 with g | g; exact e g; exact g e')] at K0 K1; exact k5 K0 K1
    · rw [show r6_ n x D Q = -2 from if_pos ⟨h, Or.inr e'⟩] at K1; exact K1 (by decide)
    · rw [show r6_ n x D Q = r5_ n D Q from if_neg (fun z => h z.1)] at K0 K1; exact k5 K0 K1
  have k7 : (n = 1 ∨ n = 2) → (r7_ n x D Q = 0 → wY_emit_168 post (nI n) x (nI L) (nI D) (nI Q) a_ops a_args a_d a_minus a_begins a_times) → (¬ r7_ n x D Q = 0 → post (r7_ n x D Q) ((nI L), (nI D), (nI Q), a_ops, a_args, a_d, a_minus, a_begins, a_times)) → wY_emit_34 post (nI n) x (nI L) (nI D) (nI Q) a_ops a_args a_d a_minus a_begins a_times := by
    intro h K0 K1
    refine br_c (fun e => ?_) (fun e => br_c (fun e' => ?_) (fun e' => ?_))
    · rw [show r7_ n x D Q = -2 from if_pos ⟨h, Or.inl e⟩] at K1; exact K1 (by decide)
    · rw [show r7_ n x D Q = r6_ n x D Q from if_neg (fun z => by rcases z.2 with g | g; exact e g; exact g e')] at K0 K1; exact k6 K0 K1
    · rw [show r7_ n x D Q = -2 from if_pos ⟨h, Or.inr e'⟩] at K1; exact K1 (by decide)
  refine br_f (nI_pos (by omega)) (br_t (nI_le (a := n) (b := 11) hn (by omega)) (pk_lt L 40 (fun h => ?_) (fun h => ?_)))
  · rw [show r8_ n x L D Q = r7_ n x D Q from if_neg (by omega)] at K0 K1
    refine pk_eq n 1 (fun e => k7 (Or.inl e) K0 K1) (fun e1 => pk_eq n 2 (fun e => k7 (Or.inr e) K0 K1) (fun e2 => ?_))
    rw [show r7_ n x D Q = r6_ n x D Q from if_neg (fun z => by omega)] at K0 K1; exact k6 K0 K1
  · rw [show r8_ n x L D Q = -3 from if_pos h] at K1; exact K1 (by decide)
end
end
section
/-! emit on both sides -/
theorem on_d1 {O : Nat → Nat} {L n : Nat} (h : n ≤ 1) : dp_ (on_ O L n) (L + 1) = dp_ O L + 1 := by rw [dp_1 (by rw [on_s]; exact h), on_dp L (Nat.le_refl L)]
theorem on_d9 {O : Nat → Nat} {L n : Nat} (h : 1 < n) (h' : n ≤ 9) : dp_ (on_ O L n) (L + 1) = dp_ O L - 1 := by rw [dp_9 (by rw [on_s]; exact h) (by rw [on_s]; exact h'), on_dp L (Nat.le_refl L)]
theorem on_d0 {O : Nat → Nat} {L n : Nat} (h : 9 < n) : dp_ (on_ O L n) (L + 1) = dp_ O L := by rw [dp_0 (by rw [on_s]; exact h), on_dp L (Nat.le_refl L)]
theorem on_n8 {O : Nat → Nat} {L n : Nat} (h : n ≤ 8) : ns_ (on_ O L n) (L + 1) = ns_ O L := by rw [ns_n (by rw [on_s]; exact h), on_ns L (Nat.le_refl L)]
theorem on_no {O : Nat → Nat} {L n : Nat} (h : n = 9 ∨ n = 10) : ns_ (on_ O L n) (L + 1) = ns_ O L + 1 := by rw [ns_o (by rw [on_s]; exact h), on_ns L (Nat.le_refl L)]
theorem on_ne {O : Nat → Nat} {L n : Nat} (h : n = 11) : ns_ (on_ O L n) (L + 1) = ns_ O L - 1 := by rw [ns_e (by rw [on_s]; exact h), on_ns L (Nat.le_refl L)]
theorem po_1 {n : Nat} (h : 1 < n) (h' : n ≤ 9) : 1 ≤ po_ n := by
  unfold po_
  by_cases e : 3 ≤ n ∧ n ≤ 8
  · rw [if_pos e]; omega
  · rw [if_neg e, if_pos (by omega)]; omega
section
variable {f_length f_depth f_open f_top f_repeats f_lenA f_signA f_lenB f_signB f_lenR f_signR f_fault : Int32} {a_op a_arg a_mate a_openAt a_var a_stack a_turns a_holders a_size a_signOf a_limb a_a a_b a_r a_rest : Nat → Int32}
theorem x_e78 {post : Int32 → SX → Prop} {O mt oa : Nat → Nat} {L n D' : Nat} {x : Int32} (h : pg_ a_op a_arg a_mate a_openAt O mt oa L) (hL : L < 40) (ha : ac_ n x (dp_ O L) (ns_ O L)) (K : ∀ mt' oa' ma' oA', pg_ (upd a_op L (nI n)) (upd a_arg L x) ma' oA' (on_ O L n) mt' oa' (L + 1) → post (nI L) ((nI (L + 1)), (nI D'), (nI (ns_ (on_ O L n) (L + 1))), f_top, f_repeats, f_lenA, f_signA, f_lenB, f_signB, f_lenR, f_signR, f_fault, (upd a_op L (nI n)), (upd a_arg L x), ma', oA', a_var, a_stack, a_turns, a_holders, a_size, a_signOf, a_limb, a_a, a_b, a_r, a_rest)) : wX_emit_78 post (nI n) (nI L) (nI L) (nI D') (nI (ns_ O L)) f_top f_repeats f_lenA f_signA f_lenB f_signB f_lenR f_signR f_fault (upd a_op L (nI n)) (upd a_arg L x) (upd a_mate L (nI L)) a_openAt a_var a_stack a_turns a_holders a_size a_signOf a_limb a_a a_b a_r a_rest := by
  have hn := ha.1
  have hq := h.2.2.2.2.1
  have k90 : (n = 9 ∨ n = 10) → wX_emit_90 post (nI n) (nI L) (nI L) (nI D') (nI (ns_ O L)) f_top f_repeats f_lenA f_signA f_lenB f_signB f_lenR f_signR f_fault (upd a_op L (nI n)) (upd a_arg L x) (upd a_mate L (nI L)) a_openAt a_var a_stack a_turns a_holders a_size a_signOf a_limb a_a a_b a_r a_rest := by
    intro e
    have hq3 := ha.2.2.2.2.2.2.2.1 e
    have h1 := K _ _ _ _ (pg_o h hL ha e).1
    rw [on_no e] at h1
    refine And.intro (vp_in_nI hq3 (by omega)) (nm_r (up_e rfl (by omega) rfl) (nm_r (nI_1 _) ?_))
    exact pk_eq n 11 (fun z => by omega) (fun _ => nm_r (nI_1 L) h1)
  refine pk_eq n 9 (fun e => k90 (Or.inl e)) (fun e9 => pk_eq n 10 (fun e => k90 (Or.inr e)) (fun e10 => ?_))
  refine pk_eq n 11 (fun e => ?_) (fun e11 => ?_)
  · obtain ⟨q, hqq⟩ : ∃ q, ns_ O L = q + 1 := ⟨ns_ O L - 1, by have := ha.2.2.2.2.2.2.2.2 e; omega⟩
    have h1 := K _ _ _ _ (pg_e h hL ha e hqq).1
    rw [on_ne e, hqq, Nat.add_sub_cancel] at h1
    obtain ⟨q1, q2, q3, _⟩ := h.2.2.2.2.2.1 q (by omega)
    rw [hqq]
    have i1 := vp_in_nI (n := q) (N := 3) (by omega) (by omega)
    have r1 : a_openAt (nI q).toNatClampNeg = nI (oa q) := rd_e rfl (by omega) q1
    refine nm_r (nI_pred q) ⟨i1, vp_in_nI hL (by omega), nm_r (up_e rfl (by omega) r1) ⟨i1, ?_⟩⟩
    rw [r1]
    exact ⟨vp_in_nI (by omega) (by omega), nm_r (up_e rfl (by omega) rfl) (nm_r (nI_1 L) h1)⟩
  · have h1 := K _ _ _ _ (pg_n h hL ha (by omega)).1
    rw [on_n8 (by omega)] at h1
    exact nm_r (nI_1 L) h1
theorem x_emit {post : Int32 → SX → Prop} {O mt oa : Nat → Nat} {L n : Nat} {x : Int32} (hn : n ≤ 11) (h : pg_ a_op a_arg a_mate a_openAt O mt oa L) (K1 : ¬ r8_ n x L (dp_ O L) (ns_ O L) = 0 → post (r8_ n x L (dp_ O L) (ns_ O L)) ((nI L), (nI (dp_ O L)), (nI (ns_ O L)), f_top, f_repeats, f_lenA, f_signA, f_lenB, f_signB, f_lenR, f_signR, f_fault, a_op, a_arg, a_mate, a_openAt, a_var, a_stack, a_turns, a_holders, a_size, a_signOf, a_limb, a_a, a_b, a_r, a_rest)) (K0 : r8_ n x L (dp_ O L) (ns_ O L) = 0 → ∀ mt' oa' ma' oA', pg_ (upd a_op L (nI n)) (upd a_arg L x) ma' oA' (on_ O L n) mt' oa' (L + 1) → post (nI L) ((nI (L + 1)), (nI (dp_ (on_ O L n) (L + 1))), (nI (ns_ (on_ O L n) (L + 1))), f_top, f_repeats, f_lenA, f_signA, f_lenB, f_signB, f_lenR, f_signR, f_fault, (upd a_op L (nI n)), (upd a_arg L x), ma', oA', a_var, a_stack, a_turns, a_holders, a_size, a_signOf, a_limb, a_a, a_b, a_r, a_rest)) : wpX_emit post ((nI L), (nI (dp_ O L)), (nI (ns_ O L)), f_top, f_repeats, f_lenA, f_signA, f_lenB, f_signB, f_lenR, f_signR, f_fault, a_op, a_arg, a_mate, a_openAt, a_var, a_stack, a_turns, a_holders, a_size, a_signOf, a_limb, a_a, a_b, a_r, a_rest) (nI n) x := by
  have hd := pg_d h
  have hq := h.2.2.2.2.1
  unfold wpX_emit
  refine x_ref hn h.1 hd hq ?_
  refine br_c (fun e => ?_) (fun e => K1 e)
  obtain ⟨hL, ha⟩ := r8_ok hn e
  have k0 := K0 e
  have i1 := vp_in_nI (n := L) (N := 40) hL (by omega)
  refine And.intro i1 (nm_r (up_e rfl (by omega) rfl) ⟨i1, nm_r (up_e rfl (by omega) rfl) ⟨i1, nm_r (up_e rfl (by omega) rfl) ?_⟩⟩)
  refine pk_lt 1 n (fun h1 => pk_lt 9 n (fun h9 => ?_) (fun h9 => ?_)) (fun h1 => ?_)
  · rw [on_d0 h9] at k0
    exact x_e78 h hL ha k0
  · have hp := po_1 h1 h9
    have hp' := ha.2.2.2.1
    rw [on_d9 h1 h9] at k0
    exact nm_r (pk_sub (a := dp_ O L) (b := 1) (by omega)) (x_e78 h hL ha k0)
  · rw [on_d1 h1] at k0
    exact nm_r (nI_1 _) (x_e78 h hL ha k0)
/-- a code that is none -/
theorem x_emitB {post : Int32 → SX → Prop} {o x : Int32} (ho : o < 0 ∨ nI 12 ≤ o) (K : post (-1) (f_length, f_depth, f_open, f_top, f_repeats, f_lenA, f_signA, f_lenB, f_signB, f_lenR, f_signR, f_fault, a_op, a_arg, a_mate, a_openAt, a_var, a_stack, a_turns, a_holders, a_size, a_signOf, a_limb, a_a, a_b, a_r, a_rest)) : wpX_emit post (f_length, f_depth, f_open, f_top, f_repeats, f_lenA, f_signA, f_lenB, f_signB, f_lenR, f_signR, f_fault, a_op, a_arg, a_mate, a_openAt, a_var, a_stack, a_turns, a_holders, a_size, a_signOf, a_limb, a_a, a_b, a_r, a_rest) o x := by
  unfold wpX_emit
  by_cases h : o < 0
  · exact br_t h (br_f (by decide) K)
  · refine br_f h (br_f (fun z => ?_) (br_f (by decide) K))
    have h8 := ho.resolve_left h
    rw [Int32.le_iff_toInt_le] at z h8
    have e1 : (nI 12).toInt = 12 := by decide
    have e2 : (11 : Int32).toInt = 11 := by decide
    omega
end
section
variable {f_size f_depth f_open : Int32} {a_ops a_args a_d a_minus a_begins a_times : Nat → Int32}
theorem y_emit {post : Int32 → SY → Prop} {O : Nat → Nat} {L n : Nat} {x : Int32} (hn : n ≤ 11) (hL40 : L ≤ 40) (hd : dp_ O L ≤ 6) (hq : ns_ O L ≤ 3) (K1 : ¬ r8_ n x L (dp_ O L) (ns_ O L) = 0 → post (r8_ n x L (dp_ O L) (ns_ O L)) ((nI L), (nI (dp_ O L)), (nI (ns_ O L)), a_ops, a_args, a_d, a_minus, a_begins, a_times)) (K0 : r8_ n x L (dp_ O L) (ns_ O L) = 0 → post (nI L) ((nI (L + 1)), (nI (dp_ (on_ O L n) (L + 1))), (nI (ns_ (on_ O L n) (L + 1))), (upd a_ops L (nI n)), (upd a_args L x), a_d, a_minus, a_begins, a_times)) : wpY_emit post ((nI L), (nI (dp_ O L)), (nI (ns_ O L)), a_ops, a_args, a_d, a_minus, a_begins, a_times) (nI n) x := by
  refine y_ref hn hL40 hd hq (fun e => ?_) K1
  obtain ⟨hL, ha⟩ := r8_ok hn e
  have k0 := K0 e
  have i1 := vp_in_nI (n := L) (N := 40) hL (by omega)
  have k240 : ∀ D Q, post (nI L) ((nI (L + 1)), (nI D), (nI Q), (upd a_ops L (nI n)), (upd a_args L x), a_d, a_minus, a_begins, a_times) → wY_emit_240 post (nI n) x (nI L) (nI D) (nI Q) a_ops a_args a_d a_minus a_begins a_times := by
    intro D Q hk
    refine And.intro i1 (nm_r (up_e rfl (by omega) rfl) ⟨i1, nm_r (up_e rfl (by omega) rfl) (nm_r (nI_1 L) ?_)⟩)
    rw [nI_pred]; exact hk
  have k202 : ∀ D, post (nI L) ((nI (L + 1)), (nI D), (nI (ns_ (on_ O L n) (L + 1))), (upd a_ops L (nI n)), (upd a_args L x), a_d, a_minus, a_begins, a_times) → wY_emit_202 post (nI n) x (nI L) (nI D) (nI (ns_ O L)) a_ops a_args a_d a_minus a_begins a_times := by
    intro D hk
    have k214 : (n = 9 ∨ n = 10) → wY_emit_214 post (nI n) x (nI L) (nI D) (nI (ns_ O L)) a_ops a_args a_d a_minus a_begins a_times := by
      intro e
      rw [on_no e] at hk
      exact nm_r (nI_1 _) (pk_eq n 11 (fun z => by omega) (fun _ => k240 _ _ hk))
    refine pk_eq n 9 (fun e => k214 (Or.inl e)) (fun e9 => pk_eq n 10 (fun e => k214 (Or.inr e)) (fun e10 => ?_))
    refine pk_eq n 11 (fun e => ?_) (fun e11 => ?_)
    · rw [on_ne e] at hk
      have h0 := ha.2.2.2.2.2.2.2.2 e
      exact nm_r (pk_sub (a := ns_ O L) (b := 1) (by omega)) (k240 _ _ hk)
    · rw [on_n8 (by omega)] at hk
      exact k240 _ _ hk
  refine pk_lt 1 n (fun h1 => pk_lt 9 n (fun h9 => ?_) (fun h9 => ?_)) (fun h1 => ?_)
  · rw [on_d0 h9] at k0
    exact k202 _ k0
  · have hp := po_1 h1 h9
    have hp' := ha.2.2.2.1
    rw [on_d9 h1 h9] at k0
    exact nm_r (pk_sub (a := dp_ O L) (b := 1) (by omega)) (k202 _ k0)
  · rw [on_d1 h1] at k0
    exact nm_r (nI_1 _) (k202 _ k0)
theorem y_emitB {post : Int32 → SY → Prop} {o x : Int32} (ho : o < 0 ∨ nI 12 ≤ o) (K : post (-1) (f_size, f_depth, f_open, a_ops, a_args, a_d, a_minus, a_begins, a_times)) : wpY_emit post (f_size, f_depth, f_open, a_ops, a_args, a_d, a_minus, a_begins, a_times) o x := by
  by_cases h : o < 0
  · exact br_t h K
  · refine br_f h (br_f (fun z => ?_) K)
    have h8 := ho.resolve_left h
    rw [Int32.le_iff_toInt_le] at z h8
    have e1 : (nI 12).toInt = 12 := by decide
    have e2 : (11 : Int32).toInt = 11 := by decide
    omega
end
end
section
/-! the relation -/
def rl_ (fl fd fo : Int32) (op ar ma oA vr st H z s l : Nat → Int32) (gs gd go : Int32) (ops args d m : Nat → Int32) : Prop := ∃ (O mt oa : Nat → Nat) (L : Nat) (N : Nat → Int), fl = nI L ∧ fd = nI (dp_ O L) ∧ fo = nI (ns_ O L) ∧ gs = nI L ∧ gd = nI (dp_ O L) ∧ go = nI (ns_ O L) ∧ ops = op ∧ args = ar ∧ pg_ op ar ma oA O mt oa L ∧ xm_ H z s l (wf_ vr st) N 8 ∧ (∀ i, i < 8 → ys_ d m i (N i))
/-- one program; the eight variables hold the same integers, as words and blocks with their holders counted here, as digit rows there -/
def i_Rel (_ : Nat) (u : SX) (v : SY) : Prop := match u, v with
  | (f_length, f_depth, f_open, f_top, f_repeats, f_lenA, f_signA, f_lenB, f_signB, f_lenR, f_signR, f_fault, a_op, a_arg, a_mate, a_openAt, a_var, a_stack, a_turns, a_holders, a_size, a_signOf, a_limb, a_a, a_b, a_r, a_rest), (gs, gd, go, ops, args, d, m, _, _) => rl_ f_length f_depth f_open a_op a_arg a_mate a_openAt a_var a_stack a_holders a_size a_signOf a_limb gs gd go ops args d m
theorem zz_in {k : Nat} {f_top f_repeats f_lenA f_signA f_lenB f_signB f_lenR f_signR f_fault : Int32} {a_op a_arg a_mate a_openAt a_var a_stack a_turns a_holders a_size a_signOf a_limb a_a a_b a_r a_rest : Nat → Int32} {d m bg tm : Nat → Int32} {O mt oa : Nat → Nat} {L : Nat} {N : Nat → Int} (h1 : pg_ a_op a_arg a_mate a_openAt O mt oa L) (h2 : xm_ a_holders a_size a_signOf a_limb (wf_ a_var a_stack) N 8) (h3 : ∀ i, i < 8 → ys_ d m i (N i)) : i_Rel k ((nI L), (nI (dp_ O L)), (nI (ns_ O L)), f_top, f_repeats, f_lenA, f_signA, f_lenB, f_signB, f_lenR, f_signR, f_fault, a_op, a_arg, a_mate, a_openAt, a_var, a_stack, a_turns, a_holders, a_size, a_signOf, a_limb, a_a, a_b, a_r, a_rest) (nI L, nI (dp_ O L), nI (ns_ O L), a_op, a_arg, d, m, bg, tm) :=
  show rl_ _ _ _ _ _ _ _ _ _ _ _ _ _ _ _ _ _ _ _ _ from ⟨O, mt, oa, L, N, rfl, rfl, rfl, rfl, rfl, rfl, rfl, rfl, h1, h2, h3⟩
theorem zz_el {P : SX → SY → Prop} {k : Nat} {u : SX} {v : SY} (h : ∀ (f_top f_repeats f_lenA f_signA f_lenB f_signB f_lenR f_signR f_fault : Int32) (a_op a_arg a_mate a_openAt a_var a_stack a_turns a_holders a_size a_signOf a_limb a_a a_b a_r a_rest d m bg tm : Nat → Int32) (O mt oa : Nat → Nat) (L : Nat) (N : Nat → Int), pg_ a_op a_arg a_mate a_openAt O mt oa L → xm_ a_holders a_size a_signOf a_limb (wf_ a_var a_stack) N 8 → (∀ i, i < 8 → ys_ d m i (N i)) → P ((nI L), (nI (dp_ O L)), (nI (ns_ O L)), f_top, f_repeats, f_lenA, f_signA, f_lenB, f_signB, f_lenR, f_signR, f_fault, a_op, a_arg, a_mate, a_openAt, a_var, a_stack, a_turns, a_holders, a_size, a_signOf, a_limb, a_a, a_b, a_r, a_rest) (nI L, nI (dp_ O L), nI (ns_ O L), a_op, a_arg, d, m, bg, tm)) (I : i_Rel k u v) : P u v := by
  obtain ⟨f_length, f_depth, f_open, f_top, f_repeats, f_lenA, f_signA, f_lenB, f_signB, f_lenR, f_signR, f_fault, a_op, a_arg, a_mate, a_openAt, a_var, a_stack, a_turns, a_holders, a_size, a_signOf, a_limb, a_a, a_b, a_r, a_rest⟩ := u
  obtain ⟨gs, gd, go, ops, args, d, m, bg, tm⟩ := v
  have I : rl_ f_length f_depth f_open a_op a_arg a_mate a_openAt a_var a_stack a_holders a_size a_signOf a_limb gs gd go ops args d m := I
  obtain ⟨O, mt, oa, L, N, rfl, rfl, rfl, rfl, rfl, rfl, rfl, rfl, h1, h2, h3⟩ := I
  exact h _ _ _ _ _ _ _ _ _ _ _ _ _ _ _ _ _ _ _ _ _ _ _ _ _ _ _ _ _ _ _ _ _ h1 h2 h3
theorem i_up {k : Nat} {u : SX} {v : SY} (h : i_Rel k u v) : i_Rel (k + 3) u v := h
/-! the beginning -/
theorem cn_one {W : Nat → Int32} {h : Nat} (hh : h < 24) : ∀ n, (∀ i, i < n → W i = 1) → cn_ W n h = 0 := by
  intro n
  induction n with
  | zero => intro _; rfl
  | succ n ih =>
    intro hw
    show cn_ W n h + hb_ (W n) h = 0
    rw [ih (fun i hi => hw i (by omega)), hw n (by omega), show (1 : Int32) = iz_I (2 * 0 + 1) from rfl, hb_s (V := 0) ⟨by omega, by omega⟩ hh]
theorem xi_loop {post : SX → Prop} {f_length f_depth f_open f_top f_repeats f_lenA f_signA f_lenB f_signB f_lenR f_signR f_fault : Int32} {a_op a_arg a_mate a_openAt a_stack a_turns a_holders a_size a_signOf a_limb a_a a_b a_r a_rest : Nat → Int32} (K : ∀ v', (∀ j, j < 8 → v' j = 1) → post (f_length, f_depth, f_open, f_top, f_repeats, f_lenA, f_signA, f_lenB, f_signB, f_lenR, f_signR, f_fault, a_op, a_arg, a_mate, a_openAt, v', a_stack, a_turns, a_holders, a_size, a_signOf, a_limb, a_a, a_b, a_r, a_rest)) : ∀ m i v, i + m = 8 → (∀ j, j < i → v j = 1) → wX_init_125 post f_length f_depth f_open f_top f_repeats f_lenA f_signA f_lenB f_signB f_lenR f_signR f_fault (m + 1) (nI i) a_op a_arg a_mate a_openAt v a_stack a_turns a_holders a_size a_signOf a_limb a_a a_b a_r a_rest := by
  intro m
  induction m with
  | zero =>
    intro i v hi hw
    cases (show i = 8 by omega)
    exact br_t (nI_le (a := 8) (b := 8) (by omega) (by omega)) (K v hw)
  | succ m ih =>
    intro i v hi hw
    refine br_f (nI_ge (b := 8) (by omega) (by omega)) ⟨vp_in_nI (by omega) (by omega), nm_r (up_e rfl (by omega) rfl) (nm_r (nI_1 i) ?_)⟩
    exact ih (i + 1) _ (by omega) (st_n (g := fun _ => 1) hw rfl)
theorem i_vc0 : wpX_init (fun u => wpY_init (fun v => i_Rel 0 u v)) := by
  refine Exists.intro (8 + 1) (xi_loop (fun v' hv => ?_) 8 0 (fun _ => 0) (by omega) (fun j hj => absurd hj (by omega)))
  refine (show rl_ 0 0 0 (fun _ => 0) (fun _ => 0) (fun _ => 0) (fun _ => 0) v' (fun _ => 0) (fun _ => 0) (fun _ => 0) (fun _ => 0) (fun _ => 0) 0 0 0 (fun _ => 0) (fun _ => 0) (fun _ => 0) (fun _ => 0) from ⟨fun _ => 0, fun _ => 0, fun _ => 0, 0, fun _ => 0, rfl, rfl, rfl, rfl, rfl, rfl, rfl, rfl, pg_0 _ _ _ _ _ _ _, ⟨fun i hi => ?_, fun h hh => ?_⟩, fun i hi => ?_⟩)
  · rw [wf_v hi, hv i hi]
    exact Or.inl ⟨show sm_ 0 from ⟨by omega, by omega⟩, rfl⟩
  · rw [cn_one hh 8 (fun i hi => by rw [wf_v hi]; exact hv i hi)]; rfl
  · exact ⟨0, fun j hj => by rw [dg_00]; rfl, by decide, Or.inl rfl, rfl⟩
end
section
/-! what is owed, a method each -/
theorem i_vc_emit {k : Nat} {u : SX} {v : SY} (I : i_Rel k u v) (hk : k + 3 ≤ 1536) (v1 : Int32) (v2 : Int32) : wpX_emit (fun r u' => wpY_emit (fun r' v' => r' = r ∧ i_Rel (k + 3) u' v') v v1 v2) u v1 v2 := by
  refine zz_el (P := fun u v => wpX_emit (fun r u' => wpY_emit (fun r' v' => r' = r ∧ i_Rel (k + 3) u' v') v v1 v2) u v1 v2) ?_ I
  intro f_top f_repeats f_lenA f_signA f_lenB f_signB f_lenR f_signR f_fault a_op a_arg a_mate a_openAt a_var a_stack a_turns a_holders a_size a_signOf a_limb a_a a_b a_r a_rest d m bg tm O mt oa L N hp hm hy
  have bad : v1 < 0 ∨ nI 12 ≤ v1 → _ := fun h => x_emitB (post := fun r u' => wpY_emit (fun r' v' => r' = r ∧ i_Rel (k + 3) u' v') (nI L, nI (dp_ O L), nI (ns_ O L), a_op, a_arg, d, m, bg, tm) v1 v2) (f_length := (nI L)) (f_depth := (nI (dp_ O L))) (f_open := (nI (ns_ O L))) (f_top := f_top) (f_repeats := f_repeats) (f_lenA := f_lenA) (f_signA := f_signA) (f_lenB := f_lenB) (f_signB := f_signB) (f_lenR := f_lenR) (f_signR := f_signR) (f_fault := f_fault) (a_op := a_op) (a_arg := a_arg) (a_mate := a_mate) (a_openAt := a_openAt) (a_var := a_var) (a_stack := a_stack) (a_turns := a_turns) (a_holders := a_holders) (a_size := a_size) (a_signOf := a_signOf) (a_limb := a_limb) (a_a := a_a) (a_b := a_b) (a_r := a_r) (a_rest := a_rest) (x := v2) h (y_emitB h ⟨rfl, zz_in hp hm hy⟩)
  rcases pk_ix v1 (n := 12) (by omega) with h | h | ⟨j, hj, rfl⟩
  · exact bad (Or.inl h)
  · exact bad (Or.inr h)
  · have hd := pg_d hp
    have hq := hp.2.2.2.2.1
    refine x_emit (by omega) hp (fun e => ?_) (fun e mt' oa' ma' oA' hp' => ?_)
    · exact y_emit (by omega) hp.1 hd hq (fun _ => ⟨rfl, zz_in hp hm hy⟩) (fun z => absurd z e)
    · exact y_emit (by omega) hp.1 hd hq (fun z => absurd e z) (fun _ => ⟨rfl, zz_in hp' hm hy⟩)
theorem i_vc_clear {k : Nat} {u : SX} {v : SY} (I : i_Rel k u v) (hk : k + 3 ≤ 1536) : wpX_clear (fun u' => wpY_clear (fun v' => i_Rel (k + 3) u' v') v) u := by
  refine zz_el (P := fun u v => wpX_clear (fun u' => wpY_clear (fun v' => i_Rel (k + 3) u' v') v) u) ?_ I
  intro f_top f_repeats f_lenA f_signA f_lenB f_signB f_lenR f_signR f_fault a_op a_arg a_mate a_openAt a_var a_stack a_turns a_holders a_size a_signOf a_limb a_a a_b a_r a_rest d m bg tm O mt oa L N hp hm hy
  exact zz_in (k := k + 3) (f_top := f_top) (f_repeats := f_repeats) (f_lenA := f_lenA) (f_signA := f_signA) (f_lenB := f_lenB) (f_signB := f_signB) (f_lenR := f_lenR) (f_signR := f_signR) (f_fault := f_fault) (a_op := a_op) (a_arg := a_arg) (a_mate := a_mate) (a_openAt := a_openAt) (a_var := a_var) (a_stack := a_stack) (a_turns := a_turns) (a_holders := a_holders) (a_size := a_size) (a_signOf := a_signOf) (a_limb := a_limb) (a_a := a_a) (a_b := a_b) (a_r := a_r) (a_rest := a_rest) (d := d) (m := m) (bg := bg) (tm := tm) (O := O) (mt := mt) (oa := oa) (L := 0) (N := N) (pg_0 _ _ _ _ _ _ _) hm hy
theorem i_vc_set {k : Nat} {u : SX} {v : SY} (I : i_Rel k u v) (hk : k + 3 ≤ 1536) (v1 : Int32) (v2 : Int32) : wpX_set (fun r u' => wpY_set (fun r' v' => r' = r ∧ i_Rel (k + 3) u' v') v v1 v2) u v1 v2 := by
  refine zz_el (P := fun u v => wpX_set (fun r u' => wpY_set (fun r' v' => r' = r ∧ i_Rel (k + 3) u' v') v v1 v2) u v1 v2) ?_ I
  intro f_top f_repeats f_lenA f_signA f_lenB f_signB f_lenR f_signR f_fault a_op a_arg a_mate a_openAt a_var a_stack a_turns a_holders a_size a_signOf a_limb a_a a_b a_r a_rest d m bg tm O mt oa L N hp hm hy
  by_cases hb : v1 < 0 ∨ nI 8 ≤ v1
  · refine x_set1 hb ?_
    unfold wpY_set
    refine y_bad1 hb ?_
    exact br_f (by decide) ⟨rfl, zz_in hp hm hy⟩
  · obtain ⟨j, hj, rfl⟩ : ∃ j : Nat, j < 8 ∧ v1 = nI j := by
      rcases pk_ix v1 (n := 8) (by omega) with h | h | h
      · exact absurd (Or.inl h) hb
      · exact absurd (Or.inr h) hb
      · exact h
    refine x_set hj hm (fun H' z' s' l' v' e5 e6 q3 hm' => ?_)
    refine y_set hj (fun d' m' h1 h2 => ⟨rfl, zz_in hp hm' (fun i hi => ?_)⟩)
    by_cases e : i = j
    · subst e; rw [un_s]; exact h1
    · rw [un_n e]; exact h2 i _ (by omega) e (hy i hi)
theorem i_vc_run {k : Nat} {u : SX} {v : SY} (I : i_Rel k u v) (hk : k + 3 ≤ 1536) : wpX_run (fun r u' => wpY_run (fun r' v' => r' = r ∧ i_Rel (k + 3) u' v') v) u := by
  refine zz_el (P := fun u v => wpX_run (fun r u' => wpY_run (fun r' v' => r' = r ∧ i_Rel (k + 3) u' v') v) u) ?_ I
  intro f_top f_repeats f_lenA f_signA f_lenB f_signB f_lenR f_signR f_fault a_op a_arg a_mate a_openAt a_var a_stack a_turns a_holders a_size a_signOf a_limb a_a a_b a_r a_rest d m bg tm O mt oa L N hp hm hy
  have hd6 := pg_d hp
  have hq3 := hp.2.2.2.2.1
  by_cases hD : dp_ O L = 0
  · by_cases hQ : ns_ O L = 0
    · have ho := pg_ok hp hQ
      have zD : nI (dp_ O L) = 0 := by rw [hD]; rfl
      have zQ : nI (ns_ O L) = 0 := by rw [hQ]; rfl
      refine x_run ho hp.2.1 hp.2.2.2.1 zD zQ hm (fun ft H' z' s' l' v' st' tn' rp e1 e2 e3 e4 e5 e6 q1 q2 q3 q4 hm' => ?_)
      exact y_run ho hp.2.1 zD zQ hy (fun d' m' B' T' hy' => ⟨rfl, zz_in hp hm' hy'⟩)
    · have nQ : ¬ nI (ns_ O L) = 0 := fun z => hQ ((eq_0 rfl (by omega)).mp z)
      have zD : nI (dp_ O L) = 0 := by rw [hD]; rfl
      exact br_t zD (br_f nQ (br_t zD (br_f nQ ⟨rfl, zz_in hp hm hy⟩)))
  · have nD : ¬ nI (dp_ O L) = 0 := fun z => hD ((eq_0 rfl (by omega)).mp z)
    exact br_f nD (br_f nD ⟨rfl, zz_in hp hm hy⟩)
theorem i_vc_tokens {k : Nat} {u : SX} {v : SY} (I : i_Rel k u v) (hk : k + 3 ≤ 1536) : wpX_tokens (fun r => wpY_tokens (fun r' => r' = r ∧ i_Rel (k + 3) u v) v) u := by
  refine zz_el (P := fun u v => wpX_tokens (fun r => wpY_tokens (fun r' => r' = r ∧ i_Rel (k + 3) u v) v) u) ?_ I
  intro f_top f_repeats f_lenA f_signA f_lenB f_signB f_lenR f_signR f_fault a_op a_arg a_mate a_openAt a_var a_stack a_turns a_holders a_size a_signOf a_limb a_a a_b a_r a_rest d m bg tm O mt oa L N hp hm hy
  exact ⟨rfl, zz_in hp hm hy⟩
theorem i_vc_sign {k : Nat} {u : SX} {v : SY} (I : i_Rel k u v) (hk : k + 3 ≤ 1536) (v1 : Int32) : wpX_sign (fun r u' => wpY_sign (fun r' => r' = r ∧ i_Rel (k + 3) u' v) v v1) u v1 := by
  refine zz_el (P := fun u v => wpX_sign (fun r u' => wpY_sign (fun r' => r' = r ∧ i_Rel (k + 3) u' v) v v1) u v1) ?_ I
  intro f_top f_repeats f_lenA f_signA f_lenB f_signB f_lenR f_signR f_fault a_op a_arg a_mate a_openAt a_var a_stack a_turns a_holders a_size a_signOf a_limb a_a a_b a_r a_rest d m bg tm O mt oa L N hp hm hy
  by_cases hb : v1 < 0 ∨ nI 8 ≤ v1
  · unfold wpX_sign
    refine x_nv1 hb ?_
    refine br_f (by decide) ?_
    unfold wpY_sign
    refine y_bad1 hb ?_
    exact br_f (by decide) ⟨rfl, zz_in hp hm hy⟩
  · obtain ⟨j, hj, rfl⟩ : ∃ j : Nat, j < 8 ∧ v1 = nI j := by
      rcases pk_ix v1 (n := 8) (by omega) with h | h | h
      · exact absurd (Or.inl h) hb
      · exact absurd (Or.inr h) hb
      · exact h
    have hw := hm.1 j hj
    rw [wf_v hj] at hw
    refine x_sign hj hw (fun e1 e2 q1 => ?_)
    exact y_sign hj (hy j hj) ⟨rfl, zz_in hp hm hy⟩
theorem i_vc_digits {k : Nat} {u : SX} {v : SY} (I : i_Rel k u v) (hk : k + 3 ≤ 1536) (v1 : Int32) : wpX_digits (fun r u' => wpY_digits (fun r' => r' = r ∧ i_Rel (k + 3) u' v) v v1) u v1 := by
  refine zz_el (P := fun u v => wpX_digits (fun r u' => wpY_digits (fun r' => r' = r ∧ i_Rel (k + 3) u' v) v v1) u v1) ?_ I
  intro f_top f_repeats f_lenA f_signA f_lenB f_signB f_lenR f_signR f_fault a_op a_arg a_mate a_openAt a_var a_stack a_turns a_holders a_size a_signOf a_limb a_a a_b a_r a_rest d m bg tm O mt oa L N hp hm hy
  by_cases hb : v1 < 0 ∨ nI 8 ≤ v1
  · unfold wpX_digits
    refine x_nv1 hb ?_
    refine br_f (by decide) ?_
    unfold wpY_digits
    refine y_bad1 hb ?_
    exact br_f (by decide) ⟨rfl, zz_in hp hm hy⟩
  · obtain ⟨j, hj, rfl⟩ : ∃ j : Nat, j < 8 ∧ v1 = nI j := by
      rcases pk_ix v1 (n := 8) (by omega) with h | h | h
      · exact absurd (Or.inl h) hb
      · exact absurd (Or.inr h) hb
      · exact h
    have hw := hm.1 j hj
    rw [wf_v hj] at hw
    refine x_digits hj hw (fun M hM e1 e2 q1 => ?_)
    refine y_digits hj (hy j hj) (fun M' hM' => ⟨?_, zz_in hp hm hy⟩)
    rw [ln_u (by omega) hM' hM]
theorem i_vc_digit {k : Nat} {u : SX} {v : SY} (I : i_Rel k u v) (hk : k + 3 ≤ 1536) (v1 : Int32) (v2 : Int32) : wpX_digit (fun r u' => wpY_digit (fun r' => r' = r ∧ i_Rel (k + 3) u' v) v v1 v2) u v1 v2 := by
  refine zz_el (P := fun u v => wpX_digit (fun r u' => wpY_digit (fun r' => r' = r ∧ i_Rel (k + 3) u' v) v v1 v2) u v1 v2) ?_ I
  intro f_top f_repeats f_lenA f_signA f_lenB f_signB f_lenR f_signR f_fault a_op a_arg a_mate a_openAt a_var a_stack a_turns a_holders a_size a_signOf a_limb a_a a_b a_r a_rest d m bg tm O mt oa L N hp hm hy
  by_cases hb : v1 < 0 ∨ nI 8 ≤ v1
  · unfold wpX_digit
    refine x_nv1 hb ?_
    refine br_f (by decide) ?_
    unfold wpY_digit
    refine y_bad1 hb ?_
    exact br_f (by decide) ⟨rfl, zz_in hp hm hy⟩
  · obtain ⟨j, hj, rfl⟩ : ∃ j : Nat, j < 8 ∧ v1 = nI j := by
      rcases pk_ix v1 (n := 8) (by omega) with h | h | h
      · exact absurd (Or.inl h) hb
      · exact absurd (Or.inr h) hb
      · exact h
    have hw := hm.1 j hj
    rw [wf_v hj] at hw
    by_cases h2 : v2 < 0
    · have h3 : ¬ 0 ≤ v2 := Int32.not_le.mpr h2
      unfold wpX_digit
      refine x_nv0 hj ?_
      refine br_t rfl (br_f h3 ?_)
      unfold wpY_digit
      refine y_bad0 hj ?_
      exact br_t rfl (br_f h3 ⟨rfl, zz_in hp hm hy⟩)
    · obtain ⟨i, hi, rfl⟩ := nI_of h2
      refine x_digit hj hi hw (fun e1 e2 q1 => ?_)
      exact y_digit hj hi (hy j hj) ⟨rfl, zz_in hp hm hy⟩
theorem i_vc_compare {k : Nat} {u : SX} {v : SY} (I : i_Rel k u v) (hk : k + 3 ≤ 1536) (v1 : Int32) (v2 : Int32) : wpX_compare (fun r u' => wpY_compare (fun r' => r' = r ∧ i_Rel (k + 3) u' v) v v1 v2) u v1 v2 := by
  refine zz_el (P := fun u v => wpX_compare (fun r u' => wpY_compare (fun r' => r' = r ∧ i_Rel (k + 3) u' v) v v1 v2) u v1 v2) ?_ I
  intro f_top f_repeats f_lenA f_signA f_lenB f_signB f_lenR f_signR f_fault a_op a_arg a_mate a_openAt a_var a_stack a_turns a_holders a_size a_signOf a_limb a_a a_b a_r a_rest d m bg tm O mt oa L N hp hm hy
  by_cases hb : v1 < 0 ∨ nI 8 ≤ v1
  · unfold wpX_compare
    refine x_nv1 hb ?_
    refine br_f (by decide) ?_
    unfold wpY_compare
    refine y_bad1 hb ?_
    exact br_f (by decide) ⟨rfl, zz_in hp hm hy⟩
  · obtain ⟨j, hj, rfl⟩ : ∃ j : Nat, j < 8 ∧ v1 = nI j := by
      rcases pk_ix v1 (n := 8) (by omega) with h | h | h
      · exact absurd (Or.inl h) hb
      · exact absurd (Or.inr h) hb
      · exact h
    have hw := hm.1 j hj
    rw [wf_v hj] at hw
    by_cases hb2 : v2 < 0 ∨ nI 8 ≤ v2
    · unfold wpX_compare
      refine x_nv0 hj ?_
      refine br_t rfl ?_
      refine x_nv1 hb2 ?_
      refine br_f (by decide) ?_
      unfold wpY_compare
      refine y_bad0 hj ?_
      refine br_t rfl ?_
      refine y_bad1 hb2 ?_
      exact br_f (by decide) ⟨rfl, zz_in hp hm hy⟩
    · obtain ⟨i, hi, rfl⟩ : ∃ j : Nat, j < 8 ∧ v2 = nI j := by
        rcases pk_ix v2 (n := 8) (by omega) with h | h | h
        · exact absurd (Or.inl h) hb2
        · exact absurd (Or.inr h) hb2
        · exact h
      have hw2 := hm.1 i hi
      rw [wf_v hi] at hw2
      refine x_compare hj hi hw hw2 (fun e1 e2 e3 e4 q1 q2 => ?_)
      exact y_compare hj hi (hy j hj) (hy i hi) ⟨rfl, zz_in hp hm hy⟩
theorem i_vc_isInt {k : Nat} {u : SX} {v : SY} (I : i_Rel k u v) (hk : k + 3 ≤ 1536) (v1 : Int32) : wpX_isInt (fun r u' => wpY_isInt (fun r' => r' = r ∧ i_Rel (k + 3) u' v) v v1) u v1 := by
  refine zz_el (P := fun u v => wpX_isInt (fun r u' => wpY_isInt (fun r' => r' = r ∧ i_Rel (k + 3) u' v) v v1) u v1) ?_ I
  intro f_top f_repeats f_lenA f_signA f_lenB f_signB f_lenR f_signR f_fault a_op a_arg a_mate a_openAt a_var a_stack a_turns a_holders a_size a_signOf a_limb a_a a_b a_r a_rest d m bg tm O mt oa L N hp hm hy
  by_cases hb : v1 < 0 ∨ nI 8 ≤ v1
  · unfold wpX_isInt
    refine x_nv1 hb ?_
    refine br_f (by decide) ?_
    unfold wpY_isInt
    refine y_bad1 hb ?_
    exact br_f (by decide) ⟨rfl, zz_in hp hm hy⟩
  · obtain ⟨j, hj, rfl⟩ : ∃ j : Nat, j < 8 ∧ v1 = nI j := by
      rcases pk_ix v1 (n := 8) (by omega) with h | h | h
      · exact absurd (Or.inl h) hb
      · exact absurd (Or.inr h) hb
      · exact h
    have hw := hm.1 j hj
    rw [wf_v hj] at hw
    refine x_isInt hj hw (fun h e1 e2 q1 => ?_) (fun h e1 e2 q1 => ?_)
    · exact y_isInt hj (hy j hj) (fun _ => ⟨rfl, zz_in hp hm hy⟩) (fun z => absurd h z)
    · exact y_isInt hj (hy j hj) (fun z => absurd z h) (fun _ => ⟨rfl, zz_in hp hm hy⟩)
theorem i_vc_asInt {k : Nat} {u : SX} {v : SY} (I : i_Rel k u v) (hk : k + 3 ≤ 1536) (v1 : Int32) : wpX_asInt (fun r u' => wpY_asInt (fun r' => r' = r ∧ i_Rel (k + 3) u' v) v v1) u v1 := by
  refine zz_el (P := fun u v => wpX_asInt (fun r u' => wpY_asInt (fun r' => r' = r ∧ i_Rel (k + 3) u' v) v v1) u v1) ?_ I
  intro f_top f_repeats f_lenA f_signA f_lenB f_signB f_lenR f_signR f_fault a_op a_arg a_mate a_openAt a_var a_stack a_turns a_holders a_size a_signOf a_limb a_a a_b a_r a_rest d m bg tm O mt oa L N hp hm hy
  by_cases hb : v1 < 0 ∨ nI 8 ≤ v1
  · unfold wpX_asInt
    refine x_nv1 hb ?_
    refine br_f (by decide) ?_
    unfold wpY_asInt wpY_isInt
    refine y_bad1 hb ?_
    exact br_f (by decide) (br_t rfl ⟨rfl, zz_in hp hm hy⟩)
  · obtain ⟨j, hj, rfl⟩ : ∃ j : Nat, j < 8 ∧ v1 = nI j := by
      rcases pk_ix v1 (n := 8) (by omega) with h | h | h
      · exact absurd (Or.inl h) hb
      · exact absurd (Or.inr h) hb
      · exact h
    have hw := hm.1 j hj
    rw [wf_v hj] at hw
    refine x_asInt hj hw (fun h e1 e2 q1 => ?_) (fun h e1 e2 q1 => ?_)
    · exact y_asInt hj (hy j hj) (fun _ => ⟨rfl, zz_in hp hm hy⟩) (fun z => absurd h z)
    · exact y_asInt hj (hy j hj) (fun z => absurd z h) (fun _ => ⟨rfl, zz_in hp hm hy⟩)
end
