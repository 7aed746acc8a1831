section
/-! pure rows to paste: stores, nI and lN arithmetic, masks, shifts, narrowing, branches by naturals (pk_le, pk_lt, pk_eq), loops (lp1 .. lp16: the measure of the state; rp1 ..: recursion), negatives. Take what you need -/
theorem pk_us {f : Nat → Int32} {k : Nat} {x : Int32} : upd f k x k = x := if_pos rfl
theorem pk_un {f : Nat → Int32} {k j : Nat} {x : Int32} (h : j ≠ k) : upd f k x j = f j := if_neg h
theorem pk_uLs {f : Nat → Int64} {k : Nat} {x : Int64} : vp_updL f k x k = x := if_pos rfl
theorem pk_uLn {f : Nat → Int64} {k j : Nat} {x : Int64} (h : j ≠ k) : vp_updL f k x j = f j := if_neg h
theorem pk_sub {a b : Nat} (h : b ≤ a) : nI a - nI b = nI (a - b) := by
  obtain ⟨c, rfl⟩ : ∃ c, a = c + b := ⟨a - b, by omega⟩
  rw [← nI_add, Int32.add_sub_cancel, Nat.add_sub_cancel]
theorem pk_m1 (n : Nat) : nI (n + 1) + (-1) = nI n := by
  rw [← nI_1, Int32.add_assoc, show (1 : Int32) + (-1) = 0 from rfl, Int32.add_zero]
theorem pk_mul (a b : Nat) : nI a * nI b = nI (a * b) := (Int32.ofNat_mul a b).symm
theorem pk_div {a d : Nat} (ha : a < 2 ^ 31) (h0 : 0 < d) (hd : d < 2 ^ 31) : nI a / nI d = nI (a / d) := by
  apply Int32.toInt_inj.mp
  rw [lg_idiv_nonneg (by rw [nI_toInt ha]; omega) (by rw [nI_toInt hd]; omega), nI_toInt ha, nI_toInt hd, nI_toInt (Nat.lt_of_le_of_lt (Nat.div_le_self a d) ha)]
  first | rfl | exact (Int.natCast_ediv _ _).symm
theorem pk_rem {a d : Nat} (ha : a < 2 ^ 31) (h0 : 0 < d) (hd : d < 2 ^ 31) : nI a - nI a / nI d * nI d = nI (a % d) := by
  rw [pk_div ha h0 hd, pk_mul, pk_sub (Nat.div_mul_le_self a d)]
  exact congrArg nI (by have := Nat.div_add_mod' a d; omega)
theorem pk_sub_toInt {a b : Nat} (ha : a < 2 ^ 30) (hb : b < 2 ^ 30) : (nI a - nI b).toInt = (a : Int) - b := by
  rw [Int32.toInt_sub, nI_toInt (by omega), nI_toInt (by omega)]
  exact Int.bmod_eq_of_le (by omega) (by omega)
theorem pk_sneg {a b : Nat} (hb : b < 2 ^ 30) (h : a < b) : nI a - nI b < 0 := by
  rw [Int32.lt_iff_toInt_lt, pk_sub_toInt (by omega) hb, show (0 : Int32).toInt = 0 from by decide]
  omega
theorem pk_ix (x : Int32) {n : Nat} (hn : n < 2 ^ 31) : x < 0 ∨ nI n ≤ x ∨ ∃ j : Nat, j < n ∧ x = nI j := by
  by_cases h : x < 0
  · exact Or.inl h
  · obtain ⟨j, hj, rfl⟩ := nI_of h
    by_cases h2 : j < n
    · exact Or.inr (Or.inr ⟨j, h2, rfl⟩)
    · exact Or.inr (Or.inl (nI_le (by omega) hj))
theorem pk_le {x y : Int32} {A B : Prop} (a b : Nat) (f : a ≤ b → A) (g : b < a → B) (hx : x = nI a := by rfl) (hy : y = nI b := by rfl) (ha : a < 2 ^ 31 := by omega) (hb : b < 2 ^ 31 := by omega) : (x ≤ y → A) ∧ (¬ x ≤ y → B) := by
  subst hx hy
  rw [nI_leI ha hb]
  exact ⟨f, fun z => g (by omega)⟩
theorem pk_lt {x y : Int32} {A B : Prop} (a b : Nat) (f : a < b → A) (g : b ≤ a → B) (hx : x = nI a := by rfl) (hy : y = nI b := by rfl) (ha : a < 2 ^ 31 := by omega) (hb : b < 2 ^ 31 := by omega) : (x < y → A) ∧ (¬ x < y → B) := by
  subst hx hy
  rw [nI_ltI ha hb]
  exact ⟨f, fun z => g (by omega)⟩
theorem pk_eq {x y : Int32} {A B : Prop} (a b : Nat) (f : a = b → A) (g : a ≠ b → B) (hx : x = nI a := by rfl) (hy : y = nI b := by rfl) (ha : a < 2 ^ 31 := by omega) (hb : b < 2 ^ 31 := by omega) : (x = y → A) ∧ (¬ x = y → B) := by
  subst hx hy
  rw [nI_eq ha hb]
  exact ⟨f, g⟩
theorem pk_in {x : Int32} (n N : Nat) (h : n < N) (hx : x = nI n := by rfl) (hN : N < 2 ^ 31 := by omega) : vp_in x N := by
  subst hx
  exact vp_in_nI h hN
theorem pk_cl {x : Int32} (n : Nat) (hx : x = nI n := by rfl) (h : n < 2 ^ 31 := by omega) : x.toNatClampNeg = n := by
  subst hx
  exact nI_clamp h
theorem pk_tn {n : Nat} (h : n < 2 ^ 32) : (nI n).toBitVec.toNat = n := Nat.mod_eq_of_lt h
theorem pk_and (x : Int32) {m : Int32} (k : Nat) (hm : m.toBitVec.toNat = 2 ^ k - 1) : x &&& m = nI (x.toBitVec.toNat % 2 ^ k) := by
  apply Int32.toBitVec_inj.mp
  apply BitVec.eq_of_toNat_eq
  rw [Int32.toBitVec_and, BitVec.toNat_and, hm, Nat.and_two_pow_sub_one_eq_mod]
  show _ = (BitVec.ofNat 32 _).toNat
  rw [BitVec.toNat_ofNat]
  exact (Nat.mod_eq_of_lt (Nat.lt_of_le_of_lt (Nat.mod_le _ _) x.toBitVec.isLt)).symm
theorem pk_andN {n : Nat} (h : n < 2 ^ 32) {m : Int32} (k : Nat) (hm : m.toBitVec.toNat = 2 ^ k - 1) : nI n &&& m = nI (n % 2 ^ k) := by
  rw [pk_and _ k hm, pk_tn h]
theorem pk_andE (x : Int32) {m : Int32} (k : Nat) (hm : m.toBitVec.toNat = 2 ^ k - 1) : ∃ j : Nat, j < 2 ^ k ∧ x &&& m = nI j := ⟨_, Nat.mod_lt _ (Nat.two_pow_pos k), pk_and x k hm⟩
theorem pk_andIn (x : Int32) {m : Int32} (k : Nat) (hm : m.toBitVec.toNat = 2 ^ k - 1) (hk : k ≤ 30) : vp_in (x &&& m) (2 ^ k) := by
  obtain ⟨j, hj, e⟩ := pk_andE x k hm
  rw [e]
  exact vp_in_nI hj (Nat.lt_of_le_of_lt (Nat.pow_le_pow_right (by decide) hk) (by decide))
theorem pk_shl (a s : Int32) (k : Nat) (hs : (s.toBitVec.smod 32).toNat = k) : (a <<< s).toBitVec.toNat = a.toBitVec.toNat * 2 ^ k % 2 ^ 32 := by
  show (a.toBitVec <<< (s.toBitVec.smod 32).toNat).toNat = _
  rw [hs, BitVec.toNat_shiftLeft, Nat.shiftLeft_eq]
theorem pk_shlN {n : Nat} (s : Int32) (k : Nat) (hs : (s.toBitVec.smod 32).toNat = k) (h : n * 2 ^ k < 2 ^ 32) : nI n <<< s = nI (n * 2 ^ k) := by
  apply Int32.toBitVec_inj.mp
  apply BitVec.eq_of_toNat_eq
  have hn : n < 2 ^ 32 := Nat.lt_of_le_of_lt (Nat.le_mul_of_pos_right n (Nat.two_pow_pos k)) h
  rw [pk_shl _ _ k hs, pk_tn hn, pk_tn h, Nat.mod_eq_of_lt h]
theorem pk_shr (a s : Int32) (k : Nat) (hs : (s.toBitVec.smod 32).toNat = k) : (a >>> s).toInt = a.toInt >>> k := by
  show (a.toBitVec.sshiftRight (s.toBitVec.smod 32).toNat).toInt = _
  rw [hs, BitVec.toInt_sshiftRight]
  rfl
theorem pk_shrN {n : Nat} (h : n < 2 ^ 31) (s : Int32) (k : Nat) (hs : (s.toBitVec.smod 32).toNat = k) : nI n >>> s = nI (n / 2 ^ k) := by
  apply Int32.toInt_inj.mp
  have h2 : n / 2 ^ k ≤ n := Nat.div_le_self _ _
  rw [pk_shr _ _ k hs, nI_toInt h, nI_toInt (by omega), Int.shiftRight_eq_div_pow]
  rfl
theorem pk_ushr (x s : Int32) (k : Nat) (hs : ((s.toUInt32 &&& Int32.toUInt32 31).toBitVec % 32).toNat = k) : (x.toUInt32 >>> (s.toUInt32 &&& Int32.toUInt32 31)).toInt32.toBitVec.toNat = x.toBitVec.toNat / 2 ^ k := by
  have e : (x.toUInt32 >>> (s.toUInt32 &&& Int32.toUInt32 31)).toInt32.toBitVec = x.toBitVec >>> k := by
    rw [← hs]
    exact UInt32.toBitVec_shiftRight _ _
  rw [e, BitVec.toNat_ushiftRight, Nat.shiftRight_eq_div_pow]
theorem pk_ushrN {n : Nat} (hn : n < 2 ^ 32) (s : Int32) (k : Nat) (hs : ((s.toUInt32 &&& Int32.toUInt32 31).toBitVec % 32).toNat = k) : ((nI n).toUInt32 >>> (s.toUInt32 &&& Int32.toUInt32 31)).toInt32 = nI (n / 2 ^ k) := by
  apply Int32.toBitVec_inj.mp
  apply BitVec.eq_of_toNat_eq
  rw [pk_ushr _ s k hs, pk_tn hn, pk_tn (Nat.lt_of_le_of_lt (Nat.div_le_self _ _) hn)]
theorem pk_nb (z : Int32) : narrow .byte (.int z.toInt8.toInt32) = .int z.toInt8.toInt32 := congrArg Value.int (by simp)
theorem pk_ns (z : Int32) : narrow .short (.int z.toInt16.toInt32) = .int z.toInt16.toInt32 := congrArg Value.int (by simp)
theorem pk_fb (r : Int32) : fits .byte (.int r.toInt8.toInt32) = true := by
  have ⟨a, b⟩ := lg_i2b_range r
  have h1 : (-128 : Int32).toInt = -128 := by decide
  have h2 : (127 : Int32).toInt = 127 := by decide
  simp only [fits, Bool.and_eq_true, decide_eq_true_eq, Int32.le_iff_toInt_le, h1, h2]
  omega
theorem pk_fs (r : Int32) : fits .short (.int r.toInt16.toInt32) = true := by
  have ⟨a, b⟩ := lg_i2s_range r
  have h1 : (-32768 : Int32).toInt = -32768 := by decide
  have h2 : (32767 : Int32).toInt = 32767 := by decide
  simp only [fits, Bool.and_eq_true, decide_eq_true_eq, Int32.le_iff_toInt_le, h1, h2]
  omega
theorem pk_charN {q : Nat} (hq : q < 65536) : narrow .char (.int (nI q)) = .int (nI q) ∧ fits .char (.int (nI q)) = true := by
  constructor
  · have e : (nI q).toUInt32.toUInt16.toUInt32.toInt32 = nI q := by
      apply Int32.toBitVec_inj.mp
      apply BitVec.eq_of_toNat_eq
      show (nI q).toUInt32.toUInt16.toUInt32.toNat = q % 2 ^ 32
      rw [UInt16.toNat_toUInt32, UInt32.toNat_toUInt16, show (nI q).toUInt32.toNat = q % 2 ^ 32 from rfl]
      omega
    exact congrArg Value.int e
  · have a : (0 : Int32) ≤ nI q := nI_pos' (by omega)
    have b : nI q ≤ 65535 := nI_le (b := 65535) (by omega) (by decide)
    show (decide ((0 : Int32) ≤ nI q) && decide (nI q ≤ 65535)) = true
    rw [decide_eq_true a, decide_eq_true b]
    rfl
theorem pk_char (x : Int32) : (x.toUInt32 % 65536).toInt32 = nI (x.toBitVec.toNat % 65536) := by
  apply Int32.toBitVec_inj.mp
  apply BitVec.eq_of_toNat_eq
  rw [pk_tn (by omega)]
  show (x.toUInt32 % 65536).toNat = _
  rw [UInt32.toNat_mod]
  rfl
theorem pk_nc (x : Int32) : narrow .char (.int (x.toUInt32 % 65536).toInt32) = .int (x.toUInt32 % 65536).toInt32 := by
  rw [pk_char]
  exact (pk_charN (Nat.mod_lt _ (by decide))).1
theorem pk_fc (x : Int32) : fits .char (.int (x.toUInt32 % 65536).toInt32) = true := by
  rw [pk_char]
  exact (pk_charN (Nat.mod_lt _ (by decide))).2
theorem pk_vb (z : Int32) : vp_nar .byte z.toInt8.toInt32 = z.toInt8.toInt32 := by rw [vp_nar_byte]; simp
theorem pk_vs (z : Int32) : vp_nar .short z.toInt16.toInt32 = z.toInt16.toInt32 := by rw [vp_nar_short]; simp
theorem pk_vc (z : Int32) : vp_nar .char (z.toUInt32 % 65536).toInt32 = (z.toUInt32 % 65536).toInt32 := Value.int.inj (pk_nc z)
theorem pk_lT {n : Nat} (h : n < 2 ^ 63) : (lN n).toInt = (n : Int) := lg_ofNat_toInt h
theorem pk_lLT {a b : Nat} (ha : a < 2 ^ 63) (hb : b < 2 ^ 63) : lN a < lN b ↔ a < b := by
  rw [Int64.lt_iff_toInt_lt, pk_lT ha, pk_lT hb]; omega
theorem pk_lLE {a b : Nat} (ha : a < 2 ^ 63) (hb : b < 2 ^ 63) : lN a ≤ lN b ↔ a ≤ b := by
  rw [Int64.le_iff_toInt_le, pk_lT ha, pk_lT hb]; omega
theorem pk_lEQ {a b : Nat} (ha : a < 2 ^ 63) (hb : b < 2 ^ 63) : lN a = lN b ↔ a = b := by
  rw [← Int64.toInt_inj, pk_lT ha, pk_lT hb]; omega
theorem pk_lOf {x : Int64} (h : ¬ x < 0) : ∃ k : Nat, k < 2 ^ 63 ∧ x = lN k := by
  rw [Int64.lt_iff_toInt_lt] at h
  have h0 : (0 : Int64).toInt = 0 := by decide
  have hx := Int64.toInt_lt x
  refine ⟨x.toInt.toNat, by omega, Int64.toInt_inj.mp ?_⟩
  rw [pk_lT (by omega)]
  omega
theorem pk_lDiv {a b : Nat} (ha : a < 2 ^ 63) (h0 : 0 < b) (hb : b < 2 ^ 63) : lN a / lN b = lN (a / b) := by
  apply Int64.toInt_inj.mp
  rw [lg_ldiv_nonneg (by rw [pk_lT ha]; omega) (by rw [pk_lT hb]; omega), pk_lT ha, pk_lT hb, pk_lT (Nat.lt_of_le_of_lt (Nat.div_le_self a b) ha)]
  rfl
theorem pk_lRem {a b : Nat} (ha : a < 2 ^ 63) (h0 : 0 < b) (hb : b < 2 ^ 63) : lN a - lN a / lN b * lN b = lN (a % b) := by
  rw [pk_lDiv ha h0 hb, lN_mul, lN_sub (Nat.div_mul_le_self a b)]
  exact congrArg lN (by have := Nat.div_add_mod' a b; omega)
theorem pk_loop {σ : Type} (W : Nat → Nat → σ → Prop) (I : Nat → σ → Prop) (e i0 : Nat) (s : σ) (hi : i0 ≤ e) (h0 : I i0 s) (hx : ∀ n s, I e s → W (n + 1) e s)
    (hs : ∀ n i s, i < e → I i s → (∀ s', I (i + 1) s' → W n (i + 1) s') → W (n + 1) i s) : ∃ n, W n i0 s :=
  ⟨e + 1, loop_i W I e hx hs (e + 1) i0 s hi (by omega) h0⟩
theorem pk_loopD {σ : Type} (W : Nat → Nat → σ → Prop) (I : Nat → σ → Prop) (hx : ∀ n s, I 0 s → W (n + 1) 0 s)
    (hs : ∀ n i s, I (i + 1) s → (∀ s', I i s' → W n i s') → W (n + 1) (i + 1) s) : ∀ (e : Nat) (s : σ), I e s → W (e + 1) e s := by
  intro e
  induction e with
  | zero => exact fun s h => hx 0 s h
  | succ e ih => exact fun s h => hs (e + 1) e s h (fun s' h' => ih s' h')
theorem lp1 {A1 : Type} (W : Nat → A1 → Prop) (I : A1 → Prop) (μ : A1 → Nat) (hs : ∀ (n : Nat) (a1 : A1), I a1 → (∀ (b1 : A1), I b1 → μ b1 < μ a1 → W n b1) → W (n + 1) a1) (a1 : A1) (h : I a1) : ∃ n, W n a1 :=
  loop_m (σ := A1) (fun n s => W n s) (fun s => I s) (fun s => μ s) (fun n s hI hk => hs n s hI (fun b1 h9 hm => hk b1 h9 hm)) a1 h
theorem lp2 {A1 A2 : Type} (W : Nat → A1 → A2 → Prop) (I : A1 → A2 → Prop) (μ : A1 → A2 → Nat) (hs : ∀ (n : Nat) (a1 : A1) (a2 : A2), I a1 a2 → (∀ (b1 : A1) (b2 : A2), I b1 b2 → μ b1 b2 < μ a1 a2 → W n b1 b2) → W (n + 1) a1 a2) (a1 : A1) (a2 : A2) (h : I a1 a2) : ∃ n, W n a1 a2 :=
  loop_m (σ := A1 × A2) (fun n s => W n s.1 s.2) (fun s => I s.1 s.2) (fun s => μ s.1 s.2) (fun n s hI hk => hs n s.1 s.2 hI (fun b1 b2 h9 hm => hk (b1, b2) h9 hm)) (a1, a2) h
theorem lp3 {A1 A2 A3 : Type} (W : Nat → A1 → A2 → A3 → Prop) (I : A1 → A2 → A3 → Prop) (μ : A1 → A2 → A3 → Nat) (hs : ∀ (n : Nat) (a1 : A1) (a2 : A2) (a3 : A3), I a1 a2 a3 → (∀ (b1 : A1) (b2 : A2) (b3 : A3), I b1 b2 b3 → μ b1 b2 b3 < μ a1 a2 a3 → W n b1 b2 b3) → W (n + 1) a1 a2 a3) (a1 : A1) (a2 : A2) (a3 : A3) (h : I a1 a2 a3) : ∃ n, W n a1 a2 a3 :=
  loop_m (σ := A1 × A2 × A3) (fun n s => W n s.1 s.2.1 s.2.2) (fun s => I s.1 s.2.1 s.2.2) (fun s => μ s.1 s.2.1 s.2.2) (fun n s hI hk => hs n s.1 s.2.1 s.2.2 hI (fun b1 b2 b3 h9 hm => hk (b1, b2, b3) h9 hm)) (a1, a2, a3) h
theorem lp4 {A1 A2 A3 A4 : Type} (W : Nat → A1 → A2 → A3 → A4 → Prop) (I : A1 → A2 → A3 → A4 → Prop) (μ : A1 → A2 → A3 → A4 → Nat) (hs : ∀ (n : Nat) (a1 : A1) (a2 : A2) (a3 : A3) (a4 : A4), I a1 a2 a3 a4 → (∀ (b1 : A1) (b2 : A2) (b3 : A3) (b4 : A4), I b1 b2 b3 b4 → μ b1 b2 b3 b4 < μ a1 a2 a3 a4 → W n b1 b2 b3 b4) → W (n + 1) a1 a2 a3 a4) (a1 : A1) (a2 : A2) (a3 : A3) (a4 : A4) (h : I a1 a2 a3 a4) : ∃ n, W n a1 a2 a3 a4 :=
  loop_m (σ := A1 × A2 × A3 × A4) (fun n s => W n s.1 s.2.1 s.2.2.1 s.2.2.2) (fun s => I s.1 s.2.1 s.2.2.1 s.2.2.2) (fun s => μ s.1 s.2.1 s.2.2.1 s.2.2.2) (fun n s hI hk => hs n s.1 s.2.1 s.2.2.1 s.2.2.2 hI (fun b1 b2 b3 b4 h9 hm => hk (b1, b2, b3, b4) h9 hm)) (a1, a2, a3, a4) h
theorem lp5 {A1 A2 A3 A4 A5 : Type} (W : Nat → A1 → A2 → A3 → A4 → A5 → Prop) (I : A1 → A2 → A3 → A4 → A5 → Prop) (μ : A1 → A2 → A3 → A4 → A5 → Nat) (hs : ∀ (n : Nat) (a1 : A1) (a2 : A2) (a3 : A3) (a4 : A4) (a5 : A5), I a1 a2 a3 a4 a5 → (∀ (b1 : A1) (b2 : A2) (b3 : A3) (b4 : A4) (b5 : A5), I b1 b2 b3 b4 b5 → μ b1 b2 b3 b4 b5 < μ a1 a2 a3 a4 a5 → W n b1 b2 b3 b4 b5) → W (n + 1) a1 a2 a3 a4 a5) (a1 : A1) (a2 : A2) (a3 : A3) (a4 : A4) (a5 : A5) (h : I a1 a2 a3 a4 a5) : ∃ n, W n a1 a2 a3 a4 a5 :=
  loop_m (σ := A1 × A2 × A3 × A4 × A5) (fun n s => W n s.1 s.2.1 s.2.2.1 s.2.2.2.1 s.2.2.2.2) (fun s => I s.1 s.2.1 s.2.2.1 s.2.2.2.1 s.2.2.2.2) (fun s => μ s.1 s.2.1 s.2.2.1 s.2.2.2.1 s.2.2.2.2) (fun n s hI hk => hs n s.1 s.2.1 s.2.2.1 s.2.2.2.1 s.2.2.2.2 hI (fun b1 b2 b3 b4 b5 h9 hm => hk (b1, b2, b3, b4, b5) h9 hm)) (a1, a2, a3, a4, a5) h
theorem lp6 {A1 A2 A3 A4 A5 A6 : Type} (W : Nat → A1 → A2 → A3 → A4 → A5 → A6 → Prop) (I : A1 → A2 → A3 → A4 → A5 → A6 → Prop) (μ : A1 → A2 → A3 → A4 → A5 → A6 → Nat) (hs : ∀ (n : Nat) (a1 : A1) (a2 : A2) (a3 : A3) (a4 : A4) (a5 : A5) (a6 : A6), I a1 a2 a3 a4 a5 a6 → (∀ (b1 : A1) (b2 : A2) (b3 : A3) (b4 : A4) (b5 : A5) (b6 : A6), I b1 b2 b3 b4 b5 b6 → μ b1 b2 b3 b4 b5 b6 < μ a1 a2 a3 a4 a5 a6 → W n b1 b2 b3 b4 b5 b6) → W (n + 1) a1 a2 a3 a4 a5 a6) (a1 : A1) (a2 : A2) (a3 : A3) (a4 : A4) (a5 : A5) (a6 : A6) (h : I a1 a2 a3 a4 a5 a6) : ∃ n, W n a1 a2 a3 a4 a5 a6 :=
  loop_m (σ := A1 × A2 × A3 × A4 × A5 × A6) (fun n s => W n s.1 s.2.1 s.2.2.1 s.2.2.2.1 s.2.2.2.2.1 s.2.2.2.2.2) (fun s => I s.1 s.2.1 s.2.2.1 s.2.2.2.1 s.2.2.2.2.1 s.2.2.2.2.2) (fun s => μ s.1 s.2.1 s.2.2.1 s.2.2.2.1 s.2.2.2.2.1 s.2.2.2.2.2) (fun n s hI hk => hs n s.1 s.2.1 s.2.2.1 s.2.2.2.1 s.2.2.2.2.1 s.2.2.2.2.2 hI (fun b1 b2 b3 b4 b5 b6 h9 hm => hk (b1, b2, b3, b4, b5, b6) h9 hm)) (a1, a2, a3, a4, a5, a6) h
theorem lp7 {A1 A2 A3 A4 A5 A6 A7 : Type} (W : Nat → A1 → A2 → A3 → A4 → A5 → A6 → A7 → Prop) (I : A1 → A2 → A3 → A4 → A5 → A6 → A7 → Prop) (μ : A1 → A2 → A3 → A4 → A5 → A6 → A7 → Nat) (hs : ∀ (n : Nat) (a1 : A1) (a2 : A2) (a3 : A3) (a4 : A4) (a5 : A5) (a6 : A6) (a7 : A7), I a1 a2 a3 a4 a5 a6 a7 → (∀ (b1 : A1) (b2 : A2) (b3 : A3) (b4 : A4) (b5 : A5) (b6 : A6) (b7 : A7), I b1 b2 b3 b4 b5 b6 b7 → μ b1 b2 b3 b4 b5 b6 b7 < μ a1 a2 a3 a4 a5 a6 a7 → W n b1 b2 b3 b4 b5 b6 b7) → W (n + 1) a1 a2 a3 a4 a5 a6 a7) (a1 : A1) (a2 : A2) (a3 : A3) (a4 : A4) (a5 : A5) (a6 : A6) (a7 : A7) (h : I a1 a2 a3 a4 a5 a6 a7) : ∃ n, W n a1 a2 a3 a4 a5 a6 a7 :=
  loop_m (σ := A1 × A2 × A3 × A4 × A5 × A6 × A7) (fun n s => W n s.1 s.2.1 s.2.2.1 s.2.2.2.1 s.2.2.2.2.1 s.2.2.2.2.2.1 s.2.2.2.2.2.2) (fun s => I s.1 s.2.1 s.2.2.1 s.2.2.2.1 s.2.2.2.2.1 s.2.2.2.2.2.1 s.2.2.2.2.2.2) (fun s => μ s.1 s.2.1 s.2.2.1 s.2.2.2.1 s.2.2.2.2.1 s.2.2.2.2.2.1 s.2.2.2.2.2.2) (fun n s hI hk => hs n s.1 s.2.1 s.2.2.1 s.2.2.2.1 s.2.2.2.2.1 s.2.2.2.2.2.1 s.2.2.2.2.2.2 hI (fun b1 b2 b3 b4 b5 b6 b7 h9 hm => hk (b1, b2, b3, b4, b5, b6, b7) h9 hm)) (a1, a2, a3, a4, a5, a6, a7) h
theorem lp8 {A1 A2 A3 A4 A5 A6 A7 A8 : Type} (W : Nat → A1 → A2 → A3 → A4 → A5 → A6 → A7 → A8 → Prop) (I : A1 → A2 → A3 → A4 → A5 → A6 → A7 → A8 → Prop) (μ : A1 → A2 → A3 → A4 → A5 → A6 → A7 → A8 → Nat) (hs : ∀ (n : Nat) (a1 : A1) (a2 : A2) (a3 : A3) (a4 : A4) (a5 : A5) (a6 : A6) (a7 : A7) (a8 : A8), I a1 a2 a3 a4 a5 a6 a7 a8 → (∀ (b1 : A1) (b2 : A2) (b3 : A3) (b4 : A4) (b5 : A5) (b6 : A6) (b7 : A7) (b8 : A8), I b1 b2 b3 b4 b5 b6 b7 b8 → μ b1 b2 b3 b4 b5 b6 b7 b8 < μ a1 a2 a3 a4 a5 a6 a7 a8 → W n b1 b2 b3 b4 b5 b6 b7 b8) → W (n + 1) a1 a2 a3 a4 a5 a6 a7 a8) (a1 : A1) (a2 : A2) (a3 : A3) (a4 : A4) (a5 : A5) (a6 : A6) (a7 : A7) (a8 : A8) (h : I a1 a2 a3 a4 a5 a6 a7 a8) : ∃ n, W n a1 a2 a3 a4 a5 a6 a7 a8 :=
  loop_m (σ := A1 × A2 × A3 × A4 × A5 × A6 × A7 × A8) (fun n s => W n s.1 s.2.1 s.2.2.1 s.2.2.2.1 s.2.2.2.2.1 s.2.2.2.2.2.1 s.2.2.2.2.2.2.1 s.2.2.2.2.2.2.2) (fun s => I s.1 s.2.1 s.2.2.1 s.2.2.2.1 s.2.2.2.2.1 s.2.2.2.2.2.1 s.2.2.2.2.2.2.1 s.2.2.2.2.2.2.2) (fun s => μ s.1 s.2.1 s.2.2.1 s.2.2.2.1 s.2.2.2.2.1 s.2.2.2.2.2.1 s.2.2.2.2.2.2.1 s.2.2.2.2.2.2.2) (fun n s hI hk => hs n s.1 s.2.1 s.2.2.1 s.2.2.2.1 s.2.2.2.2.1 s.2.2.2.2.2.1 s.2.2.2.2.2.2.1 s.2.2.2.2.2.2.2 hI (fun b1 b2 b3 b4 b5 b6 b7 b8 h9 hm => hk (b1, b2, b3, b4, b5, b6, b7, b8) h9 hm)) (a1, a2, a3, a4, a5, a6, a7, a8) h
theorem lp9 {A1 A2 A3 A4 A5 A6 A7 A8 A9 : Type} (W : Nat → A1 → A2 → A3 → A4 → A5 → A6 → A7 → A8 → A9 → Prop) (I : A1 → A2 → A3 → A4 → A5 → A6 → A7 → A8 → A9 → Prop) (μ : A1 → A2 → A3 → A4 → A5 → A6 → A7 → A8 → A9 → Nat) (hs : ∀ (n : Nat) (a1 : A1) (a2 : A2) (a3 : A3) (a4 : A4) (a5 : A5) (a6 : A6) (a7 : A7) (a8 : A8) (a9 : A9), I a1 a2 a3 a4 a5 a6 a7 a8 a9 → (∀ (b1 : A1) (b2 : A2) (b3 : A3) (b4 : A4) (b5 : A5) (b6 : A6) (b7 : A7) (b8 : A8) (b9 : A9), I b1 b2 b3 b4 b5 b6 b7 b8 b9 → μ b1 b2 b3 b4 b5 b6 b7 b8 b9 < μ a1 a2 a3 a4 a5 a6 a7 a8 a9 → W n b1 b2 b3 b4 b5 b6 b7 b8 b9) → W (n + 1) a1 a2 a3 a4 a5 a6 a7 a8 a9) (a1 : A1) (a2 : A2) (a3 : A3) (a4 : A4) (a5 : A5) (a6 : A6) (a7 : A7) (a8 : A8) (a9 : A9) (h : I a1 a2 a3 a4 a5 a6 a7 a8 a9) : ∃ n, W n a1 a2 a3 a4 a5 a6 a7 a8 a9 :=
  loop_m (σ := A1 × A2 × A3 × A4 × A5 × A6 × A7 × A8 × A9) (fun n s => W n s.1 s.2.1 s.2.2.1 s.2.2.2.1 s.2.2.2.2.1 s.2.2.2.2.2.1 s.2.2.2.2.2.2.1 s.2.2.2.2.2.2.2.1 s.2.2.2.2.2.2.2.2) (fun s => I s.1 s.2.1 s.2.2.1 s.2.2.2.1 s.2.2.2.2.1 s.2.2.2.2.2.1 s.2.2.2.2.2.2.1 s.2.2.2.2.2.2.2.1 s.2.2.2.2.2.2.2.2) (fun s => μ s.1 s.2.1 s.2.2.1 s.2.2.2.1 s.2.2.2.2.1 s.2.2.2.2.2.1 s.2.2.2.2.2.2.1 s.2.2.2.2.2.2.2.1 s.2.2.2.2.2.2.2.2) (fun n s hI hk => hs n s.1 s.2.1 s.2.2.1 s.2.2.2.1 s.2.2.2.2.1 s.2.2.2.2.2.1 s.2.2.2.2.2.2.1 s.2.2.2.2.2.2.2.1 s.2.2.2.2.2.2.2.2 hI (fun b1 b2 b3 b4 b5 b6 b7 b8 b9 h9 hm => hk (b1, b2, b3, b4, b5, b6, b7, b8, b9) h9 hm)) (a1, a2, a3, a4, a5, a6, a7, a8, a9) h
theorem lp10 {A1 A2 A3 A4 A5 A6 A7 A8 A9 A10 : Type} (W : Nat → A1 → A2 → A3 → A4 → A5 → A6 → A7 → A8 → A9 → A10 → Prop) (I : A1 → A2 → A3 → A4 → A5 → A6 → A7 → A8 → A9 → A10 → Prop) (μ : A1 → A2 → A3 → A4 → A5 → A6 → A7 → A8 → A9 → A10 → Nat) (hs : ∀ (n : Nat) (a1 : A1) (a2 : A2) (a3 : A3) (a4 : A4) (a5 : A5) (a6 : A6) (a7 : A7) (a8 : A8) (a9 : A9) (a10 : A10), I a1 a2 a3 a4 a5 a6 a7 a8 a9 a10 → (∀ (b1 : A1) (b2 : A2) (b3 : A3) (b4 : A4) (b5 : A5) (b6 : A6) (b7 : A7) (b8 : A8) (b9 : A9) (b10 : A10), I b1 b2 b3 b4 b5 b6 b7 b8 b9 b10 → μ b1 b2 b3 b4 b5 b6 b7 b8 b9 b10 < μ a1 a2 a3 a4 a5 a6 a7 a8 a9 a10 → W n b1 b2 b3 b4 b5 b6 b7 b8 b9 b10) → W (n + 1) a1 a2 a3 a4 a5 a6 a7 a8 a9 a10) (a1 : A1) (a2 : A2) (a3 : A3) (a4 : A4) (a5 : A5) (a6 : A6) (a7 : A7) (a8 : A8) (a9 : A9) (a10 : A10) (h : I a1 a2 a3 a4 a5 a6 a7 a8 a9 a10) : ∃ n, W n a1 a2 a3 a4 a5 a6 a7 a8 a9 a10 :=
  loop_m (σ := A1 × A2 × A3 × A4 × A5 × A6 × A7 × A8 × A9 × A10) (fun n s => W n s.1 s.2.1 s.2.2.1 s.2.2.2.1 s.2.2.2.2.1 s.2.2.2.2.2.1 s.2.2.2.2.2.2.1 s.2.2.2.2.2.2.2.1 s.2.2.2.2.2.2.2.2.1 s.2.2.2.2.2.2.2.2.2) (fun s => I s.1 s.2.1 s.2.2.1 s.2.2.2.1 s.2.2.2.2.1 s.2.2.2.2.2.1 s.2.2.2.2.2.2.1 s.2.2.2.2.2.2.2.1 s.2.2.2.2.2.2.2.2.1 s.2.2.2.2.2.2.2.2.2) (fun s => μ s.1 s.2.1 s.2.2.1 s.2.2.2.1 s.2.2.2.2.1 s.2.2.2.2.2.1 s.2.2.2.2.2.2.1 s.2.2.2.2.2.2.2.1 s.2.2.2.2.2.2.2.2.1 s.2.2.2.2.2.2.2.2.2) (fun n s hI hk => hs n s.1 s.2.1 s.2.2.1 s.2.2.2.1 s.2.2.2.2.1 s.2.2.2.2.2.1 s.2.2.2.2.2.2.1 s.2.2.2.2.2.2.2.1 s.2.2.2.2.2.2.2.2.1 s.2.2.2.2.2.2.2.2.2 hI (fun b1 b2 b3 b4 b5 b6 b7 b8 b9 b10 h9 hm => hk (b1, b2, b3, b4, b5, b6, b7, b8, b9, b10) h9 hm)) (a1, a2, a3, a4, a5, a6, a7, a8, a9, a10) h
theorem lp11 {A1 A2 A3 A4 A5 A6 A7 A8 A9 A10 A11 : Type} (W : Nat → A1 → A2 → A3 → A4 → A5 → A6 → A7 → A8 → A9 → A10 → A11 → Prop) (I : A1 → A2 → A3 → A4 → A5 → A6 → A7 → A8 → A9 → A10 → A11 → Prop) (μ : A1 → A2 → A3 → A4 → A5 → A6 → A7 → A8 → A9 → A10 → A11 → Nat) (hs : ∀ (n : Nat) (a1 : A1) (a2 : A2) (a3 : A3) (a4 : A4) (a5 : A5) (a6 : A6) (a7 : A7) (a8 : A8) (a9 : A9) (a10 : A10) (a11 : A11), I a1 a2 a3 a4 a5 a6 a7 a8 a9 a10 a11 → (∀ (b1 : A1) (b2 : A2) (b3 : A3) (b4 : A4) (b5 : A5) (b6 : A6) (b7 : A7) (b8 : A8) (b9 : A9) (b10 : A10) (b11 : A11), I b1 b2 b3 b4 b5 b6 b7 b8 b9 b10 b11 → μ b1 b2 b3 b4 b5 b6 b7 b8 b9 b10 b11 < μ a1 a2 a3 a4 a5 a6 a7 a8 a9 a10 a11 → W n b1 b2 b3 b4 b5 b6 b7 b8 b9 b10 b11) → W (n + 1) a1 a2 a3 a4 a5 a6 a7 a8 a9 a10 a11) (a1 : A1) (a2 : A2) (a3 : A3) (a4 : A4) (a5 : A5) (a6 : A6) (a7 : A7) (a8 : A8) (a9 : A9) (a10 : A10) (a11 : A11) (h : I a1 a2 a3 a4 a5 a6 a7 a8 a9 a10 a11) : ∃ n, W n a1 a2 a3 a4 a5 a6 a7 a8 a9 a10 a11 :=
  loop_m (σ := A1 × A2 × A3 × A4 × A5 × A6 × A7 × A8 × A9 × A10 × A11) (fun n s => W n s.1 s.2.1 s.2.2.1 s.2.2.2.1 s.2.2.2.2.1 s.2.2.2.2.2.1 s.2.2.2.2.2.2.1 s.2.2.2.2.2.2.2.1 s.2.2.2.2.2.2.2.2.1 s.2.2.2.2.2.2.2.2.2.1 s.2.2.2.2.2.2.2.2.2.2) (fun s => I s.1 s.2.1 s.2.2.1 s.2.2.2.1 s.2.2.2.2.1 s.2.2.2.2.2.1 s.2.2.2.2.2.2.1 s.2.2.2.2.2.2.2.1 s.2.2.2.2.2.2.2.2.1 s.2.2.2.2.2.2.2.2.2.1 s.2.2.2.2.2.2.2.2.2.2) (fun s => μ s.1 s.2.1 s.2.2.1 s.2.2.2.1 s.2.2.2.2.1 s.2.2.2.2.2.1 s.2.2.2.2.2.2.1 s.2.2.2.2.2.2.2.1 s.2.2.2.2.2.2.2.2.1 s.2.2.2.2.2.2.2.2.2.1 s.2.2.2.2.2.2.2.2.2.2) (fun n s hI hk => hs n s.1 s.2.1 s.2.2.1 s.2.2.2.1 s.2.2.2.2.1 s.2.2.2.2.2.1 s.2.2.2.2.2.2.1 s.2.2.2.2.2.2.2.1 s.2.2.2.2.2.2.2.2.1 s.2.2.2.2.2.2.2.2.2.1 s.2.2.2.2.2.2.2.2.2.2 hI (fun b1 b2 b3 b4 b5 b6 b7 b8 b9 b10 b11 h9 hm => hk (b1, b2, b3, b4, b5, b6, b7, b8, b9, b10, b11) h9 hm)) (a1, a2, a3, a4, a5, a6, a7, a8, a9, a10, a11) h
theorem lp12 {A1 A2 A3 A4 A5 A6 A7 A8 A9 A10 A11 A12 : Type} (W : Nat → A1 → A2 → A3 → A4 → A5 → A6 → A7 → A8 → A9 → A10 → A11 → A12 → Prop) (I : A1 → A2 → A3 → A4 → A5 → A6 → A7 → A8 → A9 → A10 → A11 → A12 → Prop) (μ : A1 → A2 → A3 → A4 → A5 → A6 → A7 → A8 → A9 → A10 → A11 → A12 → Nat) (hs : ∀ (n : Nat) (a1 : A1) (a2 : A2) (a3 : A3) (a4 : A4) (a5 : A5) (a6 : A6) (a7 : A7) (a8 : A8) (a9 : A9) (a10 : A10) (a11 : A11) (a12 : A12), I a1 a2 a3 a4 a5 a6 a7 a8 a9 a10 a11 a12 → (∀ (b1 : A1) (b2 : A2) (b3 : A3) (b4 : A4) (b5 : A5) (b6 : A6) (b7 : A7) (b8 : A8) (b9 : A9) (b10 : A10) (b11 : A11) (b12 : A12), I b1 b2 b3 b4 b5 b6 b7 b8 b9 b10 b11 b12 → μ b1 b2 b3 b4 b5 b6 b7 b8 b9 b10 b11 b12 < μ a1 a2 a3 a4 a5 a6 a7 a8 a9 a10 a11 a12 → W n b1 b2 b3 b4 b5 b6 b7 b8 b9 b10 b11 b12) → W (n + 1) a1 a2 a3 a4 a5 a6 a7 a8 a9 a10 a11 a12) (a1 : A1) (a2 : A2) (a3 : A3) (a4 : A4) (a5 : A5) (a6 : A6) (a7 : A7) (a8 : A8) (a9 : A9) (a10 : A10) (a11 : A11) (a12 : A12) (h : I a1 a2 a3 a4 a5 a6 a7 a8 a9 a10 a11 a12) : ∃ n, W n a1 a2 a3 a4 a5 a6 a7 a8 a9 a10 a11 a12 :=
  loop_m (σ := A1 × A2 × A3 × A4 × A5 × A6 × A7 × A8 × A9 × A10 × A11 × A12) (fun n s => W n s.1 s.2.1 s.2.2.1 s.2.2.2.1 s.2.2.2.2.1 s.2.2.2.2.2.1 s.2.2.2.2.2.2.1 s.2.2.2.2.2.2.2.1 s.2.2.2.2.2.2.2.2.1 s.2.2.2.2.2.2.2.2.2.1 s.2.2.2.2.2.2.2.2.2.2.1 s.2.2.2.2.2.2.2.2.2.2.2) (fun s => I s.1 s.2.1 s.2.2.1 s.2.2.2.1 s.2.2.2.2.1 s.2.2.2.2.2.1 s.2.2.2.2.2.2.1 s.2.2.2.2.2.2.2.1 s.2.2.2.2.2.2.2.2.1 s.2.2.2.2.2.2.2.2.2.1 s.2.2.2.2.2.2.2.2.2.2.1 s.2.2.2.2.2.2.2.2.2.2.2) (fun s => μ s.1 s.2.1 s.2.2.1 s.2.2.2.1 s.2.2.2.2.1 s.2.2.2.2.2.1 s.2.2.2.2.2.2.1 s.2.2.2.2.2.2.2.1 s.2.2.2.2.2.2.2.2.1 s.2.2.2.2.2.2.2.2.2.1 s.2.2.2.2.2.2.2.2.2.2.1 s.2.2.2.2.2.2.2.2.2.2.2) (fun n s hI hk => hs n s.1 s.2.1 s.2.2.1 s.2.2.2.1 s.2.2.2.2.1 s.2.2.2.2.2.1 s.2.2.2.2.2.2.1 s.2.2.2.2.2.2.2.1 s.2.2.2.2.2.2.2.2.1 s.2.2.2.2.2.2.2.2.2.1 s.2.2.2.2.2.2.2.2.2.2.1 s.2.2.2.2.2.2.2.2.2.2.2 hI (fun b1 b2 b3 b4 b5 b6 b7 b8 b9 b10 b11 b12 h9 hm => hk (b1, b2, b3, b4, b5, b6, b7, b8, b9, b10, b11, b12) h9 hm)) (a1, a2, a3, a4, a5, a6, a7, a8, a9, a10, a11, a12) h
theorem lp13 {A1 A2 A3 A4 A5 A6 A7 A8 A9 A10 A11 A12 A13 : Type} (W : Nat → A1 → A2 → A3 → A4 → A5 → A6 → A7 → A8 → A9 → A10 → A11 → A12 → A13 → Prop) (I : A1 → A2 → A3 → A4 → A5 → A6 → A7 → A8 → A9 → A10 → A11 → A12 → A13 → Prop) (μ : A1 → A2 → A3 → A4 → A5 → A6 → A7 → A8 → A9 → A10 → A11 → A12 → A13 → Nat) (hs : ∀ (n : Nat) (a1 : A1) (a2 : A2) (a3 : A3) (a4 : A4) (a5 : A5) (a6 : A6) (a7 : A7) (a8 : A8) (a9 : A9) (a10 : A10) (a11 : A11) (a12 : A12) (a13 : A13), I a1 a2 a3 a4 a5 a6 a7 a8 a9 a10 a11 a12 a13 → (∀ (b1 : A1) (b2 : A2) (b3 : A3) (b4 : A4) (b5 : A5) (b6 : A6) (b7 : A7) (b8 : A8) (b9 : A9) (b10 : A10) (b11 : A11) (b12 : A12) (b13 : A13), I b1 b2 b3 b4 b5 b6 b7 b8 b9 b10 b11 b12 b13 → μ b1 b2 b3 b4 b5 b6 b7 b8 b9 b10 b11 b12 b13 < μ a1 a2 a3 a4 a5 a6 a7 a8 a9 a10 a11 a12 a13 → W n b1 b2 b3 b4 b5 b6 b7 b8 b9 b10 b11 b12 b13) → W (n + 1) a1 a2 a3 a4 a5 a6 a7 a8 a9 a10 a11 a12 a13) (a1 : A1) (a2 : A2) (a3 : A3) (a4 : A4) (a5 : A5) (a6 : A6) (a7 : A7) (a8 : A8) (a9 : A9) (a10 : A10) (a11 : A11) (a12 : A12) (a13 : A13) (h : I a1 a2 a3 a4 a5 a6 a7 a8 a9 a10 a11 a12 a13) : ∃ n, W n a1 a2 a3 a4 a5 a6 a7 a8 a9 a10 a11 a12 a13 :=
  loop_m (σ := A1 × A2 × A3 × A4 × A5 × A6 × A7 × A8 × A9 × A10 × A11 × A12 × A13) (fun n s => W n s.1 s.2.1 s.2.2.1 s.2.2.2.1 s.2.2.2.2.1 s.2.2.2.2.2.1 s.2.2.2.2.2.2.1 s.2.2.2.2.2.2.2.1 s.2.2.2.2.2.2.2.2.1 s.2.2.2.2.2.2.2.2.2.1 s.2.2.2.2.2.2.2.2.2.2.1 s.2.2.2.2.2.2.2.2.2.2.2.1 s.2.2.2.2.2.2.2.2.2.2.2.2) (fun s => I s.1 s.2.1 s.2.2.1 s.2.2.2.1 s.2.2.2.2.1 s.2.2.2.2.2.1 s.2.2.2.2.2.2.1 s.2.2.2.2.2.2.2.1 s.2.2.2.2.2.2.2.2.1 s.2.2.2.2.2.2.2.2.2.1 s.2.2.2.2.2.2.2.2.2.2.1 s.2.2.2.2.2.2.2.2.2.2.2.1 s.2.2.2.2.2.2.2.2.2.2.2.2) (fun s => μ s.1 s.2.1 s.2.2.1 s.2.2.2.1 s.2.2.2.2.1 s.2.2.2.2.2.1 s.2.2.2.2.2.2.1 s.2.2.2.2.2.2.2.1 s.2.2.2.2.2.2.2.2.1 s.2.2.2.2.2.2.2.2.2.1 s.2.2.2.2.2.2.2.2.2.2.1 s.2.2.2.2.2.2.2.2.2.2.2.1 s.2.2.2.2.2.2.2.2.2.2.2.2) (fun n s hI hk => hs n s.1 s.2.1 s.2.2.1 s.2.2.2.1 s.2.2.2.2.1 s.2.2.2.2.2.1 s.2.2.2.2.2.2.1 s.2.2.2.2.2.2.2.1 s.2.2.2.2.2.2.2.2.1 s.2.2.2.2.2.2.2.2.2.1 s.2.2.2.2.2.2.2.2.2.2.1 s.2.2.2.2.2.2.2.2.2.2.2.1 s.2.2.2.2.2.2.2.2.2.2.2.2 hI (fun b1 b2 b3 b4 b5 b6 b7 b8 b9 b10 b11 b12 b13 h9 hm => hk (b1, b2, b3, b4, b5, b6, b7, b8, b9, b10, b11, b12, b13) h9 hm)) (a1, a2, a3, a4, a5, a6, a7, a8, a9, a10, a11, a12, a13) h
theorem lp14 {A1 A2 A3 A4 A5 A6 A7 A8 A9 A10 A11 A12 A13 A14 : Type} (W : Nat → A1 → A2 → A3 → A4 → A5 → A6 → A7 → A8 → A9 → A10 → A11 → A12 → A13 → A14 → Prop) (I : A1 → A2 → A3 → A4 → A5 → A6 → A7 → A8 → A9 → A10 → A11 → A12 → A13 → A14 → Prop) (μ : A1 → A2 → A3 → A4 → A5 → A6 → A7 → A8 → A9 → A10 → A11 → A12 → A13 → A14 → Nat) (hs : ∀ (n : Nat) (a1 : A1) (a2 : A2) (a3 : A3) (a4 : A4) (a5 : A5) (a6 : A6) (a7 : A7) (a8 : A8) (a9 : A9) (a10 : A10) (a11 : A11) (a12 : A12) (a13 : A13) (a14 : A14), I a1 a2 a3 a4 a5 a6 a7 a8 a9 a10 a11 a12 a13 a14 → (∀ (b1 : A1) (b2 : A2) (b3 : A3) (b4 : A4) (b5 : A5) (b6 : A6) (b7 : A7) (b8 : A8) (b9 : A9) (b10 : A10) (b11 : A11) (b12 : A12) (b13 : A13) (b14 : A14), I b1 b2 b3 b4 b5 b6 b7 b8 b9 b10 b11 b12 b13 b14 → μ b1 b2 b3 b4 b5 b6 b7 b8 b9 b10 b11 b12 b13 b14 < μ a1 a2 a3 a4 a5 a6 a7 a8 a9 a10 a11 a12 a13 a14 → W n b1 b2 b3 b4 b5 b6 b7 b8 b9 b10 b11 b12 b13 b14) → W (n + 1) a1 a2 a3 a4 a5 a6 a7 a8 a9 a10 a11 a12 a13 a14) (a1 : A1) (a2 : A2) (a3 : A3) (a4 : A4) (a5 : A5) (a6 : A6) (a7 : A7) (a8 : A8) (a9 : A9) (a10 : A10) (a11 : A11) (a12 : A12) (a13 : A13) (a14 : A14) (h : I a1 a2 a3 a4 a5 a6 a7 a8 a9 a10 a11 a12 a13 a14) : ∃ n, W n a1 a2 a3 a4 a5 a6 a7 a8 a9 a10 a11 a12 a13 a14 :=
  loop_m (σ := A1 × A2 × A3 × A4 × A5 × A6 × A7 × A8 × A9 × A10 × A11 × A12 × A13 × A14) (fun n s => W n s.1 s.2.1 s.2.2.1 s.2.2.2.1 s.2.2.2.2.1 s.2.2.2.2.2.1 s.2.2.2.2.2.2.1 s.2.2.2.2.2.2.2.1 s.2.2.2.2.2.2.2.2.1 s.2.2.2.2.2.2.2.2.2.1 s.2.2.2.2.2.2.2.2.2.2.1 s.2.2.2.2.2.2.2.2.2.2.2.1 s.2.2.2.2.2.2.2.2.2.2.2.2.1 s.2.2.2.2.2.2.2.2.2.2.2.2.2) (fun s => I s.1 s.2.1 s.2.2.1 s.2.2.2.1 s.2.2.2.2.1 s.2.2.2.2.2.1 s.2.2.2.2.2.2.1 s.2.2.2.2.2.2.2.1 s.2.2.2.2.2.2.2.2.1 s.2.2.2.2.2.2.2.2.2.1 s.2.2.2.2.2.2.2.2.2.2.1 s.2.2.2.2.2.2.2.2.2.2.2.1 s.2.2.2.2.2.2.2.2.2.2.2.2.1 s.2.2.2.2.2.2.2.2.2.2.2.2.2) (fun s => μ s.1 s.2.1 s.2.2.1 s.2.2.2.1 s.2.2.2.2.1 s.2.2.2.2.2.1 s.2.2.2.2.2.2.1 s.2.2.2.2.2.2.2.1 s.2.2.2.2.2.2.2.2.1 s.2.2.2.2.2.2.2.2.2.1 s.2.2.2.2.2.2.2.2.2.2.1 s.2.2.2.2.2.2.2.2.2.2.2.1 s.2.2.2.2.2.2.2.2.2.2.2.2.1 s.2.2.2.2.2.2.2.2.2.2.2.2.2) (fun n s hI hk => hs n s.1 s.2.1 s.2.2.1 s.2.2.2.1 s.2.2.2.2.1 s.2.2.2.2.2.1 s.2.2.2.2.2.2.1 s.2.2.2.2.2.2.2.1 s.2.2.2.2.2.2.2.2.1 s.2.2.2.2.2.2.2.2.2.1 s.2.2.2.2.2.2.2.2.2.2.1 s.2.2.2.2.2.2.2.2.2.2.2.1 s.2.2.2.2.2.2.2.2.2.2.2.2.1 s.2.2.2.2.2.2.2.2.2.2.2.2.2 hI (fun b1 b2 b3 b4 b5 b6 b7 b8 b9 b10 b11 b12 b13 b14 h9 hm => hk (b1, b2, b3, b4, b5, b6, b7, b8, b9, b10, b11, b12, b13, b14) h9 hm)) (a1, a2, a3, a4, a5, a6, a7, a8, a9, a10, a11, a12, a13, a14) h
theorem lp15 {A1 A2 A3 A4 A5 A6 A7 A8 A9 A10 A11 A12 A13 A14 A15 : Type} (W : Nat → A1 → A2 → A3 → A4 → A5 → A6 → A7 → A8 → A9 → A10 → A11 → A12 → A13 → A14 → A15 → Prop) (I : A1 → A2 → A3 → A4 → A5 → A6 → A7 → A8 → A9 → A10 → A11 → A12 → A13 → A14 → A15 → Prop) (μ : A1 → A2 → A3 → A4 → A5 → A6 → A7 → A8 → A9 → A10 → A11 → A12 → A13 → A14 → A15 → Nat) (hs : ∀ (n : Nat) (a1 : A1) (a2 : A2) (a3 : A3) (a4 : A4) (a5 : A5) (a6 : A6) (a7 : A7) (a8 : A8) (a9 : A9) (a10 : A10) (a11 : A11) (a12 : A12) (a13 : A13) (a14 : A14) (a15 : A15), I a1 a2 a3 a4 a5 a6 a7 a8 a9 a10 a11 a12 a13 a14 a15 → (∀ (b1 : A1) (b2 : A2) (b3 : A3) (b4 : A4) (b5 : A5) (b6 : A6) (b7 : A7) (b8 : A8) (b9 : A9) (b10 : A10) (b11 : A11) (b12 : A12) (b13 : A13) (b14 : A14) (b15 : A15), I b1 b2 b3 b4 b5 b6 b7 b8 b9 b10 b11 b12 b13 b14 b15 → μ b1 b2 b3 b4 b5 b6 b7 b8 b9 b10 b11 b12 b13 b14 b15 < μ a1 a2 a3 a4 a5 a6 a7 a8 a9 a10 a11 a12 a13 a14 a15 → W n b1 b2 b3 b4 b5 b6 b7 b8 b9 b10 b11 b12 b13 b14 b15) → W (n + 1) a1 a2 a3 a4 a5 a6 a7 a8 a9 a10 a11 a12 a13 a14 a15) (a1 : A1) (a2 : A2) (a3 : A3) (a4 : A4) (a5 : A5) (a6 : A6) (a7 : A7) (a8 : A8) (a9 : A9) (a10 : A10) (a11 : A11) (a12 : A12) (a13 : A13) (a14 : A14) (a15 : A15) (h : I a1 a2 a3 a4 a5 a6 a7 a8 a9 a10 a11 a12 a13 a14 a15) : ∃ n, W n a1 a2 a3 a4 a5 a6 a7 a8 a9 a10 a11 a12 a13 a14 a15 :=
  loop_m (σ := A1 × A2 × A3 × A4 × A5 × A6 × A7 × A8 × A9 × A10 × A11 × A12 × A13 × A14 × A15) (fun n s => W n s.1 s.2.1 s.2.2.1 s.2.2.2.1 s.2.2.2.2.1 s.2.2.2.2.2.1 s.2.2.2.2.2.2.1 s.2.2.2.2.2.2.2.1 s.2.2.2.2.2.2.2.2.1 s.2.2.2.2.2.2.2.2.2.1 s.2.2.2.2.2.2.2.2.2.2.1 s.2.2.2.2.2.2.2.2.2.2.2.1 s.2.2.2.2.2.2.2.2.2.2.2.2.1 s.2.2.2.2.2.2.2.2.2.2.2.2.2.1 s.2.2.2.2.2.2.2.2.2.2.2.2.2.2) (fun s => I s.1 s.2.1 s.2.2.1 s.2.2.2.1 s.2.2.2.2.1 s.2.2.2.2.2.1 s.2.2.2.2.2.2.1 s.2.2.2.2.2.2.2.1 s.2.2.2.2.2.2.2.2.1 s.2.2.2.2.2.2.2.2.2.1 s.2.2.2.2.2.2.2.2.2.2.1 s.2.2.2.2.2.2.2.2.2.2.2.1 s.2.2.2.2.2.2.2.2.2.2.2.2.1 s.2.2.2.2.2.2.2.2.2.2.2.2.2.1 s.2.2.2.2.2.2.2.2.2.2.2.2.2.2) (fun s => μ s.1 s.2.1 s.2.2.1 s.2.2.2.1 s.2.2.2.2.1 s.2.2.2.2.2.1 s.2.2.2.2.2.2.1 s.2.2.2.2.2.2.2.1 s.2.2.2.2.2.2.2.2.1 s.2.2.2.2.2.2.2.2.2.1 s.2.2.2.2.2.2.2.2.2.2.1 s.2.2.2.2.2.2.2.2.2.2.2.1 s.2.2.2.2.2.2.2.2.2.2.2.2.1 s.2.2.2.2.2.2.2.2.2.2.2.2.2.1 s.2.2.2.2.2.2.2.2.2.2.2.2.2.2) (fun n s hI hk => hs n s.1 s.2.1 s.2.2.1 s.2.2.2.1 s.2.2.2.2.1 s.2.2.2.2.2.1 s.2.2.2.2.2.2.1 s.2.2.2.2.2.2.2.1 s.2.2.2.2.2.2.2.2.1 s.2.2.2.2.2.2.2.2.2.1 s.2.2.2.2.2.2.2.2.2.2.1 s.2.2.2.2.2.2.2.2.2.2.2.1 s.2.2.2.2.2.2.2.2.2.2.2.2.1 s.2.2.2.2.2.2.2.2.2.2.2.2.2.1 s.2.2.2.2.2.2.2.2.2.2.2.2.2.2 hI (fun b1 b2 b3 b4 b5 b6 b7 b8 b9 b10 b11 b12 b13 b14 b15 h9 hm => hk (b1, b2, b3, b4, b5, b6, b7, b8, b9, b10, b11, b12, b13, b14, b15) h9 hm)) (a1, a2, a3, a4, a5, a6, a7, a8, a9, a10, a11, a12, a13, a14, a15) h
theorem lp16 {A1 A2 A3 A4 A5 A6 A7 A8 A9 A10 A11 A12 A13 A14 A15 A16 : Type} (W : Nat → A1 → A2 → A3 → A4 → A5 → A6 → A7 → A8 → A9 → A10 → A11 → A12 → A13 → A14 → A15 → A16 → Prop) (I : A1 → A2 → A3 → A4 → A5 → A6 → A7 → A8 → A9 → A10 → A11 → A12 → A13 → A14 → A15 → A16 → Prop) (μ : A1 → A2 → A3 → A4 → A5 → A6 → A7 → A8 → A9 → A10 → A11 → A12 → A13 → A14 → A15 → A16 → Nat) (hs : ∀ (n : Nat) (a1 : A1) (a2 : A2) (a3 : A3) (a4 : A4) (a5 : A5) (a6 : A6) (a7 : A7) (a8 : A8) (a9 : A9) (a10 : A10) (a11 : A11) (a12 : A12) (a13 : A13) (a14 : A14) (a15 : A15) (a16 : A16), I a1 a2 a3 a4 a5 a6 a7 a8 a9 a10 a11 a12 a13 a14 a15 a16 → (∀ (b1 : A1) (b2 : A2) (b3 : A3) (b4 : A4) (b5 : A5) (b6 : A6) (b7 : A7) (b8 : A8) (b9 : A9) (b10 : A10) (b11 : A11) (b12 : A12) (b13 : A13) (b14 : A14) (b15 : A15) (b16 : A16), I b1 b2 b3 b4 b5 b6 b7 b8 b9 b10 b11 b12 b13 b14 b15 b16 → μ b1 b2 b3 b4 b5 b6 b7 b8 b9 b10 b11 b12 b13 b14 b15 b16 < μ a1 a2 a3 a4 a5 a6 a7 a8 a9 a10 a11 a12 a13 a14 a15 a16 → W n b1 b2 b3 b4 b5 b6 b7 b8 b9 b10 b11 b12 b13 b14 b15 b16) → W (n + 1) a1 a2 a3 a4 a5 a6 a7 a8 a9 a10 a11 a12 a13 a14 a15 a16) (a1 : A1) (a2 : A2) (a3 : A3) (a4 : A4) (a5 : A5) (a6 : A6) (a7 : A7) (a8 : A8) (a9 : A9) (a10 : A10) (a11 : A11) (a12 : A12) (a13 : A13) (a14 : A14) (a15 : A15) (a16 : A16) (h : I a1 a2 a3 a4 a5 a6 a7 a8 a9 a10 a11 a12 a13 a14 a15 a16) : ∃ n, W n a1 a2 a3 a4 a5 a6 a7 a8 a9 a10 a11 a12 a13 a14 a15 a16 :=
  loop_m (σ := A1 × A2 × A3 × A4 × A5 × A6 × A7 × A8 × A9 × A10 × A11 × A12 × A13 × A14 × A15 × A16) (fun n s => W n s.1 s.2.1 s.2.2.1 s.2.2.2.1 s.2.2.2.2.1 s.2.2.2.2.2.1 s.2.2.2.2.2.2.1 s.2.2.2.2.2.2.2.1 s.2.2.2.2.2.2.2.2.1 s.2.2.2.2.2.2.2.2.2.1 s.2.2.2.2.2.2.2.2.2.2.1 s.2.2.2.2.2.2.2.2.2.2.2.1 s.2.2.2.2.2.2.2.2.2.2.2.2.1 s.2.2.2.2.2.2.2.2.2.2.2.2.2.1 s.2.2.2.2.2.2.2.2.2.2.2.2.2.2.1 s.2.2.2.2.2.2.2.2.2.2.2.2.2.2.2) (fun s => I s.1 s.2.1 s.2.2.1 s.2.2.2.1 s.2.2.2.2.1 s.2.2.2.2.2.1 s.2.2.2.2.2.2.1 s.2.2.2.2.2.2.2.1 s.2.2.2.2.2.2.2.2.1 s.2.2.2.2.2.2.2.2.2.1 s.2.2.2.2.2.2.2.2.2.2.1 s.2.2.2.2.2.2.2.2.2.2.2.1 s.2.2.2.2.2.2.2.2.2.2.2.2.1 s.2.2.2.2.2.2.2.2.2.2.2.2.2.1 s.2.2.2.2.2.2.2.2.2.2.2.2.2.2.1 s.2.2.2.2.2.2.2.2.2.2.2.2.2.2.2) (fun s => μ s.1 s.2.1 s.2.2.1 s.2.2.2.1 s.2.2.2.2.1 s.2.2.2.2.2.1 s.2.2.2.2.2.2.1 s.2.2.2.2.2.2.2.1 s.2.2.2.2.2.2.2.2.1 s.2.2.2.2.2.2.2.2.2.1 s.2.2.2.2.2.2.2.2.2.2.1 s.2.2.2.2.2.2.2.2.2.2.2.1 s.2.2.2.2.2.2.2.2.2.2.2.2.1 s.2.2.2.2.2.2.2.2.2.2.2.2.2.1 s.2.2.2.2.2.2.2.2.2.2.2.2.2.2.1 s.2.2.2.2.2.2.2.2.2.2.2.2.2.2.2) (fun n s hI hk => hs n s.1 s.2.1 s.2.2.1 s.2.2.2.1 s.2.2.2.2.1 s.2.2.2.2.2.1 s.2.2.2.2.2.2.1 s.2.2.2.2.2.2.2.1 s.2.2.2.2.2.2.2.2.1 s.2.2.2.2.2.2.2.2.2.1 s.2.2.2.2.2.2.2.2.2.2.1 s.2.2.2.2.2.2.2.2.2.2.2.1 s.2.2.2.2.2.2.2.2.2.2.2.2.1 s.2.2.2.2.2.2.2.2.2.2.2.2.2.1 s.2.2.2.2.2.2.2.2.2.2.2.2.2.2.1 s.2.2.2.2.2.2.2.2.2.2.2.2.2.2.2 hI (fun b1 b2 b3 b4 b5 b6 b7 b8 b9 b10 b11 b12 b13 b14 b15 b16 h9 hm => hk (b1, b2, b3, b4, b5, b6, b7, b8, b9, b10, b11, b12, b13, b14, b15, b16) h9 hm)) (a1, a2, a3, a4, a5, a6, a7, a8, a9, a10, a11, a12, a13, a14, a15, a16) h
theorem pk_least (P : Nat → Prop) (h : ∃ k, P k) : ∃ k, P k ∧ ∀ j, j < k → ¬ P j := by
  obtain ⟨k, hk⟩ := h
  induction k using Nat.strongRecOn with
  | ind k ih =>
    by_cases e : ∃ j, j < k ∧ P j
    · obtain ⟨j, hj, pj⟩ := e
      exact ih j hj pj
    · exact ⟨k, hk, fun j hj pj => e ⟨j, hj, pj⟩⟩
theorem rp1 {ρ A1 : Type} (W : Nat → (ρ → Prop) → A1 → Prop) (ok : A1 → Prop) (μ : A1 → Nat) (val : A1 → ρ)
    (hs : ∀ (d : Nat) (post : ρ → Prop) (a1 : A1), ok a1 → post (val a1) → (∀ (post' : ρ → Prop) (b1 : A1), ok b1 → μ b1 < μ a1 → post' (val b1) → W d post' b1) → W (d + 1) post a1) :
    ∀ (d : Nat) (post : ρ → Prop) (a1 : A1), ok a1 → μ a1 < d → post (val a1) → W d post a1 := by
  intro d
  induction d with
  | zero => intro post a1 _ h; omega
  | succ d ih =>
    intro post a1 ho hm hp
    exact hs d post a1 ho hp (fun post' b1 ho' hm' hp' => ih post' b1 ho' (by omega) hp')
theorem rp2 {ρ A1 A2 : Type} (W : Nat → (ρ → Prop) → A1 → A2 → Prop) (ok : A1 → A2 → Prop) (μ : A1 → A2 → Nat) (val : A1 → A2 → ρ)
    (hs : ∀ (d : Nat) (post : ρ → Prop) (a1 : A1) (a2 : A2), ok a1 a2 → post (val a1 a2) → (∀ (post' : ρ → Prop) (b1 : A1) (b2 : A2), ok b1 b2 → μ b1 b2 < μ a1 a2 → post' (val b1 b2) → W d post' b1 b2) → W (d + 1) post a1 a2) :
    ∀ (d : Nat) (post : ρ → Prop) (a1 : A1) (a2 : A2), ok a1 a2 → μ a1 a2 < d → post (val a1 a2) → W d post a1 a2 := by
  intro d
  induction d with
  | zero => intro post a1 a2 _ h; omega
  | succ d ih =>
    intro post a1 a2 ho hm hp
    exact hs d post a1 a2 ho hp (fun post' b1 b2 ho' hm' hp' => ih post' b1 b2 ho' (by omega) hp')
theorem rp3 {ρ A1 A2 A3 : Type} (W : Nat → (ρ → Prop) → A1 → A2 → A3 → Prop) (ok : A1 → A2 → A3 → Prop) (μ : A1 → A2 → A3 → Nat) (val : A1 → A2 → A3 → ρ)
    (hs : ∀ (d : Nat) (post : ρ → Prop) (a1 : A1) (a2 : A2) (a3 : A3), ok a1 a2 a3 → post (val a1 a2 a3) → (∀ (post' : ρ → Prop) (b1 : A1) (b2 : A2) (b3 : A3), ok b1 b2 b3 → μ b1 b2 b3 < μ a1 a2 a3 → post' (val b1 b2 b3) → W d post' b1 b2 b3) → W (d + 1) post a1 a2 a3) :
    ∀ (d : Nat) (post : ρ → Prop) (a1 : A1) (a2 : A2) (a3 : A3), ok a1 a2 a3 → μ a1 a2 a3 < d → post (val a1 a2 a3) → W d post a1 a2 a3 := by
  intro d
  induction d with
  | zero => intro post a1 a2 a3 _ h; omega
  | succ d ih =>
    intro post a1 a2 a3 ho hm hp
    exact hs d post a1 a2 a3 ho hp (fun post' b1 b2 b3 ho' hm' hp' => ih post' b1 b2 b3 ho' (by omega) hp')
theorem rp4 {ρ A1 A2 A3 A4 : Type} (W : Nat → (ρ → Prop) → A1 → A2 → A3 → A4 → Prop) (ok : A1 → A2 → A3 → A4 → Prop) (μ : A1 → A2 → A3 → A4 → Nat) (val : A1 → A2 → A3 → A4 → ρ)
    (hs : ∀ (d : Nat) (post : ρ → Prop) (a1 : A1) (a2 : A2) (a3 : A3) (a4 : A4), ok a1 a2 a3 a4 → post (val a1 a2 a3 a4) → (∀ (post' : ρ → Prop) (b1 : A1) (b2 : A2) (b3 : A3) (b4 : A4), ok b1 b2 b3 b4 → μ b1 b2 b3 b4 < μ a1 a2 a3 a4 → post' (val b1 b2 b3 b4) → W d post' b1 b2 b3 b4) → W (d + 1) post a1 a2 a3 a4) :
    ∀ (d : Nat) (post : ρ → Prop) (a1 : A1) (a2 : A2) (a3 : A3) (a4 : A4), ok a1 a2 a3 a4 → μ a1 a2 a3 a4 < d → post (val a1 a2 a3 a4) → W d post a1 a2 a3 a4 := by
  intro d
  induction d with
  | zero => intro post a1 a2 a3 a4 _ h; omega
  | succ d ih =>
    intro post a1 a2 a3 a4 ho hm hp
    exact hs d post a1 a2 a3 a4 ho hp (fun post' b1 b2 b3 b4 ho' hm' hp' => ih post' b1 b2 b3 b4 ho' (by omega) hp')
theorem rp5 {ρ A1 A2 A3 A4 A5 : Type} (W : Nat → (ρ → Prop) → A1 → A2 → A3 → A4 → A5 → Prop) (ok : A1 → A2 → A3 → A4 → A5 → Prop) (μ : A1 → A2 → A3 → A4 → A5 → Nat) (val : A1 → A2 → A3 → A4 → A5 → ρ)
    (hs : ∀ (d : Nat) (post : ρ → Prop) (a1 : A1) (a2 : A2) (a3 : A3) (a4 : A4) (a5 : A5), ok a1 a2 a3 a4 a5 → post (val a1 a2 a3 a4 a5) → (∀ (post' : ρ → Prop) (b1 : A1) (b2 : A2) (b3 : A3) (b4 : A4) (b5 : A5), ok b1 b2 b3 b4 b5 → μ b1 b2 b3 b4 b5 < μ a1 a2 a3 a4 a5 → post' (val b1 b2 b3 b4 b5) → W d post' b1 b2 b3 b4 b5) → W (d + 1) post a1 a2 a3 a4 a5) :
    ∀ (d : Nat) (post : ρ → Prop) (a1 : A1) (a2 : A2) (a3 : A3) (a4 : A4) (a5 : A5), ok a1 a2 a3 a4 a5 → μ a1 a2 a3 a4 a5 < d → post (val a1 a2 a3 a4 a5) → W d post a1 a2 a3 a4 a5 := by
  intro d
  induction d with
  | zero => intro post a1 a2 a3 a4 a5 _ h; omega
  | succ d ih =>
    intro post a1 a2 a3 a4 a5 ho hm hp
    exact hs d post a1 a2 a3 a4 a5 ho hp (fun post' b1 b2 b3 b4 b5 ho' hm' hp' => ih post' b1 b2 b3 b4 b5 ho' (by omega) hp')
theorem rp6 {ρ A1 A2 A3 A4 A5 A6 : Type} (W : Nat → (ρ → Prop) → A1 → A2 → A3 → A4 → A5 → A6 → Prop) (ok : A1 → A2 → A3 → A4 → A5 → A6 → Prop) (μ : A1 → A2 → A3 → A4 → A5 → A6 → Nat) (val : A1 → A2 → A3 → A4 → A5 → A6 → ρ)
    (hs : ∀ (d : Nat) (post : ρ → Prop) (a1 : A1) (a2 : A2) (a3 : A3) (a4 : A4) (a5 : A5) (a6 : A6), ok a1 a2 a3 a4 a5 a6 → post (val a1 a2 a3 a4 a5 a6) → (∀ (post' : ρ → Prop) (b1 : A1) (b2 : A2) (b3 : A3) (b4 : A4) (b5 : A5) (b6 : A6), ok b1 b2 b3 b4 b5 b6 → μ b1 b2 b3 b4 b5 b6 < μ a1 a2 a3 a4 a5 a6 → post' (val b1 b2 b3 b4 b5 b6) → W d post' b1 b2 b3 b4 b5 b6) → W (d + 1) post a1 a2 a3 a4 a5 a6) :
    ∀ (d : Nat) (post : ρ → Prop) (a1 : A1) (a2 : A2) (a3 : A3) (a4 : A4) (a5 : A5) (a6 : A6), ok a1 a2 a3 a4 a5 a6 → μ a1 a2 a3 a4 a5 a6 < d → post (val a1 a2 a3 a4 a5 a6) → W d post a1 a2 a3 a4 a5 a6 := by
  intro d
  induction d with
  | zero => intro post a1 a2 a3 a4 a5 a6 _ h; omega
  | succ d ih =>
    intro post a1 a2 a3 a4 a5 a6 ho hm hp
    exact hs d post a1 a2 a3 a4 a5 a6 ho hp (fun post' b1 b2 b3 b4 b5 b6 ho' hm' hp' => ih post' b1 b2 b3 b4 b5 b6 ho' (by omega) hp')
theorem rec_p {σ ρ : Type} (W : Nat → (ρ → Prop) → σ → Prop) (ok : σ → Prop) (μ : σ → Nat) (val : σ → ρ)
    (hs : ∀ d s post, ok s → post (val s) → (∀ s' post', ok s' → μ s' < μ s → post' (val s') → W d post' s') → W (d + 1) post s) :
    ∀ d s post, ok s → μ s < d → post (val s) → W d post s := by
  intro d
  induction d with
  | zero => intro s post _ h; omega
  | succ d ih =>
    intro s post ho hm hp
    exact hs d s post ho hp (fun s' post' ho' hm' hp' => ih s' post' ho' (by omega) hp')
theorem rec_q {σ ρ : Type} (W : Nat → (ρ → Prop) → σ → Prop) (ok : σ → Prop) (μ : σ → Nat) (Q : σ → ρ → Prop)
    (hs : ∀ d s post, ok s → (∀ r, Q s r → post r) → (∀ s' post', ok s' → μ s' < μ s → (∀ r, Q s' r → post' r) → W d post' s') → W (d + 1) post s) :
    ∀ d s post, ok s → μ s < d → (∀ r, Q s r → post r) → W d post s := by
  intro d
  induction d with
  | zero => intro s post _ h; omega
  | succ d ih =>
    intro s post ho hm hp
    exact hs d s post ho hp (fun s' post' ho' hm' hp' => ih s' post' ho' (by omega) hp')
def bx_sum (f : Nat → Int32) : Nat → Int32
  | 0 => 0
  | n + 1 => bx_sum f n + f n
theorem ek_u {A : Prop} {B : Nat → Prop} {k N : Nat} (hk : k < N) (h : B k) : (some k = none → A) ∧ (∀ y : Nat, some k = some y → (y < N ∧ B y)) :=
  ⟨fun z => absurd z (Option.some_ne_none k), fun _ e => (by cases e; exact ⟨hk, h⟩)⟩
theorem ek_nu {A : Prop} {B : Nat → Prop} (h : A) : ((none : Option Nat) = none → A) ∧ (∀ y : Nat, (none : Option Nat) = some y → B y) :=
  ⟨fun _ => h, fun _ e => (by cases e)⟩
theorem ek_if {c d A B : Prop} (e : c ↔ d) (f : d → A) (g : ¬ d → B) : (c → A) ∧ (¬ c → B) :=
  ⟨fun z => f (e.mp z), fun z => g (fun y => z (e.mpr y))⟩
theorem ek_v {α : Sort _} {P : α → Prop} {a b : α} (e : a = b) (h : P b) : P a := e ▸ h
theorem co_some {x : Option Nat} {A : Prop} {B : Nat → Prop} (i : Nat) (h : B i) (hx : x = some i := by rfl) : (x = none → A) ∧ (∀ y : Nat, x = some y → B y) := by
  subst hx
  exact ⟨fun e => (nomatch e), fun y e => Option.some.inj e ▸ h⟩
theorem co_none {x : Option Nat} {A : Prop} {B : Nat → Prop} (h : A) (hx : x = none := by rfl) : (x = none → A) ∧ (∀ y : Nat, x = some y → B y) := by
  subst hx
  exact ⟨fun _ => h, fun y e => (nomatch e)⟩
theorem co_any {x : Option Nat} {A : Prop} {B : Nat → Prop} (hn : x = none → A) (hs : ∀ i : Nat, x = some i → B i) : (x = none → A) ∧ (∀ y : Nat, x = some y → B y) := ⟨hn, hs⟩
theorem co_2 {P : Nat → Prop} (h0 : P 0) (h1 : P 1) {i : Nat} (hi : i < 2) : P i :=
  match i, hi with
  | 0, _ => h0
  | 1, _ => h1
theorem co_3 {P : Nat → Prop} (h0 : P 0) (h1 : P 1) (h2 : P 2) {i : Nat} (hi : i < 3) : P i :=
  match i, hi with
  | 0, _ => h0
  | 1, _ => h1
  | 2, _ => h2
theorem co_4 {P : Nat → Prop} (h0 : P 0) (h1 : P 1) (h2 : P 2) (h3 : P 3) {i : Nat} (hi : i < 4) : P i :=
  match i, hi with
  | 0, _ => h0
  | 1, _ => h1
  | 2, _ => h2
  | 3, _ => h3
theorem co_dec {N : Nat} {P : Nat → Prop} [DecidablePred P] (h : (List.range N).all (fun i => decide (P i)) = true) {i : Nat} (hi : i < N) : P i := by
  have := List.all_eq_true.mp h i (List.mem_range.mpr hi)
  exact of_decide_eq_true this
theorem co_tab {α : Type} {l : List α} {d : α} {P : α → Prop} (h : ∀ a, a ∈ l → P a) {i : Nat} (hi : i < l.length) : P (l.getD i d) := by
  rw [List.getD_eq_getElem?_getD, List.getElem?_eq_getElem hi]
  exact h _ (List.getElem_mem hi)
theorem pk_mu {x : Int32} {L : Nat} (h0 : ¬ x < 0) (h : ¬ nI L ≤ x) (hL : L < 2 ^ 31) : ∃ j : Nat, j < L ∧ x = nI j ∧ x + 1 = nI (j + 1) ∧ x.toNatClampNeg = j ∧ L - (x + 1).toNatClampNeg < L - x.toNatClampNeg := by
  obtain ⟨j, hj, rfl⟩ := nI_of h0
  have hl : j < L := Nat.not_le.mp fun q => h (nI_le q hj)
  refine ⟨j, hl, rfl, nI_1 j, nI_clamp hj, ?_⟩
  rw [nI_1, nI_clamp (by omega), nI_clamp hj]
  omega
theorem op_s {α : Type} {r : Option α} {A : Prop} {B : α → Prop} {y : α} (h : r = some y) (b : B y) : (r = none → A) ∧ ∀ z, r = some z → B z :=
  ⟨fun e => (by rw [h] at e; cases e), fun z e => (by rw [h] at e; cases e; exact b)⟩
def l_holds {α : Type} (a : Nat → Option Nat) (LP : List Nat) (p : Nat → α) (c : Nat) (b : Nat → α) : Prop :=
  ∀ j, j < c → ∃ y, a j = some y ∧ y ∈ LP ∧ p y = b j
theorem l_holds_0 {α : Type} {a : Nat → Option Nat} {LP : List Nat} {p b : Nat → α} : l_holds a LP p 0 b := fun j h => absurd h (Nat.not_lt_zero j)
theorem l_in_new (LP : List Nat) (q : Nat) : q ∈ LP ++ [q] := List.mem_append.mpr (Or.inr (List.mem_singleton.mpr rfl))
def l_sum (b : Nat → Int32) : Nat → Int32
  | 0 => 0
  | k + 1 => l_sum b k + b k
theorem sb_shr0 (x : Int32) : x >>> ((0 : Int32) &&& 31) = x := by
  rw [show ((0 : Int32) &&& 31) = 0 by decide]
  simp
theorem sb_shl0 (x : Int32) : x <<< ((0 : Int32) &&& 31) = x := by
  rw [show ((0 : Int32) &&& 31) = 0 by decide]
  simp
theorem sb_cl0 : (0 : Int32).toNatClampNeg = 0 := by decide
theorem sb_m1 {p : Nat} (h : 0 < p) : nI p + (-1) = nI (p - 1) := by
  obtain ⟨q, rfl⟩ : ∃ q, p = q + 1 := ⟨p - 1, by omega⟩
  exact pk_m1 q
def sb_b (c : Nat) : Int32 := (nI c).toInt8.toInt32
theorem sb_byte : ∀ c, c < 256 → sb_b c &&& 255 = nI c ∧ ((nI c).toUInt32 % 65536).toInt32 = nI c ∧ nI c ≤ 255 := by decide +kernel
def sb_Fit (a : Nat → Int32) : Prop := ∀ j, fits .byte (.int (a j)) = true
def sb_Lat (t : Nat → Nat) (n : Nat) (a : Nat → Int32) : Prop := ∀ j, j < n → t j < 256 ∧ a j = sb_b (t j)
theorem sb_fitB (c : Nat) : fits .byte (.int (sb_b c)) = true := pk_fb _
theorem sb_fit0 : sb_Fit (fun _ => 0) := fun _ => by
  show fits .byte (.int 0) = true
  decide
theorem sb_fitU {a : Nat → Int32} {k : Nat} {x : Int32} (h : sb_Fit a) (hx : fits .byte (.int x) = true) : sb_Fit (upd a k x) := by
  intro j
  by_cases e : j = k
  · subst e
    rw [pk_us]
    exact hx
  · rw [pk_un e]
    exact h j
def sb_cat (t : Nat → Nat) (n : Nat) (s : Nat → Nat) : Nat → Nat := fun j => if j < n then t j else s (j - n)
theorem sb_cat_lo {t s : Nat → Nat} {n j : Nat} (h : j < n) : sb_cat t n s j = t j := if_pos h
theorem sb_cat_hi {t s : Nat → Nat} {n j : Nat} : sb_cat t n s (n + j) = s j := by
  show (if n + j < n then t (n + j) else s (n + j - n)) = s j
  rw [if_neg (by omega), Nat.add_sub_cancel_left]
theorem sb_latPut {t s : Nat → Nat} {n w : Nat} {a a' : Nat → Int32} (h : sb_Lat t n a) (hk : ∀ j, j < n → a' j = a j) (hs : ∀ i, i < w → s i < 256 ∧ a' (n + i) = sb_b (s i)) : sb_Lat (sb_cat t n s) (n + w) a' := by
  intro j hj
  by_cases e : j < n
  · rw [sb_cat_lo e, hk j e]
    exact h j e
  · obtain ⟨i, rfl⟩ : ∃ i, j = n + i := ⟨j - n, by omega⟩
    rw [sb_cat_hi]
    exact hs i (by omega)
theorem sb_latKeep {t : Nat → Nat} {n : Nat} {a a' : Nat → Int32} (h : sb_Lat t n a) (hk : ∀ j, j < n → a' j = a j) : sb_Lat t n a' := fun j hj => by
  rw [hk j hj]
  exact h j hj
def sb_cap (q m : Nat) : Nat := if q ≤ m then m else if 2 * m + 2 < q then q else 2 * m + 2
def sb_Room (q m mc ms : Nat) : Prop := q ≤ m ∨ (1 ≤ mc ∧ sb_cap q m ≤ ms ∧ sb_cap q m ≤ 65536)
theorem sb_cap_ge (q m : Nat) : q ≤ sb_cap q m := by
  unfold sb_cap
  split
  · omega
  · split <;> omega
theorem sb_cap_gem (q m : Nat) : m ≤ sb_cap q m := by
  unfold sb_cap
  split
  · omega
  · split <;> omega
theorem sb_cap_le {q m mc ms : Nat} (hm : m ≤ 65536) (hr : sb_Room q m mc ms) : sb_cap q m ≤ 65536 := by
  rcases hr with h | h
  · rw [sb_cap, if_pos h]
    exact hm
  · exact h.2.2
theorem sb_at {P : Int32 → Prop} {x y : Int32} (e : x = y) (h : P y) : P x := e ▸ h
def sb_dg (w : Nat) : Nat := if w < 10 then 1 else if w < 100 then 2 else if w < 1000 then 3 else if w < 10000 then 4 else if w < 100000 then 5 else if w < 1000000 then 6 else if w < 10000000 then 7 else if w < 100000000 then 8 else if w < 1000000000 then 9 else 10
def sb_dec (v : Nat) : Nat → Nat := fun i => 48 + v / 10 ^ (sb_dg v - 1 - i) % 10
theorem sb_dg_in (w : Nat) : 1 ≤ sb_dg w ∧ sb_dg w ≤ 10 := by
  unfold sb_dg
  constructor <;> (repeat' split) <;> omega
theorem sb_dg100 {w : Nat} (h : 100 ≤ w) (hw : w < 2 ^ 31) : sb_dg w = sb_dg (w / 100) + 2 := by
  rw [sb_dg, sb_dg, if_neg (show ¬ w < 10 by omega), if_neg (show ¬ w < 100 by omega)]
  by_cases h3 : w < 1000
  · rw [if_pos h3, if_pos (show w / 100 < 10 by omega)]
  rw [if_neg h3, if_neg (show ¬ w / 100 < 10 by omega)]
  by_cases h4 : w < 10000
  · rw [if_pos h4, if_pos (show w / 100 < 100 by omega)]
  rw [if_neg h4, if_neg (show ¬ w / 100 < 100 by omega)]
  by_cases h5 : w < 100000
  · rw [if_pos h5, if_pos (show w / 100 < 1000 by omega)]
  rw [if_neg h5, if_neg (show ¬ w / 100 < 1000 by omega)]
  by_cases h6 : w < 1000000
  · rw [if_pos h6, if_pos (show w / 100 < 10000 by omega)]
  rw [if_neg h6, if_neg (show ¬ w / 100 < 10000 by omega)]
  by_cases h7 : w < 10000000
  · rw [if_pos h7, if_pos (show w / 100 < 100000 by omega)]
  rw [if_neg h7, if_neg (show ¬ w / 100 < 100000 by omega)]
  by_cases h8 : w < 100000000
  · rw [if_pos h8, if_pos (show w / 100 < 1000000 by omega)]
  rw [if_neg h8, if_neg (show ¬ w / 100 < 1000000 by omega)]
  by_cases h9 : w < 1000000000
  · rw [if_pos h9, if_pos (show w / 100 < 10000000 by omega)]
  rw [if_neg h9, if_neg (show ¬ w / 100 < 10000000 by omega)]
  rw [if_pos (show w / 100 < 100000000 by omega)]
theorem sb_negT {w : Nat} (h : w < 2 ^ 31) : (-nI w).toInt = -(w : Int) := by
  rw [Int32.toInt_neg, nI_toInt h]
  exact Int.bmod_eq_of_le (by omega) (by omega)
theorem sb_nle {a b : Nat} (ha : a < 2 ^ 31) (hb : b < 2 ^ 31) : -nI a ≤ -nI b ↔ b ≤ a := by
  rw [Int32.le_iff_toInt_le, sb_negT ha, sb_negT hb]
  omega
theorem sb_nlt {a b : Nat} (ha : a < 2 ^ 31) (hb : b < 2 ^ 31) : -nI a < -nI b ↔ b < a := by
  rw [Int32.lt_iff_toInt_lt, sb_negT ha, sb_negT hb]
  omega
theorem sb_cmp {A B : Prop} {x : Int32} (v c : Nat) (f : c ≤ v → A) (g : v < c → B) (hv : v < 2 ^ 31) (hx : x = -nI c := by rfl) (hc : c < 2 ^ 31 := by omega) : (-nI v ≤ x → A) ∧ (¬ -nI v ≤ x → B) := by
  subst hx
  rw [sb_nle hv hc]
  exact ⟨f, fun z => g (by omega)⟩
theorem sb_ndiv {w : Nat} (hw : w < 2 ^ 31) : (-nI w) / 100 = -nI (w / 100) := by
  apply Int32.toInt_inj.mp
  have h100 : (100 : Int32).toInt = 100 := by decide
  rw [Int32.toInt_div, sb_negT hw, h100, sb_negT (by omega), Int.neg_tdiv, Int.tdiv_eq_ediv_of_nonneg (by omega), Int.bmod_eq_of_le (by omega) (by omega)]
  omega
theorem sb_nrem {w : Nat} (hw : w < 2 ^ 31) : (-nI (w / 100)) * 100 - (-nI w) = nI (w % 100) := by
  have h := pk_rem (a := w) (d := 100) hw (by decide) (by decide)
  rw [pk_div hw (by decide) (by decide)] at h
  rw [← h]
  show (-nI (w / 100)) * nI 100 - (-nI w) = nI w - nI (w / 100) * nI 100
  rw [Int32.neg_mul, Int32.sub_neg, Int32.add_comm, ← Int32.sub_eq_add_neg]
end
section
/-! rows on bits, shifts and unsigned numbers, to paste: each family out of a closed proof of our own, whole with what it rests on; each by itself clean at Lean in its own claim (generation 39, form 5). Take a family whole -/
/-! ===== Int32 by its bits: bt x i ===== -/
def bt (x : Int32) (i : Nat) : Bool := x.toBitVec.getLsbD i
theorem b_ext {x y : Int32} (h : ∀ i, i < 32 → bt x i = bt y i) : x = y := Int32.toBitVec_inj.mp (BitVec.eq_of_getLsbD_eq (fun i hi => h i hi))
theorem b_or (x y : Int32) (i : Nat) : bt (x ||| y) i = (bt x i || bt y i) := by unfold bt; rw [Int32.toBitVec_or, BitVec.getLsbD_or]
theorem b_and (x y : Int32) (i : Nat) : bt (x &&& y) i = (bt x i && bt y i) := by unfold bt; rw [Int32.toBitVec_and, BitVec.getLsbD_and]
theorem b_xor (x y : Int32) (i : Nat) : bt (x ^^^ y) i = (bt x i ^^ bt y i) := by unfold bt; rw [Int32.toBitVec_xor, BitVec.getLsbD_xor]
theorem b_big {x : Int32} {i : Nat} (h : 32 ≤ i) : bt x i = false := BitVec.getLsbD_of_ge _ _ h
theorem b_255 (i : Nat) : bt 255 i = decide (i < 8) := by
  rcases Nat.lt_or_ge i 32 with h | h
  · exact (by decide +kernel : ∀ i, i < 32 → bt 255 i = decide (i < 8)) i h
  · rw [b_big h, decide_eq_false (by omega)]
theorem b_65535 (i : Nat) : bt 65535 i = decide (i < 16) := by
  rcases Nat.lt_or_ge i 32 with h | h
  · exact (by decide +kernel : ∀ i, i < 32 → bt 65535 i = decide (i < 16)) i h
  · rw [b_big h, decide_eq_false (by omega)]
theorem b_m1 : ∀ i, i < 32 → bt (-1) i = true := by decide +kernel
theorem b_0 (i : Nat) : bt 0 i = false := BitVec.getLsbD_zero
theorem s_l : ∀ n, n < 32 → ((nI n &&& 31).toBitVec.smod 32).toNat = n := by decide +kernel
theorem s_u : ∀ n, n < 32 → (((nI n).toUInt32 &&& Int32.toUInt32 31).toBitVec % 32).toNat = n := by decide +kernel
theorem b_shl (n : Nat) (hn : n < 32) (x : Int32) {i : Nat} (hi : i < 32) : bt (x <<< (nI n &&& 31)) i = (decide (n ≤ i) && bt x (i - n)) := by
  unfold bt
  rw [Int32.toBitVec_shiftLeft]
  show (x.toBitVec <<< ((nI n &&& 31).toBitVec.smod 32).toNat).getLsbD i = _
  rw [s_l n hn, BitVec.getLsbD_shiftLeft]
  rcases Nat.lt_or_ge i n with h | h
  · simp [h, Nat.not_le.mpr h]
  · simp [hi, h, Nat.not_lt.mpr h]
theorem b_ushr (n : Nat) (hn : n < 32) (x : Int32) (i : Nat) : bt ((x.toUInt32 >>> ((nI n).toUInt32 &&& Int32.toUInt32 31)).toInt32) i = bt x (n + i) := by
  show (x.toUInt32 >>> ((nI n).toUInt32 &&& Int32.toUInt32 31)).toBitVec.getLsbD i = x.toUInt32.toBitVec.getLsbD (n + i)
  rw [UInt32.toBitVec_shiftRight]
  show (x.toUInt32.toBitVec >>> (((nI n).toUInt32 &&& Int32.toUInt32 31).toBitVec % 32).toNat).getLsbD i = _
  rw [s_u n hn, BitVec.getLsbD_ushiftRight]
theorem b_sshr (n : Nat) (hn : n < 32) (x : Int32) {i : Nat} (hi : i < 32) : bt (x >>> (nI n &&& 31)) i = if n + i < 32 then bt x (n + i) else bt x 31 := by
  unfold bt
  rw [Int32.toBitVec_shiftRight]
  show (x.toBitVec.sshiftRight ((nI n &&& 31).toBitVec.smod 32).toNat).getLsbD i = _
  rw [s_l n hn, BitVec.getLsbD_sshiftRight, BitVec.msb_eq_getLsbD_last]
  simp [hi]
theorem b_shl8 (x : Int32) {i : Nat} (hi : i < 32) : bt (x <<< ((8 : Int32) &&& 31)) i = (decide (8 ≤ i) && bt x (i - 8)) := b_shl 8 (by omega) x hi
theorem b_shl16 (x : Int32) {i : Nat} (hi : i < 32) : bt (x <<< ((16 : Int32) &&& 31)) i = (decide (16 ≤ i) && bt x (i - 16)) := b_shl 16 (by omega) x hi
theorem b_shl24 (x : Int32) {i : Nat} (hi : i < 32) : bt (x <<< ((24 : Int32) &&& 31)) i = (decide (24 ≤ i) && bt x (i - 24)) := b_shl 24 (by omega) x hi
theorem b_sshr8 (x : Int32) {i : Nat} (hi : i < 32) : bt (x >>> ((8 : Int32) &&& 31)) i = if 8 + i < 32 then bt x (8 + i) else bt x 31 := b_sshr 8 (by omega) x hi
/-! ===== nI under and, xor, >>>, one bit, 65535 ===== -/
theorem nx_and (a b : Nat) : nI a &&& nI b = nI (a &&& b) := by
  apply Int32.toBitVec_inj.1
  show BitVec.ofNat 32 a &&& BitVec.ofNat 32 b = BitVec.ofNat 32 (a &&& b)
  apply BitVec.eq_of_getLsbD_eq
  intro i hi
  simp [hi]
theorem nx_xor (a b : Nat) : nI a ^^^ nI b = nI (a ^^^ b) := by
  apply Int32.toBitVec_inj.1
  show BitVec.ofNat 32 a ^^^ BitVec.ofNat 32 b = BitVec.ofNat 32 (a ^^^ b)
  apply BitVec.eq_of_getLsbD_eq
  intro i hi
  simp [hi]
theorem nx_cnt : ∀ j : Fin 32, (UInt32.ofNat j.val &&& Int32.toUInt32 31).toNat % 32 = j.val := by decide +kernel
theorem nx_ush {k j : Nat} (hk : k < 65536) (hj : j < 32) : ((nI k).toUInt32 >>> ((nI j).toUInt32 &&& Int32.toUInt32 31)).toInt32 = nI (k >>> j) := by
  have hs : k >>> j ≤ k := by
    rw [Nat.shiftRight_eq_div_pow]
    exact Nat.div_le_self _ _
  have e2 : UInt32.ofNat k >>> (UInt32.ofNat j &&& Int32.toUInt32 31) = UInt32.ofNat (k >>> j) := by
    apply UInt32.toNat_inj.1
    have h1 : (UInt32.ofNat k).toNat = k := Nat.mod_eq_of_lt (by omega)
    have h2 : (UInt32.ofNat (k >>> j)).toNat = k >>> j := Nat.mod_eq_of_lt (by omega)
    rw [UInt32.toNat_shiftRight, nx_cnt ⟨j, hj⟩, h1, h2]
  show (UInt32.ofNat k >>> (UInt32.ofNat j &&& Int32.toUInt32 31)).toInt32 = _
  rw [e2]
  rfl
theorem nx_bit {k j : Nat} (hk : k < 65536) (hj : j < 16) : (((nI k).toUInt32 >>> ((nI j).toUInt32 &&& Int32.toUInt32 31)).toInt32 &&& 1) = 0 ↔ k.testBit j = false := by
  rw [nx_ush hk (by omega)]
  show nI (k >>> j) &&& nI 1 = 0 ↔ _
  rw [nx_and, Nat.and_one_is_mod, ← nI_0, nI_eq (by omega) (by omega), Nat.testBit_eq_decide_div_mod_eq, Nat.shiftRight_eq_div_pow, decide_eq_false_iff_not]
  generalize k / 2 ^ j = z
  omega
theorem nx_mod (k : Nat) : nI k &&& 65535 = nI (k % 65536) := by
  show nI k &&& nI 65535 = _
  rw [nx_and, show (65535 : Nat) = 2 ^ 16 - 1 from rfl, Nat.and_two_pow_sub_one_eq_mod]
theorem nx_m16 {k : Nat} (h : k < 65536) : nI k &&& 65535 = nI k := by rw [nx_mod, Nat.mod_eq_of_lt h]
theorem nx_mask (x : Int32) : ∃ k, k < 65536 ∧ x &&& 65535 = nI k := by
  have e : x = nI x.toBitVec.toNat := by
    apply Int32.toBitVec_inj.1
    show x.toBitVec = BitVec.ofNat 32 x.toBitVec.toNat
    simp
  refine ⟨x.toBitVec.toNat % 65536, Nat.mod_lt _ (by omega), ?_⟩
  rw [← nx_mod, ← e]
/-! ===== Int32 as a set of bits: test, set ===== -/
def nf_M (m : Int32) : Nat := 4294967296 - m.toBitVec.toNat
theorem nf_sh : ∀ l, l < 32 → ((1 : Int32) <<< (nI l &&& 31)).toBitVec = BitVec.twoPow 32 l := by decide +kernel
theorem nf_sl : ∀ l, l < 32 → (((nI l).toUInt32 &&& Int32.toUInt32 31).toBitVec % 32).toNat = l := by decide +kernel
theorem nf_tp : ∀ l, l < 32 → BitVec.twoPow 32 l ≠ 0#32 := by decide +kernel
theorem nf_bit (m : Int32) (l : Nat) (hl : l < 32) : ((m.toUInt32 >>> ((nI l).toUInt32 &&& Int32.toUInt32 31)).toInt32 &&& 1) = 0 ↔ (m &&& ((1 : Int32) <<< (nI l &&& 31))) = 0 := by
  have e : ((m.toUInt32 >>> ((nI l).toUInt32 &&& Int32.toUInt32 31)).toInt32).toBitVec = m.toBitVec >>> l := by
    show m.toBitVec >>> (((nI l).toUInt32 &&& Int32.toUInt32 31).toBitVec % 32) = m.toBitVec >>> l
    rw [BitVec.ushiftRight_eq', nf_sl l hl]
  rw [← Int32.toBitVec_inj, ← Int32.toBitVec_inj, Int32.toBitVec_and, Int32.toBitVec_and, nf_sh l hl, e, BitVec.and_twoPow]
  show (m.toBitVec >>> l &&& 1#32) = 0#32 ↔ _ = 0#32
  rw [BitVec.and_one_eq_setWidth_ofBool_getLsbD, BitVec.getLsbD_ushiftRight, Nat.add_zero]
  cases hb : m.toBitVec.getLsbD l
  · exact ⟨fun _ => by simp, fun _ => by decide⟩
  · exact ⟨fun z => absurd z (by decide), fun z => absurd ((if_pos rfl).symm.trans z) (nf_tp l hl)⟩
theorem nf_gr (m k : Int32) (h : m &&& k = 0) (hk : k ≠ 0) : nf_M (m ||| k) < nf_M m := by
  have hm := m.toBitVec.isLt
  have hm' := (m ||| k).toBitVec.isLt
  have h1 : m.toBitVec.toNat ≤ (m ||| k).toBitVec.toNat := by
    rw [Int32.toBitVec_or, BitVec.toNat_or]
    exact Nat.left_le_or
  have h2 : m.toBitVec.toNat ≠ (m ||| k).toBitVec.toNat := by
    intro e
    have e2 : m = m ||| k := Int32.toBitVec_inj.mp (BitVec.eq_of_toNat_eq e)
    apply hk
    apply Int32.toBitVec_inj.mp
    show k.toBitVec = 0#32
    apply BitVec.eq_of_getLsbD_eq
    intro i hi
    have a : m.toBitVec.getLsbD i = (m.toBitVec.getLsbD i || k.toBitVec.getLsbD i) := by rw [← BitVec.getLsbD_or, ← Int32.toBitVec_or, ← e2]
    have b : (m.toBitVec.getLsbD i && k.toBitVec.getLsbD i) = false := by
      rw [← BitVec.getLsbD_and, ← Int32.toBitVec_and, h]
      exact BitVec.getLsbD_zero
    rw [BitVec.getLsbD_zero]
    revert a b
    cases m.toBitVec.getLsbD i <;> cases k.toBitVec.getLsbD i <;> simp
  unfold nf_M
  omega
/-! ===== a byte read unsigned ===== -/
theorem bp_b (x : Int32) : x.toInt8.toInt32 &&& 255 = x &&& 255 := by
  apply Int32.toBitVec_inj.mp
  rw [Int32.toBitVec_and, Int32.toBitVec_and, Int8.toBitVec_toInt32, Int32.toBitVec_toInt8]
  apply BitVec.eq_of_getLsbD_eq
  intro i hi
  rw [BitVec.getLsbD_and, BitVec.getLsbD_and]
  have hm : ∀ i < 32, 8 ≤ i → (255 : Int32).toBitVec.getLsbD i = false := by decide
  rcases Nat.lt_or_ge i 8 with z | z
  · rw [BitVec.getLsbD_signExtend, BitVec.getLsbD_signExtend, if_pos z, if_pos hi]
    simp only [z, hi, decide_true, Bool.true_and]
  · rw [hm i hi z]; simp
/-! ===== the char cast and 65535 ===== -/
theorem em_w (v : Int32) : ∃ w : Nat, w < 65536 ∧ (v.toUInt32 % 65536).toInt32 = nI w ∧ v &&& 65535 = nI w := by
  have hr := lw_u16_r v
  have h0 : (0 : Int32).toInt = 0 := by decide
  obtain ⟨w, h1, h2⟩ := nI_of (x := lw_u16 v) (by rw [Int32.lt_iff_toInt_lt]; omega)
  have h3 : (v.toUInt32 % 65536).toInt32 = nI w := h2
  rw [h2, nI_toInt h1] at hr
  exact ⟨w, by omega, h3, by rw [← lg_i2c_mask, ← lg_i2c_nf, h3]⟩
/-! ===== Int64 as a set of bits: test, set, clear ===== -/
theorem ts_nf {x : Bool} (h : ¬ x = false) : x = true := by cases x <;> first | rfl | exact absurd rfl h
theorem ts_nt {x : Bool} (h : ¬ x = true) : x = false := by cases x <;> first | rfl | exact absurd rfl h
theorem ts_bit {w : Int64} {s : UInt64} {j : Nat} (hj : j < 64) (hs : s.toNat = j) : ((w.toUInt64 >>> s).toInt64 &&& 1) = 0 ↔ w.toBitVec.getLsbD j = false := by
  have e : (w.toUInt64 >>> s).toInt64.toBitVec = w.toBitVec >>> j := by
    apply BitVec.eq_of_toNat_eq
    show (w.toUInt64 >>> s).toNat = _
    rw [UInt64.toNat_shiftRight, hs, Nat.mod_eq_of_lt hj, BitVec.toNat_ushiftRight]
    rfl
  rw [← Int64.toBitVec_inj, Int64.toBitVec_and, e]
  show w.toBitVec >>> j &&& 1#64 = 0#64 ↔ _
  constructor
  · intro h
    have t := congrArg (fun x => x.getLsbD 0) h
    simpa using t
  · intro h
    apply BitVec.eq_of_getLsbD_eq
    intro i hi
    cases i with
    | zero => simp [h]
    | succ i => simp
theorem ts_or {w m : Int64} {j : Nat} (hj : j < 64) (hm : m.toBitVec = BitVec.twoPow 64 j) : (w ||| m) = w ↔ w.toBitVec.getLsbD j = true := by
  rw [← Int64.toBitVec_inj, Int64.toBitVec_or, hm]
  constructor
  · intro h
    have t := congrArg (fun x => x.getLsbD j) h
    simp only [BitVec.getLsbD_or, BitVec.getLsbD_twoPow] at t
    simpa [hj] using t.symm
  · intro h
    apply BitVec.eq_of_getLsbD_eq
    intro i hi
    rw [BitVec.getLsbD_or, BitVec.getLsbD_twoPow]
    by_cases e : j = i
    · subst e; rw [h, Bool.true_or]
    · simp [e]
theorem ts_and {w m : Int64} {j : Nat} (hj : j < 64) (hm : m.toBitVec = BitVec.twoPow 64 j) : (w &&& (m ^^^ (-1))) = w ↔ w.toBitVec.getLsbD j = false := by
  have ha : (-1 : Int64).toBitVec = BitVec.allOnes 64 := by decide
  rw [← Int64.toBitVec_inj, Int64.toBitVec_and, Int64.toBitVec_xor, hm, ha]
  constructor
  · intro h
    have t := congrArg (fun x => x.getLsbD j) h
    simp only [BitVec.getLsbD_and, BitVec.getLsbD_xor, BitVec.getLsbD_twoPow, BitVec.getLsbD_allOnes] at t
    simpa [hj] using t.symm
  · intro h
    apply BitVec.eq_of_getLsbD_eq
    intro i hi
    rw [BitVec.getLsbD_and, BitVec.getLsbD_xor, BitVec.getLsbD_twoPow, BitVec.getLsbD_allOnes]
    by_cases e : j = i
    · subst e; rw [h, Bool.false_and]
    · simp [e, hi]
/-! ===== lN n to 2^64: shifts, and, or, masks, one bit ===== -/
theorem wb_tb (n : Nat) : (lN n).toBitVec = BitVec.ofNat 64 n := rfl
theorem wb_inj {a b : Int64} (h : a.toBitVec = b.toBitVec) : a = b := Int64.toBitVec_inj.mp h
theorem wb_tn {n : Nat} (h : n < 2 ^ 64) : (lN n).toBitVec.toNat = n := by rw [wb_tb, BitVec.toNat_ofNat, Nat.mod_eq_of_lt h]
theorem wb_of (x : Int64) : ∃ n, n < 2 ^ 64 ∧ x = lN n := ⟨x.toBitVec.toNat, x.toBitVec.isLt, wb_inj (by rw [wb_tb]; simp)⟩
theorem wb_of32 (x : Int32) : ∃ n, n < 2 ^ 32 ∧ x = nI n := ⟨x.toBitVec.toNat, x.toBitVec.isLt, Int32.toBitVec_inj.mp (by show _ = BitVec.ofNat 32 _; simp)⟩
theorem wb_c : ∀ k, k < 64 → ((nI k).toInt64 &&& 63) = lN k := by decide +kernel
theorem wb_cu : ∀ k, k < 64 → ((nI k).toInt64.toUInt64 &&& Int64.toUInt64 63) = UInt64.ofNat k := by decide +kernel
theorem wb_sm : ∀ k, k < 64 → (BitVec.ofNat 64 k).smod 64 = BitVec.ofNat 64 k := by decide +kernel
theorem wb_pw {a b : Nat} (h : a ≤ b) : 2 ^ b = 2 ^ a * 2 ^ (b - a) := by rw [← Nat.pow_add]; congr 1; omega
theorem wb_lt2 {a b : Nat} (h : a < b) : 2 ^ a < 2 ^ b := Nat.pow_lt_pow_right (by decide) h
theorem wb_mod (n : Nat) : lN n = lN (n % 2 ^ 64) := wb_inj (by rw [wb_tb, wb_tb]; apply BitVec.eq_of_toNat_eq; rw [BitVec.toNat_ofNat, BitVec.toNat_ofNat, Nat.mod_mod])
theorem wb_shr {n k : Nat} (hn : n < 2 ^ 64) (hk : k < 64) : ((lN n).toUInt64 >>> ((nI k).toInt64.toUInt64 &&& Int64.toUInt64 63)).toInt64 = lN (n / 2 ^ k) := by
  rw [wb_cu k hk]
  apply wb_inj
  apply BitVec.eq_of_toNat_eq
  show ((lN n).toUInt64 >>> UInt64.ofNat k).toNat = (BitVec.ofNat 64 _).toNat
  have h1 : (UInt64.ofNat k).toNat = k := by
    show (BitVec.ofNat 64 k).toNat = k
    rw [BitVec.toNat_ofNat, Nat.mod_eq_of_lt (by omega)]
  have h2 : (lN n).toUInt64.toNat = n := wb_tn hn
  rw [UInt64.toNat_shiftRight, h1, h2, Nat.mod_eq_of_lt hk, Nat.shiftRight_eq_div_pow, BitVec.toNat_ofNat, Nat.mod_eq_of_lt (Nat.lt_of_le_of_lt (Nat.div_le_self _ _) hn)]
theorem wb_shl (n : Nat) {k : Nat} (hk : k < 64) : lN n <<< ((nI k).toInt64 &&& 63) = lN (n * 2 ^ k) := by
  rw [wb_c k hk]
  apply wb_inj
  rw [Int64.toBitVec_shiftLeft, wb_tb, wb_tb, wb_tb, wb_sm k hk]
  apply BitVec.eq_of_toNat_eq
  rw [BitVec.shiftLeft_eq', BitVec.toNat_shiftLeft, BitVec.toNat_ofNat, BitVec.toNat_ofNat, BitVec.toNat_ofNat, Nat.mod_eq_of_lt (show k < 2 ^ 64 by omega), Nat.shiftLeft_eq, Nat.mul_mod, Nat.mod_mod, ← Nat.mul_mod]
theorem wb_and {a b : Nat} (ha : a < 2 ^ 64) (hb : b < 2 ^ 64) : lN a &&& lN b = lN (a &&& b) := by
  apply wb_inj
  rw [Int64.toBitVec_and, wb_tb, wb_tb, wb_tb]
  apply BitVec.eq_of_toNat_eq
  rw [BitVec.toNat_and, BitVec.toNat_ofNat, BitVec.toNat_ofNat, BitVec.toNat_ofNat, Nat.mod_eq_of_lt ha, Nat.mod_eq_of_lt hb, Nat.mod_eq_of_lt (Nat.and_lt_two_pow _ hb)]
theorem wb_or {a b : Nat} (ha : a < 2 ^ 64) (hb : b < 2 ^ 64) : lN a ||| lN b = lN (a ||| b) := by
  apply wb_inj
  rw [Int64.toBitVec_or, wb_tb, wb_tb, wb_tb]
  apply BitVec.eq_of_toNat_eq
  rw [BitVec.toNat_or, BitVec.toNat_ofNat, BitVec.toNat_ofNat, BitVec.toNat_ofNat, Nat.mod_eq_of_lt ha, Nat.mod_eq_of_lt hb, Nat.mod_eq_of_lt (Nat.or_lt_two_pow ha hb)]
theorem wb_mask {n k : Nat} (hn : n < 2 ^ 64) (hk : k < 64) : lN n &&& lN (2 ^ k - 1) = lN (n % 2 ^ k) := by
  rw [wb_and hn (by have := wb_lt2 hk; omega), Nat.and_two_pow_sub_one_eq_mod]
theorem wb_a1 {n : Nat} (hn : n < 2 ^ 64) : lN n &&& 1 = lN (n % 2) := wb_mask (k := 1) hn (by decide)
theorem wb_bit {n k : Nat} (hn : n < 2 ^ 64) (hk : k < 64) : ((lN n).toUInt64 >>> ((nI k).toInt64.toUInt64 &&& Int64.toUInt64 63)).toInt64 &&& 1 = lN (n / 2 ^ k % 2) := by
  rw [wb_shr hn hk, wb_a1 (Nat.lt_of_le_of_lt (Nat.div_le_self _ _) hn)]
theorem wb_xor {q k : Nat} (hk : k < 63) (h : 2 ^ k ≤ q) (h2 : q < 2 ^ (k + 1)) : lN q ^^^ lN (2 ^ k) = lN (q - 2 ^ k) := by
  obtain ⟨r, rfl⟩ : ∃ r, q = 2 ^ k + r := ⟨q - 2 ^ k, by omega⟩
  have hr : r < 2 ^ k := by rw [Nat.pow_succ] at h2; omega
  have hx : (2 ^ k + r) ^^^ 2 ^ k = r := by
    apply Nat.eq_of_testBit_eq
    intro i
    rw [Nat.testBit_xor, Nat.testBit_two_pow]
    rcases Nat.lt_trichotomy i k with h | h | h
    · rw [Nat.testBit_two_pow_add_gt h]
      simp [show ¬ k = i by omega]
    · subst h
      rw [Nat.testBit_two_pow_add_eq]
      simp
    · have a1 : 2 ^ (k + 1) ≤ 2 ^ i := Nat.pow_le_pow_right (by decide) h
      rw [Nat.testBit_lt_two_pow (show 2 ^ k + r < 2 ^ i by omega), Nat.testBit_lt_two_pow (show r < 2 ^ i by omega)]
      simp [show ¬ k = i by omega]
  have b1 := wb_lt2 (show k + 1 < 64 by omega)
  have b2 := wb_lt2 (show k < 64 by omega)
  apply wb_inj
  rw [Int64.toBitVec_xor, wb_tb, wb_tb, wb_tb]
  apply BitVec.eq_of_toNat_eq
  rw [BitVec.toNat_xor, BitVec.toNat_ofNat, BitVec.toNat_ofNat, BitVec.toNat_ofNat, Nat.mod_eq_of_lt (by omega : 2 ^ k + r < 2 ^ 64), Nat.mod_eq_of_lt b2, hx, Nat.add_sub_cancel_left, Nat.mod_eq_of_lt (by omega)]
/-! ===== lN: masks, 'or' of parts that don't overlap is a sum ===== -/
theorem u_tn {n : Nat} (h : n < 2 ^ 64) : (UInt64.ofNat n).toNat = n := Nat.mod_eq_of_lt h
theorem g_and {a b c : Nat} (ha : a < 2 ^ 64) (hb : b < 2 ^ 64) (hc : a &&& b = c) : lN a &&& lN b = lN c := by
  subst hc
  have h : UInt64.ofNat a &&& UInt64.ofNat b = UInt64.ofNat (a &&& b) := UInt64.toNat_inj.mp (by rw [UInt64.toNat_and, u_tn ha, u_tn hb, u_tn (Nat.and_lt_two_pow a hb)])
  have h2 := congrArg UInt64.toInt64 h
  exact h2
theorem g_and1 {a : Nat} (ha : a < 2 ^ 64) : lN a &&& 1 = lN (a % 2) := g_and (b := 1) ha (by decide) (Nat.and_two_pow_sub_one_eq_mod a 1)
theorem g_mask {a s p : Nat} (hp : 2 ^ s = p) (hs : s < 64) (ha : a < 2 ^ 64) : lN a &&& lN (p - 1) = lN (a % p) := by
  subst hp
  have := Nat.pow_lt_pow_right (show 1 < 2 by decide) hs
  exact g_and ha (by omega) (Nat.and_two_pow_sub_one_eq_mod a s)
theorem g_or {k p a b : Nat} (hp : 2 ^ k = p) (ha : a < p) (h : b * p + a < 2 ^ 64) : lN (b * p) ||| lN a = lN (b * p + a) := by
  subst hp
  have h1 : b * 2 ^ k ||| a = b * 2 ^ k + a := by rw [← Nat.shiftLeft_eq, Nat.shiftLeft_add_eq_or_of_lt ha]
  have h3 : UInt64.ofNat (b * 2 ^ k) ||| UInt64.ofNat a = UInt64.ofNat (b * 2 ^ k + a) := UInt64.toNat_inj.mp (by rw [UInt64.toNat_or, u_tn (by omega), u_tn (by omega), u_tn h, h1])
  have h2 := congrArg UInt64.toInt64 h3
  exact h2
theorem g_or' {k p a b : Nat} (hp : 2 ^ k = p) (ha : a < p) (h : a + b * p < 2 ^ 64) : lN a ||| lN (b * p) = lN (a + b * p) := by
  rw [Int64.or_comm, g_or hp ha (by omega), Nat.add_comm]
theorem g_ushr {a k p : Nat} {y : UInt64} (hy : y = UInt64.ofNat k) (hk : k < 64) (hp : 2 ^ k = p) (ha : a < 2 ^ 64) : ((lN a).toUInt64 >>> y).toInt64 = lN (a / p) := by
  subst hy hp
  have h : UInt64.ofNat a >>> UInt64.ofNat k = UInt64.ofNat (a / 2 ^ k) := UInt64.toNat_inj.mp (by rw [UInt64.toNat_shiftRight, u_tn ha, u_tn (by omega), u_tn (Nat.lt_of_le_of_lt (Nat.div_le_self _ _) ha), Nat.mod_eq_of_lt hk, Nat.shiftRight_eq_div_pow])
  have h2 := congrArg UInt64.toInt64 h
  exact h2
theorem g_shl {a k p : Nat} {y : Int64} (hy : y.toBitVec.smod 64 = BitVec.ofNat 64 k) (hk : k < 64) (hp : 2 ^ k = p) (ha : a < 2 ^ 64) : lN a <<< y = lN (a * p) := by
  subst hp
  apply Int64.toBitVec_inj.mp
  rw [Int64.toBitVec_shiftLeft, hy]
  apply BitVec.eq_of_toNat_eq
  have hb : (lN a).toBitVec.toNat = a := Nat.mod_eq_of_lt ha
  have hk' : (BitVec.ofNat 64 k).toNat = k := Nat.mod_eq_of_lt (by omega)
  have h : ((lN a).toBitVec <<< BitVec.ofNat 64 k).toNat = (a * 2 ^ k) % 2 ^ 64 := by simp only [BitVec.shiftLeft_eq', BitVec.toNat_shiftLeft, hb, hk', Nat.shiftLeft_eq]
  exact h
/-! ===== lN to 2^62 under >> and >>> ===== -/
theorem pf_lI {a : Nat} (h : a < 2 ^ 63) : (lN a).toInt = (a : Int) := lg_ofNat_toInt h
theorem pf_shr {a d : Nat} {D : Int64} (hD : (D.toBitVec.smod 64).toNat = d) (h : a < 2 ^ 62) : lN a >>> D = lN (a / 2 ^ d) := by
  have hd : a / 2 ^ d ≤ a := Nat.div_le_self _ _
  apply Int64.toInt_inj.mp
  have e : (lN a >>> D).toInt = (lN a).toInt >>> d := by
    rw [← hD]
    exact BitVec.toInt_sshiftRight ..
  rw [e, Int.shiftRight_eq_div_pow, pf_lI (by omega), pf_lI (by omega)]
  rfl
theorem pf_ushr {a d : Nat} {D : UInt64} (hD : D.toNat % 64 = d) (h : a < 2 ^ 62) : ((lN a).toUInt64 >>> D).toInt64 = lN (a / 2 ^ d) := by
  have hd : a / 2 ^ d ≤ a := Nat.div_le_self _ _
  have e : (lN a).toUInt64 >>> D = UInt64.ofNat (a / 2 ^ d) := UInt64.toNat_inj.mp (by
    rw [UInt64.toNat_shiftRight, hD, Nat.shiftRight_eq_div_pow, UInt64.toNat_ofNat']
    show (UInt64.ofNat a).toNat / 2 ^ d = _
    rw [UInt64.toNat_ofNat', Nat.mod_eq_of_lt (by omega), Nat.mod_eq_of_lt (by omega)])
  rw [e]
  rfl
theorem pf_andw (x : Int64) : ∃ m, m < 2 ^ 32 ∧ x &&& 4294967295 = lN m := ⟨x.toBitVec.toNat % 2 ^ 32, Nat.mod_lt _ (by decide), Int64.toBitVec_inj.mp (BitVec.eq_of_toNat_eq (by
  show (x.toBitVec &&& 4294967295#64).toNat = (BitVec.ofNat 64 (x.toBitVec.toNat % 2 ^ 32)).toNat
  rw [BitVec.toNat_and, show (4294967295#64).toNat = 2 ^ 32 - 1 from by decide, Nat.and_two_pow_sub_one_eq_mod, BitVec.toNat_ofNat]
  omega))⟩
/-! ===== Int64 as an unsigned number: uN x ===== -/
def uN (x : Int64) : Nat := x.toUInt64.toNat
theorem uN_lt (x : Int64) : uN x < 18446744073709551616 := x.toUInt64.toNat_lt
theorem uN_inj {x y : Int64} (h : uN x = uN y) : x = y := congrArg UInt64.toInt64 (UInt64.toNat_inj.mp h)
theorem uN_add (x y : Int64) : uN (x + y) = (uN x + uN y) % 18446744073709551616 := by
  show (x.toUInt64 + y.toUInt64).toNat = _
  exact UInt64.toNat_add _ _
theorem uN_mul (x y : Int64) : uN (x * y) = (uN x * uN y) % 18446744073709551616 := by
  show (x.toUInt64 * y.toUInt64).toNat = _
  exact UInt64.toNat_mul _ _
theorem uN_shl (x : Int64) : uN (x <<< ((1 : Int32).toInt64 &&& 63)) = (2 * uN x) % 18446744073709551616 := by
  have h : (((1 : Int32).toInt64 &&& 63).toBitVec.smod 64).toNat = 1 := by decide
  show (x.toBitVec <<< (((1 : Int32).toInt64 &&& 63).toBitVec.smod 64).toNat).toNat = _
  rw [h, BitVec.toNat_shiftLeft, Nat.shiftLeft_eq, Nat.mul_comm]
  rfl
theorem uN_shr (x : Int64) (s : UInt64) : uN (x.toUInt64 >>> s).toInt64 = uN x / 2 ^ (s.toNat % 64) := by
  show (x.toUInt64 >>> s).toNat = _
  rw [UInt64.toNat_shiftRight, Nat.shiftRight_eq_div_pow]
  rfl
theorem uN_s32 (x : Int64) : uN (x.toUInt64 >>> ((32 : Int32).toInt64.toUInt64 &&& Int64.toUInt64 63)).toInt64 = uN x / 4294967296 := by
  have h : ((32 : Int32).toInt64.toUInt64 &&& Int64.toUInt64 63).toNat % 64 = 32 := by decide
  rw [uN_shr, h]
theorem uN_s63 (x : Int64) : uN (x.toUInt64 >>> ((63 : Int32).toInt64.toUInt64 &&& Int64.toUInt64 63)).toInt64 = uN x / 9223372036854775808 := by
  have h : ((63 : Int32).toInt64.toUInt64 &&& Int64.toUInt64 63).toNat % 64 = 63 := by decide
  rw [uN_shr, h]
theorem uN_lo (x : Int64) : uN (x &&& 4294967295) = uN x % 4294967296 := by
  show (x.toUInt64 &&& Int64.toUInt64 4294967295).toNat = _
  rw [UInt64.toNat_and]
  exact Nat.and_two_pow_sub_one_eq_mod _ 32
theorem uN_bit (x : Int64) : (x &&& 1) = 0 ↔ uN x % 2 = 0 := by
  have h : uN (x &&& 1) = uN x % 2 := by
    show (x.toUInt64 &&& Int64.toUInt64 1).toNat = _
    rw [UInt64.toNat_and]
    exact Nat.and_two_pow_sub_one_eq_mod _ 1
  rw [← h]
  exact ⟨fun z => by rw [z]; rfl, fun z => uN_inj (z.trans rfl)⟩
theorem uN_or {x y : Int64} (hy : uN y < 2) : uN ((x <<< ((1 : Int32).toInt64 &&& 63)) ||| y) = (2 * uN x) % 18446744073709551616 + uN y := by
  have h1 : uN ((x <<< ((1 : Int32).toInt64 &&& 63)) ||| y) = uN (x <<< ((1 : Int32).toInt64 &&& 63)) ||| uN y := UInt64.toNat_or _ _
  have h2 : (2 * uN x) % 18446744073709551616 = 2 ^ 1 * (uN x % 9223372036854775808) := by omega
  rw [h1, uN_shl, h2]
  exact (Nat.two_pow_add_eq_or_of_lt (i := 1) hy _).symm
theorem nat_xor {a : Nat} (h : a < 18446744073709551616) : a ^^^ 2 ^ 63 = (a + 9223372036854775808) % 18446744073709551616 := by
  have h1 : (a ^^^ 2 ^ 63) % 2 ^ 63 = a % 2 ^ 63 := by rw [Nat.xor_mod_two_pow, Nat.mod_self, Nat.xor_zero]
  have h2 : (a ^^^ 2 ^ 63) / 2 ^ 63 = (a / 2 ^ 63) ^^^ 1 := by rw [Nat.xor_div_two_pow, Nat.div_self (Nat.two_pow_pos 63)]
  have h3 : a / 2 ^ 63 = 0 ∨ a / 2 ^ 63 = 1 := by omega
  generalize a ^^^ 2 ^ 63 = t at h1 h2
  rcases h3 with h3 | h3
  · rw [h3] at h2
    have h2 : t / 2 ^ 63 = 1 := h2
    omega
  · rw [h3] at h2
    have h2 : t / 2 ^ 63 = 0 := h2
    omega
theorem uN_xor (x : Int64) : uN (x ^^^ (-9223372036854775808)) = (uN x + 9223372036854775808) % 18446744073709551616 := by
  rw [← nat_xor (uN_lt x)]
  exact UInt64.toNat_xor _ _
theorem uN_int (x : Int64) : x.toInt = if 2 * uN x < 18446744073709551616 then (uN x : Int) else (uN x : Int) - 18446744073709551616 := BitVec.toInt_eq_toNat_cond _
theorem uN_le (x y : Int64) : (x ^^^ (-9223372036854775808)) ≤ (y ^^^ (-9223372036854775808)) ↔ uN x ≤ uN y := by
  have hx := uN_lt x
  have hy := uN_lt y
  rw [Int64.le_iff_toInt_le, uN_int, uN_int, uN_xor, uN_xor]
  omega
theorem uN_sk (x : Int64) {k : Nat} (hk : k < 64) : uN (x.toUInt64 >>> ((nI k).toInt64.toUInt64 &&& Int64.toUInt64 63)).toInt64 = uN x / 2 ^ k := by
  have h : ((nI k).toInt64.toUInt64 &&& Int64.toUInt64 63).toNat % 64 = k := by
    rw [nI_l (by omega), UInt64.toNat_and]
    have e : (lN k).toUInt64.toNat = k % 2 ^ 64 := rfl
    have e2 : (Int64.toUInt64 63).toNat = 2 ^ 6 - 1 := by decide
    rw [e, e2, Nat.and_two_pow_sub_one_eq_mod]
    omega
  rw [uN_shr, h]
/-! ===== unsigned comparison by xor with the least ===== -/
theorem lN_bv (n : Nat) : (lN n).toBitVec = BitVec.ofNat 64 n := rfl
theorem lN_nat {n : Nat} (h : n < 2 ^ 64) : (lN n).toBitVec.toNat = n := by rw [lN_bv, BitVec.toNat_ofNat]; exact Nat.mod_eq_of_lt h
theorem lN_xor (a b : Nat) : lN a ^^^ lN b = lN (a ^^^ b) := by
  apply Int64.toBitVec_inj.mp; rw [Int64.toBitVec_xor, lN_bv, lN_bv, lN_bv]; apply BitVec.eq_of_getLsbD_eq; intro i hi; simp [BitVec.getLsbD_ofNat, Nat.testBit_xor, hi]
theorem lN_ti {m : Nat} (h : m < 2 ^ 64) : (lN m).toInt = if m < 2 ^ 63 then (m : Int) else (m : Int) - 2 ^ 64 := by
  have c := BitVec.toInt_eq_toNat_cond (lN m).toBitVec
  rw [lN_nat h] at c
  show (lN m).toBitVec.toInt = _
  rw [c]
  split <;> split <;> omega
theorem xor63 {x : Nat} (h : x < 2 ^ 63) : x ^^^ 2 ^ 63 = 2 ^ 63 + x := by
  apply Nat.eq_of_testBit_eq
  intro i
  rw [Nat.testBit_xor, Nat.testBit_two_pow]
  rcases Nat.lt_trichotomy i 63 with z | z | z
  · rw [Nat.testBit_two_pow_add_gt z, decide_eq_false (by omega)]; simp
  · subst z; rw [Nat.testBit_two_pow_add_eq]; simp
  · have hp : 2 ^ 64 ≤ 2 ^ i := Nat.pow_le_pow_right (by decide) z
    rw [Nat.testBit_lt_two_pow (show x < 2 ^ i by omega), Nat.testBit_lt_two_pow (show 2 ^ 63 + x < 2 ^ i by omega), decide_eq_false (by omega)]; rfl
theorem xorS {a : Nat} (h : a < 2 ^ 64) : (lN a ^^^ (-9223372036854775808)).toInt = (a : Int) - 2 ^ 63 := by
  rw [show (-9223372036854775808 : Int64) = lN (2 ^ 63) from by decide +kernel, lN_xor]
  rcases Nat.lt_or_ge a (2 ^ 63) with z | z
  · rw [xor63 z, lN_ti (by omega), if_neg (by omega)]; omega
  · obtain ⟨x, rfl⟩ : ∃ x, a = 2 ^ 63 + x := ⟨a - 2 ^ 63, by omega⟩
    rw [← xor63 (by omega), Nat.xor_assoc, Nat.xor_self, Nat.xor_zero, lN_ti (by omega), if_pos (by omega), xor63 (by omega)]; omega
theorem ultL {a b : Nat} (ha : a < 2 ^ 64) (hb : b < 2 ^ 64) : ((lN b ^^^ (-9223372036854775808)) ≤ (lN a ^^^ (-9223372036854775808))) ↔ b ≤ a := by
  rw [Int64.le_iff_toInt_le, xorS ha, xorS hb]; omega
/-! ===== Int64 masks of n low bits ===== -/
theorem cr_bits (W U M : BitVec 64) : ((W &&& U) &&& (U &&& (M ^^^ BitVec.allOnes 64))) = 0#64 ↔ (W &&& U) &&& M = W &&& U := by
  constructor
  · intro h
    apply BitVec.eq_of_getLsbD_eq
    intro i hi
    have e := congrArg (fun x => BitVec.getLsbD x i) h
    simp only [BitVec.getLsbD_and, BitVec.getLsbD_xor, BitVec.getLsbD_allOnes, BitVec.getLsbD_zero, hi, decide_true] at e ⊢
    revert e
    cases W.getLsbD i <;> cases U.getLsbD i <;> cases M.getLsbD i <;> decide
  · intro h
    apply BitVec.eq_of_getLsbD_eq
    intro i hi
    have e := congrArg (fun x => BitVec.getLsbD x i) h
    simp only [BitVec.getLsbD_and, BitVec.getLsbD_xor, BitVec.getLsbD_allOnes, BitVec.getLsbD_zero, hi, decide_true] at e ⊢
    revert e
    cases W.getLsbD i <;> cases U.getLsbD i <;> cases M.getLsbD i <;> decide
theorem cr_mask (w U m : Int64) (n : Nat) (hm : m.toBitVec.toNat = 2 ^ n - 1) : ((w &&& U) &&& (U &&& (m ^^^ (-1)))) = 0 ↔ (w &&& U).toBitVec.toNat < 2 ^ n := by
  have e0 : (-1 : Int64).toBitVec = BitVec.allOnes 64 := by decide
  have z0 : (0 : Int64).toBitVec = 0#64 := by decide
  rw [← Int64.toBitVec_inj, z0, Int64.toBitVec_and, Int64.toBitVec_and, Int64.toBitVec_and, Int64.toBitVec_xor, e0, cr_bits]
  generalize w.toBitVec &&& U.toBitVec = T
  rw [← BitVec.toNat_inj, BitVec.toNat_and, hm, Nat.and_two_pow_sub_one_eq_mod]
  constructor
  · intro h
    have t := Nat.mod_lt T.toNat (Nat.two_pow_pos n)
    rw [h] at t
    exact t
  · exact Nat.mod_eq_of_lt
theorem cr_shr (t : Int64) (x : UInt64) (n : Nat) (hx : x.toNat % 64 = n) : (t.toUInt64 >>> x).toInt64 = 0 ↔ t.toBitVec.toNat < 2 ^ n := by
  rw [← Int64.toBitVec_inj, ← BitVec.toNat_inj]
  show (t.toUInt64 >>> x).toNat = 0 ↔ t.toUInt64.toNat < 2 ^ n
  rw [UInt64.toNat_shiftRight, hx, Nat.shiftRight_eq_div_pow]
  constructor
  · intro h
    have d : t.toUInt64.toNat / 2 ^ n < 1 := by
      rw [h]
      decide
    have e := (Nat.div_lt_iff_lt_mul (Nat.two_pow_pos n)).mp d
    rw [Nat.one_mul] at e
    exact e
  · exact Nat.div_eq_of_lt
theorem cr_amt (s : Int64) : ∃ n, n < 64 ∧ s &&& 63 = lN n ∧ (s.toUInt64 &&& Int64.toUInt64 63).toNat % 64 = n := by
  have e : (s.toUInt64 &&& Int64.toUInt64 63).toNat = s.toUInt64.toNat % 2 ^ 6 := by
    rw [UInt64.toNat_and, show (Int64.toUInt64 63).toNat = 2 ^ 6 - 1 from by decide, Nat.and_two_pow_sub_one_eq_mod]
  refine ⟨s.toUInt64.toNat % 2 ^ 6, by omega, ?_, by omega⟩
  rw [← Int64.toBitVec_inj, ← BitVec.toNat_inj]
  show (s.toUInt64 &&& Int64.toUInt64 63).toNat = (BitVec.ofNat 64 (s.toUInt64.toNat % 2 ^ 6)).toNat
  rw [e, BitVec.toNat_ofNat]
  omega
end
section
/-! the plain law: the bits of a frame, after how many bits which, and what a listener has heard -/
abbrev wn_L : Type := Nat × Int32 × Nat × Nat × Nat × Nat × Nat × Nat × Nat
def wn_ckf (c b : Nat) : Nat := if b ^^^ (c / 16384 % 2) = 1 then (2 * c % 32768) ^^^ 17817 else 2 * c % 32768
theorem wn_ckf_lt (c b : Nat) : wn_ckf c b < 32768 := by
  unfold wn_ckf
  split
  · exact Nat.xor_lt_two_pow (n := 15) (by omega) (by omega)
  · omega
def wn_bit (fi fl fd c k : Nat) : Nat :=
  if 1 ≤ k ∧ k < 12 then fi / 2 ^ (11 - k) % 2
  else if 15 ≤ k ∧ k < 19 then fl / 2 ^ (18 - k) % 2
  else if 19 ≤ k ∧ k < 19 + 8 * fl then fd / 2 ^ (18 + 8 * fl - k) % 2
  else if k < 19 then 0 else c / 2 ^ (33 + 8 * fl - k) % 2
theorem wn_bit_lt (fi fl fd c k : Nat) : wn_bit fi fl fd c k < 2 := by
  unfold wn_bit
  split
  · exact Nat.mod_lt _ (by decide)
  · split
    · exact Nat.mod_lt _ (by decide)
    · split
      · exact Nat.mod_lt _ (by decide)
      · split
        · decide
        · exact Nat.mod_lt _ (by decide)
def wn_put (len k b : Nat) (s : Int32 × Nat × Nat × Nat) : Int32 × Nat × Nat × Nat :=
  (nI b, (if s.2.1 = 5 then (if nI b = 1 - s.1 then 2 else 1) else if nI b = s.1 then s.2.1 + 1 else 1),
    (if k < 19 + 8 * len then wn_ckf s.2.2.1 b else s.2.2.1), if s.2.1 = 5 then s.2.2.2 + 2 else s.2.2.2 + 1)
def wn_D (fi fl fd : Nat) : Nat → Int32 × Nat × Nat × Nat
  | 0 => (-1, 0, 0, 0)
  | k + 1 => wn_put fl k (wn_bit fi fl fd (wn_D fi fl fd k).2.2.1 k) (wn_D fi fl fd k)
theorem wn_D_s (fi fl fd k : Nat) : wn_D fi fl fd (k + 1) = wn_put fl k (wn_bit fi fl fd (wn_D fi fl fd k).2.2.1 k) (wn_D fi fl fd k) := rfl
def wn_la (fi fl fd k : Nat) : Int32 := (wn_D fi fl fd k).1
def wn_rw (fi fl fd k : Nat) : Nat := (wn_D fi fl fd k).2.1
def wn_cs (fi fl fd k : Nat) : Nat := (wn_D fi fl fd k).2.2.1
def wn_cn (fi fl fd k : Nat) : Nat := (wn_D fi fl fd k).2.2.2
def wn_b (fi fl fd k : Nat) : Nat := wn_bit fi fl fd (wn_cs fi fl fd k) k
theorem wn_b_lt (fi fl fd k : Nat) : wn_b fi fl fd k < 2 := wn_bit_lt _ _ _ _ _
theorem wn_la_s (fi fl fd k : Nat) : wn_la fi fl fd (k + 1) = nI (wn_b fi fl fd k) := rfl
theorem wn_rw_s (fi fl fd k : Nat) : wn_rw fi fl fd (k + 1) = if wn_rw fi fl fd k = 5 then (if nI (wn_b fi fl fd k) = 1 - wn_la fi fl fd k then 2 else 1) else if nI (wn_b fi fl fd k) = wn_la fi fl fd k then wn_rw fi fl fd k + 1 else 1 := rfl
theorem wn_cs_s (fi fl fd k : Nat) : wn_cs fi fl fd (k + 1) = if k < 19 + 8 * fl then wn_ckf (wn_cs fi fl fd k) (wn_b fi fl fd k) else wn_cs fi fl fd k := rfl
theorem wn_cn_s (fi fl fd k : Nat) : wn_cn fi fl fd (k + 1) = if wn_rw fi fl fd k = 5 then wn_cn fi fl fd k + 2 else wn_cn fi fl fd k + 1 := rfl
theorem wn_n01 {b : Nat} (h : b < 2) : nI b = 0 ∨ nI b = 1 := by
  rcases (by omega : b = 0 ∨ b = 1) with rfl | rfl
  · exact Or.inl rfl
  · exact Or.inr rfl
theorem wn_ok (fi fl fd : Nat) : ∀ k, wn_rw fi fl fd k ≤ 5 ∧ wn_cs fi fl fd k < 32768 ∧ 4 * wn_cn fi fl fd k + wn_rw fi fl fd k ≤ 5 * k ∧ k ≤ wn_cn fi fl fd k ∧ (0 < k → wn_la fi fl fd k = 0 ∨ wn_la fi fl fd k = 1) := by
  intro k
  induction k with
  | zero => exact ⟨Nat.zero_le _, show (0 : Nat) < 32768 by decide, show 4 * (0 : Nat) + 0 ≤ 5 * 0 by decide, Nat.zero_le _, fun h => absurd h (by decide)⟩
  | succ k ih =>
    obtain ⟨h1, h2, h3, h4, h5⟩ := ih
    refine ⟨?_, ?_, ?_, ?_, fun _ => wn_n01 (wn_b_lt fi fl fd k)⟩
    · rw [wn_rw_s]
      split
      · split <;> omega
      · split <;> omega
    · rw [wn_cs_s]
      split
      · exact wn_ckf_lt _ _
      · exact h2
    · rw [wn_rw_s, wn_cn_s]
      by_cases z : wn_rw fi fl fd k = 5
      · rw [if_pos z, if_pos z]
        split <;> omega
      · rw [if_neg z, if_neg z]
        split <;> omega
    · rw [wn_cn_s]
      split <;> omega
theorem wn_cn_lt (fi fl fd k : Nat) : wn_cn fi fl fd k < wn_cn fi fl fd (k + 1) := by
  rw [wn_cn_s]; split <;> omega
theorem wn_cn_mono (fi fl fd k : Nat) : ∀ m, wn_cn fi fl fd k ≤ wn_cn fi fl fd (k + m) := by
  intro m
  induction m with
  | zero => exact Nat.le_refl _
  | succ m ih => exact Nat.le_trans ih (Nat.le_of_lt (wn_cn_lt fi fl fd (k + m)))
theorem wn_cn_le {fi fl fd j k : Nat} (h : j ≤ k) : wn_cn fi fl fd j ≤ wn_cn fi fl fd k := by
  obtain ⟨m, rfl⟩ : ∃ m, k = j + m := ⟨k - j, by omega⟩
  exact wn_cn_mono fi fl fd j m
theorem wn_cn_lt2 {fi fl fd j k : Nat} (h : j < k) : wn_cn fi fl fd j < wn_cn fi fl fd k :=
  Nat.lt_of_lt_of_le (wn_cn_lt fi fl fd j) (wn_cn_le h)
theorem wn_cn_max {fi fl fd : Nat} (h : fl ≤ 8) : wn_cn fi fl fd (34 + 8 * fl) ≤ 122 := by
  have := (wn_ok fi fl fd (34 + 8 * fl)).2.2.1
  omega
theorem wn_cs_end (fi fl fd : Nat) : ∀ m, wn_cs fi fl fd (19 + 8 * fl + m) = wn_cs fi fl fd (19 + 8 * fl) := by
  intro m
  induction m with
  | zero => rfl
  | succ m ih =>
    rw [← Nat.add_assoc, wn_cs_s, if_neg (by omega)]
    exact ih
theorem wn_cs_e {fi fl fd k : Nat} (h : 19 + 8 * fl ≤ k) : wn_cs fi fl fd k = wn_cs fi fl fd (19 + 8 * fl) := by
  obtain ⟨m, rfl⟩ : ∃ m, k = 19 + 8 * fl + m := ⟨k - (19 + 8 * fl), by omega⟩
  exact wn_cs_end fi fl fd m
theorem wn_half (x m : Nat) : x / 2 ^ m = 2 * (x / 2 ^ (m + 1)) + x / 2 ^ m % 2 := by
  have : x / 2 ^ (m + 1) = x / 2 ^ m / 2 := by rw [Nat.pow_succ, Nat.div_div_eq_div_mul]
  rw [this]
  generalize x / 2 ^ m = y
  omega
theorem wn_dz {x m n : Nat} (hx : x < 2 ^ m) (h : m ≤ n) : x / 2 ^ n = 0 :=
  Nat.div_eq_of_lt (Nat.lt_of_lt_of_le hx (Nat.pow_le_pow_right (by decide) h))
theorem wn_eg {x A B k b : Nat} (hx : x < 2 ^ (B - A)) (hAB : A ≤ B) (hb : A ≤ k → k < B → b = x / 2 ^ (B - 1 - k) % 2) : (if A ≤ k ∧ k < B then 2 * (x / 2 ^ (B - k)) + b else x / 2 ^ (B - k)) = x / 2 ^ (B - (k + 1)) := by
  by_cases h1 : k < A
  · rw [if_neg (by omega), wn_dz hx (by omega), wn_dz hx (by omega)]
  · by_cases h2 : k < B
    · rw [if_pos ⟨by omega, h2⟩, hb (by omega) h2, wn_half x (B - (k + 1)), show B - (k + 1) + 1 = B - k by omega, show B - 1 - k = B - (k + 1) by omega]
    · rw [if_neg (by omega), show B - (k + 1) = B - k by omega]
/-! a listener -/
def wn_tl (L : wn_L) : Prop := 19 ≤ L.1 ∧ L.1 = 34 + 8 * L.2.2.2.2.2.1
def wn_nx (L : wn_L) (b : Nat) : wn_L := match L with
  | (k, x, r, c, hi, hl, hd, hc, tc) =>
    if 19 ≤ k ∧ k = 34 + 8 * hl then (k, x, r, c, hi, hl, hd, hc, tc + 1)
    else if r = 5 then (k, nI b, (if nI b = x then r + 1 else 1), c, hi, hl, hd, hc, tc)
    else (k + 1, nI b, (if nI b = x then r + 1 else 1), (if k < 19 ∨ k < 19 + 8 * hl then wn_ckf c b else c),
      (if 1 ≤ k ∧ k < 12 then 2 * hi + b else hi), (if 15 ≤ k ∧ k < 19 then 2 * hl + b else hl),
      (if 19 ≤ k ∧ k < 19 + 8 * hl then 2 * hd + b else hd), (if 19 ≤ k ∧ 19 + 8 * hl ≤ k then 2 * hc + b else hc), tc)
def wn_ob (L : wn_L) (fi fl fd : Nat) : Nat := match L with
  | (k, x, r, c, _, _, _, _, _) => if r = 5 then (if x = 0 then 1 else 0) else wn_bit fi fl fd c k
theorem wn_ob_lt (L : wn_L) (fi fl fd : Nat) : wn_ob L fi fl fd < 2 := by
  obtain ⟨k, x, r, c, hi, hl, hd, hc, tc⟩ := L
  show (if r = 5 then (if x = 0 then 1 else 0) else wn_bit fi fl fd c k) < 2
  split
  · split <;> decide
  · exact wn_bit_lt _ _ _ _ _
def wn_SP (fi fl fd k : Nat) (x : Int32) (r : Nat) : wn_L := (k, x, r, wn_cs fi fl fd k, fi / 2 ^ (12 - k), fl / 2 ^ (19 - k), fd / 2 ^ (19 + 8 * fl - k), wn_cs fi fl fd (19 + 8 * fl) / 2 ^ (34 + 8 * fl - k), 0)
def wn_TP (fi fl fd j : Nat) : wn_L := (34 + 8 * fl, wn_la fi fl fd (34 + 8 * fl), wn_rw fi fl fd (34 + 8 * fl), wn_cs fi fl fd (19 + 8 * fl), fi, fl, fd, wn_cs fi fl fd (19 + 8 * fl), j)
def wn_St (fi fl fd t : Nat) (L : wn_L) : Prop :=
  (∃ k, k < 34 + 8 * fl ∧ t = wn_cn fi fl fd k ∧ L = wn_SP fi fl fd k (wn_la fi fl fd k) (wn_rw fi fl fd k)) ∨
  (∃ k, k < 34 + 8 * fl ∧ wn_rw fi fl fd k = 5 ∧ t = wn_cn fi fl fd k + 1 ∧ L = wn_SP fi fl fd k (1 - wn_la fi fl fd k) 1) ∨
  (∃ j, t = wn_cn fi fl fd (34 + 8 * fl) + j ∧ L = wn_TP fi fl fd j)
def wn_FO (fi fl fd : Nat) : Prop := fi < 2048 ∧ fl ≤ 8 ∧ fd < 2 ^ (8 * fl)
theorem wn_hl {fl k : Nat} (h : 19 ≤ k) : fl / 2 ^ (19 - k) = fl := by
  rw [show 19 - k = 0 by omega, Nat.pow_zero, Nat.div_one]
theorem wn_ntl {fi fl fd k : Nat} {x : Int32} {r : Nat} (hk : k < 34 + 8 * fl) : ¬ wn_tl (wn_SP fi fl fd k x r) := by
  intro h
  have h1 : 19 ≤ k := h.1
  have h2 : k = 34 + 8 * (fl / 2 ^ (19 - k)) := h.2
  rw [wn_hl h1] at h2
  omega
theorem wn_SP_N (fi fl fd : Nat) : wn_SP fi fl fd (34 + 8 * fl) (wn_la fi fl fd (34 + 8 * fl)) (wn_rw fi fl fd (34 + 8 * fl)) = wn_TP fi fl fd 0 := by
  unfold wn_SP wn_TP
  rw [wn_cs_e (by omega), show 12 - (34 + 8 * fl) = 0 by omega, show 19 - (34 + 8 * fl) = 0 by omega, show 19 + 8 * fl - (34 + 8 * fl) = 0 by omega, show 34 + 8 * fl - (34 + 8 * fl) = 0 by omega, Nat.pow_zero, Nat.div_one, Nat.div_one, Nat.div_one, Nat.div_one]
/-- a plain bit -/
theorem wn_nx_p {fi fl fd k : Nat} {x : Int32} {r : Nat} (hF : wn_FO fi fl fd) (hk : k < 34 + 8 * fl) (hr : ¬ r = 5) :
    wn_nx (wn_SP fi fl fd k x r) (wn_b fi fl fd k) = wn_SP fi fl fd (k + 1) (nI (wn_b fi fl fd k)) (if nI (wn_b fi fl fd k) = x then r + 1 else 1) := by
  obtain ⟨f1, f2, f3⟩ := hF
  have hC := (wn_ok fi fl fd (19 + 8 * fl)).2.1
  have nt : ¬ (19 ≤ k ∧ k = 34 + 8 * (fl / 2 ^ (19 - k))) := wn_ntl (x := x) (r := r) (fi := fi) (fd := fd) hk
  unfold wn_SP wn_nx
  dsimp only
  rw [if_neg nt, if_neg hr]
  have e1 : (if 1 ≤ k ∧ k < 12 then 2 * (fi / 2 ^ (12 - k)) + wn_b fi fl fd k else fi / 2 ^ (12 - k)) = fi / 2 ^ (12 - (k + 1)) :=
    wn_eg (A := 1) (B := 12) (by omega) (by decide) (fun h1 h2 => by
      unfold wn_b wn_bit
      rw [if_pos ⟨h1, h2⟩])
  have e2 : (if 15 ≤ k ∧ k < 19 then 2 * (fl / 2 ^ (19 - k)) + wn_b fi fl fd k else fl / 2 ^ (19 - k)) = fl / 2 ^ (19 - (k + 1)) :=
    wn_eg (A := 15) (B := 19) (by omega) (by decide) (fun h1 h2 => by
      unfold wn_b wn_bit
      rw [if_neg (by omega), if_pos ⟨h1, h2⟩])
  have c3 : (19 ≤ k ∧ k < 19 + 8 * (fl / 2 ^ (19 - k))) ↔ (19 ≤ k ∧ k < 19 + 8 * fl) := by
    constructor
    · intro ⟨z, y⟩; rw [wn_hl z] at y; exact ⟨z, y⟩
    · intro ⟨z, y⟩; rw [wn_hl z]; exact ⟨z, y⟩
  have e3 : (if 19 ≤ k ∧ k < 19 + 8 * fl then 2 * (fd / 2 ^ (19 + 8 * fl - k)) + wn_b fi fl fd k else fd / 2 ^ (19 + 8 * fl - k)) = fd / 2 ^ (19 + 8 * fl - (k + 1)) :=
    wn_eg (A := 19) (B := 19 + 8 * fl) (by rw [show 19 + 8 * fl - 19 = 8 * fl by omega]; exact f3) (by omega) (fun h1 h2 => by
      unfold wn_b wn_bit
      rw [if_neg (by omega), if_neg (by omega), if_pos ⟨h1, h2⟩, show 19 + 8 * fl - 1 - k = 18 + 8 * fl - k by omega])
  have c4 : (19 ≤ k ∧ 19 + 8 * (fl / 2 ^ (19 - k)) ≤ k) ↔ (19 + 8 * fl ≤ k ∧ k < 34 + 8 * fl) := by
    constructor
    · intro ⟨z, y⟩; rw [wn_hl z] at y; exact ⟨y, hk⟩
    · intro ⟨z, _⟩
      have z' : 19 ≤ k := by omega
      rw [wn_hl z']; exact ⟨z', z⟩
  have e4 : (if 19 + 8 * fl ≤ k ∧ k < 34 + 8 * fl then 2 * (wn_cs fi fl fd (19 + 8 * fl) / 2 ^ (34 + 8 * fl - k)) + wn_b fi fl fd k else wn_cs fi fl fd (19 + 8 * fl) / 2 ^ (34 + 8 * fl - k)) = wn_cs fi fl fd (19 + 8 * fl) / 2 ^ (34 + 8 * fl - (k + 1)) :=
    wn_eg (A := 19 + 8 * fl) (B := 34 + 8 * fl) (by rw [show 34 + 8 * fl - (19 + 8 * fl) = 15 by omega]; exact hC) (by omega) (fun h1 h2 => by
      unfold wn_b wn_bit
      rw [if_neg (by omega), if_neg (by omega), if_neg (by omega), if_neg (by omega), wn_cs_e h1, show 34 + 8 * fl - 1 - k = 33 + 8 * fl - k by omega])
  have c5 : (k < 19 ∨ k < 19 + 8 * (fl / 2 ^ (19 - k))) ↔ k < 19 + 8 * fl := by
    by_cases z : 19 ≤ k
    · rw [wn_hl z]; omega
    · constructor
      · intro _; omega
      · intro _; exact Or.inl (by omega)
  simp only [c3, c4, c5, e1, e2, e3, e4]
  rw [← wn_cs_s]
theorem wn_ob_A {fi fl fd k : Nat} {x : Int32} {r : Nat} (hr : ¬ r = 5) : wn_ob (wn_SP fi fl fd k x r) fi fl fd = wn_b fi fl fd k := if_neg hr
theorem wn_flip {x : Int32} (h : x = 0 ∨ x = 1) : nI (if x = 0 then 1 else 0) = 1 - x ∧ ¬ nI (if x = 0 then 1 else 0) = x := by
  rcases h with rfl | rfl
  · decide
  · decide
theorem wn_St_nx {fi fl fd t b : Nat} {L : wn_L} (hF : wn_FO fi fl fd) (h : wn_St fi fl fd t L) (hb : ¬ wn_tl L → b = wn_ob L fi fl fd) : wn_St fi fl fd (t + 1) (wn_nx L b) := by
  have next : ∀ k, k < 34 + 8 * fl → wn_St fi fl fd (wn_cn fi fl fd (k + 1)) (wn_SP fi fl fd (k + 1) (wn_la fi fl fd (k + 1)) (wn_rw fi fl fd (k + 1))) := by
    intro k hk
    by_cases e : k + 1 = 34 + 8 * fl
    · rw [e, wn_SP_N]
      exact Or.inr (Or.inr ⟨0, rfl, rfl⟩)
    · exact Or.inl ⟨k + 1, by omega, rfl, rfl⟩
  rcases h with ⟨k, hk, ht, rfl⟩ | ⟨k, hk, h5, ht, rfl⟩ | ⟨j, ht, rfl⟩
  · have hb' := hb (wn_ntl hk)
    by_cases h5 : wn_rw fi fl fd k = 5
    · have hk0 : 0 < k := by
        rcases Nat.eq_zero_or_pos k with rfl | z
        · exact absurd h5 (by show ¬ (0 : Nat) = 5; decide)
        · exact z
      obtain ⟨z1, z2⟩ := wn_flip ((wn_ok fi fl fd k).2.2.2.2 hk0)
      have eb : b = if wn_la fi fl fd k = 0 then 1 else 0 := by rw [hb']; exact if_pos h5
      refine Or.inr (Or.inl ⟨k, hk, h5, by omega, ?_⟩)
      have nt : ¬ (19 ≤ k ∧ k = 34 + 8 * (fl / 2 ^ (19 - k))) := wn_ntl (x := 0) (r := 0) (fi := fi) (fd := fd) hk
      unfold wn_SP wn_nx
      dsimp only
      rw [if_neg nt, if_pos h5, eb, if_neg z2, z1]
    · rw [wn_ob_A h5] at hb'
      rw [hb', wn_nx_p hF hk h5, ht]
      have e1 : wn_cn fi fl fd k + 1 = wn_cn fi fl fd (k + 1) := by rw [wn_cn_s, if_neg h5]
      have e2 : (if nI (wn_b fi fl fd k) = wn_la fi fl fd k then wn_rw fi fl fd k + 1 else 1) = wn_rw fi fl fd (k + 1) := by rw [wn_rw_s, if_neg h5]
      rw [e1, e2, ← wn_la_s]
      exact next k hk
  · have hb' := hb (wn_ntl hk)
    rw [wn_ob_A (by decide)] at hb'
    rw [hb', wn_nx_p hF hk (by decide), ht]
    have e1 : wn_cn fi fl fd k + 1 + 1 = wn_cn fi fl fd (k + 1) := by rw [wn_cn_s, if_pos h5]
    have e2 : (if nI (wn_b fi fl fd k) = 1 - wn_la fi fl fd k then 1 + 1 else 1) = wn_rw fi fl fd (k + 1) := by rw [wn_rw_s, if_pos h5]
    rw [e1, e2, ← wn_la_s]
    exact next k hk
  · refine Or.inr (Or.inr ⟨j + 1, by omega, ?_⟩)
    exact if_pos ⟨by omega, rfl⟩
theorem wn_St_0 (fi fl fd : Nat) (hF : wn_FO fi fl fd) : wn_St fi fl fd 0 (0, -1, 0, 0, 0, 0, 0, 0, 0) := by
  obtain ⟨f1, f2, f3⟩ := hF
  have hC := (wn_ok fi fl fd (19 + 8 * fl)).2.1
  refine Or.inl ⟨0, by omega, rfl, ?_⟩
  unfold wn_SP
  rw [wn_dz (m := 11) f1 (by omega), wn_dz (m := 4) (x := fl) (by omega) (by omega), wn_dz f3 (by omega), wn_dz (m := 15) hC (by omega)]
  rfl
/-! what is known of a listener's state -/
theorem wn_St_12 {fi fl fd t : Nat} {L : wn_L} (h : wn_St fi fl fd t L) : L.1 < 12 ↔ t < wn_cn fi fl fd 12 := by
  rcases h with ⟨k, hk, ht, rfl⟩ | ⟨k, hk, h5, ht, rfl⟩ | ⟨j, ht, rfl⟩
  · show k < 12 ↔ _
    constructor
    · intro z; rw [ht]; exact wn_cn_lt2 z
    · intro z
      rcases Nat.lt_or_ge k 12 with y | y
      · exact y
      · have := wn_cn_le (fi := fi) (fl := fl) (fd := fd) y; omega
  · show k < 12 ↔ _
    have e1 : wn_cn fi fl fd k + 2 = wn_cn fi fl fd (k + 1) := by rw [wn_cn_s, if_pos h5]
    constructor
    · intro z
      have := wn_cn_le (fi := fi) (fl := fl) (fd := fd) (show k + 1 ≤ 12 from z)
      omega
    · intro z
      rcases Nat.lt_or_ge k 12 with y | y
      · exact y
      · have := wn_cn_le (fi := fi) (fl := fl) (fd := fd) y; omega
  · show 34 + 8 * fl < 12 ↔ _
    have := wn_cn_le (fi := fi) (fl := fl) (fd := fd) (show 12 ≤ 34 + 8 * fl by omega)
    constructor <;> intro z <;> omega
theorem wn_St_tl {fi fl fd t : Nat} {L : wn_L} (h : wn_St fi fl fd t L) : wn_tl L ↔ wn_cn fi fl fd (34 + 8 * fl) ≤ t := by
  rcases h with ⟨k, hk, ht, rfl⟩ | ⟨k, hk, h5, ht, rfl⟩ | ⟨j, ht, rfl⟩
  · have := wn_cn_lt2 (fi := fi) (fl := fl) (fd := fd) hk
    constructor
    · intro z; exact absurd z (wn_ntl hk)
    · intro z; omega
  · have e1 : wn_cn fi fl fd k + 2 = wn_cn fi fl fd (k + 1) := by rw [wn_cn_s, if_pos h5]
    have := wn_cn_le (fi := fi) (fl := fl) (fd := fd) (show k + 1 ≤ 34 + 8 * fl from hk)
    constructor
    · intro z; exact absurd z (wn_ntl hk)
    · intro z; omega
  · constructor
    · intro _; omega
    · intro _; exact ⟨by show 19 ≤ 34 + 8 * fl; omega, rfl⟩
theorem wn_St_T {fi fl fd t : Nat} {L : wn_L} (h : wn_St fi fl fd t L) (ht : wn_cn fi fl fd (34 + 8 * fl) ≤ t) : L = wn_TP fi fl fd (t - wn_cn fi fl fd (34 + 8 * fl)) := by
  rcases h with ⟨k, hk, e, rfl⟩ | ⟨k, hk, h5, e, rfl⟩ | ⟨j, e, rfl⟩
  · have := wn_cn_lt2 (fi := fi) (fl := fl) (fd := fd) hk
    omega
  · have e1 : wn_cn fi fl fd k + 2 = wn_cn fi fl fd (k + 1) := by rw [wn_cn_s, if_pos h5]
    have := wn_cn_le (fi := fi) (fl := fl) (fd := fd) (show k + 1 ≤ 34 + 8 * fl from hk)
    omega
  · rw [e, Nat.add_sub_cancel_left]
theorem wn_St_tc {fi fl fd t : Nat} {L : wn_L} (h : wn_St fi fl fd t L) : L.2.2.2.2.2.2.2.2 = t - wn_cn fi fl fd (34 + 8 * fl) := by
  by_cases ht : wn_cn fi fl fd (34 + 8 * fl) ≤ t
  · rw [wn_St_T h ht]; rfl
  · rcases h with ⟨k, hk, e, rfl⟩ | ⟨k, hk, h5, e, rfl⟩ | ⟨j, e, rfl⟩
    · show 0 = _; omega
    · show 0 = _; omega
    · omega
/-- the numbers of a listener's state are small -/
def wn_sm (L : wn_L) : Prop := L.1 < 200 ∧ L.2.2.1 < 200 ∧ L.2.2.2.1 < 32768 ∧ L.2.2.2.2.2.1 < 200 ∧ (¬ wn_tl L → 19 ≤ L.1 → L.1 < 19 + 8 * L.2.2.2.2.2.1 → L.2.2.2.2.2.2.1 < 2 ^ 63) ∧ L.2.2.2.2.2.2.2.1 < 32768 ∧ (L.2.2.1 = 5 → L.2.1 = 0 ∨ L.2.1 = 1)
theorem wn_St_sm {fi fl fd t : Nat} {L : wn_L} (hF : wn_FO fi fl fd) (h : wn_St fi fl fd t L) : wn_sm L := by
  obtain ⟨f1, f2, f3⟩ := hF
  have hC := (wn_ok fi fl fd (19 + 8 * fl)).2.1
  have f4 : fd < 2 ^ 64 := Nat.lt_of_lt_of_le f3 (Nat.pow_le_pow_right (by decide) (by omega))
  have sp : ∀ k x r, k < 34 + 8 * fl → r < 200 → (r = 5 → x = 0 ∨ x = 1) → wn_sm (wn_SP fi fl fd k x r) := by
    intro k x r hk hr hx
    refine ⟨by show k < 200; omega, hr, (wn_ok fi fl fd k).2.1, ?_, ?_, ?_, hx⟩
    · show fl / 2 ^ (19 - k) < 200
      exact Nat.lt_of_le_of_lt (Nat.div_le_self _ _) (by omega)
    · intro _ h19 hlt
      have h19' : 19 ≤ k := h19
      have hlt' : k < 19 + 8 * (fl / 2 ^ (19 - k)) := hlt
      rw [wn_hl h19'] at hlt'
      show fd / 2 ^ (19 + 8 * fl - k) < 2 ^ 63
      obtain ⟨m, hm⟩ : ∃ m, 19 + 8 * fl - k = m + 1 := ⟨18 + 8 * fl - k, by omega⟩
      rw [hm, Nat.pow_succ, Nat.mul_comm, ← Nat.div_div_eq_div_mul]
      exact Nat.lt_of_le_of_lt (Nat.div_le_self _ _) (by omega)
    · show wn_cs fi fl fd (19 + 8 * fl) / 2 ^ (34 + 8 * fl - k) < 32768
      exact Nat.lt_of_le_of_lt (Nat.div_le_self _ _) hC
  rcases h with ⟨k, hk, ht, rfl⟩ | ⟨k, hk, h5, ht, rfl⟩ | ⟨j, ht, rfl⟩
  · have h1 := wn_ok fi fl fd k
    refine sp k _ _ hk (by omega) (fun h5 => ?_)
    rcases Nat.eq_zero_or_pos k with rfl | z
    · exact absurd h5 (by show ¬ (0 : Nat) = 5; decide)
    · exact h1.2.2.2.2 z
  · exact sp k _ _ hk (by decide) (fun z => absurd z (by decide))
  · have h1 := wn_ok fi fl fd (34 + 8 * fl)
    exact ⟨by show 34 + 8 * fl < 200; omega, by show wn_rw fi fl fd (34 + 8 * fl) < 200; omega, hC, by show fl < 200; omega, fun z => absurd ⟨by show 19 ≤ 34 + 8 * fl; omega, rfl⟩ z, hC, fun _ => h1.2.2.2.2 (by omega)⟩
/-! who gives way -/
theorem wn_lead {fi fj k : Nat} (h1 : 1 ≤ k) (h2 : k < 12) (hlt : fi < fj) (he : fj / 2 ^ (12 - k) = fi / 2 ^ (12 - k)) (hb : fj / 2 ^ (11 - k) % 2 = 0) : fi / 2 ^ (11 - k) % 2 = 0 ∧ fj / 2 ^ (11 - k) = fi / 2 ^ (11 - k) := by
  have hm : fi / 2 ^ (11 - k) ≤ fj / 2 ^ (11 - k) := Nat.div_le_div_right (Nat.le_of_lt hlt)
  have e1 := wn_half fi (11 - k)
  have e2 := wn_half fj (11 - k)
  rw [show 11 - k + 1 = 12 - k by omega] at e1 e2
  rw [he] at e2
  generalize fi / 2 ^ (11 - k) = x at *
  generalize fj / 2 ^ (11 - k) = y at *
  omega
theorem wn_stay {fi fj k : Nat} (h1 : 1 ≤ k) (h2 : k < 12) (he : fj / 2 ^ (12 - k) = fi / 2 ^ (12 - k)) (hb : fj / 2 ^ (11 - k) % 2 = fi / 2 ^ (11 - k) % 2) : fj / 2 ^ (12 - (k + 1)) = fi / 2 ^ (12 - (k + 1)) := by
  have e1 := wn_half fi (11 - k)
  have e2 := wn_half fj (11 - k)
  rw [show 11 - k + 1 = 12 - k by omega] at e1 e2
  rw [show 12 - (k + 1) = 11 - k by omega, e1, e2, he, hb]
end
section
/-! the component's listening: what each method does to one listener -/
def wn_u (G : Nat → wn_L) (n : Nat) (L : wn_L) : Nat → wn_L := fun j => if j = n then L else G j
def wn_gA (G : Nat → wn_L) : Nat → Int32 := fun j => nI (G j).1
def wn_gB (G : Nat → wn_L) : Nat → Int32 := fun j => (G j).2.1
def wn_gC (G : Nat → wn_L) : Nat → Int32 := fun j => nI (G j).2.2.1
def wn_gD (G : Nat → wn_L) : Nat → Int32 := fun j => nI (G j).2.2.2.1
def wn_gE (G : Nat → wn_L) : Nat → Int32 := fun j => nI (G j).2.2.2.2.1
def wn_gF (G : Nat → wn_L) : Nat → Int32 := fun j => nI (G j).2.2.2.2.2.1
def wn_gH (G : Nat → wn_L) : Nat → Int64 := fun j => lN (G j).2.2.2.2.2.2.1
def wn_gI (G : Nat → wn_L) : Nat → Int32 := fun j => nI (G j).2.2.2.2.2.2.2.1
def wn_gJ (G : Nat → wn_L) : Nat → Int32 := fun j => nI (G j).2.2.2.2.2.2.2.2
theorem wn_us (G : Nat → wn_L) (n : Nat) (L : wn_L) : wn_u G n L n = L := if_pos rfl
theorem wn_un {G : Nat → wn_L} {n j : Nat} {L : wn_L} (h : j ≠ n) : wn_u G n L j = G j := if_neg h
theorem wn_uA (G : Nat → wn_L) (n : Nat) (L : wn_L) : wn_gA (wn_u G n L) = upd (wn_gA G) n (nI L.1) := by
  funext j; show nI (if j = n then L else G j).1 = if j = n then _ else nI (G j).1; split <;> rfl
theorem wn_uB (G : Nat → wn_L) (n : Nat) (L : wn_L) : wn_gB (wn_u G n L) = upd (wn_gB G) n L.2.1 := by
  funext j; show (if j = n then L else G j).2.1 = if j = n then _ else (G j).2.1; split <;> rfl
theorem wn_uC (G : Nat → wn_L) (n : Nat) (L : wn_L) : wn_gC (wn_u G n L) = upd (wn_gC G) n (nI L.2.2.1) := by
  funext j; show nI (if j = n then L else G j).2.2.1 = if j = n then _ else nI (G j).2.2.1; split <;> rfl
theorem wn_uD (G : Nat → wn_L) (n : Nat) (L : wn_L) : wn_gD (wn_u G n L) = upd (wn_gD G) n (nI L.2.2.2.1) := by
  funext j; show nI (if j = n then L else G j).2.2.2.1 = if j = n then _ else nI (G j).2.2.2.1; split <;> rfl
theorem wn_uE (G : Nat → wn_L) (n : Nat) (L : wn_L) : wn_gE (wn_u G n L) = upd (wn_gE G) n (nI L.2.2.2.2.1) := by
  funext j; show nI (if j = n then L else G j).2.2.2.2.1 = if j = n then _ else nI (G j).2.2.2.2.1; split <;> rfl
theorem wn_uF (G : Nat → wn_L) (n : Nat) (L : wn_L) : wn_gF (wn_u G n L) = upd (wn_gF G) n (nI L.2.2.2.2.2.1) := by
  funext j; show nI (if j = n then L else G j).2.2.2.2.2.1 = if j = n then _ else nI (G j).2.2.2.2.2.1; split <;> rfl
theorem wn_uH (G : Nat → wn_L) (n : Nat) (L : wn_L) : wn_gH (wn_u G n L) = vp_updL (wn_gH G) n (lN L.2.2.2.2.2.2.1) := by
  funext j; show lN (if j = n then L else G j).2.2.2.2.2.2.1 = if j = n then _ else lN (G j).2.2.2.2.2.2.1; split <;> rfl
theorem wn_uI (G : Nat → wn_L) (n : Nat) (L : wn_L) : wn_gI (wn_u G n L) = upd (wn_gI G) n (nI L.2.2.2.2.2.2.2.1) := by
  funext j; show nI (if j = n then L else G j).2.2.2.2.2.2.2.1 = if j = n then _ else nI (G j).2.2.2.2.2.2.2.1; split <;> rfl
theorem wn_uJ (G : Nat → wn_L) (n : Nat) (L : wn_L) : wn_gJ (wn_u G n L) = upd (wn_gJ G) n (nI L.2.2.2.2.2.2.2.2) := by
  funext j; show nI (if j = n then L else G j).2.2.2.2.2.2.2.2 = if j = n then _ else nI (G j).2.2.2.2.2.2.2.2; split <;> rfl
theorem wn_same {f : Nat → Int32} {n : Nat} {x : Int32} (h : f n = x) : upd f n x = f := by
  funext j; show (if j = n then x else f j) = f j
  split
  · next e => rw [e, h]
  · rfl
theorem wn_sameL {f : Nat → Int64} {n : Nat} {x : Int64} (h : f n = x) : vp_updL f n x = f := by
  funext j; show (if j = n then x else f j) = f j
  split
  · next e => rw [e, h]
  · rfl
theorem wn_at {f : Nat → Int32} {n : Nat} {x : Int32} (hn : n < 2 ^ 31) (h : f n = x) : f (nI n).toNatClampNeg = x := by rw [nI_clamp hn, h]
theorem wn_atL {f : Nat → Int64} {n : Nat} {x : Int64} (hn : n < 2 ^ 31) (h : f n = x) : f (nI n).toNatClampNeg = x := by rw [nI_clamp hn, h]
theorem wn_8 (a : Nat) : (8 : Int32) * nI a = nI (8 * a) := pk_mul 8 a
theorem wn_2 (a : Nat) : (2 : Int32) * nI a = nI (2 * a) := pk_mul 2 a
theorem wn_4 (a : Nat) : (4 : Int32) * nI a = nI (4 * a) := pk_mul 4 a
theorem wn_6 (a : Nat) : (6 : Int32) * nI a = nI (6 * a) := pk_mul 6 a
theorem wn_16 (a : Nat) : (16 : Int32) * nI a = nI (16 * a) := pk_mul 16 a
theorem wn_19 (a : Nat) : (19 : Int32) + nI a = nI (19 + a) := nI_add 19 a
theorem wn_15 (a : Nat) : nI a + (15 : Int32) = nI (a + 15) := nI_add a 15
section
variable {ph lf ck sn di : Int32} {on sc rc mk vl wc wi wl : Nat → Int32} {wd : Nat → Int64} {ic ii il : Nat → Int32} {ib : Nat → Int64} {mc ro ch : Nat → Int32} {G : Nat → wn_L}
theorem wn_xtail {post : Int32 → Prop} {n k : Nat} {x : Int32} {r cc hi hl hd hc tc : Nat} (hn : n < 5) (hG : G n = (k, x, r, cc, hi, hl, hd, hc, tc)) (hk : k < 200) (hh : hl < 200) (hp : post (if 19 ≤ k ∧ k = 34 + 8 * hl then 1 else 0)) : wpX_inTail post (ph, lf, ck, sn, di, on, sc, rc, mk, vl, wc, wi, wl, wd, ic, ii, il, ib, mc, ro, ch, wn_gA G, wn_gB G, wn_gC G, wn_gD G, wn_gE G, wn_gF G, wn_gH G, wn_gI G, wn_gJ G) (nI n) := by
  have v5 : vp_in (nI n) 5 := vp_in_nI hn (by decide)
  have eA : wn_gA G (nI n).toNatClampNeg = nI k := wn_at (by omega) (by unfold wn_gA; rw [hG])
  have eF : wn_gF G (nI n).toNatClampNeg = nI hl := wn_at (by omega) (by unfold wn_gF; rw [hG])
  refine And.intro v5 (pk_lt k 19 (fun h => ?_) (fun h => And.intro v5 (And.intro v5 (pk_le 19 k (fun _ => And.intro v5 ?_) (fun h' => absurd h' (by omega)) rfl eA))) eA rfl)
  · rw [if_neg (by omega)] at hp; exact hp
  · have e : (19 : Int32) + 8 * wn_gF G (nI n).toNatClampNeg + 15 = nI (34 + 8 * hl) := by
      rw [eF, wn_8, wn_19, wn_15, show 19 + 8 * hl + 15 = 34 + 8 * hl by omega]
    refine pk_eq k (34 + 8 * hl) (fun h2 => ?_) (fun h2 => ?_) eA e
    · rw [if_pos ⟨h, h2⟩] at hp; exact hp
    · rw [if_neg (fun z => h2 z.2)] at hp; exact hp
theorem wn_xstuf {post : Int32 → Prop} {n k : Nat} {x : Int32} {r cc hi hl hd hc tc : Nat} (hn : n < 5) (hG : G n = (k, x, r, cc, hi, hl, hd, hc, tc)) (hk : k < 200) (hh : hl < 200) (hr : r < 200) (nt : ¬ (19 ≤ k ∧ k = 34 + 8 * hl)) (hp : post (if r = 5 then 1 else 0)) : wpX_isStuffed post (ph, lf, ck, sn, di, on, sc, rc, mk, vl, wc, wi, wl, wd, ic, ii, il, ib, mc, ro, ch, wn_gA G, wn_gB G, wn_gC G, wn_gD G, wn_gE G, wn_gF G, wn_gH G, wn_gI G, wn_gJ G) (nI n) := by
  have v5 : vp_in (nI n) 5 := vp_in_nI hn (by decide)
  have eC : wn_gC G (nI n).toNatClampNeg = nI r := wn_at (by omega) (by unfold wn_gC; rw [hG])
  refine And.intro v5 (pk_eq r 5 (fun h => ?_) (fun h => ?_) eC rfl)
  · refine wn_xtail hn hG hk hh ?_
    rw [if_neg nt]
    rw [if_pos h] at hp
    exact br_t rfl hp
  · rw [if_neg h] at hp; exact hp
end
theorem wn_cf {cc b : Nat} (hc : cc < 32768) : nI b ^^^ ((nI cc >>> ((14 : Int32) &&& 31)) &&& 1) = nI (b ^^^ (cc / 16384 % 2)) := by
  rw [pk_shrN (by omega) _ 14 (by decide), pk_andN (by omega) 1 (by decide), nx_xor]
theorem wn_c2 {cc : Nat} (hc : cc < 32768) : (2 * nI cc) &&& 32767 = nI (2 * cc % 32768) := by
  rw [wn_2, pk_andN (by omega) 15 (by decide)]
theorem wn_cx (a : Nat) : nI a ^^^ 17817 = nI (a ^^^ 17817) := nx_xor a 17817
theorem wn_c0 (a : Nat) : nI a ^^^ 0 = nI a := by
  rw [show (0 : Int32) = nI 0 from rfl, nx_xor, Nat.xor_zero]
section
variable {ph lf ck sn di : Int32} {on sc rc mk vl wc wi wl : Nat → Int32} {wd : Nat → Int64} {ic ii il : Nat → Int32} {ib : Nat → Int64} {mc ro ch pA pB pC pD pE pF : Nat → Int32} {pH : Nat → Int64} {pI pJ : Nat → Int32}
theorem wn_x148 {post : SX → Prop} {n b cc : Nat} (hn : n < 5) (hb : b < 2) (hc : cc < 32768) (eD : pD n = nI cc) (hp : post (ph, lf, ck, sn, di, on, sc, rc, mk, vl, wc, wi, wl, wd, ic, ii, il, ib, mc, ro, ch, pA, pB, pC, upd pD n (nI (wn_ckf cc b)), pE, pF, pH, pI, pJ)) : wX_takePlain_148 post (nI n) (nI b) ph lf ck sn di on sc rc mk vl wc wi wl wd ic ii il ib mc ro ch pA pB pC pD pE pF pH pI pJ := by
  have v5 : vp_in (nI n) 5 := vp_in_nI hn (by decide)
  have eD' : pD (nI n).toNatClampNeg = nI cc := wn_at (by omega) eD
  have cl : (nI n).toNatClampNeg = n := nI_clamp (by omega)
  have hx : b ^^^ (cc / 16384 % 2) < 2 := Nat.xor_lt_two_pow (n := 1) (by omega) (by omega)
  unfold wn_ckf at hp
  refine And.intro v5 (nm_r (e' := nI (b ^^^ (cc / 16384 % 2))) ?_ (And.intro v5 (pk_eq _ 1 (fun h => And.intro v5 (nm_r (e' := upd pD n (nI (2 * cc % 32768 ^^^ 17817))) ?_ ?_)) (fun h => And.intro v5 (nm_r (e' := upd pD n (nI (2 * cc % 32768))) ?_ ?_)) rfl rfl)))
  · rw [eD']; exact wn_cf hc
  · rw [eD', cl, wn_c2 hc, wn_cx]
  · rw [if_pos h] at hp; exact hp
  · rw [eD', cl, wn_c2 hc, wn_c0]
  · rw [if_neg h] at hp; exact hp
theorem wn_x136 {post : SX → Prop} {n b k de cc : Nat} (hn : n < 5) (hb : b < 2) (hk : k < 2000) (hde : de < 2000) (hc : cc < 32768) (eD : pD n = nI cc) (hp : post (ph, lf, ck, sn, di, on, sc, rc, mk, vl, wc, wi, wl, wd, ic, ii, il, ib, mc, ro, ch, pA, pB, pC, upd pD n (nI (if k < 19 ∨ k < de then wn_ckf cc b else cc)), pE, pF, pH, pI, pJ)) : wX_takePlain_136 post (nI n) (nI b) (nI k) (nI de) ph lf ck sn di on sc rc mk vl wc wi wl wd ic ii il ib mc ro ch pA pB pC pD pE pF pH pI pJ := by
  refine pk_lt k 19 (fun h => ?_) (fun h => pk_le de k (fun h2 => ?_) (fun h2 => ?_) rfl rfl) rfl rfl
  · rw [if_pos (Or.inl h)] at hp; exact wn_x148 hn hb hc eD hp
  · rw [if_neg (by omega), wn_same eD] at hp; exact hp
  · rw [if_pos (Or.inr h2)] at hp; exact wn_x148 hn hb hc eD hp
theorem wn_xtake {post : SX → Prop} {n b k cc hi hl hd hc : Nat} (hn : n < 5) (hb : b < 2) (hk : k < 200) (hh : hl < 200) (hcc : cc < 32768) (hhd : 19 ≤ k → k < 19 + 8 * hl → hd < 2 ^ 63) (eA : pA n = nI k) (eD : pD n = nI cc) (eE : pE n = nI hi) (eF : pF n = nI hl) (eH : pH n = lN hd) (eI : pI n = nI hc)
    (hp : post (ph, lf, ck, sn, di, on, sc, rc, mk, vl, wc, wi, wl, wd, ic, ii, il, ib, mc, ro, ch, pA, pB, pC, upd pD n (nI (if k < 19 ∨ k < 19 + 8 * hl then wn_ckf cc b else cc)), upd pE n (nI (if 1 ≤ k ∧ k < 12 then 2 * hi + b else hi)), upd pF n (nI (if 15 ≤ k ∧ k < 19 then 2 * hl + b else hl)), vp_updL pH n (lN (if 19 ≤ k ∧ k < 19 + 8 * hl then 2 * hd + b else hd)), upd pI n (nI (if 19 ≤ k ∧ 19 + 8 * hl ≤ k then 2 * hc + b else hc)), pJ)) : wpX_takePlain post (ph, lf, ck, sn, di, on, sc, rc, mk, vl, wc, wi, wl, wd, ic, ii, il, ib, mc, ro, ch, pA, pB, pC, pD, pE, pF, pH, pI, pJ) (nI n) (nI b) := by
  have v5 : vp_in (nI n) 5 := vp_in_nI hn (by decide)
  have cl : (nI n).toNatClampNeg = n := nI_clamp (by omega)
  have eA' : pA (nI n).toNatClampNeg = nI k := wn_at (by omega) eA
  have eE' : pE (nI n).toNatClampNeg = nI hi := wn_at (by omega) eE
  have eF' : pF (nI n).toNatClampNeg = nI hl := wn_at (by omega) eF
  have eH' : pH (nI n).toNatClampNeg = lN hd := wn_atL (by omega) eH
  have eI' : pI (nI n).toNatClampNeg = nI hc := wn_at (by omega) eI
  have K : ∀ {pE' pF' pI' : Nat → Int32} {pH' : Nat → Int64}, upd pE n (nI (if 1 ≤ k ∧ k < 12 then 2 * hi + b else hi)) = pE' → upd pF n (nI (if 15 ≤ k ∧ k < 19 then 2 * hl + b else hl)) = pF' → vp_updL pH n (lN (if 19 ≤ k ∧ k < 19 + 8 * hl then 2 * hd + b else hd)) = pH' → upd pI n (nI (if 19 ≤ k ∧ 19 + 8 * hl ≤ k then 2 * hc + b else hc)) = pI' → wX_takePlain_136 post (nI n) (nI b) (nI k) (nI (19 + 8 * hl)) ph lf ck sn di on sc rc mk vl wc wi wl wd ic ii il ib mc ro ch pA pB pC pD pE' pF' pH' pI' pJ := by
    intro pE' pF' pI' pH' e1 e2 e3 e4
    rw [e1, e2, e3, e4] at hp
    exact wn_x136 hn hb (by omega) (by omega) hcc eD hp
  have e114 : k < 1 ∨ 12 ≤ k → k < 15 ∨ 19 ≤ k → ¬ (19 ≤ k ∧ k < 19 + 8 * hl) → wX_takePlain_114 post (nI n) (nI b) (nI k) (nI (19 + 8 * hl)) ph lf ck sn di on sc rc mk vl wc wi wl wd ic ii il ib mc ro ch pA pB pC pD pE pF pH pI pJ := by
    intro h1 h2 h3
    refine pk_lt k 19 (fun h => ?_) (fun h => And.intro v5 (And.intro v5 (nm_r (e' := upd pI n (nI (2 * hc + b))) ?_ ?_))) rfl rfl
    · exact K (by rw [if_neg (by omega)]; exact wn_same eE) (by rw [if_neg (by omega)]; exact wn_same eF) (by rw [if_neg (by omega)]; exact wn_sameL eH) (by rw [if_neg (by omega)]; exact wn_same eI)
    · rw [eI', cl, wn_2, nI_add]
    · exact K (by rw [if_neg (by omega)]; exact wn_same eE) (by rw [if_neg (by omega)]; exact wn_same eF) (by rw [if_neg (by omega)]; exact wn_sameL eH) (by rw [if_pos (by omega)])
  have e82 : k < 1 ∨ 12 ≤ k → k < 15 ∨ 19 ≤ k → wX_takePlain_82 post (nI n) (nI b) (nI k) (nI (19 + 8 * hl)) ph lf ck sn di on sc rc mk vl wc wi wl wd ic ii il ib mc ro ch pA pB pC pD pE pF pH pI pJ := by
    intro h1 h2
    refine pk_lt k 19 (fun h => e114 h1 h2 (by omega)) (fun h => pk_le (19 + 8 * hl) k (fun h3 => e114 h1 h2 (by omega)) (fun h3 => And.intro v5 (And.intro v5 (nm_r (e' := vp_updL pH n (lN (2 * hd + b))) ?_ ?_))) rfl rfl) rfl rfl
    · have hs := hhd h h3
      rw [eH', cl, show (1 : Int32) = nI 1 from rfl, wb_shl _ (by decide), nI_l (by omega), g_or (k := 1) (p := 2) rfl hb (by omega), Nat.mul_comm hd 2]
    · exact K (by rw [if_neg (by omega)]; exact wn_same eE) (by rw [if_neg (by omega)]; exact wn_same eF) (by rw [if_pos ⟨h, h3⟩]) (by rw [if_neg (by omega)]; exact wn_same eI)
  have e51 : k < 1 ∨ 12 ≤ k → wX_takePlain_51 post (nI n) (nI b) (nI k) (nI (19 + 8 * hl)) ph lf ck sn di on sc rc mk vl wc wi wl wd ic ii il ib mc ro ch pA pB pC pD pE pF pH pI pJ := by
    intro h1
    refine pk_lt k 15 (fun h => e82 h1 (Or.inl h)) (fun h => pk_le 19 k (fun h3 => e82 h1 (Or.inr h3)) (fun h3 => And.intro v5 (And.intro v5 (nm_r (e' := upd pF n (nI (2 * hl + b))) ?_ ?_))) rfl rfl) rfl rfl
    · rw [eF', cl, wn_2, nI_add]
    · exact K (by rw [if_neg (by omega)]; exact wn_same eE) (by rw [if_pos ⟨h, h3⟩]) (by rw [if_neg (by omega)]; exact wn_sameL eH) (by rw [if_neg (by omega)]; exact wn_same eI)
  refine And.intro v5 (nm_r (e' := nI k) eA' (And.intro v5 (nm_r (e' := nI (19 + 8 * hl)) (by rw [eF', wn_8, wn_19]) (pk_lt k 1 (fun h => e51 (Or.inl h)) (fun h => pk_le 12 k (fun h3 => e51 (Or.inr h3)) (fun h3 => And.intro v5 (And.intro v5 (nm_r (e' := upd pE n (nI (2 * hi + b))) ?_ ?_))) rfl rfl) rfl rfl))))
  · rw [eE', cl, wn_2, nI_add]
  · exact K (by rw [if_pos ⟨h, h3⟩]) (by rw [if_neg (by omega)]; exact wn_same eF) (by rw [if_neg (by omega)]; exact wn_sameL eH) (by rw [if_neg (by omega)]; exact wn_same eI)
end
section
variable {ph lf ck sn di : Int32} {on sc rc mk vl wc wi wl : Nat → Int32} {wd : Nat → Int64} {ic ii il : Nat → Int32} {ib : Nat → Int64} {mc ro ch : Nat → Int32} {G : Nat → wn_L}
theorem wn_xlisten {post : SX → Prop} {n b : Nat} {L : wn_L} (hn : n < 5) (hb : b < 2) (hG : G n = L) (hs : wn_sm L) (hp : post (ph, lf, ck, sn, di, on, sc, rc, mk, vl, wc, wi, wl, wd, ic, ii, il, ib, mc, ro, ch, wn_gA (wn_u G n (wn_nx L b)), wn_gB (wn_u G n (wn_nx L b)), wn_gC (wn_u G n (wn_nx L b)), wn_gD (wn_u G n (wn_nx L b)), wn_gE (wn_u G n (wn_nx L b)), wn_gF (wn_u G n (wn_nx L b)), wn_gH (wn_u G n (wn_nx L b)), wn_gI (wn_u G n (wn_nx L b)), wn_gJ (wn_u G n (wn_nx L b)))) : wpX_listen post (ph, lf, ck, sn, di, on, sc, rc, mk, vl, wc, wi, wl, wd, ic, ii, il, ib, mc, ro, ch, wn_gA G, wn_gB G, wn_gC G, wn_gD G, wn_gE G, wn_gF G, wn_gH G, wn_gI G, wn_gJ G) (nI n) (nI b) := by
  obtain ⟨k, x, r, cc, hi, hl, hd, hc, tc⟩ := L
  have v5 : vp_in (nI n) 5 := vp_in_nI hn (by decide)
  have cl : (nI n).toNatClampNeg = n := nI_clamp (by omega)
  have hk : k < 200 := hs.1
  have hr : r < 200 := hs.2.1
  have hcc : cc < 32768 := hs.2.2.1
  have hh : hl < 200 := hs.2.2.2.1
  have eA : wn_gA G n = nI k := by unfold wn_gA; rw [hG]
  have eB : wn_gB G n = x := by unfold wn_gB; rw [hG]
  have eC : wn_gC G n = nI r := by unfold wn_gC; rw [hG]
  have eD : wn_gD G n = nI cc := by unfold wn_gD; rw [hG]
  have eE : wn_gE G n = nI hi := by unfold wn_gE; rw [hG]
  have eF : wn_gF G n = nI hl := by unfold wn_gF; rw [hG]
  have eH : wn_gH G n = lN hd := by unfold wn_gH; rw [hG]
  have eI : wn_gI G n = nI hc := by unfold wn_gI; rw [hG]
  have eJ : wn_gJ G n = nI tc := by unfold wn_gJ; rw [hG]
  have sB : wn_gB G (nI n).toNatClampNeg = x := wn_at (by omega) eB
  have sC : wn_gC G (nI n).toNatClampNeg = nI r := wn_at (by omega) eC
  have sJ : wn_gJ G (nI n).toNatClampNeg = nI tc := wn_at (by omega) eJ
  rw [wn_uA, wn_uB, wn_uC, wn_uD, wn_uE, wn_uF, wn_uH, wn_uI, wn_uJ] at hp
  unfold wpX_listen
  refine wn_xtail hn hG hk hh ?_
  by_cases nt : 19 ≤ k ∧ k = 34 + 8 * hl
  · have e : wn_nx (k, x, r, cc, hi, hl, hd, hc, tc) b = (k, x, r, cc, hi, hl, hd, hc, tc + 1) := if_pos nt
    rw [e] at hp
    dsimp only at hp
    rw [wn_same eA, wn_same eB, wn_same eC, wn_same eD, wn_same eE, wn_same eF, wn_sameL eH, wn_same eI] at hp
    rw [if_pos nt]
    refine br_f (by decide) (And.intro v5 (And.intro v5 (nm_r (e' := upd (wn_gJ G) n (nI (tc + 1))) ?_ hp)))
    rw [sJ, cl, nI_1]
  · rw [if_neg nt]
    refine br_t rfl (wn_xstuf hn hG hk hh hr nt ?_)
    have P52 : wX_listen_52 post (nI n) (nI b) (if r = 5 then 1 else 0) (nI (if nI b = x then r + 1 else 1)) (nI n) ph lf ck sn di on sc rc mk vl wc wi wl wd ic ii il ib mc ro ch (wn_gA G) (wn_gB G) (wn_gC G) (wn_gD G) (wn_gE G) (wn_gF G) (wn_gH G) (wn_gI G) (wn_gJ G) := by
      refine And.intro v5 (nm_r (e' := upd (wn_gC G) n (nI (if nI b = x then r + 1 else 1))) (by rw [cl]) (And.intro v5 (nm_r (e' := upd (wn_gB G) n (nI b)) (by rw [cl]) ?_)))
      by_cases h5 : r = 5
      · have e : wn_nx (k, x, r, cc, hi, hl, hd, hc, tc) b = (k, nI b, (if nI b = x then r + 1 else 1), cc, hi, hl, hd, hc, tc) := by
          show (if 19 ≤ k ∧ k = 34 + 8 * hl then _ else if r = 5 then _ else _) = _
          rw [if_neg nt, if_pos h5]
        rw [e] at hp
        dsimp only at hp
        rw [wn_same eA, wn_same eD, wn_same eE, wn_same eF, wn_sameL eH, wn_same eI, wn_same eJ] at hp
        rw [if_pos h5]
        exact br_f (by decide) hp
      · have e : wn_nx (k, x, r, cc, hi, hl, hd, hc, tc) b = (k + 1, nI b, (if nI b = x then r + 1 else 1), (if k < 19 ∨ k < 19 + 8 * hl then wn_ckf cc b else cc), (if 1 ≤ k ∧ k < 12 then 2 * hi + b else hi), (if 15 ≤ k ∧ k < 19 then 2 * hl + b else hl), (if 19 ≤ k ∧ k < 19 + 8 * hl then 2 * hd + b else hd), (if 19 ≤ k ∧ 19 + 8 * hl ≤ k then 2 * hc + b else hc), tc) := by
          show (if 19 ≤ k ∧ k = 34 + 8 * hl then _ else if r = 5 then _ else _) = _
          rw [if_neg nt, if_neg h5]
        rw [e] at hp
        dsimp only at hp
        rw [wn_same eJ] at hp
        rw [if_neg h5]
        refine br_t rfl (wn_xtake hn hb hk hh hcc (hs.2.2.2.2.1 nt) eA eD eE eF eH eI ?_)
        refine And.intro v5 (And.intro v5 (nm_r (e' := upd (wn_gA G) n (nI (k + 1))) ?_ hp))
        rw [wn_at (by omega) eA, cl, nI_1]
    refine And.intro v5 ?_
    by_cases hx : nI b = x
    · rw [if_pos hx] at P52
      refine br_t (by rw [sB]; exact hx) (And.intro v5 ?_)
      rw [sC, nI_1]
      exact P52
    · rw [if_neg hx] at P52
      refine br_f (by rw [sB]; exact hx) ?_
      exact P52
/-- the plain bit that a sender comes to -/
theorem wn_sb {x m : Nat} (hx : x < 2 ^ 31) (hm : m < 32) : (nI x >>> (nI m &&& 31)) &&& 1 = nI (x / 2 ^ m % 2) := by
  rw [pk_shrN hx _ m (s_l m hm), pk_andN (Nat.lt_of_le_of_lt (Nat.div_le_self _ _) (by omega)) 1 (by decide)]
theorem wn_lb {x m : Nat} (hx : x < 2 ^ 64) (hm : m < 64) : ((((lN x).toUInt64 >>> ((nI m).toInt64.toUInt64 &&& Int64.toUInt64 63)).toInt64).toInt32) &&& 1 = nI (x / 2 ^ m % 2) := by
  rw [wb_shr hx hm, lN_i, pk_and _ 1 (by decide)]
  have e : (nI (x / 2 ^ m)).toBitVec.toNat = x / 2 ^ m % 2 ^ 32 := rfl
  rw [e]
  congr 1
  omega
theorem wn_xplain {post : Int32 → Prop} {n k : Nat} {x : Int32} {r cc hi hl hd hc tc qq fi fl fd : Nat} (hn : n < 5) (hG : G n = (k, x, r, cc, hi, hl, hd, hc, tc)) (hk : k < 34 + 8 * fl) (hcc : cc < 32768) (hF : wn_FO fi fl fd) (hq : qq < 20) (eq : 4 * nI n + ch n = nI qq) (e1 : wi qq = nI fi) (e2 : wl qq = nI fl) (e3 : wd qq = lN fd) (hp : post (nI (wn_bit fi fl fd cc k))) : wpX_plainBit post (ph, lf, ck, sn, di, on, sc, rc, mk, vl, wc, wi, wl, wd, ic, ii, il, ib, mc, ro, ch, wn_gA G, wn_gB G, wn_gC G, wn_gD G, wn_gE G, wn_gF G, wn_gH G, wn_gI G, wn_gJ G) (nI n) := by
  obtain ⟨f1, f2, f3⟩ := hF
  have f4 : fd < 2 ^ 64 := Nat.lt_of_lt_of_le f3 (Nat.pow_le_pow_right (by decide) (by omega))
  have v5 : vp_in (nI n) 5 := vp_in_nI hn (by decide)
  have v20 : vp_in (nI qq) 20 := vp_in_nI hq (by decide)
  have eA : wn_gA G (nI n).toNatClampNeg = nI k := wn_at (by omega) (by unfold wn_gA; rw [hG])
  have eD : wn_gD G (nI n).toNatClampNeg = nI cc := wn_at (by omega) (by unfold wn_gD; rw [hG])
  have s0 : 4 * nI n + ch (nI n).toNatClampNeg = nI qq := by rw [nI_clamp (by omega)]; exact eq
  have s1 : wi (nI qq).toNatClampNeg = nI fi := wn_at (by omega) e1
  have s2 : wl (nI qq).toNatClampNeg = nI fl := wn_at (by omega) e2
  have s3 : wd (nI qq).toNatClampNeg = lN fd := wn_atL (by omega) e3
  unfold wn_bit at hp
  have e115 : k < 1 ∨ 12 ≤ k → k < 15 ∨ 19 ≤ k → ¬ (19 ≤ k ∧ k < 19 + 8 * fl) → wX_plainBit_115 post (nI n) (nI k) (nI (8 * fl)) ph lf ck sn di on sc rc mk vl wc wi wl wd ic ii il ib mc ro ch (wn_gA G) (wn_gB G) (wn_gC G) (wn_gD G) (wn_gE G) (wn_gF G) (wn_gH G) (wn_gI G) (wn_gJ G) := by
    intro h1 h2 h3
    rw [if_neg (by omega), if_neg (by omega), if_neg h3] at hp
    refine pk_le 19 k (fun h => And.intro v5 ?_) (fun h => ?_) rfl rfl
    · rw [if_neg (by omega)] at hp
      rw [eD, wn_19, wn_15, show (1 : Int32) = nI 1 from rfl, pk_sub (by omega), pk_sub (by omega)]
      show post ((nI cc >>> (nI (19 + 8 * fl + 15 - 1 - k) &&& 31)) &&& 1)
      rw [wn_sb (by omega) (by omega), show 19 + 8 * fl + 15 - 1 - k = 33 + 8 * fl - k by omega]
      exact hp
    · rw [if_pos h] at hp
      exact hp
  have e80 : k < 1 ∨ 12 ≤ k → k < 15 ∨ 19 ≤ k → wX_plainBit_80 post (nI n) (nI qq) (nI k) (nI (8 * fl)) ph lf ck sn di on sc rc mk vl wc wi wl wd ic ii il ib mc ro ch (wn_gA G) (wn_gB G) (wn_gC G) (wn_gD G) (wn_gE G) (wn_gF G) (wn_gH G) (wn_gI G) (wn_gJ G) := by
    intro h1 h2
    refine pk_lt k 19 (fun h => e115 h1 h2 (by omega)) (fun h => pk_le (19 + 8 * fl) k (fun h3 => e115 h1 h2 (by omega)) (fun h3 => And.intro v20 ?_) (wn_19 _) rfl) rfl rfl
    rw [if_neg (by omega), if_neg (by omega), if_pos ⟨h, h3⟩] at hp
    rw [s3, wn_19, show (1 : Int32) = nI 1 from rfl, pk_sub (by omega), pk_sub (by omega)]
    show post (((((lN fd).toUInt64 >>> ((nI (19 + 8 * fl - 1 - k)).toInt64.toUInt64 &&& Int64.toUInt64 63)).toInt64).toInt32) &&& 1)
    rw [wn_lb f4 (by omega), show 19 + 8 * fl - 1 - k = 18 + 8 * fl - k by omega]
    exact hp
  have e54 : k < 1 ∨ 12 ≤ k → wX_plainBit_54 post (nI n) (nI qq) (nI k) (nI (8 * fl)) ph lf ck sn di on sc rc mk vl wc wi wl wd ic ii il ib mc ro ch (wn_gA G) (wn_gB G) (wn_gC G) (wn_gD G) (wn_gE G) (wn_gF G) (wn_gH G) (wn_gI G) (wn_gJ G) := by
    intro h1
    refine pk_lt k 15 (fun h => e80 h1 (Or.inl h)) (fun h => pk_le 19 k (fun h3 => e80 h1 (Or.inr h3)) (fun h3 => And.intro v20 ?_) rfl rfl) rfl rfl
    rw [if_neg (by omega), if_pos ⟨h, h3⟩] at hp
    rw [s2, show (18 : Int32) = nI 18 from rfl, pk_sub (by omega), wn_sb (by omega) (by omega)]
    exact hp
  refine And.intro v5 (nm_r s0 (And.intro v5 (nm_r eA (And.intro v20 (nm_r (e' := nI (8 * fl)) (by rw [s2, wn_8]) (pk_lt k 1 (fun h => e54 (Or.inl h)) (fun h => pk_le 12 k (fun h3 => e54 (Or.inr h3)) (fun h3 => And.intro v20 ?_) rfl rfl) rfl rfl))))))
  rw [if_pos ⟨h, h3⟩] at hp
  rw [s1, show (11 : Int32) = nI 11 from rfl, pk_sub (by omega), wn_sb (by omega) (by omega)]
  exact hp
/-- what a sender puts out before the tail -/
theorem wn_xout1 {post : Int32 → Prop} {n qq fi fl fd : Nat} {L : wn_L} (hn : n < 5) (hG : G n = L) (hs : wn_sm L) (nt : ¬ wn_tl L) (hk : L.1 < 34 + 8 * fl) (hF : wn_FO fi fl fd) (hr : ro n = 1) (hq : qq < 20) (eq : 4 * nI n + ch n = nI qq) (e1 : wi qq = nI fi) (e2 : wl qq = nI fl) (e3 : wd qq = lN fd) (hp : post (nI (wn_ob L fi fl fd))) : wpX_output post (ph, lf, ck, sn, di, on, sc, rc, mk, vl, wc, wi, wl, wd, ic, ii, il, ib, mc, ro, ch, wn_gA G, wn_gB G, wn_gC G, wn_gD G, wn_gE G, wn_gF G, wn_gH G, wn_gI G, wn_gJ G) (nI n) := by
  obtain ⟨k, x, r, cc, hi, hl, hd, hc, tc⟩ := L
  have v5 : vp_in (nI n) 5 := vp_in_nI hn (by decide)
  have h1 : k < 200 := hs.1
  have h2 : r < 200 := hs.2.1
  have h3 : cc < 32768 := hs.2.2.1
  have h4 : hl < 200 := hs.2.2.2.1
  have h5 : r = 5 → x = 0 ∨ x = 1 := hs.2.2.2.2.2.2
  have nt' : ¬ (19 ≤ k ∧ k = 34 + 8 * hl) := nt
  have eR : ro (nI n).toNatClampNeg = 1 := wn_at (by omega) hr
  have eB : wn_gB G (nI n).toNatClampNeg = x := wn_at (by omega) (by unfold wn_gB; rw [hG])
  have hp' : post (nI (if r = 5 then (if x = 0 then 1 else 0) else wn_bit fi fl fd cc k)) := hp
  unfold wpX_output
  refine wn_xtail hn hG h1 h4 ?_
  rw [if_neg nt']
  refine br_t rfl (And.intro v5 (br_t eR (wn_xstuf hn hG h1 h4 h2 nt' ?_)))
  by_cases z : r = 5
  · rw [if_pos z] at hp' ⊢
    refine br_f (by decide) (And.intro v5 ?_)
    rw [eB, ← (wn_flip (h5 z)).1]
    exact hp'
  · rw [if_neg z] at hp' ⊢
    exact br_t rfl (wn_xplain hn hG hk h3 hF hq eq e1 e2 e3 hp')
/-- .. another before the tail -/
theorem wn_xoutR {post : Int32 → Prop} {n : Nat} {L : wn_L} (hn : n < 5) (hG : G n = L) (hs : wn_sm L) (nt : ¬ wn_tl L) (hr : ¬ ro n = 1) (hp : post 1) : wpX_output post (ph, lf, ck, sn, di, on, sc, rc, mk, vl, wc, wi, wl, wd, ic, ii, il, ib, mc, ro, ch, wn_gA G, wn_gB G, wn_gC G, wn_gD G, wn_gE G, wn_gF G, wn_gH G, wn_gI G, wn_gJ G) (nI n) := by
  obtain ⟨k, x, r, cc, hi, hl, hd, hc, tc⟩ := L
  have v5 : vp_in (nI n) 5 := vp_in_nI hn (by decide)
  have nt' : ¬ (19 ≤ k ∧ k = 34 + 8 * hl) := nt
  unfold wpX_output
  refine wn_xtail hn hG hs.1 hs.2.2.2.1 ?_
  rw [if_neg nt']
  exact br_t rfl (And.intro v5 (br_f (by rw [nI_clamp (by omega)]; exact hr) hp))
/-- .. in the tail -/
theorem wn_xoutT {post : Int32 → Prop} {n tc : Nat} {fi fl fd : Nat} (hn : n < 5) (hF : wn_FO fi fl fd) (hG : G n = wn_TP fi fl fd tc) (htc : tc < 200) (hp : post (if ro n = 2 ∧ tc = 1 then 0 else 1)) : wpX_output post (ph, lf, ck, sn, di, on, sc, rc, mk, vl, wc, wi, wl, wd, ic, ii, il, ib, mc, ro, ch, wn_gA G, wn_gB G, wn_gC G, wn_gD G, wn_gE G, wn_gF G, wn_gH G, wn_gI G, wn_gJ G) (nI n) := by
  have v5 : vp_in (nI n) 5 := vp_in_nI hn (by decide)
  have hf : fl ≤ 8 := hF.2.1
  have cl : (nI n).toNatClampNeg = n := nI_clamp (by omega)
  have eD : wn_gD G (nI n).toNatClampNeg = nI (wn_cs fi fl fd (19 + 8 * fl)) := wn_at (by omega) (by unfold wn_gD; rw [hG]; rfl)
  have eI : wn_gI G (nI n).toNatClampNeg = nI (wn_cs fi fl fd (19 + 8 * fl)) := wn_at (by omega) (by unfold wn_gI; rw [hG]; rfl)
  have eJ : wn_gJ G (nI n).toNatClampNeg = nI tc := wn_at (by omega) (by unfold wn_gJ; rw [hG]; rfl)
  unfold wpX_output
  refine wn_xtail hn hG (by omega) (by omega) ?_
  rw [if_pos ⟨by omega, rfl⟩]
  refine br_f (by decide) (And.intro v5 (br_c (fun h => And.intro v5 (pk_eq tc 1 (fun h2 => ?_) (fun h2 => ?_) eJ rfl)) (fun h => ?_)))
  · rw [cl] at h
    rw [if_pos ⟨h, h2⟩] at hp
    exact And.intro v5 (And.intro v5 (br_t (by rw [eD, eI]) hp))
  · rw [if_neg (fun z => h2 z.2)] at hp
    exact hp
  · rw [cl] at h
    rw [if_neg (fun z => h z.1)] at hp
    exact hp
end
end
section
/-! the reference's measure: the same bits -/
def wn_dn : Nat → Int32
  | 0 => -1
  | m + 1 => nI m
theorem wn_dn_s (m : Nat) : nI m + (-1) = wn_dn m := by
  cases m with
  | zero => decide
  | succ m => exact pk_m1 m
theorem wn_dn_0 : wn_dn 0 < 0 := by decide
theorem wn_b0 (fi fl fd : Nat) : wn_b fi fl fd 0 = 0 := by
  unfold wn_b wn_bit
  rw [if_neg (by omega), if_neg (by omega), if_neg (by omega), if_pos (by omega)]
theorem wn_bz (fi fl fd k : Nat) (h1 : 12 ≤ k) (h2 : k < 15) : wn_b fi fl fd k = 0 := by
  unfold wn_b wn_bit
  rw [if_neg (by omega), if_neg (by omega), if_neg (by omega), if_pos (by omega)]
theorem wn_bi (fi fl fd k : Nat) (h1 : 1 ≤ k) (h2 : k < 12) : wn_b fi fl fd k = fi / 2 ^ (11 - k) % 2 := by
  unfold wn_b wn_bit
  rw [if_pos ⟨h1, h2⟩]
theorem wn_bl (fi fl fd k : Nat) (h1 : 15 ≤ k) (h2 : k < 19) : wn_b fi fl fd k = fl / 2 ^ (18 - k) % 2 := by
  unfold wn_b wn_bit
  rw [if_neg (by omega), if_pos ⟨h1, h2⟩]
theorem wn_bd (fi fl fd k : Nat) (h1 : 19 ≤ k) (h2 : k < 19 + 8 * fl) : wn_b fi fl fd k = fd / 2 ^ (18 + 8 * fl - k) % 2 := by
  unfold wn_b wn_bit
  rw [if_neg (by omega), if_neg (by omega), if_pos ⟨h1, h2⟩]
theorem wn_bc (fi fl fd k : Nat) (h1 : 19 + 8 * fl ≤ k) : wn_b fi fl fd k = wn_cs fi fl fd (19 + 8 * fl) / 2 ^ (33 + 8 * fl - k) % 2 := by
  unfold wn_b wn_bit
  rw [if_neg (by omega), if_neg (by omega), if_neg (by omega), if_neg (by omega), wn_cs_e h1]
section
variable {nw ys da yp rs fr gn lo lp ie st la yr yk : Int32} {yon ymk yvl se re ym ws wh : Nat → Int32} {wy : Nat → Int64} {bx bh : Nat → Int32} {bd : Nat → Int64}
theorem wn_yput {post : SY → Prop} {b rr cnt : Nat} {x : Int32} (hr : rr < 200) (hp : post (nw, ys, da, yp, rs, fr, gn, lo, lp, ie, nI (if rr = 5 then cnt + 2 else cnt + 1), nI b, nI (if rr = 5 then (if nI b = 1 - x then 2 else 1) else if nI b = x then rr + 1 else 1), yk, yon, ymk, yvl, se, re, ym, ws, wh, wy, bx, bh, bd)) : wpY_put post (nw, ys, da, yp, rs, fr, gn, lo, lp, ie, nI cnt, x, nI rr, yk, yon, ymk, yvl, se, re, ym, ws, wh, wy, bx, bh, bd) (nI b) := by
  have K : ∀ {cnt' rr' : Nat} {x' : Int32}, (post (nw, ys, da, yp, rs, fr, gn, lo, lp, ie, nI (cnt' + 1), nI b, nI (if nI b = x' then rr' + 1 else 1), yk, yon, ymk, yvl, se, re, ym, ws, wh, wy, bx, bh, bd)) → wY_put_33 post (nI b) nw ys da yp rs fr gn lo lp ie (nI cnt') x' (nI rr') yk yon ymk yvl se re ym ws wh wy bx bh bd := by
    intro cnt' rr' x' h
    refine br_c (fun z => nm_r (nI_1 cnt') ?_) (fun z => nm_r (nI_1 cnt') ?_)
    · rw [if_pos z, ← nI_1 rr'] at h; exact h
    · rw [if_neg z] at h; exact h
  refine pk_eq rr 5 (fun h => nm_e (nm_r (nI_1 cnt) ?_)) (fun h => ?_) rfl rfl
  · rw [if_pos h, if_pos h] at hp
    exact K (rr' := 1) hp
  · rw [if_neg h, if_neg h] at hp
    exact K hp
variable {fi fl fd : Nat}
theorem wn_yp {post : SY → Prop} {k : Nat} (h : 19 + 8 * fl ≤ k) (hp : post (nw, ys, da, yp, rs, fr, gn, lo, lp, ie, nI (wn_cn fi fl fd (k + 1)), wn_la fi fl fd (k + 1), nI (wn_rw fi fl fd (k + 1)), nI (wn_cs fi fl fd (k + 1)), yon, ymk, yvl, se, re, ym, ws, wh, wy, bx, bh, bd)) : wpY_put post (nw, ys, da, yp, rs, fr, gn, lo, lp, ie, nI (wn_cn fi fl fd k), wn_la fi fl fd k, nI (wn_rw fi fl fd k), nI (wn_cs fi fl fd k), yon, ymk, yvl, se, re, ym, ws, wh, wy, bx, bh, bd) (nI (wn_b fi fl fd k)) := by
  have := (wn_ok fi fl fd k).1
  refine wn_yput (by omega) ?_
  rw [wn_cs_s, if_neg (by omega)] at hp
  exact hp
theorem wn_ypc {post : SY → Prop} {k : Nat} (h : k < 19 + 8 * fl) (hp : post (nw, ys, da, yp, rs, fr, gn, lo, lp, ie, nI (wn_cn fi fl fd (k + 1)), wn_la fi fl fd (k + 1), nI (wn_rw fi fl fd (k + 1)), nI (wn_cs fi fl fd (k + 1)), yon, ymk, yvl, se, re, ym, ws, wh, wy, bx, bh, bd)) : wpY_putChecked post (nw, ys, da, yp, rs, fr, gn, lo, lp, ie, nI (wn_cn fi fl fd k), wn_la fi fl fd k, nI (wn_rw fi fl fd k), nI (wn_cs fi fl fd k), yon, ymk, yvl, se, re, ym, ws, wh, wy, bx, bh, bd) (nI (wn_b fi fl fd k)) := by
  have h1 := (wn_ok fi fl fd k).1
  have h2 := (wn_ok fi fl fd k).2.1
  have hb := wn_b_lt fi fl fd k
  have hx : wn_b fi fl fd k ^^^ (wn_cs fi fl fd k / 16384 % 2) < 2 := Nat.xor_lt_two_pow (n := 1) (by omega) (by omega)
  have e2 : nI (wn_cs fi fl fd k) * 2 = 2 * nI (wn_cs fi fl fd k) := Int32.mul_comm _ _
  rw [wn_cs_s, if_pos h] at hp
  unfold wn_ckf at hp
  unfold wpY_putChecked
  refine wn_yput (by omega) ?_
  refine nm_r (wn_cf h2) (nm_r (e' := nI (2 * wn_cs fi fl fd k % 32768)) (by rw [e2, wn_c2 h2]) (pk_eq _ 1 (fun z => nm_r (wn_cx _) ?_) (fun z => ?_) rfl rfl))
  · rw [if_pos z] at hp; exact hp
  · rw [if_neg z] at hp; exact hp
theorem wn_y142 {post : SY → Prop} (hp : post (nw, ys, da, yp, rs, fr, gn, lo, lp, ie, nI (wn_cn fi fl fd (34 + 8 * fl)), wn_la fi fl fd (34 + 8 * fl), nI (wn_rw fi fl fd (34 + 8 * fl)), nI (wn_cs fi fl fd (34 + 8 * fl)), yon, ymk, yvl, se, re, ym, ws, wh, wy, bx, bh, bd)) : ∀ m, m ≤ 15 → ∀ n, m < n → wY_measure_142 post (nI (wn_cs fi fl fd (19 + 8 * fl))) n (wn_dn m) nw ys da yp rs fr gn lo lp ie (nI (wn_cn fi fl fd (34 + 8 * fl - m))) (wn_la fi fl fd (34 + 8 * fl - m)) (nI (wn_rw fi fl fd (34 + 8 * fl - m))) (nI (wn_cs fi fl fd (34 + 8 * fl - m))) yon ymk yvl se re ym ws wh wy bx bh bd := by
  have hC := (wn_ok fi fl fd (19 + 8 * fl)).2.1
  intro m
  induction m with
  | zero =>
    intro _ n hn
    obtain ⟨n, rfl⟩ : ∃ j, n = j + 1 := ⟨n - 1, by omega⟩
    exact br_t wn_dn_0 hp
  | succ m ih =>
    intro hm n hn
    obtain ⟨n, rfl⟩ : ∃ j, n = j + 1 := ⟨n - 1, by omega⟩
    have eb : (nI (wn_cs fi fl fd (19 + 8 * fl)) >>> (nI m &&& 31)) &&& 1 = nI (wn_b fi fl fd (34 + 8 * fl - (m + 1))) := by
      rw [wn_sb (by omega) (by omega), wn_bc _ _ _ _ (by omega), show 33 + 8 * fl - (34 + 8 * fl - (m + 1)) = m by omega]
    refine br_f (nI_pos (by omega)) ?_
    show wpY_put _ _ ((nI (wn_cs fi fl fd (19 + 8 * fl)) >>> (nI m &&& 31)) &&& 1)
    rw [eb]
    refine wn_yp (by omega) (nm_r (wn_dn_s m) ?_)
    have := ih (by omega) n (by omega)
    rw [show 34 + 8 * fl - (m + 1) + 1 = 34 + 8 * fl - m by omega]
    exact this
theorem wn_y110 {post : SY → Prop} {fr' : Nat} (h64 : fr' < 2 ^ 64) (hf : fl ≤ 8) (hd : ∀ i, i < 8 * fl → fr' / 2 ^ i % 2 = fd / 2 ^ i % 2) (hp : post (nw, ys, da, yp, rs, fr, gn, lo, lp, ie, nI (wn_cn fi fl fd (34 + 8 * fl)), wn_la fi fl fd (34 + 8 * fl), nI (wn_rw fi fl fd (34 + 8 * fl)), nI (wn_cs fi fl fd (34 + 8 * fl)), yon, ymk, yvl, se, re, ym, ws, wh, wy, bx, bh, bd)) : ∀ m, m ≤ 8 * fl → ∀ n, m < n → wY_measure_110 post (lN fr') n (wn_dn m) nw ys da yp rs fr gn lo lp ie (nI (wn_cn fi fl fd (19 + 8 * fl - m))) (wn_la fi fl fd (19 + 8 * fl - m)) (nI (wn_rw fi fl fd (19 + 8 * fl - m))) (nI (wn_cs fi fl fd (19 + 8 * fl - m))) yon ymk yvl se re ym ws wh wy bx bh bd := by
  intro m
  induction m with
  | zero =>
    intro _ n hn
    obtain ⟨n, rfl⟩ : ∃ j, n = j + 1 := ⟨n - 1, by omega⟩
    have := wn_y142 hp 15 (by omega) 16 (by omega)
    rw [show 34 + 8 * fl - 15 = 19 + 8 * fl by omega] at this
    exact br_t wn_dn_0 ⟨16, this⟩
  | succ m ih =>
    intro hm n hn
    obtain ⟨n, rfl⟩ : ∃ j, n = j + 1 := ⟨n - 1, by omega⟩
    have eb : ((((lN fr').toUInt64 >>> ((nI m).toInt64.toUInt64 &&& Int64.toUInt64 63)).toInt64) &&& 1).toInt32 = nI (wn_b fi fl fd (19 + 8 * fl - (m + 1))) := by
      rw [wb_bit h64 (by omega), lN_i, wn_bd _ _ _ _ (by omega) (by omega), show 18 + 8 * fl - (19 + 8 * fl - (m + 1)) = m by omega, hd m (by omega)]
    refine br_f (nI_pos (by omega)) ?_
    show wpY_putChecked _ _ ((((lN fr').toUInt64 >>> ((nI m).toInt64.toUInt64 &&& Int64.toUInt64 63)).toInt64) &&& 1).toInt32
    rw [eb]
    refine wn_ypc (by omega) (nm_r (wn_dn_s m) ?_)
    have := ih (by omega) n (by omega)
    rw [show 19 + 8 * fl - (m + 1) + 1 = 19 + 8 * fl - m by omega]
    exact this
theorem wn_y81 {post : SY → Prop} {fr' : Nat} (h64 : fr' < 2 ^ 64) (hf : fl ≤ 8) (hd : ∀ i, i < 8 * fl → fr' / 2 ^ i % 2 = fd / 2 ^ i % 2) (hp : post (nw, ys, da, yp, rs, fr, gn, lo, lp, ie, nI (wn_cn fi fl fd (34 + 8 * fl)), wn_la fi fl fd (34 + 8 * fl), nI (wn_rw fi fl fd (34 + 8 * fl)), nI (wn_cs fi fl fd (34 + 8 * fl)), yon, ymk, yvl, se, re, ym, ws, wh, wy, bx, bh, bd)) : ∀ m, m ≤ 4 → ∀ n, m < n → wY_measure_81 post (nI fl) (lN fr') n (wn_dn m) nw ys da yp rs fr gn lo lp ie (nI (wn_cn fi fl fd (19 - m))) (wn_la fi fl fd (19 - m)) (nI (wn_rw fi fl fd (19 - m))) (nI (wn_cs fi fl fd (19 - m))) yon ymk yvl se re ym ws wh wy bx bh bd := by
  intro m
  induction m with
  | zero =>
    intro _ n hn
    obtain ⟨n, rfl⟩ : ∃ j, n = j + 1 := ⟨n - 1, by omega⟩
    have := wn_y110 h64 hf hd hp (8 * fl) (by omega) (8 * fl + 1) (by omega)
    rw [show 19 + 8 * fl - 8 * fl = 19 by omega] at this
    refine br_t wn_dn_0 (nm_r (e' := wn_dn (8 * fl)) ?_ ⟨8 * fl + 1, this⟩)
    rw [wn_8, Int32.sub_eq_add_neg]
    exact wn_dn_s _
  | succ m ih =>
    intro hm n hn
    obtain ⟨n, rfl⟩ : ∃ j, n = j + 1 := ⟨n - 1, by omega⟩
    have eb : (nI fl >>> (nI m &&& 31)) &&& 1 = nI (wn_b fi fl fd (19 - (m + 1))) := by
      rw [wn_sb (by omega) (by omega), wn_bl _ _ _ _ (by omega) (by omega), show 18 - (19 - (m + 1)) = m by omega]
    refine br_f (nI_pos (by omega)) ?_
    show wpY_putChecked _ _ ((nI fl >>> (nI m &&& 31)) &&& 1)
    rw [eb]
    refine wn_ypc (by omega) (nm_r (wn_dn_s m) ?_)
    have := ih (by omega) n (by omega)
    rw [show 19 - (m + 1) + 1 = 19 - m by omega]
    exact this
theorem wn_y61 {post : SY → Prop} {fr' : Nat} (h64 : fr' < 2 ^ 64) (hf : fl ≤ 8) (hd : ∀ i, i < 8 * fl → fr' / 2 ^ i % 2 = fd / 2 ^ i % 2) (hp : post (nw, ys, da, yp, rs, fr, gn, lo, lp, ie, nI (wn_cn fi fl fd (34 + 8 * fl)), wn_la fi fl fd (34 + 8 * fl), nI (wn_rw fi fl fd (34 + 8 * fl)), nI (wn_cs fi fl fd (34 + 8 * fl)), yon, ymk, yvl, se, re, ym, ws, wh, wy, bx, bh, bd)) : ∀ m, m ≤ 3 → ∀ n, m < n → wY_measure_61 post (nI fl) (lN fr') n (nI (3 - m)) nw ys da yp rs fr gn lo lp ie (nI (wn_cn fi fl fd (15 - m))) (wn_la fi fl fd (15 - m)) (nI (wn_rw fi fl fd (15 - m))) (nI (wn_cs fi fl fd (15 - m))) yon ymk yvl se re ym ws wh wy bx bh bd := by
  intro m
  induction m with
  | zero =>
    intro _ n hn
    obtain ⟨n, rfl⟩ : ∃ j, n = j + 1 := ⟨n - 1, by omega⟩
    have := wn_y81 h64 hf hd hp 4 (by omega) 5 (by omega)
    exact br_t (nI_le (a := 3) (b := 3) (by omega) (by decide)) ⟨5, this⟩
  | succ m ih =>
    intro hm n hn
    obtain ⟨n, rfl⟩ : ∃ j, n = j + 1 := ⟨n - 1, by omega⟩
    refine br_f (nI_ge (b := 3) (by omega) (by decide)) ?_
    show wpY_putChecked _ _ (nI 0)
    rw [← wn_bz fi fl fd (15 - (m + 1)) (by omega) (by omega)]
    refine wn_ypc (by omega) (nm_r (e' := nI (3 - m)) ?_ ?_)
    · rw [nI_1, show 3 - (m + 1) + 1 = 3 - m by omega]
    · have := ih (by omega) n (by omega)
      rw [show 15 - (m + 1) + 1 = 15 - m by omega]
      exact this
theorem wn_y29 {post : SY → Prop} {fr' : Nat} (hi : fi < 2048) (h64 : fr' < 2 ^ 64) (hf : fl ≤ 8) (hd : ∀ i, i < 8 * fl → fr' / 2 ^ i % 2 = fd / 2 ^ i % 2) (hp : post (nw, ys, da, yp, rs, fr, gn, lo, lp, nI (wn_cn fi fl fd 12), nI (wn_cn fi fl fd (34 + 8 * fl)), wn_la fi fl fd (34 + 8 * fl), nI (wn_rw fi fl fd (34 + 8 * fl)), nI (wn_cs fi fl fd (34 + 8 * fl)), yon, ymk, yvl, se, re, ym, ws, wh, wy, bx, bh, bd)) : ∀ m, m ≤ 11 → ∀ n, m < n → wY_measure_29 post (nI fi) (nI fl) (lN fr') n (wn_dn m) nw ys da yp rs fr gn lo lp ie (nI (wn_cn fi fl fd (12 - m))) (wn_la fi fl fd (12 - m)) (nI (wn_rw fi fl fd (12 - m))) (nI (wn_cs fi fl fd (12 - m))) yon ymk yvl se re ym ws wh wy bx bh bd := by
  intro m
  induction m with
  | zero =>
    intro _ n hn
    obtain ⟨n, rfl⟩ : ∃ j, n = j + 1 := ⟨n - 1, by omega⟩
    have := wn_y61 h64 hf hd hp 3 (by omega) 4 (by omega)
    exact br_t wn_dn_0 ⟨4, this⟩
  | succ m ih =>
    intro hm n hn
    obtain ⟨n, rfl⟩ : ∃ j, n = j + 1 := ⟨n - 1, by omega⟩
    have eb : (nI fi >>> (nI m &&& 31)) &&& 1 = nI (wn_b fi fl fd (12 - (m + 1))) := by
      rw [wn_sb (by omega) (by omega), wn_bi _ _ _ _ (by omega) (by omega), show 11 - (12 - (m + 1)) = m by omega]
    refine br_f (nI_pos (by omega)) ?_
    show wpY_putChecked _ _ ((nI fi >>> (nI m &&& 31)) &&& 1)
    rw [eb]
    refine wn_ypc (by omega) (nm_r (wn_dn_s m) ?_)
    have := ih (by omega) n (by omega)
    rw [show 12 - (m + 1) + 1 = 12 - m by omega]
    exact this
/-- measured: last, row, check and count behind the last plain bit -/
theorem wn_ymeas {post : SY → Prop} {fr' : Nat} (hi : fi < 2048) (h64 : fr' < 2 ^ 64) (hf : fl ≤ 8) (hd : ∀ i, i < 8 * fl → fr' / 2 ^ i % 2 = fd / 2 ^ i % 2) (hp : post (nw, ys, da, yp, rs, fr, gn, lo, lp, nI (wn_cn fi fl fd 12), nI (wn_cn fi fl fd (34 + 8 * fl)), wn_la fi fl fd (34 + 8 * fl), nI (wn_rw fi fl fd (34 + 8 * fl)), nI (wn_cs fi fl fd (34 + 8 * fl)), yon, ymk, yvl, se, re, ym, ws, wh, wy, bx, bh, bd)) : wpY_measure post (nw, ys, da, yp, rs, fr, gn, lo, lp, ie, st, la, yr, yk, yon, ymk, yvl, se, re, ym, ws, wh, wy, bx, bh, bd) (nI fi) (nI fl) (lN fr') := by
  unfold wpY_measure
  have e : (0 : Int32) = nI (wn_b fi fl fd 0) := by rw [wn_b0]; rfl
  have H : ∀ y : Int32, y = nI (wn_b fi fl fd 0) → wpY_putChecked (fun u => match u with | (nw, ys, da, yp, rs, fr, gn, lo, lp, ie, st, la, yr, yk, yon, ymk, yvl, se, re, ym, ws, wh, wy, bx, bh, bd) => ∃ n29 : Nat, wY_measure_29 post (nI fi) (nI fl) (lN fr') n29 10 nw ys da yp rs fr gn lo lp ie st la yr yk yon ymk yvl se re ym ws wh wy bx bh bd) (nw, ys, da, yp, rs, fr, gn, lo, lp, ie, nI (wn_cn fi fl fd 0), wn_la fi fl fd 0, nI (wn_rw fi fl fd 0), nI (wn_cs fi fl fd 0), yon, ymk, yvl, se, re, ym, ws, wh, wy, bx, bh, bd) y := by
    intro y ey
    rw [ey]
    refine wn_ypc (by omega) ?_
    exact ⟨12, wn_y29 hi h64 hf hd hp 11 (by omega) 12 (by omega)⟩
  exact H 0 e
end
end
section
/-! frames that wait: finding, putting in, taking out, choosing -/
def wn_fI (f : Nat → Nat) : Nat → Int32 := fun j => nI (f j)
def wn_fL (f : Nat → Nat) : Nat → Int64 := fun j => lN (f j)
def wn_w (f : Nat → Nat) (k v : Nat) : Nat → Nat := fun j => if j = k then v else f j
def wn_hh (ii il : Nat → Int32) : Nat → Int32 := fun j => 16 * ii j + il j
theorem wn_ws {f : Nat → Nat} {k v : Nat} : wn_w f k v k = v := if_pos rfl
theorem wn_wo {f : Nat → Nat} {k v j : Nat} (h : j ≠ k) : wn_w f k v j = f j := if_neg h
theorem wn_fIu (f : Nat → Nat) (k v : Nat) : upd (wn_fI f) k (nI v) = wn_fI (wn_w f k v) := by
  funext j; show (if j = k then nI v else nI (f j)) = nI (if j = k then v else f j); split <;> rfl
theorem wn_fLu (f : Nat → Nat) (k v : Nat) : vp_updL (wn_fL f) k (lN v) = wn_fL (wn_w f k v) := by
  funext j; show (if j = k then lN v else lN (f j)) = lN (if j = k then v else f j); split <;> rfl
theorem wn_fIa {f : Nat → Nat} {n : Nat} (hn : n < 2 ^ 31) : wn_fI f (nI n).toNatClampNeg = nI (f n) := by rw [nI_clamp hn]; rfl
theorem wn_fLa {f : Nat → Nat} {n : Nat} (hn : n < 2 ^ 31) : wn_fL f (nI n).toNatClampNeg = lN (f n) := by rw [nI_clamp hn]; rfl
/-- a place where a frame waits -/
def wn_V (a : Nat → Nat) (p : Nat) : Prop := p < 16 ∧ p % 4 < a (p / 4)
/-- the ids that wait are different -/
def wn_U (a w : Nat → Nat) : Prop := ∀ i j, wn_V a i → wn_V a j → w i = w j → i = j
theorem wn_4k {i k : Nat} : (4 : Int32) * nI i + nI k = nI (4 * i + k) := by rw [wn_4, nI_add]
theorem wn_V4 {a : Nat → Nat} {i k : Nat} (hi : i < 4) (hk : k < a i) (hk4 : k < 4) : wn_V a (4 * i + k) := by
  refine ⟨by omega, ?_⟩
  rw [show (4 * i + k) / 4 = i by omega, show (4 * i + k) % 4 = k by omega]
  exact hk
theorem wn_Vd {a : Nat → Nat} {p : Nat} (h : wn_V a p) : p = 4 * (p / 4) + p % 4 ∧ p / 4 < 4 ∧ p % 4 < 4 := by
  have := h.1
  omega
section
variable {ph lf ck sn di : Int32} {on sc rc mk vl : Nat → Int32} {a w l d q r c : Nat → Nat} {ii il : Nat → Int32} {ib : Nat → Int64} {mc : Nat → Int32} {G : Nat → wn_L}
theorem wn_xpl9 {post J : Int32 → Prop} {fi i : Nat} (hi : i < 4) (hai : a i ≤ 4) (hw : ∀ j, j < 16 → w j < 2048) (hf : fi < 2048) (h1 : ∀ p, wn_V a p → w p = fi → post (nI p)) (hJ : (∀ p, wn_V a p → p < 4 * (i + 1) → w p ≠ fi) → J (nI (i + 1))) : ∀ e k, k + e = a i → (∀ p, wn_V a p → p < 4 * i + k → w p ≠ fi) → ∀ n, e < n → wX_placeOf_9 post J (nI fi) (nI i) ph lf ck sn di on sc rc mk vl (wn_fI a) (wn_fI w) (wn_fI l) (wn_fL d) (wn_fI q) ii il ib mc (wn_fI r) (wn_fI c) (wn_gA G) (wn_gB G) (wn_gC G) (wn_gD G) (wn_gE G) (wn_gF G) (wn_gH G) (wn_gI G) (wn_gJ G) n (nI k) := by
  have v5 : vp_in (nI i) 5 := vp_in_nI (by omega) (by decide)
  have ea : wn_fI a (nI i).toNatClampNeg = nI (a i) := wn_fIa (by omega)
  intro e
  induction e with
  | zero =>
    intro k hk hb n hn
    obtain ⟨n, rfl⟩ : ∃ j, n = j + 1 := ⟨n - 1, by omega⟩
    refine And.intro v5 (pk_le (a i) k (fun _ => nm_r (nI_1 i) (hJ ?_)) (fun h => absurd h (by omega)) ea rfl)
    intro p hp hlt
    by_cases z : p < 4 * i + k
    · exact hb p hp z
    · have h2 := hp.2
      rw [show p / 4 = i by omega] at h2
      omega
  | succ e ih =>
    intro k hk hb n hn
    obtain ⟨n, rfl⟩ : ∃ j, n = j + 1 := ⟨n - 1, by omega⟩
    have hV : wn_V a (4 * i + k) := wn_V4 hi (by omega) (by omega)
    have hw' := hw (4 * i + k) (by omega)
    have ew : wn_fI w (4 * nI i + nI k).toNatClampNeg = nI (w (4 * i + k)) := by rw [wn_4k]; exact wn_fIa (by omega)
    refine And.intro v5 (pk_le (a i) k (fun h => absurd h (by omega)) (fun _ => And.intro (pk_in (4 * i + k) 20 (by omega) wn_4k) (pk_eq (w (4 * i + k)) fi (fun z => ?_) (fun z => nm_r (nI_1 k) (ih (k + 1) (by omega) ?_ n (by omega))) ew rfl)) ea rfl)
    · rw [wn_4k]; exact h1 _ hV z
    · intro p hp hlt
      by_cases y : p < 4 * i + k
      · exact hb p hp y
      · rw [show p = 4 * i + k by omega]; exact z
theorem wn_xpl {post : Int32 → Prop} {fi : Nat} (ha : ∀ n, n < 4 → a n ≤ 4) (hw : ∀ j, j < 16 → w j < 2048) (hf : fi < 2048) (h1 : ∀ p, wn_V a p → w p = fi → post (nI p)) (h0 : (∀ p, wn_V a p → w p ≠ fi) → post (-1)) : wpX_placeOf post (ph, lf, ck, sn, di, on, sc, rc, mk, vl, wn_fI a, wn_fI w, wn_fI l, wn_fL d, wn_fI q, ii, il, ib, mc, wn_fI r, wn_fI c, wn_gA G, wn_gB G, wn_gC G, wn_gD G, wn_gE G, wn_gF G, wn_gH G, wn_gI G, wn_gJ G) (nI fi) := by
  have H : ∀ e i, i + e = 4 → (∀ p, wn_V a p → p < 4 * i → w p ≠ fi) → ∀ n, e < n → wX_placeOf_2 post (nI fi) ph lf ck sn di on sc rc mk vl (wn_fI a) (wn_fI w) (wn_fI l) (wn_fL d) (wn_fI q) ii il ib mc (wn_fI r) (wn_fI c) (wn_gA G) (wn_gB G) (wn_gC G) (wn_gD G) (wn_gE G) (wn_gF G) (wn_gH G) (wn_gI G) (wn_gJ G) n (nI i) := by
    intro e
    induction e with
    | zero =>
      intro i hi hb n hn
      obtain ⟨n, rfl⟩ : ∃ j, n = j + 1 := ⟨n - 1, by omega⟩
      refine pk_le 4 i (fun _ => h0 (fun p hp => hb p hp ?_)) (fun h => absurd h (by omega)) rfl rfl
      have := hp.1
      omega
    | succ e ih =>
      intro i hi hb n hn
      obtain ⟨n, rfl⟩ : ∃ j, n = j + 1 := ⟨n - 1, by omega⟩
      refine pk_le 4 i (fun h => absurd h (by omega)) (fun _ => ⟨a i + 1, ?_⟩) rfl rfl
      exact wn_xpl9 (by omega) (ha i (by omega)) hw hf h1 (fun hb' => ih (i + 1) (by omega) hb' n (by omega)) (a i) 0 (by omega) (by rw [Nat.add_zero]; exact hb) _ (by omega)
  exact ⟨5, H 4 0 (by omega) (fun p _ h => absurd h (by omega)) 5 (by omega)⟩
theorem wn_xpl1 {post : Int32 → Prop} {p : Nat} (ha : ∀ n, n < 4 → a n ≤ 4) (hw : ∀ j, j < 16 → w j < 2048) (hU : wn_U a w) (hV : wn_V a p) (hp : post (nI p)) : wpX_placeOf post (ph, lf, ck, sn, di, on, sc, rc, mk, vl, wn_fI a, wn_fI w, wn_fI l, wn_fL d, wn_fI q, ii, il, ib, mc, wn_fI r, wn_fI c, wn_gA G, wn_gB G, wn_gC G, wn_gD G, wn_gE G, wn_gF G, wn_gH G, wn_gI G, wn_gJ G) (nI (w p)) := by
  refine wn_xpl ha hw (hw p hV.1) (fun j hj e => ?_) (fun h => absurd rfl (h p hV))
  rw [hU j p hj hV e]; exact hp
variable {nw da yp rs fr gn lo lp ie st la yr yk : Int32} {wh : Nat → Int32} {wy : Nat → Int64}
theorem wn_hd {x y : Nat} (hx : x < 2048) (hy : y ≤ 8) : nI (16 * x + y) / 16 = nI x := by
  have e : nI (16 * x + y) / nI 16 = nI ((16 * x + y) / 16) := pk_div (by omega) (by omega) (by omega)
  rw [show (16 * x + y) / 16 = x by omega] at e
  exact e
theorem wn_hm {x y : Nat} (hx : x < 2048) (hy : y ≤ 8) : nI (16 * x + y) - nI (16 * x + y) / 16 * 16 = nI y := by
  have e : nI (16 * x + y) - nI (16 * x + y) / nI 16 * nI 16 = nI ((16 * x + y) % 16) := pk_rem (by omega) (by omega) (by omega)
  rw [show (16 * x + y) % 16 = y by omega] at e
  exact e
theorem wn_d4 {p : Nat} (h : p < 1000) : nI p / 4 = nI (p / 4) := pk_div (d := 4) (by omega) (by omega) (by omega)
theorem wn_m4 {p : Nat} (h : p < 1000) : nI p - nI p / 4 * 4 = nI (p % 4) := pk_rem (d := 4) (by omega) (by omega) (by omega)
/-- the heads in the reference's table -/
def wn_H (w l : Nat → Nat) (wh : Nat → Int32) : Prop := ∀ j, j < 16 → wh j = nI (16 * w j + l j)
theorem wn_yfd {post : Int32 → Prop} {fi : Nat} (ha : ∀ n, n < 4 → a n ≤ 4) (hw : ∀ j, j < 16 → w j < 2048 ∧ l j ≤ 8) (hH : wn_H w l wh) (hf : fi < 2048) (h1 : ∀ p, wn_V a p → w p = fi → post (nI p)) (h0 : (∀ p, wn_V a p → w p ≠ fi) → post (-1)) : wpY_find post (nw, sn, da, yp, rs, fr, gn, lo, lp, ie, st, la, yr, yk, on, mk, vl, sc, rc, mc, wn_fI a, wh, wy, wn_fI q, wn_hh ii il, ib) (nI fi) := by
  have H : ∀ e i, i + e = 16 → (∀ p, wn_V a p → p < i → w p ≠ fi) → ∀ n, e < n → wY_find_2 post (nI fi) nw sn da yp rs fr gn lo lp ie st la yr yk on mk vl sc rc mc (wn_fI a) wh wy (wn_fI q) (wn_hh ii il) ib n (nI i) := by
    intro e
    induction e with
    | zero =>
      intro i hi hb n hn
      obtain ⟨n, rfl⟩ : ∃ j, n = j + 1 := ⟨n - 1, by omega⟩
      refine pk_le 16 i (fun _ => h0 (fun p hp => hb p hp ?_)) (fun h => absurd h (by omega)) rfl rfl
      have := hp.1
      omega
    | succ e ih =>
      intro i hi hb n hn
      obtain ⟨n, rfl⟩ : ∃ j, n = j + 1 := ⟨n - 1, by omega⟩
      have ea : wn_fI a (nI i / 4).toNatClampNeg = nI (a (i / 4)) := by rw [wn_d4 (by omega)]; exact wn_fIa (by omega)
      have ha' := ha (i / 4) (by omega)
      obtain ⟨hw1, hw2⟩ := hw i (by omega)
      have ew : wh (nI i).toNatClampNeg / 16 = nI (w i) := by rw [nI_clamp (by omega), hH i (by omega), wn_hd hw1 hw2]
      refine pk_le 16 i (fun h => absurd h (by omega)) (fun _ => And.intro (by decide) (And.intro (by decide) (And.intro (pk_in (i / 4) 4 (by omega) (wn_d4 (by omega))) (pk_le (a (i / 4)) (i % 4) (fun z => nm_r (nI_1 i) (ih (i + 1) (by omega) ?_ n (by omega))) (fun z => And.intro (pk_in i 16 (by omega)) (And.intro (by decide) (pk_eq (w i) fi (fun y => h1 i ⟨by omega, z⟩ y) (fun y => nm_r (nI_1 i) (ih (i + 1) (by omega) ?_ n (by omega))) ew rfl))) ea (wn_m4 (by omega)))))) rfl rfl
      · intro p hp hlt
        by_cases y : p < i
        · exact hb p hp y
        · have e2 := hp.2
          rw [show p = i by omega] at e2
          omega
      · intro p hp hlt
        by_cases y' : p < i
        · exact hb p hp y'
        · rw [show p = i by omega]; exact y
  exact ⟨17, H 16 0 (by omega) (fun p _ h => absurd h (by omega)) 17 (by omega)⟩
theorem wn_yfd1 {post : Int32 → Prop} {p : Nat} (ha : ∀ n, n < 4 → a n ≤ 4) (hw : ∀ j, j < 16 → w j < 2048 ∧ l j ≤ 8) (hH : wn_H w l wh) (hU : wn_U a w) (hV : wn_V a p) (hp : post (nI p)) : wpY_find post (nw, sn, da, yp, rs, fr, gn, lo, lp, ie, st, la, yr, yk, on, mk, vl, sc, rc, mc, wn_fI a, wh, wy, wn_fI q, wn_hh ii il, ib) (nI (w p)) := by
  refine wn_yfd ha hw hH (hw p hV.1).1 (fun j hj e => ?_) (fun h => absurd rfl (h p hV))
  rw [hU j p hj hV e]; exact hp
end
/-! data cut to their length -/
theorem wn_cut {D fl : Nat} (hD : D < 2 ^ 64) (hf : fl < 8) : lN D &&& (((1 : Int64) <<< ((8 * nI fl).toInt64 &&& 63)) - 1) = lN (D % 2 ^ (8 * fl)) := by
  have h1 : 1 ≤ 2 ^ (8 * fl) := Nat.one_le_two_pow
  rw [wn_8, show (1 : Int64) = lN 1 from rfl, wb_shl 1 (by omega), Nat.one_mul, lN_sub h1, wb_mask hD (by omega)]
theorem wn_xcut {post : Int64 → Prop} {D fl : Nat} (hD : D < 2 ^ 64) (hf : fl ≤ 8) (hp : post (lN (D % 2 ^ (8 * fl)))) : wpX_cutTo post (nI fl) (lN D) := by
  refine pk_eq fl 8 (fun h => ?_) (fun h => ?_) rfl rfl
  · rw [h, show D % 2 ^ (8 * 8) = D from Nat.mod_eq_of_lt hD] at hp; exact hp
  · rw [wn_cut hD (by omega)]; exact hp
section
variable {nw ys da yp rs fr gn lo lp ie st la yr yk : Int32} {yon ymk yvl se re ym ws wh : Nat → Int32} {wy : Nat → Int64} {bx bh : Nat → Int32} {bd : Nat → Int64}
theorem wn_ycut {post : Int64 → Prop} {D fl : Nat} (hD : D < 2 ^ 64) (hf : fl ≤ 8) (hp : post (lN (D % 2 ^ (8 * fl)))) : wpY_cut post (nw, ys, da, yp, rs, fr, gn, lo, lp, ie, st, la, yr, yk, yon, ymk, yvl, se, re, ym, ws, wh, wy, bx, bh, bd) (nI fl) (lN D) := by
  refine pk_eq fl 8 (fun h => ?_) (fun h => ?_) rfl rfl
  · rw [h, show D % 2 ^ (8 * 8) = D from Nat.mod_eq_of_lt hD] at hp; exact hp
  · rw [wn_cut hD (by omega)]; exact hp
end
section
variable {ph lf ck sn di : Int32} {on sc rc mk vl : Nat → Int32} {a w l d q r c : Nat → Nat} {ii il : Nat → Int32} {ib : Nat → Int64} {mc : Nat → Int32} {G : Nat → wn_L}
theorem wn_xset {post : SX → Prop} {p fi fl D : Nat} (hp20 : p < 20) (hD : D < 2 ^ 64) (hf : fl ≤ 8) (hp : post (ph, lf, ck, sn, di, on, sc, rc, mk, vl, wn_fI a, wn_fI (wn_w w p fi), wn_fI (wn_w l p fl), wn_fL (wn_w d p (D % 2 ^ (8 * fl))), wn_fI q, ii, il, ib, mc, wn_fI r, wn_fI c, wn_gA G, wn_gB G, wn_gC G, wn_gD G, wn_gE G, wn_gF G, wn_gH G, wn_gI G, wn_gJ G)) : wpX_setFrame post (ph, lf, ck, sn, di, on, sc, rc, mk, vl, wn_fI a, wn_fI w, wn_fI l, wn_fL d, wn_fI q, ii, il, ib, mc, wn_fI r, wn_fI c, wn_gA G, wn_gB G, wn_gC G, wn_gD G, wn_gE G, wn_gF G, wn_gH G, wn_gI G, wn_gJ G) (nI p) (nI fi) (nI fl) (lN D) := by
  have v : vp_in (nI p) 20 := vp_in_nI hp20 (by decide)
  have cl : (nI p).toNatClampNeg = p := nI_clamp (by omega)
  refine And.intro v (nm_r (e' := wn_fI (wn_w w p fi)) (by rw [cl, wn_fIu]) (And.intro v (nm_r (e' := wn_fI (wn_w l p fl)) (by rw [cl, wn_fIu]) (wn_xcut hD hf (And.intro v (nm_r (e' := wn_fL (wn_w d p (D % 2 ^ (8 * fl)))) (by rw [cl, wn_fLu]) hp))))))
end
/-! a shift: what stood one place on comes into lo .. hi - 1 -/
def wn_sh {α : Type} (f : Nat → α) (lo hi : Nat) : Nat → α := fun j => if lo ≤ j ∧ j < hi then f (j + 1) else f j
theorem wn_sh0 {α : Type} (f : Nat → α) (lo : Nat) : wn_sh f lo lo = f := by
  funext j; exact if_neg (by omega)
theorem wn_shn {f : Nat → Nat} {lo hi : Nat} (h : lo ≤ hi) : wn_w (wn_sh f lo hi) hi (f (hi + 1)) = wn_sh f lo (hi + 1) := by
  funext j
  show (if j = hi then f (hi + 1) else if lo ≤ j ∧ j < hi then f (j + 1) else f j) = if lo ≤ j ∧ j < hi + 1 then f (j + 1) else f j
  by_cases z : j = hi
  · rw [if_pos z, if_pos (by omega), z]
  · rw [if_neg z]
    by_cases y : lo ≤ j ∧ j < hi
    · rw [if_pos y, if_pos (by omega)]
    · rw [if_neg y, if_neg (by omega)]
theorem wn_shI {f : Nat → Int32} {lo hi : Nat} (h : lo ≤ hi) : upd (wn_sh f lo hi) hi (f (hi + 1)) = wn_sh f lo (hi + 1) := by
  funext j
  show (if j = hi then f (hi + 1) else if lo ≤ j ∧ j < hi then f (j + 1) else f j) = if lo ≤ j ∧ j < hi + 1 then f (j + 1) else f j
  by_cases z : j = hi
  · rw [if_pos z, if_pos (by omega), z]
  · rw [if_neg z]
    by_cases y : lo ≤ j ∧ j < hi
    · rw [if_pos y, if_pos (by omega)]
    · rw [if_neg y, if_neg (by omega)]
theorem wn_shL {f : Nat → Int64} {lo hi : Nat} (h : lo ≤ hi) : vp_updL (wn_sh f lo hi) hi (f (hi + 1)) = wn_sh f lo (hi + 1) := by
  funext j
  show (if j = hi then f (hi + 1) else if lo ≤ j ∧ j < hi then f (j + 1) else f j) = if lo ≤ j ∧ j < hi + 1 then f (j + 1) else f j
  by_cases z : j = hi
  · rw [if_pos z, if_pos (by omega), z]
  · rw [if_neg z]
    by_cases y : lo ≤ j ∧ j < hi
    · rw [if_pos y, if_pos (by omega)]
    · rw [if_neg y, if_neg (by omega)]
theorem wn_shhi {α : Type} {f : Nat → α} {lo hi j : Nat} (h : hi ≤ j) : wn_sh f lo hi j = f j := if_neg (by omega)
theorem wn_shlo {α : Type} {f : Nat → α} {lo hi j : Nat} (h : j < lo) : wn_sh f lo hi j = f j := if_neg (by omega)
theorem wn_shin {α : Type} {f : Nat → α} {lo hi j : Nat} (h : lo ≤ j) (h2 : j < hi) : wn_sh f lo hi j = f (j + 1) := if_pos ⟨h, h2⟩
section
variable {ph lf ck sn di : Int32} {on sc rc mk vl : Nat → Int32} {a w l d q r c : Nat → Nat} {ii il : Nat → Int32} {ib : Nat → Int64} {mc : Nat → Int32} {G : Nat → wn_L}
theorem wn_xrm {post : SX → Prop} {m k : Nat} (hm : m < 4) (ham : a m ≤ 4) (hk : k < a m) (hc : c m < 4) (hp : post (ph, lf, ck, sn, di, on, sc, rc, mk, vl, wn_fI (wn_w a m (a m - 1)), wn_fI (wn_sh w (4 * m + k) (4 * m + (a m - 1))), wn_fI (wn_sh l (4 * m + k) (4 * m + (a m - 1))), wn_fL (wn_sh d (4 * m + k) (4 * m + (a m - 1))), wn_fI q, ii, il, ib, mc, wn_fI r, wn_fI (wn_w c m (if k < c m then c m - 1 else c m)), wn_gA G, wn_gB G, wn_gC G, wn_gD G, wn_gE G, wn_gF G, wn_gH G, wn_gI G, wn_gJ G)) : wpX_removeFrame post (ph, lf, ck, sn, di, on, sc, rc, mk, vl, wn_fI a, wn_fI w, wn_fI l, wn_fL d, wn_fI q, ii, il, ib, mc, wn_fI r, wn_fI c, wn_gA G, wn_gB G, wn_gC G, wn_gD G, wn_gE G, wn_gF G, wn_gH G, wn_gI G, wn_gJ G) (nI m) (nI k) := by
  have v5 : vp_in (nI m) 5 := vp_in_nI (by omega) (by decide)
  have cl : (nI m).toNatClampNeg = m := nI_clamp (by omega)
  have ec : wn_fI c (nI m).toNatClampNeg = nI (c m) := wn_fIa (by omega)
  have ea : wn_fI (wn_w a m (a m - 1)) (nI m).toNatClampNeg = nI (a m - 1) := by rw [wn_fIa (by omega), wn_ws]
  have H : ∀ e i, i + e = a m - 1 → k ≤ i → ∀ n, e < n → wX_removeFrame_12 post (nI m) (nI k) ph lf ck sn di n (nI i) on sc rc mk vl (wn_fI (wn_w a m (a m - 1))) (wn_fI (wn_sh w (4 * m + k) (4 * m + i))) (wn_fI (wn_sh l (4 * m + k) (4 * m + i))) (wn_fL (wn_sh d (4 * m + k) (4 * m + i))) (wn_fI q) ii il ib mc (wn_fI r) (wn_fI c) (wn_gA G) (wn_gB G) (wn_gC G) (wn_gD G) (wn_gE G) (wn_gF G) (wn_gH G) (wn_gI G) (wn_gJ G) := by
    intro e
    induction e with
    | zero =>
      intro i hi hki n hn
      obtain ⟨n, rfl⟩ : ∃ j, n = j + 1 := ⟨n - 1, by omega⟩
      rw [show i = a m - 1 by omega]
      refine And.intro v5 (pk_le (a m - 1) (a m - 1) (fun _ => And.intro v5 (And.intro v5 (pk_le (c m) k (fun h => And.intro v5 (nm_r (e' := wn_fI (wn_w c m (if k < c m then c m - 1 else c m))) ?_ hp)) (fun h => And.intro v5 (nm_r (e' := wn_fI (wn_w c m (if k < c m then c m - 1 else c m))) ?_ hp)) ec rfl))) (fun h => absurd h (by omega)) ea rfl)
      · rw [ec, cl, if_neg (by omega), Int32.sub_zero, wn_fIu]
      · rw [ec, cl, if_pos h, show (1 : Int32) = nI 1 from rfl, pk_sub (by omega), wn_fIu]
    | succ e ih =>
      intro i hi hki n hn
      obtain ⟨n, rfl⟩ : ∃ j, n = j + 1 := ⟨n - 1, by omega⟩
      have v1 : vp_in (nI (4 * m + i) + 1) 20 := pk_in (4 * m + i + 1) 20 (by omega) (nI_1 _)
      have v0 : vp_in (nI (4 * m + i)) 20 := pk_in (4 * m + i) 20 (by omega)
      have c0 : (nI (4 * m + i)).toNatClampNeg = 4 * m + i := nI_clamp (by omega)
      have c1 : (nI (4 * m + i) + 1).toNatClampNeg = 4 * m + i + 1 := by rw [nI_1]; exact nI_clamp (by omega)
      have S : ∀ f : Nat → Nat, upd (wn_fI (wn_sh f (4 * m + k) (4 * m + i))) (nI (4 * m + i)).toNatClampNeg (wn_fI (wn_sh f (4 * m + k) (4 * m + i)) (nI (4 * m + i) + 1).toNatClampNeg) = wn_fI (wn_sh f (4 * m + k) (4 * m + (i + 1))) := by
        intro f
        rw [c0, c1]
        show upd _ _ (nI (wn_sh f (4 * m + k) (4 * m + i) (4 * m + i + 1))) = _
        rw [wn_shhi (by omega), wn_fIu, wn_shn (by omega)]; rfl
      have SL : vp_updL (wn_fL (wn_sh d (4 * m + k) (4 * m + i))) (nI (4 * m + i)).toNatClampNeg (wn_fL (wn_sh d (4 * m + k) (4 * m + i)) (nI (4 * m + i) + 1).toNatClampNeg) = wn_fL (wn_sh d (4 * m + k) (4 * m + (i + 1))) := by
        rw [c0, c1]
        show vp_updL _ _ (lN (wn_sh d (4 * m + k) (4 * m + i) (4 * m + i + 1))) = _
        rw [wn_shhi (by omega), wn_fLu, wn_shn (by omega)]; rfl
      exact And.intro v5 (pk_le (a m - 1) i (fun h => absurd h (by omega)) (fun _ => nm_r wn_4k (And.intro v1 (And.intro v0 (nm_r (S w) (And.intro v1 (And.intro v0 (nm_r (S l) (And.intro v1 (And.intro v0 (nm_r SL (nm_r (nI_1 i) (ih (i + 1) (by omega) (by omega) n (by omega)))))))))))) ) ea rfl)
  refine And.intro v5 (And.intro v5 (nm_r (e' := wn_fI (wn_w a m (a m - 1))) ?_ ⟨5, ?_⟩))
  · rw [wn_fIa (by omega), cl, show (1 : Int32) = nI 1 from rfl, pk_sub (by omega), wn_fIu]
  · have := H (a m - 1 - k) k (by omega) (by omega) 5 (by omega)
    rw [wn_sh0, wn_sh0, wn_sh0] at this
    exact this
variable {nw da yp rs fr gn lo lp ie st la yr yk : Int32} {wh : Nat → Int32} {wy : Nat → Int64}
theorem wn_H_sh {lo hi : Nat} (hH : wn_H w l wh) (h : hi ≤ 15) : wn_H (wn_sh w lo hi) (wn_sh l lo hi) (wn_sh wh lo hi) := by
  intro j hj
  by_cases z : lo ≤ j ∧ j < hi
  · rw [wn_shin z.1 z.2, wn_shin z.1 z.2, wn_shin z.1 z.2]; exact hH _ (by omega)
  · have e : ∀ {α : Type} (f : Nat → α), wn_sh f lo hi j = f j := fun f => if_neg z
    rw [e, e, e]; exact hH j hj
/-- .. the reference's, without a frame under way -/
theorem wn_yto {post : SY → Prop} {m k : Nat} {z0 : Int32} (hm : m < 4) (ham : a m ≤ 4) (hk : k < a m) (hp : (z0 < 0 → post (nw, sn, da, yp, rs, fr, gn, lo, lp, ie, st, la, yr, yk, on, mk, vl, sc, rc, mc, wn_fI (wn_w a m (a m - 1)), wn_sh wh (4 * m + k) (4 * m + (a m - 1)), wn_sh wy (4 * m + k) (4 * m + (a m - 1)), wn_fI q, wn_hh ii il, ib)) ∧ (¬ z0 < 0 → wpY_find (fun z => post (nw, sn, da, yp, rs, z, gn, lo, lp, ie, st, la, yr, yk, on, mk, vl, sc, rc, mc, wn_fI (wn_w a m (a m - 1)), wn_sh wh (4 * m + k) (4 * m + (a m - 1)), wn_sh wy (4 * m + k) (4 * m + (a m - 1)), wn_fI q, wn_hh ii il, ib)) (nw, sn, da, yp, rs, fr, gn, lo, lp, ie, st, la, yr, yk, on, mk, vl, sc, rc, mc, wn_fI (wn_w a m (a m - 1)), wn_sh wh (4 * m + k) (4 * m + (a m - 1)), wn_sh wy (4 * m + k) (4 * m + (a m - 1)), wn_fI q, wn_hh ii il, ib) z0)) : wY_takeOut_28 post (nI (4 * m + k)) (nI m) z0 nw sn da yp rs fr gn lo lp ie st la yr yk on mk vl sc rc mc (wn_fI a) wh wy (wn_fI q) (wn_hh ii il) ib := by
  have v4 : vp_in (nI m) 4 := vp_in_nI (by omega) (by decide)
  have cl : (nI m).toNatClampNeg = m := nI_clamp (by omega)
  have ea : 4 * nI m + wn_fI (wn_w a m (a m - 1)) (nI m).toNatClampNeg = nI (4 * m + (a m - 1)) := by rw [wn_fIa (by omega), wn_ws, wn_4k]
  have H : ∀ e i, i + e = 4 * m + (a m - 1) → 4 * m + k ≤ i → ∀ n, e < n → wY_takeOut_42 post (nI m) z0 nw sn da yp rs fr gn lo lp ie st la yr yk n (nI i) on mk vl sc rc mc (wn_fI (wn_w a m (a m - 1))) (wn_sh wh (4 * m + k) i) (wn_sh wy (4 * m + k) i) (wn_fI q) (wn_hh ii il) ib := by
    intro e
    induction e with
    | zero =>
      intro i hi hki n hn
      obtain ⟨n, rfl⟩ : ∃ j, n = j + 1 := ⟨n - 1, by omega⟩
      rw [show i = 4 * m + (a m - 1) by omega]
      exact And.intro v4 (pk_le (4 * m + (a m - 1)) (4 * m + (a m - 1)) (fun _ => hp) (fun h => absurd h (by omega)) ea rfl)
    | succ e ih =>
      intro i hi hki n hn
      obtain ⟨n, rfl⟩ : ∃ j, n = j + 1 := ⟨n - 1, by omega⟩
      have v1 : vp_in (nI i + 1) 16 := pk_in (i + 1) 16 (by omega) (nI_1 _)
      have v0 : vp_in (nI i) 16 := pk_in i 16 (by omega)
      have c0 : (nI i).toNatClampNeg = i := nI_clamp (by omega)
      have c1 : (nI i + 1).toNatClampNeg = i + 1 := by rw [nI_1]; exact nI_clamp (by omega)
      have S : upd (wn_sh wh (4 * m + k) i) (nI i).toNatClampNeg (wn_sh wh (4 * m + k) i (nI i + 1).toNatClampNeg) = wn_sh wh (4 * m + k) (i + 1) := by
        rw [c0, c1, wn_shhi (by omega), wn_shI (by omega)]
      have SL : vp_updL (wn_sh wy (4 * m + k) i) (nI i).toNatClampNeg (wn_sh wy (4 * m + k) i (nI i + 1).toNatClampNeg) = wn_sh wy (4 * m + k) (i + 1) := by
        rw [c0, c1, wn_shhi (by omega), wn_shL (by omega)]
      exact And.intro v4 (pk_le (4 * m + (a m - 1)) i (fun h => absurd h (by omega)) (fun _ => And.intro v1 (And.intro v0 (nm_r S (And.intro v1 (And.intro v0 (nm_r SL (nm_r (nI_1 i) (ih (i + 1) (by omega) (by omega) n (by omega))))))))) ea rfl)
  refine And.intro v4 (And.intro v4 (nm_r (e' := wn_fI (wn_w a m (a m - 1))) ?_ ⟨5, ?_⟩))
  · rw [wn_fIa (by omega), cl, show (1 : Int32) = nI 1 from rfl, pk_sub (by omega), wn_fIu]
  · have := H (a m - 1 - k) (4 * m + k) (by omega) (by omega) 5 (by omega)
    rw [wn_sh0, wn_sh0] at this
    exact this
end
end
section
/-! choosing: a node's least id, the least of all; is any waiting, is it alone, what is under way -/
section
variable {ph lf ck sn di : Int32} {on sc rc mk vl : Nat → Int32} {a w l d q r c : Nat → Nat} {ii il : Nat → Int32} {ib : Nat → Int64} {mc : Nat → Int32} {G : Nat → wn_L}
theorem wn_xchoose {m : Nat} (hm : m < 4) (ham : a m ≤ 4) (hw : ∀ j, j < 16 → w j < 2048) : ∃ b, b < 4 ∧ (0 < a m → b < a m ∧ ∀ k, k < a m → w (4 * m + b) ≤ w (4 * m + k)) ∧ ∀ (ph lf ck sn di : Int32) (on sc rc mk vl : Nat → Int32) (l d q r c : Nat → Nat) (ii il : Nat → Int32) (ib : Nat → Int64) (mc : Nat → Int32) (G : Nat → wn_L) (post : Int32 → Prop), post (nI b) → wpX_choose post (ph, lf, ck, sn, di, on, sc, rc, mk, vl, wn_fI a, wn_fI w, wn_fI l, wn_fL d, wn_fI q, ii, il, ib, mc, wn_fI r, wn_fI c, wn_gA G, wn_gB G, wn_gC G, wn_gD G, wn_gE G, wn_gF G, wn_gH G, wn_gI G, wn_gJ G) (nI m) := by
  have v5 : vp_in (nI m) 5 := vp_in_nI (by omega) (by decide)
  have ea : wn_fI a (nI m).toNatClampNeg = nI (a m) := wn_fIa (by omega)
  have H : ∀ e i b, 1 ≤ i → i + e = a m → (b < i ∧ ∀ k, k < i → w (4 * m + b) ≤ w (4 * m + k)) → ∃ b', b' < a m ∧ (∀ k, k < a m → w (4 * m + b') ≤ w (4 * m + k)) ∧ ∀ (ph lf ck sn di : Int32) (on sc rc mk vl : Nat → Int32) (l d q r c : Nat → Nat) (ii il : Nat → Int32) (ib : Nat → Int64) (mc : Nat → Int32) (G : Nat → wn_L) (post : Int32 → Prop), post (nI b') → ∀ n, e < n → wX_choose_4 post (nI m) ph lf ck sn di on sc rc mk vl (wn_fI a) (wn_fI w) (wn_fI l) (wn_fL d) (wn_fI q) ii il ib mc (wn_fI r) (wn_fI c) (wn_gA G) (wn_gB G) (wn_gC G) (wn_gD G) (wn_gE G) (wn_gF G) (wn_gH G) (wn_gI G) (wn_gJ G) n (nI b) (nI i) := by
    intro e
    induction e with
    | zero =>
      intro i b hi1 hi hb
      rw [Nat.add_zero] at hi
      refine ⟨b, by omega, fun k hk => hb.2 k (by omega), ?_⟩
      intro ph lf ck sn di on sc rc mk vl l d q r c ii il ib mc G post hp n hn
      obtain ⟨n, rfl⟩ : ∃ j, n = j + 1 := ⟨n - 1, by omega⟩
      exact And.intro v5 (pk_le (a m) i (fun _ => hp) (fun h => absurd h (by omega)) ea rfl)
    | succ e ih =>
      intro i b hi1 hi hb
      have eb : wn_fI w (4 * nI m + nI b).toNatClampNeg = nI (w (4 * m + b)) := by rw [wn_4k]; exact wn_fIa (by omega)
      have ei : wn_fI w (4 * nI m + nI i).toNatClampNeg = nI (w (4 * m + i)) := by rw [wn_4k]; exact wn_fIa (by omega)
      have w1 := hw (4 * m + b) (by omega)
      have w2 := hw (4 * m + i) (by omega)
      have vi : vp_in (4 * nI m + nI i) 20 := pk_in (4 * m + i) 20 (by omega) wn_4k
      have vb : vp_in (4 * nI m + nI b) 20 := pk_in (4 * m + b) 20 (by omega) wn_4k
      by_cases z : w (4 * m + b) ≤ w (4 * m + i)
      · obtain ⟨b', h1, h2, h3⟩ := ih (i + 1) b (by omega) (by omega) ⟨by omega, fun k hk => by
          by_cases y : k < i
          · exact hb.2 k y
          · rw [show k = i by omega]; exact z⟩
        refine ⟨b', h1, h2, ?_⟩
        intro ph lf ck sn di on sc rc mk vl l d q r c ii il ib mc G post hp n hn
        obtain ⟨n, rfl⟩ : ∃ j, n = j + 1 := ⟨n - 1, by omega⟩
        exact And.intro v5 (pk_le (a m) i (fun h => absurd h (by omega)) (fun _ => And.intro vi (And.intro vb (pk_le (w (4 * m + b)) (w (4 * m + i)) (fun _ => nm_r (nI_1 i) (h3 ph lf ck sn di on sc rc mk vl l d q r c ii il ib mc G post hp n (by omega))) (fun h => absurd h (by omega)) eb ei))) ea rfl)
      · obtain ⟨b', h1, h2, h3⟩ := ih (i + 1) i (by omega) (by omega) ⟨by omega, fun k hk => by
          by_cases y : k < i
          · exact Nat.le_trans (by omega) (hb.2 k y)
          · rw [show k = i by omega]; exact Nat.le_refl _⟩
        refine ⟨b', h1, h2, ?_⟩
        intro ph lf ck sn di on sc rc mk vl l d q r c ii il ib mc G post hp n hn
        obtain ⟨n, rfl⟩ : ∃ j, n = j + 1 := ⟨n - 1, by omega⟩
        exact And.intro v5 (pk_le (a m) i (fun h => absurd h (by omega)) (fun _ => And.intro vi (And.intro vb (pk_le (w (4 * m + b)) (w (4 * m + i)) (fun h => absurd h z) (fun _ => nm_r (nI_1 i) (h3 ph lf ck sn di on sc rc mk vl l d q r c ii il ib mc G post hp n (by omega))) eb ei))) ea rfl)
  by_cases z : a m = 0
  · refine ⟨0, by omega, fun h => absurd h (by omega), ?_⟩
    intro ph lf ck sn di on sc rc mk vl l d q r c ii il ib mc G post hp
    exact ⟨1, And.intro v5 (pk_le (a m) 1 (fun _ => hp) (fun h => absurd h (by omega)) ea rfl)⟩
  · obtain ⟨b', h1, h2, h3⟩ := H (a m - 1) 1 0 (by omega) (by omega) ⟨by omega, fun k hk => by rw [show k = 0 by omega]; exact Nat.le_refl _⟩
    refine ⟨b', by omega, fun _ => ⟨h1, h2⟩, ?_⟩
    intro ph lf ck sn di on sc rc mk vl l d q r c ii il ib mc G post hp
    exact ⟨5, h3 ph lf ck sn di on sc rc mk vl l d q r c ii il ib mc G post hp 5 (by omega)⟩
/-- does any frame wait in a node that is on -/
def wn_any (on : Nat → Int32) (a : Nat → Nat) : Prop := ∃ n, n < 4 ∧ ¬ on n = 0 ∧ 0 < a n
theorem wn_xany {post : Int32 → Prop} (ha : ∀ n, n < 4 → a n ≤ 4) (h1 : wn_any on a → post 1) (h0 : ¬ wn_any on a → post 0) : wpX_anyWaits post (ph, lf, ck, sn, di, on, sc, rc, mk, vl, wn_fI a, wn_fI w, wn_fI l, wn_fL d, wn_fI q, ii, il, ib, mc, wn_fI r, wn_fI c, wn_gA G, wn_gB G, wn_gC G, wn_gD G, wn_gE G, wn_gF G, wn_gH G, wn_gI G, wn_gJ G) := by
  have H : ∀ e i, i + e = 4 → (∀ n, n < i → ¬ on n = 0 → a n = 0) → ∀ n, e < n → wX_anyWaits_2 post ph lf ck sn di on sc rc mk vl (wn_fI a) (wn_fI w) (wn_fI l) (wn_fL d) (wn_fI q) ii il ib mc (wn_fI r) (wn_fI c) (wn_gA G) (wn_gB G) (wn_gC G) (wn_gD G) (wn_gE G) (wn_gF G) (wn_gH G) (wn_gI G) (wn_gJ G) n (nI i) := by
    intro e
    induction e with
    | zero =>
      intro i hi hb n hn
      obtain ⟨n, rfl⟩ : ∃ j, n = j + 1 := ⟨n - 1, by omega⟩
      refine pk_le 4 i (fun _ => h0 ?_) (fun h => absurd h (by omega)) rfl rfl
      intro ⟨m, hm, ho, hpos⟩
      have := hb m (by omega) ho
      omega
    | succ e ih =>
      intro i hi hb n hn
      obtain ⟨n, rfl⟩ : ∃ j, n = j + 1 := ⟨n - 1, by omega⟩
      have cl : (nI i).toNatClampNeg = i := nI_clamp (by omega)
      have ea : wn_fI a (nI i).toNatClampNeg = nI (a i) := wn_fIa (by omega)
      have hai := ha i (by omega)
      refine pk_le 4 i (fun h => absurd h (by omega)) (fun _ => And.intro (pk_in i 4 (by omega)) (br_c (fun z => nm_r (nI_1 i) (ih (i + 1) (by omega) ?_ n (by omega))) (fun z => And.intro (pk_in i 5 (by omega)) (pk_le (a i) 0 (fun y => nm_r (nI_1 i) (ih (i + 1) (by omega) ?_ n (by omega))) (fun y => h1 ⟨i, by omega, ?_, y⟩) ea rfl)))) rfl rfl
      · intro m hm ho
        by_cases y : m < i
        · exact hb m y ho
        · rw [cl] at z
          rw [show m = i by omega] at ho
          exact absurd z ho
      · intro m hm ho
        by_cases y' : m < i
        · exact hb m y' ho
        · rw [show m = i by omega]; omega
      · rw [cl] at z; exact z
  exact ⟨5, H 4 0 (by omega) (fun m h => absurd h (by omega)) 5 (by omega)⟩
variable {nw da yp rs fr gn lo lp ie st la yr yk : Int32} {wh : Nat → Int32} {wy : Nat → Int64}
/-- the most urgent of all, as far as place i -/
def wn_MU (on : Nat → Int32) (a w : Nat → Nat) (i : Nat) (z : Int32) : Prop :=
  (z = -1 ∧ ∀ p, p < i → wn_V a p → on (p / 4) = 0) ∨ ∃ p, p < i ∧ z = nI p ∧ wn_V a p ∧ ¬ on (p / 4) = 0 ∧ ∀ j, j < i → wn_V a j → ¬ on (j / 4) = 0 → w p ≤ w j
theorem wn_MU_skip {i : Nat} {z : Int32} (h : wn_MU on a w i z) (hs : wn_V a i → on (i / 4) = 0) : wn_MU on a w (i + 1) z := by
  rcases h with ⟨h1, h2⟩ | ⟨p, h1, h2, h3, h4, h5⟩
  · refine Or.inl ⟨h1, fun p hp hv => ?_⟩
    by_cases y : p < i
    · exact h2 p y hv
    · have e : p = i := by omega
      rw [e] at hv ⊢
      exact hs hv
  · refine Or.inr ⟨p, by omega, h2, h3, h4, fun j hj hv ho => ?_⟩
    by_cases y : j < i
    · exact h5 j y hv ho
    · have e : j = i := by omega
      rw [e] at hv ho
      exact absurd (hs hv) ho
theorem wn_ymu (ha : ∀ n, n < 4 → a n ≤ 4) (hw : ∀ j, j < 16 → w j < 2048 ∧ l j ≤ 8) (hH : wn_H w l wh) : ∃ z, wn_MU on a w 16 z ∧ ∀ post : Int32 → Prop, post z → wpY_mostUrgent post (nw, sn, da, yp, rs, fr, gn, lo, lp, ie, st, la, yr, yk, on, mk, vl, sc, rc, mc, wn_fI a, wh, wy, wn_fI q, wn_hh ii il, ib) := by
  have H : ∀ e i z, i + e = 16 → wn_MU on a w i z → ∃ z', wn_MU on a w 16 z' ∧ ∀ post : Int32 → Prop, post z' → ∀ n, e < n → wY_mostUrgent_4 post nw sn da yp rs fr gn lo lp ie st la yr yk on mk vl sc rc mc (wn_fI a) wh wy (wn_fI q) (wn_hh ii il) ib n z (nI i) := by
    intro e
    induction e with
    | zero =>
      intro i z hi hM
      rw [show i = 16 by omega] at hM ⊢
      refine ⟨z, hM, ?_⟩
      intro post hp n hn
      obtain ⟨n, rfl⟩ : ∃ j, n = j + 1 := ⟨n - 1, by omega⟩
      exact pk_le 16 16 (fun _ => hp) (fun h => absurd h (by omega)) rfl rfl
    | succ e ih =>
      intro i z hi hM
      have d4 : nI i / 4 = nI (i / 4) := wn_d4 (by omega)
      have c4 : (nI i / 4).toNatClampNeg = i / 4 := by rw [d4]; exact nI_clamp (by omega)
      have ea : wn_fI a (nI i / 4).toNatClampNeg = nI (a (i / 4)) := by rw [c4]; rfl
      have ha' := ha (i / 4) (by omega)
      have v4 : vp_in (nI i / 4) 4 := pk_in (i / 4) 4 (by omega) d4
      have skip : (wn_V a i → on (i / 4) = 0) → ∃ z', wn_MU on a w 16 z' ∧ ∀ post : Int32 → Prop, post z' → ∀ n, e < n → wY_mostUrgent_39 post (wY_mostUrgent_4 post nw sn da yp rs fr gn lo lp ie st la yr yk on mk vl sc rc mc (wn_fI a) wh wy (wn_fI q) (wn_hh ii il) ib n) z (nI i) nw sn da yp rs fr gn lo lp ie st la yr yk on mk vl sc rc mc (wn_fI a) wh wy (wn_fI q) (wn_hh ii il) ib := by
        intro hs
        obtain ⟨z', h1, h2⟩ := ih (i + 1) z (by omega) (wn_MU_skip hM hs)
        exact ⟨z', h1, fun post hp n hn => br_t rfl (nm_r (nI_1 i) (h2 post hp n hn))⟩
      by_cases ho : on (i / 4) = 0
      · obtain ⟨z', h1, h2⟩ := skip (fun _ => ho)
        refine ⟨z', h1, fun post hp n hn => ?_⟩
        obtain ⟨n, rfl⟩ : ∃ j, n = j + 1 := ⟨n - 1, by omega⟩
        exact pk_le 16 i (fun h => absurd h (by omega)) (fun _ => And.intro (by decide) (And.intro v4 (br_t (by rw [c4]; exact ho) (h2 post hp n (by omega))))) rfl rfl
      · by_cases hv : i % 4 < a (i / 4)
        · have hV : wn_V a i := ⟨by omega, hv⟩
          have go : ∀ z1, wn_MU on a w (i + 1) z1 → (∀ (post : Int32 → Prop) n, wY_mostUrgent_4 post nw sn da yp rs fr gn lo lp ie st la yr yk on mk vl sc rc mc (wn_fI a) wh wy (wn_fI q) (wn_hh ii il) ib n z1 (nI (i + 1)) → wY_mostUrgent_40 post (wY_mostUrgent_4 post nw sn da yp rs fr gn lo lp ie st la yr yk on mk vl sc rc mc (wn_fI a) wh wy (wn_fI q) (wn_hh ii il) ib n) z (nI i) 1 nw sn da yp rs fr gn lo lp ie st la yr yk on mk vl sc rc mc (wn_fI a) wh wy (wn_fI q) (wn_hh ii il) ib) → ∃ z', wn_MU on a w 16 z' ∧ ∀ post : Int32 → Prop, post z' → ∀ n, e + 1 < n → wY_mostUrgent_4 post nw sn da yp rs fr gn lo lp ie st la yr yk on mk vl sc rc mc (wn_fI a) wh wy (wn_fI q) (wn_hh ii il) ib n z (nI i) := by
            intro z1 hz1 hc
            obtain ⟨z', h1, h2⟩ := ih (i + 1) z1 (by omega) hz1
            refine ⟨z', h1, fun post hp n hn => ?_⟩
            obtain ⟨n, rfl⟩ : ∃ j, n = j + 1 := ⟨n - 1, by omega⟩
            exact pk_le 16 i (fun h => absurd h (by omega)) (fun _ => And.intro (by decide) (And.intro v4 (br_f (by rw [c4]; exact ho) (And.intro (by decide) (And.intro (by decide) (And.intro v4 (pk_le (a (i / 4)) (i % 4) (fun h => absurd h (by omega)) (fun _ => hc post n (h2 post hp n (by omega))) ea (wn_m4 (by omega))))))))) rfl rfl
          rcases hM with ⟨h1, h2⟩ | ⟨p, h1, h2, h3, h4, h5⟩
          · refine go (nI i) (Or.inr ⟨i, by omega, rfl, hV, ho, fun j hj hvj hoj => ?_⟩) (fun post n hn => ?_)
            · by_cases y : j < i
              · exact absurd (h2 j y hvj) hoj
              · rw [show j = i by omega]; exact Nat.le_refl _
            · exact br_f (by decide) (br_t (by rw [h1]; decide) (nm_r (nI_1 i) hn))
          · have ep : wh z.toNatClampNeg = nI (16 * w p + l p) := by rw [h2, nI_clamp (by omega)]; exact hH p (by omega)
            have ei : wh (nI i).toNatClampNeg = nI (16 * w i + l i) := by rw [nI_clamp (by omega)]; exact hH i (by omega)
            have wp := hw p (by omega)
            have wi := hw i (by omega)
            have nz : ¬ z < 0 := by rw [h2]; exact nI_pos (by omega)
            have vz : vp_in z 16 := pk_in p 16 (by omega) h2
            by_cases y : 16 * w p + l p ≤ 16 * w i + l i
            · refine go z (Or.inr ⟨p, by omega, h2, h3, h4, fun j hj hvj hoj => ?_⟩) (fun post n hn => ?_)
              · by_cases y' : j < i
                · exact h5 j y' hvj hoj
                · rw [show j = i by omega]; omega
              · exact br_f (by decide) (br_f nz (And.intro (pk_in i 16 (by omega)) (And.intro vz (pk_le _ _ (fun _ => nm_r (nI_1 i) hn) (fun h => absurd h (by omega)) ep ei))))
            · refine go (nI i) (Or.inr ⟨i, by omega, rfl, hV, ho, fun j hj hvj hoj => ?_⟩) (fun post n hn => ?_)
              · by_cases y' : j < i
                · have := h5 j y' hvj hoj; omega
                · rw [show j = i by omega]; exact Nat.le_refl _
              · exact br_f (by decide) (br_f nz (And.intro (pk_in i 16 (by omega)) (And.intro vz (pk_le _ _ (fun h => absurd h y) (fun _ => nm_r (nI_1 i) hn) ep ei))))
        · obtain ⟨z', h1, h2⟩ := skip (fun h => absurd h.2 hv)
          refine ⟨z', h1, fun post hp n hn => ?_⟩
          obtain ⟨n, rfl⟩ : ∃ j, n = j + 1 := ⟨n - 1, by omega⟩
          exact pk_le 16 i (fun h => absurd h (by omega)) (fun _ => And.intro (by decide) (And.intro v4 (br_f (by rw [c4]; exact ho) (And.intro (by decide) (And.intro (by decide) (And.intro v4 (pk_le (a (i / 4)) (i % 4) (fun _ => h2 post hp n (by omega)) (fun h => absurd h hv) ea (wn_m4 (by omega))))))))) rfl rfl
  obtain ⟨z', h1, h2⟩ := H 16 0 (-1) (by omega) (Or.inl ⟨rfl, fun p hp => absurd hp (by omega)⟩)
  exact ⟨z', h1, fun post hp => ⟨17, h2 post hp 17 (by omega)⟩⟩
/-- is the sender alone -/
theorem wn_yalone {post : Int32 → Prop} {p : Nat} (hp16 : p < 16) (h1 : (∀ n, n < 4 → n ≠ p / 4 → on n = 0) → post 1) (h0 : (∃ n, n < 4 ∧ n ≠ p / 4 ∧ ¬ on n = 0) → post 0) : wpY_isAlone post (nw, sn, da, yp, rs, nI p, gn, lo, lp, ie, st, la, yr, yk, on, mk, vl, sc, rc, mc, wn_fI a, wh, wy, wn_fI q, wn_hh ii il, ib) := by
  have d4 : nI p / 4 = nI (p / 4) := wn_d4 (by omega)
  have H : ∀ e i, i + e = 4 → (∀ n, n < i → n ≠ p / 4 → on n = 0) → ∀ n, e < n → wY_isAlone_2 post nw sn da yp rs (nI p) gn lo lp ie st la yr yk on mk vl sc rc mc (wn_fI a) wh wy (wn_fI q) (wn_hh ii il) ib n (nI i) := by
    intro e
    induction e with
    | zero =>
      intro i hi hb n hn
      obtain ⟨n, rfl⟩ : ∃ j, n = j + 1 := ⟨n - 1, by omega⟩
      exact pk_le 4 i (fun _ => h1 (fun m hm => hb m (by omega))) (fun h => absurd h (by omega)) rfl rfl
    | succ e ih =>
      intro i hi hb n hn
      obtain ⟨n, rfl⟩ : ∃ j, n = j + 1 := ⟨n - 1, by omega⟩
      have cl : (nI i).toNatClampNeg = i := nI_clamp (by omega)
      refine pk_le 4 i (fun h => absurd h (by omega)) (fun _ => And.intro (pk_in i 4 (by omega)) (br_c (fun z => nm_r (nI_1 i) (ih (i + 1) (by omega) ?_ n (by omega))) (fun z => And.intro (by decide) (pk_eq i (p / 4) (fun y => nm_r (nI_1 i) (ih (i + 1) (by omega) ?_ n (by omega))) (fun y => h0 ⟨i, by omega, y, ?_⟩) rfl d4)))) rfl rfl
      · intro m hm hne
        by_cases y : m < i
        · exact hb m y hne
        · rw [show m = i by omega]; rw [cl] at z; exact z
      · intro m hm hne
        by_cases y' : m < i
        · exact hb m y' hne
        · exact absurd (by omega) hne
      · rw [cl] at z; exact z
  exact ⟨5, H 4 0 (by omega) (fun m h => absurd h (by omega)) 5 (by omega)⟩
end
end
section
/-! one bit of a frame, the component's side: what all put out, what each hears -/
theorem wn_wself {f : Nat → Nat} {k v : Nat} (h : f k = v) : wn_w f k v = f := by
  funext j; show (if j = k then v else f j) = f j
  split
  · next e => rw [e, h]
  · rfl
/-- a disturbance counts here -/
def wn_cnt (L : wn_L) : Prop := 12 ≤ L.1 ∧ (¬ wn_tl L ∨ L.2.2.2.2.2.2.2.2 = 0)
def wn_br (ds : Int32) (rn v : Nat) (L : wn_L) : Prop := (¬ ds = 0 ∧ wn_cnt L) ∨ (rn = 1 ∧ wn_tl L ∧ L.2.2.2.2.2.2.2.2 = 1 ∧ v = 1)
section
variable {ph lf ck sn di : Int32} {on sc rc mk vl : Nat → Int32} {a w l d q r c : Nat → Nat} {ii il : Nat → Int32} {ib : Nat → Int64} {mc : Nat → Int32} {G : Nat → wn_L}
variable {post : Int32 → SX → Prop} {n v : Nat} {ds x4 z0 : Int32} {L : wn_L}
theorem wn_x110 (hn : n < 4) (hv : v < 2) (hG : G n = L) (hs : wn_sm L) (h1 : (¬ ds = 0 ∧ ¬ x4 = 0) ∨ ¬ z0 = 0 → post 1 (ph, lf, ck, sn, di, on, sc, rc, mk, vl, wn_fI a, wn_fI w, wn_fI l, wn_fL d, wn_fI q, ii, il, ib, mc, wn_fI r, wn_fI c, wn_gA (wn_u G n (wn_nx L v)), wn_gB (wn_u G n (wn_nx L v)), wn_gC (wn_u G n (wn_nx L v)), wn_gD (wn_u G n (wn_nx L v)), wn_gE (wn_u G n (wn_nx L v)), wn_gF (wn_u G n (wn_nx L v)), wn_gH (wn_u G n (wn_nx L v)), wn_gI (wn_u G n (wn_nx L v)), wn_gJ (wn_u G n (wn_nx L v)))) (h0 : ¬ ((¬ ds = 0 ∧ ¬ x4 = 0) ∨ ¬ z0 = 0) → post 0 (ph, lf, ck, sn, di, on, sc, rc, mk, vl, wn_fI a, wn_fI w, wn_fI l, wn_fL d, wn_fI q, ii, il, ib, mc, wn_fI r, wn_fI c, wn_gA (wn_u G n (wn_nx L v)), wn_gB (wn_u G n (wn_nx L v)), wn_gC (wn_u G n (wn_nx L v)), wn_gD (wn_u G n (wn_nx L v)), wn_gE (wn_u G n (wn_nx L v)), wn_gF (wn_u G n (wn_nx L v)), wn_gH (wn_u G n (wn_nx L v)), wn_gI (wn_u G n (wn_nx L v)), wn_gJ (wn_u G n (wn_nx L v)))) : wX_hear_110 post (nI n) (nI v) ds x4 z0 ph lf ck sn di on sc rc mk vl (wn_fI a) (wn_fI w) (wn_fI l) (wn_fL d) (wn_fI q) ii il ib mc (wn_fI r) (wn_fI c) (wn_gA G) (wn_gB G) (wn_gC G) (wn_gD G) (wn_gE G) (wn_gF G) (wn_gH G) (wn_gI G) (wn_gJ G) := by
  unfold wX_hear_110
  refine wn_xlisten (by omega) hv hG hs ?_
  have K : ¬ (¬ ds = 0 ∧ ¬ x4 = 0) → wX_hear_127 post z0 ph lf ck sn di on sc rc mk vl (wn_fI a) (wn_fI w) (wn_fI l) (wn_fL d) (wn_fI q) ii il ib mc (wn_fI r) (wn_fI c) (wn_gA (wn_u G n (wn_nx L v))) (wn_gB (wn_u G n (wn_nx L v))) (wn_gC (wn_u G n (wn_nx L v))) (wn_gD (wn_u G n (wn_nx L v))) (wn_gE (wn_u G n (wn_nx L v))) (wn_gF (wn_u G n (wn_nx L v))) (wn_gH (wn_u G n (wn_nx L v))) (wn_gI (wn_u G n (wn_nx L v))) (wn_gJ (wn_u G n (wn_nx L v))) := by
    intro z
    exact br_c (fun e => h0 (fun y => y.elim z (fun y' => y' e))) (fun e => h1 (Or.inr e))
  exact br_c (fun e => K (fun y => y.1 e)) (fun e => br_c (fun e2 => K (fun y => y.2 e2)) (fun e2 => h1 (Or.inl ⟨e, e2⟩)))
theorem wn_x70 (hn : n < 4) (hv : v < 2) (hG : G n = L) (hs : wn_sm L) (htc : L.2.2.2.2.2.2.2.2 < 200) (hr : r n < 10) (h1 : (¬ ds = 0 ∧ ¬ x4 = 0) ∨ (r n = 1 ∧ wn_tl L ∧ L.2.2.2.2.2.2.2.2 = 1 ∧ v = 1) → post 1 (ph, lf, ck, sn, di, on, sc, rc, mk, vl, wn_fI a, wn_fI w, wn_fI l, wn_fL d, wn_fI q, ii, il, ib, mc, wn_fI r, wn_fI c, wn_gA (wn_u G n (wn_nx L v)), wn_gB (wn_u G n (wn_nx L v)), wn_gC (wn_u G n (wn_nx L v)), wn_gD (wn_u G n (wn_nx L v)), wn_gE (wn_u G n (wn_nx L v)), wn_gF (wn_u G n (wn_nx L v)), wn_gH (wn_u G n (wn_nx L v)), wn_gI (wn_u G n (wn_nx L v)), wn_gJ (wn_u G n (wn_nx L v)))) (h0 : ¬ ((¬ ds = 0 ∧ ¬ x4 = 0) ∨ (r n = 1 ∧ wn_tl L ∧ L.2.2.2.2.2.2.2.2 = 1 ∧ v = 1)) → post 0 (ph, lf, ck, sn, di, on, sc, rc, mk, vl, wn_fI a, wn_fI w, wn_fI l, wn_fL d, wn_fI q, ii, il, ib, mc, wn_fI r, wn_fI c, wn_gA (wn_u G n (wn_nx L v)), wn_gB (wn_u G n (wn_nx L v)), wn_gC (wn_u G n (wn_nx L v)), wn_gD (wn_u G n (wn_nx L v)), wn_gE (wn_u G n (wn_nx L v)), wn_gF (wn_u G n (wn_nx L v)), wn_gH (wn_u G n (wn_nx L v)), wn_gI (wn_u G n (wn_nx L v)), wn_gJ (wn_u G n (wn_nx L v)))) : wX_hear_70 post (nI n) (nI v) ds x4 ph lf ck sn di on sc rc mk vl (wn_fI a) (wn_fI w) (wn_fI l) (wn_fL d) (wn_fI q) ii il ib mc (wn_fI r) (wn_fI c) (wn_gA G) (wn_gB G) (wn_gC G) (wn_gD G) (wn_gE G) (wn_gF G) (wn_gH G) (wn_gI G) (wn_gJ G) := by
  have v5 : vp_in (nI n) 5 := vp_in_nI (by omega) (by decide)
  have er : wn_fI r (nI n).toNatClampNeg = nI (r n) := wn_fIa (by omega)
  have K : ¬ (r n = 1 ∧ wn_tl L ∧ L.2.2.2.2.2.2.2.2 = 1 ∧ v = 1) → wX_hear_109 post (nI n) (nI v) ds x4 ph lf ck sn di on sc rc mk vl (wn_fI a) (wn_fI w) (wn_fI l) (wn_fL d) (wn_fI q) ii il ib mc (wn_fI r) (wn_fI c) (wn_gA G) (wn_gB G) (wn_gC G) (wn_gD G) (wn_gE G) (wn_gF G) (wn_gH G) (wn_gI G) (wn_gJ G) := by
    intro z
    exact wn_x110 hn hv hG hs (fun y => h1 (y.imp id (fun y' => absurd rfl y'))) (fun y => h0 (fun y' => y (y'.elim (fun y2 => Or.inl y2) (fun y2 => absurd y2 z))))
  refine And.intro v5 (pk_eq (r n) 1 (fun e => ?_) (fun e => K (fun y => e y.1)) er rfl)
  obtain ⟨k, x, rr, cc, hi, hl, hd, hc, tc⟩ := L
  have eJ : wn_gJ G (nI n).toNatClampNeg = nI tc := wn_at (by omega) (by unfold wn_gJ; rw [hG])
  have htc' : tc < 200 := htc
  refine wn_xtail (by omega) hG hs.1 hs.2.2.2.1 ?_
  by_cases nt : 19 ≤ k ∧ k = 34 + 8 * hl
  · rw [if_pos nt]
    refine br_f (by decide) (And.intro v5 (pk_eq tc 1 (fun e2 => pk_eq v 1 (fun e3 => ?_) (fun e3 => K (fun y => e3 y.2.2.2)) rfl rfl) (fun e2 => K (fun y => e2 y.2.2.1)) eJ rfl))
    exact wn_x110 hn hv hG hs (fun _ => h1 (Or.inr ⟨e, nt, e2, e3⟩)) (fun y => absurd (Or.inr (by decide)) y)
  · rw [if_neg nt]
    exact br_t rfl (K (fun y => nt y.2.1))
theorem wn_x37 (hn : n < 4) (hv : v < 2) (hG : G n = L) (hs : wn_sm L) (htc : L.2.2.2.2.2.2.2.2 < 200) (hr : r n < 10) (h1 : wn_br ds (r n) v L → post 1 (ph, lf, ck, sn, di, on, sc, rc, mk, vl, wn_fI a, wn_fI w, wn_fI l, wn_fL d, wn_fI q, ii, il, ib, mc, wn_fI r, wn_fI c, wn_gA (wn_u G n (wn_nx L v)), wn_gB (wn_u G n (wn_nx L v)), wn_gC (wn_u G n (wn_nx L v)), wn_gD (wn_u G n (wn_nx L v)), wn_gE (wn_u G n (wn_nx L v)), wn_gF (wn_u G n (wn_nx L v)), wn_gH (wn_u G n (wn_nx L v)), wn_gI (wn_u G n (wn_nx L v)), wn_gJ (wn_u G n (wn_nx L v)))) (h0 : ¬ wn_br ds (r n) v L → post 0 (ph, lf, ck, sn, di, on, sc, rc, mk, vl, wn_fI a, wn_fI w, wn_fI l, wn_fL d, wn_fI q, ii, il, ib, mc, wn_fI r, wn_fI c, wn_gA (wn_u G n (wn_nx L v)), wn_gB (wn_u G n (wn_nx L v)), wn_gC (wn_u G n (wn_nx L v)), wn_gD (wn_u G n (wn_nx L v)), wn_gE (wn_u G n (wn_nx L v)), wn_gF (wn_u G n (wn_nx L v)), wn_gH (wn_u G n (wn_nx L v)), wn_gI (wn_u G n (wn_nx L v)), wn_gJ (wn_u G n (wn_nx L v)))) : wX_hear_37 post (nI n) (nI v) ds ph lf ck sn di on sc rc mk vl (wn_fI a) (wn_fI w) (wn_fI l) (wn_fL d) (wn_fI q) ii il ib mc (wn_fI r) (wn_fI c) (wn_gA G) (wn_gB G) (wn_gC G) (wn_gD G) (wn_gE G) (wn_gF G) (wn_gH G) (wn_gI G) (wn_gJ G) := by
  have v5 : vp_in (nI n) 5 := vp_in_nI (by omega) (by decide)
  have K0 : ¬ wn_cnt L → wX_hear_69 post (nI n) (nI v) ds ph lf ck sn di on sc rc mk vl (wn_fI a) (wn_fI w) (wn_fI l) (wn_fL d) (wn_fI q) ii il ib mc (wn_fI r) (wn_fI c) (wn_gA G) (wn_gB G) (wn_gC G) (wn_gD G) (wn_gE G) (wn_gF G) (wn_gH G) (wn_gI G) (wn_gJ G) := by
    intro z
    exact wn_x70 hn hv hG hs htc hr (fun y => h1 (y.elim (fun y' => absurd rfl y'.2) (fun y' => Or.inr y'))) (fun y => h0 (fun y' => y (y'.elim (fun y2 => absurd y2.2 z) (fun y2 => Or.inr y2))))
  have K1 : wn_cnt L → wX_hear_65 post (nI n) (nI v) ds ph lf ck sn di on sc rc mk vl (wn_fI a) (wn_fI w) (wn_fI l) (wn_fL d) (wn_fI q) ii il ib mc (wn_fI r) (wn_fI c) (wn_gA G) (wn_gB G) (wn_gC G) (wn_gD G) (wn_gE G) (wn_gF G) (wn_gH G) (wn_gI G) (wn_gJ G) := by
    intro z
    exact wn_x70 hn hv hG hs htc hr (fun y => h1 (y.elim (fun y' => Or.inl ⟨y'.1, z⟩) (fun y' => Or.inr y'))) (fun y => h0 (fun y' => y (y'.elim (fun y2 => Or.inl ⟨y2.1, by decide⟩) (fun y2 => Or.inr y2))))
  obtain ⟨k, x, rr, cc, hi, hl, hd, hc, tc⟩ := L
  have eA : wn_gA G (nI n).toNatClampNeg = nI k := wn_at (by omega) (by unfold wn_gA; rw [hG])
  have eJ : wn_gJ G (nI n).toNatClampNeg = nI tc := wn_at (by omega) (by unfold wn_gJ; rw [hG])
  have htc' : tc < 200 := htc
  have hk : k < 200 := hs.1
  refine And.intro v5 (pk_lt k 12 (fun e => K0 (fun y => absurd y.1 (by show ¬ 12 ≤ k; omega))) (fun e => wn_xtail (by omega) hG hk hs.2.2.2.1 ?_) eA rfl)
  by_cases nt : 19 ≤ k ∧ k = 34 + 8 * hl
  · rw [if_pos nt]
    exact br_f (by decide) (And.intro v5 (pk_eq tc 0 (fun e2 => K1 ⟨e, Or.inr e2⟩) (fun e2 => K0 (fun y => y.2.elim (fun y' => y' nt) e2)) eJ rfl))
  · rw [if_neg nt]
    exact br_t rfl (K1 ⟨e, Or.inl nt⟩)
theorem wn_xhear {o : Nat} (hn : n < 4) (hv : v < 2) (ho2 : o < 2) (hG : G n = L) (hs : wn_sm L) (htc : L.2.2.2.2.2.2.2.2 < 200) (hr : r n < 10) (ho : r n = 1 → L.1 < 12 → ∀ P : Int32 → Prop, P (nI o) → wpX_output P (ph, lf, ck, sn, di, on, sc, rc, mk, vl, wn_fI a, wn_fI w, wn_fI l, wn_fL d, wn_fI q, ii, il, ib, mc, wn_fI r, wn_fI c, wn_gA G, wn_gB G, wn_gC G, wn_gD G, wn_gE G, wn_gF G, wn_gH G, wn_gI G, wn_gJ G) (nI n))
    (h1 : wn_br ds (if r n = 1 ∧ L.1 < 12 ∧ o ≠ v then 2 else r n) v L → post 1 (ph, lf, ck, sn, di, on, sc, rc, mk, vl, wn_fI a, wn_fI w, wn_fI l, wn_fL d, wn_fI q, ii, il, ib, mc, wn_fI (wn_w r n (if r n = 1 ∧ L.1 < 12 ∧ o ≠ v then 2 else r n)), wn_fI c, wn_gA (wn_u G n (wn_nx L v)), wn_gB (wn_u G n (wn_nx L v)), wn_gC (wn_u G n (wn_nx L v)), wn_gD (wn_u G n (wn_nx L v)), wn_gE (wn_u G n (wn_nx L v)), wn_gF (wn_u G n (wn_nx L v)), wn_gH (wn_u G n (wn_nx L v)), wn_gI (wn_u G n (wn_nx L v)), wn_gJ (wn_u G n (wn_nx L v)))) (h0 : ¬ wn_br ds (if r n = 1 ∧ L.1 < 12 ∧ o ≠ v then 2 else r n) v L → post 0 (ph, lf, ck, sn, di, on, sc, rc, mk, vl, wn_fI a, wn_fI w, wn_fI l, wn_fL d, wn_fI q, ii, il, ib, mc, wn_fI (wn_w r n (if r n = 1 ∧ L.1 < 12 ∧ o ≠ v then 2 else r n)), wn_fI c, wn_gA (wn_u G n (wn_nx L v)), wn_gB (wn_u G n (wn_nx L v)), wn_gC (wn_u G n (wn_nx L v)), wn_gD (wn_u G n (wn_nx L v)), wn_gE (wn_u G n (wn_nx L v)), wn_gF (wn_u G n (wn_nx L v)), wn_gH (wn_u G n (wn_nx L v)), wn_gI (wn_u G n (wn_nx L v)), wn_gJ (wn_u G n (wn_nx L v)))) : wpX_hear post (ph, lf, ck, sn, di, on, sc, rc, mk, vl, wn_fI a, wn_fI w, wn_fI l, wn_fL d, wn_fI q, ii, il, ib, mc, wn_fI r, wn_fI c, wn_gA G, wn_gB G, wn_gC G, wn_gD G, wn_gE G, wn_gF G, wn_gH G, wn_gI G, wn_gJ G) (nI n) (nI v) ds := by
  have v5 : vp_in (nI n) 5 := vp_in_nI (by omega) (by decide)
  have er : wn_fI r (nI n).toNatClampNeg = nI (r n) := wn_fIa (by omega)
  have cl : (nI n).toNatClampNeg = n := nI_clamp (by omega)
  have hk : L.1 < 200 := hs.1
  have eA : wn_gA G (nI n).toNatClampNeg = nI L.1 := wn_at (by omega) (by unfold wn_gA; rw [hG])
  have K : ¬ (r n = 1 ∧ L.1 < 12 ∧ o ≠ v) → wX_hear_37 post (nI n) (nI v) ds ph lf ck sn di on sc rc mk vl (wn_fI a) (wn_fI w) (wn_fI l) (wn_fL d) (wn_fI q) ii il ib mc (wn_fI r) (wn_fI c) (wn_gA G) (wn_gB G) (wn_gC G) (wn_gD G) (wn_gE G) (wn_gF G) (wn_gH G) (wn_gI G) (wn_gJ G) := by
    intro z
    rw [if_neg z, wn_wself rfl] at h1 h0
    exact wn_x37 hn hv hG hs htc hr h1 h0
  refine And.intro v5 (pk_eq (r n) 1 (fun e => And.intro v5 (pk_le 12 L.1 (fun e2 => K (fun y => absurd y.2.1 (by omega))) (fun e2 => ?_) rfl eA)) (fun e => K (fun y => e y.1)) er rfl)
  refine ho e e2 _ (pk_eq o v (fun e3 => K (fun y => y.2.2 e3)) (fun e3 => And.intro v5 (nm_r (e' := wn_fI (wn_w r n 2)) ?_ ?_)) rfl rfl)
  · rw [cl, show (2 : Int32) = nI 2 from rfl, wn_fIu]
  · rw [if_pos ⟨e, e2, e3⟩] at h1 h0
    exact wn_x37 hn hv hG hs htc (by rw [wn_ws]; omega) (by rw [wn_ws]; exact h1) (by rw [wn_ws]; exact h0)
end
/-! what each node puts out -/
def wn_o (L : wn_L) (w l d c r : Nat → Nat) (n : Nat) : Nat :=
  if 19 ≤ L.1 ∧ L.1 = 34 + 8 * L.2.2.2.2.2.1 then (if r n = 2 ∧ L.2.2.2.2.2.2.2.2 = 1 then 0 else 1)
  else if r n = 1 then wn_ob L (w (4 * n + c n)) (l (4 * n + c n)) (d (4 * n + c n)) else 1
theorem wn_o_lt (L : wn_L) (w l d c r : Nat → Nat) (n : Nat) : wn_o L w l d c r n < 2 := by
  unfold wn_o
  split
  · split <;> decide
  · split
    · exact wn_ob_lt _ _ _ _
    · decide
theorem wn_o_congr {L : wn_L} {w l d c r r' : Nat → Nat} {n : Nat} (h : r' n = r n) : wn_o L w l d c r' n = wn_o L w l d c r n := by
  unfold wn_o; rw [h]
/-- what is needed to know a node's output -/
def wn_OK (L : wn_L) (w l d c r : Nat → Nat) (n : Nat) : Prop := wn_sm L ∧ L.2.2.2.2.2.2.2.2 < 200 ∧ (wn_tl L → ∃ fi fl fd tc, wn_FO fi fl fd ∧ L = wn_TP fi fl fd tc) ∧ (¬ wn_tl L → r n = 1 → c n < 4 ∧ L.1 < 34 + 8 * l (4 * n + c n) ∧ wn_FO (w (4 * n + c n)) (l (4 * n + c n)) (d (4 * n + c n))) ∧ r n < 10
section
variable {ph lf ck sn di : Int32} {on sc rc mk vl : Nat → Int32} {a w l d q r c : Nat → Nat} {ii il : Nat → Int32} {ib : Nat → Int64} {mc : Nat → Int32} {G : Nat → wn_L}
theorem wn_xoutN {post : Int32 → Prop} {n : Nat} {L : wn_L} (hn : n < 4) (hG : G n = L) (hO : wn_OK L w l d c r n) (hp : post (nI (wn_o L w l d c r n))) : wpX_output post (ph, lf, ck, sn, di, on, sc, rc, mk, vl, wn_fI a, wn_fI w, wn_fI l, wn_fL d, wn_fI q, ii, il, ib, mc, wn_fI r, wn_fI c, wn_gA G, wn_gB G, wn_gC G, wn_gD G, wn_gE G, wn_gF G, wn_gH G, wn_gI G, wn_gJ G) (nI n) := by
  obtain ⟨hs, htc, hT, hq, hr⟩ := hO
  unfold wn_o at hp
  by_cases nt : wn_tl L
  · obtain ⟨fi, fl, fd, tc, hF, e⟩ := hT nt
    have nt' : 19 ≤ L.1 ∧ L.1 = 34 + 8 * L.2.2.2.2.2.1 := nt
    rw [if_pos nt', e] at hp
    rw [e] at htc hG
    refine wn_xoutT (by omega) hF hG htc ?_
    have hp' : post (nI (if r n = 2 ∧ tc = 1 then 0 else 1)) := hp
    by_cases z : r n = 2 ∧ tc = 1
    · rw [if_pos z] at hp'
      rw [if_pos ⟨by show nI (r n) = 2; rw [z.1]; rfl, z.2⟩]
      exact hp'
    · rw [if_neg z] at hp'
      rw [if_neg (fun y => z ⟨(nI_eq (b := 2) (by omega) (by omega)).mp y.1, y.2⟩)]
      exact hp'
  · have nt' : ¬ (19 ≤ L.1 ∧ L.1 = 34 + 8 * L.2.2.2.2.2.1) := nt
    rw [if_neg nt'] at hp
    by_cases e : r n = 1
    · rw [if_pos e] at hp
      obtain ⟨hc, hk, hF⟩ := hq nt e
      exact wn_xout1 (by omega) hG hs nt hk hF (by show nI (r n) = 1; rw [e]; rfl) (by omega) (wn_4k (i := n) (k := c n)) rfl rfl rfl hp
    · rw [if_neg e] at hp
      exact wn_xoutR (by omega) hG hs nt (fun y => e ((nI_eq (b := 1) (by omega) (by omega)).mp y)) hp
/-- the level on the wire -/
theorem wn_xlev {L : wn_L} (hG : ∀ n, n < 4 → r n ≠ 0 → G n = L ∧ wn_OK L w l d c r n) (hr : ∀ n, n < 4 → r n < 10) : ∃ v, v < 2 ∧ (v = 0 ↔ ∃ n, n < 4 ∧ r n ≠ 0 ∧ wn_o L w l d c r n = 0) ∧ ∀ (post : SX → Prop) (ds : Int32), (∃ n41, wX_frameBit_41 post ds (nI v) n41 0 0 ph lf ck sn di on sc rc mk vl (wn_fI a) (wn_fI w) (wn_fI l) (wn_fL d) (wn_fI q) ii il ib mc (wn_fI r) (wn_fI c) (wn_gA G) (wn_gB G) (wn_gC G) (wn_gD G) (wn_gE G) (wn_gF G) (wn_gH G) (wn_gI G) (wn_gJ G)) → wpX_frameBit post (ph, lf, ck, sn, di, on, sc, rc, mk, vl, wn_fI a, wn_fI w, wn_fI l, wn_fL d, wn_fI q, ii, il, ib, mc, wn_fI r, wn_fI c, wn_gA G, wn_gB G, wn_gC G, wn_gD G, wn_gE G, wn_gF G, wn_gH G, wn_gI G, wn_gJ G) ds := by
  have H : ∀ e i v0, i + e = 4 → v0 < 2 → (v0 = 0 ↔ ∃ n, n < i ∧ r n ≠ 0 ∧ wn_o L w l d c r n = 0) → ∃ v, v < 2 ∧ (v = 0 ↔ ∃ n, n < 4 ∧ r n ≠ 0 ∧ wn_o L w l d c r n = 0) ∧ ∀ (post : SX → Prop) (ds : Int32), (∃ n41, wX_frameBit_41 post ds (nI v) n41 0 0 ph lf ck sn di on sc rc mk vl (wn_fI a) (wn_fI w) (wn_fI l) (wn_fL d) (wn_fI q) ii il ib mc (wn_fI r) (wn_fI c) (wn_gA G) (wn_gB G) (wn_gC G) (wn_gD G) (wn_gE G) (wn_gF G) (wn_gH G) (wn_gI G) (wn_gJ G)) → ∀ n, e < n → wX_frameBit_4 post ds ph lf ck sn di on sc rc mk vl (wn_fI a) (wn_fI w) (wn_fI l) (wn_fL d) (wn_fI q) ii il ib mc (wn_fI r) (wn_fI c) (wn_gA G) (wn_gB G) (wn_gC G) (wn_gD G) (wn_gE G) (wn_gF G) (wn_gH G) (wn_gI G) (wn_gJ G) n (nI v0) (nI i) := by
    intro e
    induction e with
    | zero =>
      intro i v0 hi hv hb
      rw [show i = 4 by omega] at hb ⊢
      refine ⟨v0, hv, hb, ?_⟩
      intro post ds hp n hn
      obtain ⟨n, rfl⟩ : ∃ j, n = j + 1 := ⟨n - 1, by omega⟩
      exact pk_le 4 4 (fun _ => hp) (fun h => absurd h (by omega)) rfl rfl
    | succ e ih =>
      intro i v0 hi hv hb
      have hri := hr i (by omega)
      have er : wn_fI r (nI i).toNatClampNeg = nI (r i) := wn_fIa (by omega)
      have v5 : vp_in (nI i) 5 := vp_in_nI (by omega) (by decide)
      by_cases z : r i = 0
      · obtain ⟨v, h1, h2, h3⟩ := ih (i + 1) v0 (by omega) hv (by
          rw [hb]
          constructor
          · intro ⟨n, y1, y2⟩; exact ⟨n, by omega, y2⟩
          · intro ⟨n, y1, y2⟩
            refine ⟨n, ?_, y2⟩
            rcases (by omega : n < i ∨ n = i) with y | y
            · exact y
            · rw [y] at y2; exact absurd z y2.1)
        refine ⟨v, h1, h2, fun post ds hp n hn => ?_⟩
        obtain ⟨n, rfl⟩ : ∃ j, n = j + 1 := ⟨n - 1, by omega⟩
        have ev : nI v0 &&& 1 = nI v0 := by
          rcases (by omega : v0 = 0 ∨ v0 = 1) with rfl | rfl <;> decide
        exact pk_le 4 i (fun h => absurd h (by omega)) (fun _ => And.intro v5 (pk_eq (r i) 0 (fun _ => nm_r ev (nm_r (nI_1 i) (h3 post ds hp n (by omega)))) (fun h => absurd z h) er rfl)) rfl rfl
      · obtain ⟨gG, gO⟩ := hG i (by omega) z
        have o2 := wn_o_lt L w l d c r i
        have ev : nI v0 &&& nI (wn_o L w l d c r i) = nI (if v0 = 0 ∨ wn_o L w l d c r i = 0 then 0 else 1) := by
          rcases (by omega : v0 = 0 ∨ v0 = 1) with y | y <;> rcases (by omega : wn_o L w l d c r i = 0 ∨ wn_o L w l d c r i = 1) with y' | y' <;> rw [y, y'] <;> decide
        obtain ⟨v, h1, h2, h3⟩ := ih (i + 1) (if v0 = 0 ∨ wn_o L w l d c r i = 0 then 0 else 1) (by omega) (by split <;> omega) (by
          have e1 : ((if v0 = 0 ∨ wn_o L w l d c r i = 0 then 0 else 1) = 0) ↔ (v0 = 0 ∨ wn_o L w l d c r i = 0) := by
            by_cases y : v0 = 0 ∨ wn_o L w l d c r i = 0
            · rw [if_pos y]; exact ⟨fun _ => y, fun _ => rfl⟩
            · rw [if_neg y]; exact ⟨fun y' => absurd y' (by decide), fun y' => absurd y' y⟩
          rw [e1, hb]
          constructor
          · rintro (⟨n, y1, y2⟩ | y)
            · exact ⟨n, by omega, y2⟩
            · exact ⟨i, by omega, z, y⟩
          · intro ⟨n, y1, y2⟩
            rcases (by omega : n < i ∨ n = i) with y | y
            · exact Or.inl ⟨n, y, y2⟩
            · rw [y] at y2; exact Or.inr y2.2)
        refine ⟨v, h1, h2, fun post ds hp n hn => ?_⟩
        obtain ⟨n, rfl⟩ : ∃ j, n = j + 1 := ⟨n - 1, by omega⟩
        refine pk_le 4 i (fun h => absurd h (by omega)) (fun _ => And.intro v5 (pk_eq (r i) 0 (fun h => absurd h z) (fun _ => wn_xoutN (by omega) gG gO (nm_r ev (nm_r (nI_1 i) (h3 post ds hp n (by omega))))) er rfl)) rfl rfl
  obtain ⟨v, h1, h2, h3⟩ := H 4 0 1 (by omega) (by omega) ⟨fun h => absurd h (by decide), fun ⟨n, h, _⟩ => absurd h (by omega)⟩
  exact ⟨v, h1, h2, fun post ds hp => ⟨5, h3 post ds hp 5 (by omega)⟩⟩
end
/-! all hear -/
def wn_rr (r o : Nat → Nat) (k v i : Nat) : Nat → Nat := fun n => if n < i ∧ r n = 1 ∧ k < 12 ∧ o n ≠ v then 2 else r n
def wn_GG (r : Nat → Nat) (G : Nat → wn_L) (L : wn_L) (i : Nat) : Nat → wn_L := fun n => if n < i ∧ r n ≠ 0 then L else G n
theorem wn_rr_s (r o : Nat → Nat) (k v i : Nat) : wn_w (wn_rr r o k v i) i (if r i = 1 ∧ k < 12 ∧ o i ≠ v then 2 else r i) = wn_rr r o k v (i + 1) := by
  funext j
  show (if j = i then (if r i = 1 ∧ k < 12 ∧ o i ≠ v then 2 else r i) else if j < i ∧ r j = 1 ∧ k < 12 ∧ o j ≠ v then 2 else r j) = if j < i + 1 ∧ r j = 1 ∧ k < 12 ∧ o j ≠ v then 2 else r j
  by_cases z : j = i
  · rw [if_pos z, z]
    by_cases y : r i = 1 ∧ k < 12 ∧ o i ≠ v
    · rw [if_pos y, if_pos ⟨by omega, y⟩]
    · rw [if_neg y, if_neg (fun y' => y y'.2)]
  · rw [if_neg z]
    by_cases y : j < i ∧ r j = 1 ∧ k < 12 ∧ o j ≠ v
    · rw [if_pos y, if_pos ⟨by omega, y.2⟩]
    · rw [if_neg y, if_neg (fun y' => y ⟨by omega, y'.2⟩)]
theorem wn_rr_z {r o : Nat → Nat} {k v i : Nat} (h : r i = 0) : wn_rr r o k v (i + 1) = wn_rr r o k v i := by
  rw [← wn_rr_s, if_neg (by omega)]
  exact wn_wself (by show (if i < i ∧ _ then 2 else r i) = r i; rw [if_neg (by omega)])
theorem wn_GG_s {r : Nat → Nat} {G : Nat → wn_L} {L : wn_L} {i : Nat} (h : r i ≠ 0) : wn_u (wn_GG r G L i) i L = wn_GG r G L (i + 1) := by
  funext j
  show (if j = i then L else if j < i ∧ r j ≠ 0 then L else G j) = if j < i + 1 ∧ r j ≠ 0 then L else G j
  by_cases z : j = i
  · rw [if_pos z, if_pos ⟨by omega, by rw [z]; exact h⟩]
  · rw [if_neg z]
    by_cases y : j < i ∧ r j ≠ 0
    · rw [if_pos y, if_pos ⟨by omega, y.2⟩]
    · rw [if_neg y, if_neg (fun y' => y ⟨by omega, y'.2⟩)]
theorem wn_GG_z {r : Nat → Nat} {G : Nat → wn_L} {L : wn_L} {i : Nat} (h : r i = 0) : wn_GG r G L (i + 1) = wn_GG r G L i := by
  funext j
  show (if j < i + 1 ∧ r j ≠ 0 then L else G j) = if j < i ∧ r j ≠ 0 then L else G j
  by_cases y : j < i ∧ r j ≠ 0
  · rw [if_pos y, if_pos ⟨by omega, y.2⟩]
  · rw [if_neg y, if_neg (fun y' => y ⟨by
      rcases (by omega : j < i ∨ j = i) with z | z
      · exact z
      · rw [z] at y'; exact absurd h y'.2, y'.2⟩)]
theorem wn_wrap {post : SX → Prop} {u : SX} (h : post u) : (match u with | (x1, x2, x3, x4, x5, x6, x7, x8, x9, x10, x11, x12, x13, x14, x15, x16, x17, x18, x19, x20, x21, x22, x23, x24, x25, x26, x27, x28, x29, x30) => post (x1, x2, x3, x4, x5, x6, x7, x8, x9, x10, x11, x12, x13, x14, x15, x16, x17, x18, x19, x20, x21, x22, x23, x24, x25, x26, x27, x28, x29, x30)) := h
section
variable {ph lf ck sn di : Int32} {on sc rc mk vl : Nat → Int32} {a w l d q r c : Nat → Nat} {ii il : Nat → Int32} {ib : Nat → Int64} {mc : Nat → Int32} {G : Nat → wn_L}
theorem wn_xhears {L : wn_L} {v : Nat} (hv : v < 2) (hG : ∀ n, n < 4 → r n ≠ 0 → G n = L ∧ wn_OK L w l d c r n) (hr : ∀ n, n < 4 → r n < 10) (post : SX → Prop) (ds : Int32) (u' : SX)
    (hB : (∃ n, n < 4 ∧ r n ≠ 0 ∧ wn_br ds (wn_rr r (wn_o L w l d c r) L.1 v 4 n) v L) → ∀ P : SX → Prop, P u' → wpX_breakOff P (ph, lf, ck, sn, di, on, sc, rc, mk, vl, wn_fI a, wn_fI w, wn_fI l, wn_fL d, wn_fI q, ii, il, ib, mc, wn_fI (wn_rr r (wn_o L w l d c r) L.1 v 4), wn_fI c, wn_gA (wn_GG r G (wn_nx L v) 4), wn_gB (wn_GG r G (wn_nx L v) 4), wn_gC (wn_GG r G (wn_nx L v) 4), wn_gD (wn_GG r G (wn_nx L v) 4), wn_gE (wn_GG r G (wn_nx L v) 4), wn_gF (wn_GG r G (wn_nx L v) 4), wn_gH (wn_GG r G (wn_nx L v) 4), wn_gI (wn_GG r G (wn_nx L v) 4), wn_gJ (wn_GG r G (wn_nx L v) 4)))
    (hE : ¬ (∃ n, n < 4 ∧ r n ≠ 0 ∧ wn_br ds (wn_rr r (wn_o L w l d c r) L.1 v 4 n) v L) → ∀ P : SX → Prop, P u' → wpX_finishIfSent P (ph, lf, ck, sn, di, on, sc, rc, mk, vl, wn_fI a, wn_fI w, wn_fI l, wn_fL d, wn_fI q, ii, il, ib, mc, wn_fI (wn_rr r (wn_o L w l d c r) L.1 v 4), wn_fI c, wn_gA (wn_GG r G (wn_nx L v) 4), wn_gB (wn_GG r G (wn_nx L v) 4), wn_gC (wn_GG r G (wn_nx L v) 4), wn_gD (wn_GG r G (wn_nx L v) 4), wn_gE (wn_GG r G (wn_nx L v) 4), wn_gF (wn_GG r G (wn_nx L v) 4), wn_gH (wn_GG r G (wn_nx L v) 4), wn_gI (wn_GG r G (wn_nx L v) 4), wn_gJ (wn_GG r G (wn_nx L v) 4))) (hp : post u') : ∃ n41, wX_frameBit_41 post ds (nI v) n41 0 0 ph lf ck sn di on sc rc mk vl (wn_fI a) (wn_fI w) (wn_fI l) (wn_fL d) (wn_fI q) ii il ib mc (wn_fI r) (wn_fI c) (wn_gA G) (wn_gB G) (wn_gC G) (wn_gD G) (wn_gE G) (wn_gF G) (wn_gH G) (wn_gI G) (wn_gJ G) := by
  have r4 : ∀ i n, n < i → i ≤ 4 → wn_rr r (wn_o L w l d c r) L.1 v i n = wn_rr r (wn_o L w l d c r) L.1 v 4 n := by
    intro i n h1 h2
    show (if n < i ∧ _ then 2 else r n) = if n < 4 ∧ _ then 2 else r n
    by_cases y : r n = 1 ∧ L.1 < 12 ∧ wn_o L w l d c r n ≠ v
    · rw [if_pos ⟨h1, y⟩, if_pos ⟨by omega, y⟩]
    · rw [if_neg (fun y' => y y'.2), if_neg (fun y' => y y'.2)]
  have H : ∀ e i b, i + e = 4 → b < 2 → (b = 1 ↔ ∃ n, n < i ∧ r n ≠ 0 ∧ wn_br ds (wn_rr r (wn_o L w l d c r) L.1 v 4 n) v L) → ∀ n, e < n → wX_frameBit_41 post ds (nI v) n (nI b) (nI i) ph lf ck sn di on sc rc mk vl (wn_fI a) (wn_fI w) (wn_fI l) (wn_fL d) (wn_fI q) ii il ib mc (wn_fI (wn_rr r (wn_o L w l d c r) L.1 v i)) (wn_fI c) (wn_gA (wn_GG r G (wn_nx L v) i)) (wn_gB (wn_GG r G (wn_nx L v) i)) (wn_gC (wn_GG r G (wn_nx L v) i)) (wn_gD (wn_GG r G (wn_nx L v) i)) (wn_gE (wn_GG r G (wn_nx L v) i)) (wn_gF (wn_GG r G (wn_nx L v) i)) (wn_gH (wn_GG r G (wn_nx L v) i)) (wn_gI (wn_GG r G (wn_nx L v) i)) (wn_gJ (wn_GG r G (wn_nx L v) i)) := by
    intro e
    induction e with
    | zero =>
      intro i b hi hb2 hb n hn
      obtain ⟨n, rfl⟩ : ∃ j, n = j + 1 := ⟨n - 1, by omega⟩
      rw [show i = 4 by omega] at hb ⊢
      refine pk_le 4 4 (fun _ => pk_eq b 0 (fun e0 => ?_) (fun e0 => ?_) rfl rfl) (fun h => absurd h (by omega)) rfl rfl
      · exact hE (fun y => absurd (hb.mpr y) (by omega)) _ (wn_wrap hp)
      · exact hB (hb.mp (by omega)) _ (wn_wrap hp)
    | succ e ih =>
      intro i b hi hb2 hb n hn
      obtain ⟨n, rfl⟩ : ∃ j, n = j + 1 := ⟨n - 1, by omega⟩
      have hri := hr i (by omega)
      have ei : wn_rr r (wn_o L w l d c r) L.1 v i i = r i := by
        show (if i < i ∧ _ then 2 else r i) = r i
        rw [if_neg (by omega)]
      have er : wn_fI (wn_rr r (wn_o L w l d c r) L.1 v i) (nI i).toNatClampNeg = nI (r i) := by rw [wn_fIa (by omega), ei]
      have v5 : vp_in (nI i) 5 := vp_in_nI (by omega) (by decide)
      by_cases z : r i = 0
      · have := ih (i + 1) b (by omega) hb2 (by
          rw [hb]
          constructor
          · intro ⟨n, y1, y2⟩; exact ⟨n, by omega, y2⟩
          · intro ⟨n, y1, y2⟩
            refine ⟨n, ?_, y2⟩
            rcases (by omega : n < i ∨ n = i) with y | y
            · exact y
            · rw [y] at y2; exact absurd z y2.1) n (by omega)
        rw [wn_rr_z z, wn_GG_z z] at this
        exact pk_le 4 i (fun h => absurd h (by omega)) (fun _ => And.intro v5 (pk_eq (r i) 0 (fun _ => nm_r (nI_1 i) this) (fun h => absurd z h) er rfl)) rfl rfl
      · obtain ⟨gG, gO⟩ := hG i (by omega) z
        have gi : wn_GG r G (wn_nx L v) i i = L := by
          show (if i < i ∧ _ then _ else G i) = L
          rw [if_neg (by omega)]; exact gG
        have oi : wn_o L w l d c (wn_rr r (wn_o L w l d c r) L.1 v i) i = wn_o L w l d c r i := by
          exact wn_o_congr ei
        have gO' : wn_OK L w l d c (wn_rr r (wn_o L w l d c r) L.1 v i) i := by
          unfold wn_OK at gO ⊢; rw [ei]; exact gO
        have er4 : wn_rr r (wn_o L w l d c r) L.1 v 4 i = if r i = 1 ∧ L.1 < 12 ∧ wn_o L w l d c r i ≠ v then 2 else r i := by
          show (if i < 4 ∧ _ then 2 else r i) = _
          by_cases y : r i = 1 ∧ L.1 < 12 ∧ wn_o L w l d c r i ≠ v
          · rw [if_pos ⟨by omega, y⟩, if_pos y]
          · rw [if_neg (fun y' => y y'.2), if_neg y]
        have yes : wn_br ds (wn_rr r (wn_o L w l d c r) L.1 v 4 i) v L → wX_frameBit_41 post ds (nI v) n (nI 1) (nI (i + 1)) ph lf ck sn di on sc rc mk vl (wn_fI a) (wn_fI w) (wn_fI l) (wn_fL d) (wn_fI q) ii il ib mc (wn_fI (wn_rr r (wn_o L w l d c r) L.1 v (i + 1))) (wn_fI c) (wn_gA (wn_GG r G (wn_nx L v) (i + 1))) (wn_gB (wn_GG r G (wn_nx L v) (i + 1))) (wn_gC (wn_GG r G (wn_nx L v) (i + 1))) (wn_gD (wn_GG r G (wn_nx L v) (i + 1))) (wn_gE (wn_GG r G (wn_nx L v) (i + 1))) (wn_gF (wn_GG r G (wn_nx L v) (i + 1))) (wn_gH (wn_GG r G (wn_nx L v) (i + 1))) (wn_gI (wn_GG r G (wn_nx L v) (i + 1))) (wn_gJ (wn_GG r G (wn_nx L v) (i + 1))) :=
          fun y => ih (i + 1) 1 (by omega) (by omega) ⟨fun _ => ⟨i, by omega, z, y⟩, fun _ => rfl⟩ n (by omega)
        have no : ¬ wn_br ds (wn_rr r (wn_o L w l d c r) L.1 v 4 i) v L → wX_frameBit_41 post ds (nI v) n (nI b) (nI (i + 1)) ph lf ck sn di on sc rc mk vl (wn_fI a) (wn_fI w) (wn_fI l) (wn_fL d) (wn_fI q) ii il ib mc (wn_fI (wn_rr r (wn_o L w l d c r) L.1 v (i + 1))) (wn_fI c) (wn_gA (wn_GG r G (wn_nx L v) (i + 1))) (wn_gB (wn_GG r G (wn_nx L v) (i + 1))) (wn_gC (wn_GG r G (wn_nx L v) (i + 1))) (wn_gD (wn_GG r G (wn_nx L v) (i + 1))) (wn_gE (wn_GG r G (wn_nx L v) (i + 1))) (wn_gF (wn_GG r G (wn_nx L v) (i + 1))) (wn_gH (wn_GG r G (wn_nx L v) (i + 1))) (wn_gI (wn_GG r G (wn_nx L v) (i + 1))) (wn_gJ (wn_GG r G (wn_nx L v) (i + 1))) :=
          fun y => ih (i + 1) b (by omega) hb2 (by
            rw [hb]
            constructor
            · intro ⟨n, y1, y2⟩; exact ⟨n, by omega, y2⟩
            · intro ⟨n, y1, y2⟩
              refine ⟨n, ?_, y2⟩
              rcases (by omega : n < i ∨ n = i) with y' | y'
              · exact y'
              · rw [y'] at y2; exact absurd y2.2 y) n (by omega)
        refine pk_le 4 i (fun h => absurd h (by omega)) (fun _ => And.intro v5 (pk_eq (r i) 0 (fun h => absurd h z) (fun _ => wn_xhear (o := wn_o L w l d c r i) (by omega) hv (wn_o_lt _ _ _ _ _ _ _) gi gO.1 gO.2.1 (by rw [ei]; exact hri) (fun _ _ P hP => wn_xoutN (by omega) gi gO' (by rw [oi]; exact hP)) ?_ ?_) er rfl)) rfl rfl
        · rw [ei, ← er4, er4, wn_rr_s, wn_GG_s z, ← er4]
          intro y
          exact br_f (by decide) (nm_r (nI_1 i) (yes y))
        · rw [ei, wn_rr_s, wn_GG_s z, ← er4]
          intro y
          refine br_t rfl (pk_eq b 0 (fun e0 => nm_r (nI_1 i) ?_) (fun e0 => nm_r (nI_1 i) ?_) rfl rfl)
          · have := no y; rw [e0] at this; exact this
          · have := no y; rw [show b = 1 by omega] at this; exact this
  have z0 : wn_rr r (wn_o L w l d c r) L.1 v 0 = r := by
    funext n; show (if n < 0 ∧ _ then 2 else r n) = r n; rw [if_neg (by omega)]
  have z1 : wn_GG r G (wn_nx L v) 0 = G := by
    funext n; show (if n < 0 ∧ _ then _ else G n) = G n; rw [if_neg (by omega)]
  have := H 4 0 0 (by omega) (by omega) ⟨fun h => absurd h (by decide), fun ⟨n, h, _⟩ => absurd h (by omega)⟩ 5 (by omega)
  rw [z0, z1] at this
  exact ⟨5, this⟩
end
end
section
/-! a frame under way: what holds between two bits, and that a bit keeps it -/
def wn_WF (a w l d c : Nat → Nat) : Prop := (∀ n, n < 4 → a n ≤ 4) ∧ (∀ j, j < 16 → w j < 2048 ∧ l j ≤ 8 ∧ d j < 2 ^ (8 * l j)) ∧ wn_U a w ∧ (∀ n, n < 4 → c n < 4)
def wn_FX (on : Nat → Int32) (a w l d r c : Nat → Nat) (G : Nat → wn_L) (s fi fl fd t : Nat) (L : wn_L) : Prop :=
  (s < 4 ∧ ¬ on s = 0 ∧ r s = 1 ∧ c s < a s) ∧ (w (4 * s + c s) = fi ∧ l (4 * s + c s) = fl ∧ d (4 * s + c s) = fd) ∧
  (∀ n, n < 4 → on n = 0 → r n = 0) ∧ (∀ n, n < 4 → ¬ on n = 0 → G n = L ∧ (r n = 1 ∨ r n = 2)) ∧
  (∀ n, n < 4 → n ≠ s → r n = 1 → c n < a n ∧ fi < w (4 * n + c n) ∧ L.1 < 12 ∧ w (4 * n + c n) / 2 ^ (12 - L.1) = fi / 2 ^ (12 - L.1)) ∧
  wn_St fi fl fd t L
/-- a bit is broken off -/
def wn_BK (on : Nat → Int32) (s fi fl fd t : Nat) (ds : Int32) : Prop := (¬ ds = 0 ∧ wn_cn fi fl fd 12 ≤ t ∧ t ≤ wn_cn fi fl fd (34 + 8 * fl)) ∨ (t = wn_cn fi fl fd (34 + 8 * fl) + 1 ∧ ∀ n, n < 4 → n ≠ s → on n = 0)
section
variable {on : Nat → Int32} {a w l d r c : Nat → Nat} {G : Nat → wn_L} {s fi fl fd t : Nat} {L : wn_L}
theorem wn_FX_FO (hW : wn_WF a w l d c) (h : wn_FX on a w l d r c G s fi fl fd t L) : wn_FO fi fl fd := by
  obtain ⟨⟨h1, h2, h3, h4⟩, ⟨e1, e2, e3⟩, _⟩ := h
  have := hW.2.1 (4 * s + c s) (by have := hW.2.2.2 s h1; omega)
  rw [e1, e2, e3] at this
  exact this
theorem wn_FX_r10 (h : wn_FX on a w l d r c G s fi fl fd t L) : ∀ n, n < 4 → r n < 10 := by
  intro n hn
  by_cases z : on n = 0
  · have := h.2.2.1 n hn z; omega
  · have := (h.2.2.2.1 n hn z).2; omega
theorem wn_FX_on (h : wn_FX on a w l d r c G s fi fl fd t L) {n : Nat} (hn : n < 4) (hr : r n ≠ 0) : ¬ on n = 0 := fun z => hr (h.2.2.1 n hn z)
theorem wn_nt_k (hF : wn_FO fi fl fd) (h : wn_St fi fl fd t L) (nt : ¬ wn_tl L) : L.1 < 34 + 8 * fl := by
  rcases h with ⟨k, hk, ht, rfl⟩ | ⟨k, hk, h5, ht, rfl⟩ | ⟨j, ht, rfl⟩
  · exact hk
  · exact hk
  · exact absurd ⟨by show 19 ≤ 34 + 8 * fl; omega, rfl⟩ nt
theorem wn_FX_OK (hW : wn_WF a w l d c) (h : wn_FX on a w l d r c G s fi fl fd t L) (ht : t < wn_cn fi fl fd (34 + 8 * fl) + 10) {n : Nat} (hn : n < 4) (hr : r n ≠ 0) : wn_OK L w l d c r n := by
  have hF := wn_FX_FO hW h
  obtain ⟨⟨h1, h2, h3, h4⟩, ⟨e1, e2, e3⟩, h5, h6, h7, h8⟩ := id h
  refine ⟨wn_St_sm hF h8, by rw [wn_St_tc h8]; omega, fun z => ?_, fun nt e => ?_, wn_FX_r10 h n hn⟩
  · exact ⟨fi, fl, fd, _, hF, wn_St_T h8 ((wn_St_tl h8).mp z)⟩
  · have hc := hW.2.2.2 n hn
    refine ⟨hc, ?_, hW.2.1 _ (by omega)⟩
    by_cases z : n = s
    · rw [z, e2]; exact wn_nt_k hF h8 nt
    · have := (h7 n hn z e).2.2.1; omega
theorem wn_o_s (h : wn_FX on a w l d r c G s fi fl fd t L) (nt : ¬ wn_tl L) : wn_o L w l d c r s = wn_ob L fi fl fd := by
  obtain ⟨⟨h1, h2, h3, h4⟩, ⟨e1, e2, e3⟩, h5, h6, h7, h8⟩ := h
  unfold wn_o
  have nt' : ¬ (19 ≤ L.1 ∧ L.1 = 34 + 8 * L.2.2.2.2.2.1) := nt
  rw [if_neg nt', if_pos h3, e1, e2, e3]
theorem wn_o_n (h : wn_FX on a w l d r c G s fi fl fd t L) (nt : ¬ wn_tl L) {n : Nat} (hr : r n = 1) : wn_o L w l d c r n = wn_ob L (w (4 * n + c n)) (l (4 * n + c n)) (d (4 * n + c n)) := by
  unfold wn_o
  have nt' : ¬ (19 ≤ L.1 ∧ L.1 = 34 + 8 * L.2.2.2.2.2.1) := nt
  rw [if_neg nt', if_pos hr]
/-- an early output: the stuffed bit, or the bit of the id -/
theorem wn_ob_e {gi gl gd : Nat} (hk : L.1 < 12) : wn_ob L gi gl gd = if L.2.2.1 = 5 then (if L.2.1 = 0 then 1 else 0) else if 1 ≤ L.1 then gi / 2 ^ (11 - L.1) % 2 else 0 := by
  obtain ⟨k, x, rr, cc, hi, hl, hd, hc, tc⟩ := L
  show (if rr = 5 then (if x = 0 then 1 else 0) else wn_bit gi gl gd cc k) = if rr = 5 then (if x = 0 then 1 else 0) else if 1 ≤ k then gi / 2 ^ (11 - k) % 2 else 0
  have hk' : k < 12 := hk
  by_cases z : rr = 5
  · rw [if_pos z, if_pos z]
  · rw [if_neg z, if_neg z]
    unfold wn_bit
    by_cases y : 1 ≤ k
    · rw [if_pos ⟨y, hk'⟩, if_pos y]
    · rw [if_neg (by omega), if_neg (by omega), if_neg (by omega), if_pos (by omega), if_neg y]
theorem wn_low (h : wn_FX on a w l d r c G s fi fl fd t L) (nt : ¬ wn_tl L) {n : Nat} (hn : n < 4) (hr : r n = 1) (h0 : wn_o L w l d c r n = 0) : wn_o L w l d c r s = 0 := by
  by_cases z : n = s
  · rw [← z]; exact h0
  · obtain ⟨g1, g2, g3, g4⟩ := h.2.2.2.2.1 n hn z hr
    rw [wn_o_n h nt hr, wn_ob_e g3] at h0
    rw [wn_o_s h nt, wn_ob_e g3]
    by_cases y : L.2.2.1 = 5
    · rw [if_pos y] at h0 ⊢; exact h0
    · rw [if_neg y] at h0 ⊢
      by_cases x : 1 ≤ L.1
      · rw [if_pos x] at h0 ⊢
        exact (wn_lead x g3 g2 g4 h0).1
      · rw [if_neg x]
/-- before the tail the wire shows the sender's bit -/
theorem wn_lev_nt (h : wn_FX on a w l d r c G s fi fl fd t L) (nt : ¬ wn_tl L) {v : Nat} (hv : v < 2) (hl : v = 0 ↔ ∃ n, n < 4 ∧ r n ≠ 0 ∧ wn_o L w l d c r n = 0) : v = wn_ob L fi fl fd := by
  have h1 := h.1.1
  have h3 := h.1.2.2.1
  have hs := wn_o_lt L w l d c r s
  rw [← wn_o_s h nt]
  rcases (by omega : v = 0 ∨ v = 1) with e | e
  · obtain ⟨n, hn, hr, ho⟩ := hl.mp e
    rw [e]
    by_cases z : r n = 1
    · exact (wn_low h nt hn z ho).symm
    · exfalso
      unfold wn_o at ho
      have nt' : ¬ (19 ≤ L.1 ∧ L.1 = 34 + 8 * L.2.2.2.2.2.1) := nt
      rw [if_neg nt', if_neg z] at ho
      exact absurd ho (by decide)
  · rcases (by omega : wn_o L w l d c r s = 0 ∨ wn_o L w l d c r s = 1) with y | y
    · exact absurd (hl.mpr ⟨s, h1, by omega, y⟩) (by omega)
    · rw [e, y]
theorem wn_nx_k {v : Nat} (nt : ¬ wn_tl L) : (wn_nx L v).1 = if L.2.2.1 = 5 then L.1 else L.1 + 1 := by
  obtain ⟨k, x, rr, cc, hi, hl, hd, hc, tc⟩ := L
  have nt' : ¬ (19 ≤ k ∧ k = 34 + 8 * hl) := nt
  show (if 19 ≤ k ∧ k = 34 + 8 * hl then _ else if rr = 5 then _ else _ : wn_L).1 = if rr = 5 then k else k + 1
  rw [if_neg nt']
  by_cases y : rr = 5
  · rw [if_pos y, if_pos y]
  · rw [if_neg y, if_neg y]
theorem wn_nx_kt {v : Nat} (nt : wn_tl L) : (wn_nx L v).1 = L.1 := by
  obtain ⟨k, x, rr, cc, hi, hl, hd, hc, tc⟩ := L
  have nt' : 19 ≤ k ∧ k = 34 + 8 * hl := nt
  show (if 19 ≤ k ∧ k = 34 + 8 * hl then _ else if rr = 5 then _ else _ : wn_L).1 = k
  rw [if_pos nt']
theorem wn_FX_nx (hW : wn_WF a w l d c) (h : wn_FX on a w l d r c G s fi fl fd t L) {v : Nat} (hv : v < 2) (hl : v = 0 ↔ ∃ n, n < 4 ∧ r n ≠ 0 ∧ wn_o L w l d c r n = 0) :
    wn_FX on a w l d (wn_rr r (wn_o L w l d c r) L.1 v 4) c (wn_GG r G (wn_nx L v) 4) s fi fl fd (t + 1) (wn_nx L v) := by
  have hF := wn_FX_FO hW h
  obtain ⟨⟨h1, h2, h3, h4⟩, ⟨e1, e2, e3⟩, h5, h6, h7, h8⟩ := id h
  have rn : ∀ n, n < 4 → wn_rr r (wn_o L w l d c r) L.1 v 4 n = if r n = 1 ∧ L.1 < 12 ∧ wn_o L w l d c r n ≠ v then 2 else r n := by
    intro n hn
    show (if n < 4 ∧ _ then 2 else r n) = _
    by_cases y : r n = 1 ∧ L.1 < 12 ∧ wn_o L w l d c r n ≠ v
    · rw [if_pos ⟨hn, y⟩, if_pos y]
    · rw [if_neg (fun y' => y y'.2), if_neg y]
  have tk : wn_tl L → ¬ L.1 < 12 := fun z => by have := z.1; omega
  have os : ¬ wn_tl L → wn_o L w l d c r s = v := fun nt => by rw [wn_o_s h nt, wn_lev_nt h nt hv hl]
  refine ⟨⟨h1, h2, ?_, h4⟩, ⟨e1, e2, e3⟩, ?_, ?_, ?_, ?_⟩
  · rw [rn s h1, if_neg, h3]
    intro ⟨_, y2, y3⟩
    by_cases nt : wn_tl L
    · exact tk nt y2
    · exact y3 (os nt)
  · intro n hn z
    rw [rn n hn, h5 n hn z, if_neg (by omega)]
  · intro n hn z
    obtain ⟨g1, g2⟩ := h6 n hn z
    constructor
    · show (if n < 4 ∧ r n ≠ 0 then wn_nx L v else G n) = _
      rw [if_pos ⟨hn, by omega⟩]
    · rw [rn n hn]
      split
      · exact Or.inr rfl
      · exact g2
  · intro n hn hns hr'
    rw [rn n hn] at hr'
    have hr : r n = 1 := by
      by_cases y : r n = 1 ∧ L.1 < 12 ∧ wn_o L w l d c r n ≠ v
      · exact y.1
      · rw [if_neg y] at hr'; exact hr'
    obtain ⟨g1, g2, g3, g4⟩ := h7 n hn hns hr
    have nt : ¬ wn_tl L := fun z => tk z g3
    have ho : wn_o L w l d c r n = wn_o L w l d c r s := by
      rw [os nt]
      by_cases y : wn_o L w l d c r n = v
      · exact y
      · rw [if_pos ⟨hr, g3, y⟩] at hr'; exact absurd hr' (by decide)
    have hw := (hW.2.1 (4 * n + c n) (by have := hW.2.2.2 n hn; omega)).1
    have hfi : fi < 2048 := hF.1
    refine ⟨g1, g2, ?_⟩
    rw [wn_nx_k nt]
    by_cases y : L.2.2.1 = 5
    · rw [if_pos y]; exact ⟨g3, g4⟩
    · rw [if_neg y]
      have q : w (4 * n + c n) / 2 ^ (12 - (L.1 + 1)) = fi / 2 ^ (12 - (L.1 + 1)) := by
        by_cases x : 1 ≤ L.1
        · refine wn_stay x g3 g4 ?_
          rw [wn_o_n h nt hr, wn_o_s h nt, wn_ob_e g3, wn_ob_e g3, if_neg y, if_neg y, if_pos x, if_pos x] at ho
          exact ho
        · rw [show L.1 = 0 by omega]
          rw [wn_dz (m := 11) hw (by omega), wn_dz (m := 11) hfi (by omega)]
      refine ⟨?_, q⟩
      rcases (by omega : L.1 + 1 < 12 ∨ L.1 + 1 = 12) with x | x
      · exact x
      · rw [x, Nat.sub_self, Nat.pow_zero, Nat.div_one, Nat.div_one] at q
        omega
  · exact wn_St_nx hF h8 (fun nt => wn_lev_nt h nt hv hl)
theorem wn_FX_BK (h : wn_FX on a w l d r c G s fi fl fd t L) {v : Nat} {ds : Int32} (hv : v < 2) (hl : v = 0 ↔ ∃ n, n < 4 ∧ r n ≠ 0 ∧ wn_o L w l d c r n = 0) (hs' : wn_rr r (wn_o L w l d c r) L.1 v 4 s = 1) :
    (∃ n, n < 4 ∧ r n ≠ 0 ∧ wn_br ds (wn_rr r (wn_o L w l d c r) L.1 v 4 n) v L) ↔ wn_BK on s fi fl fd t ds := by
  obtain ⟨⟨h1, h2, h3, h4⟩, ⟨e1, e2, e3⟩, h5, h6, h7, h8⟩ := id h
  have t12 := wn_St_12 h8
  have ttl := wn_St_tl h8
  have ttc := wn_St_tc h8
  have hcn : wn_cnt L ↔ (wn_cn fi fl fd 12 ≤ t ∧ t ≤ wn_cn fi fl fd (34 + 8 * fl)) := by
    unfold wn_cnt
    rw [ttl, ttc]
    omega
  have htl : (wn_tl L ∧ L.2.2.2.2.2.2.2.2 = 1) ↔ t = wn_cn fi fl fd (34 + 8 * fl) + 1 := by
    rw [ttl, ttc]
    omega
  have hal : wn_tl L → L.2.2.2.2.2.2.2.2 = 1 → (v = 1 ↔ ∀ n, n < 4 → n ≠ s → on n = 0) := by
    intro z1 z2
    have z1' : 19 ≤ L.1 ∧ L.1 = 34 + 8 * L.2.2.2.2.2.1 := z1
    constructor
    · intro e n hn hns
      by_cases y : on n = 0
      · exact y
      · exfalso
        rcases (h6 n hn y).2 with y' | y'
        · have := (h7 n hn hns y').2.2.1
          have := z1.1
          omega
        · have : v = 0 := hl.mpr ⟨n, hn, by omega, by
            unfold wn_o
            rw [if_pos z1', if_pos ⟨y', z2⟩]⟩
          omega
    · intro e
      rcases (by omega : v = 0 ∨ v = 1) with y | y
      · exfalso
        obtain ⟨n, hn, hr, ho⟩ := hl.mp y
        have hon := wn_FX_on h hn hr
        have hns : n = s := by
          by_cases x : n = s
          · exact x
          · exact absurd (e n hn x) hon
        unfold wn_o at ho
        rw [if_pos z1', hns, h3] at ho
        rw [if_neg (by omega)] at ho
        exact absurd ho (by decide)
      · exact y
  unfold wn_BK
  constructor
  · rintro ⟨n, hn, hr, (⟨y1, y2⟩ | ⟨y1, y2, y3, y4⟩)⟩
    · exact Or.inl ⟨y1, hcn.mp y2⟩
    · exact Or.inr ⟨htl.mp ⟨y2, y3⟩, (hal y2 y3).mp y4⟩
  · rintro (⟨y1, y2⟩ | ⟨y1, y2⟩)
    · exact ⟨s, h1, by omega, Or.inl ⟨y1, hcn.mpr y2⟩⟩
    · obtain ⟨z1, z2⟩ := htl.mpr y1
      exact ⟨s, h1, by omega, Or.inr ⟨hs', z1, z2, (hal z1 z2).mpr y2⟩⟩
end
section
variable {ph lf ck sn di : Int32} {on sc rc mk vl : Nat → Int32} {a w l d q r c : Nat → Nat} {ii il : Nat → Int32} {ib : Nat → Int64} {mc : Nat → Int32} {G : Nat → wn_L}
theorem wn_xfb {s fi fl fd t : Nat} {L : wn_L} (hW : wn_WF a w l d c) (h : wn_FX on a w l d r c G s fi fl fd t L) (ht : t < wn_cn fi fl fd (34 + 8 * fl) + 10) : ∃ r' G' L', wn_FX on a w l d r' c G' s fi fl fd (t + 1) L' ∧
    ∀ (ds : Int32) (u' : SX), (wn_BK on s fi fl fd t ds → ∀ P : SX → Prop, P u' → wpX_breakOff P (ph, lf, ck, sn, di, on, sc, rc, mk, vl, wn_fI a, wn_fI w, wn_fI l, wn_fL d, wn_fI q, ii, il, ib, mc, wn_fI r', wn_fI c, wn_gA G', wn_gB G', wn_gC G', wn_gD G', wn_gE G', wn_gF G', wn_gH G', wn_gI G', wn_gJ G')) → (¬ wn_BK on s fi fl fd t ds → ∀ P : SX → Prop, P u' → wpX_finishIfSent P (ph, lf, ck, sn, di, on, sc, rc, mk, vl, wn_fI a, wn_fI w, wn_fI l, wn_fL d, wn_fI q, ii, il, ib, mc, wn_fI r', wn_fI c, wn_gA G', wn_gB G', wn_gC G', wn_gD G', wn_gE G', wn_gF G', wn_gH G', wn_gI G', wn_gJ G')) → ∀ post : SX → Prop, post u' → wpX_frameBit post (ph, lf, ck, sn, di, on, sc, rc, mk, vl, wn_fI a, wn_fI w, wn_fI l, wn_fL d, wn_fI q, ii, il, ib, mc, wn_fI r, wn_fI c, wn_gA G, wn_gB G, wn_gC G, wn_gD G, wn_gE G, wn_gF G, wn_gH G, wn_gI G, wn_gJ G) ds := by
  have hG : ∀ n, n < 4 → r n ≠ 0 → G n = L ∧ wn_OK L w l d c r n := fun n hn hr => ⟨(h.2.2.2.1 n hn (wn_FX_on h hn hr)).1, wn_FX_OK hW h ht hn hr⟩
  obtain ⟨v, hv, hl, hL⟩ := wn_xlev (ph := ph) (lf := lf) (ck := ck) (sn := sn) (di := di) (on := on) (sc := sc) (rc := rc) (mk := mk) (vl := vl) (a := a) (q := q) (ii := ii) (il := il) (ib := ib) (mc := mc) hG (wn_FX_r10 h)
  have hX := wn_FX_nx hW h hv hl
  refine ⟨_, _, _, hX, ?_⟩
  intro ds u' hB hE post hp
  have hbk := wn_FX_BK (ds := ds) h hv hl hX.1.2.2.1
  exact hL post ds (wn_xhears hv hG (wn_FX_r10 h) post ds u' (fun y => hB (hbk.mp y)) (fun y => hE (fun y' => y (hbk.mpr y'))) hp)
end
end
section
/-! a frame broken off, a frame finished: both sides -/
def wn_z (r : Nat → Nat) (i : Nat) : Nat → Nat := fun n => if n < i then 0 else r n
theorem wn_z_s (r : Nat → Nat) (i : Nat) : wn_w (wn_z r i) i 0 = wn_z r (i + 1) := by
  funext j
  show (if j = i then 0 else if j < i then 0 else r j) = if j < i + 1 then 0 else r j
  by_cases z : j = i
  · rw [if_pos z, if_pos (by omega)]
  · rw [if_neg z]
    by_cases y : j < i
    · rw [if_pos y, if_pos (by omega)]
    · rw [if_neg y, if_neg (by omega)]
theorem wn_z_i (r : Nat → Nat) (i : Nat) : wn_z r i i = r i := if_neg (by omega)
theorem wn_z_0 (r : Nat → Nat) : wn_z r 0 = r := by funext j; exact if_neg (by omega)
theorem wn_z_lt {r : Nat → Nat} {i n : Nat} (h : n < i) : wn_z r i n = 0 := if_pos h
theorem wn_zu {r : Nat → Nat} {i : Nat} (hi : i < 2 ^ 31) : upd (wn_fI (wn_z r i)) (nI i).toNatClampNeg 0 = wn_fI (wn_z r (i + 1)) := by
  rw [nI_clamp hi, show (0 : Int32) = nI 0 from rfl, wn_fIu, wn_z_s]
def wn_oB (on sc : Nat → Int32) (s : Nat) : Nat → Int32 := if 255 < sc s + 8 then upd on s 0 else on
def wn_rB (on : Nat → Int32) (s : Nat) (rc : Nat → Int32) : Nat → (Nat → Int32)
  | 0 => rc
  | i + 1 => if i = s ∨ on i = 0 ∨ 255 ≤ wn_rB on s rc i i then wn_rB on s rc i else upd (wn_rB on s rc i) i (wn_rB on s rc i i + 1)
theorem wn_rB_s (on : Nat → Int32) (s : Nat) (rc : Nat → Int32) (i : Nat) : wn_rB on s rc (i + 1) = if i = s ∨ on i = 0 ∨ 255 ≤ wn_rB on s rc i i then wn_rB on s rc i else upd (wn_rB on s rc i) i (wn_rB on s rc i i + 1) := rfl
theorem wn_nb0 : vp_nar .boolean 0 = 0 := by decide
theorem wn_nb1 : vp_nar .boolean 1 = 1 := by decide
section
variable {ph lf ck sn di : Int32} {on sc rc mk vl : Nat → Int32} {a w l d q r c : Nat → Nat} {ii il : Nat → Int32} {ib : Nat → Int64} {mc : Nat → Int32} {G : Nat → wn_L}
theorem wn_xbrk {post : SX → Prop} {s : Nat} (hs : s < 4) (hon : ∀ n, n < 4 → on n = 0 → r n = 0) (h1 : r s = 1) (h2 : ∀ n, n < 4 → n ≠ s → ¬ on n = 0 → r n = 2) (hos : on s = 1) (hp : post (2, 14, ck, sn, di, wn_oB on sc s, upd sc s (sc s + 8), wn_rB on s rc 4, mk, vl, wn_fI a, wn_fI w, wn_fI l, wn_fL d, wn_fI q, ii, il, ib, mc, wn_fI (wn_z r 4), wn_fI c, wn_gA G, wn_gB G, wn_gC G, wn_gD G, wn_gE G, wn_gF G, wn_gH G, wn_gI G, wn_gJ G)) : wpX_breakOff post (ph, lf, ck, sn, di, on, sc, rc, mk, vl, wn_fI a, wn_fI w, wn_fI l, wn_fL d, wn_fI q, ii, il, ib, mc, wn_fI r, wn_fI c, wn_gA G, wn_gB G, wn_gC G, wn_gD G, wn_gE G, wn_gF G, wn_gH G, wn_gI G, wn_gJ G) := by
  have H : ∀ e i, i + e = 4 → ∀ O S : Nat → Int32, (s < i → O = wn_oB on sc s ∧ S = upd sc s (sc s + 8)) → (i ≤ s → O = on ∧ S = sc) → ∀ n, e < n → wX_breakOff_2 post ph lf ck sn di n (nI i) O S (wn_rB on s rc i) mk vl (wn_fI a) (wn_fI w) (wn_fI l) (wn_fL d) (wn_fI q) ii il ib mc (wn_fI (wn_z r i)) (wn_fI c) (wn_gA G) (wn_gB G) (wn_gC G) (wn_gD G) (wn_gE G) (wn_gF G) (wn_gH G) (wn_gI G) (wn_gJ G) := by
    intro e
    induction e with
    | zero =>
      intro i hi O S g1 g2 n hn
      obtain ⟨n, rfl⟩ : ∃ j, n = j + 1 := ⟨n - 1, by omega⟩
      rw [show i = 4 by omega] at g1 ⊢
      rw [(g1 hs).1, (g1 hs).2]
      exact pk_le 4 4 (fun _ => hp) (fun h => absurd h (by omega)) rfl rfl
    | succ e ih =>
      intro i hi O S g1 g2 n hn
      obtain ⟨n, rfl⟩ : ∃ j, n = j + 1 := ⟨n - 1, by omega⟩
      have cl : (nI i).toNatClampNeg = i := nI_clamp (by omega)
      have er : wn_fI (wn_z r i) (nI i).toNatClampNeg = nI (r i) := by rw [cl]; show nI (wn_z r i i) = _; rw [wn_z_i]
      have v5 : vp_in (nI i) 5 := vp_in_nI (by omega) (by decide)
      have v4 : vp_in (nI i) 4 := vp_in_nI (by omega) (by decide)
      have zu := wn_zu (r := r) (i := i) (by omega)
      have hr10 : r i < 10 := by
        by_cases y : i = s
        · rw [y, h1]; decide
        · by_cases y' : on i = 0
          · rw [hon i (by omega) y']; decide
          · rw [h2 i (by omega) y y']; decide
      refine pk_le 4 i (fun h => absurd h (by omega)) (fun _ => And.intro v5 ?_) rfl rfl
      by_cases z : i = s
      · obtain ⟨gO, gS⟩ := g2 (by omega)
        have eR : wn_rB on s rc (i + 1) = wn_rB on s rc i := by rw [wn_rB_s, if_pos (Or.inl z)]
        have := ih (i + 1) (by omega) (wn_oB on sc s) (upd sc s (sc s + 8)) (fun _ => ⟨rfl, rfl⟩) (fun h => absurd h (by omega)) n (by omega)
        rw [eR] at this
        refine pk_eq (r i) 1 (fun _ => And.intro v4 (And.intro v4 (nm_r (e' := upd sc s (sc s + 8)) (by rw [cl, gS, z]) (And.intro v4 ?_)))) (fun h => absurd (by rw [z]; exact h1) h) er rfl
        have ev : upd sc s (sc s + 8) (nI i).toNatClampNeg = sc s + 8 := by rw [cl, z]; exact pk_us
        refine br_c (fun y => And.intro v4 (nm_r (e' := wn_oB on sc s) ?_ (And.intro v5 (nm_r zu (nm_r (nI_1 i) this))))) (fun y => And.intro v4 (nm_r (e' := wn_oB on sc s) ?_ (And.intro v5 (nm_r zu (nm_r (nI_1 i) this)))))
        · rw [ev] at y
          unfold wn_oB
          rw [if_pos y, cl, wn_nb0, gO, z]
        · rw [ev] at y
          unfold wn_oB
          rw [if_neg y, cl, wn_nb1, gO, z]
          exact wn_same hos
      · have go := fun R (hR : wn_rB on s rc (i + 1) = R) => (by
          have := ih (i + 1) (by omega) O S (fun h => g1 (by omega)) (fun h => g2 (by omega)) n (by omega)
          rw [hR] at this
          exact this : wX_breakOff_2 post ph lf ck sn di n (nI (i + 1)) O S R mk vl (wn_fI a) (wn_fI w) (wn_fI l) (wn_fL d) (wn_fI q) ii il ib mc (wn_fI (wn_z r (i + 1))) (wn_fI c) (wn_gA G) (wn_gB G) (wn_gC G) (wn_gD G) (wn_gE G) (wn_gF G) (wn_gH G) (wn_gI G) (wn_gJ G))
        by_cases y : on i = 0
        · have e0 := hon i (by omega) y
          have := go (wn_rB on s rc i) (by rw [wn_rB_s, if_pos (Or.inr (Or.inl y))])
          exact pk_eq (r i) 1 (fun h => absurd h (by omega)) (fun _ => And.intro v5 (pk_eq (r i) 2 (fun h => absurd h (by omega)) (fun _ => And.intro v5 (nm_r zu (nm_r (nI_1 i) this))) er rfl)) er rfl
        · have e2 := h2 i (by omega) z y
          refine pk_eq (r i) 1 (fun h => absurd h (by omega)) (fun _ => And.intro v5 (pk_eq (r i) 2 (fun _ => And.intro v4 (br_c (fun x => ?_) (fun x => ?_))) (fun h => absurd e2 h) er rfl)) er rfl
          · rw [cl] at x
            exact And.intro v5 (nm_r zu (nm_r (nI_1 i) (go (wn_rB on s rc i) (by rw [wn_rB_s, if_pos (Or.inr (Or.inr x))]))))
          · rw [cl] at x
            refine And.intro v4 (And.intro v4 (nm_r (e' := upd (wn_rB on s rc i) i (wn_rB on s rc i i + 1)) (by rw [cl]) (And.intro v5 (nm_r zu (nm_r (nI_1 i) (go _ ?_))))))
            rw [wn_rB_s, if_neg]
            rintro (k | k | k)
            · exact z k
            · exact y k
            · exact x k
  have := H 4 0 (by omega) on sc (fun h => absurd h (by omega)) (fun _ => ⟨rfl, rfl⟩) 5 (by omega)
  rw [wn_z_0] at this
  exact ⟨5, this⟩
variable {nw da yp rs fr gn lo lp ie st la yr yk : Int32} {wh : Nat → Int32} {wy : Nat → Int64}
theorem wn_ybrk {post : SY → Prop} {p : Nat} (hp16 : p < 16) (hp : post (nw, sn, da, 2, 14, nI p, gn, lo, lp, ie, st, la, yr, yk, wn_oB on sc (p / 4), mk, vl, upd sc (p / 4) (sc (p / 4) + 8), wn_rB on (p / 4) rc 4, mc, wn_fI a, wh, wy, wn_fI q, wn_hh ii il, ib)) : wpY_breakOff post (nw, sn, da, yp, rs, nI p, gn, lo, lp, ie, st, la, yr, yk, on, mk, vl, sc, rc, mc, wn_fI a, wh, wy, wn_fI q, wn_hh ii il, ib) := by
  have d4 : nI p / 4 = nI (p / 4) := wn_d4 (by omega)
  generalize hs : p / 4 = s at *
  have hs4 : s < 4 := by omega
  have vs : vp_in (nI s) 4 := vp_in_nI (by omega) (by decide)
  have cs : (nI s).toNatClampNeg = s := nI_clamp (by omega)
  have H : ∀ e i, i + e = 4 → ∀ n, e < n → wY_breakOff_20 post (nI s) nw sn da yp rs (nI p) gn lo lp ie st la yr yk n (nI i) on mk vl (upd sc s (sc s + 8)) (wn_rB on s rc i) mc (wn_fI a) wh wy (wn_fI q) (wn_hh ii il) ib := by
    intro e
    induction e with
    | zero =>
      intro i hi n hn
      obtain ⟨n, rfl⟩ : ∃ j, n = j + 1 := ⟨n - 1, by omega⟩
      rw [show i = 4 by omega]
      have ev : upd sc s (sc s + 8) (nI s).toNatClampNeg = sc s + 8 := by rw [cs]; exact pk_us
      unfold wn_oB at hp
      refine pk_le 4 4 (fun _ => And.intro vs (br_c (fun y => ?_) (fun y => And.intro vs (nm_r (e' := upd on s 0) (by rw [cs, wn_nb0]) ?_)))) (fun h => absurd h (by omega)) rfl rfl
      · rw [ev] at y
        rw [if_neg (Int32.not_lt.mpr y)] at hp
        exact hp
      · rw [ev] at y
        rw [if_pos (Int32.not_le.mp y)] at hp
        exact hp
    | succ e ih =>
      intro i hi n hn
      obtain ⟨n, rfl⟩ : ∃ j, n = j + 1 := ⟨n - 1, by omega⟩
      have cl : (nI i).toNatClampNeg = i := nI_clamp (by omega)
      have v4 : vp_in (nI i) 4 := vp_in_nI (by omega) (by decide)
      have := ih (i + 1) (by omega) n (by omega)
      rw [wn_rB_s] at this
      refine pk_le 4 i (fun h => absurd h (by omega)) (fun _ => pk_eq i s (fun y => ?_) (fun y => And.intro v4 (br_c (fun x => ?_) (fun x => And.intro v4 (br_c (fun k => ?_) (fun k => ?_))))) rfl rfl) rfl rfl
      · rw [if_pos (Or.inl y)] at this
        exact nm_r (nI_1 i) this
      · rw [cl] at x
        rw [if_pos (Or.inr (Or.inl x))] at this
        exact nm_r (nI_1 i) this
      · rw [cl] at k
        rw [if_pos (Or.inr (Or.inr k))] at this
        exact nm_r (nI_1 i) this
      · rw [cl] at k x
        rw [if_neg (by rintro (k' | k' | k'); exact y k'; exact x k'; exact k k')] at this
        exact And.intro v4 (And.intro v4 (nm_r (e' := upd (wn_rB on s rc i) i (wn_rB on s rc i i + 1)) (by rw [cl]) (nm_r (nI_1 i) this)))
  refine And.intro (by decide) (nm_r d4 (And.intro vs (And.intro vs (nm_r (e' := upd sc s (sc s + 8)) (by rw [cs]) ⟨5, ?_⟩))))
  exact H 4 0 (by omega) 5 (by omega)
end
/-! delivery -/
abbrev wn_B : Type := (Nat → Nat) × (Nat → Int32) × (Nat → Int32) × (Nat → Int64) × (Nat → Int32)
def wn_dv (mk vl : Nat → Int32) (fi fl fd : Nat) (B : wn_B) (n : Nat) : wn_B :=
  if (nI fi ^^^ vl n) &&& mk n = 0 then (if B.1 n = 6 then (B.1, B.2.1, B.2.2.1, B.2.2.2.1, upd B.2.2.2.2 n (B.2.2.2.2 n + 1))
    else (wn_w B.1 n (B.1 n + 1), upd B.2.1 (6 * n + B.1 n) (nI fi), upd B.2.2.1 (6 * n + B.1 n) (nI fl), vp_updL B.2.2.2.1 (6 * n + B.1 n) (lN fd), B.2.2.2.2)) else B
def wn_IB (B : wn_B) : Prop := (∀ n, n < 4 → B.1 n ≤ 6) ∧ ∀ j, ¬ wn_hh B.2.1 B.2.2.1 j < 0
theorem wn_hhu (ii il : Nat → Int32) (k fi fl : Nat) : upd (wn_hh ii il) k (nI (16 * fi + fl)) = wn_hh (upd ii k (nI fi)) (upd il k (nI fl)) := by
  funext j
  show (if j = k then nI (16 * fi + fl) else 16 * ii j + il j) = 16 * (if j = k then nI fi else ii j) + (if j = k then nI fl else il j)
  by_cases z : j = k
  · rw [if_pos z, if_pos z, if_pos z, wn_16, nI_add]
  · rw [if_neg z, if_neg z, if_neg z]
theorem wn_IB_dv {mk vl : Nat → Int32} {fi fl fd : Nat} {B : wn_B} {n : Nat} (hf : fi < 2048) (hl : fl ≤ 8) (hn : n < 4) (h : wn_IB B) : wn_IB (wn_dv mk vl fi fl fd B n) := by
  unfold wn_dv
  split
  · split
    · exact h
    · next hq =>
      constructor
      · intro m hm
        show wn_w B.1 n (B.1 n + 1) m ≤ 6
        have h1 := h.1 n hn
        by_cases z : m = n
        · rw [z, wn_ws]; omega
        · rw [wn_wo z]; exact h.1 m hm
      · intro j
        show ¬ wn_hh (upd B.2.1 (6 * n + B.1 n) (nI fi)) (upd B.2.2.1 (6 * n + B.1 n) (nI fl)) j < 0
        rw [← wn_hhu]
        by_cases z : j = 6 * n + B.1 n
        · rw [z, pk_us]; exact nI_pos (by omega)
        · rw [pk_un z]; exact h.2 j
  · exact h
section
variable {ph lf ck sn di : Int32} {on sc rc mk vl : Nat → Int32} {a w l d q r c : Nat → Nat} {ii il : Nat → Int32} {ib : Nat → Int64} {mc : Nat → Int32} {G : Nat → wn_L}
theorem wn_xdlv {post : SX → Prop} {B : wn_B} {n fi fl fd tc : Nat} (hn : n < 4) (hG : G n = wn_TP fi fl fd tc) (hB : wn_IB B) (hp : post (ph, lf, ck, sn, di, on, sc, rc, mk, vl, wn_fI a, wn_fI w, wn_fI l, wn_fL d, wn_fI ((wn_dv mk vl fi fl fd B n).1), (wn_dv mk vl fi fl fd B n).2.1, (wn_dv mk vl fi fl fd B n).2.2.1, (wn_dv mk vl fi fl fd B n).2.2.2.1, (wn_dv mk vl fi fl fd B n).2.2.2.2, wn_fI r, wn_fI c, wn_gA G, wn_gB G, wn_gC G, wn_gD G, wn_gE G, wn_gF G, wn_gH G, wn_gI G, wn_gJ G)) : wpX_deliver post (ph, lf, ck, sn, di, on, sc, rc, mk, vl, wn_fI a, wn_fI w, wn_fI l, wn_fL d, wn_fI B.1, B.2.1, B.2.2.1, B.2.2.2.1, B.2.2.2.2, wn_fI r, wn_fI c, wn_gA G, wn_gB G, wn_gC G, wn_gD G, wn_gE G, wn_gF G, wn_gH G, wn_gI G, wn_gJ G) (nI n) := by
  obtain ⟨q, ii, il, ib, mc⟩ := B
  have v5 : vp_in (nI n) 5 := vp_in_nI (by omega) (by decide)
  have v4 : vp_in (nI n) 4 := vp_in_nI (by omega) (by decide)
  have cl : (nI n).toNatClampNeg = n := nI_clamp (by omega)
  have eD : wn_gD G (nI n).toNatClampNeg = nI (wn_cs fi fl fd (19 + 8 * fl)) := wn_at (by omega) (by unfold wn_gD; rw [hG]; rfl)
  have eI : wn_gI G (nI n).toNatClampNeg = nI (wn_cs fi fl fd (19 + 8 * fl)) := wn_at (by omega) (by unfold wn_gI; rw [hG]; rfl)
  have eE : wn_gE G (nI n).toNatClampNeg = nI fi := wn_at (by omega) (by unfold wn_gE; rw [hG]; rfl)
  have eF : wn_gF G (nI n).toNatClampNeg = nI fl := wn_at (by omega) (by unfold wn_gF; rw [hG]; rfl)
  have eH : wn_gH G (nI n).toNatClampNeg = lN fd := wn_atL (by omega) (by unfold wn_gH; rw [hG]; rfl)
  have hq : q n ≤ 6 := hB.1 n hn
  have eq : wn_fI q (nI n).toNatClampNeg = nI (q n) := wn_fIa (by omega)
  unfold wn_dv at hp
  refine And.intro v5 (And.intro v4 (And.intro v4 (br_c (fun y => ?_) (fun y => ?_))))
  · rw [eE, cl] at y
    rw [if_pos y] at hp
    dsimp only at hp
    refine And.intro v5 (And.intro v5 (br_t (by rw [eI, eD]) (And.intro v4 (pk_eq (q n) 6 (fun x => ?_) (fun x => ?_) eq rfl))))
    · rw [if_pos x] at hp
      exact And.intro v4 (And.intro v4 (nm_r (e' := upd mc n (mc n + 1)) (by rw [cl]) hp))
    · rw [if_neg x] at hp
      have ea : 6 * nI n + wn_fI q (nI n).toNatClampNeg = nI (6 * n + q n) := by rw [eq, wn_6, nI_add]
      have va : vp_in (nI (6 * n + q n)) 24 := pk_in (6 * n + q n) 24 (by omega)
      have ca : (nI (6 * n + q n)).toNatClampNeg = 6 * n + q n := nI_clamp (by omega)
      refine And.intro v4 (nm_r ea (And.intro v5 (And.intro va (nm_r (e' := upd ii (6 * n + q n) (nI fi)) (by rw [ca, eE]) (And.intro v5 (And.intro va (nm_r (e' := upd il (6 * n + q n) (nI fl)) (by rw [ca, eF]) (And.intro v5 (And.intro va (nm_r (e' := vp_updL ib (6 * n + q n) (lN fd)) (by rw [ca, eH]) (And.intro v4 (And.intro v4 (nm_r (e' := wn_fI (wn_w q n (q n + 1))) ?_ hp)))))))))))))
      rw [eq, cl, nI_1, wn_fIu]
  · rw [eE, cl] at y
    rw [if_neg y] at hp
    exact hp
variable {nw da yp rs fr gn lo lp ie st la yr yk : Int32} {wh : Nat → Int32} {wy : Nat → Int64}
theorem wn_ydlv {post : SY → Prop} {B : wn_B} {n p : Nat} {fi fl fd : Nat} (hn : n < 4) (hp16 : p < 16) (hf : fi < 2048) (hl : fl ≤ 8) (e1 : wh p = nI (16 * fi + fl)) (e2 : wy p = lN fd) (hB : wn_IB B) (hp : post (nw, sn, da, yp, rs, nI p, gn, lo, lp, ie, st, la, yr, yk, on, mk, vl, sc, rc, (wn_dv mk vl fi fl fd B n).2.2.2.2, wn_fI a, wh, wy, wn_fI ((wn_dv mk vl fi fl fd B n).1), wn_hh ((wn_dv mk vl fi fl fd B n).2.1) ((wn_dv mk vl fi fl fd B n).2.2.1), (wn_dv mk vl fi fl fd B n).2.2.2.1)) : wpY_deliver post (nw, sn, da, yp, rs, nI p, gn, lo, lp, ie, st, la, yr, yk, on, mk, vl, sc, rc, B.2.2.2.2, wn_fI a, wh, wy, wn_fI B.1, wn_hh B.2.1 B.2.2.1, B.2.2.2.1) (nI n) := by
  obtain ⟨q, ii, il, ib, mc⟩ := B
  have v4 : vp_in (nI n) 4 := vp_in_nI (by omega) (by decide)
  have v16 : vp_in (nI p) 16 := vp_in_nI (by omega) (by decide)
  have cl : (nI n).toNatClampNeg = n := nI_clamp (by omega)
  have cp : (nI p).toNatClampNeg = p := nI_clamp (by omega)
  have hq : q n ≤ 6 := hB.1 n hn
  have eq : wn_fI q (nI n).toNatClampNeg = nI (q n) := wn_fIa (by omega)
  unfold wn_dv at hp
  refine And.intro v16 (nm_r (e' := nI (16 * fi + fl)) (by rw [cp, e1]) (And.intro (by decide) (And.intro v4 (And.intro v4 (br_c (fun y => ?_) (fun y => ?_))))))
  · rw [wn_hd hf hl, cl] at y
    rw [if_pos y] at hp
    dsimp only at hp
    refine And.intro v4 (pk_eq (q n) 6 (fun x => ?_) (fun x => ?_) eq rfl)
    · rw [if_pos x] at hp
      exact And.intro v4 (And.intro v4 (nm_r (e' := upd mc n (mc n + 1)) (by rw [cl]) hp))
    · rw [if_neg x] at hp
      have ea : 6 * nI n + wn_fI q (nI n).toNatClampNeg = nI (6 * n + q n) := by rw [eq, wn_6, nI_add]
      have va : vp_in (6 * nI n + wn_fI q (nI n).toNatClampNeg) 24 := pk_in (6 * n + q n) 24 (by omega) ea
      have ca : (6 * nI n + wn_fI q (nI n).toNatClampNeg).toNatClampNeg = 6 * n + q n := by rw [ea]; exact nI_clamp (by omega)
      refine And.intro v4 (And.intro va (nm_r (e' := wn_hh (upd ii (6 * n + q n) (nI fi)) (upd il (6 * n + q n) (nI fl))) (by rw [ca]; exact wn_hhu _ _ _ _ _) (And.intro v4 (And.intro v16 (And.intro va (nm_r (e' := vp_updL ib (6 * n + q n) (lN fd)) (by rw [ca, cp, e2]) (And.intro v4 (And.intro v4 (nm_r (e' := wn_fI (wn_w q n (q n + 1))) ?_ hp)))))))))
      rw [eq, cl, nI_1, wn_fIu]
  · rw [wn_hd hf hl, cl] at y
    rw [if_neg y] at hp
    exact hp
end
end
section
/-! a frame finished -/
def wn_sF (sc : Nat → Int32) (s : Nat) : Nat → Int32 := if sc s ≤ 0 then sc else upd sc s (sc s - 1)
def wn_rF (on : Nat → Int32) (s : Nat) (rc : Nat → Int32) : Nat → (Nat → Int32)
  | 0 => rc
  | i + 1 => if i = s ∨ on i = 0 ∨ wn_rF on s rc i i ≤ 0 then wn_rF on s rc i else upd (wn_rF on s rc i) i (wn_rF on s rc i i - 1)
theorem wn_rF_s (on : Nat → Int32) (s : Nat) (rc : Nat → Int32) (i : Nat) : wn_rF on s rc (i + 1) = if i = s ∨ on i = 0 ∨ wn_rF on s rc i i ≤ 0 then wn_rF on s rc i else upd (wn_rF on s rc i) i (wn_rF on s rc i i - 1) := rfl
def wn_dF (on mk vl : Nat → Int32) (s fi fl fd : Nat) (B : wn_B) : Nat → wn_B
  | 0 => B
  | i + 1 => if i = s ∨ on i = 0 then wn_dF on mk vl s fi fl fd B i else wn_dv mk vl fi fl fd (wn_dF on mk vl s fi fl fd B i) i
theorem wn_dF_s (on mk vl : Nat → Int32) (s fi fl fd : Nat) (B : wn_B) (i : Nat) : wn_dF on mk vl s fi fl fd B (i + 1) = if i = s ∨ on i = 0 then wn_dF on mk vl s fi fl fd B i else wn_dv mk vl fi fl fd (wn_dF on mk vl s fi fl fd B i) i := rfl
theorem wn_IB_dF {on mk vl : Nat → Int32} {s fi fl fd : Nat} {B : wn_B} (hf : fi < 2048) (hl : fl ≤ 8) (h : wn_IB B) : ∀ i, i ≤ 4 → wn_IB (wn_dF on mk vl s fi fl fd B i) := by
  intro i
  induction i with
  | zero => intro _; exact h
  | succ i ih =>
    intro hi
    rw [wn_dF_s]
    split
    · exact ih (by omega)
    · exact wn_IB_dv hf hl (by omega) (ih (by omega))
section
variable {ph lf ck sn di : Int32} {on sc rc mk vl : Nat → Int32} {a w l d q r c : Nat → Nat} {ii il : Nat → Int32} {ib : Nat → Int64} {mc : Nat → Int32} {G : Nat → wn_L}
theorem wn_x53 {post : SX → Prop} {s fi fl fd tc : Nat} {B : wn_B} (hs : s < 4) (hf : fi < 2048) (hl : fl ≤ 8) (ham : a s ≤ 4) (hcs : c s < a s) (hG : ∀ n, n < 4 → ¬ on n = 0 → G n = wn_TP fi fl fd tc) (hB : wn_IB B) (hon : ∀ n, n < 4 → on n = 0 → r n = 0) (h1 : r s = 1) (h2 : ∀ n, n < 4 → n ≠ s → ¬ on n = 0 → r n = 2)
    (hp : post (3, 3, ck, sn + 1, di, on, wn_sF sc s, wn_rF on s rc 4, mk, vl, wn_fI (wn_w a s (a s - 1)), wn_fI (wn_sh w (4 * s + c s) (4 * s + (a s - 1))), wn_fI (wn_sh l (4 * s + c s) (4 * s + (a s - 1))), wn_fL (wn_sh d (4 * s + c s) (4 * s + (a s - 1))), wn_fI ((wn_dF on mk vl s fi fl fd B 4).1), (wn_dF on mk vl s fi fl fd B 4).2.1, (wn_dF on mk vl s fi fl fd B 4).2.2.1, (wn_dF on mk vl s fi fl fd B 4).2.2.2.1, (wn_dF on mk vl s fi fl fd B 4).2.2.2.2, wn_fI (wn_z r 4), wn_fI c, wn_gA G, wn_gB G, wn_gC G, wn_gD G, wn_gE G, wn_gF G, wn_gH G, wn_gI G, wn_gJ G)) : ∃ n53, wX_finishIfSent_53 post n53 0 ph lf ck sn di on sc rc mk vl (wn_fI a) (wn_fI w) (wn_fI l) (wn_fL d) (wn_fI B.1) B.2.1 B.2.2.1 B.2.2.2.1 B.2.2.2.2 (wn_fI r) (wn_fI c) (wn_gA G) (wn_gB G) (wn_gC G) (wn_gD G) (wn_gE G) (wn_gF G) (wn_gH G) (wn_gI G) (wn_gJ G) := by
  have H : ∀ e i, i + e = 4 → ∀ (A W' L' D' : Nat → Nat) (S : Nat → Int32), (s < i → A = wn_w a s (a s - 1) ∧ W' = wn_sh w (4 * s + c s) (4 * s + (a s - 1)) ∧ L' = wn_sh l (4 * s + c s) (4 * s + (a s - 1)) ∧ D' = wn_sh d (4 * s + c s) (4 * s + (a s - 1)) ∧ S = wn_sF sc s) → (i ≤ s → A = a ∧ W' = w ∧ L' = l ∧ D' = d ∧ S = sc) → ∀ n, e < n → wX_finishIfSent_53 post n (nI i) ph lf ck sn di on S (wn_rF on s rc i) mk vl (wn_fI A) (wn_fI W') (wn_fI L') (wn_fL D') (wn_fI ((wn_dF on mk vl s fi fl fd B i).1)) ((wn_dF on mk vl s fi fl fd B i).2.1) ((wn_dF on mk vl s fi fl fd B i).2.2.1) ((wn_dF on mk vl s fi fl fd B i).2.2.2.1) ((wn_dF on mk vl s fi fl fd B i).2.2.2.2) (wn_fI (wn_z r i)) (wn_fI c) (wn_gA G) (wn_gB G) (wn_gC G) (wn_gD G) (wn_gE G) (wn_gF G) (wn_gH G) (wn_gI G) (wn_gJ G) := by
    intro e
    induction e with
    | zero =>
      intro i hi A W' L' D' S g1 g2 n hn
      obtain ⟨n, rfl⟩ : ∃ j, n = j + 1 := ⟨n - 1, by omega⟩
      rw [show i = 4 by omega] at g1 ⊢
      obtain ⟨k1, k2, k3, k4, k5⟩ := g1 hs
      rw [k1, k2, k3, k4, k5]
      exact pk_le 4 4 (fun _ => nm_e hp) (fun h => absurd h (by omega)) rfl rfl
    | succ e ih =>
      intro i hi A W' L' D' S g1 g2 n hn
      obtain ⟨n, rfl⟩ : ∃ j, n = j + 1 := ⟨n - 1, by omega⟩
      have cl : (nI i).toNatClampNeg = i := nI_clamp (by omega)
      have er : wn_fI (wn_z r i) (nI i).toNatClampNeg = nI (r i) := by rw [cl]; show nI (wn_z r i i) = _; rw [wn_z_i]
      have v5 : vp_in (nI i) 5 := vp_in_nI (by omega) (by decide)
      have v4 : vp_in (nI i) 4 := vp_in_nI (by omega) (by decide)
      have zu := wn_zu (r := r) (i := i) (by omega)
      have hr10 : r i < 10 := by
        by_cases y : i = s
        · rw [y, h1]; decide
        · by_cases y' : on i = 0
          · rw [hon i (by omega) y']; decide
          · rw [h2 i (by omega) y y']; decide
      refine pk_le 4 i (fun h => absurd h (by omega)) (fun _ => And.intro v5 ?_) rfl rfl
      by_cases z : i = s
      · obtain ⟨k1, k2, k3, k4, k5⟩ := g2 (by omega)
        have eR : wn_rF on s rc (i + 1) = wn_rF on s rc i := by rw [wn_rF_s, if_pos (Or.inl z)]
        have eB : wn_dF on mk vl s fi fl fd B (i + 1) = wn_dF on mk vl s fi fl fd B i := by rw [wn_dF_s, if_pos (Or.inl z)]
        have := ih (i + 1) (by omega) _ _ _ _ _ (fun _ => ⟨rfl, rfl, rfl, rfl, rfl⟩) (fun h => absurd h (by omega)) n (by omega)
        rw [eR, eB] at this
        rw [k1, k2, k3, k4, k5]
        subst z
        have ec : wn_fI c (nI i).toNatClampNeg = nI (c i) := wn_fIa (by omega)
        have es : sc (nI i).toNatClampNeg = sc i := by rw [cl]
        refine pk_eq (r i) 1 (fun _ => And.intro v5 ?_) (fun h => absurd h1 h) er rfl
        rw [ec]
        refine wn_xrm hs ham hcs (by omega) ?_
        rw [if_neg (by omega), wn_wself rfl]
        refine And.intro v4 (And.intro v4 (br_c (fun y => And.intro v4 (nm_r (e' := wn_sF sc i) ?_ (And.intro v5 (nm_r zu (nm_r (nI_1 i) this))))) (fun y => And.intro v4 (nm_r (e' := wn_sF sc i) ?_ (And.intro v5 (nm_r zu (nm_r (nI_1 i) this)))))))
        · rw [es] at y ⊢
          unfold wn_sF
          rw [if_pos y, Int32.sub_zero, cl]
          exact wn_same rfl
        · rw [es] at y ⊢
          unfold wn_sF
          rw [if_neg y, cl]
      · have go := fun R BB (hR : wn_rF on s rc (i + 1) = R) (hBB : wn_dF on mk vl s fi fl fd B (i + 1) = BB) => (by
          have := ih (i + 1) (by omega) A W' L' D' S (fun h => g1 (by omega)) (fun h => g2 (by omega)) n (by omega)
          rw [hR, hBB] at this
          exact this : wX_finishIfSent_53 post n (nI (i + 1)) ph lf ck sn di on S R mk vl (wn_fI A) (wn_fI W') (wn_fI L') (wn_fL D') (wn_fI ((BB).1)) ((BB).2.1) ((BB).2.2.1) ((BB).2.2.2.1) ((BB).2.2.2.2) (wn_fI (wn_z r (i + 1))) (wn_fI c) (wn_gA G) (wn_gB G) (wn_gC G) (wn_gD G) (wn_gE G) (wn_gF G) (wn_gH G) (wn_gI G) (wn_gJ G))
        by_cases y : on i = 0
        · have e0 := hon i (by omega) y
          have := go _ _ (by rw [wn_rF_s, if_pos (Or.inr (Or.inl y))]) (by rw [wn_dF_s, if_pos (Or.inr y)])
          exact pk_eq (r i) 1 (fun h => absurd h (by omega)) (fun _ => And.intro v5 (pk_eq (r i) 2 (fun h => absurd h (by omega)) (fun _ => And.intro v5 (nm_r zu (nm_r (nI_1 i) this))) er rfl)) er rfl
        · have e2 := h2 i (by omega) z y
          refine pk_eq (r i) 1 (fun h => absurd h (by omega)) (fun _ => And.intro v5 (pk_eq (r i) 2 (fun _ => wn_xdlv (by omega) (hG i (by omega) y) (wn_IB_dF hf hl hB i (by omega)) ?_) (fun h => absurd e2 h) er rfl)) er rfl
          have eB : wn_dF on mk vl s fi fl fd B (i + 1) = wn_dv mk vl fi fl fd (wn_dF on mk vl s fi fl fd B i) i := by
            rw [wn_dF_s, if_neg (fun k => k.elim z y)]
          have ei : wn_rF on s rc i (nI i).toNatClampNeg = wn_rF on s rc i i := by rw [cl]
          refine And.intro v4 (And.intro v4 (br_c (fun x => And.intro v4 (nm_r (e' := wn_rF on s rc i) ?_ (And.intro v5 (nm_r zu (nm_r (nI_1 i) (go _ _ ?_ eB)))))) (fun x => And.intro v4 (nm_r (e' := upd (wn_rF on s rc i) i (wn_rF on s rc i i - 1)) ?_ (And.intro v5 (nm_r zu (nm_r (nI_1 i) (go _ _ ?_ eB))))))))
          · rw [ei, Int32.sub_zero, cl]; exact wn_same rfl
          · rw [ei] at x
            rw [wn_rF_s, if_pos (Or.inr (Or.inr x))]
          · rw [ei, cl]
          · rw [ei] at x
            rw [wn_rF_s, if_neg]
            rintro (k | k | k)
            · exact z k
            · exact y k
            · exact x k
  have := H 4 0 (by omega) a w l d sc (fun h => absurd h (by omega)) (fun _ => ⟨rfl, rfl, rfl, rfl, rfl⟩) 5 (by omega)
  rw [wn_z_0] at this
  exact ⟨5, this⟩
theorem wn_xfin {post : SX → Prop} (hr : ∀ n, n < 4 → r n < 10) (htc : ∀ n, n < 4 → r n = 1 → (G n).2.2.2.2.2.2.2.2 < 2000) (h0 : (∀ n, n < 4 → r n = 1 → (G n).2.2.2.2.2.2.2.2 ≠ 10) → post (ph, lf, ck, sn, di, on, sc, rc, mk, vl, wn_fI a, wn_fI w, wn_fI l, wn_fL d, wn_fI q, ii, il, ib, mc, wn_fI r, wn_fI c, wn_gA G, wn_gB G, wn_gC G, wn_gD G, wn_gE G, wn_gF G, wn_gH G, wn_gI G, wn_gJ G)) (h1 : (∃ n, n < 4 ∧ r n = 1 ∧ (G n).2.2.2.2.2.2.2.2 = 10) → ∃ n53, wX_finishIfSent_53 post n53 0 ph lf ck sn di on sc rc mk vl (wn_fI a) (wn_fI w) (wn_fI l) (wn_fL d) (wn_fI q) ii il ib mc (wn_fI r) (wn_fI c) (wn_gA G) (wn_gB G) (wn_gC G) (wn_gD G) (wn_gE G) (wn_gF G) (wn_gH G) (wn_gI G) (wn_gJ G)) : wpX_finishIfSent post (ph, lf, ck, sn, di, on, sc, rc, mk, vl, wn_fI a, wn_fI w, wn_fI l, wn_fL d, wn_fI q, ii, il, ib, mc, wn_fI r, wn_fI c, wn_gA G, wn_gB G, wn_gC G, wn_gD G, wn_gE G, wn_gF G, wn_gH G, wn_gI G, wn_gJ G) := by
  have H : ∀ e i b, i + e = 4 → b < 2 → (b = 1 ↔ ∃ n, n < i ∧ r n = 1 ∧ (G n).2.2.2.2.2.2.2.2 = 10) → ∀ n, e < n → wX_finishIfSent_4 post ph lf ck sn di on sc rc mk vl (wn_fI a) (wn_fI w) (wn_fI l) (wn_fL d) (wn_fI q) ii il ib mc (wn_fI r) (wn_fI c) (wn_gA G) (wn_gB G) (wn_gC G) (wn_gD G) (wn_gE G) (wn_gF G) (wn_gH G) (wn_gI G) (wn_gJ G) n (nI b) (nI i) := by
    intro e
    induction e with
    | zero =>
      intro i b hi hb2 hb n hn
      obtain ⟨n, rfl⟩ : ∃ j, n = j + 1 := ⟨n - 1, by omega⟩
      rw [show i = 4 by omega] at hb ⊢
      refine pk_le 4 4 (fun _ => pk_eq b 0 (fun e0 => h0 (fun m hm y1 y2 => ?_)) (fun e0 => h1 (hb.mp (by omega))) rfl rfl) (fun h => absurd h (by omega)) rfl rfl
      have := hb.mpr ⟨m, hm, y1, y2⟩
      omega
    | succ e ih =>
      intro i b hi hb2 hb n hn
      obtain ⟨n, rfl⟩ : ∃ j, n = j + 1 := ⟨n - 1, by omega⟩
      have hri := hr i (by omega)
      have er : wn_fI r (nI i).toNatClampNeg = nI (r i) := wn_fIa (by omega)
      have eJ : wn_gJ G (nI i).toNatClampNeg = nI (G i).2.2.2.2.2.2.2.2 := wn_at (by omega) rfl
      have v5 : vp_in (nI i) 5 := vp_in_nI (by omega) (by decide)
      have no : ¬ (r i = 1 ∧ (G i).2.2.2.2.2.2.2.2 = 10) → wX_finishIfSent_4 post ph lf ck sn di on sc rc mk vl (wn_fI a) (wn_fI w) (wn_fI l) (wn_fL d) (wn_fI q) ii il ib mc (wn_fI r) (wn_fI c) (wn_gA G) (wn_gB G) (wn_gC G) (wn_gD G) (wn_gE G) (wn_gF G) (wn_gH G) (wn_gI G) (wn_gJ G) n (nI b) (nI (i + 1)) := by
        intro y
        refine ih (i + 1) b (by omega) hb2 ?_ n (by omega)
        rw [hb]
        constructor
        · intro ⟨m, y1, y2⟩; exact ⟨m, by omega, y2⟩
        · intro ⟨m, y1, y2⟩
          refine ⟨m, ?_, y2⟩
          rcases (by omega : m < i ∨ m = i) with k | k
          · exact k
          · rw [k] at y2; exact absurd y2 y
      refine pk_le 4 i (fun h => absurd h (by omega)) (fun _ => pk_eq b 0 (fun e0 => And.intro v5 (pk_eq (r i) 1 (fun e1 => And.intro v5 ?_) (fun e1 => nm_r (nI_1 i) ?_) er rfl)) (fun e0 => nm_r (nI_1 i) ?_) rfl rfl) rfl rfl
      · have ht := htc i (by omega) e1
        refine pk_eq (G i).2.2.2.2.2.2.2.2 10 (fun e2 => nm_r (nI_1 i) ?_) (fun e2 => nm_r (nI_1 i) ?_) eJ rfl
        · exact ih (i + 1) 1 (by omega) (by omega) ⟨fun _ => ⟨i, by omega, e1, e2⟩, fun _ => rfl⟩ n (by omega)
        · have := no (fun y => e2 y.2); rw [e0] at this; exact this
      · have := no (fun y => e1 y.1); rw [e0] at this; exact this
      · have hb1 : b = 1 := by omega
        refine ih (i + 1) 1 (by omega) (by omega) ⟨fun _ => ?_, fun _ => rfl⟩ n (by omega)
        obtain ⟨m, y1, y2⟩ := hb.mp hb1
        exact ⟨m, by omega, y2⟩
  exact ⟨5, H 4 0 0 (by omega) (by omega) ⟨fun h => absurd h (by decide), fun ⟨n, h, _⟩ => absurd h (by omega)⟩ 5 (by omega)⟩
variable {nw da yp rs fr gn lo lp ie st la yr yk : Int32} {wh : Nat → Int32} {wy : Nat → Int64}
theorem wn_yfin {post : SY → Prop} {p fi fl fd : Nat} {B : wn_B} (hp16 : p < 16) (hf : fi < 2048) (hl : fl ≤ 8) (e1 : wh p = nI (16 * fi + fl)) (e2 : wy p = lN fd) (ham : a (p / 4) ≤ 4) (hV : p % 4 < a (p / 4)) (hB : wn_IB B)
    (hp : post (nw, sn + 1, da, 3, 3, nI p, gn, lo, lp, ie, st, la, yr, yk, on, mk, vl, wn_sF sc (p / 4), wn_rF on (p / 4) rc 4, (wn_dF on mk vl (p / 4) fi fl fd B 4).2.2.2.2, wn_fI (wn_w a (p / 4) (a (p / 4) - 1)), wn_sh wh p (4 * (p / 4) + (a (p / 4) - 1)), wn_sh wy p (4 * (p / 4) + (a (p / 4) - 1)), wn_fI ((wn_dF on mk vl (p / 4) fi fl fd B 4).1), wn_hh ((wn_dF on mk vl (p / 4) fi fl fd B 4).2.1) ((wn_dF on mk vl (p / 4) fi fl fd B 4).2.2.1), (wn_dF on mk vl (p / 4) fi fl fd B 4).2.2.2.1)) : wpY_finish post (nw, sn, da, yp, rs, nI p, gn, lo, lp, ie, st, la, yr, yk, on, mk, vl, sc, rc, B.2.2.2.2, wn_fI a, wh, wy, wn_fI B.1, wn_hh B.2.1 B.2.2.1, B.2.2.2.1) := by
  have d4 : nI p / 4 = nI (p / 4) := wn_d4 (by omega)
  have ep : 4 * (p / 4) + p % 4 = p := by omega
  have hs4 : p / 4 < 4 := by omega
  generalize hs : p / 4 = s at *
  have vs : vp_in (nI s) 4 := vp_in_nI (by omega) (by decide)
  have cs : (nI s).toNatClampNeg = s := nI_clamp (by omega)
  have H : ∀ e i, i + e = 4 → ∀ n, e < n → wY_finish_28 post (nI s) n (nI i) nw sn da yp rs (nI p) gn lo lp ie st la yr yk on mk vl (wn_sF sc s) (wn_rF on s rc i) ((wn_dF on mk vl s fi fl fd B i).2.2.2.2) (wn_fI a) wh wy (wn_fI ((wn_dF on mk vl s fi fl fd B i).1)) (wn_hh ((wn_dF on mk vl s fi fl fd B i).2.1) ((wn_dF on mk vl s fi fl fd B i).2.2.1)) ((wn_dF on mk vl s fi fl fd B i).2.2.2.1) := by
    intro e
    induction e with
    | zero =>
      intro i hi n hn
      obtain ⟨n, rfl⟩ : ∃ j, n = j + 1 := ⟨n - 1, by omega⟩
      rw [show i = 4 by omega]
      refine pk_le 4 4 (fun _ => And.intro (by decide) (nm_r d4 (br_f (by decide) ?_))) (fun h => absurd h (by omega)) rfl rfl
      have := wn_yto (post := fun u => match u with | (nw, ys, da, yp, rs, fr, gn, lo, lp, ie, st, la, yr, yk, yon, xmk, yvl, se, re, ym, ws, wh, wy, bx, bh, bd) => ∀ y : Int32, y = ys + 1 → post (nw, y, da, yp, rs, fr, gn, lo, lp, ie, st, la, yr, yk, yon, xmk, yvl, se, re, ym, ws, wh, wy, bx, bh, bd)) (nw := nw) (da := da) (yp := 3) (rs := 3) (fr := nI p) (gn := gn) (lo := lo) (lp := lp) (ie := ie) (st := st) (la := la) (yr := yr) (yk := yk) (wh := wh) (wy := wy) (sn := sn) (on := on) (mk := mk) (vl := vl) (sc := wn_sF sc s) (rc := wn_rF on s rc 4) (a := a) (q := (wn_dF on mk vl s fi fl fd B 4).1) (ii := (wn_dF on mk vl s fi fl fd B 4).2.1) (il := (wn_dF on mk vl s fi fl fd B 4).2.2.1) (ib := (wn_dF on mk vl s fi fl fd B 4).2.2.2.1) (mc := (wn_dF on mk vl s fi fl fd B 4).2.2.2.2) (z0 := -1) hs4 ham hV (br_t (by decide) (by rw [ep]; exact nm_e hp))
      rw [ep] at this
      exact this
    | succ e ih =>
      intro i hi n hn
      obtain ⟨n, rfl⟩ : ∃ j, n = j + 1 := ⟨n - 1, by omega⟩
      have cl : (nI i).toNatClampNeg = i := nI_clamp (by omega)
      have v4 : vp_in (nI i) 4 := vp_in_nI (by omega) (by decide)
      have := ih (i + 1) (by omega) n (by omega)
      have ei : wn_rF on s rc i (nI i).toNatClampNeg = wn_rF on s rc i i := by rw [cl]
      refine pk_le 4 i (fun h => absurd h (by omega)) (fun _ => pk_eq i s (fun y => ?_) (fun y => And.intro v4 (br_c (fun x => ?_) (fun x => ?_))) rfl rfl) rfl rfl
      · rw [wn_rF_s, if_pos (Or.inl y), wn_dF_s, if_pos (Or.inl y)] at this
        exact nm_r (nI_1 i) this
      · rw [cl] at x
        rw [wn_rF_s, if_pos (Or.inr (Or.inl x)), wn_dF_s, if_pos (Or.inr x)] at this
        exact nm_r (nI_1 i) this
      · rw [cl] at x
        rw [wn_dF_s, if_neg (fun k => k.elim y x)] at this
        refine wn_ydlv (by omega) hp16 hf hl e1 e2 (wn_IB_dF hf hl hB i (by omega)) (And.intro v4 (br_c (fun k => nm_r (nI_1 i) ?_) (fun k => And.intro v4 (And.intro v4 (nm_r (e' := upd (wn_rF on s rc i) i (wn_rF on s rc i i - 1)) (by rw [ei, cl]) (nm_r (nI_1 i) ?_))))))
        · rw [ei] at k
          rw [wn_rF_s, if_pos (Or.inr (Or.inr k))] at this
          exact this
        · rw [ei] at k
          rw [wn_rF_s, if_neg (by rintro (k' | k' | k'); exact y k'; exact x k'; exact k k')] at this
          exact this
  have := H 4 0 (by omega) 5 (by omega)
  refine And.intro (by decide) (nm_r d4 (And.intro vs (br_c (fun y => ⟨5, ?_⟩) (fun y => And.intro vs (And.intro vs (nm_r (e' := wn_sF sc s) ?_ ⟨5, this⟩))))))
  · rw [cs] at y
    unfold wn_sF at this
    rw [if_pos y] at this
    exact this
  · rw [cs] at y ⊢
    unfold wn_sF
    rw [if_neg y]
end
end
section
/-! a frame begins -/
def wn_L0 : wn_L := (0, -1, 0, 0, 0, 0, 0, 0, 0)
def wn_rb (on : Nat → Int32) (a r : Nat → Nat) (i : Nat) : Nat → Nat := fun n => if n < i then (if on n = 0 then 0 else if a n = 0 then 2 else 1) else r n
def wn_Gb (on : Nat → Int32) (G : Nat → wn_L) (i : Nat) : Nat → wn_L := fun n => if n < i ∧ ¬ on n = 0 then wn_L0 else G n
theorem wn_rb_i (on : Nat → Int32) (a r : Nat → Nat) (i : Nat) (v : Nat) (hv : v = if on i = 0 then 0 else if a i = 0 then 2 else 1) : wn_w (wn_rb on a r i) i v = wn_rb on a r (i + 1) := by
  funext j
  show (if j = i then v else if j < i then (if on j = 0 then 0 else if a j = 0 then 2 else 1) else r j) = if j < i + 1 then (if on j = 0 then 0 else if a j = 0 then 2 else 1) else r j
  by_cases z : j = i
  · rw [if_pos z, if_pos (by omega), hv, z]
  · rw [if_neg z]
    by_cases y : j < i
    · rw [if_pos y, if_pos (show j < i + 1 by omega)]
    · rw [if_neg y, if_neg (show ¬ j < i + 1 by omega)]
theorem wn_Gb_z {on : Nat → Int32} {G : Nat → wn_L} {i : Nat} (h : on i = 0) : wn_Gb on G (i + 1) = wn_Gb on G i := by
  funext j
  show (if j < i + 1 ∧ ¬ on j = 0 then wn_L0 else G j) = if j < i ∧ ¬ on j = 0 then wn_L0 else G j
  by_cases y : j < i ∧ ¬ on j = 0
  · rw [if_pos y, if_pos ⟨by omega, y.2⟩]
  · rw [if_neg y, if_neg (fun y' => y ⟨by
      rcases (by omega : j < i ∨ j = i) with z | z
      · exact z
      · rw [z] at y'; exact absurd h y'.2, y'.2⟩)]
theorem wn_Gb_s {on : Nat → Int32} {G : Nat → wn_L} {i : Nat} (h : ¬ on i = 0) : wn_u (wn_Gb on G i) i wn_L0 = wn_Gb on G (i + 1) := by
  funext j
  show (if j = i then wn_L0 else if j < i ∧ ¬ on j = 0 then wn_L0 else G j) = if j < i + 1 ∧ ¬ on j = 0 then wn_L0 else G j
  by_cases z : j = i
  · rw [if_pos z, if_pos ⟨by omega, by rw [z]; exact h⟩]
  · rw [if_neg z]
    by_cases y : j < i ∧ ¬ on j = 0
    · rw [if_pos y, if_pos ⟨by omega, y.2⟩]
    · rw [if_neg y, if_neg (fun y' => y ⟨by omega, y'.2⟩)]
theorem wn_ww (f : Nat → Nat) (k u v : Nat) : wn_w (wn_w f k u) k v = wn_w f k v := by
  funext j
  show (if j = k then v else if j = k then u else f j) = if j = k then v else f j
  by_cases z : j = k
  · rw [if_pos z, if_pos z]
  · rw [if_neg z, if_neg z, if_neg z]
section
variable {ph lf ck sn di : Int32} {on sc rc mk vl wc wi wl : Nat → Int32} {wd : Nat → Int64} {ic ii il : Nat → Int32} {ib : Nat → Int64} {mc ro ch : Nat → Int32} {G : Nat → wn_L}
theorem wn_xbl {post : SX → Prop} {n : Nat} (hn : n < 5) (hp : post (ph, lf, ck, sn, di, on, sc, rc, mk, vl, wc, wi, wl, wd, ic, ii, il, ib, mc, ro, ch, wn_gA (wn_u G n wn_L0), wn_gB (wn_u G n wn_L0), wn_gC (wn_u G n wn_L0), wn_gD (wn_u G n wn_L0), wn_gE (wn_u G n wn_L0), wn_gF (wn_u G n wn_L0), wn_gH (wn_u G n wn_L0), wn_gI (wn_u G n wn_L0), wn_gJ (wn_u G n wn_L0))) : wpX_beginListening post (ph, lf, ck, sn, di, on, sc, rc, mk, vl, wc, wi, wl, wd, ic, ii, il, ib, mc, ro, ch, wn_gA G, wn_gB G, wn_gC G, wn_gD G, wn_gE G, wn_gF G, wn_gH G, wn_gI G, wn_gJ G) (nI n) := by
  have v5 : vp_in (nI n) 5 := vp_in_nI hn (by decide)
  have cl : (nI n).toNatClampNeg = n := nI_clamp (by omega)
  rw [wn_uA, wn_uB, wn_uC, wn_uD, wn_uE, wn_uF, wn_uH, wn_uI, wn_uJ] at hp
  exact And.intro v5 (nm_r (congrArg (fun j => upd (wn_gA G) j 0) cl) (And.intro v5 (nm_r (congrArg (fun j => upd (wn_gB G) j (-1)) cl) (And.intro v5 (nm_r (congrArg (fun j => upd (wn_gC G) j 0) cl) (And.intro v5 (nm_r (congrArg (fun j => upd (wn_gD G) j 0) cl) (And.intro v5 (nm_r (congrArg (fun j => upd (wn_gE G) j 0) cl) (And.intro v5 (nm_r (congrArg (fun j => upd (wn_gF G) j 0) cl) (And.intro v5 (nm_r (congrArg (fun j => vp_updL (wn_gH G) j 0) cl) (And.intro v5 (nm_r (congrArg (fun j => upd (wn_gI G) j 0) cl) (And.intro v5 (nm_r (congrArg (fun j => upd (wn_gJ G) j 0) cl) hp)))))))))))))))))
end
/-- what the nodes chose, as far as node i -/
def wn_ch (on : Nat → Int32) (a w c : Nat → Nat) (i : Nat) : Prop := (∀ n, n < 4 → c n < 4) ∧ ∀ n, n < i → ¬ on n = 0 → 0 < a n → c n < a n ∧ ∀ k, k < a n → w (4 * n + c n) ≤ w (4 * n + k)
section
variable {ph lf ck sn di : Int32} {on sc rc mk vl : Nat → Int32} {a w l d q r c : Nat → Nat} {ii il : Nat → Int32} {ib : Nat → Int64} {mc : Nat → Int32} {G : Nat → wn_L}
theorem wn_xbf (ha : ∀ n, n < 4 → a n ≤ 4) (hw : ∀ j, j < 16 → w j < 2048) (hc : ∀ n, n < 4 → c n < 4) : ∃ c', wn_ch on a w c' 4 ∧ ∀ post : SX → Prop, post (1, lf, ck, sn, di, on, sc, rc, mk, vl, wn_fI a, wn_fI w, wn_fI l, wn_fL d, wn_fI q, ii, il, ib, mc, wn_fI (wn_rb on a r 4), wn_fI c', wn_gA (wn_Gb on G 4), wn_gB (wn_Gb on G 4), wn_gC (wn_Gb on G 4), wn_gD (wn_Gb on G 4), wn_gE (wn_Gb on G 4), wn_gF (wn_Gb on G 4), wn_gH (wn_Gb on G 4), wn_gI (wn_Gb on G 4), wn_gJ (wn_Gb on G 4)) → wpX_beginFrame post (ph, lf, ck, sn, di, on, sc, rc, mk, vl, wn_fI a, wn_fI w, wn_fI l, wn_fL d, wn_fI q, ii, il, ib, mc, wn_fI r, wn_fI c, wn_gA G, wn_gB G, wn_gC G, wn_gD G, wn_gE G, wn_gF G, wn_gH G, wn_gI G, wn_gJ G) := by
  have H : ∀ e i, i + e = 4 → ∀ c, wn_ch on a w c i → ∃ c', wn_ch on a w c' 4 ∧ ∀ post : SX → Prop, post (1, lf, ck, sn, di, on, sc, rc, mk, vl, wn_fI a, wn_fI w, wn_fI l, wn_fL d, wn_fI q, ii, il, ib, mc, wn_fI (wn_rb on a r 4), wn_fI c', wn_gA (wn_Gb on G 4), wn_gB (wn_Gb on G 4), wn_gC (wn_Gb on G 4), wn_gD (wn_Gb on G 4), wn_gE (wn_Gb on G 4), wn_gF (wn_Gb on G 4), wn_gH (wn_Gb on G 4), wn_gI (wn_Gb on G 4), wn_gJ (wn_Gb on G 4)) → ∀ n, e < n → wX_beginFrame_7 post n (nI i) 1 lf ck sn di on sc rc mk vl (wn_fI a) (wn_fI w) (wn_fI l) (wn_fL d) (wn_fI q) ii il ib mc (wn_fI (wn_rb on a r i)) (wn_fI c) (wn_gA (wn_Gb on G i)) (wn_gB (wn_Gb on G i)) (wn_gC (wn_Gb on G i)) (wn_gD (wn_Gb on G i)) (wn_gE (wn_Gb on G i)) (wn_gF (wn_Gb on G i)) (wn_gH (wn_Gb on G i)) (wn_gI (wn_Gb on G i)) (wn_gJ (wn_Gb on G i)) := by
    intro e
    induction e with
    | zero =>
      intro i hi c hC
      rw [show i = 4 by omega] at hC ⊢
      refine ⟨c, hC, fun post hp n hn => ?_⟩
      obtain ⟨n, rfl⟩ : ∃ j, n = j + 1 := ⟨n - 1, by omega⟩
      exact pk_le 4 4 (fun _ => hp) (fun h => absurd h (by omega)) rfl rfl
    | succ e ih =>
      intro i hi c hC
      have cl : (nI i).toNatClampNeg = i := nI_clamp (by omega)
      have v5 : vp_in (nI i) 5 := vp_in_nI (by omega) (by decide)
      have v4 : vp_in (nI i) 4 := vp_in_nI (by omega) (by decide)
      have ea : wn_fI a (nI i).toNatClampNeg = nI (a i) := wn_fIa (by omega)
      have hai := ha i (by omega)
      have e0 : upd (wn_fI (wn_rb on a r i)) (nI i).toNatClampNeg 0 = wn_fI (wn_w (wn_rb on a r i) i 0) := by rw [cl, show (0 : Int32) = nI 0 from rfl, wn_fIu]
      by_cases z : on i = 0
      · obtain ⟨c', h1, h2⟩ := ih (i + 1) (by omega) c ⟨hC.1, fun n hn ho hpos => by
          rcases (by omega : n < i ∨ n = i) with y | y
          · exact hC.2 n y ho hpos
          · rw [y] at ho; exact absurd z ho⟩
        refine ⟨c', h1, fun post hp n hn => ?_⟩
        obtain ⟨n, rfl⟩ : ∃ j, n = j + 1 := ⟨n - 1, by omega⟩
        have := h2 post hp n (by omega)
        rw [wn_Gb_z z, ← wn_rb_i on a r i 0 (by rw [if_pos z])] at this
        exact pk_le 4 i (fun h => absurd h (by omega)) (fun _ => And.intro v5 (nm_r e0 (And.intro v4 (br_t (by rw [cl]; exact z) (nm_r (nI_1 i) this))))) rfl rfl
      · obtain ⟨b, hb4, hb, hch⟩ := wn_xchoose (a := a) (w := w) (m := i) (by omega) hai hw
        obtain ⟨c', h1, h2⟩ := ih (i + 1) (by omega) (wn_w c i b) ⟨fun n hn => by
          by_cases y : n = i
          · rw [y, wn_ws]; exact hb4
          · rw [wn_wo y]; exact hC.1 n hn, fun n hn ho hpos => by
          by_cases y : n = i
          · rw [y] at hpos ⊢; rw [wn_ws]; exact hb hpos
          · rw [wn_wo y]; exact hC.2 n (by omega) ho hpos⟩
        refine ⟨c', h1, fun post hp n hn => ?_⟩
        obtain ⟨n, rfl⟩ : ∃ j, n = j + 1 := ⟨n - 1, by omega⟩
        have hJ := h2 post hp n (by omega)
        have F : ∀ v, v = (if on i = 0 then 0 else if a i = 0 then 2 else 1) → wX_beginFrame_52 post (wX_beginFrame_7 post n) (nI i) (nI v) (nI i) 1 lf ck sn di on sc rc mk vl (wn_fI a) (wn_fI w) (wn_fI l) (wn_fL d) (wn_fI q) ii il ib mc (wn_fI (wn_w (wn_rb on a r i) i 0)) (wn_fI c) (wn_gA (wn_u (wn_Gb on G i) i wn_L0)) (wn_gB (wn_u (wn_Gb on G i) i wn_L0)) (wn_gC (wn_u (wn_Gb on G i) i wn_L0)) (wn_gD (wn_u (wn_Gb on G i) i wn_L0)) (wn_gE (wn_u (wn_Gb on G i) i wn_L0)) (wn_gF (wn_u (wn_Gb on G i) i wn_L0)) (wn_gH (wn_u (wn_Gb on G i) i wn_L0)) (wn_gI (wn_u (wn_Gb on G i) i wn_L0)) (wn_gJ (wn_u (wn_Gb on G i) i wn_L0)) := by
          intro v hv
          rw [← wn_rb_i on a r i v hv, ← wn_Gb_s z] at hJ
          refine And.intro v5 (nm_r (e' := wn_fI (wn_w (wn_rb on a r i) i v)) (by rw [cl, wn_fIu, wn_ww]) ?_)
          exact hch _ _ _ _ _ _ _ _ _ _ _ _ _ _ _ _ _ _ _ _ _ (And.intro v5 (nm_r (e' := wn_fI (wn_w c i b)) (by rw [cl, wn_fIu]) (nm_r (nI_1 i) hJ)))
        refine pk_le 4 i (fun h => absurd h (by omega)) (fun _ => And.intro v5 (nm_r e0 (And.intro v4 (br_f (by rw [cl]; exact z) (wn_xbl (by omega) (And.intro v5 (pk_le (a i) 0 (fun y => F 2 ?_) (fun y => F 1 ?_) ea rfl))))))) rfl rfl
        · rw [if_neg z, if_pos (by omega)]
        · rw [if_neg z, if_neg (by omega)]
  have z0 : wn_rb on a r 0 = r := by funext n; exact if_neg (by omega)
  have z1 : wn_Gb on G 0 = G := by funext n; exact if_neg (by omega)
  obtain ⟨c', h1, h2⟩ := H 4 0 (by omega) c ⟨hc, fun n h => absurd h (by omega)⟩
  refine ⟨c', h1, fun post hp => ⟨5, ?_⟩⟩
  have := h2 post hp 5 (by omega)
  rw [z0, z1] at this
  exact this
end
/-- all that a frame's first bit needs -/
theorem wn_FX_0 {on : Nat → Int32} {a w l d r c : Nat → Nat} {G : Nat → wn_L} {p : Nat} (hW : wn_WF a w l d c) (hC : wn_ch on a w c 4) (hV : wn_V a p) (ho : ¬ on (p / 4) = 0) (hm : ∀ j, wn_V a j → ¬ on (j / 4) = 0 → w p ≤ w j) :
    wn_FX on a w l d (wn_rb on a r 4) c (wn_Gb on G 4) (p / 4) (w p) (l p) (d p) 0 wn_L0 ∧ 4 * (p / 4) + c (p / 4) = p := by
  obtain ⟨v1, v2, v3⟩ := wn_Vd hV
  obtain ⟨W1, W2, W3, W4⟩ := hW
  have hpos : 0 < a (p / 4) := by have := hV.2; omega
  have rn : ∀ n, n < 4 → wn_rb on a r 4 n = if on n = 0 then 0 else if a n = 0 then 2 else 1 := fun n hn => if_pos hn
  obtain ⟨k1, k2⟩ := hC.2 (p / 4) v2 ho hpos
  have pl : ∀ n, n < 4 → ¬ on n = 0 → 0 < a n → wn_V a (4 * n + c n) ∧ ¬ on ((4 * n + c n) / 4) = 0 := by
    intro n hn hon hp
    have h4 := W4 n hn
    refine ⟨wn_V4 hn (hC.2 n hn hon hp).1 h4, ?_⟩
    rw [show (4 * n + c n) / 4 = n by omega]; exact hon
  have e : 4 * (p / 4) + c (p / 4) = p := by
    obtain ⟨g1, g2⟩ := pl _ v2 ho hpos
    have m1 := hm _ g1 g2
    have m2 := k2 (p % 4) hV.2
    rw [← v1] at m2
    exact W3 _ _ g1 hV (by omega)
  have hw := W2 p hV.1
  refine ⟨⟨⟨v2, ho, ?_, k1⟩, ⟨by rw [e], by rw [e], by rw [e]⟩, ?_, ?_, ?_, wn_St_0 _ _ _ hw⟩, e⟩
  · rw [rn _ v2, if_neg ho, if_neg (by omega)]
  · intro n hn z; rw [rn n hn, if_pos z]
  · intro n hn z
    constructor
    · exact if_pos ⟨hn, z⟩
    · rw [rn n hn, if_neg z]
      by_cases y : a n = 0
      · rw [if_pos y]; exact Or.inr rfl
      · rw [if_neg y]; exact Or.inl rfl
  · intro n hn hns hr
    rw [rn n hn] at hr
    have hon : ¬ on n = 0 := fun z => by rw [if_pos z] at hr; exact absurd hr (by decide)
    rw [if_neg hon] at hr
    have hp : 0 < a n := by
      rcases Nat.eq_zero_or_pos (a n) with z | z
      · rw [if_pos z] at hr; exact absurd hr (by decide)
      · exact z
    obtain ⟨g1, g2⟩ := pl n hn hon hp
    have m1 := hm _ g1 g2
    have hw2 := (W2 _ g1.1).1
    refine ⟨(hC.2 n hn hon hp).1, ?_, by show (0 : Nat) < 12; decide, ?_⟩
    · rcases Nat.lt_or_ge (w p) (w (4 * n + c n)) with z | z
      · exact z
      · have := W3 _ _ g1 hV (by omega)
        have h4 := W4 n hn
        exact absurd (by omega) hns
    · show w (4 * n + c n) / 2 ^ 12 = w p / 2 ^ 12
      rw [wn_dz (m := 11) hw2 (by omega), wn_dz (m := 11) hw.1 (by omega)]
section
variable {ph lf ck sn di : Int32} {on sc rc mk vl : Nat → Int32} {a w l d q r c : Nat → Nat} {ii il : Nat → Int32} {ib : Nat → Int64} {mc : Nat → Int32} {G : Nat → wn_L}
variable {nw da yp rs fr gn lo lp ie st la yr yk : Int32} {wh : Nat → Int32} {wy : Nat → Int64}
/-- the reference begins -/
theorem wn_ybeg {post : SY → Prop} (ha : ∀ n, n < 4 → a n ≤ 4) (hw : ∀ j, j < 16 → w j < 2048 ∧ l j ≤ 8 ∧ d j < 2 ^ (8 * l j)) (hH : wn_H w l wh) (hy : ∀ j, j < 16 → wy j = lN (d j))
    (h0 : (∀ p, wn_V a p → on (p / 4) = 0) → post (nw, sn, da, yp, rs, -1, gn, lo, lp, ie, st, la, yr, yk, on, mk, vl, sc, rc, mc, wn_fI a, wh, wy, wn_fI q, wn_hh ii il, ib))
    (h1 : ∀ p, wn_V a p → ¬ on (p / 4) = 0 → (∀ j, wn_V a j → ¬ on (j / 4) = 0 → w p ≤ w j) → (post (nw, sn, da, 1, rs, nI p, 1, nI (wn_cn (w p) (l p) (d p) 12), nI (wn_cn (w p) (l p) (d p) (34 + 8 * l p)), nI (wn_cn (w p) (l p) (d p) 12), nI (wn_cn (w p) (l p) (d p) (34 + 8 * l p)), wn_la (w p) (l p) (d p) (34 + 8 * l p), nI (wn_rw (w p) (l p) (d p) (34 + 8 * l p)), nI (wn_cs (w p) (l p) (d p) (34 + 8 * l p)), on, mk, vl, sc, rc, mc, wn_fI a, wh, wy, wn_fI q, wn_hh ii il, ib))) : wpY_begin post (nw, sn, da, yp, rs, fr, gn, lo, lp, ie, st, la, yr, yk, on, mk, vl, sc, rc, mc, wn_fI a, wh, wy, wn_fI q, wn_hh ii il, ib) := by
  obtain ⟨z, hM, hz⟩ := wn_ymu (on := on) (nw := nw) (da := da) (yp := yp) (rs := rs) (fr := fr) (gn := gn) (lo := lo) (lp := lp) (ie := ie) (st := st) (la := la) (yr := yr) (yk := yk) (wy := wy) (sn := sn) (mk := mk) (vl := vl) (sc := sc) (rc := rc) (q := q) (ii := ii) (il := il) (ib := ib) (mc := mc) ha (fun j hj => ⟨(hw j hj).1, (hw j hj).2.1⟩) hH
  unfold wpY_begin
  refine hz _ ?_
  rcases hM with ⟨e, hn⟩ | ⟨p, hp, e, hV, ho, hm⟩
  · rw [e]
    exact br_t (by decide) (h0 (fun p hV => hn p hV.1 hV))
  · obtain ⟨k1, k2, k3⟩ := hw p hp
    have hpost := h1 p hV ho (fun j hj hoj => hm j hj.1 hj hoj)
    have vp : vp_in (nI p) 16 := vp_in_nI hp (by decide)
    have cp : (nI p).toNatClampNeg = p := nI_clamp (by omega)
    rw [e]
    refine br_f (nI_pos (by omega)) (And.intro vp (And.intro (by decide) (And.intro vp (And.intro (by decide) (And.intro vp ?_)))))
    rw [cp, hH p hp, wn_hm k1 k2, wn_hd k1 k2, hy p hp]
    have k4 : d p < 2 ^ 64 := Nat.lt_of_lt_of_le k3 (Nat.pow_le_pow_right (by decide) (by omega))
    refine wn_ymeas (fd := d p) k1 k4 k2 (fun _ _ => rfl) ?_
    exact hpost
end
end
section
/-! taking a waiting frame out and putting one in: what is kept -/
section
variable {on : Nat → Int32} {a w l d r c : Nat → Nat} {G : Nat → wn_L} {s fi fl fd t : Nat} {L : wn_L} {m k : Nat}
theorem wn_rm_pl {α : Type} {f : Nat → α} {n : Nat} (hm : m < 4) (hk : k < a m) (ha4 : a m ≤ 4) (hn : n < 4) (hc : c n < a n) (hc4 : c n < 4) (hne : ¬ (n = m ∧ c n = k)) :
    wn_w c m (if k < c m then c m - 1 else c m) n < wn_w a m (a m - 1) n ∧ wn_sh f (4 * m + k) (4 * m + (a m - 1)) (4 * n + wn_w c m (if k < c m then c m - 1 else c m) n) = f (4 * n + c n) := by
  by_cases z : n = m
  · subst z
    rw [wn_ws, wn_ws]
    by_cases y : k < c n
    · rw [if_pos y]
      refine ⟨by omega, ?_⟩
      rw [wn_shin (by omega) (by omega), show 4 * n + (c n - 1) + 1 = 4 * n + c n by omega]
    · rw [if_neg y]
      have : c n ≠ k := fun e => hne ⟨rfl, e⟩
      exact ⟨by omega, wn_shlo (by omega)⟩
  · rw [wn_wo z, wn_wo z]
    refine ⟨hc, ?_⟩
    rcases (by omega : n < m ∨ m < n) with y | y
    · exact wn_shlo (by omega)
    · exact wn_shhi (by omega)
theorem wn_rm_V {j : Nat} (hm : m < 4) (hk : k < a m) (ha4 : a m ≤ 4) (hj : wn_V (wn_w a m (a m - 1)) j) : wn_V a (if 4 * m + k ≤ j ∧ j < 4 * m + (a m - 1) then j + 1 else j) := by
  obtain ⟨h1, h2⟩ := hj
  by_cases z : j / 4 = m
  · rw [z, wn_ws] at h2
    by_cases y : 4 * m + k ≤ j ∧ j < 4 * m + (a m - 1)
    · rw [if_pos y]
      refine ⟨by omega, ?_⟩
      rw [show (j + 1) / 4 = m by omega]; omega
    · rw [if_neg y]
      refine ⟨h1, ?_⟩
      rw [z]; omega
  · rw [wn_wo z] at h2
    rw [if_neg (by omega)]
    exact ⟨h1, h2⟩
theorem wn_rm_WF (hm : m < 4) (hk : k < a m) (hW : wn_WF a w l d c) : wn_WF (wn_w a m (a m - 1)) (wn_sh w (4 * m + k) (4 * m + (a m - 1))) (wn_sh l (4 * m + k) (4 * m + (a m - 1))) (wn_sh d (4 * m + k) (4 * m + (a m - 1))) (wn_w c m (if k < c m then c m - 1 else c m)) := by
  obtain ⟨W1, W2, W3, W4⟩ := hW
  have ha4 := W1 m hm
  have sh : ∀ {α : Type} (f : Nat → α) j, wn_sh f (4 * m + k) (4 * m + (a m - 1)) j = f (if 4 * m + k ≤ j ∧ j < 4 * m + (a m - 1) then j + 1 else j) := by
    intro α f j
    show (if 4 * m + k ≤ j ∧ j < 4 * m + (a m - 1) then f (j + 1) else f j) = _
    split <;> rfl
  refine ⟨?_, ?_, ?_, ?_⟩
  · intro n hn
    by_cases z : n = m
    · rw [z, wn_ws]; omega
    · rw [wn_wo z]; exact W1 n hn
  · intro j hj
    rw [sh, sh, sh]
    refine W2 _ ?_
    split <;> omega
  · intro i j hi hj e
    rw [sh, sh] at e
    have := W3 _ _ (wn_rm_V hm hk ha4 hi) (wn_rm_V hm hk ha4 hj) e
    have i1 := hi.1
    have j1 := hj.1
    have i2 := hi.2
    have j2 := hj.2
    by_cases y1 : 4 * m + k ≤ i ∧ i < 4 * m + (a m - 1)
    · rw [if_pos y1] at this
      by_cases y2 : 4 * m + k ≤ j ∧ j < 4 * m + (a m - 1)
      · rw [if_pos y2] at this; omega
      · rw [if_neg y2] at this
        exfalso
        rw [show j / 4 = m by omega, wn_ws] at j2
        omega
    · rw [if_neg y1] at this
      by_cases y2 : 4 * m + k ≤ j ∧ j < 4 * m + (a m - 1)
      · rw [if_pos y2] at this
        exfalso
        rw [show i / 4 = m by omega, wn_ws] at i2
        omega
      · rw [if_neg y2] at this; exact this
  · intro n hn
    have h4 := W4 n hn
    by_cases z : n = m
    · rw [z] at h4 ⊢
      rw [wn_ws]; split <;> omega
    · rw [wn_wo z]; exact h4
theorem wn_rm_FX (hm : m < 4) (hk : k < a m) (hW : wn_WF a w l d c) (h : wn_FX on a w l d r c G s fi fl fd t L) (hne : ¬ (s = m ∧ c s = k)) :
    wn_FX on (wn_w a m (a m - 1)) (wn_sh w (4 * m + k) (4 * m + (a m - 1))) (wn_sh l (4 * m + k) (4 * m + (a m - 1))) (wn_sh d (4 * m + k) (4 * m + (a m - 1))) (if r m = 1 ∧ c m = k then wn_w r m 2 else r) (wn_w c m (if k < c m then c m - 1 else c m)) G s fi fl fd t L := by
  obtain ⟨⟨h1, h2, h3, h4⟩, ⟨e1, e2, e3⟩, h5, h6, h7, h8⟩ := h
  obtain ⟨W1, W2, W3, W4⟩ := hW
  have ha4 := W1 m hm
  have rn : ∀ n, (if r m = 1 ∧ c m = k then wn_w r m 2 else r) n = if n = m ∧ r m = 1 ∧ c m = k then 2 else r n := by
    intro n
    by_cases y : r m = 1 ∧ c m = k
    · rw [if_pos y]
      by_cases z : n = m
      · rw [if_pos ⟨z, y⟩, z, wn_ws]
      · rw [wn_wo z, if_neg (fun q => z q.1)]
    · rw [if_neg y, if_neg (fun q => y q.2)]
  refine ⟨⟨h1, h2, ?_, (wn_rm_pl (f := w) hm hk ha4 h1 h4 (W4 s h1) hne).1⟩, ⟨?_, ?_, ?_⟩, ?_, ?_, ?_, h8⟩
  · rw [rn, if_neg (fun q => hne ⟨q.1, by rw [q.1]; exact q.2.2⟩)]; exact h3
  · rw [(wn_rm_pl (f := w) hm hk ha4 h1 h4 (W4 s h1) hne).2]; exact e1
  · rw [(wn_rm_pl (f := l) hm hk ha4 h1 h4 (W4 s h1) hne).2]; exact e2
  · rw [(wn_rm_pl (f := d) hm hk ha4 h1 h4 (W4 s h1) hne).2]; exact e3
  · intro n hn z
    have := h5 n hn z
    rw [rn, if_neg, this]
    intro q
    rw [q.1] at this
    omega
  · intro n hn z
    refine ⟨(h6 n hn z).1, ?_⟩
    rw [rn]
    split
    · exact Or.inr rfl
    · exact (h6 n hn z).2
  · intro n hn hns hr
    rw [rn] at hr
    have hq : ¬ (n = m ∧ r m = 1 ∧ c m = k) := fun q => by rw [if_pos q] at hr; exact absurd hr (by decide)
    rw [if_neg hq] at hr
    obtain ⟨g1, g2, g3, g4⟩ := h7 n hn hns hr
    have := wn_rm_pl (f := w) hm hk ha4 hn g1 (W4 n hn) (fun q => hq ⟨q.1, by rw [← q.1]; exact hr, by rw [← q.1]; exact q.2⟩)
    rw [this.2]
    exact ⟨this.1, g2, g3, g4⟩
theorem wn_rm_H {wh : Nat → Int32} {wy : Nat → Int64} {lo hi : Nat} (h : hi ≤ 15) (hy : ∀ j, j < 16 → wy j = lN (d j)) : ∀ j, j < 16 → wn_sh wy lo hi j = lN (wn_sh d lo hi j) := by
  intro j hj
  by_cases z : lo ≤ j ∧ j < hi
  · rw [wn_shin z.1 z.2, wn_shin z.1 z.2]; exact hy _ (by omega)
  · have e : ∀ {α : Type} (f : Nat → α), wn_sh f lo hi j = f j := fun f => if_neg z
    rw [e, e]; exact hy j hj
/-- one more -/
theorem wn_ad_V {j v : Nat} (hj : wn_V (wn_w a m (a m + 1)) j) : j = 4 * m + a m ∨ wn_V a j := by
  obtain ⟨h1, h2⟩ := hj
  by_cases z : j / 4 = m
  · rw [z, wn_ws] at h2
    rcases (by omega : j = 4 * m + a m ∨ j % 4 < a m) with y | y
    · exact Or.inl y
    · exact Or.inr ⟨h1, by rw [z]; exact y⟩
  · rw [wn_wo z] at h2
    exact Or.inr ⟨h1, h2⟩
theorem wn_ad_WF {gi gl gd : Nat} (hm : m < 4) (hk : a m < 4) (hF : wn_FO gi gl gd) (hnew : ∀ p, wn_V a p → w p ≠ gi) (hW : wn_WF a w l d c) : wn_WF (wn_w a m (a m + 1)) (wn_w w (4 * m + a m) gi) (wn_w l (4 * m + a m) gl) (wn_w d (4 * m + a m) gd) c := by
  obtain ⟨W1, W2, W3, W4⟩ := hW
  have nv : ∀ p, wn_V a p → p ≠ 4 * m + a m := by
    intro p hp e
    have := hp.2
    rw [e, show (4 * m + a m) / 4 = m by omega] at this
    omega
  refine ⟨?_, ?_, ?_, W4⟩
  · intro n hn
    by_cases z : n = m
    · rw [z, wn_ws]; omega
    · rw [wn_wo z]; exact W1 n hn
  · intro j hj
    by_cases z : j = 4 * m + a m
    · rw [z, wn_ws, wn_ws, wn_ws]; exact hF
    · rw [wn_wo z, wn_wo z, wn_wo z]; exact W2 j hj
  · intro i j hi hj e
    rcases wn_ad_V (v := 0) hi with y1 | y1 <;> rcases wn_ad_V (v := 0) hj with y2 | y2
    · rw [y1, y2]
    · rw [y1, wn_ws, wn_wo (nv j y2)] at e
      exact absurd e.symm (hnew j y2)
    · rw [y2, wn_ws, wn_wo (nv i y1)] at e
      exact absurd e (hnew i y1)
    · rw [wn_wo (nv i y1), wn_wo (nv j y2)] at e
      exact W3 i j y1 y2 e
theorem wn_ad_pl {f : Nat → Nat} {n g : Nat} (hm : m < 4) (hk : a m < 4) (hn : n < 4) (hc : c n < a n) (hc4 : c n < 4) : c n < wn_w a m (a m + 1) n ∧ wn_w f (4 * m + a m) g (4 * n + c n) = f (4 * n + c n) := by
  by_cases z : n = m
  · subst z
    rw [wn_ws]
    exact ⟨by omega, wn_wo (by omega)⟩
  · rw [wn_wo z]
    exact ⟨hc, wn_wo (by omega)⟩
theorem wn_ad_FX {gi gl gd : Nat} (hm : m < 4) (hk : a m < 4) (hW : wn_WF a w l d c) (h : wn_FX on a w l d r c G s fi fl fd t L) : wn_FX on (wn_w a m (a m + 1)) (wn_w w (4 * m + a m) gi) (wn_w l (4 * m + a m) gl) (wn_w d (4 * m + a m) gd) r c G s fi fl fd t L := by
  obtain ⟨⟨h1, h2, h3, h4⟩, ⟨e1, e2, e3⟩, h5, h6, h7, h8⟩ := h
  obtain ⟨W1, W2, W3, W4⟩ := hW
  refine ⟨⟨h1, h2, h3, (wn_ad_pl (f := w) (g := gi) hm hk h1 h4 (W4 s h1)).1⟩, ⟨?_, ?_, ?_⟩, h5, h6, ?_, h8⟩
  · rw [(wn_ad_pl hm hk h1 h4 (W4 s h1)).2]; exact e1
  · rw [(wn_ad_pl hm hk h1 h4 (W4 s h1)).2]; exact e2
  · rw [(wn_ad_pl hm hk h1 h4 (W4 s h1)).2]; exact e3
  · intro n hn hns hr
    obtain ⟨g1, g2, g3, g4⟩ := h7 n hn hns hr
    have := wn_ad_pl (f := w) (g := gi) hm hk hn g1 (W4 n hn)
    rw [this.2]
    exact ⟨this.1, g2, g3, g4⟩
end
end
section
/-! the relation -/
def wn_FR (on : Nat → Int32) (a w l d r c : Nat → Nat) (G : Nat → wn_L) (fr gn lo lp : Int32) : Prop := ∃ s fi fl fd t L, wn_FX on a w l d r c G s fi fl fd t L ∧ fr = nI (4 * s + c s) ∧ gn = nI t ∧ lo = nI (wn_cn fi fl fd 12) ∧ lp = nI (wn_cn fi fl fd (34 + 8 * fl)) ∧ t < wn_cn fi fl fd (34 + 8 * fl) + 10
def wn_R (pn ln tk en : Nat) (sn : Int32) (on sc rc mk vl : Nat → Int32) (a w l d q r c : Nat → Nat) (ii il : Nat → Int32) (ib : Nat → Int64) (mc : Nat → Int32) (G : Nat → wn_L) (fr gn lo lp ie st la yr yk : Int32) (wh : Nat → Int32) (wy : Nat → Int64) : Prop :=
  (en ≤ tk + 1000) ∧ (pn < 4 ∧ ln ≤ 14 ∧ (2 ≤ pn → 1 ≤ ln)) ∧ (∀ n, n < 4 → on n = 0 ∨ on n = 1) ∧ wn_WF a w l d c ∧ (wn_H w l wh ∧ ∀ j, j < 16 → wy j = lN (d j)) ∧ wn_IB (q, ii, il, ib, mc) ∧ (pn ≠ 1 → ∀ n, n < 4 → r n = 0) ∧ (pn = 1 → wn_FR on a w l d r c G fr gn lo lp)
/-- the relation at the head of a turn whose first cell is k -/
def i_Rel (k : Nat) (u : SX) (v : SY) : Prop := ∃ (pn ln tk en : Nat), ∃ (sn : Int32), ∃ (on sc rc mk vl : Nat → Int32), ∃ (a w l d q r c : Nat → Nat), ∃ (ii il : Nat → Int32), ∃ (ib : Nat → Int64), ∃ (mc : Nat → Int32), ∃ (G : Nat → wn_L), ∃ (fr gn lo lp ie st la yr yk : Int32), ∃ (wh : Nat → Int32), ∃ (wy : Nat → Int64),  (u = (nI pn, nI ln, nI tk, sn, nI (en - tk), on, sc, rc, mk, vl, wn_fI a, wn_fI w, wn_fI l, wn_fL d, wn_fI q, ii, il, ib, mc, wn_fI r, wn_fI c, wn_gA G, wn_gB G, wn_gC G, wn_gD G, wn_gE G, wn_gF G, wn_gH G, wn_gI G, wn_gJ G) ∧ v = (nI tk, sn, nI en, nI pn, nI ln, fr, gn, lo, lp, ie, st, la, yr, yk, on, mk, vl, sc, rc, mc, wn_fI a, wh, wy, wn_fI q, wn_hh ii il, ib) ∧ tk ≤ 400 * k ∧ wn_R pn ln tk en sn on sc rc mk vl a w l d q r c ii il ib mc G fr gn lo lp ie st la yr yk wh wy)
theorem wn_in {k : Nat} {pn ln tk en : Nat} {sn : Int32} {on sc rc mk vl : Nat → Int32} {a w l d q r c : Nat → Nat} {ii il : Nat → Int32} {ib : Nat → Int64} {mc : Nat → Int32} {G : Nat → wn_L} {fr gn lo lp ie st la yr yk : Int32} {wh : Nat → Int32} {wy : Nat → Int64} (ht : tk ≤ 400 * k) (h : wn_R pn ln tk en sn on sc rc mk vl a w l d q r c ii il ib mc G fr gn lo lp ie st la yr yk wh wy) : i_Rel k (nI pn, nI ln, nI tk, sn, nI (en - tk), on, sc, rc, mk, vl, wn_fI a, wn_fI w, wn_fI l, wn_fL d, wn_fI q, ii, il, ib, mc, wn_fI r, wn_fI c, wn_gA G, wn_gB G, wn_gC G, wn_gD G, wn_gE G, wn_gF G, wn_gH G, wn_gI G, wn_gJ G) (nI tk, sn, nI en, nI pn, nI ln, fr, gn, lo, lp, ie, st, la, yr, yk, on, mk, vl, sc, rc, mc, wn_fI a, wh, wy, wn_fI q, wn_hh ii il, ib) := ⟨pn, ln, tk, en, sn, on, sc, rc, mk, vl, a, w, l, d, q, r, c, ii, il, ib, mc, G, fr, gn, lo, lp, ie, st, la, yr, yk, wh, wy, rfl, rfl, ht, h⟩
theorem wn_el {k : Nat} {P : SX → SY → Prop} (h : ∀ (pn ln tk en : Nat) (sn : Int32) (on sc rc mk vl : Nat → Int32) (a w l d q r c : Nat → Nat) (ii il : Nat → Int32) (ib : Nat → Int64) (mc : Nat → Int32) (G : Nat → wn_L) (fr gn lo lp ie st la yr yk : Int32) (wh : Nat → Int32) (wy : Nat → Int64), tk ≤ 400 * k → wn_R pn ln tk en sn on sc rc mk vl a w l d q r c ii il ib mc G fr gn lo lp ie st la yr yk wh wy → P (nI pn, nI ln, nI tk, sn, nI (en - tk), on, sc, rc, mk, vl, wn_fI a, wn_fI w, wn_fI l, wn_fL d, wn_fI q, ii, il, ib, mc, wn_fI r, wn_fI c, wn_gA G, wn_gB G, wn_gC G, wn_gD G, wn_gE G, wn_gF G, wn_gH G, wn_gI G, wn_gJ G) (nI tk, sn, nI en, nI pn, nI ln, fr, gn, lo, lp, ie, st, la, yr, yk, on, mk, vl, sc, rc, mc, wn_fI a, wh, wy, wn_fI q, wn_hh ii il, ib)) {u : SX} {v : SY} (I : i_Rel k u v) : P u v :=
  Exists.elim I fun pn I => Exists.elim I fun ln I => Exists.elim I fun tk I => Exists.elim I fun en I => Exists.elim I fun sn I => Exists.elim I fun on I => Exists.elim I fun sc I => Exists.elim I fun rc I => Exists.elim I fun mk I => Exists.elim I fun vl I => Exists.elim I fun a I => Exists.elim I fun w I => Exists.elim I fun l I => Exists.elim I fun d I => Exists.elim I fun q I => Exists.elim I fun r I => Exists.elim I fun c I => Exists.elim I fun ii I => Exists.elim I fun il I => Exists.elim I fun ib I => Exists.elim I fun mc I => Exists.elim I fun G I => Exists.elim I fun fr I => Exists.elim I fun gn I => Exists.elim I fun lo I => Exists.elim I fun lp I => Exists.elim I fun ie I => Exists.elim I fun st I => Exists.elim I fun la I => Exists.elim I fun yr I => Exists.elim I fun yk I => Exists.elim I fun wh I => Exists.elim I fun wy I =>  I.2.1 ▸ I.1 ▸ h pn ln tk en sn on sc rc mk vl a w l d q r c ii il ib mc G fr gn lo lp ie st la yr yk wh wy I.2.2.1 I.2.2.2
theorem i_up {k : Nat} {u : SX} {v : SY} (h : i_Rel k u v) : i_Rel (k + 5) u v :=
  wn_el (P := fun u v => i_Rel (k + 5) u v) (fun pn ln tk en sn on sc rc mk vl a w l d q r c ii il ib mc G fr gn lo lp ie st la yr yk wh wy ht hR => wn_in (by omega) hR) h
/-! the constructors -/
def wn_o1 (i : Nat) : Nat → Int32 := fun n => if n < i then 1 else 0
theorem wn_o1_s (i : Nat) (hi : i < 2 ^ 31) : upd (wn_o1 i) (nI i).toNatClampNeg (vp_nar .boolean 1) = wn_o1 (i + 1) := by
  rw [nI_clamp hi, wn_nb1]
  funext j
  show (if j = i then 1 else if j < i then 1 else 0) = if j < i + 1 then 1 else 0
  by_cases z : j = i
  · rw [if_pos z, if_pos (by omega)]
  · rw [if_neg z]
    by_cases y : j < i
    · rw [if_pos y, if_pos (by omega)]
    · rw [if_neg y, if_neg (by omega)]
section
variable {ph lf ck sn di : Int32} {on sc rc mk vl wc wi wl : Nat → Int32} {wd : Nat → Int64} {ic ii il : Nat → Int32} {ib : Nat → Int64} {mc ro ch pA pB pC pD pE pF : Nat → Int32} {pH : Nat → Int64} {pI pJ : Nat → Int32}
theorem wn_xini {post : SX → Prop} (hp : post (ph, lf, ck, sn, di, wn_o1 4, sc, rc, mk, vl, wc, wi, wl, wd, ic, ii, il, ib, mc, ro, ch, pA, pB, pC, pD, pE, pF, pH, pI, pJ)) : ∀ e i, i + e = 4 → ∀ n, e < n → wX_init_187 post ph lf ck sn di n (nI i) (wn_o1 i) sc rc mk vl wc wi wl wd ic ii il ib mc ro ch pA pB pC pD pE pF pH pI pJ := by
  intro e
  induction e with
  | zero =>
    intro i hi n hn
    obtain ⟨n, rfl⟩ : ∃ j, n = j + 1 := ⟨n - 1, by omega⟩
    rw [show i = 4 by omega]
    exact pk_le 4 4 (fun _ => hp) (fun h => absurd h (by omega)) rfl rfl
  | succ e ih =>
    intro i hi n hn
    obtain ⟨n, rfl⟩ : ∃ j, n = j + 1 := ⟨n - 1, by omega⟩
    exact pk_le 4 i (fun h => absurd h (by omega)) (fun _ => And.intro (pk_in i 4 (by omega)) (nm_r (wn_o1_s i (by omega)) (nm_r (nI_1 i) (ih (i + 1) (by omega) n (by omega))))) rfl rfl
end
section
variable {nw ys da yp rs fr gn lo lp ie st la yr yk : Int32} {yon ymk yvl se re ym ws wh : Nat → Int32} {wy : Nat → Int64} {bx bh : Nat → Int32} {bd : Nat → Int64}
theorem wn_yini {post : SY → Prop} (hp : post (nw, ys, da, yp, rs, fr, gn, lo, lp, ie, st, la, yr, yk, wn_o1 4, ymk, yvl, se, re, ym, ws, wh, wy, bx, bh, bd)) : ∀ e i, i + e = 4 → ∀ n, e < n → wY_init_94 post nw ys da yp rs fr gn lo lp ie st la yr yk n (nI i) (wn_o1 i) ymk yvl se re ym ws wh wy bx bh bd := by
  intro e
  induction e with
  | zero =>
    intro i hi n hn
    obtain ⟨n, rfl⟩ : ∃ j, n = j + 1 := ⟨n - 1, by omega⟩
    rw [show i = 4 by omega]
    exact pk_le 4 4 (fun _ => hp) (fun h => absurd h (by omega)) rfl rfl
  | succ e ih =>
    intro i hi n hn
    obtain ⟨n, rfl⟩ : ∃ j, n = j + 1 := ⟨n - 1, by omega⟩
    exact pk_le 4 i (fun h => absurd h (by omega)) (fun _ => And.intro (pk_in i 4 (by omega)) (nm_r (wn_o1_s i (by omega)) (nm_r (nI_1 i) (ih (i + 1) (by omega) n (by omega))))) rfl rfl
end
theorem wn_hh0 : wn_hh (fun _ => 0) (fun _ => 0) = fun _ => 0 := by
  funext j; show (16 : Int32) * 0 + 0 = 0; decide
theorem wn_o10 : wn_o1 0 = fun _ => 0 := by
  funext j; exact if_neg (by omega)
theorem wn_R0 : wn_R 0 0 0 0 0 (wn_o1 4) (fun _ => 0) (fun _ => 0) (fun _ => 0) (fun _ => 0) (fun _ => 0) (fun _ => 0) (fun _ => 0) (fun _ => 0) (fun _ => 0) (fun _ => 0) (fun _ => 0) (fun _ => 0) (fun _ => 0) (fun _ => 0) (fun _ => 0) (fun _ => (0, 0, 0, 0, 0, 0, 0, 0, 0)) 0 0 0 0 0 0 0 0 0 (fun _ => 0) (fun _ => 0) := by
  refine ⟨by omega, ⟨by omega, by omega, fun h => absurd h (by omega)⟩, ?_, ⟨fun n _ => Nat.zero_le 4, fun j _ => ⟨show 0 < 2048 by decide, show 0 ≤ 8 by decide, show 0 < 2 ^ (8 * 0) by decide⟩, ?_, fun n _ => show 0 < 4 by decide⟩, ⟨fun j _ => rfl, fun j _ => rfl⟩, ⟨fun n _ => Nat.zero_le 6, ?_⟩, fun _ n _ => rfl, fun h => absurd h (by decide)⟩
  · intro n hn
    exact Or.inr (if_pos hn)
  · intro i j hi _ _
    exact absurd hi.2 (Nat.not_lt_zero _)
  · intro j
    show ¬ wn_hh (fun _ => 0) (fun _ => 0) j < 0
    rw [wn_hh0]; show ¬ (0 : Int32) < 0; decide
theorem wn_R0' : i_Rel 0 (nI 0, nI 0, nI 0, 0, nI (0 - 0), wn_o1 4, fun _ => 0, fun _ => 0, fun _ => 0, fun _ => 0, wn_fI (fun _ => 0), wn_fI (fun _ => 0), wn_fI (fun _ => 0), wn_fL (fun _ => 0), wn_fI (fun _ => 0), fun _ => 0, fun _ => 0, fun _ => 0, fun _ => 0, wn_fI (fun _ => 0), wn_fI (fun _ => 0), wn_gA (fun _ => (0, 0, 0, 0, 0, 0, 0, 0, 0)), wn_gB (fun _ => (0, 0, 0, 0, 0, 0, 0, 0, 0)), wn_gC (fun _ => (0, 0, 0, 0, 0, 0, 0, 0, 0)), wn_gD (fun _ => (0, 0, 0, 0, 0, 0, 0, 0, 0)), wn_gE (fun _ => (0, 0, 0, 0, 0, 0, 0, 0, 0)), wn_gF (fun _ => (0, 0, 0, 0, 0, 0, 0, 0, 0)), wn_gH (fun _ => (0, 0, 0, 0, 0, 0, 0, 0, 0)), wn_gI (fun _ => (0, 0, 0, 0, 0, 0, 0, 0, 0)), wn_gJ (fun _ => (0, 0, 0, 0, 0, 0, 0, 0, 0))) (nI 0, 0, nI 0, nI 0, nI 0, 0, 0, 0, 0, 0, 0, 0, 0, 0, wn_o1 4, fun _ => 0, fun _ => 0, fun _ => 0, fun _ => 0, fun _ => 0, wn_fI (fun _ => 0), fun _ => 0, fun _ => 0, wn_fI (fun _ => 0), wn_hh (fun _ => 0) (fun _ => 0), fun _ => 0) :=
  wn_in (by omega) wn_R0
theorem i_vc0 : wpX_init (fun u => wpY_init (fun v => i_Rel 0 u v)) := by
  have R := wn_R0'
  rw [wn_hh0] at R
  have hY : wpY_init (fun v => i_Rel 0 (nI 0, nI 0, nI 0, 0, nI (0 - 0), wn_o1 4, fun _ => 0, fun _ => 0, fun _ => 0, fun _ => 0, wn_fI (fun _ => 0), wn_fI (fun _ => 0), wn_fI (fun _ => 0), wn_fL (fun _ => 0), wn_fI (fun _ => 0), fun _ => 0, fun _ => 0, fun _ => 0, fun _ => 0, wn_fI (fun _ => 0), wn_fI (fun _ => 0), wn_gA (fun _ => (0, 0, 0, 0, 0, 0, 0, 0, 0)), wn_gB (fun _ => (0, 0, 0, 0, 0, 0, 0, 0, 0)), wn_gC (fun _ => (0, 0, 0, 0, 0, 0, 0, 0, 0)), wn_gD (fun _ => (0, 0, 0, 0, 0, 0, 0, 0, 0)), wn_gE (fun _ => (0, 0, 0, 0, 0, 0, 0, 0, 0)), wn_gF (fun _ => (0, 0, 0, 0, 0, 0, 0, 0, 0)), wn_gH (fun _ => (0, 0, 0, 0, 0, 0, 0, 0, 0)), wn_gI (fun _ => (0, 0, 0, 0, 0, 0, 0, 0, 0)), wn_gJ (fun _ => (0, 0, 0, 0, 0, 0, 0, 0, 0))) v) := by
    have := wn_yini (post := fun v => i_Rel 0 (nI 0, nI 0, nI 0, 0, nI (0 - 0), wn_o1 4, fun _ => 0, fun _ => 0, fun _ => 0, fun _ => 0, wn_fI (fun _ => 0), wn_fI (fun _ => 0), wn_fI (fun _ => 0), wn_fL (fun _ => 0), wn_fI (fun _ => 0), fun _ => 0, fun _ => 0, fun _ => 0, fun _ => 0, wn_fI (fun _ => 0), wn_fI (fun _ => 0), wn_gA (fun _ => (0, 0, 0, 0, 0, 0, 0, 0, 0)), wn_gB (fun _ => (0, 0, 0, 0, 0, 0, 0, 0, 0)), wn_gC (fun _ => (0, 0, 0, 0, 0, 0, 0, 0, 0)), wn_gD (fun _ => (0, 0, 0, 0, 0, 0, 0, 0, 0)), wn_gE (fun _ => (0, 0, 0, 0, 0, 0, 0, 0, 0)), wn_gF (fun _ => (0, 0, 0, 0, 0, 0, 0, 0, 0)), wn_gH (fun _ => (0, 0, 0, 0, 0, 0, 0, 0, 0)), wn_gI (fun _ => (0, 0, 0, 0, 0, 0, 0, 0, 0)), wn_gJ (fun _ => (0, 0, 0, 0, 0, 0, 0, 0, 0))) v) R 4 0 (by omega) 5 (by omega)
    rw [wn_o10] at this
    exact ⟨5, this⟩
  have := wn_xini (post := fun u => wpY_init (fun v => i_Rel 0 u v)) hY 4 0 (by omega) 5 (by omega)
  rw [wn_o10] at this
  exact ⟨5, this⟩
end
section
/-! the small calls -/
def wn_bad (v : Int32) : Prop := v < 0 ∨ (¬ v < 0 ∧ 4 ≤ v)
theorem wn_node (v : Int32) : wn_bad v ∨ ∃ n, n < 4 ∧ v = nI n := by
  by_cases z : v < 0
  · exact Or.inl (Or.inl z)
  · rcases pk_ix v (n := 4) (by decide) with h | h | h
    · exact Or.inl (Or.inl h)
    · exact Or.inl (Or.inr ⟨z, h⟩)
    · exact Or.inr h
def wn_bid (v : Int32) : Prop := v < 0 ∨ (¬ v < 0 ∧ 2048 ≤ v)
theorem wn_idc (v : Int32) : wn_bid v ∨ ∃ n, n < 2048 ∧ v = nI n := by
  by_cases z : v < 0
  · exact Or.inl (Or.inl z)
  · rcases pk_ix v (n := 2048) (by decide) with h | h | h
    · exact Or.inl (Or.inl h)
    · exact Or.inl (Or.inr ⟨z, h⟩)
    · exact Or.inr h
theorem wn_xn0 {post : Int32 → Prop} {v : Int32} (h : wn_bad v) (hp : post 0) : wpX_isNode post v := by
  rcases h with h | ⟨h, h2⟩
  · exact br_t h hp
  · exact br_f h (br_t h2 hp)
theorem wn_xn1 {post : Int32 → Prop} {n : Nat} (h : n < 4) (hp : post 1) : wpX_isNode post (nI n) :=
  br_f (nI_pos (by omega)) (br_f (nI_ge (b := 4) h (by decide)) hp)
theorem wn_xe0 {post : Int32 → Prop} {v : Int32} (h : wn_bid v) (hp : post 0) : wpX_isElevenBits post v := by
  rcases h with h | ⟨h, h2⟩
  · exact br_t h hp
  · exact br_f h (br_t h2 hp)
theorem wn_xe1 {post : Int32 → Prop} {n : Nat} (h : n < 2048) (hp : post 1) : wpX_isElevenBits post (nI n) :=
  br_f (nI_pos (by omega)) (br_f (nI_ge (b := 2048) h (by decide)) hp)
theorem wn_gt {v : Int32} {m : Nat} (hm : m < 100000) (h : nI (m + 1) ≤ v) : ¬ v ≤ nI m := by
  rw [Int32.le_iff_toInt_le, nI_toInt (by omega)] at *
  omega
section
variable {nw ys da yp rs fr gn lo lp ie st la yr yk : Int32} {yon ymk yvl se re ym ws wh : Nat → Int32} {wy : Nat → Int64} {bx bh : Nat → Int32} {bd : Nat → Int64}
theorem wn_yn1 {post : Int32 → Prop} {v : Int32} (h : wn_bad v) (hp : post 1) : wpY_badNode post (nw, ys, da, yp, rs, fr, gn, lo, lp, ie, st, la, yr, yk, yon, ymk, yvl, se, re, ym, ws, wh, wy, bx, bh, bd) v := by
  rcases h with h | ⟨h, h2⟩
  · exact br_t h hp
  · exact br_f h (br_f (wn_gt (m := 3) (by decide) h2) hp)
theorem wn_yn0 {post : Int32 → Prop} {n : Nat} (h : n < 4) (hp : post 0) : wpY_badNode post (nw, ys, da, yp, rs, fr, gn, lo, lp, ie, st, la, yr, yk, yon, ymk, yvl, se, re, ym, ws, wh, wy, bx, bh, bd) (nI n) :=
  br_f (nI_pos (by omega)) (br_t (nI_le (b := 3) (by omega) (by decide)) hp)
theorem wn_ye1 {post : Int32 → Prop} {v : Int32} (h : wn_bid v) (hp : post 1) : wpY_badId post (nw, ys, da, yp, rs, fr, gn, lo, lp, ie, st, la, yr, yk, yon, ymk, yvl, se, re, ym, ws, wh, wy, bx, bh, bd) v := by
  rcases h with h | ⟨h, h2⟩
  · exact br_t h hp
  · exact br_f h (br_f (wn_gt (m := 2047) (by decide) h2) hp)
theorem wn_ye0 {post : Int32 → Prop} {n : Nat} (h : n < 2048) (hp : post 0) : wpY_badId post (nw, ys, da, yp, rs, fr, gn, lo, lp, ie, st, la, yr, yk, yon, ymk, yvl, se, re, ym, ws, wh, wy, bx, bh, bd) (nI n) :=
  br_f (nI_pos (by omega)) (br_t (nI_le (b := 2047) (by omega) (by decide)) hp)
end
theorem i_vc_sendErrors {k : Nat} {u : SX} {v : SY} (I : i_Rel k u v) (hk : k + 5 ≤ 2560) (v1 : Int32) : wpX_sendErrors (fun r => wpY_sendErrors (fun r' => r' = r ∧ i_Rel (k + 5) u v) v v1) u v1 := by
  refine wn_el (P := fun u v => wpX_sendErrors (fun r => wpY_sendErrors (fun r' => r' = r ∧ i_Rel (k + 5) u v) v v1) u v1) ?_ I
  intro pn ln tk en sn on sc rc mk vl a w l d q r c ii il ib mc G fr gn lo lp ie st la yr yk wh wy ht hR
  have J : i_Rel (k + 5) (nI pn, nI ln, nI tk, sn, nI (en - tk), on, sc, rc, mk, vl, wn_fI a, wn_fI w, wn_fI l, wn_fL d, wn_fI q, ii, il, ib, mc, wn_fI r, wn_fI c, wn_gA G, wn_gB G, wn_gC G, wn_gD G, wn_gE G, wn_gF G, wn_gH G, wn_gI G, wn_gJ G) (nI tk, sn, nI en, nI pn, nI ln, fr, gn, lo, lp, ie, st, la, yr, yk, on, mk, vl, sc, rc, mc, wn_fI a, wh, wy, wn_fI q, wn_hh ii il, ib) := wn_in (by omega) hR
  unfold wpX_sendErrors wpY_sendErrors
  rcases wn_node v1 with hb | ⟨n, hn, rfl⟩
  · exact wn_xn0 hb (br_t rfl (wn_yn1 hb (br_f (by decide) ⟨rfl, J⟩)))
  · exact wn_xn1 hn (br_f (by decide) (And.intro (vp_in_nI (by omega) (by decide)) (wn_yn0 hn (br_t rfl (And.intro (vp_in_nI (by omega) (by decide)) ⟨rfl, J⟩)))))
theorem i_vc_receiveErrors {k : Nat} {u : SX} {v : SY} (I : i_Rel k u v) (hk : k + 5 ≤ 2560) (v1 : Int32) : wpX_receiveErrors (fun r => wpY_receiveErrors (fun r' => r' = r ∧ i_Rel (k + 5) u v) v v1) u v1 := by
  refine wn_el (P := fun u v => wpX_receiveErrors (fun r => wpY_receiveErrors (fun r' => r' = r ∧ i_Rel (k + 5) u v) v v1) u v1) ?_ I
  intro pn ln tk en sn on sc rc mk vl a w l d q r c ii il ib mc G fr gn lo lp ie st la yr yk wh wy ht hR
  have J : i_Rel (k + 5) (nI pn, nI ln, nI tk, sn, nI (en - tk), on, sc, rc, mk, vl, wn_fI a, wn_fI w, wn_fI l, wn_fL d, wn_fI q, ii, il, ib, mc, wn_fI r, wn_fI c, wn_gA G, wn_gB G, wn_gC G, wn_gD G, wn_gE G, wn_gF G, wn_gH G, wn_gI G, wn_gJ G) (nI tk, sn, nI en, nI pn, nI ln, fr, gn, lo, lp, ie, st, la, yr, yk, on, mk, vl, sc, rc, mc, wn_fI a, wh, wy, wn_fI q, wn_hh ii il, ib) := wn_in (by omega) hR
  unfold wpX_receiveErrors wpY_receiveErrors
  rcases wn_node v1 with hb | ⟨n, hn, rfl⟩
  · exact wn_xn0 hb (br_t rfl (wn_yn1 hb (br_f (by decide) ⟨rfl, J⟩)))
  · exact wn_xn1 hn (br_f (by decide) (And.intro (vp_in_nI (by omega) (by decide)) (wn_yn0 hn (br_t rfl (And.intro (vp_in_nI (by omega) (by decide)) ⟨rfl, J⟩)))))
theorem i_vc_waiting {k : Nat} {u : SX} {v : SY} (I : i_Rel k u v) (hk : k + 5 ≤ 2560) (v1 : Int32) : wpX_waiting (fun r => wpY_waiting (fun r' => r' = r ∧ i_Rel (k + 5) u v) v v1) u v1 := by
  refine wn_el (P := fun u v => wpX_waiting (fun r => wpY_waiting (fun r' => r' = r ∧ i_Rel (k + 5) u v) v v1) u v1) ?_ I
  intro pn ln tk en sn on sc rc mk vl a w l d q r c ii il ib mc G fr gn lo lp ie st la yr yk wh wy ht hR
  have J : i_Rel (k + 5) (nI pn, nI ln, nI tk, sn, nI (en - tk), on, sc, rc, mk, vl, wn_fI a, wn_fI w, wn_fI l, wn_fL d, wn_fI q, ii, il, ib, mc, wn_fI r, wn_fI c, wn_gA G, wn_gB G, wn_gC G, wn_gD G, wn_gE G, wn_gF G, wn_gH G, wn_gI G, wn_gJ G) (nI tk, sn, nI en, nI pn, nI ln, fr, gn, lo, lp, ie, st, la, yr, yk, on, mk, vl, sc, rc, mc, wn_fI a, wh, wy, wn_fI q, wn_hh ii il, ib) := wn_in (by omega) hR
  unfold wpX_waiting wpY_waiting
  rcases wn_node v1 with hb | ⟨n, hn, rfl⟩
  · exact wn_xn0 hb (br_t rfl (wn_yn1 hb (br_f (by decide) ⟨rfl, J⟩)))
  · exact wn_xn1 hn (br_f (by decide) (And.intro (vp_in_nI (by omega) (by decide)) (wn_yn0 hn (br_t rfl (And.intro (vp_in_nI (by omega) (by decide)) ⟨rfl, J⟩)))))
theorem i_vc_received {k : Nat} {u : SX} {v : SY} (I : i_Rel k u v) (hk : k + 5 ≤ 2560) (v1 : Int32) : wpX_received (fun r => wpY_received (fun r' => r' = r ∧ i_Rel (k + 5) u v) v v1) u v1 := by
  refine wn_el (P := fun u v => wpX_received (fun r => wpY_received (fun r' => r' = r ∧ i_Rel (k + 5) u v) v v1) u v1) ?_ I
  intro pn ln tk en sn on sc rc mk vl a w l d q r c ii il ib mc G fr gn lo lp ie st la yr yk wh wy ht hR
  have J : i_Rel (k + 5) (nI pn, nI ln, nI tk, sn, nI (en - tk), on, sc, rc, mk, vl, wn_fI a, wn_fI w, wn_fI l, wn_fL d, wn_fI q, ii, il, ib, mc, wn_fI r, wn_fI c, wn_gA G, wn_gB G, wn_gC G, wn_gD G, wn_gE G, wn_gF G, wn_gH G, wn_gI G, wn_gJ G) (nI tk, sn, nI en, nI pn, nI ln, fr, gn, lo, lp, ie, st, la, yr, yk, on, mk, vl, sc, rc, mc, wn_fI a, wh, wy, wn_fI q, wn_hh ii il, ib) := wn_in (by omega) hR
  unfold wpX_received wpY_received
  rcases wn_node v1 with hb | ⟨n, hn, rfl⟩
  · exact wn_xn0 hb (br_t rfl (wn_yn1 hb (br_f (by decide) ⟨rfl, J⟩)))
  · exact wn_xn1 hn (br_f (by decide) (And.intro (vp_in_nI (by omega) (by decide)) (wn_yn0 hn (br_t rfl (And.intro (vp_in_nI (by omega) (by decide)) ⟨rfl, J⟩)))))
theorem i_vc_missed {k : Nat} {u : SX} {v : SY} (I : i_Rel k u v) (hk : k + 5 ≤ 2560) (v1 : Int32) : wpX_missed (fun r => wpY_missed (fun r' => r' = r ∧ i_Rel (k + 5) u v) v v1) u v1 := by
  refine wn_el (P := fun u v => wpX_missed (fun r => wpY_missed (fun r' => r' = r ∧ i_Rel (k + 5) u v) v v1) u v1) ?_ I
  intro pn ln tk en sn on sc rc mk vl a w l d q r c ii il ib mc G fr gn lo lp ie st la yr yk wh wy ht hR
  have J : i_Rel (k + 5) (nI pn, nI ln, nI tk, sn, nI (en - tk), on, sc, rc, mk, vl, wn_fI a, wn_fI w, wn_fI l, wn_fL d, wn_fI q, ii, il, ib, mc, wn_fI r, wn_fI c, wn_gA G, wn_gB G, wn_gC G, wn_gD G, wn_gE G, wn_gF G, wn_gH G, wn_gI G, wn_gJ G) (nI tk, sn, nI en, nI pn, nI ln, fr, gn, lo, lp, ie, st, la, yr, yk, on, mk, vl, sc, rc, mc, wn_fI a, wh, wy, wn_fI q, wn_hh ii il, ib) := wn_in (by omega) hR
  unfold wpX_missed wpY_missed
  rcases wn_node v1 with hb | ⟨n, hn, rfl⟩
  · exact wn_xn0 hb (br_t rfl (wn_yn1 hb (br_f (by decide) ⟨rfl, J⟩)))
  · exact wn_xn1 hn (br_f (by decide) (And.intro (vp_in_nI (by omega) (by decide)) (wn_yn0 hn (br_t rfl (And.intro (vp_in_nI (by omega) (by decide)) ⟨rfl, J⟩)))))
theorem i_vc_isOn {k : Nat} {u : SX} {v : SY} (I : i_Rel k u v) (hk : k + 5 ≤ 2560) (v1 : Int32) : wpX_isOn (fun r => wpY_isOn (fun r' => r' = r ∧ i_Rel (k + 5) u v) v v1) u v1 := by
  refine wn_el (P := fun u v => wpX_isOn (fun r => wpY_isOn (fun r' => r' = r ∧ i_Rel (k + 5) u v) v v1) u v1) ?_ I
  intro pn ln tk en sn on sc rc mk vl a w l d q r c ii il ib mc G fr gn lo lp ie st la yr yk wh wy ht hR
  have J : i_Rel (k + 5) (nI pn, nI ln, nI tk, sn, nI (en - tk), on, sc, rc, mk, vl, wn_fI a, wn_fI w, wn_fI l, wn_fL d, wn_fI q, ii, il, ib, mc, wn_fI r, wn_fI c, wn_gA G, wn_gB G, wn_gC G, wn_gD G, wn_gE G, wn_gF G, wn_gH G, wn_gI G, wn_gJ G) (nI tk, sn, nI en, nI pn, nI ln, fr, gn, lo, lp, ie, st, la, yr, yk, on, mk, vl, sc, rc, mc, wn_fI a, wh, wy, wn_fI q, wn_hh ii il, ib) := wn_in (by omega) hR
  unfold wpX_isOn wpY_isOn
  rcases wn_node v1 with hb | ⟨n, hn, rfl⟩
  · exact wn_xn0 hb (br_t rfl (wn_yn1 hb (br_f (by decide) ⟨rfl, J⟩)))
  · have v4 : vp_in (nI n) 4 := vp_in_nI (by omega) (by decide)
    exact wn_xn1 hn (br_f (by decide) (And.intro v4 (br_c (fun z => wn_yn0 hn (br_t rfl (And.intro v4 (br_t z ⟨rfl, J⟩)))) (fun z => wn_yn0 hn (br_t rfl (And.intro v4 (br_f z ⟨rfl, J⟩)))))))
theorem i_vc_time {k : Nat} {u : SX} {v : SY} (I : i_Rel k u v) (hk : k + 5 ≤ 2560) : wpX_time (fun r => wpY_time (fun r' => r' = r ∧ i_Rel (k + 5) u v) v) u := by
  refine wn_el (P := fun u v => wpX_time (fun r => wpY_time (fun r' => r' = r ∧ i_Rel (k + 5) u v) v) u) ?_ I
  intro pn ln tk en sn on sc rc mk vl a w l d q r c ii il ib mc G fr gn lo lp ie st la yr yk wh wy ht hR
  have J : i_Rel (k + 5) (nI pn, nI ln, nI tk, sn, nI (en - tk), on, sc, rc, mk, vl, wn_fI a, wn_fI w, wn_fI l, wn_fL d, wn_fI q, ii, il, ib, mc, wn_fI r, wn_fI c, wn_gA G, wn_gB G, wn_gC G, wn_gD G, wn_gE G, wn_gF G, wn_gH G, wn_gI G, wn_gJ G) (nI tk, sn, nI en, nI pn, nI ln, fr, gn, lo, lp, ie, st, la, yr, yk, on, mk, vl, sc, rc, mc, wn_fI a, wh, wy, wn_fI q, wn_hh ii il, ib) := wn_in (by omega) hR
  exact And.intro rfl J
theorem i_vc_wire {k : Nat} {u : SX} {v : SY} (I : i_Rel k u v) (hk : k + 5 ≤ 2560) : wpX_wire (fun r => wpY_wire (fun r' => r' = r ∧ i_Rel (k + 5) u v) v) u := by
  refine wn_el (P := fun u v => wpX_wire (fun r => wpY_wire (fun r' => r' = r ∧ i_Rel (k + 5) u v) v) u) ?_ I
  intro pn ln tk en sn on sc rc mk vl a w l d q r c ii il ib mc G fr gn lo lp ie st la yr yk wh wy ht hR
  have J : i_Rel (k + 5) (nI pn, nI ln, nI tk, sn, nI (en - tk), on, sc, rc, mk, vl, wn_fI a, wn_fI w, wn_fI l, wn_fL d, wn_fI q, ii, il, ib, mc, wn_fI r, wn_fI c, wn_gA G, wn_gB G, wn_gC G, wn_gD G, wn_gE G, wn_gF G, wn_gH G, wn_gI G, wn_gJ G) (nI tk, sn, nI en, nI pn, nI ln, fr, gn, lo, lp, ie, st, la, yr, yk, on, mk, vl, sc, rc, mc, wn_fI a, wh, wy, wn_fI q, wn_hh ii il, ib) := wn_in (by omega) hR
  exact And.intro rfl J
theorem i_vc_sent {k : Nat} {u : SX} {v : SY} (I : i_Rel k u v) (hk : k + 5 ≤ 2560) : wpX_sent (fun r => wpY_sent (fun r' => r' = r ∧ i_Rel (k + 5) u v) v) u := by
  refine wn_el (P := fun u v => wpX_sent (fun r => wpY_sent (fun r' => r' = r ∧ i_Rel (k + 5) u v) v) u) ?_ I
  intro pn ln tk en sn on sc rc mk vl a w l d q r c ii il ib mc G fr gn lo lp ie st la yr yk wh wy ht hR
  have J : i_Rel (k + 5) (nI pn, nI ln, nI tk, sn, nI (en - tk), on, sc, rc, mk, vl, wn_fI a, wn_fI w, wn_fI l, wn_fL d, wn_fI q, ii, il, ib, mc, wn_fI r, wn_fI c, wn_gA G, wn_gB G, wn_gC G, wn_gD G, wn_gE G, wn_gF G, wn_gH G, wn_gI G, wn_gJ G) (nI tk, sn, nI en, nI pn, nI ln, fr, gn, lo, lp, ie, st, la, yr, yk, on, mk, vl, sc, rc, mc, wn_fI a, wh, wy, wn_fI q, wn_hh ii il, ib) := wn_in (by omega) hR
  exact And.intro rfl J
theorem i_vc_filter {k : Nat} {u : SX} {v : SY} (I : i_Rel k u v) (hk : k + 5 ≤ 2560) (v1 : Int32) (v2 : Int32) (v3 : Int32) : wpX_filter (fun r u' => wpY_filter (fun r' v' => r' = r ∧ i_Rel (k + 5) u' v') v v1 v2 v3) u v1 v2 v3 := by
  refine wn_el (P := fun u v => wpX_filter (fun r u' => wpY_filter (fun r' v' => r' = r ∧ i_Rel (k + 5) u' v') v v1 v2 v3) u v1 v2 v3) ?_ I
  intro pn ln tk en sn on sc rc mk vl a w l d q r c ii il ib mc G fr gn lo lp ie st la yr yk wh wy ht hR
  have J : i_Rel (k + 5) (nI pn, nI ln, nI tk, sn, nI (en - tk), on, sc, rc, mk, vl, wn_fI a, wn_fI w, wn_fI l, wn_fL d, wn_fI q, ii, il, ib, mc, wn_fI r, wn_fI c, wn_gA G, wn_gB G, wn_gC G, wn_gD G, wn_gE G, wn_gF G, wn_gH G, wn_gI G, wn_gJ G) (nI tk, sn, nI en, nI pn, nI ln, fr, gn, lo, lp, ie, st, la, yr, yk, on, mk, vl, sc, rc, mc, wn_fI a, wh, wy, wn_fI q, wn_hh ii il, ib) := wn_in (by omega) hR
  unfold wpX_filter wpY_filter
  rcases wn_node v1 with hb | ⟨n, hn, rfl⟩
  · exact wn_xn0 hb (br_t rfl (wn_yn1 hb (br_f (by decide) ⟨rfl, J⟩)))
  · have v4 : vp_in (nI n) 4 := vp_in_nI (by omega) (by decide)
    refine wn_xn1 hn (br_f (by decide) ?_)
    rcases wn_idc v2 with hb | ⟨m, hm, rfl⟩
    · exact wn_xe0 hb (br_t rfl (wn_yn0 hn (br_t rfl (wn_ye1 hb (br_f (by decide) ⟨rfl, J⟩)))))
    · refine wn_xe1 hm (br_f (by decide) ?_)
      rcases wn_idc v3 with hb | ⟨m', hm', rfl⟩
      · exact wn_xe0 hb (br_t rfl (wn_yn0 hn (br_t rfl (wn_ye0 hm (br_t rfl (wn_ye1 hb (br_f (by decide) ⟨rfl, J⟩)))))))
      · refine wn_xe1 hm' (br_f (by decide) (And.intro v4 (nm_e (And.intro v4 (nm_e ?_)))))
        refine wn_yn0 hn (br_t rfl (wn_ye0 hm (br_t rfl (wn_ye0 hm' (br_t rfl (And.intro v4 (nm_e (And.intro v4 (nm_e ⟨rfl, ?_⟩)))))))))
        exact wn_in (by omega) (id hR : wn_R pn ln tk en sn on sc rc (upd mk (nI n).toNatClampNeg (nI m)) (upd vl (nI n).toNatClampNeg (nI m')) a w l d q r c ii il ib mc G fr gn lo lp ie st la yr yk wh wy)
theorem i_vc_restart {k : Nat} {u : SX} {v : SY} (I : i_Rel k u v) (hk : k + 5 ≤ 2560) (v1 : Int32) : wpX_restart (fun r u' => wpY_restart (fun r' v' => r' = r ∧ i_Rel (k + 5) u' v') v v1) u v1 := by
  refine wn_el (P := fun u v => wpX_restart (fun r u' => wpY_restart (fun r' v' => r' = r ∧ i_Rel (k + 5) u' v') v v1) u v1) ?_ I
  intro pn ln tk en sn on sc rc mk vl a w l d q r c ii il ib mc G fr gn lo lp ie st la yr yk wh wy ht hR
  have J : i_Rel (k + 5) (nI pn, nI ln, nI tk, sn, nI (en - tk), on, sc, rc, mk, vl, wn_fI a, wn_fI w, wn_fI l, wn_fL d, wn_fI q, ii, il, ib, mc, wn_fI r, wn_fI c, wn_gA G, wn_gB G, wn_gC G, wn_gD G, wn_gE G, wn_gF G, wn_gH G, wn_gI G, wn_gJ G) (nI tk, sn, nI en, nI pn, nI ln, fr, gn, lo, lp, ie, st, la, yr, yk, on, mk, vl, sc, rc, mc, wn_fI a, wh, wy, wn_fI q, wn_hh ii il, ib) := wn_in (by omega) hR
  have hR' := hR
  obtain ⟨h1, h2, h3, h4, h5, h6, h7, h8⟩ := hR'
  unfold wpX_restart wpY_restart
  rcases wn_node v1 with hb | ⟨n, hn, rfl⟩
  · exact wn_xn0 hb (br_t rfl (wn_yn1 hb (br_f (by decide) ⟨rfl, J⟩)))
  · have v4 : vp_in (nI n) 4 := vp_in_nI (by omega) (by decide)
    have cl : (nI n).toNatClampNeg = n := nI_clamp (by omega)
    have hpn : pn < 2 ^ 31 := by omega
    refine wn_xn1 hn (br_f (by decide) (pk_eq pn 1 (fun z1 => ?_) (fun z1 => pk_eq pn 2 (fun z2 => ?_) (fun z2 => And.intro v4 ?_) rfl rfl) rfl rfl))
    · exact wn_yn0 hn (br_t rfl (pk_eq pn 1 (fun _ => ⟨rfl, J⟩) (fun z => absurd z1 z) rfl rfl))
    · exact wn_yn0 hn (br_t rfl (pk_eq pn 1 (fun z => absurd z z1) (fun _ => pk_eq pn 2 (fun _ => ⟨rfl, J⟩) (fun z => absurd z2 z) rfl rfl) rfl rfl))
    · have K : i_Rel (k + 5) (nI pn, nI ln, nI tk, sn, nI (en - tk), upd on n 1, upd sc n 0, upd rc n 0, mk, vl, wn_fI a, wn_fI w, wn_fI l, wn_fL d, wn_fI q, ii, il, ib, mc, wn_fI r, wn_fI c, wn_gA G, wn_gB G, wn_gC G, wn_gD G, wn_gE G, wn_gF G, wn_gH G, wn_gI G, wn_gJ G) (nI tk, sn, nI en, nI pn, nI ln, fr, gn, lo, lp, ie, st, la, yr, yk, upd on n 1, mk, vl, upd sc n 0, upd rc n 0, mc, wn_fI a, wh, wy, wn_fI q, wn_hh ii il, ib) := by
        refine wn_in (by omega) ⟨h1, h2, ?_, h4, h5, h6, h7, fun z => absurd z z1⟩
        intro m hm
        by_cases y : m = n
        · rw [y, pk_us]; exact Or.inr rfl
        · rw [pk_un y]; exact h3 m hm
      have e1 : upd on (nI n).toNatClampNeg (vp_nar .boolean 1) = upd on n 1 := by rw [cl, wn_nb1]
      have e2 : upd sc (nI n).toNatClampNeg 0 = upd sc n 0 := by rw [cl]
      have e3 : upd rc (nI n).toNatClampNeg 0 = upd rc n 0 := by rw [cl]
      refine br_c (fun y => And.intro v4 (nm_r e1 (And.intro v4 (nm_r e2 (And.intro v4 (nm_r e3 ?_)))))) (fun y => And.intro v4 (nm_r e1 (And.intro v4 (nm_r e2 (And.intro v4 (nm_r e3 ?_))))))
      · exact wn_yn0 hn (br_t rfl (pk_eq pn 1 (fun z => absurd z z1) (fun _ => pk_eq pn 2 (fun z => absurd z z2) (fun _ => And.intro v4 (nm_e (And.intro v4 (nm_r e1 (And.intro v4 (nm_r e2 (And.intro v4 (nm_r e3 (br_t y ⟨rfl, K⟩))))))))) rfl rfl) rfl rfl))
      · exact wn_yn0 hn (br_t rfl (pk_eq pn 1 (fun z => absurd z z1) (fun _ => pk_eq pn 2 (fun z => absurd z z2) (fun _ => And.intro v4 (nm_e (And.intro v4 (nm_r e1 (And.intro v4 (nm_r e2 (And.intro v4 (nm_r e3 (br_f y ⟨rfl, K⟩))))))))) rfl rfl) rfl rfl))
theorem i_vc_disturb {k : Nat} {u : SX} {v : SY} (I : i_Rel k u v) (hk : k + 5 ≤ 2560) (v1 : Int32) : wpX_disturb (fun r u' => wpY_disturb (fun r' v' => r' = r ∧ i_Rel (k + 5) u' v') v v1) u v1 := by
  refine wn_el (P := fun u v => wpX_disturb (fun r u' => wpY_disturb (fun r' v' => r' = r ∧ i_Rel (k + 5) u' v') v v1) u v1) ?_ I
  intro pn ln tk en sn on sc rc mk vl a w l d q r c ii il ib mc G fr gn lo lp ie st la yr yk wh wy ht hR
  have J : i_Rel (k + 5) (nI pn, nI ln, nI tk, sn, nI (en - tk), on, sc, rc, mk, vl, wn_fI a, wn_fI w, wn_fI l, wn_fL d, wn_fI q, ii, il, ib, mc, wn_fI r, wn_fI c, wn_gA G, wn_gB G, wn_gC G, wn_gD G, wn_gE G, wn_gF G, wn_gH G, wn_gI G, wn_gJ G) (nI tk, sn, nI en, nI pn, nI ln, fr, gn, lo, lp, ie, st, la, yr, yk, on, mk, vl, sc, rc, mc, wn_fI a, wh, wy, wn_fI q, wn_hh ii il, ib) := wn_in (by omega) hR
  obtain ⟨h1, h2, h3, h4, h5, h6, h7, h8⟩ := hR
  by_cases z1 : v1 < 1
  · exact br_t z1 (br_t z1 ⟨rfl, J⟩)
  · by_cases z2 : v1 ≤ 1000
    · have n0 : ¬ v1 < 0 := by
        intro y
        exact z1 (Int32.lt_trans y (by decide))
      obtain ⟨n, hn, rfl⟩ := nI_of n0
      have hn2 : n ≤ 1000 := (nI_leI (b := 1000) hn (by decide)).mp z2
      have e : nI tk + nI n = nI (tk + n) := nI_add _ _
      have K : i_Rel (k + 5) (nI pn, nI ln, nI tk, sn, nI ((tk + n) - tk), on, sc, rc, mk, vl, wn_fI a, wn_fI w, wn_fI l, wn_fL d, wn_fI q, ii, il, ib, mc, wn_fI r, wn_fI c, wn_gA G, wn_gB G, wn_gC G, wn_gD G, wn_gE G, wn_gF G, wn_gH G, wn_gI G, wn_gJ G) (nI tk, sn, nI (tk + n), nI pn, nI ln, fr, gn, lo, lp, ie, st, la, yr, yk, on, mk, vl, sc, rc, mc, wn_fI a, wh, wy, wn_fI q, wn_hh ii il, ib) := wn_in (by omega) ⟨by omega, h2, h3, h4, h5, h6, h7, h8⟩
      rw [Nat.add_sub_cancel_left] at K
      exact br_f z1 (br_t z2 (br_f z1 (br_t z2 (nm_r e ⟨rfl, K⟩))))
    · exact br_f z1 (br_f z2 (br_f z1 (br_f z2 ⟨rfl, J⟩)))
end
section
/-! the inboxes -/
/-- no such place -/
def wn_out (qn : Nat) (v : Int32) : Prop := v < 0 ∨ ∃ i, i < 2 ^ 31 ∧ v = nI i ∧ qn ≤ i
theorem wn_plc (qn : Nat) (v : Int32) : wn_out qn v ∨ ∃ i, i < qn ∧ i < 2 ^ 31 ∧ v = nI i := by
  by_cases z : v < 0
  · exact Or.inl (Or.inl z)
  · obtain ⟨i, hi, e⟩ := nI_of z
    rcases Nat.lt_or_ge i qn with y | y
    · exact Or.inr ⟨i, y, hi, e⟩
    · exact Or.inl (Or.inr ⟨i, hi, e, y⟩)
section
variable {ph lf ck sn di : Int32} {on sc rc mk vl : Nat → Int32} {a w l d q r c : Nat → Nat} {ii il : Nat → Int32} {ib : Nat → Int64} {mc : Nat → Int32} {G : Nat → wn_L}
theorem wn_xth0 {post : Int32 → Prop} {n : Nat} {v : Int32} (hn : n < 4) (hq : q n ≤ 6) (ho : wn_out (q n) v) (hp : post 0) : wpX_isThere post (ph, lf, ck, sn, di, on, sc, rc, mk, vl, wn_fI a, wn_fI w, wn_fI l, wn_fL d, wn_fI q, ii, il, ib, mc, wn_fI r, wn_fI c, wn_gA G, wn_gB G, wn_gC G, wn_gD G, wn_gE G, wn_gF G, wn_gH G, wn_gI G, wn_gJ G) (nI n) v := by
  have v4 : vp_in (nI n) 4 := vp_in_nI (by omega) (by decide)
  have eq : wn_fI q (nI n).toNatClampNeg = nI (q n) := wn_fIa (by omega)
  unfold wpX_isThere
  refine wn_xn1 hn (br_f (by decide) ?_)
  rcases ho with h | ⟨i, hi, rfl, h⟩
  · exact br_t h hp
  · exact br_f (nI_pos hi) (And.intro v4 (pk_le (q n) i (fun _ => hp) (fun y => absurd h (by omega)) eq rfl))
theorem wn_xth1 {post : Int32 → Prop} {n i : Nat} (hn : n < 4) (hq : q n ≤ 6) (hi : i < q n) (hp : post 1) : wpX_isThere post (ph, lf, ck, sn, di, on, sc, rc, mk, vl, wn_fI a, wn_fI w, wn_fI l, wn_fL d, wn_fI q, ii, il, ib, mc, wn_fI r, wn_fI c, wn_gA G, wn_gB G, wn_gC G, wn_gD G, wn_gE G, wn_gF G, wn_gH G, wn_gI G, wn_gJ G) (nI n) (nI i) := by
  have v4 : vp_in (nI n) 4 := vp_in_nI (by omega) (by decide)
  have eq : wn_fI q (nI n).toNatClampNeg = nI (q n) := wn_fIa (by omega)
  unfold wpX_isThere
  exact wn_xn1 hn (br_f (by decide) (br_f (nI_pos (by omega)) (And.intro v4 (pk_le (q n) i (fun y => absurd hi (by omega)) (fun _ => hp) eq rfl))))
theorem wn_xth2 {post : Int32 → Prop} {v v2 : Int32} (hb : wn_bad v) (hp : post 0) : wpX_isThere post (ph, lf, ck, sn, di, on, sc, rc, mk, vl, wn_fI a, wn_fI w, wn_fI l, wn_fL d, wn_fI q, ii, il, ib, mc, wn_fI r, wn_fI c, wn_gA G, wn_gB G, wn_gC G, wn_gD G, wn_gE G, wn_gF G, wn_gH G, wn_gI G, wn_gJ G) v v2 := by
  unfold wpX_isThere
  exact wn_xn0 hb (br_t rfl hp)
theorem wn_6i {n i : Nat} : (6 : Int32) * nI n + nI i = nI (6 * n + i) := by rw [wn_6, nI_add]
theorem wn_xfa0 {post : Int32 → Prop} {n : Nat} {v : Int32} (hn : n < 4) (hq : q n ≤ 6) (ho : wn_out (q n) v) (hp : post (-2)) : wpX_frameAt post (ph, lf, ck, sn, di, on, sc, rc, mk, vl, wn_fI a, wn_fI w, wn_fI l, wn_fL d, wn_fI q, ii, il, ib, mc, wn_fI r, wn_fI c, wn_gA G, wn_gB G, wn_gC G, wn_gD G, wn_gE G, wn_gF G, wn_gH G, wn_gI G, wn_gJ G) (nI n) v := by
  unfold wpX_frameAt
  exact wn_xn1 hn (br_f (by decide) (wn_xth0 hn hq ho (br_t rfl hp)))
theorem wn_xfa1 {post : Int32 → Prop} {n i : Nat} (hn : n < 4) (hq : q n ≤ 6) (hi : i < q n) (hp : post (wn_hh ii il (6 * n + i))) : wpX_frameAt post (ph, lf, ck, sn, di, on, sc, rc, mk, vl, wn_fI a, wn_fI w, wn_fI l, wn_fL d, wn_fI q, ii, il, ib, mc, wn_fI r, wn_fI c, wn_gA G, wn_gB G, wn_gC G, wn_gD G, wn_gE G, wn_gF G, wn_gH G, wn_gI G, wn_gJ G) (nI n) (nI i) := by
  have va : vp_in (6 * nI n + nI i) 24 := pk_in (6 * n + i) 24 (by omega) wn_6i
  have ca : (6 * nI n + nI i).toNatClampNeg = 6 * n + i := by rw [wn_6i]; exact nI_clamp (by omega)
  unfold wpX_frameAt
  refine wn_xn1 hn (br_f (by decide) (wn_xth1 hn hq hi (br_f (by decide) (And.intro va (And.intro va ?_)))))
  rw [ca]
  exact hp
theorem wn_xfa2 {post : Int32 → Prop} {v v2 : Int32} (hb : wn_bad v) (hp : post (-1)) : wpX_frameAt post (ph, lf, ck, sn, di, on, sc, rc, mk, vl, wn_fI a, wn_fI w, wn_fI l, wn_fL d, wn_fI q, ii, il, ib, mc, wn_fI r, wn_fI c, wn_gA G, wn_gB G, wn_gC G, wn_gD G, wn_gE G, wn_gF G, wn_gH G, wn_gI G, wn_gJ G) v v2 := by
  unfold wpX_frameAt
  exact wn_xn0 hb (br_t rfl hp)
end
theorem i_vc_frameAt {k : Nat} {u : SX} {v : SY} (I : i_Rel k u v) (hk : k + 5 ≤ 2560) (v1 : Int32) (v2 : Int32) : wpX_frameAt (fun r => wpY_frameAt (fun r' => r' = r ∧ i_Rel (k + 5) u v) v v1 v2) u v1 v2 := by
  refine wn_el (P := fun u v => wpX_frameAt (fun r => wpY_frameAt (fun r' => r' = r ∧ i_Rel (k + 5) u v) v v1 v2) u v1 v2) ?_ I
  intro pn ln tk en sn on sc rc mk vl a w l d q r c ii il ib mc G fr gn lo lp ie st la yr yk wh wy ht hR
  have J : i_Rel (k + 5) (nI pn, nI ln, nI tk, sn, nI (en - tk), on, sc, rc, mk, vl, wn_fI a, wn_fI w, wn_fI l, wn_fL d, wn_fI q, ii, il, ib, mc, wn_fI r, wn_fI c, wn_gA G, wn_gB G, wn_gC G, wn_gD G, wn_gE G, wn_gF G, wn_gH G, wn_gI G, wn_gJ G) (nI tk, sn, nI en, nI pn, nI ln, fr, gn, lo, lp, ie, st, la, yr, yk, on, mk, vl, sc, rc, mc, wn_fI a, wh, wy, wn_fI q, wn_hh ii il, ib) := wn_in (by omega) hR
  obtain ⟨h1, h2, h3, h4, h5, h6, h7, h8⟩ := hR
  rcases wn_node v1 with hb | ⟨n, hn, rfl⟩
  · refine wn_xfa2 hb ?_
    unfold wpY_frameAt
    exact wn_yn1 hb (br_f (by decide) ⟨rfl, J⟩)
  · have v4 : vp_in (nI n) 4 := vp_in_nI (by omega) (by decide)
    have eq : wn_fI q (nI n).toNatClampNeg = nI (q n) := wn_fIa (by omega)
    have hq : q n ≤ 6 := h6.1 n hn
    rcases wn_plc (q n) v2 with ho | ⟨i, hi, hi2, rfl⟩
    · refine wn_xfa0 hn hq ho ?_
      unfold wpY_frameAt
      refine wn_yn0 hn (br_t rfl ?_)
      rcases ho with h | ⟨i, hi, rfl, h⟩
      · exact br_t h ⟨rfl, J⟩
      · exact br_f (nI_pos hi) (And.intro v4 (pk_lt i (q n) (fun y => absurd h (by omega)) (fun _ => ⟨rfl, J⟩) rfl eq))
    · have va : vp_in (6 * nI n + nI i) 24 := pk_in (6 * n + i) 24 (by omega) wn_6i
      have ca : (6 * nI n + nI i).toNatClampNeg = 6 * n + i := by rw [wn_6i]; exact nI_clamp (by omega)
      refine wn_xfa1 hn hq hi ?_
      unfold wpY_frameAt
      refine wn_yn0 hn (br_t rfl (br_f (nI_pos (by omega)) (And.intro v4 (pk_lt i (q n) (fun _ => And.intro va ⟨?_, J⟩) (fun y => absurd hi (by omega)) rfl eq))))
      rw [ca]
theorem i_vc_dataAt {k : Nat} {u : SX} {v : SY} (I : i_Rel k u v) (hk : k + 5 ≤ 2560) (v1 : Int32) (v2 : Int32) : wpX_dataAt (fun r => wpY_dataAt (fun r' => r' = r ∧ i_Rel (k + 5) u v) v v1 v2) u v1 v2 := by
  refine wn_el (P := fun u v => wpX_dataAt (fun r => wpY_dataAt (fun r' => r' = r ∧ i_Rel (k + 5) u v) v v1 v2) u v1 v2) ?_ I
  intro pn ln tk en sn on sc rc mk vl a w l d q r c ii il ib mc G fr gn lo lp ie st la yr yk wh wy ht hR
  have J : i_Rel (k + 5) (nI pn, nI ln, nI tk, sn, nI (en - tk), on, sc, rc, mk, vl, wn_fI a, wn_fI w, wn_fI l, wn_fL d, wn_fI q, ii, il, ib, mc, wn_fI r, wn_fI c, wn_gA G, wn_gB G, wn_gC G, wn_gD G, wn_gE G, wn_gF G, wn_gH G, wn_gI G, wn_gJ G) (nI tk, sn, nI en, nI pn, nI ln, fr, gn, lo, lp, ie, st, la, yr, yk, on, mk, vl, sc, rc, mc, wn_fI a, wh, wy, wn_fI q, wn_hh ii il, ib) := wn_in (by omega) hR
  obtain ⟨h1, h2, h3, h4, h5, h6, h7, h8⟩ := hR
  unfold wpX_dataAt wpY_dataAt
  rcases wn_node v1 with hb | ⟨n, hn, rfl⟩
  · exact wn_xth2 hb (br_t rfl (wn_yn1 hb (br_f (by decide) ⟨rfl, J⟩)))
  · have v4 : vp_in (nI n) 4 := vp_in_nI (by omega) (by decide)
    have eq : wn_fI q (nI n).toNatClampNeg = nI (q n) := wn_fIa (by omega)
    have hq : q n ≤ 6 := h6.1 n hn
    rcases wn_plc (q n) v2 with ho | ⟨i, hi, hi2, rfl⟩
    · refine wn_xth0 hn hq ho (br_t rfl (wn_yn0 hn (br_t rfl ?_)))
      rcases ho with h | ⟨i, hi, rfl, h⟩
      · exact br_t h ⟨rfl, J⟩
      · exact br_f (nI_pos hi) (And.intro v4 (pk_lt i (q n) (fun y => absurd h (by omega)) (fun _ => ⟨rfl, J⟩) rfl eq))
    · have va : vp_in (6 * nI n + nI i) 24 := pk_in (6 * n + i) 24 (by omega) wn_6i
      exact wn_xth1 hn hq hi (br_f (by decide) (And.intro va (wn_yn0 hn (br_t rfl (br_f (nI_pos (by omega)) (And.intro v4 (pk_lt i (q n) (fun _ => And.intro va ⟨rfl, J⟩) (fun y => absurd hi (by omega)) rfl eq)))))))
theorem wn_hhsh (ii il : Nat → Int32) (lo hi : Nat) : wn_sh (wn_hh ii il) lo hi = wn_hh (wn_sh ii lo hi) (wn_sh il lo hi) := by
  funext j
  show (if lo ≤ j ∧ j < hi then 16 * ii (j + 1) + il (j + 1) else 16 * ii j + il j) = 16 * (if lo ≤ j ∧ j < hi then ii (j + 1) else ii j) + (if lo ≤ j ∧ j < hi then il (j + 1) else il j)
  by_cases z : lo ≤ j ∧ j < hi
  · rw [if_pos z, if_pos z, if_pos z]
  · rw [if_neg z, if_neg z, if_neg z]
section
variable {ph lf ck sn di : Int32} {on sc rc mk vl : Nat → Int32} {a w l d q r c : Nat → Nat} {ii il : Nat → Int32} {ib : Nat → Int64} {mc : Nat → Int32} {G : Nat → wn_L}
theorem wn_xtk {post : Int32 → SX → Prop} {n : Nat} {z : Int32} (hn : n < 4) (hq : q n ≤ 6) (hq0 : 0 < q n) (hp : post z (ph, lf, ck, sn, di, on, sc, rc, mk, vl, wn_fI a, wn_fI w, wn_fI l, wn_fL d, wn_fI (wn_w q n (q n - 1)), wn_sh ii (6 * n) (6 * n + (q n - 1)), wn_sh il (6 * n) (6 * n + (q n - 1)), wn_sh ib (6 * n) (6 * n + (q n - 1)), mc, wn_fI r, wn_fI c, wn_gA G, wn_gB G, wn_gC G, wn_gD G, wn_gE G, wn_gF G, wn_gH G, wn_gI G, wn_gJ G)) : ∃ n28, wX_take_28 post (nI n) z ph lf ck sn di n28 (nI (6 * n)) on sc rc mk vl (wn_fI a) (wn_fI w) (wn_fI l) (wn_fL d) (wn_fI (wn_w q n (q n - 1))) ii il ib mc (wn_fI r) (wn_fI c) (wn_gA G) (wn_gB G) (wn_gC G) (wn_gD G) (wn_gE G) (wn_gF G) (wn_gH G) (wn_gI G) (wn_gJ G) := by
  have v4 : vp_in (nI n) 4 := vp_in_nI (by omega) (by decide)
  have ea : 6 * nI n + wn_fI (wn_w q n (q n - 1)) (nI n).toNatClampNeg = nI (6 * n + (q n - 1)) := by rw [wn_fIa (by omega), wn_ws, wn_6i]
  have H : ∀ e i, i + e = 6 * n + (q n - 1) → 6 * n ≤ i → ∀ m, e < m → wX_take_28 post (nI n) z ph lf ck sn di m (nI i) on sc rc mk vl (wn_fI a) (wn_fI w) (wn_fI l) (wn_fL d) (wn_fI (wn_w q n (q n - 1))) (wn_sh ii (6 * n) i) (wn_sh il (6 * n) i) (wn_sh ib (6 * n) i) mc (wn_fI r) (wn_fI c) (wn_gA G) (wn_gB G) (wn_gC G) (wn_gD G) (wn_gE G) (wn_gF G) (wn_gH G) (wn_gI G) (wn_gJ G) := by
    intro e
    induction e with
    | zero =>
      intro i hi hlo m hm
      obtain ⟨m, rfl⟩ : ∃ j, m = j + 1 := ⟨m - 1, by omega⟩
      rw [show i = 6 * n + (q n - 1) by omega]
      exact And.intro v4 (pk_le (6 * n + (q n - 1)) (6 * n + (q n - 1)) (fun _ => hp) (fun h => absurd h (by omega)) ea rfl)
    | succ e ih =>
      intro i hi hlo m hm
      obtain ⟨m, rfl⟩ : ∃ j, m = j + 1 := ⟨m - 1, by omega⟩
      have v1 : vp_in (nI i + 1) 24 := pk_in (i + 1) 24 (by omega) (nI_1 _)
      have v0 : vp_in (nI i) 24 := pk_in i 24 (by omega)
      have c0 : (nI i).toNatClampNeg = i := nI_clamp (by omega)
      have c1 : (nI i + 1).toNatClampNeg = i + 1 := by rw [nI_1]; exact nI_clamp (by omega)
      have S : ∀ f : Nat → Int32, upd (wn_sh f (6 * n) i) (nI i).toNatClampNeg (wn_sh f (6 * n) i (nI i + 1).toNatClampNeg) = wn_sh f (6 * n) (i + 1) := by
        intro f
        rw [c0, c1, wn_shhi (by omega), wn_shI (by omega)]
      have SL : vp_updL (wn_sh ib (6 * n) i) (nI i).toNatClampNeg (wn_sh ib (6 * n) i (nI i + 1).toNatClampNeg) = wn_sh ib (6 * n) (i + 1) := by
        rw [c0, c1, wn_shhi (by omega), wn_shL (by omega)]
      exact And.intro v4 (pk_le (6 * n + (q n - 1)) i (fun h => absurd h (by omega)) (fun _ => And.intro v1 (And.intro v0 (nm_r (S ii) (And.intro v1 (And.intro v0 (nm_r (S il) (And.intro v1 (And.intro v0 (nm_r SL (nm_r (nI_1 i) (ih (i + 1) (by omega) (by omega) m (by omega)))))))))))) ea rfl)
  have := H (q n - 1) (6 * n) (by omega) (by omega) 7 (by omega)
  rw [wn_sh0, wn_sh0, wn_sh0] at this
  exact ⟨7, this⟩
variable {nw da yp rs fr gn lo lp ie st la yr yk : Int32} {wh : Nat → Int32} {wy : Nat → Int64}
theorem wn_ytk {post : Int32 → SY → Prop} {n : Nat} {z : Int32} (hn : n < 4) (hq : q n ≤ 6) (hq0 : 0 < q n) (hp : post z (nw, sn, da, yp, rs, fr, gn, lo, lp, ie, st, la, yr, yk, on, mk, vl, sc, rc, mc, wn_fI a, wh, wy, wn_fI (wn_w q n (q n - 1)), wn_hh (wn_sh ii (6 * n) (6 * n + (q n - 1))) (wn_sh il (6 * n) (6 * n + (q n - 1))), wn_sh ib (6 * n) (6 * n + (q n - 1)))) : ∃ n47, wY_take_47 post (nI n) z nw sn da yp rs fr gn lo lp ie st la yr yk n47 (nI (6 * n)) on mk vl sc rc mc (wn_fI a) wh wy (wn_fI (wn_w q n (q n - 1))) (wn_hh ii il) ib := by
  have v4 : vp_in (nI n) 4 := vp_in_nI (by omega) (by decide)
  have ea : 6 * nI n + wn_fI (wn_w q n (q n - 1)) (nI n).toNatClampNeg = nI (6 * n + (q n - 1)) := by rw [wn_fIa (by omega), wn_ws, wn_6i]
  have H : ∀ e i, i + e = 6 * n + (q n - 1) → 6 * n ≤ i → ∀ m, e < m → wY_take_47 post (nI n) z nw sn da yp rs fr gn lo lp ie st la yr yk m (nI i) on mk vl sc rc mc (wn_fI a) wh wy (wn_fI (wn_w q n (q n - 1))) (wn_sh (wn_hh ii il) (6 * n) i) (wn_sh ib (6 * n) i) := by
    intro e
    induction e with
    | zero =>
      intro i hi hlo m hm
      obtain ⟨m, rfl⟩ : ∃ j, m = j + 1 := ⟨m - 1, by omega⟩
      rw [show i = 6 * n + (q n - 1) by omega, wn_hhsh]
      exact And.intro v4 (pk_le (6 * n + (q n - 1)) (6 * n + (q n - 1)) (fun _ => hp) (fun h => absurd h (by omega)) ea rfl)
    | succ e ih =>
      intro i hi hlo m hm
      obtain ⟨m, rfl⟩ : ∃ j, m = j + 1 := ⟨m - 1, by omega⟩
      have v1 : vp_in (nI i + 1) 24 := pk_in (i + 1) 24 (by omega) (nI_1 _)
      have v0 : vp_in (nI i) 24 := pk_in i 24 (by omega)
      have c0 : (nI i).toNatClampNeg = i := nI_clamp (by omega)
      have c1 : (nI i + 1).toNatClampNeg = i + 1 := by rw [nI_1]; exact nI_clamp (by omega)
      have S : ∀ f : Nat → Int32, upd (wn_sh f (6 * n) i) (nI i).toNatClampNeg (wn_sh f (6 * n) i (nI i + 1).toNatClampNeg) = wn_sh f (6 * n) (i + 1) := by
        intro f
        rw [c0, c1, wn_shhi (by omega), wn_shI (by omega)]
      have SL : vp_updL (wn_sh ib (6 * n) i) (nI i).toNatClampNeg (wn_sh ib (6 * n) i (nI i + 1).toNatClampNeg) = wn_sh ib (6 * n) (i + 1) := by
        rw [c0, c1, wn_shhi (by omega), wn_shL (by omega)]
      exact And.intro v4 (pk_le (6 * n + (q n - 1)) i (fun h => absurd h (by omega)) (fun _ => And.intro v1 (And.intro v0 (nm_r (S _) (And.intro v1 (And.intro v0 (nm_r SL (nm_r (nI_1 i) (ih (i + 1) (by omega) (by omega) m (by omega))))))))) ea rfl)
  have := H (q n - 1) (6 * n) (by omega) (by omega) 7 (by omega)
  rw [wn_sh0, wn_sh0] at this
  exact ⟨7, this⟩
end
theorem i_vc_take {k : Nat} {u : SX} {v : SY} (I : i_Rel k u v) (hk : k + 5 ≤ 2560) (v1 : Int32) : wpX_take (fun r u' => wpY_take (fun r' v' => r' = r ∧ i_Rel (k + 5) u' v') v v1) u v1 := by
  refine wn_el (P := fun u v => wpX_take (fun r u' => wpY_take (fun r' v' => r' = r ∧ i_Rel (k + 5) u' v') v v1) u v1) ?_ I
  intro pn ln tk en sn on sc rc mk vl a w l d q r c ii il ib mc G fr gn lo lp ie st la yr yk wh wy ht hR
  have J : i_Rel (k + 5) (nI pn, nI ln, nI tk, sn, nI (en - tk), on, sc, rc, mk, vl, wn_fI a, wn_fI w, wn_fI l, wn_fL d, wn_fI q, ii, il, ib, mc, wn_fI r, wn_fI c, wn_gA G, wn_gB G, wn_gC G, wn_gD G, wn_gE G, wn_gF G, wn_gH G, wn_gI G, wn_gJ G) (nI tk, sn, nI en, nI pn, nI ln, fr, gn, lo, lp, ie, st, la, yr, yk, on, mk, vl, sc, rc, mc, wn_fI a, wh, wy, wn_fI q, wn_hh ii il, ib) := wn_in (by omega) hR
  obtain ⟨h1, h2, h3, h4, h5, h6, h7, h8⟩ := hR
  unfold wpX_take wpY_take
  rcases wn_node v1 with hb | ⟨n, hn, rfl⟩
  · exact wn_xfa2 hb (br_f (by decide) (wn_yn1 hb (br_f (by decide) ⟨rfl, J⟩)))
  · have v4 : vp_in (nI n) 4 := vp_in_nI (by omega) (by decide)
    have eq : wn_fI q (nI n).toNatClampNeg = nI (q n) := wn_fIa (by omega)
    have cl : (nI n).toNatClampNeg = n := nI_clamp (by omega)
    have hq : q n ≤ 6 := h6.1 n hn
    by_cases z : q n = 0
    · exact wn_xfa0 hn hq (Or.inr ⟨0, by omega, rfl, by omega⟩) (br_f (by decide) (wn_yn0 hn (br_t rfl (And.intro v4 (pk_eq (q n) 0 (fun _ => ⟨rfl, J⟩) (fun y => absurd z y) eq rfl)))))
    · have K : i_Rel (k + 5) (nI pn, nI ln, nI tk, sn, nI (en - tk), on, sc, rc, mk, vl, wn_fI a, wn_fI w, wn_fI l, wn_fL d, wn_fI (wn_w q n (q n - 1)), wn_sh ii (6 * n) (6 * n + (q n - 1)), wn_sh il (6 * n) (6 * n + (q n - 1)), wn_sh ib (6 * n) (6 * n + (q n - 1)), mc, wn_fI r, wn_fI c, wn_gA G, wn_gB G, wn_gC G, wn_gD G, wn_gE G, wn_gF G, wn_gH G, wn_gI G, wn_gJ G) (nI tk, sn, nI en, nI pn, nI ln, fr, gn, lo, lp, ie, st, la, yr, yk, on, mk, vl, sc, rc, mc, wn_fI a, wh, wy, wn_fI (wn_w q n (q n - 1)), wn_hh (wn_sh ii (6 * n) (6 * n + (q n - 1))) (wn_sh il (6 * n) (6 * n + (q n - 1))), wn_sh ib (6 * n) (6 * n + (q n - 1))) := by
        refine wn_in (by omega) ⟨h1, h2, h3, h4, h5, ⟨?_, ?_⟩, h7, h8⟩
        · intro m hm
          show wn_w q n (q n - 1) m ≤ 6
          by_cases y : m = n
          · rw [y, wn_ws]; omega
          · rw [wn_wo y]; exact h6.1 m hm
        · intro j
          show ¬ wn_hh (wn_sh ii (6 * n) (6 * n + (q n - 1))) (wn_sh il (6 * n) (6 * n + (q n - 1))) j < 0
          rw [← wn_hhsh]
          by_cases y : 6 * n ≤ j ∧ j < 6 * n + (q n - 1)
          · rw [wn_shin y.1 y.2]; exact h6.2 _
          · have e : wn_sh (wn_hh ii il) (6 * n) (6 * n + (q n - 1)) j = wn_hh ii il j := if_neg y
            rw [e]; exact h6.2 _
      have e0 : upd (wn_fI q) (nI n).toNatClampNeg (wn_fI q (nI n).toNatClampNeg - 1) = wn_fI (wn_w q n (q n - 1)) := by
        rw [eq, cl, show (1 : Int32) = nI 1 from rfl, pk_sub (by omega), wn_fIu]
      have v24 : vp_in (6 * nI n) 24 := pk_in (6 * n) 24 (by omega) (wn_6 n)
      have c24 : (6 * nI n).toNatClampNeg = 6 * n := by rw [wn_6]; exact nI_clamp (by omega)
      refine wn_xfa1 (i := 0) hn hq (by omega) (br_t (Int32.not_lt.mp (h6.2 _)) (And.intro v4 (And.intro v4 (nm_r e0 (nm_r (wn_6 n) (wn_xtk hn hq (by omega) ?_))))))
      refine wn_yn0 hn (br_t rfl (And.intro v4 (pk_eq (q n) 0 (fun y => absurd y z) (fun _ => And.intro v24 (nm_r (e' := wn_hh ii il (6 * n)) (by rw [c24]) (And.intro v4 (And.intro v4 (nm_r e0 (nm_r (wn_6 n) (wn_ytk hn hq (by omega) ⟨rfl, K⟩))))))) eq rfl)))
end
section
/-! calls on the frames that wait: underWay, post, cancel -/
section
variable {ph lf ck sn di : Int32} {on sc rc mk vl : Nat → Int32} {a w l d q r c : Nat → Nat} {ii il : Nat → Int32} {ib : Nat → Int64} {mc : Nat → Int32} {G : Nat → wn_L}
theorem wn_xuw0 {post : Int32 → Prop} (hph : ¬ ph = 1) (hp : post (-2)) : wpX_underWay post (ph, lf, ck, sn, di, on, sc, rc, mk, vl, wn_fI a, wn_fI w, wn_fI l, wn_fL d, wn_fI q, ii, il, ib, mc, wn_fI r, wn_fI c, wn_gA G, wn_gB G, wn_gC G, wn_gD G, wn_gE G, wn_gF G, wn_gH G, wn_gI G, wn_gJ G) := by
  have H : ∀ e i, i + e = 4 → ∀ n, e < n → wX_underWay_6 post ph lf ck sn di on sc rc mk vl (wn_fI a) (wn_fI w) (wn_fI l) (wn_fL d) (wn_fI q) ii il ib mc (wn_fI r) (wn_fI c) (wn_gA G) (wn_gB G) (wn_gC G) (wn_gD G) (wn_gE G) (wn_gF G) (wn_gH G) (wn_gI G) (wn_gJ G) n 2048 (nI i) := by
    intro e
    induction e with
    | zero =>
      intro i hi n hn
      obtain ⟨n, rfl⟩ : ∃ j, n = j + 1 := ⟨n - 1, by omega⟩
      exact pk_le 4 i (fun _ => br_t rfl hp) (fun h => absurd h (by omega)) rfl rfl
    | succ e ih =>
      intro i hi n hn
      obtain ⟨n, rfl⟩ : ∃ j, n = j + 1 := ⟨n - 1, by omega⟩
      exact pk_le 4 i (fun h => absurd h (by omega)) (fun _ => br_f hph (nm_r (nI_1 i) (ih (i + 1) (by omega) n (by omega)))) rfl rfl
  exact ⟨5, H 4 0 (by omega) 5 (by omega)⟩
theorem wn_xuw1 {post : Int32 → Prop} {s fi fl fd t : Nat} {L : wn_L} (hW : wn_WF a w l d c) (h : wn_FX on a w l d r c G s fi fl fd t L) (hph : ph = 1) (hp : post (nI fi)) : wpX_underWay post (ph, lf, ck, sn, di, on, sc, rc, mk, vl, wn_fI a, wn_fI w, wn_fI l, wn_fL d, wn_fI q, ii, il, ib, mc, wn_fI r, wn_fI c, wn_gA G, wn_gB G, wn_gC G, wn_gD G, wn_gE G, wn_gF G, wn_gH G, wn_gI G, wn_gJ G) := by
  have hF := wn_FX_FO hW h
  have hfi : fi < 2048 := hF.1
  have hr10 := wn_FX_r10 h
  obtain ⟨⟨h1, h2, h3, h4⟩, ⟨e1, e2, e3⟩, h5, h6, h7, h8⟩ := id h
  have H : ∀ e i m, i + e = 4 → m ≤ 2048 → (s < i → m = fi) → (i ≤ s → fi < m) → ∀ n, e < n → wX_underWay_6 post ph lf ck sn di on sc rc mk vl (wn_fI a) (wn_fI w) (wn_fI l) (wn_fL d) (wn_fI q) ii il ib mc (wn_fI r) (wn_fI c) (wn_gA G) (wn_gB G) (wn_gC G) (wn_gD G) (wn_gE G) (wn_gF G) (wn_gH G) (wn_gI G) (wn_gJ G) n (nI m) (nI i) := by
    intro e
    induction e with
    | zero =>
      intro i m hi hm g1 g2 n hn
      obtain ⟨n, rfl⟩ : ∃ j, n = j + 1 := ⟨n - 1, by omega⟩
      have em := g1 (by omega)
      rw [em]
      exact pk_le 4 i (fun _ => pk_eq fi 2048 (fun y => absurd y (by omega)) (fun _ => hp) rfl rfl) (fun h => absurd h (by omega)) rfl rfl
    | succ e ih =>
      intro i m hi hm g1 g2 n hn
      obtain ⟨n, rfl⟩ : ∃ j, n = j + 1 := ⟨n - 1, by omega⟩
      have hri := hr10 i (by omega)
      have hc4 := hW.2.2.2 i (by omega)
      have er : wn_fI r (nI i).toNatClampNeg = nI (r i) := wn_fIa (by omega)
      have v5 : vp_in (nI i) 5 := vp_in_nI (by omega) (by decide)
      have ep : 4 * nI i + wn_fI c (nI i).toNatClampNeg = nI (4 * i + c i) := by rw [wn_fIa (by omega), wn_4k]
      have ew : wn_fI w (4 * nI i + wn_fI c (nI i).toNatClampNeg).toNatClampNeg = nI (w (4 * i + c i)) := by rw [ep]; exact wn_fIa (by omega)
      have vp : vp_in (4 * nI i + wn_fI c (nI i).toNatClampNeg) 20 := pk_in (4 * i + c i) 20 (by omega) ep
      have hw := (hW.2.1 (4 * i + c i) (by omega)).1
      refine pk_le 4 i (fun h => absurd h (by omega)) (fun _ => br_t hph (And.intro v5 (pk_eq (r i) 1 (fun y => And.intro v5 (And.intro vp (nm_r ew (pk_le m (w (4 * i + c i)) (fun x => nm_r (nI_1 i) ?_) (fun x => nm_r (nI_1 i) ?_) rfl rfl)))) (fun y => nm_r (nI_1 i) ?_) er rfl))) rfl rfl
      · refine ih (i + 1) m (by omega) hm (fun q => ?_) (fun q => g2 (by omega)) n (by omega)
        by_cases z : i = s
        · rw [z, e1] at x
          have := g2 (by omega)
          omega
        · exact g1 (by omega)
      · refine ih (i + 1) (w (4 * i + c i)) (by omega) (by omega) (fun q => ?_) (fun q => ?_) n (by omega)
        · by_cases z : i = s
          · rw [z]; exact e1
          · have := (h7 i (by omega) z y).2.1
            have := g1 (by omega)
            omega
        · exact (h7 i (by omega) (by omega) y).2.1
      · refine ih (i + 1) m (by omega) hm (fun q => ?_) (fun q => g2 (by omega)) n (by omega)
        by_cases z : i = s
        · rw [z] at y; exact absurd h3 y
        · exact g1 (by omega)
  exact ⟨5, H 4 0 2048 (by omega) (by omega) (fun q => absurd q (by omega)) (fun _ => hfi) 5 (by omega)⟩
end
theorem i_vc_underWay {k : Nat} {u : SX} {v : SY} (I : i_Rel k u v) (hk : k + 5 ≤ 2560) : wpX_underWay (fun r => wpY_underWay (fun r' => r' = r ∧ i_Rel (k + 5) u v) v) u := by
  refine wn_el (P := fun u v => wpX_underWay (fun r => wpY_underWay (fun r' => r' = r ∧ i_Rel (k + 5) u v) v) u) ?_ I
  intro pn ln tk en sn on sc rc mk vl a w l d q r c ii il ib mc G fr gn lo lp ie st la yr yk wh wy ht hR
  have J : i_Rel (k + 5) (nI pn, nI ln, nI tk, sn, nI (en - tk), on, sc, rc, mk, vl, wn_fI a, wn_fI w, wn_fI l, wn_fL d, wn_fI q, ii, il, ib, mc, wn_fI r, wn_fI c, wn_gA G, wn_gB G, wn_gC G, wn_gD G, wn_gE G, wn_gF G, wn_gH G, wn_gI G, wn_gJ G) (nI tk, sn, nI en, nI pn, nI ln, fr, gn, lo, lp, ie, st, la, yr, yk, on, mk, vl, sc, rc, mc, wn_fI a, wh, wy, wn_fI q, wn_hh ii il, ib) := wn_in (by omega) hR
  obtain ⟨h1, h2, h3, h4, h5, h6, h7, h8⟩ := hR
  have hpn : pn < 4 := h2.1
  by_cases z : pn = 1
  · obtain ⟨s, fi, fl, fd, t, L, hX, e1, e2, e3, e4, e5⟩ := h8 z
    have hF := wn_FX_FO h4 hX
    have hs := hX.1.1
    have hc := h4.2.2.2 s hs
    have ef : wh fr.toNatClampNeg / 16 = nI fi := by
      rw [e1, nI_clamp (by omega), h5.1 _ (by omega), hX.2.1.1, hX.2.1.2.1, wn_hd hF.1 hF.2.1]
    refine wn_xuw1 h4 hX (by rw [z]; rfl) ?_
    exact br_t (by rw [z]; rfl) (And.intro (pk_in (4 * s + c s) 16 (by omega) e1) (And.intro (by decide) ⟨ef, J⟩))
  · have z' : ¬ nI pn = 1 := fun y => z ((nI_eq (b := 1) (by omega) (by omega)).mp y)
    exact wn_xuw0 z' (br_f z' ⟨rfl, J⟩)
theorem wn_d2048 {p : Nat} (h : p < 10000) : nI p / 2048 = nI (p / 2048) := pk_div (d := 2048) (by omega) (by omega) (by omega)
theorem wn_m2048 {p : Nat} (h : p < 10000) : nI p - nI p / 2048 * 2048 = nI (p % 2048) := pk_rem (d := 2048) (by omega) (by omega) (by omega)
theorem i_vc_post {k : Nat} {u : SX} {v : SY} (I : i_Rel k u v) (hk : k + 5 ≤ 2560) (v1 : Int32) (v2 : Int32) (a2 : Int64) : wpX_post (fun r u' => wpY_post (fun r' v' => r' = r ∧ i_Rel (k + 5) u' v') v v1 v2 a2) u v1 v2 a2 := by
  refine wn_el (P := fun u v => wpX_post (fun r u' => wpY_post (fun r' v' => r' = r ∧ i_Rel (k + 5) u' v') v v1 v2 a2) u v1 v2 a2) ?_ I
  intro pn ln tk en sn on sc rc mk vl a w l d q r c ii il ib mc G fr gn lo lp ie st la yr yk wh wy ht hR
  have J : i_Rel (k + 5) (nI pn, nI ln, nI tk, sn, nI (en - tk), on, sc, rc, mk, vl, wn_fI a, wn_fI w, wn_fI l, wn_fL d, wn_fI q, ii, il, ib, mc, wn_fI r, wn_fI c, wn_gA G, wn_gB G, wn_gC G, wn_gD G, wn_gE G, wn_gF G, wn_gH G, wn_gI G, wn_gJ G) (nI tk, sn, nI en, nI pn, nI ln, fr, gn, lo, lp, ie, st, la, yr, yk, on, mk, vl, sc, rc, mc, wn_fI a, wh, wy, wn_fI q, wn_hh ii il, ib) := wn_in (by omega) hR
  obtain ⟨h1, h2, h3, h4, h5, h6, h7, h8⟩ := hR
  by_cases z1 : v1 < 0
  · exact br_t z1 (br_t z1 ⟨rfl, J⟩)
  obtain ⟨p, hp, rfl⟩ := nI_of z1
  by_cases z2 : 8192 ≤ p
  · exact br_f z1 (br_t (nI_le (a := 8192) z2 hp) (br_f z1 (br_t (nI_lt (a := 8191) (by omega) hp) ⟨rfl, J⟩)))
  have x2 : ¬ (8192 : Int32) ≤ nI p := nI_ge (b := 8192) (by omega) (by decide)
  have y2 : ¬ (8191 : Int32) < nI p := nI_nlt (a := 8191) (by omega) (by decide)
  by_cases z3 : v2 < 0
  · exact br_f z1 (br_f x2 (br_t z3 (br_f z1 (br_f y2 (br_t z3 ⟨rfl, J⟩)))))
  obtain ⟨fl, hfl, rfl⟩ := nI_of z3
  by_cases z4 : fl ≤ 8
  case neg =>
    have x4 : ¬ nI fl ≤ 8 := nI_ge (a := 8) (by omega) hfl
    exact br_f z1 (br_f x2 (br_f z3 (br_f x4 (br_f z1 (br_f y2 (br_f z3 (br_f x4 ⟨rfl, J⟩)))))))
  have x4 : nI fl ≤ 8 := nI_le (b := 8) z4 (by decide)
  obtain ⟨D, hD, rfl⟩ := wb_of a2
  have ed := wn_d2048 (p := p) (by omega)
  have em := wn_m2048 (p := p) (by omega)
  have hn : p / 2048 < 4 := by omega
  have hf : p % 2048 < 2048 := by omega
  generalize hN : p / 2048 = n at *
  generalize hM : p % 2048 = fi at *
  have ha := h4.1
  have hw1 : ∀ j, j < 16 → w j < 2048 := fun j hj => (h4.2.1 j hj).1
  have hw2 : ∀ j, j < 16 → w j < 2048 ∧ l j ≤ 8 := fun j hj => ⟨(h4.2.1 j hj).1, (h4.2.1 j hj).2.1⟩
  have han := ha n hn
  have v5 : vp_in (nI n) 5 := vp_in_nI (by omega) (by decide)
  have v4 : vp_in (nI n) 4 := vp_in_nI (by omega) (by decide)
  have cl : (nI n).toNatClampNeg = n := nI_clamp (by omega)
  have ea : wn_fI a (nI n).toNatClampNeg = nI (a n) := wn_fIa (by omega)
  refine br_f z1 (br_f x2 (br_f z3 (br_t x4 (And.intro (by decide) (nm_r ed (And.intro (by decide) (nm_r em ?_)))))))
  by_cases hh : ∃ p', wn_V a p' ∧ w p' = fi
  · obtain ⟨p', hV, e⟩ := hh
    have hp' := hV.1
    have H1 : ∀ {post : Int32 → Prop}, post (nI p') → wpX_placeOf post (nI pn, nI ln, nI tk, sn, nI (en - tk), on, sc, rc, mk, vl, wn_fI a, wn_fI w, wn_fI l, wn_fL d, wn_fI q, ii, il, ib, mc, wn_fI r, wn_fI c, wn_gA G, wn_gB G, wn_gC G, wn_gD G, wn_gE G, wn_gF G, wn_gH G, wn_gI G, wn_gJ G) (nI fi) := by
      intro post h; rw [← e]; exact wn_xpl1 ha hw1 h4.2.2.1 hV h
    have H2 : ∀ {post : Int32 → Prop}, post (nI p') → wpY_find post (nI tk, sn, nI en, nI pn, nI ln, fr, gn, lo, lp, ie, st, la, yr, yk, on, mk, vl, sc, rc, mc, wn_fI a, wh, wy, wn_fI q, wn_hh ii il, ib) (nI fi) := by
      intro post h; rw [← e]; exact wn_yfd1 ha hw2 h5.1 h4.2.2.1 hV h
    refine H1 (br_f (nI_pos (by omega)) ?_)
    refine br_f z1 (br_f y2 (br_f z3 (br_t x4 (And.intro (by decide) (nm_r ed (And.intro (by decide) ?_))))))
    rw [em]
    exact H2 (br_f (nI_pos (by omega)) ⟨rfl, J⟩)
  · have hnew : ∀ p', wn_V a p' → w p' ≠ fi := fun p' hV e => hh ⟨p', hV, e⟩
    have H1 : ∀ {post : Int32 → Prop}, post (-1) → wpX_placeOf post (nI pn, nI ln, nI tk, sn, nI (en - tk), on, sc, rc, mk, vl, wn_fI a, wn_fI w, wn_fI l, wn_fL d, wn_fI q, ii, il, ib, mc, wn_fI r, wn_fI c, wn_gA G, wn_gB G, wn_gC G, wn_gD G, wn_gE G, wn_gF G, wn_gH G, wn_gI G, wn_gJ G) (nI fi) := by
      intro post h; exact wn_xpl ha hw1 hf (fun p' hV e => absurd e (hnew p' hV)) (fun _ => h)
    have H2 : ∀ {post : Int32 → Prop}, post (-1) → wpY_find post (nI tk, sn, nI en, nI pn, nI ln, fr, gn, lo, lp, ie, st, la, yr, yk, on, mk, vl, sc, rc, mc, wn_fI a, wh, wy, wn_fI q, wn_hh ii il, ib) (nI fi) := by
      intro post h; exact wn_yfd ha hw2 h5.1 hf (fun p' hV e => absurd e (hnew p' hV)) (fun _ => h)
    refine H1 (br_t (by decide) (And.intro v5 (pk_lt (a n) 4 (fun x => And.intro v5 ?_) (fun x => ?_) ea rfl)))
    · have ei : 4 * nI n + wn_fI a (nI n).toNatClampNeg = nI (4 * n + a n) := by rw [ea, wn_4k]
      have vi : vp_in (4 * nI n + wn_fI a (nI n).toNatClampNeg) 16 := pk_in (4 * n + a n) 16 (by omega) ei
      have ci : (4 * nI n + wn_fI a (nI n).toNatClampNeg).toNatClampNeg = 4 * n + a n := by rw [ei]; exact nI_clamp (by omega)
      have e1 : upd (wn_fI a) (nI n).toNatClampNeg (wn_fI a (nI n).toNatClampNeg + 1) = wn_fI (wn_w a n (a n + 1)) := by rw [ea, cl, nI_1, wn_fIu]
      have hF : wn_FO fi fl (D % 2 ^ (8 * fl)) := ⟨hf, z4, Nat.mod_lt _ (Nat.two_pow_pos _)⟩
      have K : i_Rel (k + 5) (nI pn, nI ln, nI tk, sn, nI (en - tk), on, sc, rc, mk, vl, wn_fI (wn_w a n (a n + 1)), wn_fI (wn_w w (4 * n + a n) fi), wn_fI (wn_w l (4 * n + a n) fl), wn_fL (wn_w d (4 * n + a n) (D % 2 ^ (8 * fl))), wn_fI q, ii, il, ib, mc, wn_fI r, wn_fI c, wn_gA G, wn_gB G, wn_gC G, wn_gD G, wn_gE G, wn_gF G, wn_gH G, wn_gI G, wn_gJ G) (nI tk, sn, nI en, nI pn, nI ln, fr, gn, lo, lp, ie, st, la, yr, yk, on, mk, vl, sc, rc, mc, wn_fI (wn_w a n (a n + 1)), upd wh (4 * n + a n) (nI (16 * fi + fl)), vp_updL wy (4 * n + a n) (lN (D % 2 ^ (8 * fl))), wn_fI q, wn_hh ii il, ib) := by
        refine wn_in (by omega) ⟨h1, h2, h3, wn_ad_WF hn x hF hnew h4, ⟨?_, ?_⟩, h6, h7, ?_⟩
        · intro j hj
          by_cases y : j = 4 * n + a n
          · rw [y, pk_us, wn_ws, wn_ws]
          · rw [pk_un y, wn_wo y, wn_wo y]; exact h5.1 j hj
        · intro j hj
          by_cases y : j = 4 * n + a n
          · rw [y, pk_uLs, wn_ws]
          · rw [pk_uLn y, wn_wo y]; exact h5.2 j hj
        · intro y
          obtain ⟨s, gi, gl, gd, t, L, hX, g1, g2⟩ := h8 y
          exact ⟨s, gi, gl, gd, t, L, wn_ad_FX hn x h4 hX, g1, g2⟩
      rw [ei]
      refine wn_xset (by omega) hD z4 (And.intro v5 (And.intro v5 (nm_r e1 (And.intro v5 ?_))))
      refine br_f z1 (br_f y2 (br_f z3 (br_t x4 (And.intro (by decide) (nm_r ed (And.intro (by decide) ?_))))))
      rw [em]
      refine H2 (br_t (by decide) (And.intro v4 (pk_eq (a n) 4 (fun y => absurd y (by omega)) (fun _ => And.intro v4 (And.intro (by decide) (And.intro vi (nm_r (e' := upd wh (4 * n + a n) (nI (16 * fi + fl))) ?_ (And.intro v4 (wn_ycut hD z4 (And.intro vi (nm_r (e' := vp_updL wy (4 * n + a n) (lN (D % 2 ^ (8 * fl)))) ?_ (And.intro v4 (And.intro v4 (nm_r e1 (And.intro v4 ⟨rfl, K⟩)))))))))))) ea rfl)))
      · rw [ci, wn_16, nI_add]
      · rw [ci]
    · refine br_f z1 (br_f y2 (br_f z3 (br_t x4 (And.intro (by decide) (nm_r ed (And.intro (by decide) ?_))))))
      rw [em]
      exact H2 (br_t (by decide) (And.intro v4 (pk_eq (a n) 4 (fun _ => ⟨rfl, J⟩) (fun y => absurd (by omega) y) ea rfl)))
end
section
/-! cancel -/
theorem i_vc_cancel {k : Nat} {u : SX} {v : SY} (I : i_Rel k u v) (hk : k + 5 ≤ 2560) (v1 : Int32) : wpX_cancel (fun r u' => wpY_cancel (fun r' v' => r' = r ∧ i_Rel (k + 5) u' v') v v1) u v1 := by
  refine wn_el (P := fun u v => wpX_cancel (fun r u' => wpY_cancel (fun r' v' => r' = r ∧ i_Rel (k + 5) u' v') v v1) u v1) ?_ I
  intro pn ln tk en sn on sc rc mk vl a w l d q r c ii il ib mc G fr gn lo lp ie st la yr yk wh wy ht hR
  have J : i_Rel (k + 5) (nI pn, nI ln, nI tk, sn, nI (en - tk), on, sc, rc, mk, vl, wn_fI a, wn_fI w, wn_fI l, wn_fL d, wn_fI q, ii, il, ib, mc, wn_fI r, wn_fI c, wn_gA G, wn_gB G, wn_gC G, wn_gD G, wn_gE G, wn_gF G, wn_gH G, wn_gI G, wn_gJ G) (nI tk, sn, nI en, nI pn, nI ln, fr, gn, lo, lp, ie, st, la, yr, yk, on, mk, vl, sc, rc, mc, wn_fI a, wh, wy, wn_fI q, wn_hh ii il, ib) := wn_in (by omega) hR
  obtain ⟨h1, h2, h3, h4, h5, h6, h7, h8⟩ := hR
  have hpn : pn < 4 := h2.1
  unfold wpX_cancel wpY_cancel
  rcases wn_idc v1 with hb | ⟨f0, hf0, rfl⟩
  · exact wn_xe0 hb (br_t rfl (wn_ye1 hb (br_f (by decide) ⟨rfl, J⟩)))
  refine wn_xe1 hf0 (br_f (by decide) ?_)
  have ha := h4.1
  have hw1 : ∀ j, j < 16 → w j < 2048 := fun j hj => (h4.2.1 j hj).1
  have hw2 : ∀ j, j < 16 → w j < 2048 ∧ l j ≤ 8 := fun j hj => ⟨(h4.2.1 j hj).1, (h4.2.1 j hj).2.1⟩
  by_cases hh : ∃ p, wn_V a p ∧ w p = f0
  case neg =>
    have hnew : ∀ p, wn_V a p → w p ≠ f0 := fun p hV e => hh ⟨p, hV, e⟩
    refine wn_xpl ha hw1 hf0 (fun p hV e => absurd e (hnew p hV)) (fun _ => br_f (by decide) ?_)
    exact wn_ye0 hf0 (br_t rfl (wn_yfd ha hw2 h5.1 hf0 (fun p hV e => absurd e (hnew p hV)) (fun _ => br_f (by decide) ⟨rfl, J⟩)))
  obtain ⟨p, hV, rfl⟩ := hh
  obtain ⟨g1, g2, g3⟩ := wn_Vd hV
  have hp16 := hV.1
  have hkm := hV.2
  have U := h4.2.2.1
  refine wn_xpl1 ha hw1 U hV (br_t (nI_pos' (by omega)) ?_)
  have FND : ∀ {post : Int32 → Prop}, post (nI p) → wpY_find post (nI tk, sn, nI en, nI pn, nI ln, fr, gn, lo, lp, ie, st, la, yr, yk, on, mk, vl, sc, rc, mc, wn_fI a, wh, wy, wn_fI q, wn_hh ii il, ib) (nI (w p)) := fun h => wn_yfd1 ha hw2 h5.1 U hV h
  have ed := wn_d4 (p := p) (by omega)
  have em := wn_m4 (p := p) (by omega)
  generalize hm : p / 4 = m at *
  generalize hkk : p % 4 = k0 at *
  have ed2 : nI (4 * m + k0) / 4 = nI m := by rw [← g1]; exact ed
  have ham := ha m g2
  have hcm := h4.2.2.2 m g2
  have v5 : vp_in (nI m) 5 := vp_in_nI (by omega) (by decide)
  have cl : (nI m).toNatClampNeg = m := nI_clamp (by omega)
  have er : wn_fI r (nI m).toNatClampNeg = nI (r m) := wn_fIa (by omega)
  have ec : wn_fI c (nI m).toNatClampNeg = nI (c m) := wn_fIa (by omega)
  have hr10 : r m < 10 := by
    by_cases z : pn = 1
    · obtain ⟨s, fi, fl, fd, t, L, hX, _⟩ := h8 z
      exact wn_FX_r10 hX m g2
    · rw [h7 z m g2]; decide
  have er' : upd (wn_fI r) (nI m).toNatClampNeg 2 = wn_fI (wn_w r m 2) := by rw [cl, show (2 : Int32) = nI 2 from rfl, wn_fIu]
  have hWF := wn_rm_WF g2 hkm h4
  have hH : wn_H (wn_sh w (4 * m + k0) (4 * m + (a m - 1))) (wn_sh l (4 * m + k0) (4 * m + (a m - 1))) (wn_sh wh (4 * m + k0) (4 * m + (a m - 1))) := wn_H_sh h5.1 (by omega)
  have hY := wn_rm_H (wh := wh) (lo := 4 * m + k0) (hi := 4 * m + (a m - 1)) (by omega) h5.2
  -- what follows when the frame isn't the one under way
  have GO : ∀ (fr' : Int32), i_Rel (k + 5) (nI pn, nI ln, nI tk, sn, nI (en - tk), on, sc, rc, mk, vl, wn_fI (wn_w a m (a m - 1)), wn_fI (wn_sh w (4 * m + k0) (4 * m + (a m - 1))), wn_fI (wn_sh l (4 * m + k0) (4 * m + (a m - 1))), wn_fL (wn_sh d (4 * m + k0) (4 * m + (a m - 1))), wn_fI q, ii, il, ib, mc, wn_fI (if r m = 1 ∧ c m = k0 then wn_w r m 2 else r), wn_fI (wn_w c m (if k0 < c m then c m - 1 else c m)), wn_gA G, wn_gB G, wn_gC G, wn_gD G, wn_gE G, wn_gF G, wn_gH G, wn_gI G, wn_gJ G) (nI tk, sn, nI en, nI pn, nI ln, fr', gn, lo, lp, ie, st, la, yr, yk, on, mk, vl, sc, rc, mc, wn_fI (wn_w a m (a m - 1)), wn_sh wh (4 * m + k0) (4 * m + (a m - 1)), wn_sh wy (4 * m + k0) (4 * m + (a m - 1)), wn_fI q, wn_hh ii il, ib) →
      (∀ (post : Int32 → SY → Prop), post (nI m) (nI tk, sn, nI en, nI pn, nI ln, fr', gn, lo, lp, ie, st, la, yr, yk, on, mk, vl, sc, rc, mc, wn_fI (wn_w a m (a m - 1)), wn_sh wh (4 * m + k0) (4 * m + (a m - 1)), wn_sh wy (4 * m + k0) (4 * m + (a m - 1)), wn_fI q, wn_hh ii il, ib) → wY_cancel_42 post (nI p) (nI tk) sn (nI en) (nI pn) (nI ln) fr gn lo lp ie st la yr yk on mk vl sc rc mc (wn_fI a) wh wy (wn_fI q) (wn_hh ii il) ib) →
      ∀ post : Int32 → SX → Prop, (∀ u', (∀ (post' : Int32 → SY → Prop), (∀ v', i_Rel (k + 5) u' v' → post' (nI m) v') → wY_cancel_42 post' (nI p) (nI tk) sn (nI en) (nI pn) (nI ln) fr gn lo lp ie st la yr yk on mk vl sc rc mc (wn_fI a) wh wy (wn_fI q) (wn_hh ii il) ib) → post (nI m) u') → (wn_fI r (nI m).toNatClampNeg = 1 → vp_in (nI m) 5 ∧ ((wn_fI c (nI m).toNatClampNeg = nI k0 → vp_in (nI m) 5 ∧ ∀ y, y = upd (wn_fI r) (nI m).toNatClampNeg 2 → wX_cancel_70 post (nI m) (nI k0) (nI pn) (nI ln) (nI tk) sn (nI (en - tk)) on sc rc mk vl (wn_fI a) (wn_fI w) (wn_fI l) (wn_fL d) (wn_fI q) ii il ib mc y (wn_fI c) (wn_gA G) (wn_gB G) (wn_gC G) (wn_gD G) (wn_gE G) (wn_gF G) (wn_gH G) (wn_gI G) (wn_gJ G)) ∧ (¬ wn_fI c (nI m).toNatClampNeg = nI k0 → wX_cancel_70 post (nI m) (nI k0) (nI pn) (nI ln) (nI tk) sn (nI (en - tk)) on sc rc mk vl (wn_fI a) (wn_fI w) (wn_fI l) (wn_fL d) (wn_fI q) ii il ib mc (wn_fI r) (wn_fI c) (wn_gA G) (wn_gB G) (wn_gC G) (wn_gD G) (wn_gE G) (wn_gF G) (wn_gH G) (wn_gI G) (wn_gJ G)))) ∧ (¬ wn_fI r (nI m).toNatClampNeg = 1 → wX_cancel_70 post (nI m) (nI k0) (nI pn) (nI ln) (nI tk) sn (nI (en - tk)) on sc rc mk vl (wn_fI a) (wn_fI w) (wn_fI l) (wn_fL d) (wn_fI q) ii il ib mc (wn_fI r) (wn_fI c) (wn_gA G) (wn_gB G) (wn_gC G) (wn_gD G) (wn_gE G) (wn_gF G) (wn_gH G) (wn_gI G) (wn_gJ G)) := by
    intro fr' K KY post hpost
    have fin := hpost _ (fun post' hp' => KY post' (hp' _ K))
    refine pk_eq (r m) 1 (fun y1 => And.intro v5 (pk_eq (c m) k0 (fun y2 => And.intro v5 (nm_r er' ?_)) (fun y2 => ?_) ec rfl)) (fun y1 => ?_) er rfl
    · rw [if_pos ⟨y1, y2⟩] at fin
      exact wn_xrm g2 ham hkm hcm fin
    · rw [if_neg (fun q => y2 q.2)] at fin
      exact wn_xrm g2 ham hkm hcm fin
    · rw [if_neg (fun q => y1 q.1)] at fin
      exact wn_xrm g2 ham hkm hcm fin
  by_cases z : pn = 1
  · obtain ⟨s, fi, fl, fd, t, L, hX, e1, e2, e3, e4, e5⟩ := h8 z
    have hF := wn_FX_FO h4 hX
    obtain ⟨x1, x2, x3, x4⟩ := hX.1
    have hcs := h4.2.2.2 s x1
    have hVs : wn_V a (4 * s + c s) := wn_V4 x1 x4 hcs
    have zp : nI pn = 1 := by rw [z]; rfl
    refine wn_xuw1 h4 hX zp (pk_eq fi (w p) (fun y => ?_) (fun y => And.intro (by decide) (nm_r ed (And.intro (by decide) (nm_r em (And.intro v5 ?_))))) rfl rfl (by have := hF.1; omega) (by have := hw1 p hp16; omega))
    · have ep : 4 * s + c s = p := U _ _ hVs hV (by rw [hX.2.1.1]; exact y)
      refine wn_ye0 hf0 (br_t rfl (FND (br_t (nI_pos' (by omega)) (br_t zp (br_t ?_ ⟨rfl, J⟩)))))
      rw [e1, ep]
    · have nep : ¬ 4 * s + c s = p := fun q => y (by rw [← hX.2.1.1, q])
      have hne : ¬ (s = m ∧ c s = k0) := fun y => nep (by have y1 := y.1; have y2 := y.2; omega)
      have hX' := wn_rm_FX g2 hkm h4 hX hne
      have hpl := wn_rm_pl (f := w) g2 hkm ham x1 x4 hcs hne
      have hc' := hWF.2.2.2 s x1
      refine GO (nI (4 * s + wn_w c m (if k0 < c m then c m - 1 else c m) s)) ?_ ?_ _ ?_
      · refine wn_in (by omega) ⟨h1, h2, h3, hWF, ⟨hH, hY⟩, h6, fun q => absurd z q, fun _ => ⟨s, fi, fl, fd, t, L, hX', rfl, e2, e3, e4, e5⟩⟩
      · intro post hp
        have ef : wh fr.toNatClampNeg / 16 = nI fi := by
          rw [e1, nI_clamp (by omega), h5.1 _ (by omega), hX.2.1.1, hX.2.1.2.1, wn_hd hF.1 hF.2.1]
        have hw' := hX'.2.1.1
        unfold wY_cancel_42
        refine And.intro (by decide) (nm_r ed (br_t zp (And.intro (pk_in (4 * s + c s) 16 (by omega) e1) (And.intro (by decide) ?_))))
        rw [ef]
        rw [g1]
        refine wn_yto g2 ham hkm (br_f (nI_pos (by have := hF.1; omega)) ?_)
        rw [← hw']
        refine wn_yfd1 hWF.1 (fun j hj => ⟨(hWF.2.1 j hj).1, (hWF.2.1 j hj).2.1⟩) hH hWF.2.2.1 (wn_V4 x1 hpl.1 hc') ?_
        refine And.intro (by decide) ?_
        rw [ed2]
        exact hp
      · intro u' hu
        refine wn_ye0 hf0 (br_t rfl (FND (br_t (nI_pos' (by omega)) (br_t zp (br_f ?_ (hu _ ?_))))))
        · rw [e1]
          exact fun q => nep ((nI_eq (by omega) (by omega)).mp q)
        · intro v' hv
          exact ⟨rfl, hv⟩
  · have zp : ¬ nI pn = 1 := fun y => z ((nI_eq (b := 1) (by omega) (by omega)).mp y)
    have r0 := h7 z m g2
    refine wn_xuw0 zp (br_f ?_ (And.intro (by decide) (nm_r ed (And.intro (by decide) (nm_r em (And.intro v5 ?_))))))
    · intro q
      have := nI_pos (n := w p) (by have := hw1 p hp16; omega)
      rw [← q] at this
      exact this (by decide)
    · refine GO fr ?_ ?_ _ ?_
      · rw [if_neg (by omega)]
        exact wn_in (by omega) ⟨h1, h2, h3, hWF, ⟨hH, hY⟩, h6, h7, fun q => absurd q z⟩
      · intro post hp
        unfold wY_cancel_42
        refine And.intro (by decide) (nm_r ed (br_f zp ?_))
        rw [g1]
        refine wn_yto g2 ham hkm (br_t (by decide) (And.intro (by decide) ?_))
        rw [ed2]
        exact hp
      · intro u' hu
        exact wn_ye0 hf0 (br_t rfl (FND (br_t (nI_pos' (by omega)) (br_f zp (hu _ (fun v' hv => ⟨rfl, hv⟩))))))
end
section
/-! bitsOf: a listener apart -/
section
variable {on : Nat → Int32} {a w l d r c w' l' d' r' c' : Nat → Nat} {G G' : Nat → wn_L} {s fi fl fd t : Nat} {L : wn_L}
theorem wn_WF_x (hw : ∀ j, j < 16 → w' j = w j) (hl : ∀ j, j < 16 → l' j = l j) (hd : ∀ j, j < 16 → d' j = d j) (hc : ∀ n, n < 4 → c' n = c n) (h : wn_WF a w l d c) : wn_WF a w' l' d' c' := by
  obtain ⟨W1, W2, W3, W4⟩ := h
  refine ⟨W1, ?_, ?_, ?_⟩
  · intro j hj; rw [hw j hj, hl j hj, hd j hj]; exact W2 j hj
  · intro i j hi hj e
    rw [hw i hi.1, hw j hj.1] at e
    exact W3 i j hi hj e
  · intro n hn; rw [hc n hn]; exact W4 n hn
theorem wn_FX_x (hw : ∀ j, j < 16 → w' j = w j) (hl : ∀ j, j < 16 → l' j = l j) (hd : ∀ j, j < 16 → d' j = d j) (hc : ∀ n, n < 4 → c' n = c n) (hr : ∀ n, n < 4 → r' n = r n) (hG : ∀ n, n < 4 → G' n = G n) (hW : wn_WF a w l d c) (h : wn_FX on a w l d r c G s fi fl fd t L) : wn_FX on a w' l' d' r' c' G' s fi fl fd t L := by
  obtain ⟨⟨h1, h2, h3, h4⟩, ⟨e1, e2, e3⟩, h5, h6, h7, h8⟩ := h
  have W4 := hW.2.2.2
  have hcs := W4 s h1
  refine ⟨⟨h1, h2, by rw [hr s h1]; exact h3, by rw [hc s h1]; exact h4⟩, ⟨?_, ?_, ?_⟩, ?_, ?_, ?_, h8⟩
  · rw [hc s h1, hw _ (by omega)]; exact e1
  · rw [hc s h1, hl _ (by omega)]; exact e2
  · rw [hc s h1, hd _ (by omega)]; exact e3
  · intro n hn z; rw [hr n hn]; exact h5 n hn z
  · intro n hn z; rw [hr n hn, hG n hn]; exact h6 n hn z
  · intro n hn hns z
    rw [hr n hn] at z
    have hcn := W4 n hn
    rw [hc n hn, hw _ (by omega)]
    exact h7 n hn hns z
end
theorem wn_uu (G : Nat → wn_L) (n : Nat) (L L' : wn_L) : wn_u (wn_u G n L) n L' = wn_u G n L' := by
  funext j
  show (if j = n then L' else if j = n then L else G j) = if j = n then L' else G j
  by_cases z : j = n
  · rw [if_pos z, if_pos z]
  · rw [if_neg z, if_neg z, if_neg z]
section
variable {ph lf ck sn di : Int32} {on sc rc mk vl : Nat → Int32} {a w l d q r c : Nat → Nat} {ii il : Nat → Int32} {ib : Nat → Int64} {mc : Nat → Int32} {G : Nat → wn_L}
theorem wn_x50 {post : Int32 → SX → Prop} {fi fl fd : Nat} (hF : wn_FO fi fl fd) (hr : r 4 = 1) (hc : c 4 = 0) (hw : w 16 = fi) (hl : l 16 = fl) (hd : d 16 = fd) (hp : post (nI (wn_cn fi fl fd (34 + 8 * fl)) + 10) (ph, lf, ck, sn, di, on, sc, rc, mk, vl, wn_fI a, wn_fI w, wn_fI l, wn_fL d, wn_fI q, ii, il, ib, mc, wn_fI r, wn_fI c, wn_gA (wn_u G 4 (wn_TP fi fl fd 0)), wn_gB (wn_u G 4 (wn_TP fi fl fd 0)), wn_gC (wn_u G 4 (wn_TP fi fl fd 0)), wn_gD (wn_u G 4 (wn_TP fi fl fd 0)), wn_gE (wn_u G 4 (wn_TP fi fl fd 0)), wn_gF (wn_u G 4 (wn_TP fi fl fd 0)), wn_gH (wn_u G 4 (wn_TP fi fl fd 0)), wn_gI (wn_u G 4 (wn_TP fi fl fd 0)), wn_gJ (wn_u G 4 (wn_TP fi fl fd 0)))) : ∀ e t L, t + e = wn_cn fi fl fd (34 + 8 * fl) → wn_St fi fl fd t L → ∀ n, e < n → wX_bitsOf_50 post n (nI t) ph lf ck sn di on sc rc mk vl (wn_fI a) (wn_fI w) (wn_fI l) (wn_fL d) (wn_fI q) ii il ib mc (wn_fI r) (wn_fI c) (wn_gA (wn_u G 4 L)) (wn_gB (wn_u G 4 L)) (wn_gC (wn_u G 4 L)) (wn_gD (wn_u G 4 L)) (wn_gE (wn_u G 4 L)) (wn_gF (wn_u G 4 L)) (wn_gH (wn_u G 4 L)) (wn_gI (wn_u G 4 L)) (wn_gJ (wn_u G 4 L)) := by
  have hm := wn_cn_max (fi := fi) (fd := fd) hF.2.1
  intro e
  induction e with
  | zero =>
    intro t L ht hS n hn
    obtain ⟨n, rfl⟩ : ∃ j, n = j + 1 := ⟨n - 1, by omega⟩
    have e1 := wn_St_T hS (by omega)
    rw [show t - wn_cn fi fl fd (34 + 8 * fl) = 0 by omega] at e1
    rw [e1, show t = wn_cn fi fl fd (34 + 8 * fl) by omega]
    have hf := hF.2.1
    refine pk_le 140 _ (fun h => absurd h (by omega)) (fun _ => wn_xtail (n := 4) (by omega) (wn_us _ _ _) (by omega) (by omega) ?_) rfl rfl
    rw [if_pos ⟨by omega, rfl⟩]
    exact br_f (by decide) hp
  | succ e ih =>
    intro t L ht hS n hn
    obtain ⟨n, rfl⟩ : ∃ j, n = j + 1 := ⟨n - 1, by omega⟩
    have nt : ¬ wn_tl L := fun y => by have := (wn_St_tl hS).mp y; omega
    have hs := wn_St_sm hF hS
    have hk := wn_nt_k hF hS nt
    have nx := wn_St_nx hF hS (fun _ => rfl)
    have next := ih (t + 1) _ (by omega) nx n (by omega)
    refine pk_le 140 t (fun h => absurd h (by omega)) (fun _ => ?_) rfl rfl
    have out : ∀ {P : Int32 → Prop}, P (nI (wn_ob L fi fl fd)) → wpX_output P (ph, lf, ck, sn, di, on, sc, rc, mk, vl, wn_fI a, wn_fI w, wn_fI l, wn_fL d, wn_fI q, ii, il, ib, mc, wn_fI r, wn_fI c, wn_gA (wn_u G 4 L), wn_gB (wn_u G 4 L), wn_gC (wn_u G 4 L), wn_gD (wn_u G 4 L), wn_gE (wn_u G 4 L), wn_gF (wn_u G 4 L), wn_gH (wn_u G 4 L), wn_gI (wn_u G 4 L), wn_gJ (wn_u G 4 L)) 4 := by
      intro P hP
      exact wn_xout1 (n := 4) (qq := 16) (by omega) (wn_us _ _ _) hs nt hk hF (by show nI (r 4) = 1; rw [hr]; rfl) (by omega) (by show 4 * nI 4 + nI (c 4) = nI 16; rw [wn_4k, hc]) (by show nI (w 16) = _; rw [hw]) (by show nI (l 16) = _; rw [hl]) (by show lN (d 16) = _; rw [hd]) hP
    have lis : wpX_listen (fun u => match u with | ((ph, lf, ck, sn, di, on, sc, rc, xmk, vl, wc, wi, wl, wd, ic, ii, il, ib, mc, ro, ch, pA, pB, pC, pD, pE, pF, pH, pI, pJ)) => ∀ y : Int32, y = nI t + 1 → wX_bitsOf_50 post n y ph lf ck sn di on sc rc xmk vl wc wi wl wd ic ii il ib mc ro ch pA pB pC pD pE pF pH pI pJ) (ph, lf, ck, sn, di, on, sc, rc, mk, vl, wn_fI a, wn_fI w, wn_fI l, wn_fL d, wn_fI q, ii, il, ib, mc, wn_fI r, wn_fI c, wn_gA (wn_u G 4 L), wn_gB (wn_u G 4 L), wn_gC (wn_u G 4 L), wn_gD (wn_u G 4 L), wn_gE (wn_u G 4 L), wn_gF (wn_u G 4 L), wn_gH (wn_u G 4 L), wn_gI (wn_u G 4 L), wn_gJ (wn_u G 4 L)) (nI 4) (nI (wn_ob L fi fl fd)) := by
      refine wn_xlisten (by omega) (wn_ob_lt _ _ _ _) (wn_us _ _ _) hs ?_
      rw [wn_uu]
      exact nm_r (nI_1 t) next
    obtain ⟨k0, x, rr, cc, hi, hl', hd', hc', tc⟩ := L
    have nt' : ¬ (19 ≤ k0 ∧ k0 = 34 + 8 * hl') := nt
    refine wn_xtail (n := 4) (by omega) (wn_us _ _ _) hs.1 hs.2.2.2.1 ?_
    rw [if_neg nt']
    exact br_t rfl (out lis)
end
theorem wn_modbit {D m i : Nat} (h : i < m) : D / 2 ^ i % 2 = D % 2 ^ m / 2 ^ i % 2 := by
  obtain ⟨j, rfl⟩ : ∃ j, m = i + (j + 1) := ⟨m - i - 1, by omega⟩
  rw [Nat.pow_add, Nat.mod_mul_right_div_self, Nat.pow_succ, Nat.mul_comm, Nat.mod_mul_right_mod]
theorem i_vc_bitsOf {k : Nat} {u : SX} {v : SY} (I : i_Rel k u v) (hk : k + 5 ≤ 2560) (v1 : Int32) (v2 : Int32) (a2 : Int64) : wpX_bitsOf (fun r u' => wpY_bitsOf (fun r' v' => r' = r ∧ i_Rel (k + 5) u' v') v v1 v2 a2) u v1 v2 a2 := by
  refine wn_el (P := fun u v => wpX_bitsOf (fun r u' => wpY_bitsOf (fun r' v' => r' = r ∧ i_Rel (k + 5) u' v') v v1 v2 a2) u v1 v2 a2) ?_ I
  intro pn ln tk en sn on sc rc mk vl a w l d q r c ii il ib mc G fr gn lo lp ie st la yr yk wh wy ht hR
  have J : i_Rel (k + 5) (nI pn, nI ln, nI tk, sn, nI (en - tk), on, sc, rc, mk, vl, wn_fI a, wn_fI w, wn_fI l, wn_fL d, wn_fI q, ii, il, ib, mc, wn_fI r, wn_fI c, wn_gA G, wn_gB G, wn_gC G, wn_gD G, wn_gE G, wn_gF G, wn_gH G, wn_gI G, wn_gJ G) (nI tk, sn, nI en, nI pn, nI ln, fr, gn, lo, lp, ie, st, la, yr, yk, on, mk, vl, sc, rc, mc, wn_fI a, wh, wy, wn_fI q, wn_hh ii il, ib) := wn_in (by omega) hR
  obtain ⟨h1, h2, h3, h4, h5, h6, h7, h8⟩ := hR
  unfold wpX_bitsOf wpY_bitsOf
  rcases wn_idc v1 with hb | ⟨fi, hf, rfl⟩
  · exact wn_xe0 hb (br_t rfl (wn_ye1 hb (br_f (by decide) ⟨rfl, J⟩)))
  refine wn_xe1 hf (br_f (by decide) ?_)
  by_cases z3 : v2 < 0
  · exact br_t z3 (wn_ye0 hf (br_t rfl (br_t z3 ⟨rfl, J⟩)))
  obtain ⟨fl, hfl, rfl⟩ := nI_of z3
  by_cases z4 : fl ≤ 8
  case neg =>
    have x4 : ¬ nI fl ≤ 8 := nI_ge (a := 8) (by omega) hfl
    exact br_f z3 (br_f x4 (wn_ye0 hf (br_t rfl (br_f z3 (br_f x4 ⟨rfl, J⟩)))))
  have x4 : nI fl ≤ 8 := nI_le (b := 8) z4 (by decide)
  obtain ⟨D, hD, rfl⟩ := wb_of a2
  have hF : wn_FO fi fl (D % 2 ^ (8 * fl)) := ⟨hf, z4, Nat.mod_lt _ (Nat.two_pow_pos _)⟩
  have o16 : ∀ (f : Nat → Nat) g j, j < 16 → wn_w f 16 g j = f j := fun f g j hj => wn_wo (by omega)
  have o4 : ∀ (f : Nat → Nat) g n, n < 4 → wn_w f 4 g n = f n := fun f g n hn => wn_wo (by omega)
  have oG : ∀ L n, n < 4 → wn_u G 4 L n = G n := fun L n hn => wn_un (by omega)
  have K : ∀ ie' st' la' yr' yk', i_Rel (k + 5) (nI pn, nI ln, nI tk, sn, nI (en - tk), on, sc, rc, mk, vl, wn_fI a, wn_fI (wn_w w 16 fi), wn_fI (wn_w l 16 fl), wn_fL (wn_w d 16 (D % 2 ^ (8 * fl))), wn_fI q, ii, il, ib, mc, wn_fI (wn_w r 4 1), wn_fI (wn_w c 4 0), wn_gA (wn_u G 4 (wn_TP fi fl (D % 2 ^ (8 * fl)) 0)), wn_gB (wn_u G 4 (wn_TP fi fl (D % 2 ^ (8 * fl)) 0)), wn_gC (wn_u G 4 (wn_TP fi fl (D % 2 ^ (8 * fl)) 0)), wn_gD (wn_u G 4 (wn_TP fi fl (D % 2 ^ (8 * fl)) 0)), wn_gE (wn_u G 4 (wn_TP fi fl (D % 2 ^ (8 * fl)) 0)), wn_gF (wn_u G 4 (wn_TP fi fl (D % 2 ^ (8 * fl)) 0)), wn_gH (wn_u G 4 (wn_TP fi fl (D % 2 ^ (8 * fl)) 0)), wn_gI (wn_u G 4 (wn_TP fi fl (D % 2 ^ (8 * fl)) 0)), wn_gJ (wn_u G 4 (wn_TP fi fl (D % 2 ^ (8 * fl)) 0))) (nI tk, sn, nI en, nI pn, nI ln, fr, gn, lo, lp, ie', st', la', yr', yk', on, mk, vl, sc, rc, mc, wn_fI a, wh, wy, wn_fI q, wn_hh ii il, ib) := by
    intro ie' st' la' yr' yk'
    refine wn_in (by omega) ⟨h1, h2, h3, wn_WF_x (o16 w fi) (o16 l fl) (o16 d _) (o4 c 0) h4, ⟨?_, ?_⟩, h6, ?_, ?_⟩
    · intro j hj; rw [o16 w fi j hj, o16 l fl j hj]; exact h5.1 j hj
    · intro j hj; rw [o16 d _ j hj]; exact h5.2 j hj
    · intro z n hn; rw [o4 r 1 n hn]; exact h7 z n hn
    · intro z
      obtain ⟨s, gi, gl, gd, t, L, hX, g1, g2⟩ := h8 z
      refine ⟨s, gi, gl, gd, t, L, wn_FX_x (o16 w fi) (o16 l fl) (o16 d _) (o4 c 0) (o4 r 1) (oG _) h4 hX, ?_, g2⟩
      rw [o4 c 0 s hX.1.1]; exact g1
  refine br_f z3 (br_t x4 ?_)
  refine wn_xset (p := 16) (by omega) hD z4 ?_
  refine nm_r (e' := wn_fI (wn_w c 4 0)) (wn_fIu c 4 0) (nm_r (e' := wn_fI (wn_w r 4 1)) (wn_fIu r 4 1) (wn_xbl (n := 4) (by omega) ?_))
  have hm := wn_cn_max (fi := fi) (fd := D % 2 ^ (8 * fl)) z4
  refine ⟨wn_cn fi fl (D % 2 ^ (8 * fl)) (34 + 8 * fl) + 1, wn_x50 hF wn_ws wn_ws wn_ws wn_ws wn_ws ?_ (wn_cn fi fl (D % 2 ^ (8 * fl)) (34 + 8 * fl)) 0 wn_L0 (by omega) (wn_St_0 _ _ _ hF) _ (by omega)⟩
  refine wn_ye0 hf (br_t rfl (br_f z3 (br_t x4 ?_)))
  exact wn_ymeas (fd := D % 2 ^ (8 * fl)) hf hD z4 (fun i hi => wn_modbit hi) ⟨rfl, K _ _ _ _ _⟩
end
section
/-! one bit time, each side by itself -/
theorem wn_anyV {on : Nat → Int32} {a : Nat → Nat} (h : ¬ wn_any on a) : ∀ p, wn_V a p → on (p / 4) = 0 := by
  intro p hV
  by_cases z : on (p / 4) = 0
  · exact z
  · exact absurd ⟨p / 4, (wn_Vd hV).2.1, z, by have := hV.2; omega⟩ h
theorem wn_Vany {on : Nat → Int32} {a : Nat → Nat} (h : wn_any on a) : ¬ ∀ p, wn_V a p → on (p / 4) = 0 := by
  obtain ⟨n, hn, ho, hp⟩ := h
  intro y
  have := y (4 * n + 0) (wn_V4 hn hp (by omega))
  rw [show (4 * n + 0) / 4 = n by omega] at this
  exact ho this
theorem wn_enu {en tk : Nat} (hen : en ≤ tk + 1000) : (nI (en - tk) ≤ 0 → nI (en - tk) - 0 = nI (en - (tk + 1))) ∧ (¬ nI (en - tk) ≤ 0 → nI (en - tk) - 1 = nI (en - (tk + 1))) := by
  refine pk_le (en - tk) 0 (fun y => ?_) (fun y => ?_) rfl rfl
  · rw [Int32.sub_zero, show en - tk = en - (tk + 1) by omega]
  · rw [show (1 : Int32) = nI 1 from rfl, pk_sub (by omega), show en - tk - 1 = en - (tk + 1) by omega]
section
variable {pn ln tk en : Nat}
variable {ph lf ck sn di : Int32} {on sc rc mk vl : Nat → Int32} {a w l d q r c : Nat → Nat} {ii il : Nat → Int32} {ib : Nat → Int64} {mc : Nat → Int32} {G : Nat → wn_L}
/-- a step in a phase that isn't idle -/
theorem wn_xstA {post : SX → Prop} (hen : en ≤ tk + 1000) (hpn : pn < 4) (h0 : pn ≠ 0) (hp : post (nI pn, nI ln, nI (tk + 1), sn, nI (en - (tk + 1)), on, sc, rc, mk, vl, wn_fI a, wn_fI w, wn_fI l, wn_fL d, wn_fI q, ii, il, ib, mc, wn_fI r, wn_fI c, wn_gA G, wn_gB G, wn_gC G, wn_gD G, wn_gE G, wn_gF G, wn_gH G, wn_gI G, wn_gJ G)) : wpX_step post (nI pn, nI ln, nI tk, sn, nI (en - tk), on, sc, rc, mk, vl, wn_fI a, wn_fI w, wn_fI l, wn_fL d, wn_fI q, ii, il, ib, mc, wn_fI r, wn_fI c, wn_gA G, wn_gB G, wn_gC G, wn_gD G, wn_gE G, wn_gF G, wn_gH G, wn_gI G, wn_gJ G) := by
  obtain ⟨u1, u2⟩ := wn_enu hen
  refine nm_r (nI_1 tk) (br_c (fun y => ?_) (fun y => ?_))
  · exact nm_r (u1 y) (pk_eq pn 0 (fun z => absurd z h0) (fun _ => hp) rfl rfl)
  · exact nm_r (u2 y) (pk_eq pn 0 (fun z => absurd z h0) (fun _ => hp) rfl rfl)
theorem wn_xstB {post : SX → Prop} (hen : en ≤ tk + 1000) (ha : ∀ n, n < 4 → a n ≤ 4) (hn : ¬ wn_any on a) (hp : post (nI 0, nI ln, nI (tk + 1), sn, nI (en - (tk + 1)), on, sc, rc, mk, vl, wn_fI a, wn_fI w, wn_fI l, wn_fL d, wn_fI q, ii, il, ib, mc, wn_fI r, wn_fI c, wn_gA G, wn_gB G, wn_gC G, wn_gD G, wn_gE G, wn_gF G, wn_gH G, wn_gI G, wn_gJ G)) : wpX_step post (nI 0, nI ln, nI tk, sn, nI (en - tk), on, sc, rc, mk, vl, wn_fI a, wn_fI w, wn_fI l, wn_fL d, wn_fI q, ii, il, ib, mc, wn_fI r, wn_fI c, wn_gA G, wn_gB G, wn_gC G, wn_gD G, wn_gE G, wn_gF G, wn_gH G, wn_gI G, wn_gJ G) := by
  obtain ⟨u1, u2⟩ := wn_enu hen
  refine nm_r (nI_1 tk) (br_c (fun y => ?_) (fun y => ?_))
  · exact nm_r (u1 y) (br_t rfl (wn_xany ha (fun h => absurd h hn) (fun _ => br_t rfl hp)))
  · exact nm_r (u2 y) (br_t rfl (wn_xany ha (fun h => absurd h hn) (fun _ => br_t rfl hp)))
theorem wn_xstC (hen : en ≤ tk + 1000) (hW : wn_WF a w l d c) (hy : wn_any on a) : ∃ c', wn_ch on a w c' 4 ∧ ∀ post : SX → Prop, post (nI 1, nI ln, nI (tk + 1), sn, nI (en - (tk + 1)), on, sc, rc, mk, vl, wn_fI a, wn_fI w, wn_fI l, wn_fL d, wn_fI q, ii, il, ib, mc, wn_fI (wn_rb on a r 4), wn_fI c', wn_gA (wn_Gb on G 4), wn_gB (wn_Gb on G 4), wn_gC (wn_Gb on G 4), wn_gD (wn_Gb on G 4), wn_gE (wn_Gb on G 4), wn_gF (wn_Gb on G 4), wn_gH (wn_Gb on G 4), wn_gI (wn_Gb on G 4), wn_gJ (wn_Gb on G 4)) → wpX_step post (nI 0, nI ln, nI tk, sn, nI (en - tk), on, sc, rc, mk, vl, wn_fI a, wn_fI w, wn_fI l, wn_fL d, wn_fI q, ii, il, ib, mc, wn_fI r, wn_fI c, wn_gA G, wn_gB G, wn_gC G, wn_gD G, wn_gE G, wn_gF G, wn_gH G, wn_gI G, wn_gJ G) := by
  obtain ⟨u1, u2⟩ := wn_enu hen
  obtain ⟨c', h1, h2⟩ := wn_xbf (ph := nI 0) (lf := nI ln) (ck := nI (tk + 1)) (sn := sn) (di := nI (en - (tk + 1))) (on := on) (sc := sc) (rc := rc) (mk := mk) (vl := vl) (a := a) (w := w) (l := l) (d := d) (q := q) (r := r) (c := c) (ii := ii) (il := il) (ib := ib) (mc := mc) (G := G) hW.1 (fun j hj => (hW.2.1 j hj).1) hW.2.2.2
  refine ⟨c', h1, fun post hp => ?_⟩
  refine nm_r (nI_1 tk) (br_c (fun y => ?_) (fun y => ?_))
  · exact nm_r (u1 y) (br_t rfl (wn_xany hW.1 (fun _ => br_f (by decide) (h2 _ hp)) (fun h => absurd hy h)))
  · exact nm_r (u2 y) (br_t rfl (wn_xany hW.1 (fun _ => br_f (by decide) (h2 _ hp)) (fun h => absurd hy h)))
/-- one turn of run's loop: the disturbance -/
theorem wn_xrun {post : Int32 → SX → Prop} {x1 x2 : Int32} {n x3 : Nat} (hen : en ≤ tk + 1000) (hx : ¬ x1 ≤ nI x3) (h : ∀ ds : Int32, (¬ ds = 0 ↔ en = tk + 1) → wX_run_38 post (wX_run_20 post x1 x2 n) x1 x2 (nI x3) ds (nI pn) (nI ln) (nI tk) sn (nI (en - tk)) on sc rc mk vl (wn_fI a) (wn_fI w) (wn_fI l) (wn_fL d) (wn_fI q) ii il ib mc (wn_fI r) (wn_fI c) (wn_gA G) (wn_gB G) (wn_gC G) (wn_gD G) (wn_gE G) (wn_gF G) (wn_gH G) (wn_gI G) (wn_gJ G)) : wX_run_20 post x1 x2 (n + 1) (nI x3) (nI pn) (nI ln) (nI tk) sn (nI (en - tk)) on sc rc mk vl (wn_fI a) (wn_fI w) (wn_fI l) (wn_fL d) (wn_fI q) ii il ib mc (wn_fI r) (wn_fI c) (wn_gA G) (wn_gB G) (wn_gC G) (wn_gD G) (wn_gE G) (wn_gF G) (wn_gH G) (wn_gI G) (wn_gJ G) := by
  refine br_f hx (pk_eq (en - tk) 1 (fun y => h 1 ?_) (fun y => h 0 ?_) rfl rfl)
  · exact ⟨fun _ => by omega, fun _ => by decide⟩
  · exact ⟨fun z => absurd rfl z, fun z => absurd (by omega) y⟩
/-- waiting -/
theorem wn_xwt {post : SX → Prop} (hpn : pn < 4) (h2 : 2 ≤ pn) (hl : 1 ≤ ln) (hl2 : ln ≤ 14) (hp : post (nI (if ln = 1 then (if pn = 2 then 3 else 0) else pn), nI (if ln = 1 then (if pn = 2 then 3 else 0) else ln - 1), nI tk, sn, nI (en - tk), on, sc, rc, mk, vl, wn_fI a, wn_fI w, wn_fI l, wn_fL d, wn_fI q, ii, il, ib, mc, wn_fI r, wn_fI c, wn_gA G, wn_gB G, wn_gC G, wn_gD G, wn_gE G, wn_gF G, wn_gH G, wn_gI G, wn_gJ G)) : wpX_wait1 post (nI pn, nI ln, nI tk, sn, nI (en - tk), on, sc, rc, mk, vl, wn_fI a, wn_fI w, wn_fI l, wn_fL d, wn_fI q, ii, il, ib, mc, wn_fI r, wn_fI c, wn_gA G, wn_gB G, wn_gC G, wn_gD G, wn_gE G, wn_gF G, wn_gH G, wn_gI G, wn_gJ G) := by
  have e : nI ln - 1 = nI (ln - 1) := by rw [show (1 : Int32) = nI 1 from rfl, pk_sub hl]
  refine nm_r e (pk_le (ln - 1) 0 (fun y => pk_eq pn 2 (fun z => ?_) (fun z => ?_) rfl rfl) (fun y => ?_) rfl rfl)
  · have y1 : ln = 1 := by omega
    simp only [if_pos y1, if_pos z] at hp
    exact hp
  · have y1 : ln = 1 := by omega
    simp only [if_pos y1, if_neg z] at hp
    rw [show ln - 1 = 0 by omega]
    exact hp
  · have y1 : ¬ ln = 1 := by omega
    simp only [if_neg y1] at hp
    exact hp
variable {nw da yp rs fr gn lo lp ie st la yr yk : Int32} {wh : Nat → Int32} {wy : Nat → Int64}
theorem wn_ywt {post : SY → Prop} (hpn : pn < 4) (h2 : 2 ≤ pn) (hl : 1 ≤ ln) (hl2 : ln ≤ 14) (hp : post (nI tk, sn, nI en, nI (if ln = 1 then (if pn = 2 then 3 else 0) else pn), nI (if ln = 1 then (if pn = 2 then 3 else 0) else ln - 1), fr, gn, lo, lp, ie, st, la, yr, yk, on, mk, vl, sc, rc, mc, wn_fI a, wh, wy, wn_fI q, wn_hh ii il, ib)) : wpY_goOn post (nI tk, sn, nI en, nI pn, nI ln, fr, gn, lo, lp, ie, st, la, yr, yk, on, mk, vl, sc, rc, mc, wn_fI a, wh, wy, wn_fI q, wn_hh ii il, ib) := by
  have e : nI ln - 1 = nI (ln - 1) := by rw [show (1 : Int32) = nI 1 from rfl, pk_sub hl]
  refine nm_r e (pk_eq (ln - 1) 0 (fun y => pk_eq pn 2 (fun z => ?_) (fun z => ?_) rfl rfl) (fun y => ?_) rfl rfl)
  · have y1 : ln = 1 := by omega
    simp only [if_pos y1, if_pos z] at hp
    exact pk_eq pn 2 (fun _ => hp) (fun h => absurd z h) rfl rfl
  · have y1 : ln = 1 := by omega
    simp only [if_pos y1, if_neg z] at hp
    exact pk_eq pn 2 (fun h => absurd h z) (fun _ => hp) rfl rfl
  · have y1 : ¬ ln = 1 := by omega
    simp only [if_neg y1] at hp
    exact hp
/-- the reference's next bit -/
theorem wn_ynb {post : SY → Prop} {A B t p t1 e1 : Nat} (hA : A < 1000) (hB : B < 1000) (ht : t < 2000) (hp16 : p < 16) (ht1 : t1 < 2 ^ 31) (he1 : e1 < 2 ^ 31)
    (h75 : (e1 = t1 ∧ A ≤ t ∧ t ≤ B) ∨ (t = B + 1 ∧ ∀ n, n < 4 → n ≠ p / 4 → on n = 0) → wY_nextBit_75 post (nI t1) sn (nI e1) yp rs (nI p) (nI (t + 1)) (nI A) (nI B) ie st la yr yk on mk vl sc rc mc (wn_fI a) wh wy (wn_fI q) (wn_hh ii il) ib)
    (h82 : ¬ ((e1 = t1 ∧ A ≤ t ∧ t ≤ B) ∨ (t = B + 1 ∧ ∀ n, n < 4 → n ≠ p / 4 → on n = 0)) → wY_nextBit_82 post (nI t1) sn (nI e1) yp rs (nI p) (nI (t + 1)) (nI A) (nI B) ie st la yr yk on mk vl sc rc mc (wn_fI a) wh wy (wn_fI q) (wn_hh ii il) ib) : wpY_nextBit post (nI t1, sn, nI e1, yp, rs, nI p, nI t, nI A, nI B, ie, st, la, yr, yk, on, mk, vl, sc, rc, mc, wn_fI a, wh, wy, wn_fI q, wn_hh ii il, ib) := by
  have eB1 : nI B + 1 = nI (B + 1) := nI_1 B
  have eB2 : nI B + 2 = nI (B + 2) := nI_add B 2
  have Z : ¬ (e1 = t1 ∧ A ≤ t ∧ t ≤ B) → wY_nextBit_49 post (nI t1) sn (nI e1) yp rs (nI p) (nI (t + 1)) (nI A) (nI B) ie st la yr yk on mk vl sc rc mc (wn_fI a) wh wy (wn_fI q) (wn_hh ii il) ib := by
    intro nh
    refine br_t rfl (pk_eq (t + 1) (B + 2) (fun y => wn_yalone hp16 (fun hal => ?_) (fun hal => ?_)) (fun y => ?_) rfl eB2)
    · exact br_f (by decide) (h75 (Or.inr ⟨by omega, hal⟩))
    · obtain ⟨n, g1, g2, g3⟩ := hal
      exact br_t rfl (h82 (fun q => q.elim nh (fun q' => g3 (q'.2 n g1 g2))))
    · exact h82 (fun q => q.elim nh (fun q' => y (by omega)))
  refine nm_r (nI_1 t) (pk_eq e1 t1 (fun y => pk_le (t + 1) A (fun y2 => Z (fun q => by omega)) (fun y2 => pk_lt (B + 1) (t + 1) (fun y3 => Z (fun q => by omega)) (fun y3 => ?_) eB1 rfl) rfl rfl) (fun y => Z (fun q => y q.1)) rfl rfl)
  exact br_f (by decide) (h75 (Or.inl ⟨y, by omega, by omega⟩))
end
end
section
/-! one bit time: both sides go on to related states -/
section
variable {ph lf ck sn di : Int32} {on sc rc mk vl : Nat → Int32} {a w l d q r c : Nat → Nat} {ii il : Nat → Int32} {ib : Nat → Int64} {mc : Nat → Int32} {G : Nat → wn_L}
theorem wn_FX_tc {s fi fl fd t : Nat} {L : wn_L} (h : wn_FX on a w l d r c G s fi fl fd t L) {n : Nat} (hn : n < 4) (hr : r n ≠ 0) : (G n).2.2.2.2.2.2.2.2 = t - wn_cn fi fl fd (34 + 8 * fl) := by
  rw [(h.2.2.2.1 n hn (wn_FX_on h hn hr)).1]
  exact wn_St_tc h.2.2.2.2.2
theorem wn_fin_no {post : SX → Prop} {s fi fl fd t : Nat} {L : wn_L} (h : wn_FX on a w l d r c G s fi fl fd t L) (ht : t < wn_cn fi fl fd (34 + 8 * fl) + 10) (hp : post (ph, lf, ck, sn, di, on, sc, rc, mk, vl, wn_fI a, wn_fI w, wn_fI l, wn_fL d, wn_fI q, ii, il, ib, mc, wn_fI r, wn_fI c, wn_gA G, wn_gB G, wn_gC G, wn_gD G, wn_gE G, wn_gF G, wn_gH G, wn_gI G, wn_gJ G)) : wpX_finishIfSent post (ph, lf, ck, sn, di, on, sc, rc, mk, vl, wn_fI a, wn_fI w, wn_fI l, wn_fL d, wn_fI q, ii, il, ib, mc, wn_fI r, wn_fI c, wn_gA G, wn_gB G, wn_gC G, wn_gD G, wn_gE G, wn_gF G, wn_gH G, wn_gI G, wn_gJ G) := by
  have tc : ∀ n, n < 4 → r n = 1 → (G n).2.2.2.2.2.2.2.2 = t - wn_cn fi fl fd (34 + 8 * fl) := fun n hn hr => wn_FX_tc h hn (by omega)
  refine wn_xfin (wn_FX_r10 h) (fun n hn hr => by rw [tc n hn hr]; omega) (fun _ => hp) (fun ⟨n, hn, hr, e⟩ => ?_)
  rw [tc n hn hr] at e
  omega
theorem wn_only {s fi fl fd t : Nat} {L : wn_L} (h : wn_FX on a w l d r c G s fi fl fd t L) (ht : wn_cn fi fl fd 12 ≤ t) : ∀ n, n < 4 → n ≠ s → ¬ on n = 0 → r n = 2 := by
  intro n hn hns ho
  rcases (h.2.2.2.1 n hn ho).2 with y | y
  · have := (wn_St_12 h.2.2.2.2.2).mp (h.2.2.2.2.1 n hn hns y).2.2.1
    omega
  · exact y
theorem wn_fin_yes {post : SX → Prop} {s fi fl fd t : Nat} {L : wn_L} (hW : wn_WF a w l d c) (h : wn_FX on a w l d r c G s fi fl fd t L) (ht : t = wn_cn fi fl fd (34 + 8 * fl) + 10) (hB : wn_IB (q, ii, il, ib, mc))
    (hp : post (3, 3, ck, sn + 1, di, on, wn_sF sc s, wn_rF on s rc 4, mk, vl, wn_fI (wn_w a s (a s - 1)), wn_fI (wn_sh w (4 * s + c s) (4 * s + (a s - 1))), wn_fI (wn_sh l (4 * s + c s) (4 * s + (a s - 1))), wn_fL (wn_sh d (4 * s + c s) (4 * s + (a s - 1))), wn_fI ((wn_dF on mk vl s fi fl fd (q, ii, il, ib, mc) 4).1), (wn_dF on mk vl s fi fl fd (q, ii, il, ib, mc) 4).2.1, (wn_dF on mk vl s fi fl fd (q, ii, il, ib, mc) 4).2.2.1, (wn_dF on mk vl s fi fl fd (q, ii, il, ib, mc) 4).2.2.2.1, (wn_dF on mk vl s fi fl fd (q, ii, il, ib, mc) 4).2.2.2.2, wn_fI (wn_z r 4), wn_fI c, wn_gA G, wn_gB G, wn_gC G, wn_gD G, wn_gE G, wn_gF G, wn_gH G, wn_gI G, wn_gJ G)) : wpX_finishIfSent post (ph, lf, ck, sn, di, on, sc, rc, mk, vl, wn_fI a, wn_fI w, wn_fI l, wn_fL d, wn_fI q, ii, il, ib, mc, wn_fI r, wn_fI c, wn_gA G, wn_gB G, wn_gC G, wn_gD G, wn_gE G, wn_gF G, wn_gH G, wn_gI G, wn_gJ G) := by
  have hF := wn_FX_FO hW h
  have h12 := wn_cn_le (fi := fi) (fl := fl) (fd := fd) (show 12 ≤ 34 + 8 * fl by omega)
  have tc : ∀ n, n < 4 → r n = 1 → (G n).2.2.2.2.2.2.2.2 = t - wn_cn fi fl fd (34 + 8 * fl) := fun n hn hr => wn_FX_tc h hn (by omega)
  have hL := wn_St_T h.2.2.2.2.2 (by omega)
  rw [show t - wn_cn fi fl fd (34 + 8 * fl) = 10 by omega] at hL
  obtain ⟨x1, x2, x3, x4⟩ := h.1
  refine wn_xfin (wn_FX_r10 h) (fun n hn hr => by rw [tc n hn hr]; omega) (fun y => ?_) (fun _ => ?_)
  · exact absurd (by rw [tc s x1 x3]; omega) (y s x1 x3)
  · exact wn_x53 (B := (q, ii, il, ib, mc)) x1 hF.1 hF.2.1 (hW.1 s x1) x4 (fun n hn ho => by rw [(h.2.2.2.1 n hn ho).1]; exact hL) hB h.2.2.1 x3 (wn_only h (by omega)) hp
end
section
variable {ln tk en : Nat} {sn : Int32} {on sc rc mk vl : Nat → Int32} {a w l d q r c : Nat → Nat} {ii il : Nat → Int32} {ib : Nat → Int64} {mc : Nat → Int32} {G : Nat → wn_L} {fr gn lo lp ie st la yr yk : Int32} {wh : Nat → Int32} {wy : Nat → Int64}
theorem wn_idle (hR : wn_R 0 ln tk en sn on sc rc mk vl a w l d q r c ii il ib mc G fr gn lo lp ie st la yr yk wh wy) (hn : ¬ wn_any on a) {Z : Prop} (K : ∀ (pn' ln' tk' en' : Nat) (sn' : Int32) (on' sc' rc' mk' vl' : Nat → Int32) (a' w' l' d' q' r' c' : Nat → Nat) (ii' il' : Nat → Int32) (ib' : Nat → Int64) (mc' : Nat → Int32) (G' : Nat → wn_L) (fr' gn' lo' lp' ie' st' la' yr' yk' : Int32) (wh' : Nat → Int32) (wy' : Nat → Int64), wn_R pn' ln' tk' en' sn' on' sc' rc' mk' vl' a' w' l' d' q' r' c' ii' il' ib' mc' G' fr' gn' lo' lp' ie' st' la' yr' yk' wh' wy' → tk' = tk + 1 → (∀ (post : Int32 → SX → Prop) (n : Nat) (x1 x2 : Int32) (x3 : Nat), ¬ x1 ≤ nI x3 → wX_run_20 post x1 x2 n (nI (x3 + 1)) (nI pn') (nI ln') (nI tk') sn' (nI (en' - tk')) on' sc' rc' mk' vl' (wn_fI a') (wn_fI w') (wn_fI l') (wn_fL d') (wn_fI q') ii' il' ib' mc' (wn_fI r') (wn_fI c') (wn_gA G') (wn_gB G') (wn_gC G') (wn_gD G') (wn_gE G') (wn_gF G') (wn_gH G') (wn_gI G') (wn_gJ G') → wX_run_20 post x1 x2 (n + 1) (nI x3) (nI 0) (nI ln) (nI tk) sn (nI (en - tk)) on sc rc mk vl (wn_fI a) (wn_fI w) (wn_fI l) (wn_fL d) (wn_fI q) ii il ib mc (wn_fI r) (wn_fI c) (wn_gA G) (wn_gB G) (wn_gC G) (wn_gD G) (wn_gE G) (wn_gF G) (wn_gH G) (wn_gI G) (wn_gJ G)) → (∀ (post : Int32 → SY → Prop) (n : Nat) (x1 x2 : Int32) (x3 : Nat), ¬ x1 ≤ nI x3 → wY_run_20 post x1 x2 n (nI (x3 + 1)) (nI tk') sn' (nI en') (nI pn') (nI ln') fr' gn' lo' lp' ie' st' la' yr' yk' on' mk' vl' sc' rc' mc' (wn_fI a') wh' wy' (wn_fI q') (wn_hh ii' il') ib' → wY_run_20 post x1 x2 (n + 1) (nI x3) (nI tk) sn (nI en) (nI 0) (nI ln) fr gn lo lp ie st la yr yk on mk vl sc rc mc (wn_fI a) wh wy (wn_fI q) (wn_hh ii il) ib) → Z) : Z := by
  obtain ⟨h1, h2, h3, h4, h5, h6, h7, h8⟩ := id hR
  refine K 0 ln (tk + 1) en sn on sc rc mk vl a w l d q r c ii il ib mc G (-1) gn lo lp ie st la yr yk wh wy ⟨by omega, h2, h3, h4, h5, h6, h7, fun y => absurd y (by decide)⟩ rfl ?_ ?_
  · intro post n x1 x2 x3 hx h
    refine wn_xrun h1 hx (fun ds _ => ?_)
    unfold wX_run_38
    exact wn_xstB h1 h4.1 hn (br_f (by decide) (br_t rfl (nm_r (nI_1 x3) h)))
  · intro post n x1 x2 x3 hx h
    refine br_f hx (nm_r (nI_1 tk) (br_t rfl ?_))
    exact wn_ybeg h4.1 h4.2.1 h5.1 h5.2 (fun _ => nm_r (nI_1 x3) h) (fun p hV ho => absurd (wn_anyV hn p hV) ho)
theorem wn_begin (hR : wn_R 0 ln tk en sn on sc rc mk vl a w l d q r c ii il ib mc G fr gn lo lp ie st la yr yk wh wy) (hy : wn_any on a) {Z : Prop} (K : ∀ (pn' ln' tk' en' : Nat) (sn' : Int32) (on' sc' rc' mk' vl' : Nat → Int32) (a' w' l' d' q' r' c' : Nat → Nat) (ii' il' : Nat → Int32) (ib' : Nat → Int64) (mc' : Nat → Int32) (G' : Nat → wn_L) (fr' gn' lo' lp' ie' st' la' yr' yk' : Int32) (wh' : Nat → Int32) (wy' : Nat → Int64), wn_R pn' ln' tk' en' sn' on' sc' rc' mk' vl' a' w' l' d' q' r' c' ii' il' ib' mc' G' fr' gn' lo' lp' ie' st' la' yr' yk' wh' wy' → tk' = tk + 1 → (∀ (post : Int32 → SX → Prop) (n : Nat) (x1 x2 : Int32) (x3 : Nat), ¬ x1 ≤ nI x3 → wX_run_20 post x1 x2 n (nI (x3 + 1)) (nI pn') (nI ln') (nI tk') sn' (nI (en' - tk')) on' sc' rc' mk' vl' (wn_fI a') (wn_fI w') (wn_fI l') (wn_fL d') (wn_fI q') ii' il' ib' mc' (wn_fI r') (wn_fI c') (wn_gA G') (wn_gB G') (wn_gC G') (wn_gD G') (wn_gE G') (wn_gF G') (wn_gH G') (wn_gI G') (wn_gJ G') → wX_run_20 post x1 x2 (n + 1) (nI x3) (nI 0) (nI ln) (nI tk) sn (nI (en - tk)) on sc rc mk vl (wn_fI a) (wn_fI w) (wn_fI l) (wn_fL d) (wn_fI q) ii il ib mc (wn_fI r) (wn_fI c) (wn_gA G) (wn_gB G) (wn_gC G) (wn_gD G) (wn_gE G) (wn_gF G) (wn_gH G) (wn_gI G) (wn_gJ G)) → (∀ (post : Int32 → SY → Prop) (n : Nat) (x1 x2 : Int32) (x3 : Nat), ¬ x1 ≤ nI x3 → wY_run_20 post x1 x2 n (nI (x3 + 1)) (nI tk') sn' (nI en') (nI pn') (nI ln') fr' gn' lo' lp' ie' st' la' yr' yk' on' mk' vl' sc' rc' mc' (wn_fI a') wh' wy' (wn_fI q') (wn_hh ii' il') ib' → wY_run_20 post x1 x2 (n + 1) (nI x3) (nI tk) sn (nI en) (nI 0) (nI ln) fr gn lo lp ie st la yr yk on mk vl sc rc mc (wn_fI a) wh wy (wn_fI q) (wn_hh ii il) ib) → Z) : Z := by
  obtain ⟨h1, h2, h3, h4, h5, h6, h7, h8⟩ := id hR
  obtain ⟨W1, W2, W3, W4⟩ := id h4
  obtain ⟨c', hC, hS⟩ := wn_xstC (ln := ln) (tk := tk) (en := en) (sn := sn) (on := on) (sc := sc) (rc := rc) (mk := mk) (vl := vl) (a := a) (w := w) (l := l) (d := d) (q := q) (r := r) (c := c) (ii := ii) (il := il) (ib := ib) (mc := mc) (G := G) h1 h4 hy
  have hW' : wn_WF a w l d c' := ⟨W1, W2, W3, hC.1⟩
  obtain ⟨z, hM, _⟩ := wn_ymu (on := on) (nw := 0) (da := 0) (yp := 0) (rs := 0) (fr := 0) (gn := 0) (lo := 0) (lp := 0) (ie := 0) (st := 0) (la := 0) (yr := 0) (yk := 0) (wy := wy) (sn := sn) (mk := mk) (vl := vl) (sc := sc) (rc := rc) (q := q) (ii := ii) (il := il) (ib := ib) (mc := mc) W1 (fun j hj => ⟨(W2 j hj).1, (W2 j hj).2.1⟩) h5.1
  rcases hM with ⟨_, hnone⟩ | ⟨p, hp16, _, hV, ho, hm⟩
  · exact absurd (fun p hV => hnone p hV.1 hV) (wn_Vany hy)
  have hm' : ∀ j, wn_V a j → ¬ on (j / 4) = 0 → w p ≤ w j := fun j hj hoj => hm j hj.1 hj hoj
  obtain ⟨hX0, ep⟩ := wn_FX_0 (r := r) (G := G) hW' hC hV ho hm'
  have hF := W2 p hp16
  have c12 : 12 ≤ wn_cn (w p) (l p) (d p) 12 := (wn_ok (w p) (l p) (d p) 12).2.2.2.1
  obtain ⟨r', G', L', hX1, hfb⟩ := wn_xfb (ph := nI 1) (lf := nI ln) (ck := nI (tk + 1)) (sn := sn) (di := nI (en - (tk + 1))) (sc := sc) (rc := rc) (mk := mk) (vl := vl) (q := q) (ii := ii) (il := il) (ib := ib) (mc := mc) hW' hX0 (by omega)
  have nBK : ∀ ds, ¬ wn_BK on (p / 4) (w p) (l p) (d p) 0 ds := by
    intro ds y
    rcases y with y | y
    · have := y.2.1; omega
    · have := y.1; omega
  have cN : wn_cn (w p) (l p) (d p) 12 ≤ wn_cn (w p) (l p) (d p) (34 + 8 * l p) := wn_cn_le (by omega)
  refine K 1 ln (tk + 1) en sn on sc rc mk vl a w l d q r' c' ii il ib mc G' (nI p) 1 (nI (wn_cn (w p) (l p) (d p) 12)) (nI (wn_cn (w p) (l p) (d p) (34 + 8 * l p))) (nI (wn_cn (w p) (l p) (d p) 12)) (nI (wn_cn (w p) (l p) (d p) (34 + 8 * l p))) (wn_la (w p) (l p) (d p) (34 + 8 * l p)) (nI (wn_rw (w p) (l p) (d p) (34 + 8 * l p))) (nI (wn_cs (w p) (l p) (d p) (34 + 8 * l p))) wh wy ⟨by omega, ⟨by omega, h2.2.1, fun y => absurd y (by omega)⟩, h3, hW', h5, h6, fun y => absurd rfl y, fun _ => ⟨p / 4, w p, l p, d p, 1, L', hX1, by rw [ep], rfl, rfl, rfl, by omega⟩⟩ rfl ?_ ?_
  · intro post n x1 x2 x3 hx h
    refine wn_xrun h1 hx (fun ds _ => ?_)
    unfold wX_run_38
    refine hS _ (br_t rfl ?_)
    exact hfb ds (nI 1, nI ln, nI (tk + 1), sn, nI (en - (tk + 1)), on, sc, rc, mk, vl, wn_fI a, wn_fI w, wn_fI l, wn_fL d, wn_fI q, ii, il, ib, mc, wn_fI r', wn_fI c', wn_gA G', wn_gB G', wn_gC G', wn_gD G', wn_gE G', wn_gF G', wn_gH G', wn_gI G', wn_gJ G') (fun y => absurd y (nBK ds)) (fun _ P hP => wn_fin_no hX1 (by omega) hP) _ (nm_r (nI_1 x3) h)
  · intro post n x1 x2 x3 hx h
    refine br_f hx (nm_r (nI_1 tk) (br_t rfl ?_))
    refine wn_ybeg W1 W2 h5.1 h5.2 (fun y => absurd y (wn_Vany hy)) (fun p' hV' ho' hm2 => ?_)
    have e : p' = p := W3 p' p hV' hV (by
      have m1 := hm' p' hV' ho'
      have m2 := hm2 p hV ho
      omega)
    rw [e]
    exact nm_r (nI_1 x3) h
end
end
section
/-! a bit of a frame, a bit of waiting, and a run -/
section
variable {ln tk en : Nat} {sn : Int32} {on sc rc mk vl : Nat → Int32} {a w l d q r c : Nat → Nat} {ii il : Nat → Int32} {ib : Nat → Int64} {mc : Nat → Int32} {G : Nat → wn_L} {fr gn lo lp ie st la yr yk : Int32} {wh : Nat → Int32} {wy : Nat → Int64}
theorem wn_frame (ht : tk < 2000000) (hR : wn_R 1 ln tk en sn on sc rc mk vl a w l d q r c ii il ib mc G fr gn lo lp ie st la yr yk wh wy) {Z : Prop} (K : ∀ (pn' ln' tk' en' : Nat) (sn' : Int32) (on' sc' rc' mk' vl' : Nat → Int32) (a' w' l' d' q' r' c' : Nat → Nat) (ii' il' : Nat → Int32) (ib' : Nat → Int64) (mc' : Nat → Int32) (G' : Nat → wn_L) (fr' gn' lo' lp' ie' st' la' yr' yk' : Int32) (wh' : Nat → Int32) (wy' : Nat → Int64), wn_R pn' ln' tk' en' sn' on' sc' rc' mk' vl' a' w' l' d' q' r' c' ii' il' ib' mc' G' fr' gn' lo' lp' ie' st' la' yr' yk' wh' wy' → tk' = tk + 1 → (∀ (post : Int32 → SX → Prop) (n : Nat) (x1 x2 : Int32) (x3 : Nat), ¬ x1 ≤ nI x3 → wX_run_20 post x1 x2 n (nI (x3 + 1)) (nI pn') (nI ln') (nI tk') sn' (nI (en' - tk')) on' sc' rc' mk' vl' (wn_fI a') (wn_fI w') (wn_fI l') (wn_fL d') (wn_fI q') ii' il' ib' mc' (wn_fI r') (wn_fI c') (wn_gA G') (wn_gB G') (wn_gC G') (wn_gD G') (wn_gE G') (wn_gF G') (wn_gH G') (wn_gI G') (wn_gJ G') → wX_run_20 post x1 x2 (n + 1) (nI x3) (nI 1) (nI ln) (nI tk) sn (nI (en - tk)) on sc rc mk vl (wn_fI a) (wn_fI w) (wn_fI l) (wn_fL d) (wn_fI q) ii il ib mc (wn_fI r) (wn_fI c) (wn_gA G) (wn_gB G) (wn_gC G) (wn_gD G) (wn_gE G) (wn_gF G) (wn_gH G) (wn_gI G) (wn_gJ G)) → (∀ (post : Int32 → SY → Prop) (n : Nat) (x1 x2 : Int32) (x3 : Nat), ¬ x1 ≤ nI x3 → wY_run_20 post x1 x2 n (nI (x3 + 1)) (nI tk') sn' (nI en') (nI pn') (nI ln') fr' gn' lo' lp' ie' st' la' yr' yk' on' mk' vl' sc' rc' mc' (wn_fI a') wh' wy' (wn_fI q') (wn_hh ii' il') ib' → wY_run_20 post x1 x2 (n + 1) (nI x3) (nI tk) sn (nI en) (nI 1) (nI ln) fr gn lo lp ie st la yr yk on mk vl sc rc mc (wn_fI a) wh wy (wn_fI q) (wn_hh ii il) ib) → Z) : Z := by
  obtain ⟨h1, h2, h3, h4, h5, h6, h7, h8⟩ := id hR
  obtain ⟨W1, W2, W3, W4⟩ := id h4
  obtain ⟨s, fi, fl, fd, t, L, hX, rfl, rfl, rfl, rfl, e5⟩ := h8 rfl
  have hF := wn_FX_FO h4 hX
  obtain ⟨x1, x2, x3', x4⟩ := id hX.1
  have hcs := W4 s x1
  have has := W1 s x1
  have hmax := wn_cn_max (fi := fi) (fd := fd) hF.2.1
  have h12 := wn_cn_le (fi := fi) (fl := fl) (fd := fd) (show 12 ≤ 34 + 8 * fl by omega)
  have hps : (4 * s + c s) / 4 = s := by omega
  have hpm : (4 * s + c s) % 4 = c s := by omega
  obtain ⟨r', G', L', hX1, hfb⟩ := wn_xfb (ph := nI 1) (lf := nI ln) (ck := nI (tk + 1)) (sn := sn) (di := nI (en - (tk + 1))) (sc := sc) (rc := rc) (mk := mk) (vl := vl) (q := q) (ii := ii) (il := il) (ib := ib) (mc := mc) h4 hX e5
  have hbk : ∀ ds : Int32, (¬ ds = 0 ↔ en = tk + 1) → (wn_BK on s fi fl fd t ds ↔ ((en = tk + 1 ∧ wn_cn fi fl fd 12 ≤ t ∧ t ≤ wn_cn fi fl fd (34 + 8 * fl)) ∨ (t = wn_cn fi fl fd (34 + 8 * fl) + 1 ∧ ∀ n, n < 4 → n ≠ (4 * s + c s) / 4 → on n = 0))) := by
    intro ds hd
    unfold wn_BK
    rw [hd, hps]
  by_cases B : (en = tk + 1 ∧ wn_cn fi fl fd 12 ≤ t ∧ t ≤ wn_cn fi fl fd (34 + 8 * fl)) ∨ (t = wn_cn fi fl fd (34 + 8 * fl) + 1 ∧ ∀ n, n < 4 → n ≠ (4 * s + c s) / 4 → on n = 0)
  · have ht12 : wn_cn fi fl fd 12 ≤ t := by
      rcases B with y | y
      · exact y.2.1
      · have := y.1; omega
    have hos : on s = 1 := (h3 s x1).resolve_left x2
    refine K 2 14 (tk + 1) en sn (wn_oB on sc s) (upd sc s (sc s + 8)) (wn_rB on s rc 4) mk vl a w l d q (wn_z r' 4) c ii il ib mc G' (nI (4 * s + c s)) (nI (t + 1)) (nI (wn_cn fi fl fd 12)) (nI (wn_cn fi fl fd (34 + 8 * fl))) ie st la yr yk wh wy ⟨by omega, ⟨by omega, by omega, fun _ => by omega⟩, ?_, h4, h5, h6, fun _ n hn => wn_z_lt hn, fun y => absurd y (by decide)⟩ rfl ?_ ?_
    · intro n hn
      unfold wn_oB
      split
      · by_cases y : n = s
        · rw [y, pk_us]; exact Or.inl rfl
        · rw [pk_un y]; exact h3 n hn
      · exact h3 n hn
    · intro post n y1 y2 y3 hx h
      refine wn_xrun h1 hx (fun ds hd => ?_)
      unfold wX_run_38
      refine wn_xstA h1 (by omega) (by omega) (br_t rfl ?_)
      exact hfb ds (nI 2, nI 14, nI (tk + 1), sn, nI (en - (tk + 1)), wn_oB on sc s, upd sc s (sc s + 8), wn_rB on s rc 4, mk, vl, wn_fI a, wn_fI w, wn_fI l, wn_fL d, wn_fI q, ii, il, ib, mc, wn_fI (wn_z r' 4), wn_fI c, wn_gA G', wn_gB G', wn_gC G', wn_gD G', wn_gE G', wn_gF G', wn_gH G', wn_gI G', wn_gJ G') (fun _ P hP => wn_xbrk x1 hX1.2.2.1 hX1.1.2.2.1 (wn_only hX1 (by omega)) hos hP) (fun y => absurd ((hbk ds hd).mpr B) y) _ (nm_r (nI_1 y3) h)
    · intro post n y1 y2 y3 hx h
      refine br_f hx (nm_r (nI_1 tk) (br_f (by decide) (br_t rfl ?_)))
      refine wn_ynb (by omega) (by omega) (by omega) (by omega) (by omega) (by omega) (fun _ => ?_) (fun y => absurd B y)
      unfold wY_nextBit_75
      refine wn_ybrk (by omega) ?_
      rw [hps]
      exact nm_r (nI_1 y3) h
  · by_cases E : t + 1 = wn_cn fi fl fd (34 + 8 * fl) + 10
    · have hWr := wn_rm_WF (k := c s) x1 x4 h4
      rw [if_neg (by omega), wn_wself rfl] at hWr
      have hIB := wn_IB_dF (on := on) (mk := mk) (vl := vl) (s := s) (fd := fd) hF.1 hF.2.1 h6 4 (by omega)
      refine K 3 3 (tk + 1) en (sn + 1) on (wn_sF sc s) (wn_rF on s rc 4) mk vl (wn_w a s (a s - 1)) (wn_sh w (4 * s + c s) (4 * s + (a s - 1))) (wn_sh l (4 * s + c s) (4 * s + (a s - 1))) (wn_sh d (4 * s + c s) (4 * s + (a s - 1))) ((wn_dF on mk vl s fi fl fd (q, ii, il, ib, mc) 4).1) (wn_z r' 4) c ((wn_dF on mk vl s fi fl fd (q, ii, il, ib, mc) 4).2.1) ((wn_dF on mk vl s fi fl fd (q, ii, il, ib, mc) 4).2.2.1) ((wn_dF on mk vl s fi fl fd (q, ii, il, ib, mc) 4).2.2.2.1) ((wn_dF on mk vl s fi fl fd (q, ii, il, ib, mc) 4).2.2.2.2) G' (nI (4 * s + c s)) (nI (t + 1)) (nI (wn_cn fi fl fd 12)) (nI (wn_cn fi fl fd (34 + 8 * fl))) ie st la yr yk (wn_sh wh (4 * s + c s) (4 * s + (a s - 1))) (wn_sh wy (4 * s + c s) (4 * s + (a s - 1))) ⟨by omega, ⟨by omega, by omega, fun _ => by omega⟩, h3, hWr, ⟨wn_H_sh h5.1 (by omega), wn_rm_H (wh := wh) (by omega) h5.2⟩, hIB, fun _ n hn => wn_z_lt hn, fun y => absurd y (by decide)⟩ rfl ?_ ?_
      · intro post n y1 y2 y3 hx h
        refine wn_xrun h1 hx (fun ds hd => ?_)
        unfold wX_run_38
        refine wn_xstA h1 (by omega) (by omega) (br_t rfl ?_)
        exact hfb ds (nI 3, nI 3, nI (tk + 1), sn + 1, nI (en - (tk + 1)), on, wn_sF sc s, wn_rF on s rc 4, mk, vl, wn_fI (wn_w a s (a s - 1)), wn_fI (wn_sh w (4 * s + c s) (4 * s + (a s - 1))), wn_fI (wn_sh l (4 * s + c s) (4 * s + (a s - 1))), wn_fL (wn_sh d (4 * s + c s) (4 * s + (a s - 1))), wn_fI ((wn_dF on mk vl s fi fl fd (q, ii, il, ib, mc) 4).1), (wn_dF on mk vl s fi fl fd (q, ii, il, ib, mc) 4).2.1, (wn_dF on mk vl s fi fl fd (q, ii, il, ib, mc) 4).2.2.1, (wn_dF on mk vl s fi fl fd (q, ii, il, ib, mc) 4).2.2.2.1, (wn_dF on mk vl s fi fl fd (q, ii, il, ib, mc) 4).2.2.2.2, wn_fI (wn_z r' 4), wn_fI c, wn_gA G', wn_gB G', wn_gC G', wn_gD G', wn_gE G', wn_gF G', wn_gH G', wn_gI G', wn_gJ G') (fun y => absurd ((hbk ds hd).mp y) B) (fun _ P hP => wn_fin_yes h4 hX1 E h6 hP) _ (nm_r (nI_1 y3) h)
      · intro post n y1 y2 y3 hx h
        refine br_f hx (nm_r (nI_1 tk) (br_f (by decide) (br_t rfl ?_)))
        refine wn_ynb (by omega) (by omega) (by omega) (by omega) (by omega) (by omega) (fun y => absurd y B) (fun _ => ?_)
        have eB10 : nI (wn_cn fi fl fd (34 + 8 * fl)) + 10 = nI (wn_cn fi fl fd (34 + 8 * fl) + 10) := nI_add _ 10
        refine pk_eq (t + 1) (wn_cn fi fl fd (34 + 8 * fl) + 10) (fun _ => ?_) (fun y => absurd E y) rfl eB10
        refine wn_yfin (B := (q, ii, il, ib, mc)) (fi := fi) (fl := fl) (fd := fd) (by omega) hF.1 hF.2.1 (by rw [h5.1 _ (by omega), hX.2.1.1, hX.2.1.2.1]) (by rw [h5.2 _ (by omega), hX.2.1.2.2]) (by rw [hps]; exact has) (by rw [hps, hpm]; exact x4) h6 ?_
        rw [hps]
        exact nm_r (nI_1 y3) h
    · refine K 1 ln (tk + 1) en sn on sc rc mk vl a w l d q r' c ii il ib mc G' (nI (4 * s + c s)) (nI (t + 1)) (nI (wn_cn fi fl fd 12)) (nI (wn_cn fi fl fd (34 + 8 * fl))) ie st la yr yk wh wy ⟨by omega, h2, h3, h4, h5, h6, fun y => absurd rfl y, fun _ => ⟨s, fi, fl, fd, t + 1, L', hX1, rfl, rfl, rfl, rfl, by omega⟩⟩ rfl ?_ ?_
      · intro post n y1 y2 y3 hx h
        refine wn_xrun h1 hx (fun ds hd => ?_)
        unfold wX_run_38
        refine wn_xstA h1 (by omega) (by omega) (br_t rfl ?_)
        exact hfb ds (nI 1, nI ln, nI (tk + 1), sn, nI (en - (tk + 1)), on, sc, rc, mk, vl, wn_fI a, wn_fI w, wn_fI l, wn_fL d, wn_fI q, ii, il, ib, mc, wn_fI r', wn_fI c, wn_gA G', wn_gB G', wn_gC G', wn_gD G', wn_gE G', wn_gF G', wn_gH G', wn_gI G', wn_gJ G') (fun y => absurd ((hbk ds hd).mp y) B) (fun _ P hP => wn_fin_no hX1 (by omega) hP) _ (nm_r (nI_1 y3) h)
      · intro post n y1 y2 y3 hx h
        refine br_f hx (nm_r (nI_1 tk) (br_f (by decide) (br_t rfl ?_)))
        refine wn_ynb (by omega) (by omega) (by omega) (by omega) (by omega) (by omega) (fun y => absurd y B) (fun _ => ?_)
        have eB10 : nI (wn_cn fi fl fd (34 + 8 * fl)) + 10 = nI (wn_cn fi fl fd (34 + 8 * fl) + 10) := nI_add _ 10
        exact pk_eq (t + 1) (wn_cn fi fl fd (34 + 8 * fl) + 10) (fun y => absurd y E) (fun _ => nm_r (nI_1 y3) h) rfl eB10
variable {pn : Nat}
theorem wn_waitb (hpn : 2 ≤ pn) (hR : wn_R pn ln tk en sn on sc rc mk vl a w l d q r c ii il ib mc G fr gn lo lp ie st la yr yk wh wy) {Z : Prop} (K : ∀ (pn' ln' tk' en' : Nat) (sn' : Int32) (on' sc' rc' mk' vl' : Nat → Int32) (a' w' l' d' q' r' c' : Nat → Nat) (ii' il' : Nat → Int32) (ib' : Nat → Int64) (mc' : Nat → Int32) (G' : Nat → wn_L) (fr' gn' lo' lp' ie' st' la' yr' yk' : Int32) (wh' : Nat → Int32) (wy' : Nat → Int64), wn_R pn' ln' tk' en' sn' on' sc' rc' mk' vl' a' w' l' d' q' r' c' ii' il' ib' mc' G' fr' gn' lo' lp' ie' st' la' yr' yk' wh' wy' → tk' = tk + 1 → (∀ (post : Int32 → SX → Prop) (n : Nat) (x1 x2 : Int32) (x3 : Nat), ¬ x1 ≤ nI x3 → wX_run_20 post x1 x2 n (nI (x3 + 1)) (nI pn') (nI ln') (nI tk') sn' (nI (en' - tk')) on' sc' rc' mk' vl' (wn_fI a') (wn_fI w') (wn_fI l') (wn_fL d') (wn_fI q') ii' il' ib' mc' (wn_fI r') (wn_fI c') (wn_gA G') (wn_gB G') (wn_gC G') (wn_gD G') (wn_gE G') (wn_gF G') (wn_gH G') (wn_gI G') (wn_gJ G') → wX_run_20 post x1 x2 (n + 1) (nI x3) (nI pn) (nI ln) (nI tk) sn (nI (en - tk)) on sc rc mk vl (wn_fI a) (wn_fI w) (wn_fI l) (wn_fL d) (wn_fI q) ii il ib mc (wn_fI r) (wn_fI c) (wn_gA G) (wn_gB G) (wn_gC G) (wn_gD G) (wn_gE G) (wn_gF G) (wn_gH G) (wn_gI G) (wn_gJ G)) → (∀ (post : Int32 → SY → Prop) (n : Nat) (x1 x2 : Int32) (x3 : Nat), ¬ x1 ≤ nI x3 → wY_run_20 post x1 x2 n (nI (x3 + 1)) (nI tk') sn' (nI en') (nI pn') (nI ln') fr' gn' lo' lp' ie' st' la' yr' yk' on' mk' vl' sc' rc' mc' (wn_fI a') wh' wy' (wn_fI q') (wn_hh ii' il') ib' → wY_run_20 post x1 x2 (n + 1) (nI x3) (nI tk) sn (nI en) (nI pn) (nI ln) fr gn lo lp ie st la yr yk on mk vl sc rc mc (wn_fI a) wh wy (wn_fI q) (wn_hh ii il) ib) → Z) : Z := by
  obtain ⟨h1, h2, h3, h4, h5, h6, h7, h8⟩ := id hR
  obtain ⟨g1, g2, g3⟩ := h2
  have g3' := g3 hpn
  refine K (if ln = 1 then (if pn = 2 then 3 else 0) else pn) (if ln = 1 then (if pn = 2 then 3 else 0) else ln - 1) (tk + 1) en sn on sc rc mk vl a w l d q r c ii il ib mc G fr gn lo lp ie st la yr yk wh wy ⟨by omega, ?_, h3, h4, h5, h6, fun _ => h7 (by omega), ?_⟩ rfl ?_ ?_
  · by_cases y : ln = 1
    · simp only [if_pos y]
      split <;> omega
    · simp only [if_neg y]
      omega
  · intro y
    exfalso
    by_cases y2 : ln = 1
    · rw [if_pos y2] at y
      split at y <;> omega
    · rw [if_neg y2] at y
      omega
  · intro post n y1 y2 y3 hx h
    refine wn_xrun h1 hx (fun ds hd => ?_)
    unfold wX_run_38
    refine wn_xstA h1 (by omega) (by omega) (pk_eq pn 1 (fun y => absurd y (by omega)) (fun _ => pk_eq pn 0 (fun y => absurd y (by omega)) (fun _ => ?_) rfl rfl) rfl rfl)
    exact wn_xwt g1 hpn g3' g2 (nm_r (nI_1 y3) h)
  · intro post n y1 y2 y3 hx h
    refine br_f hx (nm_r (nI_1 tk) (pk_eq pn 0 (fun y => absurd y (by omega)) (fun _ => pk_eq pn 1 (fun y => absurd y (by omega)) (fun _ => ?_) rfl rfl) rfl rfl))
    exact wn_ywt g1 hpn g3' g2 (nm_r (nI_1 y3) h)
theorem wn_stp (ht : tk < 2000000) (hR : wn_R pn ln tk en sn on sc rc mk vl a w l d q r c ii il ib mc G fr gn lo lp ie st la yr yk wh wy) {Z : Prop} (K : ∀ (pn' ln' tk' en' : Nat) (sn' : Int32) (on' sc' rc' mk' vl' : Nat → Int32) (a' w' l' d' q' r' c' : Nat → Nat) (ii' il' : Nat → Int32) (ib' : Nat → Int64) (mc' : Nat → Int32) (G' : Nat → wn_L) (fr' gn' lo' lp' ie' st' la' yr' yk' : Int32) (wh' : Nat → Int32) (wy' : Nat → Int64), wn_R pn' ln' tk' en' sn' on' sc' rc' mk' vl' a' w' l' d' q' r' c' ii' il' ib' mc' G' fr' gn' lo' lp' ie' st' la' yr' yk' wh' wy' → tk' = tk + 1 → (∀ (post : Int32 → SX → Prop) (n : Nat) (x1 x2 : Int32) (x3 : Nat), ¬ x1 ≤ nI x3 → wX_run_20 post x1 x2 n (nI (x3 + 1)) (nI pn') (nI ln') (nI tk') sn' (nI (en' - tk')) on' sc' rc' mk' vl' (wn_fI a') (wn_fI w') (wn_fI l') (wn_fL d') (wn_fI q') ii' il' ib' mc' (wn_fI r') (wn_fI c') (wn_gA G') (wn_gB G') (wn_gC G') (wn_gD G') (wn_gE G') (wn_gF G') (wn_gH G') (wn_gI G') (wn_gJ G') → wX_run_20 post x1 x2 (n + 1) (nI x3) (nI pn) (nI ln) (nI tk) sn (nI (en - tk)) on sc rc mk vl (wn_fI a) (wn_fI w) (wn_fI l) (wn_fL d) (wn_fI q) ii il ib mc (wn_fI r) (wn_fI c) (wn_gA G) (wn_gB G) (wn_gC G) (wn_gD G) (wn_gE G) (wn_gF G) (wn_gH G) (wn_gI G) (wn_gJ G)) → (∀ (post : Int32 → SY → Prop) (n : Nat) (x1 x2 : Int32) (x3 : Nat), ¬ x1 ≤ nI x3 → wY_run_20 post x1 x2 n (nI (x3 + 1)) (nI tk') sn' (nI en') (nI pn') (nI ln') fr' gn' lo' lp' ie' st' la' yr' yk' on' mk' vl' sc' rc' mc' (wn_fI a') wh' wy' (wn_fI q') (wn_hh ii' il') ib' → wY_run_20 post x1 x2 (n + 1) (nI x3) (nI tk) sn (nI en) (nI pn) (nI ln) fr gn lo lp ie st la yr yk on mk vl sc rc mc (wn_fI a) wh wy (wn_fI q) (wn_hh ii il) ib) → Z) : Z := by
  have hpn : pn < 4 := hR.2.1.1
  rcases (by omega : pn = 0 ∨ pn = 1 ∨ 2 ≤ pn) with rfl | rfl | y
  · by_cases z : wn_any on a
    · exact wn_begin hR z K
    · exact wn_idle hR z K
  · exact wn_frame ht hR K
  · exact wn_waitb y hR K
end
theorem wn_run {k N : Nat} {x2 : Int32} (hN : N ≤ 2000) (hk : k + 5 ≤ 2560) : ∀ e i, i + e = N → ∀ (pn ln tk en : Nat) (sn : Int32) (on sc rc mk vl : Nat → Int32) (a w l d q r c : Nat → Nat) (ii il : Nat → Int32) (ib : Nat → Int64) (mc : Nat → Int32) (G : Nat → wn_L) (fr gn lo lp ie st la yr yk : Int32) (wh : Nat → Int32) (wy : Nat → Int64), tk + e ≤ 400 * (k + 5) → wn_R pn ln tk en sn on sc rc mk vl a w l d q r c ii il ib mc G fr gn lo lp ie st la yr yk wh wy → ∃ (z : Int32) (u' : SX) (v' : SY), i_Rel (k + 5) u' v' ∧ (∀ post : Int32 → SX → Prop, post z u' → ∀ n, e < n → wX_run_20 post (nI N) x2 n (nI i) (nI pn) (nI ln) (nI tk) sn (nI (en - tk)) on sc rc mk vl (wn_fI a) (wn_fI w) (wn_fI l) (wn_fL d) (wn_fI q) ii il ib mc (wn_fI r) (wn_fI c) (wn_gA G) (wn_gB G) (wn_gC G) (wn_gD G) (wn_gE G) (wn_gF G) (wn_gH G) (wn_gI G) (wn_gJ G)) ∧ (∀ post : Int32 → SY → Prop, post z v' → ∀ n, e < n → wY_run_20 post (nI N) x2 n (nI i) (nI tk) sn (nI en) (nI pn) (nI ln) fr gn lo lp ie st la yr yk on mk vl sc rc mc (wn_fI a) wh wy (wn_fI q) (wn_hh ii il) ib) := by
  intro e
  induction e with
  | zero =>
    intro i hi pn ln tk en sn on sc rc mk vl a w l d q r c ii il ib mc G fr gn lo lp ie st la yr yk wh wy ht hR
    rw [show i = N by omega]
    refine ⟨sn - x2, (nI pn, nI ln, nI tk, sn, nI (en - tk), on, sc, rc, mk, vl, wn_fI a, wn_fI w, wn_fI l, wn_fL d, wn_fI q, ii, il, ib, mc, wn_fI r, wn_fI c, wn_gA G, wn_gB G, wn_gC G, wn_gD G, wn_gE G, wn_gF G, wn_gH G, wn_gI G, wn_gJ G), (nI tk, sn, nI en, nI pn, nI ln, fr, gn, lo, lp, ie, st, la, yr, yk, on, mk, vl, sc, rc, mc, wn_fI a, wh, wy, wn_fI q, wn_hh ii il, ib), wn_in (by omega) hR, fun post hp n hn => ?_, fun post hp n hn => ?_⟩
    · obtain ⟨n, rfl⟩ : ∃ j, n = j + 1 := ⟨n - 1, by omega⟩
      exact pk_le N N (fun _ => hp) (fun h => absurd h (by omega)) rfl rfl
    · obtain ⟨n, rfl⟩ : ∃ j, n = j + 1 := ⟨n - 1, by omega⟩
      exact pk_le N N (fun _ => hp) (fun h => absurd h (by omega)) rfl rfl
  | succ e ih =>
    intro i hi pn ln tk en sn on sc rc mk vl a w l d q r c ii il ib mc G fr gn lo lp ie st la yr yk wh wy ht hR
    refine wn_stp (by omega) hR ?_
    intro pn' ln' tk' en' sn' on' sc' rc' mk' vl' a' w' l' d' q' r' c' ii' il' ib' mc' G' fr' gn' lo' lp' ie' st' la' yr' yk' wh' wy' hR' htk hX hY
    obtain ⟨z, u', v', g1, g2, g3⟩ := ih (i + 1) (by omega) pn' ln' tk' en' sn' on' sc' rc' mk' vl' a' w' l' d' q' r' c' ii' il' ib' mc' G' fr' gn' lo' lp' ie' st' la' yr' yk' wh' wy' (by omega) hR'
    have hx : ¬ nI N ≤ nI i := nI_ge (by omega) (by omega)
    refine ⟨z, u', v', g1, fun post hp n hn => ?_, fun post hp n hn => ?_⟩
    · obtain ⟨n, rfl⟩ : ∃ j, n = j + 1 := ⟨n - 1, by omega⟩
      exact hX post n _ _ i hx (g2 post hp n (by omega))
    · obtain ⟨n, rfl⟩ : ∃ j, n = j + 1 := ⟨n - 1, by omega⟩
      exact hY post n _ _ i hx (g3 post hp n (by omega))
theorem i_vc_run {k : Nat} {u : SX} {v : SY} (I : i_Rel k u v) (hk : k + 5 ≤ 2560) (v1 : Int32) : wpX_run (fun r u' => wpY_run (fun r' v' => r' = r ∧ i_Rel (k + 5) u' v') v v1) u v1 := by
  refine wn_el (P := fun u v => wpX_run (fun r u' => wpY_run (fun r' v' => r' = r ∧ i_Rel (k + 5) u' v') v v1) u v1) ?_ I
  intro pn ln tk en sn on sc rc mk vl a w l d q r c ii il ib mc G fr gn lo lp ie st la yr yk wh wy ht hR
  have J : i_Rel (k + 5) (nI pn, nI ln, nI tk, sn, nI (en - tk), on, sc, rc, mk, vl, wn_fI a, wn_fI w, wn_fI l, wn_fL d, wn_fI q, ii, il, ib, mc, wn_fI r, wn_fI c, wn_gA G, wn_gB G, wn_gC G, wn_gD G, wn_gE G, wn_gF G, wn_gH G, wn_gI G, wn_gJ G) (nI tk, sn, nI en, nI pn, nI ln, fr, gn, lo, lp, ie, st, la, yr, yk, on, mk, vl, sc, rc, mc, wn_fI a, wh, wy, wn_fI q, wn_hh ii il, ib) := wn_in (by omega) hR
  by_cases z1 : v1 < 0
  · exact br_t z1 (br_t z1 ⟨rfl, J⟩)
  obtain ⟨N, hN, rfl⟩ := nI_of z1
  by_cases z2 : N ≤ 2000
  case neg =>
    have x2 : ¬ nI N ≤ 2000 := nI_ge (a := 2000) (by omega) hN
    exact br_f z1 (br_f x2 (br_f z1 (br_f x2 ⟨rfl, J⟩)))
  have x2 : nI N ≤ 2000 := nI_le (b := 2000) z2 (by decide)
  obtain ⟨z, u', v', g1, g2, g3⟩ := wn_run (x2 := sn) z2 hk N 0 (by omega) pn ln tk en sn on sc rc mk vl a w l d q r c ii il ib mc G fr gn lo lp ie st la yr yk wh wy (by omega) hR
  exact br_f z1 (br_t x2 ⟨N + 1, g2 _ (br_f z1 (br_t x2 ⟨N + 1, g3 _ ⟨rfl, g1⟩ (N + 1) (by omega)⟩)) (N + 1) (by omega)⟩)
end
