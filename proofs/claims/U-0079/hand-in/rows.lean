section
/-! pure rows to paste: stores, nI and lN arithmetic, masks, shifts, narrowing, branches by naturals (pk_le, pk_lt, pk_eq), loops (lp1 .. lp16: the measure of the state; rp1 ..: recursion), negatives. Take what you need -/
theorem pk_us {f : Nat → Int32} {k : Nat} {x : Int32} : upd f k x k = x := if_pos rfl
theorem pk_un {f : Nat → Int32} {k j : Nat} {x : Int32} (h : j ≠ k) : upd f k x j = f j := if_neg h
theorem pk_uLs {f : Nat → Int64} {k : Nat} {x : Int64} : vp_updL f k x k = x := if_pos rfl
theorem pk_uLn {f : Nat → Int64} {k j : Nat} {x : Int64} (h : j ≠ k) : vp_updL f k x j = f j := if_neg h
theorem pk_sub {a b : Nat} (h : b ≤ a) : nI a - nI b = nI (a - b) := by
  obtain ⟨c, rfl⟩ : ∃ c, a = c + b := ⟨a - b, by omega⟩
  rw [← nI_add, Int32.add_sub_cancel, Nat.add_sub_cancel]
theorem pk_m1 (n : Nat) : nI (n + 1) + (-1) = nI n := by
  rw [← nI_1, Int32.add_assoc, show (1 : Int32) + (-1) = 0 from rfl, Int32.add_zero]
theorem pk_mul (a b : Nat) : nI a * nI b = nI (a * b) := (Int32.ofNat_mul a b).symm
theorem pk_div {a d : Nat} (ha : a < 2 ^ 31) (h0 : 0 < d) (hd : d < 2 ^ 31) : nI a / nI d = nI (a / d) := by
  apply Int32.toInt_inj.mp
  rw [lg_idiv_nonneg (by rw [nI_toInt ha]; omega) (by rw [nI_toInt hd]; omega), nI_toInt ha, nI_toInt hd, nI_toInt (Nat.lt_of_le_of_lt (Nat.div_le_self a d) ha)]
  first | rfl | exact (Int.natCast_ediv _ _).symm
theorem pk_rem {a d : Nat} (ha : a < 2 ^ 31) (h0 : 0 < d) (hd : d < 2 ^ 31) : nI a - nI a / nI d * nI d = nI (a % d) := by
  rw [pk_div ha h0 hd, pk_mul, pk_sub (Nat.div_mul_le_self a d)]
  exact congrArg nI (by have := Nat.div_add_mod' a d; omega)
theorem pk_sub_toInt {a b : Nat} (ha : a < 2 ^ 30) (hb : b < 2 ^ 30) : (nI a - nI b).toInt = (a : Int) - b := by
  rw [Int32.toInt_sub, nI_toInt (by omega), nI_toInt (by omega)]
  exact Int.bmod_eq_of_le (by omega) (by omega)
theorem pk_sneg {a b : Nat} (hb : b < 2 ^ 30) (h : a < b) : nI a - nI b < 0 := by
  rw [Int32.lt_iff_toInt_lt, pk_sub_toInt (by omega) hb, show (0 : Int32).toInt = 0 from by decide]
  omega
theorem pk_ix (x : Int32) {n : Nat} (hn : n < 2 ^ 31) : x < 0 ∨ nI n ≤ x ∨ ∃ j : Nat, j < n ∧ x = nI j := by
  by_cases h : x < 0
  · exact Or.inl h
  · obtain ⟨j, hj, rfl⟩ := nI_of h
    by_cases h2 : j < n
    · exact Or.inr (Or.inr ⟨j, h2, rfl⟩)
    · exact Or.inr (Or.inl (nI_le (by omega) hj))
theorem pk_le {x y : Int32} {A B : Prop} (a b : Nat) (f : a ≤ b → A) (g : b < a → B) (hx : x = nI a := by rfl) (hy : y = nI b := by rfl) (ha : a < 2 ^ 31 := by omega) (hb : b < 2 ^ 31 := by omega) : (x ≤ y → A) ∧ (¬ x ≤ y → B) := by
  subst hx hy
  rw [nI_leI ha hb]
  exact ⟨f, fun z => g (by omega)⟩
theorem pk_lt {x y : Int32} {A B : Prop} (a b : Nat) (f : a < b → A) (g : b ≤ a → B) (hx : x = nI a := by rfl) (hy : y = nI b := by rfl) (ha : a < 2 ^ 31 := by omega) (hb : b < 2 ^ 31 := by omega) : (x < y → A) ∧ (¬ x < y → B) := by
  subst hx hy
  rw [nI_ltI ha hb]
  exact ⟨f, fun z => g (by omega)⟩
theorem pk_eq {x y : Int32} {A B : Prop} (a b : Nat) (f : a = b → A) (g : a ≠ b → B) (hx : x = nI a := by rfl) (hy : y = nI b := by rfl) (ha : a < 2 ^ 31 := by omega) (hb : b < 2 ^ 31 := by omega) : (x = y → A) ∧ (¬ x = y → B) := by
  subst hx hy
  rw [nI_eq ha hb]
  exact ⟨f, g⟩
theorem pk_in {x : Int32} (n N : Nat) (h : n < N) (hx : x = nI n := by rfl) (hN : N < 2 ^ 31 := by omega) : vp_in x N := by
  subst hx
  exact vp_in_nI h hN
theorem pk_cl {x : Int32} (n : Nat) (hx : x = nI n := by rfl) (h : n < 2 ^ 31 := by omega) : x.toNatClampNeg = n := by
  subst hx
  exact nI_clamp h
theorem pk_tn {n : Nat} (h : n < 2 ^ 32) : (nI n).toBitVec.toNat = n := Nat.mod_eq_of_lt h
theorem pk_and (x : Int32) {m : Int32} (k : Nat) (hm : m.toBitVec.toNat = 2 ^ k - 1) : x &&& m = nI (x.toBitVec.toNat % 2 ^ k) := by
  apply Int32.toBitVec_inj.mp
  apply BitVec.eq_of_toNat_eq
  rw [Int32.toBitVec_and, BitVec.toNat_and, hm, Nat.and_two_pow_sub_one_eq_mod]
  show _ = (BitVec.ofNat 32 _).toNat
  rw [BitVec.toNat_ofNat]
  exact (Nat.mod_eq_of_lt (Nat.lt_of_le_of_lt (Nat.mod_le _ _) x.toBitVec.isLt)).symm
theorem pk_andN {n : Nat} (h : n < 2 ^ 32) {m : Int32} (k : Nat) (hm : m.toBitVec.toNat = 2 ^ k - 1) : nI n &&& m = nI (n % 2 ^ k) := by
  rw [pk_and _ k hm, pk_tn h]
theorem pk_andE (x : Int32) {m : Int32} (k : Nat) (hm : m.toBitVec.toNat = 2 ^ k - 1) : ∃ j : Nat, j < 2 ^ k ∧ x &&& m = nI j := ⟨_, Nat.mod_lt _ (Nat.two_pow_pos k), pk_and x k hm⟩
theorem pk_andIn (x : Int32) {m : Int32} (k : Nat) (hm : m.toBitVec.toNat = 2 ^ k - 1) (hk : k ≤ 30) : vp_in (x &&& m) (2 ^ k) := by
  obtain ⟨j, hj, e⟩ := pk_andE x k hm
  rw [e]
  exact vp_in_nI hj (Nat.lt_of_le_of_lt (Nat.pow_le_pow_right (by decide) hk) (by decide))
theorem pk_shl (a s : Int32) (k : Nat) (hs : (s.toBitVec.smod 32).toNat = k) : (a <<< s).toBitVec.toNat = a.toBitVec.toNat * 2 ^ k % 2 ^ 32 := by
  show (a.toBitVec <<< (s.toBitVec.smod 32).toNat).toNat = _
  rw [hs, BitVec.toNat_shiftLeft, Nat.shiftLeft_eq]
theorem pk_shlN {n : Nat} (s : Int32) (k : Nat) (hs : (s.toBitVec.smod 32).toNat = k) (h : n * 2 ^ k < 2 ^ 32) : nI n <<< s = nI (n * 2 ^ k) := by
  apply Int32.toBitVec_inj.mp
  apply BitVec.eq_of_toNat_eq
  have hn : n < 2 ^ 32 := Nat.lt_of_le_of_lt (Nat.le_mul_of_pos_right n (Nat.two_pow_pos k)) h
  rw [pk_shl _ _ k hs, pk_tn hn, pk_tn h, Nat.mod_eq_of_lt h]
theorem pk_shr (a s : Int32) (k : Nat) (hs : (s.toBitVec.smod 32).toNat = k) : (a >>> s).toInt = a.toInt >>> k := by
  show (a.toBitVec.sshiftRight (s.toBitVec.smod 32).toNat).toInt = _
  rw [hs, BitVec.toInt_sshiftRight]
  rfl
theorem pk_shrN {n : Nat} (h : n < 2 ^ 31) (s : Int32) (k : Nat) (hs : (s.toBitVec.smod 32).toNat = k) : nI n >>> s = nI (n / 2 ^ k) := by
  apply Int32.toInt_inj.mp
  have h2 : n / 2 ^ k ≤ n := Nat.div_le_self _ _
  rw [pk_shr _ _ k hs, nI_toInt h, nI_toInt (by omega), Int.shiftRight_eq_div_pow]
  rfl
theorem pk_ushr (x s : Int32) (k : Nat) (hs : ((s.toUInt32 &&& Int32.toUInt32 31).toBitVec % 32).toNat = k) : (x.toUInt32 >>> (s.toUInt32 &&& Int32.toUInt32 31)).toInt32.toBitVec.toNat = x.toBitVec.toNat / 2 ^ k := by
  have e : (x.toUInt32 >>> (s.toUInt32 &&& Int32.toUInt32 31)).toInt32.toBitVec = x.toBitVec >>> k := by
    rw [← hs]
    exact UInt32.toBitVec_shiftRight _ _
  rw [e, BitVec.toNat_ushiftRight, Nat.shiftRight_eq_div_pow]
theorem pk_ushrN {n : Nat} (hn : n < 2 ^ 32) (s : Int32) (k : Nat) (hs : ((s.toUInt32 &&& Int32.toUInt32 31).toBitVec % 32).toNat = k) : ((nI n).toUInt32 >>> (s.toUInt32 &&& Int32.toUInt32 31)).toInt32 = nI (n / 2 ^ k) := by
  apply Int32.toBitVec_inj.mp
  apply BitVec.eq_of_toNat_eq
  rw [pk_ushr _ s k hs, pk_tn hn, pk_tn (Nat.lt_of_le_of_lt (Nat.div_le_self _ _) hn)]
theorem pk_nb (z : Int32) : narrow .byte (.int z.toInt8.toInt32) = .int z.toInt8.toInt32 := congrArg Value.int (by simp)
theorem pk_ns (z : Int32) : narrow .short (.int z.toInt16.toInt32) = .int z.toInt16.toInt32 := congrArg Value.int (by simp)
theorem pk_fb (r : Int32) : fits .byte (.int r.toInt8.toInt32) = true := by
  have ⟨a, b⟩ := lg_i2b_range r
  have h1 : (-128 : Int32).toInt = -128 := by decide
  have h2 : (127 : Int32).toInt = 127 := by decide
  simp only [fits, Bool.and_eq_true, decide_eq_true_eq, Int32.le_iff_toInt_le, h1, h2]
  omega
theorem pk_fs (r : Int32) : fits .short (.int r.toInt16.toInt32) = true := by
  have ⟨a, b⟩ := lg_i2s_range r
  have h1 : (-32768 : Int32).toInt = -32768 := by decide
  have h2 : (32767 : Int32).toInt = 32767 := by decide
  simp only [fits, Bool.and_eq_true, decide_eq_true_eq, Int32.le_iff_toInt_le, h1, h2]
  omega
theorem pk_charN {q : Nat} (hq : q < 65536) : narrow .char (.int (nI q)) = .int (nI q) ∧ fits .char (.int (nI q)) = true := by
  constructor
  · have e : (nI q).toUInt32.toUInt16.toUInt32.toInt32 = nI q := by
      apply Int32.toBitVec_inj.mp
      apply BitVec.eq_of_toNat_eq
      show (nI q).toUInt32.toUInt16.toUInt32.toNat = q % 2 ^ 32
      rw [UInt16.toNat_toUInt32, UInt32.toNat_toUInt16, show (nI q).toUInt32.toNat = q % 2 ^ 32 from rfl]
      omega
    exact congrArg Value.int e
  · have a : (0 : Int32) ≤ nI q := nI_pos' (by omega)
    have b : nI q ≤ 65535 := nI_le (b := 65535) (by omega) (by decide)
    show (decide ((0 : Int32) ≤ nI q) && decide (nI q ≤ 65535)) = true
    rw [decide_eq_true a, decide_eq_true b]
    rfl
theorem pk_char (x : Int32) : (x.toUInt32 % 65536).toInt32 = nI (x.toBitVec.toNat % 65536) := by
  apply Int32.toBitVec_inj.mp
  apply BitVec.eq_of_toNat_eq
  rw [pk_tn (by omega)]
  show (x.toUInt32 % 65536).toNat = _
  rw [UInt32.toNat_mod]
  rfl
theorem pk_nc (x : Int32) : narrow .char (.int (x.toUInt32 % 65536).toInt32) = .int (x.toUInt32 % 65536).toInt32 := by
  rw [pk_char]
  exact (pk_charN (Nat.mod_lt _ (by decide))).1
theorem pk_fc (x : Int32) : fits .char (.int (x.toUInt32 % 65536).toInt32) = true := by
  rw [pk_char]
  exact (pk_charN (Nat.mod_lt _ (by decide))).2
theorem pk_vb (z : Int32) : vp_nar .byte z.toInt8.toInt32 = z.toInt8.toInt32 := by rw [vp_nar_byte]; simp
theorem pk_vs (z : Int32) : vp_nar .short z.toInt16.toInt32 = z.toInt16.toInt32 := by rw [vp_nar_short]; simp
theorem pk_vc (z : Int32) : vp_nar .char (z.toUInt32 % 65536).toInt32 = (z.toUInt32 % 65536).toInt32 := Value.int.inj (pk_nc z)
theorem pk_lT {n : Nat} (h : n < 2 ^ 63) : (lN n).toInt = (n : Int) := lg_ofNat_toInt h
theorem pk_lLT {a b : Nat} (ha : a < 2 ^ 63) (hb : b < 2 ^ 63) : lN a < lN b ↔ a < b := by
  rw [Int64.lt_iff_toInt_lt, pk_lT ha, pk_lT hb]; omega
theorem pk_lLE {a b : Nat} (ha : a < 2 ^ 63) (hb : b < 2 ^ 63) : lN a ≤ lN b ↔ a ≤ b := by
  rw [Int64.le_iff_toInt_le, pk_lT ha, pk_lT hb]; omega
theorem pk_lEQ {a b : Nat} (ha : a < 2 ^ 63) (hb : b < 2 ^ 63) : lN a = lN b ↔ a = b := by
  rw [← Int64.toInt_inj, pk_lT ha, pk_lT hb]; omega
theorem pk_lOf {x : Int64} (h : ¬ x < 0) : ∃ k : Nat, k < 2 ^ 63 ∧ x = lN k := by
  rw [Int64.lt_iff_toInt_lt] at h
  have h0 : (0 : Int64).toInt = 0 := by decide
  have hx := Int64.toInt_lt x
  refine ⟨x.toInt.toNat, by omega, Int64.toInt_inj.mp ?_⟩
  rw [pk_lT (by omega)]
  omega
theorem pk_lDiv {a b : Nat} (ha : a < 2 ^ 63) (h0 : 0 < b) (hb : b < 2 ^ 63) : lN a / lN b = lN (a / b) := by
  apply Int64.toInt_inj.mp
  rw [lg_ldiv_nonneg (by rw [pk_lT ha]; omega) (by rw [pk_lT hb]; omega), pk_lT ha, pk_lT hb, pk_lT (Nat.lt_of_le_of_lt (Nat.div_le_self a b) ha)]
  rfl
theorem pk_lRem {a b : Nat} (ha : a < 2 ^ 63) (h0 : 0 < b) (hb : b < 2 ^ 63) : lN a - lN a / lN b * lN b = lN (a % b) := by
  rw [pk_lDiv ha h0 hb, lN_mul, lN_sub (Nat.div_mul_le_self a b)]
  exact congrArg lN (by have := Nat.div_add_mod' a b; omega)
theorem pk_loop {σ : Type} (W : Nat → Nat → σ → Prop) (I : Nat → σ → Prop) (e i0 : Nat) (s : σ) (hi : i0 ≤ e) (h0 : I i0 s) (hx : ∀ n s, I e s → W (n + 1) e s)
    (hs : ∀ n i s, i < e → I i s → (∀ s', I (i + 1) s' → W n (i + 1) s') → W (n + 1) i s) : ∃ n, W n i0 s :=
  ⟨e + 1, loop_i W I e hx hs (e + 1) i0 s hi (by omega) h0⟩
theorem pk_loopD {σ : Type} (W : Nat → Nat → σ → Prop) (I : Nat → σ → Prop) (hx : ∀ n s, I 0 s → W (n + 1) 0 s)
    (hs : ∀ n i s, I (i + 1) s → (∀ s', I i s' → W n i s') → W (n + 1) (i + 1) s) : ∀ (e : Nat) (s : σ), I e s → W (e + 1) e s := by
  intro e
  induction e with
  | zero => exact fun s h => hx 0 s h
  | succ e ih => exact fun s h => hs (e + 1) e s h (fun s' h' => ih s' h')
theorem lp1 {A1 : Type} (W : Nat → A1 → Prop) (I : A1 → Prop) (μ : A1 → Nat) (hs : ∀ (n : Nat) (a1 : A1), I a1 → (∀ (b1 : A1), I b1 → μ b1 < μ a1 → W n b1) → W (n + 1) a1) (a1 : A1) (h : I a1) : ∃ n, W n a1 :=
  loop_m (σ := A1) (fun n s => W n s) (fun s => I s) (fun s => μ s) (fun n s hI hk => hs n s hI (fun b1 h9 hm => hk b1 h9 hm)) a1 h
theorem lp2 {A1 A2 : Type} (W : Nat → A1 → A2 → Prop) (I : A1 → A2 → Prop) (μ : A1 → A2 → Nat) (hs : ∀ (n : Nat) (a1 : A1) (a2 : A2), I a1 a2 → (∀ (b1 : A1) (b2 : A2), I b1 b2 → μ b1 b2 < μ a1 a2 → W n b1 b2) → W (n + 1) a1 a2) (a1 : A1) (a2 : A2) (h : I a1 a2) : ∃ n, W n a1 a2 :=
  loop_m (σ := A1 × A2) (fun n s => W n s.1 s.2) (fun s => I s.1 s.2) (fun s => μ s.1 s.2) (fun n s hI hk => hs n s.1 s.2 hI (fun b1 b2 h9 hm => hk (b1, b2) h9 hm)) (a1, a2) h
theorem lp3 {A1 A2 A3 : Type} (W : Nat → A1 → A2 → A3 → Prop) (I : A1 → A2 → A3 → Prop) (μ : A1 → A2 → A3 → Nat) (hs : ∀ (n : Nat) (a1 : A1) (a2 : A2) (a3 : A3), I a1 a2 a3 → (∀ (b1 : A1) (b2 : A2) (b3 : A3), I b1 b2 b3 → μ b1 b2 b3 < μ a1 a2 a3 → W n b1 b2 b3) → W (n + 1) a1 a2 a3) (a1 : A1) (a2 : A2) (a3 : A3) (h : I a1 a2 a3) : ∃ n, W n a1 a2 a3 :=
  loop_m (σ := A1 × A2 × A3) (fun n s => W n s.1 s.2.1 s.2.2) (fun s => I s.1 s.2.1 s.2.2) (fun s => μ s.1 s.2.1 s.2.2) (fun n s hI hk => hs n s.1 s.2.1 s.2.2 hI (fun b1 b2 b3 h9 hm => hk (b1, b2, b3) h9 hm)) (a1, a2, a3) h
theorem lp4 {A1 A2 A3 A4 : Type} (W : Nat → A1 → A2 → A3 → A4 → Prop) (I : A1 → A2 → A3 → A4 → Prop) (μ : A1 → A2 → A3 → A4 → Nat) (hs : ∀ (n : Nat) (a1 : A1) (a2 : A2) (a3 : A3) (a4 : A4), I a1 a2 a3 a4 → (∀ (b1 : A1) (b2 : A2) (b3 : A3) (b4 : A4), I b1 b2 b3 b4 → μ b1 b2 b3 b4 < μ a1 a2 a3 a4 → W n b1 b2 b3 b4) → W (n + 1) a1 a2 a3 a4) (a1 : A1) (a2 : A2) (a3 : A3) (a4 : A4) (h : I a1 a2 a3 a4) : ∃ n, W n a1 a2 a3 a4 :=
  loop_m (σ := A1 × A2 × A3 × A4) (fun n s => W n s.1 s.2.1 s.2.2.1 s.2.2.2) (fun s => I s.1 s.2.1 s.2.2.1 s.2.2.2) (fun s => μ s.1 s.2.1 s.2.2.1 s.2.2.2) (fun n s hI hk => hs n s.1 s.2.1 s.2.2.1 s.2.2.2 hI (fun b1 b2 b3 b4 h9 hm => hk (b1, b2, b3, b4) h9 hm)) (a1, a2, a3, a4) h
theorem lp5 {A1 A2 A3 A4 A5 : Type} (W : Nat → A1 → A2 → A3 → A4 → A5 → Prop) (I : A1 → A2 → A3 → A4 → A5 → Prop) (μ : A1 → A2 → A3 → A4 → A5 → Nat) (hs : ∀ (n : Nat) (a1 : A1) (a2 : A2) (a3 : A3) (a4 : A4) (a5 : A5), I a1 a2 a3 a4 a5 → (∀ (b1 : A1) (b2 : A2) (b3 : A3) (b4 : A4) (b5 : A5), I b1 b2 b3 b4 b5 → μ b1 b2 b3 b4 b5 < μ a1 a2 a3 a4 a5 → W n b1 b2 b3 b4 b5) → W (n + 1) a1 a2 a3 a4 a5) (a1 : A1) (a2 : A2) (a3 : A3) (a4 : A4) (a5 : A5) (h : I a1 a2 a3 a4 a5) : ∃ n, W n a1 a2 a3 a4 a5 :=
  loop_m (σ := A1 × A2 × A3 × A4 × A5) (fun n s => W n s.1 s.2.1 s.2.2.1 s.2.2.2.1 s.2.2.2.2) (fun s => I s.1 s.2.1 s.2.2.1 s.2.2.2.1 s.2.2.2.2) (fun s => μ s.1 s.2.1 s.2.2.1 s.2.2.2.1 s.2.2.2.2) (fun n s hI hk => hs n s.1 s.2.1 s.2.2.1 s.2.2.2.1 s.2.2.2.2 hI (fun b1 b2 b3 b4 b5 h9 hm => hk (b1, b2, b3, b4, b5) h9 hm)) (a1, a2, a3, a4, a5) h
theorem lp6 {A1 A2 A3 A4 A5 A6 : Type} (W : Nat → A1 → A2 → A3 → A4 → A5 → A6 → Prop) (I : A1 → A2 → A3 → A4 → A5 → A6 → Prop) (μ : A1 → A2 → A3 → A4 → A5 → A6 → Nat) (hs : ∀ (n : Nat) (a1 : A1) (a2 : A2) (a3 : A3) (a4 : A4) (a5 : A5) (a6 : A6), I a1 a2 a3 a4 a5 a6 → (∀ (b1 : A1) (b2 : A2) (b3 : A3) (b4 : A4) (b5 : A5) (b6 : A6), I b1 b2 b3 b4 b5 b6 → μ b1 b2 b3 b4 b5 b6 < μ a1 a2 a3 a4 a5 a6 → W n b1 b2 b3 b4 b5 b6) → W (n + 1) a1 a2 a3 a4 a5 a6) (a1 : A1) (a2 : A2) (a3 : A3) (a4 : A4) (a5 : A5) (a6 : A6) (h : I a1 a2 a3 a4 a5 a6) : ∃ n, W n a1 a2 a3 a4 a5 a6 :=
  loop_m (σ := A1 × A2 × A3 × A4 × A5 × A6) (fun n s => W n s.1 s.2.1 s.2.2.1 s.2.2.2.1 s.2.2.2.2.1 s.2.2.2.2.2) (fun s => I s.1 s.2.1 s.2.2.1 s.2.2.2.1 s.2.2.2.2.1 s.2.2.2.2.2) (fun s => μ s.1 s.2.1 s.2.2.1 s.2.2.2.1 s.2.2.2.2.1 s.2.2.2.2.2) (fun n s hI hk => hs n s.1 s.2.1 s.2.2.1 s.2.2.2.1 s.2.2.2.2.1 s.2.2.2.2.2 hI (fun b1 b2 b3 b4 b5 b6 h9 hm => hk (b1, b2, b3, b4, b5, b6) h9 hm)) (a1, a2, a3, a4, a5, a6) h
theorem lp7 {A1 A2 A3 A4 A5 A6 A7 : Type} (W : Nat → A1 → A2 → A3 → A4 → A5 → A6 → A7 → Prop) (I : A1 → A2 → A3 → A4 → A5 → A6 → A7 → Prop) (μ : A1 → A2 → A3 → A4 → A5 → A6 → A7 → Nat) (hs : ∀ (n : Nat) (a1 : A1) (a2 : A2) (a3 : A3) (a4 : A4) (a5 : A5) (a6 : A6) (a7 : A7), I a1 a2 a3 a4 a5 a6 a7 → (∀ (b1 : A1) (b2 : A2) (b3 : A3) (b4 : A4) (b5 : A5) (b6 : A6) (b7 : A7), I b1 b2 b3 b4 b5 b6 b7 → μ b1 b2 b3 b4 b5 b6 b7 < μ a1 a2 a3 a4 a5 a6 a7 → W n b1 b2 b3 b4 b5 b6 b7) → W (n + 1) a1 a2 a3 a4 a5 a6 a7) (a1 : A1) (a2 : A2) (a3 : A3) (a4 : A4) (a5 : A5) (a6 : A6) (a7 : A7) (h : I a1 a2 a3 a4 a5 a6 a7) : ∃ n, W n a1 a2 a3 a4 a5 a6 a7 :=
  loop_m (σ := A1 × A2 × A3 × A4 × A5 × A6 × A7) (fun n s => W n s.1 s.2.1 s.2.2.1 s.2.2.2.1 s.2.2.2.2.1 s.2.2.2.2.2.1 s.2.2.2.2.2.2) (fun s => I s.1 s.2.1 s.2.2.1 s.2.2.2.1 s.2.2.2.2.1 s.2.2.2.2.2.1 s.2.2.2.2.2.2) (fun s => μ s.1 s.2.1 s.2.2.1 s.2.2.2.1 s.2.2.2.2.1 s.2.2.2.2.2.1 s.2.2.2.2.2.2) (fun n s hI hk => hs n s.1 s.2.1 s.2.2.1 s.2.2.2.1 s.2.2.2.2.1 s.2.2.2.2.2.1 s.2.2.2.2.2.2 hI (fun b1 b2 b3 b4 b5 b6 b7 h9 hm => hk (b1, b2, b3, b4, b5, b6, b7) h9 hm)) (a1, a2, a3, a4, a5, a6, a7) h
theorem lp8 {A1 A2 A3 A4 A5 A6 A7 A8 : Type} (W : Nat → A1 → A2 → A3 → A4 → A5 → A6 → A7 → A8 → Prop) (I : A1 → A2 → A3 → A4 → A5 → A6 → A7 → A8 → Prop) (μ : A1 → A2 → A3 → A4 → A5 → A6 → A7 → A8 → Nat) (hs : ∀ (n : Nat) (a1 : A1) (a2 : A2) (a3 : A3) (a4 : A4) (a5 : A5) (a6 : A6) (a7 : A7) (a8 : A8), I a1 a2 a3 a4 a5 a6 a7 a8 → (∀ (b1 : A1) (b2 : A2) (b3 : A3) (b4 : A4) (b5 : A5) (b6 : A6) (b7 : A7) (b8 : A8), I b1 b2 b3 b4 b5 b6 b7 b8 → μ b1 b2 b3 b4 b5 b6 b7 b8 < μ a1 a2 a3 a4 a5 a6 a7 a8 → W n b1 b2 b3 b4 b5 b6 b7 b8) → W (n + 1) a1 a2 a3 a4 a5 a6 a7 a8) (a1 : A1) (a2 : A2) (a3 : A3) (a4 : A4) (a5 : A5) (a6 : A6) (a7 : A7) (a8 : A8) (h : I a1 a2 a3 a4 a5 a6 a7 a8) : ∃ n, W n a1 a2 a3 a4 a5 a6 a7 a8 :=
  loop_m (σ := A1 × A2 × A3 × A4 × A5 × A6 × A7 × A8) (fun n s => W n s.1 s.2.1 s.2.2.1 s.2.2.2.1 s.2.2.2.2.1 s.2.2.2.2.2.1 s.2.2.2.2.2.2.1 s.2.2.2.2.2.2.2) (fun s => I s.1 s.2.1 s.2.2.1 s.2.2.2.1 s.2.2.2.2.1 s.2.2.2.2.2.1 s.2.2.2.2.2.2.1 s.2.2.2.2.2.2.2) (fun s => μ s.1 s.2.1 s.2.2.1 s.2.2.2.1 s.2.2.2.2.1 s.2.2.2.2.2.1 s.2.2.2.2.2.2.1 s.2.2.2.2.2.2.2) (fun n s hI hk => hs n s.1 s.2.1 s.2.2.1 s.2.2.2.1 s.2.2.2.2.1 s.2.2.2.2.2.1 s.2.2.2.2.2.2.1 s.2.2.2.2.2.2.2 hI (fun b1 b2 b3 b4 b5 b6 b7 b8 h9 hm => hk (b1, b2, b3, b4, b5, b6, b7, b8) h9 hm)) (a1, a2, a3, a4, a5, a6, a7, a8) h
theorem lp9 {A1 A2 A3 A4 A5 A6 A7 A8 A9 : Type} (W : Nat → A1 → A2 → A3 → A4 → A5 → A6 → A7 → A8 → A9 → Prop) (I : A1 → A2 → A3 → A4 → A5 → A6 → A7 → A8 → A9 → Prop) (μ : A1 → A2 → A3 → A4 → A5 → A6 → A7 → A8 → A9 → Nat) (hs : ∀ (n : Nat) (a1 : A1) (a2 : A2) (a3 : A3) (a4 : A4) (a5 : A5) (a6 : A6) (a7 : A7) (a8 : A8) (a9 : A9), I a1 a2 a3 a4 a5 a6 a7 a8 a9 → (∀ (b1 : A1) (b2 : A2) (b3 : A3) (b4 : A4) (b5 : A5) (b6 : A6) (b7 : A7) (b8 : A8) (b9 : A9), I b1 b2 b3 b4 b5 b6 b7 b8 b9 → μ b1 b2 b3 b4 b5 b6 b7 b8 b9 < μ a1 a2 a3 a4 a5 a6 a7 a8 a9 → W n b1 b2 b3 b4 b5 b6 b7 b8 b9) → W (n + 1) a1 a2 a3 a4 a5 a6 a7 a8 a9) (a1 : A1) (a2 : A2) (a3 : A3) (a4 : A4) (a5 : A5) (a6 : A6) (a7 : A7) (a8 : A8) (a9 : A9) (h : I a1 a2 a3 a4 a5 a6 a7 a8 a9) : ∃ n, W n a1 a2 a3 a4 a5 a6 a7 a8 a9 :=
  loop_m (σ := A1 × A2 × A3 × A4 × A5 × A6 × A7 × A8 × A9) (fun n s => W n s.1 s.2.1 s.2.2.1 s.2.2.2.1 s.2.2.2.2.1 s.2.2.2.2.2.1 s.2.2.2.2.2.2.1 s.2.2.2.2.2.2.2.1 s.2.2.2.2.2.2.2.2) (fun s => I s.1 s.2.1 s.2.2.1 s.2.2.2.1 s.2.2.2.2.1 s.2.2.2.2.2.1 s.2.2.2.2.2.2.1 s.2.2.2.2.2.2.2.1 s.2.2.2.2.2.2.2.2) (fun s => μ s.1 s.2.1 s.2.2.1 s.2.2.2.1 s.2.2.2.2.1 s.2.2.2.2.2.1 s.2.2.2.2.2.2.1 s.2.2.2.2.2.2.2.1 s.2.2.2.2.2.2.2.2) (fun n s hI hk => hs n s.1 s.2.1 s.2.2.1 s.2.2.2.1 s.2.2.2.2.1 s.2.2.2.2.2.1 s.2.2.2.2.2.2.1 s.2.2.2.2.2.2.2.1 s.2.2.2.2.2.2.2.2 hI (fun b1 b2 b3 b4 b5 b6 b7 b8 b9 h9 hm => hk (b1, b2, b3, b4, b5, b6, b7, b8, b9) h9 hm)) (a1, a2, a3, a4, a5, a6, a7, a8, a9) h
theorem lp10 {A1 A2 A3 A4 A5 A6 A7 A8 A9 A10 : Type} (W : Nat → A1 → A2 → A3 → A4 → A5 → A6 → A7 → A8 → A9 → A10 → Prop) (I : A1 → A2 → A3 → A4 → A5 → A6 → A7 → A8 → A9 → A10 → Prop) (μ : A1 → A2 → A3 → A4 → A5 → A6 → A7 → A8 → A9 → A10 → Nat) (hs : ∀ (n : Nat) (a1 : A1) (a2 : A2) (a3 : A3) (a4 : A4) (a5 : A5) (a6 : A6) (a7 : A7) (a8 : A8) (a9 : A9) (a10 : A10), I a1 a2 a3 a4 a5 a6 a7 a8 a9 a10 → (∀ (b1 : A1) (b2 : A2) (b3 : A3) (b4 : A4) (b5 : A5) (b6 : A6) (b7 : A7) (b8 : A8) (b9 : A9) (b10 : A10), I b1 b2 b3 b4 b5 b6 b7 b8 b9 b10 → μ b1 b2 b3 b4 b5 b6 b7 b8 b9 b10 < μ a1 a2 a3 a4 a5 a6 a7 a8 a9 a10 → W n b1 b2 b3 b4 b5 b6 b7 b8 b9 b10) → W (n + 1) a1 a2 a3 a4 a5 a6 a7 a8 a9 a10) (a1 : A1) (a2 : A2) (a3 : A3) (a4 : A4) (a5 : A5) (a6 : A6) (a7 : A7) (a8 : A8) (a9 : A9) (a10 : A10) (h : I a1 a2 a3 a4 a5 a6 a7 a8 a9 a10) : ∃ n, W n a1 a2 a3 a4 a5 a6 a7 a8 a9 a10 :=
  loop_m (σ := A1 × A2 × A3 × A4 × A5 × A6 × A7 × A8 × A9 × A10) (fun n s => W n s.1 s.2.1 s.2.2.1 s.2.2.2.1 s.2.2.2.2.1 s.2.2.2.2.2.1 s.2.2.2.2.2.2.1 s.2.2.2.2.2.2.2.1 s.2.2.2.2.2.2.2.2.1 s.2.2.2.2.2.2.2.2.2) (fun s => I s.1 s.2.1 s.2.2.1 s.2.2.2.1 s.2.2.2.2.1 s.2.2.2.2.2.1 s.2.2.2.2.2.2.1 s.2.2.2.2.2.2.2.1 s.2.2.2.2.2.2.2.2.1 s.2.2.2.2.2.2.2.2.2) (fun s => μ s.1 s.2.1 s.2.2.1 s.2.2.2.1 s.2.2.2.2.1 s.2.2.2.2.2.1 s.2.2.2.2.2.2.1 s.2.2.2.2.2.2.2.1 s.2.2.2.2.2.2.2.2.1 s.2.2.2.2.2.2.2.2.2) (fun n s hI hk => hs n s.1 s.2.1 s.2.2.1 s.2.2.2.1 s.2.2.2.2.1 s.2.2.2.2.2.1 s.2.2.2.2.2.2.1 s.2.2.2.2.2.2.2.1 s.2.2.2.2.2.2.2.2.1 s.2.2.2.2.2.2.2.2.2 hI (fun b1 b2 b3 b4 b5 b6 b7 b8 b9 b10 h9 hm => hk (b1, b2, b3, b4, b5, b6, b7, b8, b9, b10) h9 hm)) (a1, a2, a3, a4, a5, a6, a7, a8, a9, a10) h
theorem lp11 {A1 A2 A3 A4 A5 A6 A7 A8 A9 A10 A11 : Type} (W : Nat → A1 → A2 → A3 → A4 → A5 → A6 → A7 → A8 → A9 → A10 → A11 → Prop) (I : A1 → A2 → A3 → A4 → A5 → A6 → A7 → A8 → A9 → A10 → A11 → Prop) (μ : A1 → A2 → A3 → A4 → A5 → A6 → A7 → A8 → A9 → A10 → A11 → Nat) (hs : ∀ (n : Nat) (a1 : A1) (a2 : A2) (a3 : A3) (a4 : A4) (a5 : A5) (a6 : A6) (a7 : A7) (a8 : A8) (a9 : A9) (a10 : A10) (a11 : A11), I a1 a2 a3 a4 a5 a6 a7 a8 a9 a10 a11 → (∀ (b1 : A1) (b2 : A2) (b3 : A3) (b4 : A4) (b5 : A5) (b6 : A6) (b7 : A7) (b8 : A8) (b9 : A9) (b10 : A10) (b11 : A11), I b1 b2 b3 b4 b5 b6 b7 b8 b9 b10 b11 → μ b1 b2 b3 b4 b5 b6 b7 b8 b9 b10 b11 < μ a1 a2 a3 a4 a5 a6 a7 a8 a9 a10 a11 → W n b1 b2 b3 b4 b5 b6 b7 b8 b9 b10 b11) → W (n + 1) a1 a2 a3 a4 a5 a6 a7 a8 a9 a10 a11) (a1 : A1) (a2 : A2) (a3 : A3) (a4 : A4) (a5 : A5) (a6 : A6) (a7 : A7) (a8 : A8) (a9 : A9) (a10 : A10) (a11 : A11) (h : I a1 a2 a3 a4 a5 a6 a7 a8 a9 a10 a11) : ∃ n, W n a1 a2 a3 a4 a5 a6 a7 a8 a9 a10 a11 :=
  loop_m (σ := A1 × A2 × A3 × A4 × A5 × A6 × A7 × A8 × A9 × A10 × A11) (fun n s => W n s.1 s.2.1 s.2.2.1 s.2.2.2.1 s.2.2.2.2.1 s.2.2.2.2.2.1 s.2.2.2.2.2.2.1 s.2.2.2.2.2.2.2.1 s.2.2.2.2.2.2.2.2.1 s.2.2.2.2.2.2.2.2.2.1 s.2.2.2.2.2.2.2.2.2.2) (fun s => I s.1 s.2.1 s.2.2.1 s.2.2.2.1 s.2.2.2.2.1 s.2.2.2.2.2.1 s.2.2.2.2.2.2.1 s.2.2.2.2.2.2.2.1 s.2.2.2.2.2.2.2.2.1 s.2.2.2.2.2.2.2.2.2.1 s.2.2.2.2.2.2.2.2.2.2) (fun s => μ s.1 s.2.1 s.2.2.1 s.2.2.2.1 s.2.2.2.2.1 s.2.2.2.2.2.1 s.2.2.2.2.2.2.1 s.2.2.2.2.2.2.2.1 s.2.2.2.2.2.2.2.2.1 s.2.2.2.2.2.2.2.2.2.1 s.2.2.2.2.2.2.2.2.2.2) (fun n s hI hk => hs n s.1 s.2.1 s.2.2.1 s.2.2.2.1 s.2.2.2.2.1 s.2.2.2.2.2.1 s.2.2.2.2.2.2.1 s.2.2.2.2.2.2.2.1 s.2.2.2.2.2.2.2.2.1 s.2.2.2.2.2.2.2.2.2.1 s.2.2.2.2.2.2.2.2.2.2 hI (fun b1 b2 b3 b4 b5 b6 b7 b8 b9 b10 b11 h9 hm => hk (b1, b2, b3, b4, b5, b6, b7, b8, b9, b10, b11) h9 hm)) (a1, a2, a3, a4, a5, a6, a7, a8, a9, a10, a11) h
theorem lp12 {A1 A2 A3 A4 A5 A6 A7 A8 A9 A10 A11 A12 : Type} (W : Nat → A1 → A2 → A3 → A4 → A5 → A6 → A7 → A8 → A9 → A10 → A11 → A12 → Prop) (I : A1 → A2 → A3 → A4 → A5 → A6 → A7 → A8 → A9 → A10 → A11 → A12 → Prop) (μ : A1 → A2 → A3 → A4 → A5 → A6 → A7 → A8 → A9 → A10 → A11 → A12 → Nat) (hs : ∀ (n : Nat) (a1 : A1) (a2 : A2) (a3 : A3) (a4 : A4) (a5 : A5) (a6 : A6) (a7 : A7) (a8 : A8) (a9 : A9) (a10 : A10) (a11 : A11) (a12 : A12), I a1 a2 a3 a4 a5 a6 a7 a8 a9 a10 a11 a12 → (∀ (b1 : A1) (b2 : A2) (b3 : A3) (b4 : A4) (b5 : A5) (b6 : A6) (b7 : A7) (b8 : A8) (b9 : A9) (b10 : A10) (b11 : A11) (b12 : A12), I b1 b2 b3 b4 b5 b6 b7 b8 b9 b10 b11 b12 → μ b1 b2 b3 b4 b5 b6 b7 b8 b9 b10 b11 b12 < μ a1 a2 a3 a4 a5 a6 a7 a8 a9 a10 a11 a12 → W n b1 b2 b3 b4 b5 b6 b7 b8 b9 b10 b11 b12) → W (n + 1) a1 a2 a3 a4 a5 a6 a7 a8 a9 a10 a11 a12) (a1 : A1) (a2 : A2) (a3 : A3) (a4 : A4) (a5 : A5) (a6 : A6) (a7 : A7) (a8 : A8) (a9 : A9) (a10 : A10) (a11 : A11) (a12 : A12) (h : I a1 a2 a3 a4 a5 a6 a7 a8 a9 a10 a11 a12) : ∃ n, W n a1 a2 a3 a4 a5 a6 a7 a8 a9 a10 a11 a12 :=
  loop_m (σ := A1 × A2 × A3 × A4 × A5 × A6 × A7 × A8 × A9 × A10 × A11 × A12) (fun n s => W n s.1 s.2.1 s.2.2.1 s.2.2.2.1 s.2.2.2.2.1 s.2.2.2.2.2.1 s.2.2.2.2.2.2.1 s.2.2.2.2.2.2.2.1 s.2.2.2.2.2.2.2.2.1 s.2.2.2.2.2.2.2.2.2.1 s.2.2.2.2.2.2.2.2.2.2.1 s.2.2.2.2.2.2.2.2.2.2.2) (fun s => I s.1 s.2.1 s.2.2.1 s.2.2.2.1 s.2.2.2.2.1 s.2.2.2.2.2.1 s.2.2.2.2.2.2.1 s.2.2.2.2.2.2.2.1 s.2.2.2.2.2.2.2.2.1 s.2.2.2.2.2.2.2.2.2.1 s.2.2.2.2.2.2.2.2.2.2.1 s.2.2.2.2.2.2.2.2.2.2.2) (fun s => μ s.1 s.2.1 s.2.2.1 s.2.2.2.1 s.2.2.2.2.1 s.2.2.2.2.2.1 s.2.2.2.2.2.2.1 s.2.2.2.2.2.2.2.1 s.2.2.2.2.2.2.2.2.1 s.2.2.2.2.2.2.2.2.2.1 s.2.2.2.2.2.2.2.2.2.2.1 s.2.2.2.2.2.2.2.2.2.2.2) (fun n s hI hk => hs n s.1 s.2.1 s.2.2.1 s.2.2.2.1 s.2.2.2.2.1 s.2.2.2.2.2.1 s.2.2.2.2.2.2.1 s.2.2.2.2.2.2.2.1 s.2.2.2.2.2.2.2.2.1 s.2.2.2.2.2.2.2.2.2.1 s.2.2.2.2.2.2.2.2.2.2.1 s.2.2.2.2.2.2.2.2.2.2.2 hI (fun b1 b2 b3 b4 b5 b6 b7 b8 b9 b10 b11 b12 h9 hm => hk (b1, b2, b3, b4, b5, b6, b7, b8, b9, b10, b11, b12) h9 hm)) (a1, a2, a3, a4, a5, a6, a7, a8, a9, a10, a11, a12) h
theorem lp13 {A1 A2 A3 A4 A5 A6 A7 A8 A9 A10 A11 A12 A13 : Type} (W : Nat → A1 → A2 → A3 → A4 → A5 → A6 → A7 → A8 → A9 → A10 → A11 → A12 → A13 → Prop) (I : A1 → A2 → A3 → A4 → A5 → A6 → A7 → A8 → A9 → A10 → A11 → A12 → A13 → Prop) (μ : A1 → A2 → A3 → A4 → A5 → A6 → A7 → A8 → A9 → A10 → A11 → A12 → A13 → Nat) (hs : ∀ (n : Nat) (a1 : A1) (a2 : A2) (a3 : A3) (a4 : A4) (a5 : A5) (a6 : A6) (a7 : A7) (a8 : A8) (a9 : A9) (a10 : A10) (a11 : A11) (a12 : A12) (a13 : A13), I a1 a2 a3 a4 a5 a6 a7 a8 a9 a10 a11 a12 a13 → (∀ (b1 : A1) (b2 : A2) (b3 : A3) (b4 : A4) (b5 : A5) (b6 : A6) (b7 : A7) (b8 : A8) (b9 : A9) (b10 : A10) (b11 : A11) (b12 : A12) (b13 : A13), I b1 b2 b3 b4 b5 b6 b7 b8 b9 b10 b11 b12 b13 → μ b1 b2 b3 b4 b5 b6 b7 b8 b9 b10 b11 b12 b13 < μ a1 a2 a3 a4 a5 a6 a7 a8 a9 a10 a11 a12 a13 → W n b1 b2 b3 b4 b5 b6 b7 b8 b9 b10 b11 b12 b13) → W (n + 1) a1 a2 a3 a4 a5 a6 a7 a8 a9 a10 a11 a12 a13) (a1 : A1) (a2 : A2) (a3 : A3) (a4 : A4) (a5 : A5) (a6 : A6) (a7 : A7) (a8 : A8) (a9 : A9) (a10 : A10) (a11 : A11) (a12 : A12) (a13 : A13) (h : I a1 a2 a3 a4 a5 a6 a7 a8 a9 a10 a11 a12 a13) : ∃ n, W n a1 a2 a3 a4 a5 a6 a7 a8 a9 a10 a11 a12 a13 :=
  loop_m (σ := A1 × A2 × A3 × A4 × A5 × A6 × A7 × A8 × A9 × A10 × A11 × A12 × A13) (fun n s => W n s.1 s.2.1 s.2.2.1 s.2.2.2.1 s.2.2.2.2.1 s.2.2.2.2.2.1 s.2.2.2.2.2.2.1 s.2.2.2.2.2.2.2.1 s.2.2.2.2.2.2.2.2.1 s.2.2.2.2.2.2.2.2.2.1 s.2.2.2.2.2.2.2.2.2.2.1 s.2.2.2.2.2.2.2.2.2.2.2.1 s.2.2.2.2.2.2.2.2.2.2.2.2) (fun s => I s.1 s.2.1 s.2.2.1 s.2.2.2.1 s.2.2.2.2.1 s.2.2.2.2.2.1 s.2.2.2.2.2.2.1 s.2.2.2.2.2.2.2.1 s.2.2.2.2.2.2.2.2.1 s.2.2.2.2.2.2.2.2.2.1 s.2.2.2.2.2.2.2.2.2.2.1 s.2.2.2.2.2.2.2.2.2.2.2.1 s.2.2.2.2.2.2.2.2.2.2.2.2) (fun s => μ s.1 s.2.1 s.2.2.1 s.2.2.2.1 s.2.2.2.2.1 s.2.2.2.2.2.1 s.2.2.2.2.2.2.1 s.2.2.2.2.2.2.2.1 s.2.2.2.2.2.2.2.2.1 s.2.2.2.2.2.2.2.2.2.1 s.2.2.2.2.2.2.2.2.2.2.1 s.2.2.2.2.2.2.2.2.2.2.2.1 s.2.2.2.2.2.2.2.2.2.2.2.2) (fun n s hI hk => hs n s.1 s.2.1 s.2.2.1 s.2.2.2.1 s.2.2.2.2.1 s.2.2.2.2.2.1 s.2.2.2.2.2.2.1 s.2.2.2.2.2.2.2.1 s.2.2.2.2.2.2.2.2.1 s.2.2.2.2.2.2.2.2.2.1 s.2.2.2.2.2.2.2.2.2.2.1 s.2.2.2.2.2.2.2.2.2.2.2.1 s.2.2.2.2.2.2.2.2.2.2.2.2 hI (fun b1 b2 b3 b4 b5 b6 b7 b8 b9 b10 b11 b12 b13 h9 hm => hk (b1, b2, b3, b4, b5, b6, b7, b8, b9, b10, b11, b12, b13) h9 hm)) (a1, a2, a3, a4, a5, a6, a7, a8, a9, a10, a11, a12, a13) h
theorem lp14 {A1 A2 A3 A4 A5 A6 A7 A8 A9 A10 A11 A12 A13 A14 : Type} (W : Nat → A1 → A2 → A3 → A4 → A5 → A6 → A7 → A8 → A9 → A10 → A11 → A12 → A13 → A14 → Prop) (I : A1 → A2 → A3 → A4 → A5 → A6 → A7 → A8 → A9 → A10 → A11 → A12 → A13 → A14 → Prop) (μ : A1 → A2 → A3 → A4 → A5 → A6 → A7 → A8 → A9 → A10 → A11 → A12 → A13 → A14 → Nat) (hs : ∀ (n : Nat) (a1 : A1) (a2 : A2) (a3 : A3) (a4 : A4) (a5 : A5) (a6 : A6) (a7 : A7) (a8 : A8) (a9 : A9) (a10 : A10) (a11 : A11) (a12 : A12) (a13 : A13) (a14 : A14), I a1 a2 a3 a4 a5 a6 a7 a8 a9 a10 a11 a12 a13 a14 → (∀ (b1 : A1) (b2 : A2) (b3 : A3) (b4 : A4) (b5 : A5) (b6 : A6) (b7 : A7) (b8 : A8) (b9 : A9) (b10 : A10) (b11 : A11) (b12 : A12) (b13 : A13) (b14 : A14), I b1 b2 b3 b4 b5 b6 b7 b8 b9 b10 b11 b12 b13 b14 → μ b1 b2 b3 b4 b5 b6 b7 b8 b9 b10 b11 b12 b13 b14 < μ a1 a2 a3 a4 a5 a6 a7 a8 a9 a10 a11 a12 a13 a14 → W n b1 b2 b3 b4 b5 b6 b7 b8 b9 b10 b11 b12 b13 b14) → W (n + 1) a1 a2 a3 a4 a5 a6 a7 a8 a9 a10 a11 a12 a13 a14) (a1 : A1) (a2 : A2) (a3 : A3) (a4 : A4) (a5 : A5) (a6 : A6) (a7 : A7) (a8 : A8) (a9 : A9) (a10 : A10) (a11 : A11) (a12 : A12) (a13 : A13) (a14 : A14) (h : I a1 a2 a3 a4 a5 a6 a7 a8 a9 a10 a11 a12 a13 a14) : ∃ n, W n a1 a2 a3 a4 a5 a6 a7 a8 a9 a10 a11 a12 a13 a14 :=
  loop_m (σ := A1 × A2 × A3 × A4 × A5 × A6 × A7 × A8 × A9 × A10 × A11 × A12 × A13 × A14) (fun n s => W n s.1 s.2.1 s.2.2.1 s.2.2.2.1 s.2.2.2.2.1 s.2.2.2.2.2.1 s.2.2.2.2.2.2.1 s.2.2.2.2.2.2.2.1 s.2.2.2.2.2.2.2.2.1 s.2.2.2.2.2.2.2.2.2.1 s.2.2.2.2.2.2.2.2.2.2.1 s.2.2.2.2.2.2.2.2.2.2.2.1 s.2.2.2.2.2.2.2.2.2.2.2.2.1 s.2.2.2.2.2.2.2.2.2.2.2.2.2) (fun s => I s.1 s.2.1 s.2.2.1 s.2.2.2.1 s.2.2.2.2.1 s.2.2.2.2.2.1 s.2.2.2.2.2.2.1 s.2.2.2.2.2.2.2.1 s.2.2.2.2.2.2.2.2.1 s.2.2.2.2.2.2.2.2.2.1 s.2.2.2.2.2.2.2.2.2.2.1 s.2.2.2.2.2.2.2.2.2.2.2.1 s.2.2.2.2.2.2.2.2.2.2.2.2.1 s.2.2.2.2.2.2.2.2.2.2.2.2.2) (fun s => μ s.1 s.2.1 s.2.2.1 s.2.2.2.1 s.2.2.2.2.1 s.2.2.2.2.2.1 s.2.2.2.2.2.2.1 s.2.2.2.2.2.2.2.1 s.2.2.2.2.2.2.2.2.1 s.2.2.2.2.2.2.2.2.2.1 s.2.2.2.2.2.2.2.2.2.2.1 s.2.2.2.2.2.2.2.2.2.2.2.1 s.2.2.2.2.2.2.2.2.2.2.2.2.1 s.2.2.2.2.2.2.2.2.2.2.2.2.2) (fun n s hI hk => hs n s.1 s.2.1 s.2.2.1 s.2.2.2.1 s.2.2.2.2.1 s.2.2.2.2.2.1 s.2.2.2.2.2.2.1 s.2.2.2.2.2.2.2.1 s.2.2.2.2.2.2.2.2.1 s.2.2.2.2.2.2.2.2.2.1 s.2.2.2.2.2.2.2.2.2.2.1 s.2.2.2.2.2.2.2.2.2.2.2.1 s.2.2.2.2.2.2.2.2.2.2.2.2.1 s.2.2.2.2.2.2.2.2.2.2.2.2.2 hI (fun b1 b2 b3 b4 b5 b6 b7 b8 b9 b10 b11 b12 b13 b14 h9 hm => hk (b1, b2, b3, b4, b5, b6, b7, b8, b9, b10, b11, b12, b13, b14) h9 hm)) (a1, a2, a3, a4, a5, a6, a7, a8, a9, a10, a11, a12, a13, a14) h
theorem lp15 {A1 A2 A3 A4 A5 A6 A7 A8 A9 A10 A11 A12 A13 A14 A15 : Type} (W : Nat → A1 → A2 → A3 → A4 → A5 → A6 → A7 → A8 → A9 → A10 → A11 → A12 → A13 → A14 → A15 → Prop) (I : A1 → A2 → A3 → A4 → A5 → A6 → A7 → A8 → A9 → A10 → A11 → A12 → A13 → A14 → A15 → Prop) (μ : A1 → A2 → A3 → A4 → A5 → A6 → A7 → A8 → A9 → A10 → A11 → A12 → A13 → A14 → A15 → Nat) (hs : ∀ (n : Nat) (a1 : A1) (a2 : A2) (a3 : A3) (a4 : A4) (a5 : A5) (a6 : A6) (a7 : A7) (a8 : A8) (a9 : A9) (a10 : A10) (a11 : A11) (a12 : A12) (a13 : A13) (a14 : A14) (a15 : A15), I a1 a2 a3 a4 a5 a6 a7 a8 a9 a10 a11 a12 a13 a14 a15 → (∀ (b1 : A1) (b2 : A2) (b3 : A3) (b4 : A4) (b5 : A5) (b6 : A6) (b7 : A7) (b8 : A8) (b9 : A9) (b10 : A10) (b11 : A11) (b12 : A12) (b13 : A13) (b14 : A14) (b15 : A15), I b1 b2 b3 b4 b5 b6 b7 b8 b9 b10 b11 b12 b13 b14 b15 → μ b1 b2 b3 b4 b5 b6 b7 b8 b9 b10 b11 b12 b13 b14 b15 < μ a1 a2 a3 a4 a5 a6 a7 a8 a9 a10 a11 a12 a13 a14 a15 → W n b1 b2 b3 b4 b5 b6 b7 b8 b9 b10 b11 b12 b13 b14 b15) → W (n + 1) a1 a2 a3 a4 a5 a6 a7 a8 a9 a10 a11 a12 a13 a14 a15) (a1 : A1) (a2 : A2) (a3 : A3) (a4 : A4) (a5 : A5) (a6 : A6) (a7 : A7) (a8 : A8) (a9 : A9) (a10 : A10) (a11 : A11) (a12 : A12) (a13 : A13) (a14 : A14) (a15 : A15) (h : I a1 a2 a3 a4 a5 a6 a7 a8 a9 a10 a11 a12 a13 a14 a15) : ∃ n, W n a1 a2 a3 a4 a5 a6 a7 a8 a9 a10 a11 a12 a13 a14 a15 :=
  loop_m (σ := A1 × A2 × A3 × A4 × A5 × A6 × A7 × A8 × A9 × A10 × A11 × A12 × A13 × A14 × A15) (fun n s => W n s.1 s.2.1 s.2.2.1 s.2.2.2.1 s.2.2.2.2.1 s.2.2.2.2.2.1 s.2.2.2.2.2.2.1 s.2.2.2.2.2.2.2.1 s.2.2.2.2.2.2.2.2.1 s.2.2.2.2.2.2.2.2.2.1 s.2.2.2.2.2.2.2.2.2.2.1 s.2.2.2.2.2.2.2.2.2.2.2.1 s.2.2.2.2.2.2.2.2.2.2.2.2.1 s.2.2.2.2.2.2.2.2.2.2.2.2.2.1 s.2.2.2.2.2.2.2.2.2.2.2.2.2.2) (fun s => I s.1 s.2.1 s.2.2.1 s.2.2.2.1 s.2.2.2.2.1 s.2.2.2.2.2.1 s.2.2.2.2.2.2.1 s.2.2.2.2.2.2.2.1 s.2.2.2.2.2.2.2.2.1 s.2.2.2.2.2.2.2.2.2.1 s.2.2.2.2.2.2.2.2.2.2.1 s.2.2.2.2.2.2.2.2.2.2.2.1 s.2.2.2.2.2.2.2.2.2.2.2.2.1 s.2.2.2.2.2.2.2.2.2.2.2.2.2.1 s.2.2.2.2.2.2.2.2.2.2.2.2.2.2) (fun s => μ s.1 s.2.1 s.2.2.1 s.2.2.2.1 s.2.2.2.2.1 s.2.2.2.2.2.1 s.2.2.2.2.2.2.1 s.2.2.2.2.2.2.2.1 s.2.2.2.2.2.2.2.2.1 s.2.2.2.2.2.2.2.2.2.1 s.2.2.2.2.2.2.2.2.2.2.1 s.2.2.2.2.2.2.2.2.2.2.2.1 s.2.2.2.2.2.2.2.2.2.2.2.2.1 s.2.2.2.2.2.2.2.2.2.2.2.2.2.1 s.2.2.2.2.2.2.2.2.2.2.2.2.2.2) (fun n s hI hk => hs n s.1 s.2.1 s.2.2.1 s.2.2.2.1 s.2.2.2.2.1 s.2.2.2.2.2.1 s.2.2.2.2.2.2.1 s.2.2.2.2.2.2.2.1 s.2.2.2.2.2.2.2.2.1 s.2.2.2.2.2.2.2.2.2.1 s.2.2.2.2.2.2.2.2.2.2.1 s.2.2.2.2.2.2.2.2.2.2.2.1 s.2.2.2.2.2.2.2.2.2.2.2.2.1 s.2.2.2.2.2.2.2.2.2.2.2.2.2.1 s.2.2.2.2.2.2.2.2.2.2.2.2.2.2 hI (fun b1 b2 b3 b4 b5 b6 b7 b8 b9 b10 b11 b12 b13 b14 b15 h9 hm => hk (b1, b2, b3, b4, b5, b6, b7, b8, b9, b10, b11, b12, b13, b14, b15) h9 hm)) (a1, a2, a3, a4, a5, a6, a7, a8, a9, a10, a11, a12, a13, a14, a15) h
theorem lp16 {A1 A2 A3 A4 A5 A6 A7 A8 A9 A10 A11 A12 A13 A14 A15 A16 : Type} (W : Nat → A1 → A2 → A3 → A4 → A5 → A6 → A7 → A8 → A9 → A10 → A11 → A12 → A13 → A14 → A15 → A16 → Prop) (I : A1 → A2 → A3 → A4 → A5 → A6 → A7 → A8 → A9 → A10 → A11 → A12 → A13 → A14 → A15 → A16 → Prop) (μ : A1 → A2 → A3 → A4 → A5 → A6 → A7 → A8 → A9 → A10 → A11 → A12 → A13 → A14 → A15 → A16 → Nat) (hs : ∀ (n : Nat) (a1 : A1) (a2 : A2) (a3 : A3) (a4 : A4) (a5 : A5) (a6 : A6) (a7 : A7) (a8 : A8) (a9 : A9) (a10 : A10) (a11 : A11) (a12 : A12) (a13 : A13) (a14 : A14) (a15 : A15) (a16 : A16), I a1 a2 a3 a4 a5 a6 a7 a8 a9 a10 a11 a12 a13 a14 a15 a16 → (∀ (b1 : A1) (b2 : A2) (b3 : A3) (b4 : A4) (b5 : A5) (b6 : A6) (b7 : A7) (b8 : A8) (b9 : A9) (b10 : A10) (b11 : A11) (b12 : A12) (b13 : A13) (b14 : A14) (b15 : A15) (b16 : A16), I b1 b2 b3 b4 b5 b6 b7 b8 b9 b10 b11 b12 b13 b14 b15 b16 → μ b1 b2 b3 b4 b5 b6 b7 b8 b9 b10 b11 b12 b13 b14 b15 b16 < μ a1 a2 a3 a4 a5 a6 a7 a8 a9 a10 a11 a12 a13 a14 a15 a16 → W n b1 b2 b3 b4 b5 b6 b7 b8 b9 b10 b11 b12 b13 b14 b15 b16) → W (n + 1) a1 a2 a3 a4 a5 a6 a7 a8 a9 a10 a11 a12 a13 a14 a15 a16) (a1 : A1) (a2 : A2) (a3 : A3) (a4 : A4) (a5 : A5) (a6 : A6) (a7 : A7) (a8 : A8) (a9 : A9) (a10 : A10) (a11 : A11) (a12 : A12) (a13 : A13) (a14 : A14) (a15 : A15) (a16 : A16) (h : I a1 a2 a3 a4 a5 a6 a7 a8 a9 a10 a11 a12 a13 a14 a15 a16) : ∃ n, W n a1 a2 a3 a4 a5 a6 a7 a8 a9 a10 a11 a12 a13 a14 a15 a16 :=
  loop_m (σ := A1 × A2 × A3 × A4 × A5 × A6 × A7 × A8 × A9 × A10 × A11 × A12 × A13 × A14 × A15 × A16) (fun n s => W n s.1 s.2.1 s.2.2.1 s.2.2.2.1 s.2.2.2.2.1 s.2.2.2.2.2.1 s.2.2.2.2.2.2.1 s.2.2.2.2.2.2.2.1 s.2.2.2.2.2.2.2.2.1 s.2.2.2.2.2.2.2.2.2.1 s.2.2.2.2.2.2.2.2.2.2.1 s.2.2.2.2.2.2.2.2.2.2.2.1 s.2.2.2.2.2.2.2.2.2.2.2.2.1 s.2.2.2.2.2.2.2.2.2.2.2.2.2.1 s.2.2.2.2.2.2.2.2.2.2.2.2.2.2.1 s.2.2.2.2.2.2.2.2.2.2.2.2.2.2.2) (fun s => I s.1 s.2.1 s.2.2.1 s.2.2.2.1 s.2.2.2.2.1 s.2.2.2.2.2.1 s.2.2.2.2.2.2.1 s.2.2.2.2.2.2.2.1 s.2.2.2.2.2.2.2.2.1 s.2.2.2.2.2.2.2.2.2.1 s.2.2.2.2.2.2.2.2.2.2.1 s.2.2.2.2.2.2.2.2.2.2.2.1 s.2.2.2.2.2.2.2.2.2.2.2.2.1 s.2.2.2.2.2.2.2.2.2.2.2.2.2.1 s.2.2.2.2.2.2.2.2.2.2.2.2.2.2.1 s.2.2.2.2.2.2.2.2.2.2.2.2.2.2.2) (fun s => μ s.1 s.2.1 s.2.2.1 s.2.2.2.1 s.2.2.2.2.1 s.2.2.2.2.2.1 s.2.2.2.2.2.2.1 s.2.2.2.2.2.2.2.1 s.2.2.2.2.2.2.2.2.1 s.2.2.2.2.2.2.2.2.2.1 s.2.2.2.2.2.2.2.2.2.2.1 s.2.2.2.2.2.2.2.2.2.2.2.1 s.2.2.2.2.2.2.2.2.2.2.2.2.1 s.2.2.2.2.2.2.2.2.2.2.2.2.2.1 s.2.2.2.2.2.2.2.2.2.2.2.2.2.2.1 s.2.2.2.2.2.2.2.2.2.2.2.2.2.2.2) (fun n s hI hk => hs n s.1 s.2.1 s.2.2.1 s.2.2.2.1 s.2.2.2.2.1 s.2.2.2.2.2.1 s.2.2.2.2.2.2.1 s.2.2.2.2.2.2.2.1 s.2.2.2.2.2.2.2.2.1 s.2.2.2.2.2.2.2.2.2.1 s.2.2.2.2.2.2.2.2.2.2.1 s.2.2.2.2.2.2.2.2.2.2.2.1 s.2.2.2.2.2.2.2.2.2.2.2.2.1 s.2.2.2.2.2.2.2.2.2.2.2.2.2.1 s.2.2.2.2.2.2.2.2.2.2.2.2.2.2.1 s.2.2.2.2.2.2.2.2.2.2.2.2.2.2.2 hI (fun b1 b2 b3 b4 b5 b6 b7 b8 b9 b10 b11 b12 b13 b14 b15 b16 h9 hm => hk (b1, b2, b3, b4, b5, b6, b7, b8, b9, b10, b11, b12, b13, b14, b15, b16) h9 hm)) (a1, a2, a3, a4, a5, a6, a7, a8, a9, a10, a11, a12, a13, a14, a15, a16) h
theorem pk_least (P : Nat → Prop) (h : ∃ k, P k) : ∃ k, P k ∧ ∀ j, j < k → ¬ P j := by
  obtain ⟨k, hk⟩ := h
  induction k using Nat.strongRecOn with
  | ind k ih =>
    by_cases e : ∃ j, j < k ∧ P j
    · obtain ⟨j, hj, pj⟩ := e
      exact ih j hj pj
    · exact ⟨k, hk, fun j hj pj => e ⟨j, hj, pj⟩⟩
theorem rp1 {ρ A1 : Type} (W : Nat → (ρ → Prop) → A1 → Prop) (ok : A1 → Prop) (μ : A1 → Nat) (val : A1 → ρ)
    (hs : ∀ (d : Nat) (post : ρ → Prop) (a1 : A1), ok a1 → post (val a1) → (∀ (post' : ρ → Prop) (b1 : A1), ok b1 → μ b1 < μ a1 → post' (val b1) → W d post' b1) → W (d + 1) post a1) :
    ∀ (d : Nat) (post : ρ → Prop) (a1 : A1), ok a1 → μ a1 < d → post (val a1) → W d post a1 := by
  intro d
  induction d with
  | zero => intro post a1 _ h; omega
  | succ d ih =>
    intro post a1 ho hm hp
    exact hs d post a1 ho hp (fun post' b1 ho' hm' hp' => ih post' b1 ho' (by omega) hp')
theorem rp2 {ρ A1 A2 : Type} (W : Nat → (ρ → Prop) → A1 → A2 → Prop) (ok : A1 → A2 → Prop) (μ : A1 → A2 → Nat) (val : A1 → A2 → ρ)
    (hs : ∀ (d : Nat) (post : ρ → Prop) (a1 : A1) (a2 : A2), ok a1 a2 → post (val a1 a2) → (∀ (post' : ρ → Prop) (b1 : A1) (b2 : A2), ok b1 b2 → μ b1 b2 < μ a1 a2 → post' (val b1 b2) → W d post' b1 b2) → W (d + 1) post a1 a2) :
    ∀ (d : Nat) (post : ρ → Prop) (a1 : A1) (a2 : A2), ok a1 a2 → μ a1 a2 < d → post (val a1 a2) → W d post a1 a2 := by
  intro d
  induction d with
  | zero => intro post a1 a2 _ h; omega
  | succ d ih =>
    intro post a1 a2 ho hm hp
    exact hs d post a1 a2 ho hp (fun post' b1 b2 ho' hm' hp' => ih post' b1 b2 ho' (by omega) hp')
theorem rp3 {ρ A1 A2 A3 : Type} (W : Nat → (ρ → Prop) → A1 → A2 → A3 → Prop) (ok : A1 → A2 → A3 → Prop) (μ : A1 → A2 → A3 → Nat) (val : A1 → A2 → A3 → ρ)
    (hs : ∀ (d : Nat) (post : ρ → Prop) (a1 : A1) (a2 : A2) (a3 : A3), ok a1 a2 a3 → post (val a1 a2 a3) → (∀ (post' : ρ → Prop) (b1 : A1) (b2 : A2) (b3 : A3), ok b1 b2 b3 → μ b1 b2 b3 < μ a1 a2 a3 → post' (val b1 b2 b3) → W d post' b1 b2 b3) → W (d + 1) post a1 a2 a3) :
    ∀ (d : Nat) (post : ρ → Prop) (a1 : A1) (a2 : A2) (a3 : A3), ok a1 a2 a3 → μ a1 a2 a3 < d → post (val a1 a2 a3) → W d post a1 a2 a3 := by
  intro d
  induction d with
  | zero => intro post a1 a2 a3 _ h; omega
  | succ d ih =>
    intro post a1 a2 a3 ho hm hp
    exact hs d post a1 a2 a3 ho hp (fun post' b1 b2 b3 ho' hm' hp' => ih post' b1 b2 b3 ho' (by omega) hp')
theorem rp4 {ρ A1 A2 A3 A4 : Type} (W : Nat → (ρ → Prop) → A1 → A2 → A3 → A4 → Prop) (ok : A1 → A2 → A3 → A4 → Prop) (μ : A1 → A2 → A3 → A4 → Nat) (val : A1 → A2 → A3 → A4 → ρ)
    (hs : ∀ (d : Nat) (post : ρ → Prop) (a1 : A1) (a2 : A2) (a3 : A3) (a4 : A4), ok a1 a2 a3 a4 → post (val a1 a2 a3 a4) → (∀ (post' : ρ → Prop) (b1 : A1) (b2 : A2) (b3 : A3) (b4 : A4), ok b1 b2 b3 b4 → μ b1 b2 b3 b4 < μ a1 a2 a3 a4 → post' (val b1 b2 b3 b4) → W d post' b1 b2 b3 b4) → W (d + 1) post a1 a2 a3 a4) :
    ∀ (d : Nat) (post : ρ → Prop) (a1 : A1) (a2 : A2) (a3 : A3) (a4 : A4), ok a1 a2 a3 a4 → μ a1 a2 a3 a4 < d → post (val a1 a2 a3 a4) → W d post a1 a2 a3 a4 := by
  intro d
  induction d with
  | zero => intro post a1 a2 a3 a4 _ h; omega
  | succ d ih =>
    intro post a1 a2 a3 a4 ho hm hp
    exact hs d post a1 a2 a3 a4 ho hp (fun post' b1 b2 b3 b4 ho' hm' hp' => ih post' b1 b2 b3 b4 ho' (by omega) hp')
theorem rp5 {ρ A1 A2 A3 A4 A5 : Type} (W : Nat → (ρ → Prop) → A1 → A2 → A3 → A4 → A5 → Prop) (ok : A1 → A2 → A3 → A4 → A5 → Prop) (μ : A1 → A2 → A3 → A4 → A5 → Nat) (val : A1 → A2 → A3 → A4 → A5 → ρ)
    (hs : ∀ (d : Nat) (post : ρ → Prop) (a1 : A1) (a2 : A2) (a3 : A3) (a4 : A4) (a5 : A5), ok a1 a2 a3 a4 a5 → post (val a1 a2 a3 a4 a5) → (∀ (post' : ρ → Prop) (b1 : A1) (b2 : A2) (b3 : A3) (b4 : A4) (b5 : A5), ok b1 b2 b3 b4 b5 → μ b1 b2 b3 b4 b5 < μ a1 a2 a3 a4 a5 → post' (val b1 b2 b3 b4 b5) → W d post' b1 b2 b3 b4 b5) → W (d + 1) post a1 a2 a3 a4 a5) :
    ∀ (d : Nat) (post : ρ → Prop) (a1 : A1) (a2 : A2) (a3 : A3) (a4 : A4) (a5 : A5), ok a1 a2 a3 a4 a5 → μ a1 a2 a3 a4 a5 < d → post (val a1 a2 a3 a4 a5) → W d post a1 a2 a3 a4 a5 := by
  intro d
  induction d with
  | zero => intro post a1 a2 a3 a4 a5 _ h; omega
  | succ d ih =>
    intro post a1 a2 a3 a4 a5 ho hm hp
    exact hs d post a1 a2 a3 a4 a5 ho hp (fun post' b1 b2 b3 b4 b5 ho' hm' hp' => ih post' b1 b2 b3 b4 b5 ho' (by omega) hp')
theorem rp6 {ρ A1 A2 A3 A4 A5 A6 : Type} (W : Nat → (ρ → Prop) → A1 → A2 → A3 → A4 → A5 → A6 → Prop) (ok : A1 → A2 → A3 → A4 → A5 → A6 → Prop) (μ : A1 → A2 → A3 → A4 → A5 → A6 → Nat) (val : A1 → A2 → A3 → A4 → A5 → A6 → ρ)
    (hs : ∀ (d : Nat) (post : ρ → Prop) (a1 : A1) (a2 : A2) (a3 : A3) (a4 : A4) (a5 : A5) (a6 : A6), ok a1 a2 a3 a4 a5 a6 → post (val a1 a2 a3 a4 a5 a6) → (∀ (post' : ρ → Prop) (b1 : A1) (b2 : A2) (b3 : A3) (b4 : A4) (b5 : A5) (b6 : A6), ok b1 b2 b3 b4 b5 b6 → μ b1 b2 b3 b4 b5 b6 < μ a1 a2 a3 a4 a5 a6 → post' (val b1 b2 b3 b4 b5 b6) → W d post' b1 b2 b3 b4 b5 b6) → W (d + 1) post a1 a2 a3 a4 a5 a6) :
    ∀ (d : Nat) (post : ρ → Prop) (a1 : A1) (a2 : A2) (a3 : A3) (a4 : A4) (a5 : A5) (a6 : A6), ok a1 a2 a3 a4 a5 a6 → μ a1 a2 a3 a4 a5 a6 < d → post (val a1 a2 a3 a4 a5 a6) → W d post a1 a2 a3 a4 a5 a6 := by
  intro d
  induction d with
  | zero => intro post a1 a2 a3 a4 a5 a6 _ h; omega
  | succ d ih =>
    intro post a1 a2 a3 a4 a5 a6 ho hm hp
    exact hs d post a1 a2 a3 a4 a5 a6 ho hp (fun post' b1 b2 b3 b4 b5 b6 ho' hm' hp' => ih post' b1 b2 b3 b4 b5 b6 ho' (by omega) hp')
theorem rec_p {σ ρ : Type} (W : Nat → (ρ → Prop) → σ → Prop) (ok : σ → Prop) (μ : σ → Nat) (val : σ → ρ)
    (hs : ∀ d s post, ok s → post (val s) → (∀ s' post', ok s' → μ s' < μ s → post' (val s') → W d post' s') → W (d + 1) post s) :
    ∀ d s post, ok s → μ s < d → post (val s) → W d post s := by
  intro d
  induction d with
  | zero => intro s post _ h; omega
  | succ d ih =>
    intro s post ho hm hp
    exact hs d s post ho hp (fun s' post' ho' hm' hp' => ih s' post' ho' (by omega) hp')
theorem rec_q {σ ρ : Type} (W : Nat → (ρ → Prop) → σ → Prop) (ok : σ → Prop) (μ : σ → Nat) (Q : σ → ρ → Prop)
    (hs : ∀ d s post, ok s → (∀ r, Q s r → post r) → (∀ s' post', ok s' → μ s' < μ s → (∀ r, Q s' r → post' r) → W d post' s') → W (d + 1) post s) :
    ∀ d s post, ok s → μ s < d → (∀ r, Q s r → post r) → W d post s := by
  intro d
  induction d with
  | zero => intro s post _ h; omega
  | succ d ih =>
    intro s post ho hm hp
    exact hs d s post ho hp (fun s' post' ho' hm' hp' => ih s' post' ho' (by omega) hp')
def bx_sum (f : Nat → Int32) : Nat → Int32
  | 0 => 0
  | n + 1 => bx_sum f n + f n
theorem ek_u {A : Prop} {B : Nat → Prop} {k N : Nat} (hk : k < N) (h : B k) : (some k = none → A) ∧ (∀ y : Nat, some k = some y → (y < N ∧ B y)) :=
  ⟨fun z => absurd z (Option.some_ne_none k), fun _ e => (by cases e; exact ⟨hk, h⟩)⟩
theorem ek_nu {A : Prop} {B : Nat → Prop} (h : A) : ((none : Option Nat) = none → A) ∧ (∀ y : Nat, (none : Option Nat) = some y → B y) :=
  ⟨fun _ => h, fun _ e => (by cases e)⟩
theorem ek_if {c d A B : Prop} (e : c ↔ d) (f : d → A) (g : ¬ d → B) : (c → A) ∧ (¬ c → B) :=
  ⟨fun z => f (e.mp z), fun z => g (fun y => z (e.mpr y))⟩
theorem ek_v {α : Sort _} {P : α → Prop} {a b : α} (e : a = b) (h : P b) : P a := e ▸ h
theorem co_some {x : Option Nat} {A : Prop} {B : Nat → Prop} (i : Nat) (h : B i) (hx : x = some i := by rfl) : (x = none → A) ∧ (∀ y : Nat, x = some y → B y) := by
  subst hx
  exact ⟨fun e => (nomatch e), fun y e => Option.some.inj e ▸ h⟩
theorem co_none {x : Option Nat} {A : Prop} {B : Nat → Prop} (h : A) (hx : x = none := by rfl) : (x = none → A) ∧ (∀ y : Nat, x = some y → B y) := by
  subst hx
  exact ⟨fun _ => h, fun y e => (nomatch e)⟩
theorem co_any {x : Option Nat} {A : Prop} {B : Nat → Prop} (hn : x = none → A) (hs : ∀ i : Nat, x = some i → B i) : (x = none → A) ∧ (∀ y : Nat, x = some y → B y) := ⟨hn, hs⟩
theorem co_2 {P : Nat → Prop} (h0 : P 0) (h1 : P 1) {i : Nat} (hi : i < 2) : P i :=
  match i, hi with
  | 0, _ => h0
  | 1, _ => h1
theorem co_3 {P : Nat → Prop} (h0 : P 0) (h1 : P 1) (h2 : P 2) {i : Nat} (hi : i < 3) : P i :=
  match i, hi with
  | 0, _ => h0
  | 1, _ => h1
  | 2, _ => h2
theorem co_4 {P : Nat → Prop} (h0 : P 0) (h1 : P 1) (h2 : P 2) (h3 : P 3) {i : Nat} (hi : i < 4) : P i :=
  match i, hi with
  | 0, _ => h0
  | 1, _ => h1
  | 2, _ => h2
  | 3, _ => h3
theorem co_dec {N : Nat} {P : Nat → Prop} [DecidablePred P] (h : (List.range N).all (fun i => decide (P i)) = true) {i : Nat} (hi : i < N) : P i := by
  have := List.all_eq_true.mp h i (List.mem_range.mpr hi)
  exact of_decide_eq_true this
theorem co_tab {α : Type} {l : List α} {d : α} {P : α → Prop} (h : ∀ a, a ∈ l → P a) {i : Nat} (hi : i < l.length) : P (l.getD i d) := by
  rw [List.getD_eq_getElem?_getD, List.getElem?_eq_getElem hi]
  exact h _ (List.getElem_mem hi)
theorem pk_mu {x : Int32} {L : Nat} (h0 : ¬ x < 0) (h : ¬ nI L ≤ x) (hL : L < 2 ^ 31) : ∃ j : Nat, j < L ∧ x = nI j ∧ x + 1 = nI (j + 1) ∧ x.toNatClampNeg = j ∧ L - (x + 1).toNatClampNeg < L - x.toNatClampNeg := by
  obtain ⟨j, hj, rfl⟩ := nI_of h0
  have hl : j < L := Nat.not_le.mp fun q => h (nI_le q hj)
  refine ⟨j, hl, rfl, nI_1 j, nI_clamp hj, ?_⟩
  rw [nI_1, nI_clamp (by omega), nI_clamp hj]
  omega
theorem op_s {α : Type} {r : Option α} {A : Prop} {B : α → Prop} {y : α} (h : r = some y) (b : B y) : (r = none → A) ∧ ∀ z, r = some z → B z :=
  ⟨fun e => (by rw [h] at e; cases e), fun z e => (by rw [h] at e; cases e; exact b)⟩
def l_holds {α : Type} (a : Nat → Option Nat) (LP : List Nat) (p : Nat → α) (c : Nat) (b : Nat → α) : Prop :=
  ∀ j, j < c → ∃ y, a j = some y ∧ y ∈ LP ∧ p y = b j
theorem l_holds_0 {α : Type} {a : Nat → Option Nat} {LP : List Nat} {p b : Nat → α} : l_holds a LP p 0 b := fun j h => absurd h (Nat.not_lt_zero j)
theorem l_in_new (LP : List Nat) (q : Nat) : q ∈ LP ++ [q] := List.mem_append.mpr (Or.inr (List.mem_singleton.mpr rfl))
def l_sum (b : Nat → Int32) : Nat → Int32
  | 0 => 0
  | k + 1 => l_sum b k + b k
theorem sb_shr0 (x : Int32) : x >>> ((0 : Int32) &&& 31) = x := by
  rw [show ((0 : Int32) &&& 31) = 0 by decide]
  simp
theorem sb_shl0 (x : Int32) : x <<< ((0 : Int32) &&& 31) = x := by
  rw [show ((0 : Int32) &&& 31) = 0 by decide]
  simp
theorem sb_cl0 : (0 : Int32).toNatClampNeg = 0 := by decide
theorem sb_m1 {p : Nat} (h : 0 < p) : nI p + (-1) = nI (p - 1) := by
  obtain ⟨q, rfl⟩ : ∃ q, p = q + 1 := ⟨p - 1, by omega⟩
  exact pk_m1 q
def sb_b (c : Nat) : Int32 := (nI c).toInt8.toInt32
theorem sb_byte : ∀ c, c < 256 → sb_b c &&& 255 = nI c ∧ ((nI c).toUInt32 % 65536).toInt32 = nI c ∧ nI c ≤ 255 := by decide +kernel
def sb_Fit (a : Nat → Int32) : Prop := ∀ j, fits .byte (.int (a j)) = true
def sb_Lat (t : Nat → Nat) (n : Nat) (a : Nat → Int32) : Prop := ∀ j, j < n → t j < 256 ∧ a j = sb_b (t j)
theorem sb_fitB (c : Nat) : fits .byte (.int (sb_b c)) = true := pk_fb _
theorem sb_fit0 : sb_Fit (fun _ => 0) := fun _ => by
  show fits .byte (.int 0) = true
  decide
theorem sb_fitU {a : Nat → Int32} {k : Nat} {x : Int32} (h : sb_Fit a) (hx : fits .byte (.int x) = true) : sb_Fit (upd a k x) := by
  intro j
  by_cases e : j = k
  · subst e
    rw [pk_us]
    exact hx
  · rw [pk_un e]
    exact h j
def sb_cat (t : Nat → Nat) (n : Nat) (s : Nat → Nat) : Nat → Nat := fun j => if j < n then t j else s (j - n)
theorem sb_cat_lo {t s : Nat → Nat} {n j : Nat} (h : j < n) : sb_cat t n s j = t j := if_pos h
theorem sb_cat_hi {t s : Nat → Nat} {n j : Nat} : sb_cat t n s (n + j) = s j := by
  show (if n + j < n then t (n + j) else s (n + j - n)) = s j
  rw [if_neg (by omega), Nat.add_sub_cancel_left]
theorem sb_latPut {t s : Nat → Nat} {n w : Nat} {a a' : Nat → Int32} (h : sb_Lat t n a) (hk : ∀ j, j < n → a' j = a j) (hs : ∀ i, i < w → s i < 256 ∧ a' (n + i) = sb_b (s i)) : sb_Lat (sb_cat t n s) (n + w) a' := by
  intro j hj
  by_cases e : j < n
  · rw [sb_cat_lo e, hk j e]
    exact h j e
  · obtain ⟨i, rfl⟩ : ∃ i, j = n + i := ⟨j - n, by omega⟩
    rw [sb_cat_hi]
    exact hs i (by omega)
theorem sb_latKeep {t : Nat → Nat} {n : Nat} {a a' : Nat → Int32} (h : sb_Lat t n a) (hk : ∀ j, j < n → a' j = a j) : sb_Lat t n a' := fun j hj => by
  rw [hk j hj]
  exact h j hj
def sb_cap (q m : Nat) : Nat := if q ≤ m then m else if 2 * m + 2 < q then q else 2 * m + 2
def sb_Room (q m mc ms : Nat) : Prop := q ≤ m ∨ (1 ≤ mc ∧ sb_cap q m ≤ ms ∧ sb_cap q m ≤ 65536)
theorem sb_cap_ge (q m : Nat) : q ≤ sb_cap q m := by
  unfold sb_cap
  split
  · omega
  · split <;> omega
theorem sb_cap_gem (q m : Nat) : m ≤ sb_cap q m := by
  unfold sb_cap
  split
  · omega
  · split <;> omega
theorem sb_cap_le {q m mc ms : Nat} (hm : m ≤ 65536) (hr : sb_Room q m mc ms) : sb_cap q m ≤ 65536 := by
  rcases hr with h | h
  · rw [sb_cap, if_pos h]
    exact hm
  · exact h.2.2
theorem sb_at {P : Int32 → Prop} {x y : Int32} (e : x = y) (h : P y) : P x := e ▸ h
def sb_dg (w : Nat) : Nat := if w < 10 then 1 else if w < 100 then 2 else if w < 1000 then 3 else if w < 10000 then 4 else if w < 100000 then 5 else if w < 1000000 then 6 else if w < 10000000 then 7 else if w < 100000000 then 8 else if w < 1000000000 then 9 else 10
def sb_dec (v : Nat) : Nat → Nat := fun i => 48 + v / 10 ^ (sb_dg v - 1 - i) % 10
theorem sb_dg_in (w : Nat) : 1 ≤ sb_dg w ∧ sb_dg w ≤ 10 := by
  unfold sb_dg
  constructor <;> (repeat' split) <;> omega
theorem sb_dg100 {w : Nat} (h : 100 ≤ w) (hw : w < 2 ^ 31) : sb_dg w = sb_dg (w / 100) + 2 := by
  rw [sb_dg, sb_dg, if_neg (show ¬ w < 10 by omega), if_neg (show ¬ w < 100 by omega)]
  by_cases h3 : w < 1000
  · rw [if_pos h3, if_pos (show w / 100 < 10 by omega)]
  rw [if_neg h3, if_neg (show ¬ w / 100 < 10 by omega)]
  by_cases h4 : w < 10000
  · rw [if_pos h4, if_pos (show w / 100 < 100 by omega)]
  rw [if_neg h4, if_neg (show ¬ w / 100 < 100 by omega)]
  by_cases h5 : w < 100000
  · rw [if_pos h5, if_pos (show w / 100 < 1000 by omega)]
  rw [if_neg h5, if_neg (show ¬ w / 100 < 1000 by omega)]
  by_cases h6 : w < 1000000
  · rw [if_pos h6, if_pos (show w / 100 < 10000 by omega)]
  rw [if_neg h6, if_neg (show ¬ w / 100 < 10000 by omega)]
  by_cases h7 : w < 10000000
  · rw [if_pos h7, if_pos (show w / 100 < 100000 by omega)]
  rw [if_neg h7, if_neg (show ¬ w / 100 < 100000 by omega)]
  by_cases h8 : w < 100000000
  · rw [if_pos h8, if_pos (show w / 100 < 1000000 by omega)]
  rw [if_neg h8, if_neg (show ¬ w / 100 < 1000000 by omega)]
  by_cases h9 : w < 1000000000
  · rw [if_pos h9, if_pos (show w / 100 < 10000000 by omega)]
  rw [if_neg h9, if_neg (show ¬ w / 100 < 10000000 by omega)]
  rw [if_pos (show w / 100 < 100000000 by omega)]
theorem sb_negT {w : Nat} (h : w < 2 ^ 31) : (-nI w).toInt = -(w : Int) := by
  rw [Int32.toInt_neg, nI_toInt h]
  exact Int.bmod_eq_of_le (by omega) (by omega)
theorem sb_nle {a b : Nat} (ha : a < 2 ^ 31) (hb : b < 2 ^ 31) : -nI a ≤ -nI b ↔ b ≤ a := by
  rw [Int32.le_iff_toInt_le, sb_negT ha, sb_negT hb]
  omega
theorem sb_nlt {a b : Nat} (ha : a < 2 ^ 31) (hb : b < 2 ^ 31) : -nI a < -nI b ↔ b < a := by
  rw [Int32.lt_iff_toInt_lt, sb_negT ha, sb_negT hb]
  omega
theorem sb_cmp {A B : Prop} {x : Int32} (v c : Nat) (f : c ≤ v → A) (g : v < c → B) (hv : v < 2 ^ 31) (hx : x = -nI c := by rfl) (hc : c < 2 ^ 31 := by omega) : (-nI v ≤ x → A) ∧ (¬ -nI v ≤ x → B) := by
  subst hx
  rw [sb_nle hv hc]
  exact ⟨f, fun z => g (by omega)⟩
theorem sb_ndiv {w : Nat} (hw : w < 2 ^ 31) : (-nI w) / 100 = -nI (w / 100) := by
  apply Int32.toInt_inj.mp
  have h100 : (100 : Int32).toInt = 100 := by decide
  rw [Int32.toInt_div, sb_negT hw, h100, sb_negT (by omega), Int.neg_tdiv, Int.tdiv_eq_ediv_of_nonneg (by omega), Int.bmod_eq_of_le (by omega) (by omega)]
  omega
theorem sb_nrem {w : Nat} (hw : w < 2 ^ 31) : (-nI (w / 100)) * 100 - (-nI w) = nI (w % 100) := by
  have h := pk_rem (a := w) (d := 100) hw (by decide) (by decide)
  rw [pk_div hw (by decide) (by decide)] at h
  rw [← h]
  show (-nI (w / 100)) * nI 100 - (-nI w) = nI w - nI (w / 100) * nI 100
  rw [Int32.neg_mul, Int32.sub_neg, Int32.add_comm, ← Int32.sub_eq_add_neg]
end
section
/-! rows on bits, shifts and unsigned numbers, to paste: each family out of a closed proof of our own, whole with what it rests on; each by itself clean at Lean in its own claim (generation 39, form 5). Take a family whole -/
/-! ===== Int32 by its bits: bt x i ===== -/
def bt (x : Int32) (i : Nat) : Bool := x.toBitVec.getLsbD i
theorem b_ext {x y : Int32} (h : ∀ i, i < 32 → bt x i = bt y i) : x = y := Int32.toBitVec_inj.mp (BitVec.eq_of_getLsbD_eq (fun i hi => h i hi))
theorem b_or (x y : Int32) (i : Nat) : bt (x ||| y) i = (bt x i || bt y i) := by unfold bt; rw [Int32.toBitVec_or, BitVec.getLsbD_or]
theorem b_and (x y : Int32) (i : Nat) : bt (x &&& y) i = (bt x i && bt y i) := by unfold bt; rw [Int32.toBitVec_and, BitVec.getLsbD_and]
theorem b_xor (x y : Int32) (i : Nat) : bt (x ^^^ y) i = (bt x i ^^ bt y i) := by unfold bt; rw [Int32.toBitVec_xor, BitVec.getLsbD_xor]
theorem b_big {x : Int32} {i : Nat} (h : 32 ≤ i) : bt x i = false := BitVec.getLsbD_of_ge _ _ h
theorem b_255 (i : Nat) : bt 255 i = decide (i < 8) := by
  rcases Nat.lt_or_ge i 32 with h | h
  · exact (by decide +kernel : ∀ i, i < 32 → bt 255 i = decide (i < 8)) i h
  · rw [b_big h, decide_eq_false (by omega)]
theorem b_65535 (i : Nat) : bt 65535 i = decide (i < 16) := by
  rcases Nat.lt_or_ge i 32 with h | h
  · exact (by decide +kernel : ∀ i, i < 32 → bt 65535 i = decide (i < 16)) i h
  · rw [b_big h, decide_eq_false (by omega)]
theorem b_m1 : ∀ i, i < 32 → bt (-1) i = true := by decide +kernel
theorem b_0 (i : Nat) : bt 0 i = false := BitVec.getLsbD_zero
theorem s_l : ∀ n, n < 32 → ((nI n &&& 31).toBitVec.smod 32).toNat = n := by decide +kernel
theorem s_u : ∀ n, n < 32 → (((nI n).toUInt32 &&& Int32.toUInt32 31).toBitVec % 32).toNat = n := by decide +kernel
theorem b_shl (n : Nat) (hn : n < 32) (x : Int32) {i : Nat} (hi : i < 32) : bt (x <<< (nI n &&& 31)) i = (decide (n ≤ i) && bt x (i - n)) := by
  unfold bt
  rw [Int32.toBitVec_shiftLeft]
  show (x.toBitVec <<< ((nI n &&& 31).toBitVec.smod 32).toNat).getLsbD i = _
  rw [s_l n hn, BitVec.getLsbD_shiftLeft]
  rcases Nat.lt_or_ge i n with h | h
  · simp [h, Nat.not_le.mpr h]
  · simp [hi, h, Nat.not_lt.mpr h]
theorem b_ushr (n : Nat) (hn : n < 32) (x : Int32) (i : Nat) : bt ((x.toUInt32 >>> ((nI n).toUInt32 &&& Int32.toUInt32 31)).toInt32) i = bt x (n + i) := by
  show (x.toUInt32 >>> ((nI n).toUInt32 &&& Int32.toUInt32 31)).toBitVec.getLsbD i = x.toUInt32.toBitVec.getLsbD (n + i)
  rw [UInt32.toBitVec_shiftRight]
  show (x.toUInt32.toBitVec >>> (((nI n).toUInt32 &&& Int32.toUInt32 31).toBitVec % 32).toNat).getLsbD i = _
  rw [s_u n hn, BitVec.getLsbD_ushiftRight]
theorem b_sshr (n : Nat) (hn : n < 32) (x : Int32) {i : Nat} (hi : i < 32) : bt (x >>> (nI n &&& 31)) i = if n + i < 32 then bt x (n + i) else bt x 31 := by
  unfold bt
  rw [Int32.toBitVec_shiftRight]
  show (x.toBitVec.sshiftRight ((nI n &&& 31).toBitVec.smod 32).toNat).getLsbD i = _
  rw [s_l n hn, BitVec.getLsbD_sshiftRight, BitVec.msb_eq_getLsbD_last]
  simp [hi]
theorem b_shl8 (x : Int32) {i : Nat} (hi : i < 32) : bt (x <<< ((8 : Int32) &&& 31)) i = (decide (8 ≤ i) && bt x (i - 8)) := b_shl 8 (by omega) x hi
theorem b_shl16 (x : Int32) {i : Nat} (hi : i < 32) : bt (x <<< ((16 : Int32) &&& 31)) i = (decide (16 ≤ i) && bt x (i - 16)) := b_shl 16 (by omega) x hi
theorem b_shl24 (x : Int32) {i : Nat} (hi : i < 32) : bt (x <<< ((24 : Int32) &&& 31)) i = (decide (24 ≤ i) && bt x (i - 24)) := b_shl 24 (by omega) x hi
theorem b_sshr8 (x : Int32) {i : Nat} (hi : i < 32) : bt (x >>> ((8 : Int32) &&& 31)) i = if 8 + i < 32 then bt x (8 + i) else bt x 31 := b_sshr 8 (by omega) x hi
/-! ===== nI under and, xor, >>>, one bit, 65535 ===== -/
theorem nx_and (a b : Nat) : nI a &&& nI b = nI (a &&& b) := by
  apply Int32.toBitVec_inj.1
  show BitVec.ofNat 32 a &&& BitVec.ofNat 32 b = BitVec.ofNat 32 (a &&& b)
  apply BitVec.eq_of_getLsbD_eq
  intro i hi
  simp [hi]
theorem nx_xor (a b : Nat) : nI a ^^^ nI b = nI (a ^^^ b) := by
  apply Int32.toBitVec_inj.1
  show BitVec.ofNat 32 a ^^^ BitVec.ofNat 32 b = BitVec.ofNat 32 (a ^^^ b)
  apply BitVec.eq_of_getLsbD_eq
  intro i hi
  simp [hi]
theorem nx_cnt : ∀ j : Fin 32, (UInt32.ofNat j.val &&& Int32.toUInt32 31).toNat % 32 = j.val := by decide +kernel
theorem nx_ush {k j : Nat} (hk : k < 65536) (hj : j < 32) : ((nI k).toUInt32 >>> ((nI j).toUInt32 &&& Int32.toUInt32 31)).toInt32 = nI (k >>> j) := by
  have hs : k >>> j ≤ k := by
    rw [Nat.shiftRight_eq_div_pow]
    exact Nat.div_le_self _ _
  have e2 : UInt32.ofNat k >>> (UInt32.ofNat j &&& Int32.toUInt32 31) = UInt32.ofNat (k >>> j) := by
    apply UInt32.toNat_inj.1
    have h1 : (UInt32.ofNat k).toNat = k := Nat.mod_eq_of_lt (by omega)
    have h2 : (UInt32.ofNat (k >>> j)).toNat = k >>> j := Nat.mod_eq_of_lt (by omega)
    rw [UInt32.toNat_shiftRight, nx_cnt ⟨j, hj⟩, h1, h2]
  show (UInt32.ofNat k >>> (UInt32.ofNat j &&& Int32.toUInt32 31)).toInt32 = _
  rw [e2]
  rfl
theorem nx_bit {k j : Nat} (hk : k < 65536) (hj : j < 16) : (((nI k).toUInt32 >>> ((nI j).toUInt32 &&& Int32.toUInt32 31)).toInt32 &&& 1) = 0 ↔ k.testBit j = false := by
  rw [nx_ush hk (by omega)]
  show nI (k >>> j) &&& nI 1 = 0 ↔ _
  rw [nx_and, Nat.and_one_is_mod, ← nI_0, nI_eq (by omega) (by omega), Nat.testBit_eq_decide_div_mod_eq, Nat.shiftRight_eq_div_pow, decide_eq_false_iff_not]
  generalize k / 2 ^ j = z
  omega
theorem nx_mod (k : Nat) : nI k &&& 65535 = nI (k % 65536) := by
  show nI k &&& nI 65535 = _
  rw [nx_and, show (65535 : Nat) = 2 ^ 16 - 1 from rfl, Nat.and_two_pow_sub_one_eq_mod]
theorem nx_m16 {k : Nat} (h : k < 65536) : nI k &&& 65535 = nI k := by rw [nx_mod, Nat.mod_eq_of_lt h]
theorem nx_mask (x : Int32) : ∃ k, k < 65536 ∧ x &&& 65535 = nI k := by
  have e : x = nI x.toBitVec.toNat := by
    apply Int32.toBitVec_inj.1
    show x.toBitVec = BitVec.ofNat 32 x.toBitVec.toNat
    simp
  refine ⟨x.toBitVec.toNat % 65536, Nat.mod_lt _ (by omega), ?_⟩
  rw [← nx_mod, ← e]
/-! ===== Int32 as a set of bits: test, set ===== -/
def nf_M (m : Int32) : Nat := 4294967296 - m.toBitVec.toNat
theorem nf_sh : ∀ l, l < 32 → ((1 : Int32) <<< (nI l &&& 31)).toBitVec = BitVec.twoPow 32 l := by decide +kernel
theorem nf_sl : ∀ l, l < 32 → (((nI l).toUInt32 &&& Int32.toUInt32 31).toBitVec % 32).toNat = l := by decide +kernel
theorem nf_tp : ∀ l, l < 32 → BitVec.twoPow 32 l ≠ 0#32 := by decide +kernel
theorem nf_bit (m : Int32) (l : Nat) (hl : l < 32) : ((m.toUInt32 >>> ((nI l).toUInt32 &&& Int32.toUInt32 31)).toInt32 &&& 1) = 0 ↔ (m &&& ((1 : Int32) <<< (nI l &&& 31))) = 0 := by
  have e : ((m.toUInt32 >>> ((nI l).toUInt32 &&& Int32.toUInt32 31)).toInt32).toBitVec = m.toBitVec >>> l := by
    show m.toBitVec >>> (((nI l).toUInt32 &&& Int32.toUInt32 31).toBitVec % 32) = m.toBitVec >>> l
    rw [BitVec.ushiftRight_eq', nf_sl l hl]
  rw [← Int32.toBitVec_inj, ← Int32.toBitVec_inj, Int32.toBitVec_and, Int32.toBitVec_and, nf_sh l hl, e, BitVec.and_twoPow]
  show (m.toBitVec >>> l &&& 1#32) = 0#32 ↔ _ = 0#32
  rw [BitVec.and_one_eq_setWidth_ofBool_getLsbD, BitVec.getLsbD_ushiftRight, Nat.add_zero]
  cases hb : m.toBitVec.getLsbD l
  · exact ⟨fun _ => by simp, fun _ => by decide⟩
  · exact ⟨fun z => absurd z (by decide), fun z => absurd ((if_pos rfl).symm.trans z) (nf_tp l hl)⟩
theorem nf_gr (m k : Int32) (h : m &&& k = 0) (hk : k ≠ 0) : nf_M (m ||| k) < nf_M m := by
  have hm := m.toBitVec.isLt
  have hm' := (m ||| k).toBitVec.isLt
  have h1 : m.toBitVec.toNat ≤ (m ||| k).toBitVec.toNat := by
    rw [Int32.toBitVec_or, BitVec.toNat_or]
    exact Nat.left_le_or
  have h2 : m.toBitVec.toNat ≠ (m ||| k).toBitVec.toNat := by
    intro e
    have e2 : m = m ||| k := Int32.toBitVec_inj.mp (BitVec.eq_of_toNat_eq e)
    apply hk
    apply Int32.toBitVec_inj.mp
    show k.toBitVec = 0#32
    apply BitVec.eq_of_getLsbD_eq
    intro i hi
    have a : m.toBitVec.getLsbD i = (m.toBitVec.getLsbD i || k.toBitVec.getLsbD i) := by rw [← BitVec.getLsbD_or, ← Int32.toBitVec_or, ← e2]
    have b : (m.toBitVec.getLsbD i && k.toBitVec.getLsbD i) = false := by
      rw [← BitVec.getLsbD_and, ← Int32.toBitVec_and, h]
      exact BitVec.getLsbD_zero
    rw [BitVec.getLsbD_zero]
    revert a b
    cases m.toBitVec.getLsbD i <;> cases k.toBitVec.getLsbD i <;> simp
  unfold nf_M
  omega
/-! ===== a byte read unsigned ===== -/
theorem bp_b (x : Int32) : x.toInt8.toInt32 &&& 255 = x &&& 255 := by
  apply Int32.toBitVec_inj.mp
  rw [Int32.toBitVec_and, Int32.toBitVec_and, Int8.toBitVec_toInt32, Int32.toBitVec_toInt8]
  apply BitVec.eq_of_getLsbD_eq
  intro i hi
  rw [BitVec.getLsbD_and, BitVec.getLsbD_and]
  have hm : ∀ i < 32, 8 ≤ i → (255 : Int32).toBitVec.getLsbD i = false := by decide
  rcases Nat.lt_or_ge i 8 with z | z
  · rw [BitVec.getLsbD_signExtend, BitVec.getLsbD_signExtend, if_pos z, if_pos hi]
    simp only [z, hi, decide_true, Bool.true_and]
  · rw [hm i hi z]; simp
/-! ===== the char cast and 65535 ===== -/
theorem em_w (v : Int32) : ∃ w : Nat, w < 65536 ∧ (v.toUInt32 % 65536).toInt32 = nI w ∧ v &&& 65535 = nI w := by
  have hr := lw_u16_r v
  have h0 : (0 : Int32).toInt = 0 := by decide
  obtain ⟨w, h1, h2⟩ := nI_of (x := lw_u16 v) (by rw [Int32.lt_iff_toInt_lt]; omega)
  have h3 : (v.toUInt32 % 65536).toInt32 = nI w := h2
  rw [h2, nI_toInt h1] at hr
  exact ⟨w, by omega, h3, by rw [← lg_i2c_mask, ← lg_i2c_nf, h3]⟩
/-! ===== Int64 as a set of bits: test, set, clear ===== -/
theorem ts_nf {x : Bool} (h : ¬ x = false) : x = true := by cases x <;> first | rfl | exact absurd rfl h
theorem ts_nt {x : Bool} (h : ¬ x = true) : x = false := by cases x <;> first | rfl | exact absurd rfl h
theorem ts_bit {w : Int64} {s : UInt64} {j : Nat} (hj : j < 64) (hs : s.toNat = j) : ((w.toUInt64 >>> s).toInt64 &&& 1) = 0 ↔ w.toBitVec.getLsbD j = false := by
  have e : (w.toUInt64 >>> s).toInt64.toBitVec = w.toBitVec >>> j := by
    apply BitVec.eq_of_toNat_eq
    show (w.toUInt64 >>> s).toNat = _
    rw [UInt64.toNat_shiftRight, hs, Nat.mod_eq_of_lt hj, BitVec.toNat_ushiftRight]
    rfl
  rw [← Int64.toBitVec_inj, Int64.toBitVec_and, e]
  show w.toBitVec >>> j &&& 1#64 = 0#64 ↔ _
  constructor
  · intro h
    have t := congrArg (fun x => x.getLsbD 0) h
    simpa using t
  · intro h
    apply BitVec.eq_of_getLsbD_eq
    intro i hi
    cases i with
    | zero => simp [h]
    | succ i => simp
theorem ts_or {w m : Int64} {j : Nat} (hj : j < 64) (hm : m.toBitVec = BitVec.twoPow 64 j) : (w ||| m) = w ↔ w.toBitVec.getLsbD j = true := by
  rw [← Int64.toBitVec_inj, Int64.toBitVec_or, hm]
  constructor
  · intro h
    have t := congrArg (fun x => x.getLsbD j) h
    simp only [BitVec.getLsbD_or, BitVec.getLsbD_twoPow] at t
    simpa [hj] using t.symm
  · intro h
    apply BitVec.eq_of_getLsbD_eq
    intro i hi
    rw [BitVec.getLsbD_or, BitVec.getLsbD_twoPow]
    by_cases e : j = i
    · subst e; rw [h, Bool.true_or]
    · simp [e]
theorem ts_and {w m : Int64} {j : Nat} (hj : j < 64) (hm : m.toBitVec = BitVec.twoPow 64 j) : (w &&& (m ^^^ (-1))) = w ↔ w.toBitVec.getLsbD j = false := by
  have ha : (-1 : Int64).toBitVec = BitVec.allOnes 64 := by decide
  rw [← Int64.toBitVec_inj, Int64.toBitVec_and, Int64.toBitVec_xor, hm, ha]
  constructor
  · intro h
    have t := congrArg (fun x => x.getLsbD j) h
    simp only [BitVec.getLsbD_and, BitVec.getLsbD_xor, BitVec.getLsbD_twoPow, BitVec.getLsbD_allOnes] at t
    simpa [hj] using t.symm
  · intro h
    apply BitVec.eq_of_getLsbD_eq
    intro i hi
    rw [BitVec.getLsbD_and, BitVec.getLsbD_xor, BitVec.getLsbD_twoPow, BitVec.getLsbD_allOnes]
    by_cases e : j = i
    · subst e; rw [h, Bool.false_and]
    · simp [e, hi]
/-! ===== lN n to 2^64: shifts, and, or, masks, one bit ===== -/
theorem wb_tb (n : Nat) : (lN n).toBitVec = BitVec.ofNat 64 n := rfl
theorem wb_inj {a b : Int64} (h : a.toBitVec = b.toBitVec) : a = b := Int64.toBitVec_inj.mp h
theorem wb_tn {n : Nat} (h : n < 2 ^ 64) : (lN n).toBitVec.toNat = n := by rw [wb_tb, BitVec.toNat_ofNat, Nat.mod_eq_of_lt h]
theorem wb_of (x : Int64) : ∃ n, n < 2 ^ 64 ∧ x = lN n := ⟨x.toBitVec.toNat, x.toBitVec.isLt, wb_inj (by rw [wb_tb]; simp)⟩
theorem wb_of32 (x : Int32) : ∃ n, n < 2 ^ 32 ∧ x = nI n := ⟨x.toBitVec.toNat, x.toBitVec.isLt, Int32.toBitVec_inj.mp (by show _ = BitVec.ofNat 32 _; simp)⟩
theorem wb_c : ∀ k, k < 64 → ((nI k).toInt64 &&& 63) = lN k := by decide +kernel
theorem wb_cu : ∀ k, k < 64 → ((nI k).toInt64.toUInt64 &&& Int64.toUInt64 63) = UInt64.ofNat k := by decide +kernel
theorem wb_sm : ∀ k, k < 64 → (BitVec.ofNat 64 k).smod 64 = BitVec.ofNat 64 k := by decide +kernel
theorem wb_pw {a b : Nat} (h : a ≤ b) : 2 ^ b = 2 ^ a * 2 ^ (b - a) := by rw [← Nat.pow_add]; congr 1; omega
theorem wb_lt2 {a b : Nat} (h : a < b) : 2 ^ a < 2 ^ b := Nat.pow_lt_pow_right (by decide) h
theorem wb_mod (n : Nat) : lN n = lN (n % 2 ^ 64) := wb_inj (by rw [wb_tb, wb_tb]; apply BitVec.eq_of_toNat_eq; rw [BitVec.toNat_ofNat, BitVec.toNat_ofNat, Nat.mod_mod])
theorem wb_shr {n k : Nat} (hn : n < 2 ^ 64) (hk : k < 64) : ((lN n).toUInt64 >>> ((nI k).toInt64.toUInt64 &&& Int64.toUInt64 63)).toInt64 = lN (n / 2 ^ k) := by
  rw [wb_cu k hk]
  apply wb_inj
  apply BitVec.eq_of_toNat_eq
  show ((lN n).toUInt64 >>> UInt64.ofNat k).toNat = (BitVec.ofNat 64 _).toNat
  have h1 : (UInt64.ofNat k).toNat = k := by
    show (BitVec.ofNat 64 k).toNat = k
    rw [BitVec.toNat_ofNat, Nat.mod_eq_of_lt (by omega)]
  have h2 : (lN n).toUInt64.toNat = n := wb_tn hn
  rw [UInt64.toNat_shiftRight, h1, h2, Nat.mod_eq_of_lt hk, Nat.shiftRight_eq_div_pow, BitVec.toNat_ofNat, Nat.mod_eq_of_lt (Nat.lt_of_le_of_lt (Nat.div_le_self _ _) hn)]
theorem wb_shl (n : Nat) {k : Nat} (hk : k < 64) : lN n <<< ((nI k).toInt64 &&& 63) = lN (n * 2 ^ k) := by
  rw [wb_c k hk]
  apply wb_inj
  rw [Int64.toBitVec_shiftLeft, wb_tb, wb_tb, wb_tb, wb_sm k hk]
  apply BitVec.eq_of_toNat_eq
  rw [BitVec.shiftLeft_eq', BitVec.toNat_shiftLeft, BitVec.toNat_ofNat, BitVec.toNat_ofNat, BitVec.toNat_ofNat, Nat.mod_eq_of_lt (show k < 2 ^ 64 by omega), Nat.shiftLeft_eq, Nat.mul_mod, Nat.mod_mod, ← Nat.mul_mod]
theorem wb_and {a b : Nat} (ha : a < 2 ^ 64) (hb : b < 2 ^ 64) : lN a &&& lN b = lN (a &&& b) := by
  apply wb_inj
  rw [Int64.toBitVec_and, wb_tb, wb_tb, wb_tb]
  apply BitVec.eq_of_toNat_eq
  rw [BitVec.toNat_and, BitVec.toNat_ofNat, BitVec.toNat_ofNat, BitVec.toNat_ofNat, Nat.mod_eq_of_lt ha, Nat.mod_eq_of_lt hb, Nat.mod_eq_of_lt (Nat.and_lt_two_pow _ hb)]
theorem wb_or {a b : Nat} (ha : a < 2 ^ 64) (hb : b < 2 ^ 64) : lN a ||| lN b = lN (a ||| b) := by
  apply wb_inj
  rw [Int64.toBitVec_or, wb_tb, wb_tb, wb_tb]
  apply BitVec.eq_of_toNat_eq
  rw [BitVec.toNat_or, BitVec.toNat_ofNat, BitVec.toNat_ofNat, BitVec.toNat_ofNat, Nat.mod_eq_of_lt ha, Nat.mod_eq_of_lt hb, Nat.mod_eq_of_lt (Nat.or_lt_two_pow ha hb)]
theorem wb_mask {n k : Nat} (hn : n < 2 ^ 64) (hk : k < 64) : lN n &&& lN (2 ^ k - 1) = lN (n % 2 ^ k) := by
  rw [wb_and hn (by have := wb_lt2 hk; omega), Nat.and_two_pow_sub_one_eq_mod]
theorem wb_a1 {n : Nat} (hn : n < 2 ^ 64) : lN n &&& 1 = lN (n % 2) := wb_mask (k := 1) hn (by decide)
theorem wb_bit {n k : Nat} (hn : n < 2 ^ 64) (hk : k < 64) : ((lN n).toUInt64 >>> ((nI k).toInt64.toUInt64 &&& Int64.toUInt64 63)).toInt64 &&& 1 = lN (n / 2 ^ k % 2) := by
  rw [wb_shr hn hk, wb_a1 (Nat.lt_of_le_of_lt (Nat.div_le_self _ _) hn)]
theorem wb_xor {q k : Nat} (hk : k < 63) (h : 2 ^ k ≤ q) (h2 : q < 2 ^ (k + 1)) : lN q ^^^ lN (2 ^ k) = lN (q - 2 ^ k) := by
  obtain ⟨r, rfl⟩ : ∃ r, q = 2 ^ k + r := ⟨q - 2 ^ k, by omega⟩
  have hr : r < 2 ^ k := by rw [Nat.pow_succ] at h2; omega
  have hx : (2 ^ k + r) ^^^ 2 ^ k = r := by
    apply Nat.eq_of_testBit_eq
    intro i
    rw [Nat.testBit_xor, Nat.testBit_two_pow]
    rcases Nat.lt_trichotomy i k with h | h | h
    · rw [Nat.testBit_two_pow_add_gt h]
      simp [show ¬ k = i by omega]
    · subst h
      rw [Nat.testBit_two_pow_add_eq]
      simp
    · have a1 : 2 ^ (k + 1) ≤ 2 ^ i := Nat.pow_le_pow_right (by decide) h
      rw [Nat.testBit_lt_two_pow (show 2 ^ k + r < 2 ^ i by omega), Nat.testBit_lt_two_pow (show r < 2 ^ i by omega)]
      simp [show ¬ k = i by omega]
  have b1 := wb_lt2 (show k + 1 < 64 by omega)
  have b2 := wb_lt2 (show k < 64 by omega)
  apply wb_inj
  rw [Int64.toBitVec_xor, wb_tb, wb_tb, wb_tb]
  apply BitVec.eq_of_toNat_eq
  rw [BitVec.toNat_xor, BitVec.toNat_ofNat, BitVec.toNat_ofNat, BitVec.toNat_ofNat, Nat.mod_eq_of_lt (by omega : 2 ^ k + r < 2 ^ 64), Nat.mod_eq_of_lt b2, hx, Nat.add_sub_cancel_left, Nat.mod_eq_of_lt (by omega)]
/-! ===== lN: masks, 'or' of parts that don't overlap is a sum ===== -/
theorem u_tn {n : Nat} (h : n < 2 ^ 64) : (UInt64.ofNat n).toNat = n := Nat.mod_eq_of_lt h
theorem g_and {a b c : Nat} (ha : a < 2 ^ 64) (hb : b < 2 ^ 64) (hc : a &&& b = c) : lN a &&& lN b = lN c := by
  subst hc
  have h : UInt64.ofNat a &&& UInt64.ofNat b = UInt64.ofNat (a &&& b) := UInt64.toNat_inj.mp (by rw [UInt64.toNat_and, u_tn ha, u_tn hb, u_tn (Nat.and_lt_two_pow a hb)])
  have h2 := congrArg UInt64.toInt64 h
  exact h2
theorem g_and1 {a : Nat} (ha : a < 2 ^ 64) : lN a &&& 1 = lN (a % 2) := g_and (b := 1) ha (by decide) (Nat.and_two_pow_sub_one_eq_mod a 1)
theorem g_mask {a s p : Nat} (hp : 2 ^ s = p) (hs : s < 64) (ha : a < 2 ^ 64) : lN a &&& lN (p - 1) = lN (a % p) := by
  subst hp
  have := Nat.pow_lt_pow_right (show 1 < 2 by decide) hs
  exact g_and ha (by omega) (Nat.and_two_pow_sub_one_eq_mod a s)
theorem g_or {k p a b : Nat} (hp : 2 ^ k = p) (ha : a < p) (h : b * p + a < 2 ^ 64) : lN (b * p) ||| lN a = lN (b * p + a) := by
  subst hp
  have h1 : b * 2 ^ k ||| a = b * 2 ^ k + a := by rw [← Nat.shiftLeft_eq, Nat.shiftLeft_add_eq_or_of_lt ha]
  have h3 : UInt64.ofNat (b * 2 ^ k) ||| UInt64.ofNat a = UInt64.ofNat (b * 2 ^ k + a) := UInt64.toNat_inj.mp (by rw [UInt64.toNat_or, u_tn (by omega), u_tn (by omega), u_tn h, h1])
  have h2 := congrArg UInt64.toInt64 h3
  exact h2
theorem g_or' {k p a b : Nat} (hp : 2 ^ k = p) (ha : a < p) (h : a + b * p < 2 ^ 64) : lN a ||| lN (b * p) = lN (a + b * p) := by
  rw [Int64.or_comm, g_or hp ha (by omega), Nat.add_comm]
theorem g_ushr {a k p : Nat} {y : UInt64} (hy : y = UInt64.ofNat k) (hk : k < 64) (hp : 2 ^ k = p) (ha : a < 2 ^ 64) : ((lN a).toUInt64 >>> y).toInt64 = lN (a / p) := by
  subst hy hp
  have h : UInt64.ofNat a >>> UInt64.ofNat k = UInt64.ofNat (a / 2 ^ k) := UInt64.toNat_inj.mp (by rw [UInt64.toNat_shiftRight, u_tn ha, u_tn (by omega), u_tn (Nat.lt_of_le_of_lt (Nat.div_le_self _ _) ha), Nat.mod_eq_of_lt hk, Nat.shiftRight_eq_div_pow])
  have h2 := congrArg UInt64.toInt64 h
  exact h2
theorem g_shl {a k p : Nat} {y : Int64} (hy : y.toBitVec.smod 64 = BitVec.ofNat 64 k) (hk : k < 64) (hp : 2 ^ k = p) (ha : a < 2 ^ 64) : lN a <<< y = lN (a * p) := by
  subst hp
  apply Int64.toBitVec_inj.mp
  rw [Int64.toBitVec_shiftLeft, hy]
  apply BitVec.eq_of_toNat_eq
  have hb : (lN a).toBitVec.toNat = a := Nat.mod_eq_of_lt ha
  have hk' : (BitVec.ofNat 64 k).toNat = k := Nat.mod_eq_of_lt (by omega)
  have h : ((lN a).toBitVec <<< BitVec.ofNat 64 k).toNat = (a * 2 ^ k) % 2 ^ 64 := by simp only [BitVec.shiftLeft_eq', BitVec.toNat_shiftLeft, hb, hk', Nat.shiftLeft_eq]
  exact h
/-! ===== lN to 2^62 under >> and >>> ===== -/
theorem pf_lI {a : Nat} (h : a < 2 ^ 63) : (lN a).toInt = (a : Int) := lg_ofNat_toInt h
theorem pf_shr {a d : Nat} {D : Int64} (hD : (D.toBitVec.smod 64).toNat = d) (h : a < 2 ^ 62) : lN a >>> D = lN (a / 2 ^ d) := by
  have hd : a / 2 ^ d ≤ a := Nat.div_le_self _ _
  apply Int64.toInt_inj.mp
  have e : (lN a >>> D).toInt = (lN a).toInt >>> d := by
    rw [← hD]
    exact BitVec.toInt_sshiftRight ..
  rw [e, Int.shiftRight_eq_div_pow, pf_lI (by omega), pf_lI (by omega)]
  rfl
theorem pf_ushr {a d : Nat} {D : UInt64} (hD : D.toNat % 64 = d) (h : a < 2 ^ 62) : ((lN a).toUInt64 >>> D).toInt64 = lN (a / 2 ^ d) := by
  have hd : a / 2 ^ d ≤ a := Nat.div_le_self _ _
  have e : (lN a).toUInt64 >>> D = UInt64.ofNat (a / 2 ^ d) := UInt64.toNat_inj.mp (by
    rw [UInt64.toNat_shiftRight, hD, Nat.shiftRight_eq_div_pow, UInt64.toNat_ofNat']
    show (UInt64.ofNat a).toNat / 2 ^ d = _
    rw [UInt64.toNat_ofNat', Nat.mod_eq_of_lt (by omega), Nat.mod_eq_of_lt (by omega)])
  rw [e]
  rfl
theorem pf_andw (x : Int64) : ∃ m, m < 2 ^ 32 ∧ x &&& 4294967295 = lN m := ⟨x.toBitVec.toNat % 2 ^ 32, Nat.mod_lt _ (by decide), Int64.toBitVec_inj.mp (BitVec.eq_of_toNat_eq (by
  show (x.toBitVec &&& 4294967295#64).toNat = (BitVec.ofNat 64 (x.toBitVec.toNat % 2 ^ 32)).toNat
  rw [BitVec.toNat_and, show (4294967295#64).toNat = 2 ^ 32 - 1 from by decide, Nat.and_two_pow_sub_one_eq_mod, BitVec.toNat_ofNat]
  omega))⟩
/-! ===== Int64 as an unsigned number: uN x ===== -/
def uN (x : Int64) : Nat := x.toUInt64.toNat
theorem uN_lt (x : Int64) : uN x < 18446744073709551616 := x.toUInt64.toNat_lt
theorem uN_inj {x y : Int64} (h : uN x = uN y) : x = y := congrArg UInt64.toInt64 (UInt64.toNat_inj.mp h)
theorem uN_add (x y : Int64) : uN (x + y) = (uN x + uN y) % 18446744073709551616 := by
  show (x.toUInt64 + y.toUInt64).toNat = _
  exact UInt64.toNat_add _ _
theorem uN_mul (x y : Int64) : uN (x * y) = (uN x * uN y) % 18446744073709551616 := by
  show (x.toUInt64 * y.toUInt64).toNat = _
  exact UInt64.toNat_mul _ _
theorem uN_shl (x : Int64) : uN (x <<< ((1 : Int32).toInt64 &&& 63)) = (2 * uN x) % 18446744073709551616 := by
  have h : (((1 : Int32).toInt64 &&& 63).toBitVec.smod 64).toNat = 1 := by decide
  show (x.toBitVec <<< (((1 : Int32).toInt64 &&& 63).toBitVec.smod 64).toNat).toNat = _
  rw [h, BitVec.toNat_shiftLeft, Nat.shiftLeft_eq, Nat.mul_comm]
  rfl
theorem uN_shr (x : Int64) (s : UInt64) : uN (x.toUInt64 >>> s).toInt64 = uN x / 2 ^ (s.toNat % 64) := by
  show (x.toUInt64 >>> s).toNat = _
  rw [UInt64.toNat_shiftRight, Nat.shiftRight_eq_div_pow]
  rfl
theorem uN_s32 (x : Int64) : uN (x.toUInt64 >>> ((32 : Int32).toInt64.toUInt64 &&& Int64.toUInt64 63)).toInt64 = uN x / 4294967296 := by
  have h : ((32 : Int32).toInt64.toUInt64 &&& Int64.toUInt64 63).toNat % 64 = 32 := by decide
  rw [uN_shr, h]
theorem uN_s63 (x : Int64) : uN (x.toUInt64 >>> ((63 : Int32).toInt64.toUInt64 &&& Int64.toUInt64 63)).toInt64 = uN x / 9223372036854775808 := by
  have h : ((63 : Int32).toInt64.toUInt64 &&& Int64.toUInt64 63).toNat % 64 = 63 := by decide
  rw [uN_shr, h]
theorem uN_lo (x : Int64) : uN (x &&& 4294967295) = uN x % 4294967296 := by
  show (x.toUInt64 &&& Int64.toUInt64 4294967295).toNat = _
  rw [UInt64.toNat_and]
  exact Nat.and_two_pow_sub_one_eq_mod _ 32
theorem uN_bit (x : Int64) : (x &&& 1) = 0 ↔ uN x % 2 = 0 := by
  have h : uN (x &&& 1) = uN x % 2 := by
    show (x.toUInt64 &&& Int64.toUInt64 1).toNat = _
    rw [UInt64.toNat_and]
    exact Nat.and_two_pow_sub_one_eq_mod _ 1
  rw [← h]
  exact ⟨fun z => by rw [z]; rfl, fun z => uN_inj (z.trans rfl)⟩
theorem uN_or {x y : Int64} (hy : uN y < 2) : uN ((x <<< ((1 : Int32).toInt64 &&& 63)) ||| y) = (2 * uN x) % 18446744073709551616 + uN y := by
  have h1 : uN ((x <<< ((1 : Int32).toInt64 &&& 63)) ||| y) = uN (x <<< ((1 : Int32).toInt64 &&& 63)) ||| uN y := UInt64.toNat_or _ _
  have h2 : (2 * uN x) % 18446744073709551616 = 2 ^ 1 * (uN x % 9223372036854775808) := by omega
  rw [h1, uN_shl, h2]
  exact (Nat.two_pow_add_eq_or_of_lt (i := 1) hy _).symm
theorem nat_xor {a : Nat} (h : a < 18446744073709551616) : a ^^^ 2 ^ 63 = (a + 9223372036854775808) % 18446744073709551616 := by
  have h1 : (a ^^^ 2 ^ 63) % 2 ^ 63 = a % 2 ^ 63 := by rw [Nat.xor_mod_two_pow, Nat.mod_self, Nat.xor_zero]
  have h2 : (a ^^^ 2 ^ 63) / 2 ^ 63 = (a / 2 ^ 63) ^^^ 1 := by rw [Nat.xor_div_two_pow, Nat.div_self (Nat.two_pow_pos 63)]
  have h3 : a / 2 ^ 63 = 0 ∨ a / 2 ^ 63 = 1 := by omega
  generalize a ^^^ 2 ^ 63 = t at h1 h2
  rcases h3 with h3 | h3
  · rw [h3] at h2
    have h2 : t / 2 ^ 63 = 1 := h2
    omega
  · rw [h3] at h2
    have h2 : t / 2 ^ 63 = 0 := h2
    omega
theorem uN_xor (x : Int64) : uN (x ^^^ (-9223372036854775808)) = (uN x + 9223372036854775808) % 18446744073709551616 := by
  rw [← nat_xor (uN_lt x)]
  exact UInt64.toNat_xor _ _
theorem uN_int (x : Int64) : x.toInt = if 2 * uN x < 18446744073709551616 then (uN x : Int) else (uN x : Int) - 18446744073709551616 := BitVec.toInt_eq_toNat_cond _
theorem uN_le (x y : Int64) : (x ^^^ (-9223372036854775808)) ≤ (y ^^^ (-9223372036854775808)) ↔ uN x ≤ uN y := by
  have hx := uN_lt x
  have hy := uN_lt y
  rw [Int64.le_iff_toInt_le, uN_int, uN_int, uN_xor, uN_xor]
  omega
theorem uN_sk (x : Int64) {k : Nat} (hk : k < 64) : uN (x.toUInt64 >>> ((nI k).toInt64.toUInt64 &&& Int64.toUInt64 63)).toInt64 = uN x / 2 ^ k := by
  have h : ((nI k).toInt64.toUInt64 &&& Int64.toUInt64 63).toNat % 64 = k := by
    rw [nI_l (by omega), UInt64.toNat_and]
    have e : (lN k).toUInt64.toNat = k % 2 ^ 64 := rfl
    have e2 : (Int64.toUInt64 63).toNat = 2 ^ 6 - 1 := by decide
    rw [e, e2, Nat.and_two_pow_sub_one_eq_mod]
    omega
  rw [uN_shr, h]
/-! ===== unsigned comparison by xor with the least ===== -/
theorem lN_bv (n : Nat) : (lN n).toBitVec = BitVec.ofNat 64 n := rfl
theorem lN_nat {n : Nat} (h : n < 2 ^ 64) : (lN n).toBitVec.toNat = n := by rw [lN_bv, BitVec.toNat_ofNat]; exact Nat.mod_eq_of_lt h
theorem lN_xor (a b : Nat) : lN a ^^^ lN b = lN (a ^^^ b) := by
  apply Int64.toBitVec_inj.mp; rw [Int64.toBitVec_xor, lN_bv, lN_bv, lN_bv]; apply BitVec.eq_of_getLsbD_eq; intro i hi; simp [BitVec.getLsbD_ofNat, Nat.testBit_xor, hi]
theorem lN_ti {m : Nat} (h : m < 2 ^ 64) : (lN m).toInt = if m < 2 ^ 63 then (m : Int) else (m : Int) - 2 ^ 64 := by
  have c := BitVec.toInt_eq_toNat_cond (lN m).toBitVec
  rw [lN_nat h] at c
  show (lN m).toBitVec.toInt = _
  rw [c]
  split <;> split <;> omega
theorem xor63 {x : Nat} (h : x < 2 ^ 63) : x ^^^ 2 ^ 63 = 2 ^ 63 + x := by
  apply Nat.eq_of_testBit_eq
  intro i
  rw [Nat.testBit_xor, Nat.testBit_two_pow]
  rcases Nat.lt_trichotomy i 63 with z | z | z
  · rw [Nat.testBit_two_pow_add_gt z, decide_eq_false (by omega)]; simp
  · subst z; rw [Nat.testBit_two_pow_add_eq]; simp
  · have hp : 2 ^ 64 ≤ 2 ^ i := Nat.pow_le_pow_right (by decide) z
    rw [Nat.testBit_lt_two_pow (show x < 2 ^ i by omega), Nat.testBit_lt_two_pow (show 2 ^ 63 + x < 2 ^ i by omega), decide_eq_false (by omega)]; rfl
theorem xorS {a : Nat} (h : a < 2 ^ 64) : (lN a ^^^ (-9223372036854775808)).toInt = (a : Int) - 2 ^ 63 := by
  rw [show (-9223372036854775808 : Int64) = lN (2 ^ 63) from by decide +kernel, lN_xor]
  rcases Nat.lt_or_ge a (2 ^ 63) with z | z
  · rw [xor63 z, lN_ti (by omega), if_neg (by omega)]; omega
  · obtain ⟨x, rfl⟩ : ∃ x, a = 2 ^ 63 + x := ⟨a - 2 ^ 63, by omega⟩
    rw [← xor63 (by omega), Nat.xor_assoc, Nat.xor_self, Nat.xor_zero, lN_ti (by omega), if_pos (by omega), xor63 (by omega)]; omega
theorem ultL {a b : Nat} (ha : a < 2 ^ 64) (hb : b < 2 ^ 64) : ((lN b ^^^ (-9223372036854775808)) ≤ (lN a ^^^ (-9223372036854775808))) ↔ b ≤ a := by
  rw [Int64.le_iff_toInt_le, xorS ha, xorS hb]; omega
/-! ===== Int64 masks of n low bits ===== -/
theorem cr_bits (W U M : BitVec 64) : ((W &&& U) &&& (U &&& (M ^^^ BitVec.allOnes 64))) = 0#64 ↔ (W &&& U) &&& M = W &&& U := by
  constructor
  · intro h
    apply BitVec.eq_of_getLsbD_eq
    intro i hi
    have e := congrArg (fun x => BitVec.getLsbD x i) h
    simp only [BitVec.getLsbD_and, BitVec.getLsbD_xor, BitVec.getLsbD_allOnes, BitVec.getLsbD_zero, hi, decide_true] at e ⊢
    revert e
    cases W.getLsbD i <;> cases U.getLsbD i <;> cases M.getLsbD i <;> decide
  · intro h
    apply BitVec.eq_of_getLsbD_eq
    intro i hi
    have e := congrArg (fun x => BitVec.getLsbD x i) h
    simp only [BitVec.getLsbD_and, BitVec.getLsbD_xor, BitVec.getLsbD_allOnes, BitVec.getLsbD_zero, hi, decide_true] at e ⊢
    revert e
    cases W.getLsbD i <;> cases U.getLsbD i <;> cases M.getLsbD i <;> decide
theorem cr_mask (w U m : Int64) (n : Nat) (hm : m.toBitVec.toNat = 2 ^ n - 1) : ((w &&& U) &&& (U &&& (m ^^^ (-1)))) = 0 ↔ (w &&& U).toBitVec.toNat < 2 ^ n := by
  have e0 : (-1 : Int64).toBitVec = BitVec.allOnes 64 := by decide
  have z0 : (0 : Int64).toBitVec = 0#64 := by decide
  rw [← Int64.toBitVec_inj, z0, Int64.toBitVec_and, Int64.toBitVec_and, Int64.toBitVec_and, Int64.toBitVec_xor, e0, cr_bits]
  generalize w.toBitVec &&& U.toBitVec = T
  rw [← BitVec.toNat_inj, BitVec.toNat_and, hm, Nat.and_two_pow_sub_one_eq_mod]
  constructor
  · intro h
    have t := Nat.mod_lt T.toNat (Nat.two_pow_pos n)
    rw [h] at t
    exact t
  · exact Nat.mod_eq_of_lt
theorem cr_shr (t : Int64) (x : UInt64) (n : Nat) (hx : x.toNat % 64 = n) : (t.toUInt64 >>> x).toInt64 = 0 ↔ t.toBitVec.toNat < 2 ^ n := by
  rw [← Int64.toBitVec_inj, ← BitVec.toNat_inj]
  show (t.toUInt64 >>> x).toNat = 0 ↔ t.toUInt64.toNat < 2 ^ n
  rw [UInt64.toNat_shiftRight, hx, Nat.shiftRight_eq_div_pow]
  constructor
  · intro h
    have d : t.toUInt64.toNat / 2 ^ n < 1 := by
      rw [h]
      decide
    have e := (Nat.div_lt_iff_lt_mul (Nat.two_pow_pos n)).mp d
    rw [Nat.one_mul] at e
    exact e
  · exact Nat.div_eq_of_lt
theorem cr_amt (s : Int64) : ∃ n, n < 64 ∧ s &&& 63 = lN n ∧ (s.toUInt64 &&& Int64.toUInt64 63).toNat % 64 = n := by
  have e : (s.toUInt64 &&& Int64.toUInt64 63).toNat = s.toUInt64.toNat % 2 ^ 6 := by
    rw [UInt64.toNat_and, show (Int64.toUInt64 63).toNat = 2 ^ 6 - 1 from by decide, Nat.and_two_pow_sub_one_eq_mod]
  refine ⟨s.toUInt64.toNat % 2 ^ 6, by omega, ?_, by omega⟩
  rw [← Int64.toBitVec_inj, ← BitVec.toNat_inj]
  show (s.toUInt64 &&& Int64.toUInt64 63).toNat = (BitVec.ofNat 64 (s.toUInt64.toNat % 2 ^ 6)).toNat
  rw [e, BitVec.toNat_ofNat]
  omega
end
section
/-! ===== ternary facts and their pure laws ===== -/
def bd_mk (W : Nat) (x : Int32) : Prop := ∀ i, W ≤ i → bt x i = false
def bd_dj (z o : Int32) : Prop := ∀ i, bt z i = true → bt o i = true → False
def bd_e3 (z o : Bool) : Int32 := if z = true then 0 else if o = true then 1 else 2
def bd_en (z o : Int32) (i : Nat) : Int32 := bd_e3 (bt z i) (bt o i)
def bd_tr (W : Nat) (u : Nat → Int32) : Nat → Int32 := fun i => if i < W then u i else 2
def bd_x3 (x : Int32) : Prop := x = 0 ∨ x = 1 ∨ x = 2
def bd_T3 (u : Nat → Int32) : Prop := ∀ i, bd_x3 (u i)
def bd_t (k : Fin 3) : Int32 := nI k.val
theorem bd_t3 {x : Int32} (h : bd_x3 x) : ∃ k : Fin 3, x = bd_t k := by
  rcases h with rfl | rfl | rfl
  · exact ⟨0, by decide⟩
  · exact ⟨1, by decide⟩
  · exact ⟨2, by decide⟩
theorem bd_e3_3 (z o : Bool) : bd_x3 (bd_e3 z o) := by
  cases z <;> cases o <;> simp [bd_e3, bd_x3]
theorem bd_en_3 (z o : Int32) : bd_T3 (bd_en z o) := fun _ => bd_e3_3 _ _
theorem bd_tr_lt {W i : Nat} {u : Nat → Int32} (h : i < W) : bd_tr W u i = u i := by unfold bd_tr; rw [if_pos h]
theorem bd_tr_ge {W i : Nat} {u : Nat → Int32} (h : W ≤ i) : bd_tr W u i = 2 := by unfold bd_tr; rw [if_neg (by omega)]
theorem bd_tr_3 {W : Nat} {u : Nat → Int32} (h : bd_T3 u) : bd_T3 (bd_tr W u) := by
  intro i
  rcases Nat.lt_or_ge i W with z | z
  · rw [bd_tr_lt z]; exact h i
  · rw [bd_tr_ge z]; exact Or.inr (Or.inr rfl)
theorem bd_trE {W : Nat} {u v : Nat → Int32} (h : ∀ i, i < W → u i = v i) : bd_tr W u = bd_tr W v := by
  funext i
  rcases Nat.lt_or_ge i W with z | z
  · rw [bd_tr_lt z, bd_tr_lt z]; exact h i z
  · rw [bd_tr_ge z, bd_tr_ge z]
theorem bd_trD {W : Nat} {u v : Nat → Int32} (h : bd_tr W u = bd_tr W v) {i : Nat} (hi : i < W) : u i = v i := by
  have := congrFun h i
  rwa [bd_tr_lt hi, bd_tr_lt hi] at this
theorem bd_trtr {W : Nat} {u : Nat → Int32} : bd_tr W (bd_tr W u) = bd_tr W u := bd_trE fun _ h => bd_tr_lt h
theorem bd_e3_0 {z o : Bool} : bd_e3 z o = 0 ↔ z = true := by cases z <;> cases o <;> decide
theorem bd_e3_1 {z o : Bool} (h : z = true → o = true → False) : bd_e3 z o = 1 ↔ o = true := by
  cases z <;> cases o <;> simp_all [bd_e3]
theorem bd_e3_2 {z o : Bool} : bd_e3 z o = 2 ↔ z = false ∧ o = false := by cases z <;> cases o <;> decide
theorem bd_en0 {z o : Int32} {i : Nat} : bd_en z o i = 0 ↔ bt z i = true := bd_e3_0
theorem bd_en1 {z o : Int32} (h : bd_dj z o) {i : Nat} : bd_en z o i = 1 ↔ bt o i = true := bd_e3_1 (h i)
theorem bd_en2 {z o : Int32} {i : Nat} : bd_en z o i = 2 ↔ bt z i = false ∧ bt o i = false := bd_e3_2
theorem bd_bE {x y : Bool} (h : x = true ↔ y = true) : x = y := by cases x <;> cases y <;> simp_all
/-- masks are what their facts say -/
theorem bd_rec {W : Nat} {z o z' o' : Int32} (mz : bd_mk W z) (mo : bd_mk W o) (mz' : bd_mk W z') (mo' : bd_mk W o') (d : bd_dj z o) (d' : bd_dj z' o') (h : bd_tr W (bd_en z o) = bd_tr W (bd_en z' o')) : z = z' ∧ o = o' := by
  constructor
  · apply b_ext
    intro i _
    rcases Nat.lt_or_ge i W with hi | hi
    · have e := bd_trD h hi
      apply bd_bE
      rw [← bd_en0 (o := o), ← bd_en0 (o := o'), e]
    · rw [mz i hi, mz' i hi]
  · apply b_ext
    intro i _
    rcases Nat.lt_or_ge i W with hi | hi
    · have e := bd_trD h hi
      apply bd_bE
      rw [← bd_en1 d, ← bd_en1 d', e]
    · rw [mo i hi, mo' i hi]
theorem bd_mk0 (W : Nat) : bd_mk W 0 := fun i _ => b_0 i
theorem bd_mk_or {W : Nat} {x y : Int32} (hx : bd_mk W x) (hy : bd_mk W y) : bd_mk W (x ||| y) := fun i h => by rw [b_or, hx i h, hy i h]; rfl
theorem bd_mk_and {W : Nat} {x y : Int32} (hx : bd_mk W x) : bd_mk W (x &&& y) := fun i h => by rw [b_and, hx i h]; rfl
theorem bd_mk_and' {W : Nat} {x y : Int32} (hy : bd_mk W y) : bd_mk W (x &&& y) := fun i h => by rw [b_and, hy i h, Bool.and_false]
theorem bd_mk_xor {W : Nat} {x y : Int32} (hx : bd_mk W x) (hy : bd_mk W y) : bd_mk W (x ^^^ y) := fun i h => by rw [b_xor, hx i h, hy i h]; rfl
/-! numbers by bits -/
theorem bd_nb {k i : Nat} (h : i < 32) : bt (nI k) i = k.testBit i := by
  show (BitVec.ofNat 32 k).getLsbD i = _
  rw [BitVec.getLsbD_ofNat]; simp [h]
theorem bd_nbk {k W i : Nat} (hk : k < 2 ^ W) (hW : W ≤ 32) (h : W ≤ i) : bt (nI k) i = false := by
  rcases Nat.lt_or_ge i 32 with z | z
  · rw [bd_nb z]
    exact Nat.testBit_lt_two_pow (Nat.lt_of_lt_of_le hk (Nat.pow_le_pow_right (by omega) h))
  · exact b_big z
def bd_lo (k : Nat) : Int32 := nI (2 ^ k - 1)
theorem bd_lo_b {k i : Nat} (hk : k ≤ 31) : bt (bd_lo k) i = decide (i < k) := by
  rcases Nat.lt_or_ge i 32 with z | z
  · unfold bd_lo; rw [bd_nb z, Nat.testBit_two_pow_sub_one]
  · rw [b_big z, decide_eq_false (by omega)]
theorem bd_lo_s : ∀ k, k < 31 → ((1 : Int32) <<< (nI k &&& 31)) - 1 = bd_lo k := by decide +kernel
theorem bd_lo_mk {k W : Nat} (h : k ≤ W) (hk : k ≤ 31) : bd_mk W (bd_lo k) := fun i hi => by rw [bd_lo_b hk, decide_eq_false (by omega)]
theorem bd_bit1 {l i : Nat} (hl : l < 32) : bt ((1 : Int32) <<< (nI l &&& 31)) i = decide (i = l) := by
  rcases Nat.lt_or_ge i 32 with z | z
  · rw [b_shl l hl 1 z]
    exact (by decide +kernel : ∀ i, i < 32 → ∀ l, l < 32 → (decide (l ≤ i) && bt 1 (i - l)) = decide (i = l)) i z l hl
  · rw [b_big z, decide_eq_false (by omega)]
theorem bd_z {x : Int32} : x = 0 ↔ ∀ i, bt x i = false := by
  constructor
  · intro h i; rw [h, b_0]
  · intro h; exact b_ext fun i _ => by rw [h i, b_0]
theorem bd_and1 {x : Int32} {l : Nat} (hl : l < 32) : (x &&& ((1 : Int32) <<< (nI l &&& 31))) = 0 ↔ bt x l = false := by
  rw [bd_z]
  constructor
  · intro h
    have := h l
    rw [b_and, bd_bit1 hl] at this
    simpa using this
  · intro h i
    rw [b_and, bd_bit1 hl]
    by_cases e : i = l
    · rw [e, h]; rfl
    · simp [e]
theorem bd_b1 : ∀ i, bt 1 i = decide (i = 0) := by
  intro i
  rcases Nat.lt_or_ge i 32 with z | z
  · exact (by decide +kernel : ∀ i, i < 32 → bt 1 i = decide (i = 0)) i z
  · rw [b_big z, decide_eq_false (by omega)]
theorem bd_a1 {x : Int32} : (x &&& 1) = 0 ↔ bt x 0 = false := by
  rw [bd_z]
  constructor
  · intro h
    have := h 0
    rw [b_and, bd_b1] at this
    simpa using this
  · intro h i
    rw [b_and, bd_b1]
    by_cases e : i = 0
    · rw [e, h]; rfl
    · simp [e]
theorem bd_a1' {x : Int32} : (x &&& 1) = 1 ↔ bt x 0 = true := by
  constructor
  · intro h
    have : bt (x &&& 1) 0 = bt 1 0 := by rw [h]
    rw [b_and, bd_b1] at this
    simpa using this
  · intro h
    apply b_ext
    intro i _
    rw [b_and, bd_b1]
    by_cases e : i = 0
    · rw [e, h]; rfl
    · simp [e]
theorem bd_ubt {x : Int32} {l : Nat} (hl : l < 32) : (((x.toUInt32 >>> ((nI l).toUInt32 &&& Int32.toUInt32 31)).toInt32) &&& 1) = 0 ↔ bt x l = false := by
  rw [bd_a1, b_ushr l hl]; rfl
theorem bd_sb {x : Int32} {l : Nat} (hl : l < 32) : ((x >>> (nI l &&& 31)) &&& 1) = 1 ↔ bt x l = true := by
  rw [bd_a1', b_sshr l hl x (by omega)]; simp [hl]
theorem bd_sb0 {x : Int32} {l : Nat} (hl : l < 32) : ((x >>> (nI l &&& 31)) &&& 1) = 0 ↔ bt x l = false := by
  rw [bd_a1, b_sshr l hl x (by omega)]; simp [hl]
theorem bd_not (x : Int32) {i : Nat} (h : i < 32) : bt (x ^^^ (-1)) i = !bt x i := by rw [b_xor, b_m1 i h]; cases bt x i <;> rfl
end
section
/-! ===== the low run, the ternary carry, the value of the known ones, the result fact ===== -/
def bd_rn (P : Nat → Bool) : Nat → Nat
  | 0 => 0
  | k + 1 => if bd_rn P k = k ∧ P k = true then k + 1 else bd_rn P k
theorem bd_rn_le (P : Nat → Bool) : ∀ k, bd_rn P k ≤ k
  | 0 => Nat.le_refl _
  | k + 1 => by
    have := bd_rn_le P k
    unfold bd_rn
    split <;> omega
theorem bd_rn_t {P : Nat → Bool} : ∀ {k i : Nat}, i < bd_rn P k → P i = true
  | 0, i, h => by simp [bd_rn] at h
  | k + 1, i, h => by
    unfold bd_rn at h
    split at h
    · rename_i c
      rcases Nat.lt_or_ge i k with z | z
      · exact bd_rn_t (k := k) (by omega)
      · have e : i = k := by omega
        rw [e]; exact c.2
    · exact bd_rn_t h
theorem bd_rn_f {P : Nat → Bool} : ∀ {k : Nat}, bd_rn P k < k → P (bd_rn P k) = false
  | 0, h => by omega
  | k + 1, h => by
    have hl := bd_rn_le P k
    unfold bd_rn at h ⊢
    split
    · rename_i c
      rw [if_pos c] at h; omega
    · rename_i c
      rcases Nat.lt_or_ge (bd_rn P k) k with z | z
      · exact bd_rn_f z
      · have e : bd_rn P k = k := by omega
        rw [e]
        cases hp : P k
        · rfl
        · exact absurd ⟨e, hp⟩ c
theorem bd_rn_u {P : Nat → Bool} {k t : Nat} (h1 : t ≤ k) (h2 : ∀ i, i < t → P i = true) (h3 : t < k → P t = false) : bd_rn P k = t := by
  have a := bd_rn_le P k
  rcases Nat.lt_trichotomy (bd_rn P k) t with z | z | z
  · have x := bd_rn_f (P := P) (k := k) (by omega)
    rw [h2 _ z] at x; cases x
  · exact z
  · have x := bd_rn_t z
    rw [h3 (by omega)] at x; cases x
theorem bd_rn_mono {P Q : Nat → Bool} {k : Nat} (h : ∀ i, P i = true → Q i = true) : bd_rn P k ≤ bd_rn Q k := by
  have a := bd_rn_le P k
  rcases Nat.lt_or_ge (bd_rn Q k) (bd_rn P k) with z | z
  · have x := bd_rn_f (P := Q) (k := k) (by omega)
    rw [h _ (bd_rn_t z)] at x; cases x
  · exact z
def bd_p0 (u : Nat → Int32) (i : Nat) : Bool := decide (u i = 0)
def bd_p1 (u : Nat → Int32) (i : Nat) : Bool := decide (¬ u i = 2)
theorem bd_p01 {u : Nat → Int32} {k : Nat} : bd_rn (bd_p0 u) k ≤ bd_rn (bd_p1 u) k := bd_rn_mono fun i h => by
  unfold bd_p0 at h; unfold bd_p1
  rw [decide_eq_true_eq] at h ⊢
  rw [h]; decide
def bd_maj (x y c : Int32) : Int32 := if x = y ∨ x = c then x else if y = c then y else 2
def bd_cy (u v : Nat → Int32) : Nat → Int32
  | 0 => 0
  | i + 1 => bd_maj (u i) (v i) (bd_cy u v i)
def bd_nv (u : Nat → Int32) : Nat → Nat
  | 0 => 0
  | k + 1 => bd_nv u k + (if u k = 1 then 2 ^ k else 0)
def bd_sure (W : Nat) (u v : Nat → Int32) : Nat := min (bd_rn (bd_p1 u) W + bd_rn (bd_p0 v) W) (bd_rn (bd_p1 v) W + bd_rn (bd_p0 u) W)
def bd_a3 (x y : Int32) : Int32 := if x = 0 ∨ y = 0 then 0 else if x = 1 ∧ y = 1 then 1 else 2
def bd_o3 (x y : Int32) : Int32 := if x = 1 ∨ y = 1 then 1 else if x = 0 ∧ y = 0 then 0 else 2
def bd_s3 (x y c : Int32) : Int32 := if x = 2 ∨ y = 2 ∨ c = 2 then 2 else x ^^^ y ^^^ c
def bd_bb (b : Bool) : Int32 := if b = true then 1 else 0
def bd_rz (W op b : Nat) (u v : Nat → Int32) (i : Nat) : Int32 :=
  if op = 0 then bd_bb (b.testBit i)
  else if op = 1 then bd_a3 (u i) (v i)
  else if op = 2 then bd_o3 (u i) (v i)
  else if op = 3 then bd_s3 (u i) (v i) 0
  else if op = 4 then bd_s3 (u i) (v i) (bd_cy u v i)
  else if op = 5 then (if i < bd_sure W u v then bd_bb ((bd_nv u W * bd_nv v W).testBit i) else 2)
  else if op = 6 then (if i < b then 0 else u (i - b))
  else if op = 7 then (if W - b ≤ i then 0 else u (i + b))
  else (if i < b then u i else u (b - 1))
def bd_le (x y : Int32) : Prop := x = 2 ∨ x = y
theorem bd_maj_f : ∀ a b c : Fin 3, bd_maj (bd_t a) (bd_t b) (bd_t c) = 0 ∨ bd_maj (bd_t a) (bd_t b) (bd_t c) = 1 ∨ bd_maj (bd_t a) (bd_t b) (bd_t c) = 2 := by decide +kernel
theorem bd_a3_f : ∀ a b : Fin 3, bd_a3 (bd_t a) (bd_t b) = 0 ∨ bd_a3 (bd_t a) (bd_t b) = 1 ∨ bd_a3 (bd_t a) (bd_t b) = 2 := by decide +kernel
theorem bd_o3_f : ∀ a b : Fin 3, bd_o3 (bd_t a) (bd_t b) = 0 ∨ bd_o3 (bd_t a) (bd_t b) = 1 ∨ bd_o3 (bd_t a) (bd_t b) = 2 := by decide +kernel
theorem bd_s3_f : ∀ a b c : Fin 3, bd_s3 (bd_t a) (bd_t b) (bd_t c) = 0 ∨ bd_s3 (bd_t a) (bd_t b) (bd_t c) = 1 ∨ bd_s3 (bd_t a) (bd_t b) (bd_t c) = 2 := by decide +kernel
theorem bd_maj_m : ∀ a b c a' b' c' : Fin 3, (bd_t a = 2 ∨ bd_t a = bd_t a') → (bd_t b = 2 ∨ bd_t b = bd_t b') → (bd_t c = 2 ∨ bd_t c = bd_t c') → (bd_maj (bd_t a) (bd_t b) (bd_t c) = 2 ∨ bd_maj (bd_t a) (bd_t b) (bd_t c) = bd_maj (bd_t a') (bd_t b') (bd_t c')) := by decide +kernel
theorem bd_s3_m : ∀ a b c a' b' c' : Fin 3, (bd_t a = 2 ∨ bd_t a = bd_t a') → (bd_t b = 2 ∨ bd_t b = bd_t b') → (bd_t c = 2 ∨ bd_t c = bd_t c') → (bd_s3 (bd_t a) (bd_t b) (bd_t c) = 2 ∨ bd_s3 (bd_t a) (bd_t b) (bd_t c) = bd_s3 (bd_t a') (bd_t b') (bd_t c')) := by decide +kernel
theorem bd_a3_m : ∀ a b a' b' : Fin 3, (bd_t a = 2 ∨ bd_t a = bd_t a') → (bd_t b = 2 ∨ bd_t b = bd_t b') → (bd_a3 (bd_t a) (bd_t b) = 2 ∨ bd_a3 (bd_t a) (bd_t b) = bd_a3 (bd_t a') (bd_t b')) := by decide +kernel
theorem bd_o3_m : ∀ a b a' b' : Fin 3, (bd_t a = 2 ∨ bd_t a = bd_t a') → (bd_t b = 2 ∨ bd_t b = bd_t b') → (bd_o3 (bd_t a) (bd_t b) = 2 ∨ bd_o3 (bd_t a) (bd_t b) = bd_o3 (bd_t a') (bd_t b')) := by decide +kernel
theorem bd_cy_3 {u v : Nat → Int32} (hu : bd_T3 u) (hv : bd_T3 v) : ∀ i, bd_x3 (bd_cy u v i)
  | 0 => Or.inl rfl
  | i + 1 => by
    obtain ⟨a, ea⟩ := bd_t3 (hu i)
    obtain ⟨b, eb⟩ := bd_t3 (hv i)
    obtain ⟨c, ec⟩ := bd_t3 (bd_cy_3 hu hv i)
    unfold bd_cy
    rw [ea, eb, ec]
    exact bd_maj_f a b c
theorem bd_cy_m {u v u' v' : Nat → Int32} (hu : bd_T3 u) (hv : bd_T3 v) (hu' : bd_T3 u') (hv' : bd_T3 v') (lu : ∀ i, bd_le (u i) (u' i)) (lv : ∀ i, bd_le (v i) (v' i)) : ∀ i, bd_le (bd_cy u v i) (bd_cy u' v' i)
  | 0 => Or.inr rfl
  | i + 1 => by
    have h1 := lu i
    have h2 := lv i
    have h3 := bd_cy_m hu hv hu' hv' lu lv i
    obtain ⟨a, ea⟩ := bd_t3 (hu i)
    obtain ⟨b, eb⟩ := bd_t3 (hv i)
    obtain ⟨c, ec⟩ := bd_t3 (bd_cy_3 hu hv i)
    obtain ⟨a', ea'⟩ := bd_t3 (hu' i)
    obtain ⟨b', eb'⟩ := bd_t3 (hv' i)
    obtain ⟨c', ec'⟩ := bd_t3 (bd_cy_3 hu' hv' i)
    unfold bd_cy
    unfold bd_le at h1 h2 h3 ⊢
    rw [ea, ea'] at h1
    rw [eb, eb'] at h2
    rw [ec, ec'] at h3
    rw [ea, eb, ec, ea', eb', ec']
    exact bd_maj_m a b c a' b' c' h1 h2 h3
theorem bd_nv_lt (u : Nat → Int32) : ∀ k, bd_nv u k < 2 ^ k
  | 0 => by simp [bd_nv]
  | k + 1 => by
    have := bd_nv_lt u k
    unfold bd_nv
    rw [Nat.pow_succ]
    split <;> omega
theorem bd_nv_tb (u : Nat → Int32) (i : Nat) : ∀ k, (bd_nv u k).testBit i = decide (i < k ∧ u i = 1)
  | 0 => by simp [bd_nv]
  | k + 1 => by
    have ih := bd_nv_tb u i k
    have hb := bd_nv_lt u k
    unfold bd_nv
    split
    · rename_i c
      rw [Nat.add_comm]
      rcases Nat.lt_trichotomy i k with z | z | z
      · rw [Nat.testBit_two_pow_add_gt z, ih]
        have : i < k + 1 := by omega
        simp [z, this]
      · rw [z, Nat.testBit_two_pow_add_eq, Nat.testBit_lt_two_pow hb]
        simp [c]
      · rw [Nat.testBit_lt_two_pow (Nat.lt_of_lt_of_le (by rw [Nat.pow_succ]; omega : 2 ^ k + bd_nv u k < 2 ^ (k + 1)) (Nat.pow_le_pow_right (by omega) (by omega)))]
        have : ¬ i < k + 1 := by omega
        simp [this]
    · rename_i c
      rw [Nat.add_zero, ih]
      rcases Nat.lt_trichotomy i k with z | z | z
      · have : i < k + 1 := by omega
        simp [z, this]
      · rw [z]; simp [c]
      · have h1 : ¬ i < k + 1 := by omega
        have h2 : ¬ i < k := by omega
        simp [h1, h2]
theorem bd_nv_sp (u : Nat → Int32) (m : Nat) : ∀ k, ∃ A, bd_nv u (m + k) = bd_nv u m + 2 ^ m * A
  | 0 => ⟨0, by simp⟩
  | k + 1 => by
    obtain ⟨A, hA⟩ := bd_nv_sp u m k
    show ∃ A, bd_nv u (m + k) + (if u (m + k) = 1 then 2 ^ (m + k) else 0) = bd_nv u m + 2 ^ m * A
    rw [hA]
    split
    · exact ⟨A + 2 ^ k, by rw [Nat.pow_add, Nat.mul_add, Nat.add_assoc]⟩
    · exact ⟨A, rfl⟩
theorem bd_nv_spl (u : Nat → Int32) {m W : Nat} (h : m ≤ W) : ∃ A, bd_nv u W = bd_nv u m + 2 ^ m * A := by
  obtain ⟨A, hA⟩ := bd_nv_sp u m (W - m)
  rw [show m + (W - m) = W by omega] at hA
  exact ⟨A, hA⟩
theorem bd_nv_0 {u : Nat → Int32} : ∀ {m : Nat}, (∀ i, i < m → u i = 0) → bd_nv u m = 0
  | 0, _ => rfl
  | m + 1, h => by
    unfold bd_nv
    rw [bd_nv_0 (m := m) (fun i hi => h i (by omega)), h m (by omega), if_neg (by decide)]
theorem bd_nv_c {u v : Nat → Int32} : ∀ {m : Nat}, (∀ i, i < m → u i = v i) → bd_nv u m = bd_nv v m
  | 0, _ => rfl
  | m + 1, h => by
    unfold bd_nv
    rw [bd_nv_c (m := m) (fun i hi => h i (by omega)), h m (by omega)]
theorem bd_mod_k {x m k A : Nat} (h : m ≤ k) : (x + 2 ^ k * A) % 2 ^ m = x % 2 ^ m := by
  obtain ⟨d, rfl⟩ : ∃ d, k = m + d := ⟨k - m, by omega⟩
  rw [Nat.pow_add, Nat.mul_assoc, Nat.add_mul_mod_self_left]
theorem bd_mul_c {u v u' v' : Nat → Int32} {W na ta nb tb m : Nat} (h1 : ta ≤ na) (h2 : na ≤ W) (h3 : tb ≤ nb) (h4 : nb ≤ W) (eu : ∀ i, i < na → u' i = u i) (zu : ∀ i, i < ta → u i = 0) (ev : ∀ i, i < nb → v' i = v i) (zv : ∀ i, i < tb → v i = 0) (hm1 : m ≤ na + tb) (hm2 : m ≤ nb + ta) :
    (bd_nv u' W * bd_nv v' W) % 2 ^ m = (bd_nv u na * bd_nv v nb) % 2 ^ m := by
  obtain ⟨A, hA⟩ := bd_nv_spl u' h2
  rw [bd_nv_c eu] at hA
  obtain ⟨B, hB⟩ := bd_nv_spl v' (show tb ≤ W by omega)
  rw [bd_nv_0 (u := v') (m := tb) (fun i hi => by rw [ev i (by omega), zv i hi]), Nat.zero_add] at hB
  obtain ⟨C, hC⟩ := bd_nv_spl u h1
  rw [bd_nv_0 zu, Nat.zero_add] at hC
  obtain ⟨E, hE⟩ := bd_nv_spl v' h4
  rw [bd_nv_c ev] at hE
  have s1 : bd_nv u' W * bd_nv v' W = bd_nv u na * bd_nv v' W + 2 ^ (na + tb) * (A * B) := by
    rw [hA, Nat.add_mul]
    congr 1
    rw [hB, Nat.pow_add]
    ac_rfl
  have s2 : bd_nv u na * bd_nv v' W = bd_nv u na * bd_nv v nb + 2 ^ (nb + ta) * (C * E) := by
    rw [hE, Nat.mul_add]
    congr 1
    rw [hC, Nat.pow_add]
    ac_rfl
  rw [s1, bd_mod_k hm1, s2, bd_mod_k hm2]
theorem bd_mod_tb {x y m i : Nat} (h : x % 2 ^ m = y % 2 ^ m) (hi : i < m) : x.testBit i = y.testBit i := by
  have a := Nat.testBit_mod_two_pow x m i
  have b := Nat.testBit_mod_two_pow y m i
  rw [h, b] at a
  simpa [hi] using a.symm
theorem bd_bb_3 (b : Bool) : bd_x3 (bd_bb b) := by cases b <;> simp [bd_bb, bd_x3]
theorem bd_rz_3 {W op b : Nat} {u v : Nat → Int32} (hu : bd_T3 u) (hv : bd_T3 v) (i : Nat) : bd_x3 (bd_rz W op b u v i) := by
  obtain ⟨x, ex⟩ := bd_t3 (hu i)
  obtain ⟨y, ey⟩ := bd_t3 (hv i)
  obtain ⟨c, ec⟩ := bd_t3 (bd_cy_3 hu hv i)
  unfold bd_rz
  split; · exact bd_bb_3 _
  split; · rw [ex, ey]; exact bd_a3_f x y
  split; · rw [ex, ey]; exact bd_o3_f x y
  split; · rw [ex, ey]; exact bd_s3_f x y 0
  split; · rw [ex, ey, ec]; exact bd_s3_f x y c
  split
  · split
    · exact bd_bb_3 _
    · exact Or.inr (Or.inr rfl)
  split
  · split
    · exact Or.inl rfl
    · exact hu _
  split
  · split
    · exact Or.inl rfl
    · exact hu _
  split
  · exact hu _
  · exact hu _
theorem bd_rz_m {W op b : Nat} {u v u' v' : Nat → Int32} (hu : bd_T3 u) (hv : bd_T3 v) (hu' : bd_T3 u') (hv' : bd_T3 v') (lu : ∀ i, bd_le (u i) (u' i)) (lv : ∀ i, bd_le (v i) (v' i)) (i : Nat) : bd_le (bd_rz W op b u v i) (bd_rz W op b u' v' i) := by
  obtain ⟨x, ex⟩ := bd_t3 (hu i)
  obtain ⟨y, ey⟩ := bd_t3 (hv i)
  obtain ⟨c, ec⟩ := bd_t3 (bd_cy_3 hu hv i)
  obtain ⟨x', ex'⟩ := bd_t3 (hu' i)
  obtain ⟨y', ey'⟩ := bd_t3 (hv' i)
  obtain ⟨c', ec'⟩ := bd_t3 (bd_cy_3 hu' hv' i)
  have h1 := lu i
  have h2 := lv i
  have h3 := bd_cy_m hu hv hu' hv' lu lv i
  unfold bd_le at h1 h2 h3
  rw [ex, ex'] at h1
  rw [ey, ey'] at h2
  rw [ec, ec'] at h3
  unfold bd_rz
  split; · exact Or.inr rfl
  split; · rw [ex, ey, ex', ey']; exact bd_a3_m x y x' y' h1 h2
  split; · rw [ex, ey, ex', ey']; exact bd_o3_m x y x' y' h1 h2
  split; · rw [ex, ey, ex', ey']; exact bd_s3_m x y 0 x' y' 0 h1 h2 (Or.inr rfl)
  split; · rw [ex, ey, ec, ex', ey', ec']; exact bd_s3_m x y c x' y' c' h1 h2 h3
  split
  · have q1 : ∀ {w w' : Nat → Int32}, (∀ i, bd_le (w i) (w' i)) → ∀ i, bd_p1 w i = true → bd_p1 w' i = true := fun {w w'} l i h => by
      unfold bd_p1 at h ⊢
      rw [decide_eq_true_eq] at h ⊢
      rcases l i with z | z
      · exact absurd z h
      · rwa [← z]
    have q0 : ∀ {w w' : Nat → Int32}, (∀ i, bd_le (w i) (w' i)) → ∀ i, bd_p0 w i = true → bd_p0 w' i = true := fun {w w'} l i h => by
      unfold bd_p0 at h ⊢
      rw [decide_eq_true_eq] at h ⊢
      rcases l i with z | z
      · rw [z] at h; exact absurd h (by decide)
      · rwa [← z]
    have ss : bd_sure W u v ≤ bd_sure W u' v' := by
      have r1 := bd_rn_mono (k := W) (q1 lu)
      have r2 := bd_rn_mono (k := W) (q1 lv)
      have r3 := bd_rn_mono (k := W) (q0 lu)
      have r4 := bd_rn_mono (k := W) (q0 lv)
      unfold bd_sure
      omega
    split
    · rename_i hi
      rw [if_pos (by omega)]
      right
      have key : ∀ w w' : Nat → Int32, (∀ i, bd_le (u i) (w i)) → (∀ i, bd_le (v i) (w' i)) → (bd_nv w W * bd_nv w' W) % 2 ^ (bd_sure W u v) = (bd_nv u (bd_rn (bd_p1 u) W) * bd_nv v (bd_rn (bd_p1 v) W)) % 2 ^ (bd_sure W u v) := by
        intro w w' l l'
        have g : ∀ {w w' : Nat → Int32}, (∀ i, bd_le (w i) (w' i)) → ∀ i, i < bd_rn (bd_p1 w) W → w' i = w i := fun {w w'} l i hi => by
          have := bd_rn_t hi
          unfold bd_p1 at this
          rw [decide_eq_true_eq] at this
          rcases l i with z | z
          · exact absurd z this
          · exact z.symm
        have g0 : ∀ {w : Nat → Int32}, ∀ i, i < bd_rn (bd_p0 w) W → w i = 0 := fun {w} i hi => by
          have := bd_rn_t hi
          unfold bd_p0 at this
          rwa [decide_eq_true_eq] at this
        exact bd_mul_c bd_p01 (bd_rn_le _ _) bd_p01 (bd_rn_le _ _) (g l) g0 (g l') g0 (by unfold bd_sure; omega) (by unfold bd_sure; omega)
      rw [bd_mod_tb ((key u v (fun _ => Or.inr rfl) (fun _ => Or.inr rfl)).trans (key u' v' lu lv).symm) hi]
    · exact Or.inl rfl
  split
  · split
    · exact Or.inr rfl
    · exact lu _
  split
  · split
    · exact Or.inr rfl
    · exact lu _
  split
  · exact lu _
  · exact lu _
end
section
/-! ===== the component's masks give the result facts ===== -/
def bd_ok (W : Nat) (z o : Int32) (g : Nat → Int32) : Prop := bd_mk W z ∧ bd_mk W o ∧ bd_dj z o ∧ bd_tr W (bd_en z o) = g
theorem bd_ok_i {W : Nat} {z o : Int32} {g : Nat → Int32} (h : bd_ok W z o g) {i : Nat} (hi : i < W) : g i = bd_e3 (bt z i) (bt o i) := by
  rw [← h.2.2.2, bd_tr_lt hi]; rfl
theorem bd_ok_3 {W : Nat} {z o : Int32} {g : Nat → Int32} (h : bd_ok W z o g) : bd_T3 g := by
  rw [← h.2.2.2]; exact bd_tr_3 (bd_en_3 _ _)
theorem bd_ok_tr {W : Nat} {z o : Int32} {g : Nat → Int32} (h : bd_ok W z o g) : bd_tr W g = g := by
  rw [← h.2.2.2]; exact bd_trtr
theorem bd_ok_u {W : Nat} {z o z' o' : Int32} {g : Nat → Int32} (h : bd_ok W z o g) (h' : bd_ok W z' o' g) : z = z' ∧ o = o' :=
  bd_rec h.1 h.2.1 h'.1 h'.2.1 h.2.2.1 h'.2.2.1 (h.2.2.2.trans h'.2.2.2.symm)
theorem bd_ok00 (W : Nat) : bd_ok W 0 0 (fun _ => 2) := ⟨bd_mk0 W, bd_mk0 W, (fun i h => by rw [b_0] at h; cases h), by
  funext i
  rcases Nat.lt_or_ge i W with z | z
  · rw [bd_tr_lt z]; unfold bd_en; rw [b_0]; rfl
  · rw [bd_tr_ge z]⟩
theorem bd_x_and {W b : Nat} {a0 a1 b0 b1 : Int32} {u v : Nat → Int32} (ha : bd_ok W a0 a1 u) (hb : bd_ok W b0 b1 v) : bd_ok W (a0 ||| b0) (a1 &&& b1) (bd_tr W (bd_rz W 1 b u v)) := by
  refine ⟨bd_mk_or ha.1 hb.1, bd_mk_and ha.2.1, fun i h1 h2 => ?_, bd_trE fun i hi => ?_⟩
  · rw [b_or] at h1; rw [b_and] at h2
    have e1 := ha.2.2.1 i
    have e2 := hb.2.2.1 i
    cases h : bt a0 i <;> simp_all
  · show _ = bd_a3 (u i) (v i)
    rw [bd_ok_i ha hi, bd_ok_i hb hi]
    unfold bd_en
    rw [b_or, b_and]
    exact (by decide +kernel : ∀ A0 A1 B0 B1 : Bool, (A0 = true → A1 = true → False) → (B0 = true → B1 = true → False) → bd_e3 (A0 || B0) (A1 && B1) = bd_a3 (bd_e3 A0 A1) (bd_e3 B0 B1)) _ _ _ _ (ha.2.2.1 i) (hb.2.2.1 i)
theorem bd_x_or {W b : Nat} {a0 a1 b0 b1 : Int32} {u v : Nat → Int32} (ha : bd_ok W a0 a1 u) (hb : bd_ok W b0 b1 v) : bd_ok W (a0 &&& b0) (a1 ||| b1) (bd_tr W (bd_rz W 2 b u v)) := by
  refine ⟨bd_mk_and ha.1, bd_mk_or ha.2.1 hb.2.1, fun i h1 h2 => ?_, bd_trE fun i hi => ?_⟩
  · rw [b_and] at h1; rw [b_or] at h2
    have e1 := ha.2.2.1 i
    have e2 := hb.2.2.1 i
    cases h : bt a1 i <;> simp_all
  · show _ = bd_o3 (u i) (v i)
    rw [bd_ok_i ha hi, bd_ok_i hb hi]
    unfold bd_en
    rw [b_or, b_and]
    exact (by decide +kernel : ∀ A0 A1 B0 B1 : Bool, (A0 = true → A1 = true → False) → (B0 = true → B1 = true → False) → bd_e3 (A0 && B0) (A1 || B1) = bd_o3 (bd_e3 A0 A1) (bd_e3 B0 B1)) _ _ _ _ (ha.2.2.1 i) (hb.2.2.1 i)
/-- known bits kb with the bits of a word -/
theorem bd_x_kw {W : Nat} (hW : W ≤ 16) {kb w : Int32} {g : Nat → Int32} (hk : bd_mk W kb) (h : ∀ i, i < W → g i = if bt kb i = true then bd_bb (bt w i) else 2) : bd_ok W (kb &&& (w ^^^ (-1))) (kb &&& w) (bd_tr W g) := by
  refine ⟨bd_mk_and hk, bd_mk_and hk, fun i h1 h2 => ?_, bd_trE fun i hi => ?_⟩
  · rcases Nat.lt_or_ge i 32 with z | z
    · rw [b_and, bd_not w z] at h1; rw [b_and] at h2
      cases h : bt w i <;> simp_all
    · rw [b_big z] at h1; cases h1
  · rw [h i hi]
    unfold bd_en
    rw [b_and, b_and, bd_not w (by omega)]
    exact (by decide +kernel : ∀ k w : Bool, bd_e3 (k && !w) (k && w) = if k = true then bd_bb w else 2) _ _
theorem bd_x_set {W b : Nat} (hW : W ≤ 16) {u v : Nat → Int32} : bd_ok W (bd_lo W &&& (nI b ^^^ (-1))) (bd_lo W &&& nI b) (bd_tr W (bd_rz W 0 b u v)) := by
  refine bd_x_kw hW (bd_lo_mk (Nat.le_refl _) (by omega)) fun i hi => ?_
  rw [bd_lo_b (by omega), decide_eq_true hi, if_pos rfl, bd_nb (by omega)]; rfl
theorem bd_x_xor {W b : Nat} (hW : W ≤ 16) {a0 a1 b0 b1 : Int32} {u v : Nat → Int32} (ha : bd_ok W a0 a1 u) (hb : bd_ok W b0 b1 v) : bd_ok W (((a0 ||| a1) &&& (b0 ||| b1)) &&& ((a1 ^^^ b1) ^^^ (-1))) (((a0 ||| a1) &&& (b0 ||| b1)) &&& (a1 ^^^ b1)) (bd_tr W (bd_rz W 3 b u v)) := by
  refine bd_x_kw hW (bd_mk_and (bd_mk_or ha.1 ha.2.1)) fun i hi => ?_
  show bd_s3 (u i) (v i) 0 = _
  rw [bd_ok_i ha hi, bd_ok_i hb hi, b_and, b_or, b_or, b_xor]
  exact (by decide +kernel : ∀ A0 A1 B0 B1 : Bool, (A0 = true → A1 = true → False) → (B0 = true → B1 = true → False) → bd_s3 (bd_e3 A0 A1) (bd_e3 B0 B1) 0 = if ((A0 || A1) && (B0 || B1)) = true then bd_bb (A1 ^^ B1) else 2) _ _ _ _ (ha.2.2.1 i) (hb.2.2.1 i)
/-! addition -/
def bd_ca (x y : Int32) (i : Nat) : Bool := BitVec.carry i x.toBitVec y.toBitVec false
theorem bd_ca0 (x y : Int32) : bd_ca x y 0 = false := by unfold bd_ca; simp [BitVec.carry_zero]
theorem bd_caS (x y : Int32) (i : Nat) : bd_ca x y (i + 1) = ((bt x i && bt y i) || (bt x i && bd_ca x y i) || (bt y i && bd_ca x y i)) := by
  unfold bd_ca bt
  rw [BitVec.carry_succ]
theorem bd_add_b (x y : Int32) {i : Nat} (hi : i < 32) : bt (x + y) i = (bt x i ^^ (bt y i ^^ bd_ca x y i)) := by
  unfold bt bd_ca
  rw [Int32.toBitVec_add, BitVec.getLsbD_add hi]
theorem bd_ca_x (x y : Int32) {i : Nat} (hi : i < 32) : bt (((x + y) ^^^ x) ^^^ y) i = bd_ca x y i := by
  rw [b_xor, b_xor, bd_add_b x y hi]
  cases bt x i <;> cases bt y i <;> cases bd_ca x y i <;> rfl
theorem bd_cy_may {W : Nat} (hW : W ≤ 16) {a0 a1 b0 b1 : Int32} {u v : Nat → Int32} (ha : bd_ok W a0 a1 u) (hb : bd_ok W b0 b1 v) : ∀ i, i ≤ W → bd_ca (bd_lo W &&& (a0 ^^^ (-1))) (bd_lo W &&& (b0 ^^^ (-1))) i = decide (¬ bd_cy u v i = 0) ∧ bd_ca a1 b1 i = decide (bd_cy u v i = 1)
  | 0, _ => by rw [bd_ca0, bd_ca0]; exact ⟨rfl, rfl⟩
  | i + 1, h => by
    have hi : i < W := by omega
    obtain ⟨h1, h2⟩ := bd_cy_may hW ha hb i (by omega)
    rw [bd_caS, bd_caS, h1, h2, show bd_cy u v (i + 1) = bd_maj (u i) (v i) (bd_cy u v i) from rfl]
    rw [bd_ok_i ha hi, bd_ok_i hb hi, b_and, b_and, bd_not _ (by omega), bd_not _ (by omega), bd_lo_b (by omega), decide_eq_true hi]
    obtain ⟨c, ec⟩ := bd_t3 (bd_cy_3 (bd_ok_3 ha) (bd_ok_3 hb) i)
    rw [ec]
    exact (by decide +kernel : ∀ (A0 A1 B0 B1 : Bool) (c : Fin 3), (A0 = true → A1 = true → False) → (B0 = true → B1 = true → False) →
      (((true && !A0) && (true && !B0)) || ((true && !A0) && decide (¬ bd_t c = 0)) || ((true && !B0) && decide (¬ bd_t c = 0))) = decide (¬ bd_maj (bd_e3 A0 A1) (bd_e3 B0 B1) (bd_t c) = 0) ∧
      ((A1 && B1) || (A1 && decide (bd_t c = 1)) || (B1 && decide (bd_t c = 1))) = decide (bd_maj (bd_e3 A0 A1) (bd_e3 B0 B1) (bd_t c) = 1)) _ _ _ _ c (ha.2.2.1 i) (hb.2.2.1 i)
theorem bd_x_add {W b : Nat} (hW : W ≤ 16) {a0 a1 b0 b1 mA mB my s mu kb : Int32} {u v : Nat → Int32} (ha : bd_ok W a0 a1 u) (hb : bd_ok W b0 b1 v) (e1 : mA = bd_lo W &&& (a0 ^^^ (-1))) (e2 : mB = bd_lo W &&& (b0 ^^^ (-1))) (e3 : my = ((mA + mB) ^^^ mA) ^^^ mB) (e4 : s = a1 + b1) (e5 : mu = (s ^^^ a1) ^^^ b1) (e6 : kb = (((a0 ||| a1) &&& (b0 ||| b1)) &&& ((my ^^^ (-1)) ||| mu)) &&& bd_lo W) :
    bd_ok W (kb &&& (s ^^^ (-1))) (kb &&& s) (bd_tr W (bd_rz W 4 b u v)) := by
  refine bd_x_kw hW (by rw [e6]; exact bd_mk_and' (bd_lo_mk (Nat.le_refl _) (by omega))) fun i hi => ?_
  show bd_s3 (u i) (v i) (bd_cy u v i) = _
  have h32 : i < 32 := by omega
  obtain ⟨h1, h2⟩ := bd_cy_may hW ha hb i (by omega)
  have hmy : bt my i = decide (¬ bd_cy u v i = 0) := by rw [e3, bd_ca_x _ _ h32, e1, e2, h1]
  have hmu : bt mu i = decide (bd_cy u v i = 1) := by rw [e5, e4, bd_ca_x _ _ h32, h2]
  have hs : bt s i = (bt a1 i ^^ (bt b1 i ^^ decide (bd_cy u v i = 1))) := by rw [e4, bd_add_b _ _ h32, h2]
  rw [e6, b_and, b_and, b_and, b_or, b_or, b_or, bd_not _ h32, hmy, hmu, hs, bd_lo_b (by omega), decide_eq_true hi, bd_ok_i ha hi, bd_ok_i hb hi]
  obtain ⟨c, ec⟩ := bd_t3 (bd_cy_3 (bd_ok_3 ha) (bd_ok_3 hb) i)
  rw [ec]
  exact (by decide +kernel : ∀ (A0 A1 B0 B1 : Bool) (c : Fin 3), (A0 = true → A1 = true → False) → (B0 = true → B1 = true → False) →
    bd_s3 (bd_e3 A0 A1) (bd_e3 B0 B1) (bd_t c) = if ((((A0 || A1) && (B0 || B1)) && (!decide (¬ bd_t c = 0) || decide (bd_t c = 1))) && true) = true then bd_bb (A1 ^^ (B1 ^^ decide (bd_t c = 1))) else 2) _ _ _ _ c (ha.2.2.1 i) (hb.2.2.1 i)
/-! multiplication -/
theorem bd_rn_c {P Q : Nat → Bool} : ∀ {k : Nat}, (∀ i, i < k → P i = Q i) → bd_rn P k = bd_rn Q k
  | 0, _ => rfl
  | k + 1, h => by
    unfold bd_rn
    rw [bd_rn_c (k := k) (fun i hi => h i (by omega)), h k (by omega)]
theorem bd_ok_r0 {W : Nat} {z o : Int32} {g : Nat → Int32} (h : bd_ok W z o g) : bd_rn (bt z) W = bd_rn (bd_p0 g) W := bd_rn_c fun i hi => by
  unfold bd_p0
  rw [bd_ok_i h hi]
  apply bd_bE
  rw [decide_eq_true_eq, bd_e3_0]
theorem bd_ok_r1 {W : Nat} {z o : Int32} {g : Nat → Int32} (h : bd_ok W z o g) : bd_rn (bt (z ||| o)) W = bd_rn (bd_p1 g) W := bd_rn_c fun i hi => by
  unfold bd_p1
  rw [bd_ok_i h hi, b_or]
  exact (by decide +kernel : ∀ A B : Bool, (A || B) = decide (¬ bd_e3 A B = 2)) _ _
theorem bd_ok_nv {W : Nat} (hW : W ≤ 16) {z o : Int32} {g : Nat → Int32} (h : bd_ok W z o g) : o = nI (bd_nv g W) := by
  apply b_ext
  intro i hi
  rw [bd_nb hi, bd_nv_tb]
  rcases Nat.lt_or_ge i W with hw | hw
  · rw [bd_ok_i h hw]
    apply bd_bE
    rw [decide_eq_true_eq, bd_e3_1 (h.2.2.1 i)]
    simp [hw]
  · rw [h.2.1 i hw, decide_eq_false]
    omega
theorem bd_x_mul {W b : Nat} (hW : W ≤ 16) {a0 a1 b0 b1 : Int32} {u v : Nat → Int32} (ha : bd_ok W a0 a1 u) (hb : bd_ok W b0 b1 v) :
    bd_ok W (bd_lo (min (bd_sure W u v) W) &&& ((a1 * b1) ^^^ (-1))) (bd_lo (min (bd_sure W u v) W) &&& (a1 * b1)) (bd_tr W (bd_rz W 5 b u v)) := by
  refine bd_x_kw hW (bd_lo_mk (by omega) (by omega)) fun i hi => ?_
  show (if i < bd_sure W u v then bd_bb ((bd_nv u W * bd_nv v W).testBit i) else 2) = _
  rw [bd_lo_b (by omega), bd_ok_nv hW ha, bd_ok_nv hW hb, pk_mul, bd_nb (by omega)]
  by_cases c : i < bd_sure W u v
  · rw [if_pos c, if_pos (decide_eq_true (by omega))]
  · rw [if_neg c, if_neg (by rw [decide_eq_true_eq]; omega)]
/-! shifts and sign extension -/
theorem bd_x_shl {W b : Nat} (hW : W ≤ 16) (hb : b < W) {a0 a1 : Int32} {u v : Nat → Int32} (ha : bd_ok W a0 a1 u) :
    bd_ok W (((a0 <<< (nI b &&& 31)) ||| (((1 : Int32) <<< (nI b &&& 31)) - 1)) &&& bd_lo W) ((a1 <<< (nI b &&& 31)) &&& bd_lo W) (bd_tr W (bd_rz W 6 b u v)) := by
  have hm : bd_mk W (bd_lo W) := bd_lo_mk (Nat.le_refl _) (by omega)
  have q0 : ∀ i, i < 32 → bt (((a0 <<< (nI b &&& 31)) ||| (((1 : Int32) <<< (nI b &&& 31)) - 1)) &&& bd_lo W) i = (((decide (b ≤ i) && bt a0 (i - b)) || decide (i < b)) && decide (i < W)) := fun i hi => by
    rw [b_and, b_or, b_shl b (by omega) a0 hi, bd_lo_s b (by omega), bd_lo_b (by omega), bd_lo_b (by omega)]
  have q1 : ∀ i, i < 32 → bt ((a1 <<< (nI b &&& 31)) &&& bd_lo W) i = ((decide (b ≤ i) && bt a1 (i - b)) && decide (i < W)) := fun i hi => by
    rw [b_and, b_shl b (by omega) a1 hi, bd_lo_b (by omega)]
  refine ⟨bd_mk_and' hm, bd_mk_and' hm, fun i h1 h2 => ?_, bd_trE fun i hi => ?_⟩
  · rcases Nat.lt_or_ge i 32 with z | z
    · rw [q0 i z] at h1; rw [q1 i z] at h2
      have e := ha.2.2.1 (i - b)
      simp only [Bool.and_eq_true, Bool.or_eq_true, decide_eq_true_eq] at h1 h2
      rcases h1.1 with z | z
      · exact e z.2 h2.1.2
      · omega
    · rw [b_big z] at h1; cases h1
  · show _ = if i < b then 0 else u (i - b)
    unfold bd_en
    rw [q0 i (by omega), q1 i (by omega)]
    by_cases c : i < b
    · rw [if_pos c, decide_eq_true c, decide_eq_true hi, decide_eq_false (by omega : ¬ b ≤ i)]; rfl
    · rw [if_neg c, bd_ok_i ha (by omega), decide_eq_false c, decide_eq_true hi, decide_eq_true (by omega : b ≤ i)]
      simp
theorem bd_x_shr {W b : Nat} (hW : W ≤ 16) (hb : b < W) {a0 a1 : Int32} {u v : Nat → Int32} (ha : bd_ok W a0 a1 u) :
    bd_ok W (((a0.toUInt32 >>> ((nI b).toUInt32 &&& Int32.toUInt32 31)).toInt32) ||| (bd_lo W &&& ((((bd_lo W).toUInt32 >>> ((nI b).toUInt32 &&& Int32.toUInt32 31)).toInt32) ^^^ (-1)))) ((a1.toUInt32 >>> ((nI b).toUInt32 &&& Int32.toUInt32 31)).toInt32) (bd_tr W (bd_rz W 7 b u v)) := by
  have q0 : ∀ i, i < 32 → bt (((a0.toUInt32 >>> ((nI b).toUInt32 &&& Int32.toUInt32 31)).toInt32) ||| (bd_lo W &&& ((((bd_lo W).toUInt32 >>> ((nI b).toUInt32 &&& Int32.toUInt32 31)).toInt32) ^^^ (-1)))) i = (bt a0 (b + i) || (decide (i < W) && !decide (b + i < W))) := fun i hi => by
    rw [b_or, b_and, bd_not _ hi, b_ushr b (by omega), b_ushr b (by omega), bd_lo_b (by omega), bd_lo_b (by omega)]
  refine ⟨?_, fun i hi => by rw [b_ushr b (by omega)]; exact ha.2.1 _ (by omega), fun i h1 h2 => ?_, bd_trE fun i hi => ?_⟩
  · refine bd_mk_or (fun i hi => ?_) (bd_mk_and (bd_lo_mk (Nat.le_refl _) (by omega)))
    rw [b_ushr b (by omega)]; exact ha.1 _ (by omega)
  · rcases Nat.lt_or_ge i 32 with z | z
    · rw [q0 i z] at h1; rw [b_ushr b (by omega)] at h2
      have e := ha.2.2.1 (b + i)
      have m := ha.2.1 (b + i)
      simp only [Bool.and_eq_true, Bool.or_eq_true, Bool.not_eq_true', decide_eq_true_eq, decide_eq_false_iff_not] at h1
      rcases h1 with z | z
      · exact e z h2
      · rw [m (by omega)] at h2; cases h2
    · rw [b_big z] at h1; cases h1
  · show _ = if W - b ≤ i then 0 else u (i + b)
    unfold bd_en
    rw [q0 i (by omega), b_ushr b (by omega)]
    by_cases c : W - b ≤ i
    · rw [if_pos c, decide_eq_true hi, decide_eq_false (by omega : ¬ b + i < W)]; simp [bd_e3]
    · rw [if_neg c, bd_ok_i ha (by omega), decide_eq_true (by omega : b + i < W), Nat.add_comm b i]
      simp
def bd_ext (W b : Nat) (x : Int32) : Int32 := if bt x (b - 1) = true then (x &&& bd_lo b) ||| (bd_lo W &&& (bd_lo b ^^^ (-1))) else x &&& bd_lo b
theorem bd_ext_b {W b : Nat} (hW : W ≤ 16) (h1 : 1 ≤ b) (hb : b ≤ W) (x : Int32) {i : Nat} : bt (bd_ext W b x) i = (decide (i < W) && (if i < b then bt x i else bt x (b - 1))) := by
  rcases Nat.lt_or_ge i 32 with z | z
  · unfold bd_ext
    by_cases c : i < b
    · have : i < W := by omega
      split
      · rw [b_or, b_and, b_and, bd_not _ z, bd_lo_b (by omega), bd_lo_b (by omega)]; simp [c, this]
      · rw [b_and, bd_lo_b (by omega)]; simp [c, this]
    · split
      · rename_i e
        rw [b_or, b_and, b_and, bd_not _ z, bd_lo_b (by omega), bd_lo_b (by omega)]; simp [c, e]
      · rename_i e
        rw [b_and, bd_lo_b (by omega)]; simp [c, e]
  · rw [b_big z, decide_eq_false (by omega)]; rfl
theorem bd_x_sext {W b : Nat} (hW : W ≤ 16) (h1 : 1 ≤ b) (hb : b ≤ W) {a0 a1 : Int32} {u v : Nat → Int32} (ha : bd_ok W a0 a1 u) :
    bd_ok W (bd_ext W b a0) (bd_ext W b a1) (bd_tr W (bd_rz W 8 b u v)) := by
  refine ⟨fun i hi => by rw [bd_ext_b hW h1 hb, decide_eq_false (by omega)]; rfl, fun i hi => by rw [bd_ext_b hW h1 hb, decide_eq_false (by omega)]; rfl, fun i h2 h3 => ?_, bd_trE fun i hi => ?_⟩
  · rw [bd_ext_b hW h1 hb] at h2 h3
    simp only [Bool.and_eq_true] at h2 h3
    by_cases c : i < b
    · rw [if_pos c] at h2 h3; exact ha.2.2.1 _ h2.2 h3.2
    · rw [if_neg c] at h2 h3; exact ha.2.2.1 _ h2.2 h3.2
  · show _ = if i < b then u i else u (b - 1)
    unfold bd_en
    rw [bd_ext_b hW h1 hb, bd_ext_b hW h1 hb, decide_eq_true hi]
    by_cases c : i < b
    · rw [if_pos c, if_pos c, if_pos c, bd_ok_i ha hi]; simp
    · rw [if_neg c, if_neg c, if_neg c, bd_ok_i ha (by omega)]; simp
end
section
/-! ===== forward: closed fact states, the greatest one ===== -/
def bd_op (c : Nat → Nat) (p : Nat) : Nat := c (4 * p)
def bd_d (c : Nat → Nat) (p : Nat) : Nat := c (4 * p + 1)
def bd_a (c : Nat → Nat) (p : Nat) : Nat := c (4 * p + 2)
def bd_b (c : Nat → Nat) (p : Nat) : Nat := c (4 * p + 3)
def bd_ub (c : Nat → Nat) (p : Nat) : Nat := if 1 ≤ bd_op c p ∧ bd_op c p ≤ 5 then bd_b c p else bd_a c p
def bd_tg (N : Nat) (c : Nat → Nat) (p : Nat) : Nat := if bd_d c p < N then bd_d c p else N
def bd_PV (W R N : Nat) (c : Nat → Nat) : Prop := ∀ p, p < N → bd_op c p ≤ 10 ∧ bd_a c p < R ∧ (bd_op c p ≤ 8 → bd_d c p < R) ∧ (1 ≤ bd_op c p → bd_op c p ≤ 5 → bd_b c p < R) ∧ (bd_op c p = 6 ∨ bd_op c p = 7 ∨ bd_op c p = 10 → bd_b c p < W) ∧ (bd_op c p = 8 → 1 ≤ bd_b c p ∧ bd_b c p ≤ W) ∧ (bd_op c p = 0 ∨ bd_op c p = 9 → bd_b c p < 2 ^ W) ∧ bd_d c p ≤ 24 ∧ bd_b c p < 65536
def bd_res (W : Nat) (c : Nat → Nat) (V : Nat → Nat → Nat → Int32) (p : Nat) : Nat → Int32 := bd_tr W (bd_rz W (bd_op c p) (bd_b c p) (V p (bd_a c p)) (V p (bd_ub c p)))
def bd_out (W : Nat) (c : Nat → Nat) (V : Nat → Nat → Nat → Int32) (p r : Nat) : Nat → Int32 := if bd_op c p ≤ 8 ∧ r = bd_d c p then bd_res W c V p else V p r
def bd_lv (N : Nat) (c : Nat → Nat) (V : Nat → Nat → Nat → Int32) (p t : Nat) : Prop :=
  (t = p + 1 ∧ ¬ (bd_op c p = 10 ∧ V p (bd_a c p) (bd_b c p) = 1)) ∨ (t = bd_tg N c p ∧ bd_op c p = 10 ∧ ¬ V p (bd_a c p) (bd_b c p) = 0)
def bd_V3 (V : Nat → Nat → Nat → Int32) : Prop := ∀ p r, bd_T3 (V p r)
def bd_Cl (W R N : Nat) (c : Nat → Nat) (S : Nat → Prop) (V : Nat → Nat → Nat → Int32) : Prop :=
  S 0 ∧ (∀ r, r < R → V 0 r = fun _ => 2) ∧ ∀ p, p < N → S p → ∀ t, bd_lv N c V p t → S t ∧ ∀ r, r < R → ∀ i, bd_le (V t r i) (bd_out W c V p r i)
def bd_Lw (R N : Nat) (S : Nat → Prop) (V : Nat → Nat → Nat → Int32) (F : Nat → Prop) (G : Nat → Nat → Nat → Int32) : Prop :=
  ∀ p, p ≤ N → F p → S p ∧ ∀ r, r < R → ∀ i, bd_le (V p r i) (G p r i)
def bd_Iv (W R N : Nat) (c : Nat → Nat) (F : Nat → Prop) (G : Nat → Nat → Nat → Int32) : Prop :=
  F 0 ∧ (∀ r, r < R → G 0 r = fun _ => 2) ∧ ∀ S V, bd_V3 V → bd_Cl W R N c S V → bd_Lw R N S V F G
theorem bd_le_t {x y z : Int32} (h1 : bd_le x y) (h2 : bd_le y z) : bd_le x z := by
  rcases h1 with h | h
  · exact Or.inl h
  · rw [h]; exact h2
theorem bd_le_r (x : Int32) : bd_le x x := Or.inr rfl
theorem bd_le_a {x y : Int32} (h1 : bd_le x y) (h2 : bd_le y x) : x = y := by
  rcases h1 with h | h
  · rcases h2 with g | g
    · rw [h, g]
    · exact g.symm
  · exact h
def bd_m2 (x y : Int32) : Int32 := if x = y then y else 2
theorem bd_m2_le {x y : Int32} (h : bd_m2 x y = x) : bd_le x y := by
  unfold bd_m2 at h
  split at h
  · rename_i e; exact Or.inr e
  · exact Or.inl h.symm
theorem bd_m2_of {x y : Int32} (h : bd_le x y) : bd_m2 x y = x := by
  unfold bd_m2
  rcases h with h | h
  · rw [h]; split
    · rename_i e; exact e.symm
    · rfl
  · rw [if_pos h, h]
theorem bd_m2_3 {x y : Int32} (h : bd_x3 y) : bd_x3 (bd_m2 x y) := by
  unfold bd_m2
  split
  · exact h
  · exact Or.inr (Or.inr rfl)
theorem bd_m2_g {z x y : Int32} (h1 : bd_le z x) (h2 : bd_le z y) : bd_le z (bd_m2 x y) := by
  rcases h1 with h | h
  · exact Or.inl h
  · rcases h2 with g | g
    · exact Or.inl g
    · right; unfold bd_m2; rw [← h, ← g, if_pos rfl]
theorem bd_m2_l {x y : Int32} : bd_le (bd_m2 x y) x := by
  unfold bd_m2
  split
  · rename_i e; rw [e]; exact bd_le_r _
  · exact Or.inl rfl
theorem bd_m2_r {x y : Int32} : bd_le (bd_m2 x y) y := by
  unfold bd_m2
  split
  · exact bd_le_r _
  · exact Or.inl rfl
theorem bd_ub_lt {W R N : Nat} {c : Nat → Nat} (P : bd_PV W R N c) {p : Nat} (hp : p < N) : bd_ub c p < R := by
  obtain ⟨h1, h2, h3, h4, -⟩ := P p hp
  unfold bd_ub
  split
  · rename_i h; exact h4 h.1 h.2
  · exact h2
theorem bd_tg_le (N : Nat) (c : Nat → Nat) (p : Nat) : bd_tg N c p ≤ N := by unfold bd_tg; split <;> omega
theorem bd_lv_le {N : Nat} {c : Nat → Nat} {V : Nat → Nat → Nat → Int32} {p t : Nat} (hp : p < N) (h : bd_lv N c V p t) : t ≤ N := by
  rcases h with h | h
  · omega
  · rw [h.1]; exact bd_tg_le _ _ _
theorem bd_tr_m {W : Nat} {u v : Nat → Int32} (h : ∀ i, bd_le (u i) (v i)) (i : Nat) : bd_le (bd_tr W u i) (bd_tr W v i) := by
  rcases Nat.lt_or_ge i W with z | z
  · rw [bd_tr_lt z, bd_tr_lt z]; exact h i
  · rw [bd_tr_ge z, bd_tr_ge z]; exact bd_le_r _
theorem bd_res_3 {W : Nat} {c : Nat → Nat} {V : Nat → Nat → Nat → Int32} (h : bd_V3 V) (p : Nat) : bd_T3 (bd_res W c V p) := bd_tr_3 (bd_rz_3 (h _ _) (h _ _))
theorem bd_out_3 {W : Nat} {c : Nat → Nat} {V : Nat → Nat → Nat → Int32} (h : bd_V3 V) (p r : Nat) : bd_T3 (bd_out W c V p r) := by
  unfold bd_out
  split
  · exact bd_res_3 h p
  · exact h p r
theorem bd_out_m {W R N : Nat} {c : Nat → Nat} {V G : Nat → Nat → Nat → Int32} (P : bd_PV W R N c) (hV : bd_V3 V) (hG : bd_V3 G) {p : Nat} (hp : p < N) (h : ∀ r, r < R → ∀ i, bd_le (V p r i) (G p r i)) {r : Nat} (hr : r < R) (i : Nat) : bd_le (bd_out W c V p r i) (bd_out W c G p r i) := by
  unfold bd_out
  split
  · exact bd_tr_m (bd_rz_m (hV _ _) (hV _ _) (hG _ _) (hG _ _) (h _ (P p hp).2.1) (h _ (bd_ub_lt P hp))) i
  · exact h r hr i
theorem bd_lv_m {W R N : Nat} {c : Nat → Nat} {V G : Nat → Nat → Nat → Int32} (P : bd_PV W R N c) {p : Nat} (hp : p < N) (h : ∀ r, r < R → ∀ i, bd_le (V p r i) (G p r i)) {t : Nat} (l : bd_lv N c G p t) : bd_lv N c V p t := by
  have e := h _ (P p hp).2.1 (bd_b c p)
  rcases l with ⟨h1, h2⟩ | ⟨h1, h2, h3⟩
  · refine Or.inl ⟨h1, fun z => h2 ⟨z.1, ?_⟩⟩
    rcases e with e | e
    · rw [z.2] at e; exact absurd e (by decide)
    · rw [← e]; exact z.2
  · refine Or.inr ⟨h1, h2, fun z => h3 ?_⟩
    rcases e with e | e
    · rw [z] at e; exact absurd e (by decide)
    · rw [← e]; exact z
theorem bd_Iv_step {W R N : Nat} {c : Nat → Nat} {F F' : Nat → Prop} {G G' : Nat → Nat → Nat → Int32} (P : bd_PV W R N c) (hG : bd_V3 G) (I : bd_Iv W R N c F G) {p t : Nat} (hp : p < N) (hF : F p) (l : bd_lv N c G p t)
    (hF' : ∀ q, q ≤ N → F' q → F q ∨ q = t) (h0 : F' 0) (hn : ∀ q, q ≤ N → ¬ q = t → ∀ r, r < R → G' q r = G q r) (h1 : F t → ∀ r, r < R → ∀ i, G' t r i = bd_m2 (G t r i) (bd_out W c G p r i)) (h2 : ¬ F t → ∀ r, r < R → ∀ i, G' t r i = bd_out W c G p r i) : bd_Iv W R N c F' G' := by
  have ht := bd_lv_le hp l
  refine ⟨h0, fun r hr => ?_, fun S V hV K => ?_⟩
  · by_cases e : (0 : Nat) = t
    · subst e
      funext i
      rw [h1 I.1 r hr i, I.2.1 r hr]
      unfold bd_m2
      split
      · rename_i z; exact z.symm
      · rfl
    · rw [hn 0 (by omega) e r hr, I.2.1 r hr]
  · have L := I.2.2 S V hV K
    obtain ⟨sp, lp⟩ := L p (by omega) hF
    obtain ⟨st, vt⟩ := K.2.2 p hp sp t (bd_lv_m P hp lp l)
    have vo : ∀ r, r < R → ∀ i, bd_le (V t r i) (bd_out W c G p r i) := fun r hr i => bd_le_t (vt r hr i) (bd_out_m P hV hG hp lp hr i)
    intro q hq fq
    by_cases e : q = t
    · rw [e]
      refine ⟨st, fun r hr i => ?_⟩
      by_cases ft : F t
      · rw [h1 ft r hr i]
        exact bd_m2_g ((L t ht ft).2 r hr i) (vo r hr i)
      · rw [h2 ft r hr i]; exact vo r hr i
    · rcases hF' q hq fq with z | z
      · rw [show G' q = fun r => G' q r from rfl]
        refine ⟨(L q hq z).1, fun r hr i => ?_⟩
        show bd_le _ (G' q r i)
        rw [hn q hq e r hr]
        exact (L q hq z).2 r hr i
      · exact absurd z e
theorem bd_Iv_u {W R N : Nat} {c : Nat → Nat} {F F' : Nat → Prop} {G G' : Nat → Nat → Nat → Int32} (hG : bd_V3 G) (hG' : bd_V3 G') (I : bd_Iv W R N c F G) (K : bd_Cl W R N c F G) (I' : bd_Iv W R N c F' G') (K' : bd_Cl W R N c F' G') {p : Nat} (hp : p ≤ N) : (F p ↔ F' p) ∧ (F p → ∀ r, r < R → G p r = G' p r) := by
  have L := I.2.2 F' G' hG' K' p hp
  have L' := I'.2.2 F G hG K p hp
  refine ⟨⟨fun f => (L f).1, fun f => (L' f).1⟩, fun f r hr => funext fun i => ?_⟩
  exact bd_le_a ((L' (L f).1).2 r hr i) ((L f).2 r hr i)
theorem bd_out_self {W N : Nat} {c : Nat → Nat} {G : Nat → Nat → Nat → Int32} {p : Nat} (l : bd_lv N c G p p) (r : Nat) : bd_out W c G p r = G p r := by
  unfold bd_out
  rw [if_neg]
  intro h
  rcases l with z | z
  · omega
  · omega
/-! counting -/
noncomputable def bd_01 (P : Prop) : Nat := @ite Nat P (Classical.propDecidable P) 1 0
theorem bd_01t {P : Prop} (h : P) : bd_01 P = 1 := by unfold bd_01; rw [if_pos h]
theorem bd_01f {P : Prop} (h : ¬ P) : bd_01 P = 0 := by unfold bd_01; rw [if_neg h]
theorem bd_01_le (P : Prop) : bd_01 P ≤ 1 := by
  rcases Classical.em P with h | h
  · rw [bd_01t h]; omega
  · rw [bd_01f h]; omega
theorem bd_01_m {P Q : Prop} (h : P → Q) : bd_01 P ≤ bd_01 Q := by
  rcases Classical.em P with hp | hp
  · rw [bd_01t hp, bd_01t (h hp)]; omega
  · rw [bd_01f hp]; omega
noncomputable def bd_cn (P : Nat → Prop) : Nat → Nat
  | 0 => 0
  | k + 1 => bd_cn P k + bd_01 (P k)
theorem bd_cn_m {P Q : Nat → Prop} : ∀ {N : Nat}, (∀ k, k < N → P k → Q k) → bd_cn P N ≤ bd_cn Q N
  | 0, _ => Nat.le_refl _
  | N + 1, h => by
    have a := bd_cn_m (P := P) (Q := Q) (N := N) (fun k hk => h k (by omega))
    have b := bd_01_m (h N (by omega))
    simp only [bd_cn]; omega
theorem bd_cn_lt {P Q : Nat → Prop} {a : Nat} (hp : ¬ P a) (hq : Q a) : ∀ {N : Nat}, (∀ k, k < N → P k → Q k) → a < N → bd_cn P N < bd_cn Q N
  | 0, _, h => by omega
  | N + 1, h, ha => by
    simp only [bd_cn]
    rcases Nat.lt_or_ge a N with z | z
    · have x := bd_cn_lt hp hq (N := N) (fun k hk => h k (by omega)) z
      have b := bd_01_m (h N (by omega))
      omega
    · have e : a = N := by omega
      subst e
      have x := bd_cn_m (P := P) (Q := Q) (N := a) (fun k hk => h k (by omega))
      rw [bd_01t hq, bd_01f hp]; omega
theorem bd_cn_le (P : Nat → Prop) : ∀ N, bd_cn P N ≤ N
  | 0 => Nat.le_refl _
  | N + 1 => by have := bd_cn_le P N; have := bd_01_le (P N); simp only [bd_cn]; omega
/-- one more at most where P' is P or one place a -/
theorem bd_cn_s {P P' : Nat → Prop} {a : Nat} : ∀ {N : Nat}, (∀ k, k < N → P' k → P k ∨ k = a) → bd_cn P' N ≤ bd_cn P N + 1
  | 0, _ => by simp [bd_cn]
  | N + 1, h => by
    simp only [bd_cn]
    rcases Nat.lt_or_ge a N with z | z
    · have x := bd_cn_s (P := P) (P' := P') (a := a) (N := N) (fun k hk => h k (by omega))
      have b : bd_01 (P' N) ≤ bd_01 (P N) := bd_01_m fun q => (h N (by omega) q).elim id (fun e => by omega)
      omega
    · have x := bd_cn_m (P := P') (Q := P) (N := N) (fun k hk q => (h k (by omega) q).elim id (fun e => by omega))
      have := bd_01_le (P' N)
      omega
/-- what is left of the forward phase -/
noncomputable def bd_Ps (F : Nat → Prop) (f : Nat → Int32) : Nat := bd_cn (fun j => ¬ F (j / 64) ∨ ¬ f j = 2) 1600 + bd_cn (fun q => ¬ F q) 25
theorem bd_Ps_le (F : Nat → Prop) (f : Nat → Int32) : bd_Ps F f ≤ 1625 := by
  have := bd_cn_le (fun j => ¬ F (j / 64) ∨ ¬ f j = 2) 1600
  have := bd_cn_le (fun q => ¬ F q) 25
  unfold bd_Ps; omega
theorem bd_Ps_m {F F' : Nat → Prop} {f f' : Nat → Int32} (hF : ∀ q, F q → F' q) (h : ∀ j, j < 1600 → F (j / 64) → f j = 2 → f' j = 2) : bd_Ps F' f' ≤ bd_Ps F f := by
  unfold bd_Ps
  have a := bd_cn_m (P := fun j => ¬ F' (j / 64) ∨ ¬ f' j = 2) (Q := fun j => ¬ F (j / 64) ∨ ¬ f j = 2) (N := 1600) (fun j hj z => by
    rcases Classical.em (F (j / 64)) with g | g
    · right; intro e
      rcases z with z | z
      · exact z (hF _ g)
      · exact z (h j hj g e)
    · exact Or.inl g)
  have b := bd_cn_m (P := fun q => ¬ F' q) (Q := fun q => ¬ F q) (N := 25) (fun q _ z g => z (hF _ g))
  omega
theorem bd_Ps_f {F F' : Nat → Prop} {f f' : Nat → Int32} (hF : ∀ q, F q → F' q) (h : ∀ j, j < 1600 → F (j / 64) → f j = 2 → f' j = 2) {t : Nat} (ht : t < 25) (n : ¬ F t) (y : F' t) : bd_Ps F' f' < bd_Ps F f := by
  unfold bd_Ps
  have a := bd_cn_m (P := fun j => ¬ F' (j / 64) ∨ ¬ f' j = 2) (Q := fun j => ¬ F (j / 64) ∨ ¬ f j = 2) (N := 1600) (fun j hj z => by
    rcases Classical.em (F (j / 64)) with g | g
    · right; intro e
      rcases z with z | z
      · exact z (hF _ g)
      · exact z (h j hj g e)
    · exact Or.inl g)
  have b := bd_cn_lt (P := fun q => ¬ F' q) (Q := fun q => ¬ F q) (a := t) (fun z => z y) n (N := 25) (fun q _ z g => z (hF _ g)) ht
  omega
theorem bd_Ps_k {F F' : Nat → Prop} {f f' : Nat → Int32} (hF : ∀ q, F q → F' q) (h : ∀ j, j < 1600 → F (j / 64) → f j = 2 → f' j = 2) {j : Nat} (hj : j < 1600) (g : F (j / 64)) (n : ¬ f j = 2) (y : f' j = 2) : bd_Ps F' f' < bd_Ps F f := by
  unfold bd_Ps
  have a := bd_cn_lt (P := fun j => ¬ F' (j / 64) ∨ ¬ f' j = 2) (Q := fun j => ¬ F (j / 64) ∨ ¬ f j = 2) (a := j) (fun z => z.elim (fun z => z (hF _ g)) (fun z => z y)) (Or.inr n) (N := 1600) (fun j hj z => by
    rcases Classical.em (F (j / 64)) with g | g
    · right; intro e
      rcases z with z | z
      · exact z (hF _ g)
      · exact z (h j hj g e)
    · exact Or.inl g) hj
  have b := bd_cn_m (P := fun q => ¬ F' q) (Q := fun q => ¬ F q) (N := 25) (fun q _ z g => z (hF _ g))
  omega
end
section
/-! ===== backward: kinds and needs as predicates on bits, monotone in the demand ===== -/
def bd_sm (x y : Int32) : Bool := decide (x = y ∧ ¬ x = 2)
def bd_ch (W : Nat) (u v : Nat → Int32) (q : Int32) : Nat → Bool
  | 0 => false
  | k + 1 => bt q (W - 1 - k) || (bd_ch W u v q k && !bd_sm (u (W - 1 - k)) (v (W - 1 - k)))
def bd_us (W op : Nat) (u v : Nat → Int32) (q : Int32) (i : Nat) : Bool := bt q i || (decide (op = 4) && bd_ch W u v q (W - 1 - i))
def bd_ee (op : Nat) : Int32 := if op = 1 then 1 else 0
def bd_oo (op : Nat) : Int32 := if op = 1 then 0 else if op = 2 then 1 else 3
def bd_kA (op b : Nat) (u v : Nat → Int32) (i : Nat) : Bool := if op ≤ 4 then decide (v i = bd_ee op ∨ u i = bd_oo op) else if op = 8 then decide (i < b) else decide (¬ op = 5 ∧ b = 0)
def bd_kB (op : Nat) (u v : Nat → Int32) (i : Nat) : Bool := decide (u i = bd_ee op ∨ v i = bd_oo op)
def bd_al (W op b : Nat) (u v : Nat → Int32) (q : Int32) : Prop := ∀ i, i < W → bt q i = true → ¬ bd_rz W op b u v i = 2
def bd_cA (W op b : Nat) (u v : Nat → Int32) (q : Int32) : Prop := ∀ i, i < W → bd_us W op u v q i = true → bd_kA op b u v i = true
def bd_cB (W op : Nat) (u v : Nat → Int32) (q : Int32) : Prop := op ≤ 4 ∧ ∀ i, i < W → bd_us W op u v q i = true → bd_kB op u v i = true
def bd_bl (q : Int32) : Nat → Nat
  | 0 => 0
  | k + 1 => if bt q k = true then k + 1 else bd_bl q k
theorem bd_bl_le (q : Int32) : ∀ k, bd_bl q k ≤ k
  | 0 => Nat.le_refl _
  | k + 1 => by
    have := bd_bl_le q k
    unfold bd_bl; split <;> omega
theorem bd_bl_t {q : Int32} : ∀ {k : Nat}, 0 < bd_bl q k → bt q (bd_bl q k - 1) = true
  | 0, h => by simp [bd_bl] at h
  | k + 1, h => by
    unfold bd_bl at h ⊢
    split
    · rename_i e; simpa using e
    · rename_i e
      rw [if_neg e] at h
      exact bd_bl_t h
theorem bd_bl_f {q : Int32} : ∀ {k i : Nat}, bd_bl q k ≤ i → i < k → bt q i = false
  | 0, i, _, h => by omega
  | k + 1, i, h1, h2 => by
    unfold bd_bl at h1
    split at h1
    · omega
    · rename_i e
      rcases Nat.lt_or_ge i k with z | z
      · exact bd_bl_f h1 z
      · have : i = k := by omega
        rw [this]; simpa using e
theorem bd_bl_u {q : Int32} {k t : Nat} (h : t ≤ k) (h1 : 0 < t → bt q (t - 1) = true) (h2 : ∀ i, t ≤ i → i < k → bt q i = false) : bd_bl q k = t := by
  have a := bd_bl_le q k
  rcases Nat.lt_trichotomy (bd_bl q k) t with z | z | z
  · have x := bd_bl_f (q := q) (k := k) (i := t - 1) (by omega) (by omega)
    rw [h1 (by omega)] at x; cases x
  · exact z
  · have x := bd_bl_t (q := q) (k := k) (by omega)
    rw [h2 _ (by omega) (by omega)] at x; cases x
theorem bd_bl_m {q q' : Int32} {k : Nat} (h : ∀ i, bt q i = true → bt q' i = true) : bd_bl q k ≤ bd_bl q' k := by
  have a := bd_bl_le q k
  rcases Nat.lt_or_ge (bd_bl q' k) (bd_bl q k) with z | z
  · have x := bd_bl_t (q := q) (k := k) (by omega)
    have y := bd_bl_f (q := q') (k := k) (i := bd_bl q k - 1) (by omega) (by omega)
    rw [h _ x] at y; cases y
  · exact z
theorem bd_bl_32 {q : Int32} {W : Nat} (h : bd_mk W q) (hW : W ≤ 32) : bd_bl q 32 = bd_bl q W :=
  bd_bl_u (Nat.le_trans (bd_bl_le q W) hW) bd_bl_t (fun i h1 _ => by
    rcases Nat.lt_or_ge i W with z | z
    · exact bd_bl_f h1 z
    · exact h i z)
def bd_dA (W : Nat) (u v : Nat → Int32) : Nat := if bd_rn (bd_p0 v) W ≤ bd_rn (bd_p0 u) W then 0 else bd_rn (bd_p0 v) W
def bd_dB (W : Nat) (u v : Nat → Int32) : Nat := if bd_rn (bd_p0 v) W ≤ bd_rn (bd_p0 u) W then bd_rn (bd_p0 u) W else 0
def bd_fA (W op b : Nat) (u v : Nat → Int32) (q : Int32) (i : Nat) : Prop :=
  (op = 5 ∧ i < bd_bl q W - bd_dA W u v) ∨ (op = 6 ∧ bt q (i + b) = true) ∨ (op = 7 ∧ b ≤ i ∧ i < W ∧ bt q (i - b) = true) ∨
  (op = 8 ∧ ((i < b ∧ bt q i = true) ∨ (i + 1 = b ∧ ∃ j, b ≤ j ∧ bt q j = true))) ∨ (op ≤ 4 ∧ i < W ∧ bd_us W op u v q i = true ∧ (¬ v i = bd_oo op ∨ u i = bd_oo op))
def bd_fB (W op : Nat) (u v : Nat → Int32) (q : Int32) (i : Nat) : Prop :=
  (op = 5 ∧ i < bd_bl q W - bd_dB W u v) ∨ (op ≤ 4 ∧ i < W ∧ bd_us W op u v q i = true ∧ (¬ u i = bd_oo op ∨ v i = bd_oo op))
def bd_NA (W op b : Nat) (u v : Nat → Int32) (q : Int32) (i : Nat) : Prop :=
  (op = 9 ∧ b.testBit i = true) ∨ (op = 10 ∧ u b = 2 ∧ i = b) ∨
  (op ≤ 8 ∧ ¬ q = 0 ∧ ¬ bd_al W op b u v q ∧ ((bd_cA W op b u v q ∧ bt q i = true) ∨ (¬ bd_cA W op b u v q ∧ ¬ bd_cB W op u v q ∧ bd_fA W op b u v q i)))
def bd_NB (W op b : Nat) (u v : Nat → Int32) (q : Int32) (i : Nat) : Prop :=
  op ≤ 8 ∧ ¬ q = 0 ∧ ¬ bd_al W op b u v q ∧ ¬ bd_cA W op b u v q ∧ ((bd_cB W op u v q ∧ bt q i = true) ∨ (¬ bd_cB W op u v q ∧ bd_fB W op u v q i))
def bd_KD (W op b : Nat) (u v : Nat → Int32) (q k : Int32) : Prop :=
  (op = 9 ∧ k = 0) ∨ (op = 10 ∧ u b = 2 ∧ k = 0) ∨ (op = 10 ∧ ¬ u b = 2 ∧ k = 2) ∨ (op ≤ 8 ∧ q = 0 ∧ k = 1) ∨
  (op ≤ 8 ∧ ¬ q = 0 ∧ bd_al W op b u v q ∧ k = 2) ∨ (op ≤ 8 ∧ ¬ q = 0 ∧ ¬ bd_al W op b u v q ∧ bd_cA W op b u v q ∧ k = 3) ∨
  (op ≤ 8 ∧ ¬ q = 0 ∧ ¬ bd_al W op b u v q ∧ ¬ bd_cA W op b u v q ∧ bd_cB W op u v q ∧ k = 4) ∨
  (op ≤ 8 ∧ ¬ q = 0 ∧ ¬ bd_al W op b u v q ∧ ¬ bd_cA W op b u v q ∧ ¬ bd_cB W op u v q ∧ k = 0)
theorem bd_KD_u {W op b : Nat} {u v : Nat → Int32} {q k k' : Int32} (h : bd_KD W op b u v q k) (h' : bd_KD W op b u v q k') : k = k' := by
  unfold bd_KD at h h'
  rcases h with h | h | h | h | h | h | h | h <;> rcases h' with h' | h' | h' | h' | h' | h' | h' | h' <;>
    first
    | (exact h.2.trans h'.2.symm)
    | (exact h.2.2.trans h'.2.2.symm)
    | (exact h.2.2.2.trans h'.2.2.2.symm)
    | (exact h.2.2.2.2.trans h'.2.2.2.2.symm)
    | (exact h.2.2.2.2.2.trans h'.2.2.2.2.2.symm)
    | (exfalso; have a := h.1; have b := h'.1; omega)
    | (exact absurd h.2.1 h'.2.1)
    | (exact absurd h'.2.1 h.2.1)
    | (exact absurd h.2.2.1 h'.2.2.1)
    | (exact absurd h'.2.2.1 h.2.2.1)
    | (exact absurd h.2.2.2.1 h'.2.2.2.1)
    | (exact absurd h'.2.2.2.1 h.2.2.2.1)
    | (exact absurd h.2.2.2.2.1 h'.2.2.2.2.1)
    | (exact absurd h'.2.2.2.2.1 h.2.2.2.2.1)
section
variable {W op b : Nat} {u v : Nat → Int32} {q q' : Int32}
theorem bd_ch_m (s : ∀ i, bt q i = true → bt q' i = true) : ∀ k, bd_ch W u v q k = true → bd_ch W u v q' k = true
  | 0, h => h
  | k + 1, h => by
    unfold bd_ch at h ⊢
    simp only [Bool.or_eq_true, Bool.and_eq_true] at h ⊢
    rcases h with h | h
    · exact Or.inl (s _ h)
    · exact Or.inr ⟨bd_ch_m s k h.1, h.2⟩
theorem bd_us_m (s : ∀ i, bt q i = true → bt q' i = true) {i : Nat} (h : bd_us W op u v q i = true) : bd_us W op u v q' i = true := by
  unfold bd_us at h ⊢
  simp only [Bool.or_eq_true, Bool.and_eq_true] at h ⊢
  rcases h with h | h
  · exact Or.inl (s _ h)
  · exact Or.inr ⟨h.1, bd_ch_m s _ h.2⟩
theorem bd_us_q {i : Nat} (h : bt q i = true) : bd_us W op u v q i = true := by unfold bd_us; rw [h]; rfl
theorem bd_al_m (s : ∀ i, bt q i = true → bt q' i = true) (h : bd_al W op b u v q') : bd_al W op b u v q := fun i hi z => h i hi (s i z)
theorem bd_cA_m (s : ∀ i, bt q i = true → bt q' i = true) (h : bd_cA W op b u v q') : bd_cA W op b u v q := fun i hi z => h i hi (bd_us_m s z)
theorem bd_cB_m (s : ∀ i, bt q i = true → bt q' i = true) (h : bd_cB W op u v q') : bd_cB W op u v q := ⟨h.1, fun i hi z => h.2 i hi (bd_us_m s z)⟩
theorem bd_eo (op : Nat) : ¬ bd_ee op = bd_oo op := by
  unfold bd_ee bd_oo
  split
  · decide
  · split <;> decide
/-- both copies allowed: all is known -/
theorem bd_cAB (hu : bd_T3 u) (hv : bd_T3 v) (hA : bd_cA W op b u v q) (hB : bd_cB W op u v q) : bd_al W op b u v q := by
  intro i hi hq
  have ha := hA i hi (bd_us_q hq)
  have hb := hB.2 i hi (bd_us_q hq)
  unfold bd_kA at ha
  rw [if_pos hB.1, decide_eq_true_eq] at ha
  unfold bd_kB at hb
  rw [decide_eq_true_eq] at hb
  obtain ⟨x, ex⟩ := bd_t3 (hu i)
  obtain ⟨y, ey⟩ := bd_t3 (hv i)
  have h4 := hB.1
  unfold bd_rz
  split
  · cases b.testBit i <;> decide
  split
  · rename_i e1
    rw [ex, ey] at ha hb ⊢
    subst e1
    exact (by decide +kernel : ∀ x y : Fin 3, (bd_t y = bd_ee 1 ∨ bd_t x = bd_oo 1) → (bd_t x = bd_ee 1 ∨ bd_t y = bd_oo 1) → ¬ bd_a3 (bd_t x) (bd_t y) = 2) x y ha hb
  split
  · rename_i e1
    rw [ex, ey] at ha hb ⊢
    subst e1
    exact (by decide +kernel : ∀ x y : Fin 3, (bd_t y = bd_ee 2 ∨ bd_t x = bd_oo 2) → (bd_t x = bd_ee 2 ∨ bd_t y = bd_oo 2) → ¬ bd_o3 (bd_t x) (bd_t y) = 2) x y ha hb
  split
  · rename_i e1
    rw [ex, ey] at ha hb ⊢
    subst e1
    exact (by decide +kernel : ∀ x y : Fin 3, (bd_t y = bd_ee 3 ∨ bd_t x = bd_oo 3) → (bd_t x = bd_ee 3 ∨ bd_t y = bd_oo 3) → ¬ bd_s3 (bd_t x) (bd_t y) 0 = 2) x y ha hb
  split
  · rename_i e1
    subst e1
    have hc : bd_cy u v i = 0 := by
      rcases Nat.eq_zero_or_pos i with z | z
      · rw [z]; rfl
      · obtain ⟨j, rfl⟩ : ∃ j, i = j + 1 := ⟨i - 1, by omega⟩
        have huj : bd_us W 4 u v q j = true := by
          unfold bd_us
          have e : W - 1 - j = (W - 1 - (j + 1)) + 1 := by omega
          rw [e]
          unfold bd_ch
          rw [show W - 1 - (W - 1 - (j + 1)) = j + 1 by omega, hq]
          simp
        have ha' := hA j (by omega) huj
        have hb' := hB.2 j (by omega) huj
        unfold bd_kA at ha'
        rw [if_pos hB.1, decide_eq_true_eq] at ha'
        unfold bd_kB at hb'
        rw [decide_eq_true_eq] at hb'
        obtain ⟨x, ex⟩ := bd_t3 (hu j)
        obtain ⟨y, ey⟩ := bd_t3 (hv j)
        obtain ⟨c, ec⟩ := bd_t3 (bd_cy_3 hu hv j)
        unfold bd_cy
        rw [ex, ey] at ha' hb'
        rw [ex, ey, ec]
        exact (by decide +kernel : ∀ x y c : Fin 3, (bd_t y = bd_ee 4 ∨ bd_t x = bd_oo 4) → (bd_t x = bd_ee 4 ∨ bd_t y = bd_oo 4) → bd_maj (bd_t x) (bd_t y) (bd_t c) = 0) x y c ha' hb'
    rw [hc]
    rw [ex, ey] at ha hb ⊢
    exact (by decide +kernel : ∀ x y : Fin 3, (bd_t y = bd_ee 4 ∨ bd_t x = bd_oo 4) → (bd_t x = bd_ee 4 ∨ bd_t y = bd_oo 4) → ¬ bd_s3 (bd_t x) (bd_t y) 0 = 2) x y ha hb
  · exfalso; omega
theorem bd_fA_m (s : ∀ i, bt q i = true → bt q' i = true) {i : Nat} (h : bd_fA W op b u v q i) : bd_fA W op b u v q' i := by
  have hl := bd_bl_m (k := W) s
  rcases h with h | h | h | h | h
  · exact Or.inl ⟨h.1, by omega⟩
  · exact Or.inr (Or.inl ⟨h.1, s _ h.2⟩)
  · exact Or.inr (Or.inr (Or.inl ⟨h.1, h.2.1, h.2.2.1, s _ h.2.2.2⟩))
  · refine Or.inr (Or.inr (Or.inr (Or.inl ⟨h.1, ?_⟩)))
    rcases h.2 with g | ⟨g, j, g1, g2⟩
    · exact Or.inl ⟨g.1, s _ g.2⟩
    · exact Or.inr ⟨g, j, g1, s _ g2⟩
  · exact Or.inr (Or.inr (Or.inr (Or.inr ⟨h.1, h.2.1, bd_us_m s h.2.2.1, h.2.2.2⟩)))
theorem bd_fB_m (s : ∀ i, bt q i = true → bt q' i = true) {i : Nat} (h : bd_fB W op u v q i) : bd_fB W op u v q' i := by
  have hl := bd_bl_m (k := W) s
  rcases h with h | h
  · exact Or.inl ⟨h.1, by omega⟩
  · exact Or.inr ⟨h.1, h.2.1, bd_us_m s h.2.2.1, h.2.2.2⟩
theorem bd_ne_m (s : ∀ i, bt q i = true → bt q' i = true) (h : ¬ q = 0) : ¬ q' = 0 := fun e => h (bd_z.mpr fun i => by
  cases z : bt q i
  · rfl
  · have := s i z
    rw [e, b_0] at this; cases this)
theorem bd_NA_m (hu : bd_T3 u) (hv : bd_T3 v) (mq : bd_mk W q) (s : ∀ i, bt q i = true → bt q' i = true) {i : Nat} (h : bd_NA W op b u v q i) : bd_NA W op b u v q' i := by
  rcases h with h | h | ⟨h8, h0, hal, h⟩
  · exact Or.inl h
  · exact Or.inr (Or.inl h)
  · refine Or.inr (Or.inr ⟨h8, bd_ne_m s h0, fun z => hal (bd_al_m s z), ?_⟩)
    by_cases cA' : bd_cA W op b u v q'
    · left
      refine ⟨cA', ?_⟩
      rcases h with h | h
      · exact s _ h.2
      · exact absurd (bd_cA_m s cA') h.1
    · right
      rcases h with ⟨hA, hq⟩ | ⟨h1, h2, h3⟩
      · have hi : i < W := by
          rcases Nat.lt_or_ge i W with z | z
          · exact z
          · rw [mq i z] at hq; cases hq
        refine ⟨cA', fun z => hal (bd_cAB hu hv hA (bd_cB_m s z)), ?_⟩
        have k := hA i hi (bd_us_q hq)
        unfold bd_kA at k
        by_cases c4 : op ≤ 4
        · rw [if_pos c4, decide_eq_true_eq] at k
          refine Or.inr (Or.inr (Or.inr (Or.inr ⟨c4, hi, bd_us_q (s _ hq), ?_⟩)))
          rcases k with k | k
          · left; rw [k]; exact bd_eo op
          · exact Or.inr k
        · rw [if_neg c4] at k
          by_cases c8 : op = 8
          · rw [if_pos c8, decide_eq_true_eq] at k
            exact Or.inr (Or.inr (Or.inr (Or.inl ⟨c8, Or.inl ⟨k, s _ hq⟩⟩)))
          · rw [if_neg c8] at k
            exfalso
            apply cA'
            intro j _ _
            unfold bd_kA
            rw [if_neg c4, if_neg c8]
            exact k
      · exact ⟨cA', fun z => h2 (bd_cB_m s z), bd_fA_m s h3⟩
theorem bd_NB_m (mq : bd_mk W q) (s : ∀ i, bt q i = true → bt q' i = true) {i : Nat} (h : bd_NB W op b u v q i) : bd_NB W op b u v q' i := by
  obtain ⟨h8, h0, hal, hA, h⟩ := h
  refine ⟨h8, bd_ne_m s h0, fun z => hal (bd_al_m s z), fun z => hA (bd_cA_m s z), ?_⟩
  by_cases cB' : bd_cB W op u v q'
  · left
    refine ⟨cB', ?_⟩
    rcases h with h | h
    · exact s _ h.2
    · exact absurd (bd_cB_m s cB') h.1
  · right
    refine ⟨cB', ?_⟩
    rcases h with ⟨hB, hq⟩ | ⟨h1, h2⟩
    · have hi : i < W := by
        rcases Nat.lt_or_ge i W with z | z
        · exact z
        · rw [mq i z] at hq; cases hq
      have k := hB.2 i hi (bd_us_q hq)
      unfold bd_kB at k
      rw [decide_eq_true_eq] at k
      refine Or.inr ⟨hB.1, hi, bd_us_q (s _ hq), ?_⟩
      rcases k with k | k
      · left; rw [k]; exact bd_eo op
      · exact Or.inr k
    · exact bd_fB_m s h2
end
end
section
/-! ===== backward: closed demands, the least one ===== -/
def bd_sub (x y : Int32) : Prop := ∀ i, bt x i = true → bt y i = true
def bd_qq (c : Nat → Nat) (D : Nat → Int32) (p : Nat) : Int32 := if bd_op c p ≤ 8 then D (4 * (p + 1) + bd_d c p) else 0
def bd_na (W : Nat) (c : Nat → Nat) (G : Nat → Nat → Nat → Int32) (p : Nat) (q : Int32) (i : Nat) : Prop := bd_NA W (bd_op c p) (bd_b c p) (G p (bd_a c p)) (G p (bd_ub c p)) q i
def bd_nb' (W : Nat) (c : Nat → Nat) (G : Nat → Nat → Nat → Int32) (p : Nat) (q : Int32) (i : Nat) : Prop := bd_NB W (bd_op c p) (bd_b c p) (G p (bd_a c p)) (G p (bd_ub c p)) q i
def bd_kd (W : Nat) (c : Nat → Nat) (G : Nat → Nat → Nat → Int32) (p : Nat) (q k : Int32) : Prop := bd_KD W (bd_op c p) (bd_b c p) (G p (bd_a c p)) (G p (bd_ub c p)) q k
def bd_C1 (W R N : Nat) (c : Nat → Nat) (G : Nat → Nat → Nat → Int32) (D : Nat → Int32) (p t : Nat) : Prop := ∀ r, r < R →
  (¬ (bd_op c p ≤ 8 ∧ r = bd_d c p) → bd_sub (D (4 * t + r)) (D (4 * p + r))) ∧ (r = bd_a c p → ∀ i, bd_na W c G p (bd_qq c D p) i → bt (D (4 * p + r)) i = true) ∧
  (1 ≤ bd_op c p → bd_op c p ≤ 5 → r = bd_b c p → ∀ i, bd_nb' W c G p (bd_qq c D p) i → bt (D (4 * p + r)) i = true)
def bd_CB (W R N : Nat) (c : Nat → Nat) (F : Nat → Prop) (G : Nat → Nat → Nat → Int32) (D : Nat → Int32) : Prop :=
  (∀ j, bd_mk W (D j)) ∧ ∀ p, p < N → F p → ∀ t, bd_lv N c G p t → bd_C1 W R N c G D p t
def bd_IB (W R N : Nat) (c : Nat → Nat) (F : Nat → Prop) (G : Nat → Nat → Nat → Int32) (D : Nat → Int32) : Prop :=
  (∀ j, bd_mk W (D j)) ∧ ∀ E, bd_CB W R N c F G E → ∀ p, p ≤ N → ∀ r, r < R → bd_sub (D (4 * p + r)) (E (4 * p + r))
theorem bd_lv_ex (N : Nat) (c : Nat → Nat) (V : Nat → Nat → Nat → Int32) (p : Nat) : ∃ t, bd_lv N c V p t := by
  by_cases h : bd_op c p = 10 ∧ V p (bd_a c p) (bd_b c p) = 1
  · exact ⟨_, Or.inr ⟨rfl, h.1, fun z => by rw [z] at h; exact absurd h.2 (by decide)⟩⟩
  · exact ⟨_, Or.inl ⟨rfl, h⟩⟩
theorem bd_IB_0 {W R N : Nat} {c : Nat → Nat} {F : Nat → Prop} {G : Nat → Nat → Nat → Int32} {D : Nat → Int32} (h : ∀ j, D j = 0) : bd_IB W R N c F G D :=
  ⟨fun j => by rw [h j]; exact bd_mk0 W, fun E _ p _ r _ i z => by rw [h, b_0] at z; cases z⟩
theorem bd_IB_qq {W R N : Nat} {c : Nat → Nat} {F : Nat → Prop} {G : Nat → Nat → Nat → Int32} {D E : Nat → Int32} (P : bd_PV W R N c) (I : bd_IB W R N c F G D) (K : bd_CB W R N c F G E) {p : Nat} (hp : p < N) : bd_sub (bd_qq c D p) (bd_qq c E p) := by
  unfold bd_qq
  split
  · rename_i h; exact I.2 E K (p + 1) (by omega) _ ((P p hp).2.2.1 h)
  · intro i h; exact h
theorem bd_qq_mk {W : Nat} {c : Nat → Nat} {D : Nat → Int32} (h : ∀ j, bd_mk W (D j)) (p : Nat) : bd_mk W (bd_qq c D p) := by
  unfold bd_qq
  split
  · exact h _
  · exact bd_mk0 W
theorem bd_IB_step {W R N : Nat} {c : Nat → Nat} {F : Nat → Prop} {G : Nat → Nat → Nat → Int32} {D D0 D' : Nat → Int32} (P : bd_PV W R N c) (hG : bd_V3 G) (I : bd_IB W R N c F G D) (I0 : bd_IB W R N c F G D0) {p : Nat} (hp : p < N) (hF : F p)
    (hm : ∀ j, bd_mk W (D' j)) (hn : ∀ q, q ≤ N → ¬ q = p → ∀ r, r < R → D' (4 * q + r) = D (4 * q + r))
    (h : ∀ r, r < R → ∀ i, bt (D' (4 * p + r)) i = true → bt (D (4 * p + r)) i = true ∨ (∃ t, bd_lv N c G p t ∧ ¬ (bd_op c p ≤ 8 ∧ r = bd_d c p) ∧ bt (D (4 * t + r)) i = true) ∨ (r = bd_a c p ∧ bd_na W c G p (bd_qq c D0 p) i) ∨ (1 ≤ bd_op c p ∧ bd_op c p ≤ 5 ∧ r = bd_b c p ∧ bd_nb' W c G p (bd_qq c D0 p) i)) :
    bd_IB W R N c F G D' := by
  refine ⟨hm, fun E K q hq r hr => ?_⟩
  by_cases e : q = p
  · subst e
    intro i hi
    obtain ⟨t0, l0⟩ := bd_lv_ex N c G q
    have C0 := K.2 q hp hF t0 l0 r hr
    have sq := bd_IB_qq P I0 K hp
    have mq := bd_qq_mk (c := c) I0.1 q
    rcases h r hr i hi with z | ⟨t, l, z1, z2⟩ | ⟨z1, z2⟩ | ⟨z1, z2, z3, z4⟩
    · exact I.2 E K q hq r hr i z
    · exact (K.2 q hp hF t l r hr).1 z1 i (I.2 E K t (bd_lv_le hp l) r hr i z2)
    · exact C0.2.1 z1 i (bd_NA_m (hG _ _) (hG _ _) mq sq z2)
    · exact C0.2.2 z1 z2 z3 i (bd_NB_m mq sq z4)
  · rw [hn q hq e r hr]
    exact I.2 E K q hq r hr
theorem bd_sub_a {x y : Int32} (h1 : bd_sub x y) (h2 : bd_sub y x) : x = y := b_ext fun i _ => bd_bE ⟨h1 i, h2 i⟩
theorem bd_IB_u {W R N : Nat} {c : Nat → Nat} {F : Nat → Prop} {G : Nat → Nat → Nat → Int32} {D D' : Nat → Int32} (I : bd_IB W R N c F G D) (K : bd_CB W R N c F G D) (I' : bd_IB W R N c F G D') (K' : bd_CB W R N c F G D') {p r : Nat} (hp : p ≤ N) (hr : r < R) : D (4 * p + r) = D' (4 * p + r) :=
  bd_sub_a (I.2 D' K' p hp r hr) (I'.2 D K p hp r hr)
theorem bd_lv_c {N : Nat} {c : Nat → Nat} {V G : Nat → Nat → Nat → Int32} {p t : Nat} (h : V p (bd_a c p) = G p (bd_a c p)) : bd_lv N c V p t ↔ bd_lv N c G p t := by
  unfold bd_lv; rw [h]
theorem bd_CB_c {W R N : Nat} {c : Nat → Nat} {F F' : Nat → Prop} {G G' : Nat → Nat → Nat → Int32} {D : Nat → Int32} (P : bd_PV W R N c) (hF : ∀ p, p ≤ N → (F' p → F p)) (hG : ∀ p, p ≤ N → F p → ∀ r, r < R → G p r = G' p r) (K : bd_CB W R N c F G D) : bd_CB W R N c F' G' D := by
  refine ⟨K.1, fun p hp fp t l r hr => ?_⟩
  have f := hF p (by omega) fp
  have e1 := hG p (by omega) f _ (P p hp).2.1
  have e2 := hG p (by omega) f _ (bd_ub_lt P hp)
  have C := K.2 p hp f t ((bd_lv_c e1).mpr l) r hr
  unfold bd_na bd_nb' at C ⊢
  rw [e1, e2] at C
  exact C
theorem bd_IB_c {W R N : Nat} {c : Nat → Nat} {F F' : Nat → Prop} {G G' : Nat → Nat → Nat → Int32} {D : Nat → Int32} (P : bd_PV W R N c) (hF : ∀ p, p ≤ N → (F p → F' p)) (hG : ∀ p, p ≤ N → F p → ∀ r, r < R → G p r = G' p r) (hF' : ∀ p, p ≤ N → (F' p → F p)) (I : bd_IB W R N c F G D) : bd_IB W R N c F' G' D :=
  ⟨I.1, fun E K => I.2 E (bd_CB_c P hF (fun p hp f r hr => (hG p hp (hF' p hp f) r hr).symm) K)⟩
/-! what is left -/
noncomputable def bd_PB (D : Nat → Int32) : Nat := bd_cn (fun j => ¬ bt (D (j / 16)) (j % 16) = true) 1600
theorem bd_PB_le (D : Nat → Int32) : bd_PB D ≤ 1600 := bd_cn_le _ _
theorem bd_PB_m {D D' : Nat → Int32} (h : ∀ j, bd_sub (D j) (D' j)) : bd_PB D' ≤ bd_PB D := bd_cn_m fun j _ z g => z (h _ _ g)
theorem bd_PB_lt {D D' : Nat → Int32} (h : ∀ j, bd_sub (D j) (D' j)) {j i : Nat} (hj : j < 100) (hi : i < 16) (n : ¬ bt (D j) i = true) (y : bt (D' j) i = true) : bd_PB D' < bd_PB D :=
  bd_cn_lt (a := 16 * j + i) (by
    show ¬ ¬ bt (D' ((16 * j + i) / 16)) ((16 * j + i) % 16) = true
    rw [show (16 * j + i) / 16 = j by omega, show (16 * j + i) % 16 = i by omega]; exact fun z => z y) (by
    show ¬ bt (D ((16 * j + i) / 16)) ((16 * j + i) % 16) = true
    rw [show (16 * j + i) / 16 = j by omega, show (16 * j + i) % 16 = i by omega]; exact n) (fun k _ z g => z (h _ _ g)) (by omega)
theorem bd_dif {x y : Int32} {W : Nat} (mx : bd_mk W x) (my : bd_mk W y) (s : bd_sub x y) (h : ¬ y = x) : ∃ i, i < W ∧ ¬ bt x i = true ∧ bt y i = true := by
  apply Classical.byContradiction
  intro g
  apply h
  apply b_ext
  intro i _
  rcases Nat.lt_or_ge i W with z | z
  · cases a : bt x i
    · cases e : bt y i
      · rfl
      · exact absurd ⟨i, z, by rw [a]; decide, e⟩ g
    · exact s i a
  · rw [mx i z, my i z]
noncomputable def bd_su (f : Nat → Nat) : Nat → Nat
  | 0 => 0
  | k + 1 => bd_su f k + f k
theorem bd_su_m {f g : Nat → Nat} : ∀ {n : Nat}, (∀ k, k < n → f k ≤ g k) → bd_su f n ≤ bd_su g n
  | 0, _ => Nat.le_refl _
  | n + 1, h => by
    have a := bd_su_m (f := f) (g := g) (n := n) (fun k hk => h k (by omega))
    have b := h n (by omega)
    simp only [bd_su]; omega
theorem bd_su_lt {f g : Nat → Nat} {a : Nat} : ∀ {n : Nat}, (∀ k, k < n → f k ≤ g k) → a < n → f a < g a → bd_su f n < bd_su g n
  | 0, _, h, _ => by omega
  | n + 1, h, ha, hl => by
    simp only [bd_su]
    rcases Nat.lt_or_ge a n with z | z
    · have x := bd_su_lt (n := n) (fun k hk => h k (by omega)) z hl
      have y := h n (by omega)
      omega
    · have e : a = n := by omega
      subst e
      have x := bd_su_m (f := f) (g := g) (n := a) (fun k hk => h k (by omega))
      omega
theorem bd_su_le {f : Nat → Nat} {B : Nat} : ∀ {n : Nat}, (∀ k, k < n → f k ≤ B) → bd_su f n ≤ n * B
  | 0, _ => by simp [bd_su]
  | n + 1, h => by
    have a := bd_su_le (f := f) (B := B) (n := n) (fun k hk => h k (by omega))
    have b := h n (by omega)
    simp only [bd_su, Nat.add_mul]; omega
end
section
/-! ===== the component's small helpers ===== -/
section
variable {W R N C : Nat}
variable {f_w f_regCount f_cap f_all f_n f_analysed f_pending f_a0 f_a1 f_b0 f_b1 f_needA f_needB f_chain f_started : Int32} {a_fop a_fd a_fa a_fb a_at a_k0 a_k1 a_dem a_r0 a_r1 a_next1 a_next2 a_want a_kind a_widths a_inputs a_regs a_pcs a_logs a_counts : Nat → Int32}
theorem bd_X_bl {post : Int32 → Prop} {x : Int32} (K : post (nI (bd_bl x 32))) : wpX_bitLength post (f_w, f_regCount, f_cap, f_all, f_n, f_analysed, f_pending, f_a0, f_a1, f_b0, f_b1, f_needA, f_needB, f_chain, f_started, a_fop, a_fd, a_fa, a_fb, a_at, a_k0, a_k1, a_dem, a_r0, a_r1, a_next1, a_next2, a_want, a_kind, a_widths, a_inputs, a_regs, a_pcs, a_logs, a_counts) x := by
  have key : ∀ m k, k + m = 32 → wX_bitLength_4 post x f_w f_regCount f_cap f_all f_n f_analysed f_pending f_a0 f_a1 f_b0 f_b1 f_needA f_needB f_chain f_started a_fop a_fd a_fa a_fb a_at a_k0 a_k1 a_dem a_r0 a_r1 a_next1 a_next2 a_want a_kind a_widths a_inputs a_regs a_pcs a_logs a_counts (m + 1) (nI (bd_bl x k)) (nI k) := by
    intro m
    induction m with
    | zero =>
      intro k hk
      obtain rfl : k = 32 := by omega
      exact br_t (nI_le (a := 32) (b := 32) (by omega) (by omega)) K
    | succ m ih =>
      intro k hk
      refine br_f (nI_ge (a := k) (b := 32) (by omega) (by omega)) ?_
      by_cases c : bt x k = true
      · refine br_f (fun h => ?_) (nm_r (e' := nI (bd_bl x (k + 1))) ?_ (nm_r (nI_1 k) (ih (k + 1) (by omega))))
        · rw [bd_ubt (by omega), c] at h; cases h
        · rw [nI_1, bd_bl, if_pos c]
      · refine br_t ((bd_ubt (by omega)).mpr (by simpa using c)) (nm_r (nI_1 k) ?_)
        have := ih (k + 1) (by omega)
        rwa [bd_bl, if_neg c] at this
  exact ⟨33, key 32 0 rfl⟩
theorem bd_X_lr {post : Int32 → Prop} {x : Int32} (hW : W ≤ 16) (K : post (nI (bd_rn (bt x) W))) : wpX_lowRun post (nI W, f_regCount, f_cap, f_all, f_n, f_analysed, f_pending, f_a0, f_a1, f_b0, f_b1, f_needA, f_needB, f_chain, f_started, a_fop, a_fd, a_fa, a_fb, a_at, a_k0, a_k1, a_dem, a_r0, a_r1, a_next1, a_next2, a_want, a_kind, a_widths, a_inputs, a_regs, a_pcs, a_logs, a_counts) x := by
  have key : ∀ m k, k + m = W → (∀ i, i < k → bt x i = true) → wX_lowRun_4 post x (nI W) f_regCount f_cap f_all f_n f_analysed f_pending f_a0 f_a1 f_b0 f_b1 f_needA f_needB f_chain f_started a_fop a_fd a_fa a_fb a_at a_k0 a_k1 a_dem a_r0 a_r1 a_next1 a_next2 a_want a_kind a_widths a_inputs a_regs a_pcs a_logs a_counts (m + 1) (nI k) (nI k) := by
    intro m
    induction m with
    | zero =>
      intro k hk h
      obtain rfl : k = W := by omega
      rw [bd_rn_u (Nat.le_refl _) h (fun z => by omega)] at K
      exact br_t (nI_le (Nat.le_refl _) (by omega)) K
    | succ m ih =>
      intro k hk h
      refine br_f (nI_ge (by omega) (by omega)) ?_
      by_cases c : bt x k = true
      · refine br_f (fun g => ?_) (nm_r (nI_1 k) (nm_r (nI_1 k) (ih (k + 1) (by omega) (fun i hi => ?_))))
        · rw [bd_ubt (by omega), c] at g; cases g
        · rcases Nat.lt_or_ge i k with z | z
          · exact h i z
          · rw [show i = k by omega]; exact c
      · have c' : bt x k = false := by simpa using c
        rw [bd_rn_u (t := k) (by omega) h (fun _ => c')] at K
        exact br_t ((bd_ubt (by omega)).mpr c') K
  exact ⟨W + 1, key W 0 (by omega) (fun i hi => by omega)⟩
theorem bd_X_low {post : Int32 → Prop} {k : Nat} (hk : k ≤ 30) (K : post (bd_lo k)) : wpX_low post (f_w, f_regCount, f_cap, f_all, f_n, f_analysed, f_pending, f_a0, f_a1, f_b0, f_b1, f_needA, f_needB, f_chain, f_started, a_fop, a_fd, a_fa, a_fb, a_at, a_k0, a_k1, a_dem, a_r0, a_r1, a_next1, a_next2, a_want, a_kind, a_widths, a_inputs, a_regs, a_pcs, a_logs, a_counts) (nI k) := by
  refine pk_lt 0 k (fun _ => ?_) (fun h => ?_)
  · rw [bd_lo_s k (by omega)]; exact K
  · obtain rfl : k = 0 := by omega
    exact K
theorem bd_X_lowS {post : Int32 → Prop} {k l : Nat} (hk : k ≤ 30) (hl : l ≤ 30) (K : post (bd_lo (k - l))) : wpX_low post (f_w, f_regCount, f_cap, f_all, f_n, f_analysed, f_pending, f_a0, f_a1, f_b0, f_b1, f_needA, f_needB, f_chain, f_started, a_fop, a_fd, a_fa, a_fb, a_at, a_k0, a_k1, a_dem, a_r0, a_r1, a_next1, a_next2, a_want, a_kind, a_widths, a_inputs, a_regs, a_pcs, a_logs, a_counts) (nI k - nI l) := by
  rcases Nat.lt_or_ge k l with z | z
  · rw [show k - l = 0 by omega] at K
    refine br_f (fun h => ?_) K
    have g := pk_sneg (b := l) (by omega) z
    rw [Int32.lt_iff_toInt_lt] at h g
    have e : (0 : Int32).toInt = 0 := rfl
    omega
  · rw [pk_sub z]
    exact bd_X_low (by omega) K
theorem bd_X_ext {post : Int32 → Prop} {b : Nat} {x : Int32} (hW : W ≤ 16) (h1 : 1 ≤ b) (hb : b ≤ W) (K : post (bd_ext W b x)) : wpX_extend post (f_w, f_regCount, f_cap, bd_lo W, f_n, f_analysed, f_pending, f_a0, f_a1, f_b0, f_b1, f_needA, f_needB, f_chain, f_started, a_fop, a_fd, a_fa, a_fb, a_at, a_k0, a_k1, a_dem, a_r0, a_r1, a_next1, a_next2, a_want, a_kind, a_widths, a_inputs, a_regs, a_pcs, a_logs, a_counts) x (nI b) := by
  unfold wpX_extend
  refine bd_X_low (k := b) (by omega) ?_
  refine nm_e ?_
  obtain ⟨j, rfl⟩ : ∃ j, b = j + 1 := ⟨b - 1, by omega⟩
  rw [nI_pred]
  by_cases c : bt x j = true
  · refine br_f (fun h => ?_) (nm_e ?_)
    · rw [bd_ubt (by omega), c] at h; cases h
    · unfold bd_ext at K
      rw [show j + 1 - 1 = j by omega, if_pos c] at K
      exact K
  · refine br_t ((bd_ubt (by omega)).mpr (by simpa using c)) ?_
    unfold bd_ext at K
    rw [show j + 1 - 1 = j by omega, if_neg c] at K
    exact K
theorem bd_X_bin {post : Int32 → Prop} {o : Nat} (ho : o ≤ 10) (K1 : 1 ≤ o → o ≤ 5 → post 1) (K0 : ¬ (1 ≤ o ∧ o ≤ 5) → post 0) : wpX_isBinary post (f_w, f_regCount, f_cap, f_all, f_n, f_analysed, f_pending, f_a0, f_a1, f_b0, f_b1, f_needA, f_needB, f_chain, f_started, a_fop, a_fd, a_fa, a_fb, a_at, a_k0, a_k1, a_dem, a_r0, a_r1, a_next1, a_next2, a_want, a_kind, a_widths, a_inputs, a_regs, a_pcs, a_logs, a_counts) (nI o) :=
  pk_lt o 1 (fun h => K0 (by omega)) (fun h => pk_lt 5 o (fun g => K0 (by omega)) (fun g => K1 (by omega) (by omega)))
theorem bd_X_wr {post : Int32 → Prop} {o : Nat} (ho : o ≤ 10) (K1 : o ≤ 8 → post 1) (K0 : 8 < o → post 0) : wpX_isWriter post (f_w, f_regCount, f_cap, f_all, f_n, f_analysed, f_pending, f_a0, f_a1, f_b0, f_b1, f_needA, f_needB, f_chain, f_started, a_fop, a_fd, a_fa, a_fb, a_at, a_k0, a_k1, a_dem, a_r0, a_r1, a_next1, a_next2, a_want, a_kind, a_widths, a_inputs, a_regs, a_pcs, a_logs, a_counts) (nI o) :=
  pk_lt 8 o (fun h => K0 h) (fun h => K1 h)
theorem bd_X_reg {post : Int32 → Prop} {r : Nat} (hR : R ≤ 4) (hr : r < R) (K : post 1) : wpX_isReg post (f_w, nI R, f_cap, f_all, f_n, f_analysed, f_pending, f_a0, f_a1, f_b0, f_b1, f_needA, f_needB, f_chain, f_started, a_fop, a_fd, a_fa, a_fb, a_at, a_k0, a_k1, a_dem, a_r0, a_r1, a_next1, a_next2, a_want, a_kind, a_widths, a_inputs, a_regs, a_pcs, a_logs, a_counts) (nI r) :=
  br_f (nI_pos (by omega)) (br_f (nI_ge hr (by omega)) K)
end
end
section
/-! ===== the component's forward walk: one slot ===== -/
def bd_XC (N : Nat) (c : Nat → Nat) (fo fd fa fb : Nat → Int32) : Prop := ∀ p, p < N → fo p = nI (bd_op c p) ∧ fd p = nI (bd_d c p) ∧ fa p = nI (bd_a c p) ∧ fb p = nI (bd_b c p)
theorem bd_cl {p : Nat} (h : p < 2147483648) : (nI p).toNatClampNeg = p := nI_clamp h
theorem bd_ix (p r : Nat) : nI p * 4 + nI r = nI (4 * p + r) := by
  rw [show (4 : Int32) = nI 4 from rfl, pk_mul, nI_add, Nat.mul_comm]
theorem bd_iy (p r : Nat) : 4 * nI p + nI r = nI (4 * p + r) := by
  rw [show (4 : Int32) = nI 4 from rfl, pk_mul, nI_add]
theorem bd_fat {f : Nat → Int32} {p : Nat} (h : p < 2147483648) : f (nI p).toNatClampNeg = f p := congrArg f (nI_clamp h)
theorem bd_uat {f : Nat → Int32} {p : Nat} {x y : Int32} (h : p < 2147483648) (e : x = y) : upd f (nI p).toNatClampNeg x = upd f p y := by rw [bd_cl h, e]
theorem bd_uu {f : Nat → Int32} {p : Nat} {x y : Int32} : upd (upd f p x) p y = upd f p y := by
  funext j; unfold upd; split <;> rfl
theorem bd_us' {f : Nat → Int32} {p : Nat} : upd f p (f p) = f := by
  funext j; unfold upd; split
  · rename_i h; rw [h]
  · rfl
def bd_ob (c : Nat → Nat) (p : Nat) (k : Nat → Int32) : Int32 := if 1 ≤ bd_op c p ∧ bd_op c p ≤ 5 then k (4 * p + bd_b c p) else 0
section
variable {W R N C : Nat} {c : Nat → Nat} {p : Nat}
variable {f_w f_regCount f_cap f_all f_n f_analysed f_pending f_a0 f_a1 f_b0 f_b1 f_needA f_needB f_chain f_started : Int32} {a_fop a_fd a_fa a_fb a_at a_k0 a_k1 a_dem a_r0 a_r1 a_next1 a_next2 a_want a_kind a_widths a_inputs a_regs a_pcs a_logs a_counts : Nat → Int32}
theorem bd_X_ld {post : SX → Prop} (hc : bd_XC N c a_fop a_fd a_fa a_fb) (P : bd_PV W R N c) (hN : N ≤ 24) (hR : R ≤ 4) (hp : p < N)
    (K : post (nI W, nI R, nI C, bd_lo W, nI N, f_analysed, f_pending, a_k0 (4 * p + bd_a c p), a_k1 (4 * p + bd_a c p), bd_ob c p a_k0, bd_ob c p a_k1, f_needA, f_needB, f_chain, f_started, a_fop, a_fd, a_fa, a_fb, a_at, a_k0, a_k1, a_dem, a_r0, a_r1, a_next1, a_next2, a_want, a_kind, a_widths, a_inputs, a_regs, a_pcs, a_logs, a_counts)) : wpX_loadOperands post (nI W, nI R, nI C, bd_lo W, nI N, f_analysed, f_pending, f_a0, f_a1, f_b0, f_b1, f_needA, f_needB, f_chain, f_started, a_fop, a_fd, a_fa, a_fb, a_at, a_k0, a_k1, a_dem, a_r0, a_r1, a_next1, a_next2, a_want, a_kind, a_widths, a_inputs, a_regs, a_pcs, a_logs, a_counts) (nI p) := by
  obtain ⟨e1, e2, e3, e4⟩ := hc p hp
  obtain ⟨v1, v2, v3, v4, -⟩ := P p hp
  have h24 : vp_in (nI p) 24 := vp_in_nI (by omega) (by omega)
  refine And.intro h24 (nm_r (e' := nI (4 * p + bd_a c p)) (by rw [bd_cl (by omega), e3, bd_ix]) ⟨vp_in_nI (by omega) (by omega), nm_r (bd_fat (by omega)) ⟨vp_in_nI (by omega) (by omega), nm_r (bd_fat (by omega)) ⟨h24, ?_⟩⟩⟩)
  rw [bd_fat (f := a_fop) (p := p) (by omega), e1]
  unfold bd_ob at K
  refine bd_X_bin v1 (fun h1 h5 => ?_) (fun h => ?_)
  · have v5 := v4 h1 h5
    rw [if_pos ⟨h1, h5⟩, if_pos ⟨h1, h5⟩] at K
    exact br_f (by decide) ⟨h24, nm_r (e' := nI (4 * p + bd_b c p)) (by rw [bd_cl (by omega), e4, bd_ix]) ⟨vp_in_nI (by omega) (by omega), nm_r (bd_fat (by omega)) ⟨vp_in_nI (by omega) (by omega), nm_r (bd_fat (by omega)) K⟩⟩⟩
  · rw [if_neg h, if_neg h] at K
    exact br_t rfl K
theorem bd_X_sr {post : SX → Prop} {x y : Int32} (hp : p < 24) (K : post (f_w, f_regCount, f_cap, f_all, f_n, f_analysed, f_pending, f_a0, f_a1, f_b0, f_b1, f_needA, f_needB, f_chain, f_started, a_fop, a_fd, a_fa, a_fb, a_at, a_k0, a_k1, a_dem, upd a_r0 p (x &&& (y ^^^ (-1))), upd a_r1 p (x &&& y), a_next1, a_next2, a_want, a_kind, a_widths, a_inputs, a_regs, a_pcs, a_logs, a_counts)) : wpX_setResult post (f_w, f_regCount, f_cap, f_all, f_n, f_analysed, f_pending, f_a0, f_a1, f_b0, f_b1, f_needA, f_needB, f_chain, f_started, a_fop, a_fd, a_fa, a_fb, a_at, a_k0, a_k1, a_dem, a_r0, a_r1, a_next1, a_next2, a_want, a_kind, a_widths, a_inputs, a_regs, a_pcs, a_logs, a_counts) (nI p) x y :=
  And.intro (vp_in_nI hp (by omega)) (nm_r (bd_uat (by omega) rfl) ⟨vp_in_nI hp (by omega), nm_r (bd_uat (by omega) rfl) K⟩)
theorem bd_X_sm {post : SX → Prop} {x y : Int32} (hp : p < 24) (K : post (f_w, f_regCount, f_cap, f_all, f_n, f_analysed, f_pending, f_a0, f_a1, f_b0, f_b1, f_needA, f_needB, f_chain, f_started, a_fop, a_fd, a_fa, a_fb, a_at, a_k0, a_k1, a_dem, upd a_r0 p x, upd a_r1 p y, a_next1, a_next2, a_want, a_kind, a_widths, a_inputs, a_regs, a_pcs, a_logs, a_counts)) : wpX_setMasks post (f_w, f_regCount, f_cap, f_all, f_n, f_analysed, f_pending, f_a0, f_a1, f_b0, f_b1, f_needA, f_needB, f_chain, f_started, a_fop, a_fd, a_fa, a_fb, a_at, a_k0, a_k1, a_dem, a_r0, a_r1, a_next1, a_next2, a_want, a_kind, a_widths, a_inputs, a_regs, a_pcs, a_logs, a_counts) (nI p) x y :=
  And.intro (vp_in_nI hp (by omega)) (nm_r (bd_uat (by omega) rfl) ⟨vp_in_nI hp (by omega), nm_r (bd_uat (by omega) rfl) K⟩)
theorem bd_X_mul {post : SX → Prop} {u v : Nat → Int32} (hW : W ≤ 16) (hp : p < 24) (ha : bd_ok W f_a0 f_a1 u) (hb : bd_ok W f_b0 f_b1 v)
    (K : ∀ z o, bd_ok W z o (bd_tr W (bd_rz W 5 (bd_b c p) u v)) → post (nI W, nI R, nI C, bd_lo W, nI N, f_analysed, f_pending, f_a0, f_a1, f_b0, f_b1, f_needA, f_needB, f_chain, f_started, a_fop, a_fd, a_fa, a_fb, a_at, a_k0, a_k1, a_dem, upd a_r0 p z, upd a_r1 p o, a_next1, a_next2, a_want, a_kind, a_widths, a_inputs, a_regs, a_pcs, a_logs, a_counts)) : wpX_mulResult post (nI W, nI R, nI C, bd_lo W, nI N, f_analysed, f_pending, f_a0, f_a1, f_b0, f_b1, f_needA, f_needB, f_chain, f_started, a_fop, a_fd, a_fa, a_fb, a_at, a_k0, a_k1, a_dem, a_r0, a_r1, a_next1, a_next2, a_want, a_kind, a_widths, a_inputs, a_regs, a_pcs, a_logs, a_counts) (nI p) := by
  have l1 := bd_rn_le (bd_p0 u) W
  have l2 := bd_rn_le (bd_p0 v) W
  have l3 := bd_rn_le (bd_p1 u) W
  have l4 := bd_rn_le (bd_p1 v) W
  have fin : ∀ m, m = min (bd_sure W u v) W → wX_mulResult_87 post (nI p) (nI m) (nI W) (nI R) (nI C) (bd_lo W) (nI N) f_analysed f_pending f_a0 f_a1 f_b0 f_b1 f_needA f_needB f_chain f_started a_fop a_fd a_fa a_fb a_at a_k0 a_k1 a_dem a_r0 a_r1 a_next1 a_next2 a_want a_kind a_widths a_inputs a_regs a_pcs a_logs a_counts := by
    intro m hm
    unfold wX_mulResult_87
    refine bd_X_low (k := m) (by omega) ?_
    refine bd_X_sr hp ?_
    rw [hm]
    exact K _ _ (bd_x_mul hW ha hb)
  have cut : ∀ m, m = bd_sure W u v → wX_mulResult_70 post (nI p) (nI m) (nI W) (nI R) (nI C) (bd_lo W) (nI N) f_analysed f_pending f_a0 f_a1 f_b0 f_b1 f_needA f_needB f_chain f_started a_fop a_fd a_fa a_fb a_at a_k0 a_k1 a_dem a_r0 a_r1 a_next1 a_next2 a_want a_kind a_widths a_inputs a_regs a_pcs a_logs a_counts := by
    intro m hm
    have hm' : m ≤ 32 := by rw [hm]; unfold bd_sure; omega
    exact pk_le m W (fun h => fin m (by omega)) (fun h => fin W (by omega))
  unfold wpX_mulResult
  refine bd_X_lr hW ?_
  refine bd_X_lr hW ?_
  refine bd_X_lr hW ?_
  refine bd_X_lr hW ?_
  rw [bd_ok_r0 ha, bd_ok_r0 hb, bd_ok_r1 ha, bd_ok_r1 hb, nI_add, nI_add]
  exact pk_le (bd_rn (bd_p1 v) W + bd_rn (bd_p0 u) W) (bd_rn (bd_p1 u) W + bd_rn (bd_p0 v) W) (fun h => cut _ (by unfold bd_sure; omega)) (fun h => cut _ (by unfold bd_sure; omega))
theorem bd_X_mk {post : SX → Prop} {u v : Nat → Int32} (hc : bd_XC N c a_fop a_fd a_fa a_fb) (P : bd_PV W R N c) (hW : W ≤ 16) (hN : N ≤ 24) (hp : p < N) (h8 : bd_op c p ≤ 8)
    (ha : bd_ok W f_a0 f_a1 u) (hb : 1 ≤ bd_op c p → bd_op c p ≤ 5 → bd_ok W f_b0 f_b1 v)
    (K : ∀ z o, bd_ok W z o (bd_tr W (bd_rz W (bd_op c p) (bd_b c p) u v)) → post (nI W, nI R, nI C, bd_lo W, nI N, f_analysed, f_pending, f_a0, f_a1, f_b0, f_b1, f_needA, f_needB, f_chain, f_started, a_fop, a_fd, a_fa, a_fb, a_at, a_k0, a_k1, a_dem, upd a_r0 p z, upd a_r1 p o, a_next1, a_next2, a_want, a_kind, a_widths, a_inputs, a_regs, a_pcs, a_logs, a_counts)) : wpX_makeResult post (nI W, nI R, nI C, bd_lo W, nI N, f_analysed, f_pending, f_a0, f_a1, f_b0, f_b1, f_needA, f_needB, f_chain, f_started, a_fop, a_fd, a_fa, a_fb, a_at, a_k0, a_k1, a_dem, a_r0, a_r1, a_next1, a_next2, a_want, a_kind, a_widths, a_inputs, a_regs, a_pcs, a_logs, a_counts) (nI p) := by
  obtain ⟨e1, e2, e3, e4⟩ := hc p hp
  obtain ⟨v1, v2, v3, v4, v5, v6, v7, v8, v9⟩ := P p hp
  have hp24 : p < 24 := by omega
  have h24 : vp_in (nI p) 24 := vp_in_nI (by omega) (by omega)
  have sx : bd_op c p = 8 → wpX_sextResult post (nI W, nI R, nI C, bd_lo W, nI N, f_analysed, f_pending, f_a0, f_a1, f_b0, f_b1, f_needA, f_needB, f_chain, f_started, a_fop, a_fd, a_fa, a_fb, a_at, a_k0, a_k1, a_dem, a_r0, a_r1, a_next1, a_next2, a_want, a_kind, a_widths, a_inputs, a_regs, a_pcs, a_logs, a_counts) (nI p) (nI (bd_b c p)) := by
    intro h
    obtain ⟨b1, b2⟩ := v6 h
    unfold wpX_sextResult
    refine bd_X_ext hW b1 b2 ?_
    refine bd_X_ext hW b1 b2 ?_
    refine bd_X_sm hp24 ?_
    have := bd_x_sext (v := v) hW b1 b2 ha
    rw [← h] at this
    exact K _ _ this
  refine And.intro h24 (nm_r (e' := nI (bd_b c p)) ((bd_fat (by omega)).trans e4) ⟨h24, nm_r (e' := nI (bd_op c p)) ((bd_fat (by omega)).trans e1) ?_⟩)
  refine pk_lt (bd_op c p) 0 (fun h => by omega) (fun _ => pk_lt 7 (bd_op c p) (fun h => sx (by omega)) (fun _ => ?_))
  refine pk_eq (bd_op c p) 0 (fun h => ?_) (fun _ => ?_)
  · refine bd_X_sr hp24 ?_
    have := bd_x_set (W := W) (b := bd_b c p) (u := u) (v := v) hW
    rw [← h] at this
    exact K _ _ this
  refine pk_eq (bd_op c p) 1 (fun h => ?_) (fun _ => ?_)
  · refine bd_X_sm hp24 ?_
    have := bd_x_and (b := bd_b c p) ha (hb (by omega) (by omega))
    rw [← h] at this
    exact K _ _ this
  refine pk_eq (bd_op c p) 2 (fun h => ?_) (fun _ => ?_)
  · refine bd_X_sm hp24 ?_
    have := bd_x_or (b := bd_b c p) ha (hb (by omega) (by omega))
    rw [← h] at this
    exact K _ _ this
  refine pk_eq (bd_op c p) 3 (fun h => ?_) (fun _ => ?_)
  · refine bd_X_sr hp24 ?_
    have := bd_x_xor (b := bd_b c p) hW ha (hb (by omega) (by omega))
    rw [← h] at this
    exact K _ _ this
  refine pk_eq (bd_op c p) 4 (fun h => ?_) (fun _ => ?_)
  · unfold wpX_addResult
    intro mA e1 mB e2 my e3 s e4 mu e5 kb e6
    refine bd_X_sr hp24 ?_
    have := bd_x_add (b := bd_b c p) hW ha (hb (by omega) (by omega)) e1 e2 e3 e4 e5 e6
    rw [← h] at this
    exact K _ _ this
  refine pk_eq (bd_op c p) 5 (fun h => ?_) (fun _ => ?_)
  · refine bd_X_mul (c := c) hW hp24 ha (hb (by omega) (by omega)) ?_
    intro z o hk
    rw [← h] at hk
    exact K _ _ hk
  refine pk_eq (bd_op c p) 6 (fun h => ?_) (fun _ => ?_)
  · refine bd_X_sm hp24 ?_
    have := bd_x_shl (v := v) hW (v5 (Or.inl h)) ha
    rw [← h] at this
    exact K _ _ this
  refine pk_eq (bd_op c p) 7 (fun h => ?_) (fun _ => trivial)
  · refine bd_X_sm hp24 ?_
    have := bd_x_shr (v := v) hW (v5 (Or.inr (Or.inl h))) ha
    rw [← h] at this
    exact K _ _ this
theorem bd_X_tg {post : Int32 → Prop} (hc : bd_XC N c a_fop a_fd a_fa a_fb) (P : bd_PV W R N c) (hN : N ≤ 24) (hp : p < N) (K : post (nI (bd_tg N c p))) : wpX_target post (nI W, nI R, nI C, bd_lo W, nI N, f_analysed, f_pending, f_a0, f_a1, f_b0, f_b1, f_needA, f_needB, f_chain, f_started, a_fop, a_fd, a_fa, a_fb, a_at, a_k0, a_k1, a_dem, a_r0, a_r1, a_next1, a_next2, a_want, a_kind, a_widths, a_inputs, a_regs, a_pcs, a_logs, a_counts) (nI p) := by
  obtain ⟨e1, e2, e3, e4⟩ := hc p hp
  obtain ⟨v1, v2, v3, v4, v5, v6, v7, v8, v9⟩ := P p hp
  have h24 : vp_in (nI p) 24 := vp_in_nI (by omega) (by omega)
  refine And.intro h24 ?_
  rw [bd_fat (f := a_fd) (p := p) (by omega), e2]
  unfold bd_tg at K
  refine pk_le N (bd_d c p) (fun h => ?_) (fun h => ?_)
  · rw [if_neg (by omega)] at K; exact K
  · rw [if_pos (by omega)] at K; exact ⟨h24, K⟩
/-- the feasible successors: t1, and t2 (-1: none) -/
def bd_NX (N : Nat) (L : Nat → Prop) (t1 : Nat) (x2 : Int32) : Prop := t1 ≤ N ∧ ((x2 = -1 ∧ ∀ t, L t ↔ t = t1) ∨ ∃ s, s ≤ N ∧ x2 = nI s ∧ ∀ t, L t ↔ t = t1 ∨ t = s)
theorem bd_X_fs {post : SX → Prop} {G : Nat → Nat → Nat → Int32} (hc : bd_XC N c a_fop a_fd a_fa a_fb) (P : bd_PV W R N c) (hW : W ≤ 16) (hN : N ≤ 24) (hp : p < N) (ha : bd_ok W f_a0 f_a1 (G p (bd_a c p)))
    (K : ∀ t1 x2, bd_NX N (bd_lv N c G p) t1 x2 → post (nI W, nI R, nI C, bd_lo W, nI N, f_analysed, f_pending, f_a0, f_a1, f_b0, f_b1, f_needA, f_needB, f_chain, f_started, a_fop, a_fd, a_fa, a_fb, a_at, a_k0, a_k1, a_dem, a_r0, a_r1, upd a_next1 p (nI t1), upd a_next2 p x2, a_want, a_kind, a_widths, a_inputs, a_regs, a_pcs, a_logs, a_counts)) : wpX_findSuccessors post (nI W, nI R, nI C, bd_lo W, nI N, f_analysed, f_pending, f_a0, f_a1, f_b0, f_b1, f_needA, f_needB, f_chain, f_started, a_fop, a_fd, a_fa, a_fb, a_at, a_k0, a_k1, a_dem, a_r0, a_r1, a_next1, a_next2, a_want, a_kind, a_widths, a_inputs, a_regs, a_pcs, a_logs, a_counts) (nI p) := by
  obtain ⟨e1, e2, e3, e4⟩ := hc p hp
  obtain ⟨v1, v2, v3, v4, v5, v6, v7, v8, v9⟩ := P p hp
  have h24 : vp_in (nI p) 24 := vp_in_nI (by omega) (by omega)
  refine And.intro h24 (nm_r (bd_uat (by omega) (nI_1 p)) ⟨h24, nm_r (bd_uat (by omega) rfl) ⟨h24, ?_⟩⟩)
  rw [bd_fat (f := a_fop) (p := p) (by omega), e1]
  refine pk_eq (bd_op c p) 10 (fun h => ?_) (fun h => ?_)
  · have hb := v5 (Or.inr (Or.inr h))
    have hg := bd_ok_i ha hb
    refine ⟨h24, nm_r (e' := (1 : Int32) <<< (nI (bd_b c p) &&& 31)) (by rw [bd_cl (by omega), e4]) ?_⟩
    by_cases z1 : bt f_a1 (bd_b c p) = true
    · have z0 : bt f_a0 (bd_b c p) = false := by
        cases q : bt f_a0 (bd_b c p)
        · rfl
        · exact (ha.2.2.1 _ q z1).elim
      rw [z0, z1] at hg
      refine br_f (fun q => by rw [bd_and1 (by omega), z1] at q; cases q) ?_
      refine bd_X_tg hc P hN hp ⟨h24, nm_r (e' := upd a_next1 p (nI (bd_tg N c p))) (by rw [bd_cl (by omega), bd_uu]) ?_⟩
      refine K _ _ ⟨bd_tg_le _ _ _, Or.inl ⟨rfl, fun t => ⟨fun l => ?_, fun l => Or.inr ⟨l, h, by rw [hg]; decide⟩⟩⟩⟩
      rcases l with l | l
      · exact absurd ⟨h, hg⟩ l.2
      · exact l.1
    · have z1' : bt f_a1 (bd_b c p) = false := by simpa using z1
      refine br_t ((bd_and1 (by omega)).mpr z1') ?_
      by_cases z0 : bt f_a0 (bd_b c p) = true
      · rw [z0, z1'] at hg
        refine br_f (fun q => by rw [bd_and1 (by omega), z0] at q; cases q) ?_
        refine K _ _ ⟨by omega, Or.inl ⟨rfl, fun t => ⟨fun l => ?_, fun l => Or.inl ⟨l, fun q => by rw [hg] at q; exact absurd q.2 (by decide)⟩⟩⟩⟩
        rcases l with l | l
        · exact l.1
        · exact absurd hg l.2.2
      · have z0' : bt f_a0 (bd_b c p) = false := by simpa using z0
        rw [z0', z1'] at hg
        refine br_t ((bd_and1 (by omega)).mpr z0') ?_
        refine bd_X_tg hc P hN hp ⟨h24, nm_r (e' := upd a_next2 p (nI (bd_tg N c p))) (by rw [bd_cl (by omega), bd_uu]) ?_⟩
        refine K _ _ ⟨by omega, Or.inr ⟨_, bd_tg_le _ _ _, rfl, fun t => ⟨fun l => ?_, fun l => ?_⟩⟩⟩
        · rcases l with l | l
          · exact Or.inl l.1
          · exact Or.inr l.1
        · rcases l with l | l
          · exact Or.inl ⟨l, fun q => by rw [hg] at q; exact absurd q.2 (by decide)⟩
          · exact Or.inr ⟨l, h, by rw [hg]; decide⟩
  · refine K _ _ ⟨by omega, Or.inl ⟨rfl, fun t => ⟨fun l => ?_, fun l => Or.inl ⟨l, fun q => h q.1⟩⟩⟩⟩
    rcases l with l | l
    · exact l.1
    · exact absurd l.2.1 h
end
end
section
/-! ===== the component's merge ===== -/
def bd_in (c : Nat → Nat) (p : Nat) (rr k : Nat → Int32) (r : Nat) : Int32 := if bd_op c p ≤ 8 ∧ r = bd_d c p then rr p else k (4 * p + r)
def bd_M (c : Nat → Nat) (p q : Nat) (at' rr k : Nat → Int32) (r : Nat) : Int32 := if at' q = 0 then bd_in c p rr k r else bd_in c p rr k r &&& k (4 * q + r)
section
variable {W R N C : Nat} {c : Nat → Nat} {p q r : Nat}
variable {f_w f_regCount f_cap f_all f_n f_analysed f_pending f_a0 f_a1 f_b0 f_b1 f_needA f_needB f_chain f_started : Int32} {a_fop a_fd a_fa a_fb a_at a_k0 a_k1 a_dem a_r0 a_r1 a_next1 a_next2 a_want a_kind a_widths a_inputs a_regs a_pcs a_logs a_counts : Nat → Int32}
variable {post : SX → Prop} {J : Int32 → Int32 → (Nat → Int32) → (Nat → Int32) → (Nat → Int32) → (Nat → Int32) → (Nat → Int32) → (Nat → Int32) → (Nat → Int32) → (Nat → Int32) → (Nat → Int32) → (Nat → Int32) → (Nat → Int32) → (Nat → Int32) → (Nat → Int32) → (Nat → Int32) → (Nat → Int32) → (Nat → Int32) → (Nat → Int32) → (Nat → Int32) → (Nat → Int32) → (Nat → Int32) → Prop} {x1 x2 x3 x4 x7 x8 : Int32}
theorem bd_X_m183 (hr : r < 4) (hq : q ≤ 24) (K : J x3 (nI (r + 1)) a_fop a_fd a_fa a_fb a_at (upd a_k0 (4 * q + r) x7) (upd a_k1 (4 * q + r) x8) a_dem a_r0 a_r1 a_next1 a_next2 a_want a_kind a_widths a_inputs a_regs a_pcs a_logs a_counts) : wX_merge_183 post J x1 x2 x3 x4 (nI r) x7 x8 (nI (4 * q + r)) f_w f_regCount f_cap f_all f_n f_analysed f_pending f_a0 f_a1 f_b0 f_b1 f_needA f_needB f_chain f_started a_fop a_fd a_fa a_fb a_at a_k0 a_k1 a_dem a_r0 a_r1 a_next1 a_next2 a_want a_kind a_widths a_inputs a_regs a_pcs a_logs a_counts :=
  And.intro (vp_in_nI (by omega) (by omega)) (nm_r (bd_uat (by omega) rfl) ⟨vp_in_nI (by omega) (by omega), nm_r (bd_uat (by omega) rfl) (nm_r (nI_1 r) K)⟩)
theorem bd_X_m157 (hr : r < 4) (hq : q ≤ 24) (K1 : x7 = a_k0 (4 * q + r) ∧ x8 = a_k1 (4 * q + r) → J x3 (nI (r + 1)) a_fop a_fd a_fa a_fb a_at (upd a_k0 (4 * q + r) x7) (upd a_k1 (4 * q + r) x8) a_dem a_r0 a_r1 a_next1 a_next2 a_want a_kind a_widths a_inputs a_regs a_pcs a_logs a_counts) (K2 : ¬ (x7 = a_k0 (4 * q + r) ∧ x8 = a_k1 (4 * q + r)) → J 1 (nI (r + 1)) a_fop a_fd a_fa a_fb a_at (upd a_k0 (4 * q + r) x7) (upd a_k1 (4 * q + r) x8) a_dem a_r0 a_r1 a_next1 a_next2 a_want a_kind a_widths a_inputs a_regs a_pcs a_logs a_counts) : wX_merge_157 post J x1 x2 x3 x4 (nI r) x7 x8 (nI (4 * q + r)) f_w f_regCount f_cap f_all f_n f_analysed f_pending f_a0 f_a1 f_b0 f_b1 f_needA f_needB f_chain f_started a_fop a_fd a_fa a_fb a_at a_k0 a_k1 a_dem a_r0 a_r1 a_next1 a_next2 a_want a_kind a_widths a_inputs a_regs a_pcs a_logs a_counts := by
  have hi : vp_in (nI (4 * q + r)) 100 := vp_in_nI (by omega) (by omega)
  refine And.intro hi ?_
  rw [bd_fat (f := a_k0) (p := 4 * q + r) (by omega), bd_fat (f := a_k1) (p := 4 * q + r) (by omega)]
  refine br_c (fun e1 => ⟨hi, br_c (fun e2 => ?_) (fun e2 => ?_)⟩) (fun e1 => ?_)
  · exact bd_X_m183 hr hq (K1 ⟨e1, e2⟩)
  · exact bd_X_m183 hr hq (K2 fun z => e2 z.2)
  · exact bd_X_m183 hr hq (K2 fun z => e1 z.1)
theorem bd_X_m114 (hr : r < 4) (hq : q ≤ 24) {y7 y8 : Int32} (h7 : y7 = if a_at q = 0 then x7 else x7 &&& a_k0 (4 * q + r)) (h8 : y8 = if a_at q = 0 then x8 else x8 &&& a_k1 (4 * q + r)) (K1 : y7 = a_k0 (4 * q + r) ∧ y8 = a_k1 (4 * q + r) → J x3 (nI (r + 1)) a_fop a_fd a_fa a_fb a_at (upd a_k0 (4 * q + r) y7) (upd a_k1 (4 * q + r) y8) a_dem a_r0 a_r1 a_next1 a_next2 a_want a_kind a_widths a_inputs a_regs a_pcs a_logs a_counts) (K2 : ¬ (y7 = a_k0 (4 * q + r) ∧ y8 = a_k1 (4 * q + r)) → J 1 (nI (r + 1)) a_fop a_fd a_fa a_fb a_at (upd a_k0 (4 * q + r) y7) (upd a_k1 (4 * q + r) y8) a_dem a_r0 a_r1 a_next1 a_next2 a_want a_kind a_widths a_inputs a_regs a_pcs a_logs a_counts) : wX_merge_114 post J x1 (nI q) x3 x4 (nI r) x7 x8 f_w f_regCount f_cap f_all f_n f_analysed f_pending f_a0 f_a1 f_b0 f_b1 f_needA f_needB f_chain f_started a_fop a_fd a_fa a_fb a_at a_k0 a_k1 a_dem a_r0 a_r1 a_next1 a_next2 a_want a_kind a_widths a_inputs a_regs a_pcs a_logs a_counts := by
  have hi : vp_in (nI (4 * q + r)) 100 := vp_in_nI (by omega) (by omega)
  refine nm_r (bd_ix q r) ⟨vp_in_nI (by omega) (by omega), ?_⟩
  rw [bd_fat (f := a_at) (p := q) (by omega)]
  refine br_c (fun e => ?_) (fun e => ⟨hi, nm_r (e' := x7 &&& a_k0 (4 * q + r)) (by rw [bd_cl (by omega)]) ⟨hi, nm_r (e' := x8 &&& a_k1 (4 * q + r)) (by rw [bd_cl (by omega)]) ?_⟩⟩)
  · rw [if_pos e] at h7 h8
    subst h7; subst h8
    exact bd_X_m157 hr hq K1 K2
  · rw [if_neg e] at h7 h8
    subst h7; subst h8
    exact bd_X_m157 hr hq K1 K2
/-- one register of a merge -/
theorem bd_X_m60 (hr : r < 4) (hp : p < 24) (hq : q ≤ 24) {y0 y1 z : Int32} (hz : z = 0 ∨ z = 1) (h7 : y0 = if a_at q = 0 then (if z = 0 then a_k0 (4 * p + r) else a_r0 p) else (if z = 0 then a_k0 (4 * p + r) else a_r0 p) &&& a_k0 (4 * q + r)) (h8 : y1 = if a_at q = 0 then (if z = 0 then a_k1 (4 * p + r) else a_r1 p) else (if z = 0 then a_k1 (4 * p + r) else a_r1 p) &&& a_k1 (4 * q + r)) (K1 : y0 = a_k0 (4 * q + r) ∧ y1 = a_k1 (4 * q + r) → J x3 (nI (r + 1)) a_fop a_fd a_fa a_fb a_at (upd a_k0 (4 * q + r) y0) (upd a_k1 (4 * q + r) y1) a_dem a_r0 a_r1 a_next1 a_next2 a_want a_kind a_widths a_inputs a_regs a_pcs a_logs a_counts) (K2 : ¬ (y0 = a_k0 (4 * q + r) ∧ y1 = a_k1 (4 * q + r)) → J 1 (nI (r + 1)) a_fop a_fd a_fa a_fb a_at (upd a_k0 (4 * q + r) y0) (upd a_k1 (4 * q + r) y1) a_dem a_r0 a_r1 a_next1 a_next2 a_want a_kind a_widths a_inputs a_regs a_pcs a_logs a_counts) : wX_merge_60 post J (nI p) (nI q) x3 x4 (nI r) z f_w f_regCount f_cap f_all f_n f_analysed f_pending f_a0 f_a1 f_b0 f_b1 f_needA f_needB f_chain f_started a_fop a_fd a_fa a_fb a_at a_k0 a_k1 a_dem a_r0 a_r1 a_next1 a_next2 a_want a_kind a_widths a_inputs a_regs a_pcs a_logs a_counts := by
  have hi : vp_in (nI (4 * p + r)) 100 := vp_in_nI (by omega) (by omega)
  have h24 : vp_in (nI p) 24 := vp_in_nI hp (by omega)
  rcases hz with rfl | rfl
  · rw [if_pos rfl] at h7 h8
    refine br_t rfl ?_
    rw [bd_ix, bd_fat (f := a_k0) (p := 4 * p + r) (by omega)]
    refine ⟨hi, br_t rfl ?_⟩
    rw [bd_ix, bd_fat (f := a_k1) (p := 4 * p + r) (by omega)]
    exact ⟨hi, bd_X_m114 hr hq h7 h8 K1 K2⟩
  · rw [if_neg (show ¬ (1 : Int32) = 0 by decide)] at h7 h8
    refine br_f (by decide) ⟨h24, ?_⟩
    rw [bd_fat (f := a_r0) (p := p) (by omega)]
    refine br_f (by decide) ⟨h24, ?_⟩
    rw [bd_fat (f := a_r1) (p := p) (by omega)]
    exact bd_X_m114 hr hq h7 h8 K1 K2
end
section
variable {W R N C : Nat} {c : Nat → Nat} {p q : Nat}
variable {f_w f_regCount f_cap f_all f_n f_analysed f_pending f_a0 f_a1 f_b0 f_b1 f_needA f_needB f_chain f_started : Int32} {a_fop a_fd a_fa a_fb a_at a_k0 a_k1 a_dem a_r0 a_r1 a_next1 a_next2 a_want a_kind a_widths a_inputs a_regs a_pcs a_logs a_counts : Nat → Int32}
/-- a merge changes what is known at q -/
def bd_Mc (R : Nat) (c : Nat → Nat) (p q : Nat) (at' r0 r1 k0 k1 : Nat → Int32) (m : Nat) : Prop := at' q = 0 ∨ ∃ r, r < m ∧ ¬ (bd_M c p q at' r0 k0 r = k0 (4 * q + r) ∧ bd_M c p q at' r1 k1 r = k1 (4 * q + r))
theorem bd_X_mg {post : SX → Prop} (hc : bd_XC N c a_fop a_fd a_fa a_fb) (P : bd_PV W R N c) (hN : N ≤ 24) (hR : R ≤ 4) (hp : p < N) (hq : q ≤ N)
    (K : ∀ k0 k1 pd, (∀ r, r < R → k0 (4 * q + r) = bd_M c p q a_at a_r0 a_k0 r ∧ k1 (4 * q + r) = bd_M c p q a_at a_r1 a_k1 r) → (∀ j, (∀ r, r < R → ¬ j = 4 * q + r) → k0 j = a_k0 j ∧ k1 j = a_k1 j) →
      (bd_Mc R c p q a_at a_r0 a_r1 a_k0 a_k1 R ∧ q < N → pd = f_pending ||| ((1 : Int32) <<< (nI q &&& 31))) → (¬ (bd_Mc R c p q a_at a_r0 a_r1 a_k0 a_k1 R ∧ q < N) → pd = f_pending) →
      post (nI W, nI R, nI C, bd_lo W, nI N, f_analysed, pd, f_a0, f_a1, f_b0, f_b1, f_needA, f_needB, f_chain, f_started, a_fop, a_fd, a_fa, a_fb, upd a_at q 1, k0, k1, a_dem, a_r0, a_r1, a_next1, a_next2, a_want, a_kind, a_widths, a_inputs, a_regs, a_pcs, a_logs, a_counts)) : wpX_merge post (nI W, nI R, nI C, bd_lo W, nI N, f_analysed, f_pending, f_a0, f_a1, f_b0, f_b1, f_needA, f_needB, f_chain, f_started, a_fop, a_fd, a_fa, a_fb, a_at, a_k0, a_k1, a_dem, a_r0, a_r1, a_next1, a_next2, a_want, a_kind, a_widths, a_inputs, a_regs, a_pcs, a_logs, a_counts) (nI p) (nI q) := by
  obtain ⟨e1, e2, e3, e4⟩ := hc p hp
  obtain ⟨v1, v2, v3, v4, v5, v6, v7, v8, v9⟩ := P p hp
  have h24 : vp_in (nI p) 24 := vp_in_nI (by omega) (by omega)
  have h25 : vp_in (nI q) 25 := vp_in_nI (by omega) (by omega)
  have loop : ∀ x4 : Int32, (x4 = 0 ∧ 8 < bd_op c p ∨ x4 = 1 ∧ bd_op c p ≤ 8) → ∀ m r k0 k1 x3, r + m = R → (∀ s, s < r → k0 (4 * q + s) = bd_M c p q a_at a_r0 a_k0 s ∧ k1 (4 * q + s) = bd_M c p q a_at a_r1 a_k1 s) → (∀ j, (∀ s, s < r → ¬ j = 4 * q + s) → k0 j = a_k0 j ∧ k1 j = a_k1 j) →
      (x3 = 0 ∧ ¬ bd_Mc R c p q a_at a_r0 a_r1 a_k0 a_k1 r ∨ x3 = 1 ∧ bd_Mc R c p q a_at a_r0 a_r1 a_k0 a_k1 r) →
      wX_merge_30 post (nI p) (nI q) x4 (nI W) (nI R) (nI C) (bd_lo W) (nI N) f_analysed f_pending f_a0 f_a1 f_b0 f_b1 f_needA f_needB f_chain f_started (m + 1) x3 (nI r) a_fop a_fd a_fa a_fb a_at k0 k1 a_dem a_r0 a_r1 a_next1 a_next2 a_want a_kind a_widths a_inputs a_regs a_pcs a_logs a_counts := by
    intro x4 h4 m
    induction m with
    | zero =>
      intro r k0 k1 x3 hr hk hj h3
      obtain rfl : r = R := by omega
      refine br_t (nI_le (Nat.le_refl _) (by omega)) ⟨h25, nm_r (e' := upd a_at q 1) (bd_uat (by omega) rfl) ?_⟩
      rcases h3 with ⟨rfl, h3⟩ | ⟨rfl, h3⟩
      · exact br_t rfl (K _ _ _ hk hj (fun z => absurd z.1 h3) (fun _ => rfl))
      · refine br_f (by decide) (pk_le N q (fun g => ?_) (fun g => nm_e ?_))
        · exact K _ _ _ hk hj (fun z => by omega) (fun _ => rfl)
        · exact K _ _ _ hk hj (fun _ => rfl) (fun z => absurd ⟨h3, g⟩ z)
    | succ m ih =>
      intro r k0 k1 x3 hr hk hj h3
      have hqr := hj (4 * q + r) (fun s hs => by omega)
      have hpr := hj (4 * p + r) (fun s hs => by omega)
      have nxt : ∀ x3', (x3' = 0 ∧ ¬ bd_Mc R c p q a_at a_r0 a_r1 a_k0 a_k1 (r + 1) ∨ x3' = 1 ∧ bd_Mc R c p q a_at a_r0 a_r1 a_k0 a_k1 (r + 1)) →
          wX_merge_30 post (nI p) (nI q) x4 (nI W) (nI R) (nI C) (bd_lo W) (nI N) f_analysed f_pending f_a0 f_a1 f_b0 f_b1 f_needA f_needB f_chain f_started (m + 1) x3' (nI (r + 1)) a_fop a_fd a_fa a_fb a_at (upd k0 (4 * q + r) (bd_M c p q a_at a_r0 a_k0 r)) (upd k1 (4 * q + r) (bd_M c p q a_at a_r1 a_k1 r)) a_dem a_r0 a_r1 a_next1 a_next2 a_want a_kind a_widths a_inputs a_regs a_pcs a_logs a_counts := by
        intro x3' h3'
        refine ih (r + 1) _ _ x3' (by omega) (fun s hs => ?_) (fun j h => ?_) h3'
        · by_cases e : s = r
          · rw [e]; exact ⟨pk_us, pk_us⟩
          · rw [pk_un (by omega), pk_un (by omega)]; exact hk s (by omega)
        · rw [pk_un (h r (by omega)), pk_un (h r (by omega))]
          exact hj j (fun s hs => h s (by omega))
      have step : ∀ z : Int32, (z = 0 ∧ ¬ (bd_op c p ≤ 8 ∧ r = bd_d c p) ∨ z = 1 ∧ (bd_op c p ≤ 8 ∧ r = bd_d c p)) → wX_merge_60 post (wX_merge_30 post (nI p) (nI q) x4 (nI W) (nI R) (nI C) (bd_lo W) (nI N) f_analysed f_pending f_a0 f_a1 f_b0 f_b1 f_needA f_needB f_chain f_started (m + 1)) (nI p) (nI q) x3 x4 (nI r) z (nI W) (nI R) (nI C) (bd_lo W) (nI N) f_analysed f_pending f_a0 f_a1 f_b0 f_b1 f_needA f_needB f_chain f_started a_fop a_fd a_fa a_fb a_at k0 k1 a_dem a_r0 a_r1 a_next1 a_next2 a_want a_kind a_widths a_inputs a_regs a_pcs a_logs a_counts := by
        intro z hz
        refine bd_X_m60 (y0 := bd_M c p q a_at a_r0 a_k0 r) (y1 := bd_M c p q a_at a_r1 a_k1 r) (by omega) (by omega) (by omega) (hz.imp And.left And.left) ?_ ?_ ?_ ?_
        · unfold bd_M bd_in
          rw [hqr.1, hpr.1]
          rcases hz with ⟨rfl, hz⟩ | ⟨rfl, hz⟩
          · rw [if_neg hz, if_pos rfl]
          · rw [if_pos hz, if_neg (show ¬ (1 : Int32) = 0 by decide)]
        · unfold bd_M bd_in
          rw [hqr.2, hpr.2]
          rcases hz with ⟨rfl, hz⟩ | ⟨rfl, hz⟩
          · rw [if_neg hz, if_pos rfl]
          · rw [if_pos hz, if_neg (show ¬ (1 : Int32) = 0 by decide)]
        · intro h
          rw [hqr.1, hqr.2] at h
          apply nxt
          rcases h3 with ⟨g, h3⟩ | ⟨g, h3⟩
          · refine Or.inl ⟨g, fun z => h3 ?_⟩
            rcases z with z | ⟨s, hs, z⟩
            · exact Or.inl z
            · refine Or.inr ⟨s, ?_, z⟩
              rcases Nat.lt_or_ge s r with y | y
              · exact y
              · rw [show s = r by omega] at z; exact absurd h z
          · refine Or.inr ⟨g, ?_⟩
            rcases h3 with z | ⟨s, hs, z⟩
            · exact Or.inl z
            · exact Or.inr ⟨s, by omega, z⟩
        · intro h
          rw [hqr.1, hqr.2] at h
          exact nxt 1 (Or.inr ⟨rfl, Or.inr ⟨r, by omega, h⟩⟩)
      refine br_f (nI_ge (by omega) (by omega)) ?_
      rcases h4 with ⟨rfl, h4⟩ | ⟨rfl, h4⟩
      · exact br_t rfl (step 0 (Or.inl ⟨rfl, fun z => by omega⟩))
      · refine br_f (by decide) ⟨h24, ?_⟩
        have hd := v3 h4
        refine pk_eq r (bd_d c p) (fun e => ?_) (fun e => ?_) (hy := (bd_fat (by omega)).trans e2)
        · exact step 1 (Or.inr ⟨rfl, h4, e⟩)
        · exact step 0 (Or.inl ⟨rfl, fun z => e z.2⟩)
  have go : ∀ z0 : Int32, (z0 = 0 ∧ ¬ a_at q = 0 ∨ z0 = 1 ∧ a_at q = 0) → wX_merge_14 post (nI p) (nI q) z0 (nI W) (nI R) (nI C) (bd_lo W) (nI N) f_analysed f_pending f_a0 f_a1 f_b0 f_b1 f_needA f_needB f_chain f_started a_fop a_fd a_fa a_fb a_at a_k0 a_k1 a_dem a_r0 a_r1 a_next1 a_next2 a_want a_kind a_widths a_inputs a_regs a_pcs a_logs a_counts := by
    intro z0 hz
    refine And.intro h24 ?_
    rw [bd_fat (f := a_fop) (p := p) (by omega), e1]
    have h3 : (z0 = 0 ∧ ¬ bd_Mc R c p q a_at a_r0 a_r1 a_k0 a_k1 0 ∨ z0 = 1 ∧ bd_Mc R c p q a_at a_r0 a_r1 a_k0 a_k1 0) := by
      rcases hz with ⟨a, b⟩ | ⟨a, b⟩
      · refine Or.inl ⟨a, fun z => ?_⟩
        rcases z with z | ⟨s, hs, -⟩
        · exact b z
        · omega
      · exact Or.inr ⟨a, Or.inl b⟩
    refine bd_X_wr v1 (fun h => ⟨R + 1, ?_⟩) (fun h => ⟨R + 1, ?_⟩)
    · exact loop 1 (Or.inr ⟨rfl, h⟩) R 0 _ _ z0 (by omega) (fun s hs => by omega) (fun j _ => ⟨rfl, rfl⟩) h3
    · exact loop 0 (Or.inl ⟨rfl, h⟩) R 0 _ _ z0 (by omega) (fun s hs => by omega) (fun j _ => ⟨rfl, rfl⟩) h3
  refine And.intro h25 ?_
  rw [bd_fat (f := a_at) (p := q) (by omega)]
  exact br_c (fun h => go 1 (Or.inr ⟨rfl, h⟩)) (fun h => go 0 (Or.inl ⟨rfl, h⟩))
end
end
section
/-! ===== the component's forward invariant ===== -/
def bd_gx (W : Nat) (k0 k1 : Nat → Int32) (p r : Nat) : Nat → Int32 := bd_tr W (bd_en (k0 (4 * p + r)) (k1 (4 * p + r)))
def bd_KO (W : Nat) (k0 k1 : Nat → Int32) : Prop := ∀ j, bd_mk W (k0 j) ∧ bd_mk W (k1 j) ∧ bd_dj (k0 j) (k1 j)
theorem bd_KO_ok {W : Nat} {k0 k1 : Nat → Int32} (h : bd_KO W k0 k1) (p r : Nat) : bd_ok W (k0 (4 * p + r)) (k1 (4 * p + r)) (bd_gx W k0 k1 p r) := ⟨(h _).1, (h _).2.1, (h _).2.2, rfl⟩
theorem bd_gx_3 (W : Nat) (k0 k1 : Nat → Int32) : bd_V3 (bd_gx W k0 k1) := fun _ _ => bd_tr_3 (bd_en_3 _ _)
theorem bd_gx_ge {W : Nat} {k0 k1 : Nat → Int32} {p r i : Nat} (h : W ≤ i) : bd_gx W k0 k1 p r i = 2 := bd_tr_ge h
def bd_St (W R N : Nat) (c : Nat → Nat) (at' : Nat → Int32) (G : Nat → Nat → Nat → Int32) (r0 r1 n1 n2 : Nat → Int32) (p : Nat) : Prop :=
  (bd_op c p ≤ 8 → bd_ok W (r0 p) (r1 p) (bd_res W c G p)) ∧ (∃ t1, n1 p = nI t1 ∧ bd_NX N (bd_lv N c G p) t1 (n2 p)) ∧ ∀ t, bd_lv N c G p t → ¬ at' t = 0 ∧ ∀ r, r < R → ∀ i, bd_le (G t r i) (bd_out W c G p r i)
def bd_XJ (W R N : Nat) (c : Nat → Nat) (x : Nat) (at' k0 k1 r0 r1 n1 n2 : Nat → Int32) (pd : Int32) : Prop :=
  bd_KO W k0 k1 ∧ (∀ j, at' j = 0 ∨ at' j = 1) ∧ bd_Iv W R N c (fun q => ¬ at' q = 0) (bd_gx W k0 k1) ∧ (∀ q, bt pd q = true → q < N ∧ ¬ at' q = 0) ∧
  ∀ p, p < N → ¬ p = x → ¬ at' p = 0 → ¬ bt pd p = true → bd_St W R N c at' (bd_gx W k0 k1) r0 r1 n1 n2 p
def bd_fl (G : Nat → Nat → Nat → Int32) (j : Nat) : Int32 := G (j / 64) (j % 64 / 16) (j % 16)
noncomputable def bd_Ph (W : Nat) (at' k0 k1 : Nat → Int32) (pd : Int32) : Nat := bd_cn (fun q => bt pd q = true) 24 + bd_Ps (fun q => ¬ at' q = 0) (bd_fl (bd_gx W k0 k1))
theorem bd_ok_and {W : Nat} {z o z' o' : Int32} {g g' : Nat → Int32} (h : bd_ok W z o g) (h' : bd_ok W z' o' g') : bd_ok W (z &&& z') (o &&& o') (fun i => bd_m2 (g' i) (g i)) := by
  refine ⟨bd_mk_and h.1, bd_mk_and h.2.1, fun i h1 h2 => ?_, funext fun i => ?_⟩
  · rw [b_and] at h1 h2
    simp only [Bool.and_eq_true] at h1 h2
    exact h.2.2.1 i h1.1 h2.1
  · rcases Nat.lt_or_ge i W with hi | hi
    · rw [bd_tr_lt hi]
      show bd_e3 (bt (z &&& z') i) (bt (o &&& o') i) = bd_m2 (g' i) (g i)
      rw [bd_ok_i h hi, bd_ok_i h' hi, b_and, b_and]
      exact (by decide +kernel : ∀ A B A' B' : Bool, (A = true → B = true → False) → (A' = true → B' = true → False) → bd_e3 (A && A') (B && B') = bd_m2 (bd_e3 A' B') (bd_e3 A B)) _ _ _ _ (h.2.2.1 i) (h'.2.2.1 i)
    · rw [bd_tr_ge hi]
      show 2 = bd_m2 (g' i) (g i)
      rw [← h.2.2.2, ← h'.2.2.2, bd_tr_ge hi, bd_tr_ge hi]; rfl
theorem bd_bit_or {pd : Int32} {q i : Nat} (hq : q < 32) : bt (pd ||| ((1 : Int32) <<< (nI q &&& 31))) i = true ↔ bt pd i = true ∨ i = q := by
  rw [b_or, bd_bit1 hq]; simp
section
variable {W R N : Nat} {c : Nat → Nat} {p q : Nat} {at' k0 k1 r0 r1 n1 n2 k0' k1' : Nat → Int32} {pd pd' : Int32}
theorem bd_M_ok (KO : bd_KO W k0 k1) (hres : bd_op c p ≤ 8 → bd_ok W (r0 p) (r1 p) (bd_res W c (bd_gx W k0 k1) p)) (r : Nat) : bd_ok W (bd_in c p r0 k0 r) (bd_in c p r1 k1 r) (bd_out W c (bd_gx W k0 k1) p r) := by
  unfold bd_in bd_out
  by_cases h : bd_op c p ≤ 8 ∧ r = bd_d c p
  · rw [if_pos h, if_pos h, if_pos h]; exact hres h.1
  · rw [if_neg h, if_neg h, if_neg h]; exact bd_KO_ok KO p r
theorem bd_mgJ (P : bd_PV W R N c) (hW : W ≤ 16) (hR : R ≤ 4) (hN : N ≤ 24) (J : bd_XJ W R N c p at' k0 k1 r0 r1 n1 n2 pd) (hp : p < N) (hF : ¬ at' p = 0) (l : bd_lv N c (bd_gx W k0 k1) p q)
    (hres : bd_op c p ≤ 8 → bd_ok W (r0 p) (r1 p) (bd_res W c (bd_gx W k0 k1) p))
    (h1 : ∀ r, r < R → k0' (4 * q + r) = bd_M c p q at' r0 k0 r ∧ k1' (4 * q + r) = bd_M c p q at' r1 k1 r) (h2 : ∀ j, (∀ r, r < R → ¬ j = 4 * q + r) → k0' j = k0 j ∧ k1' j = k1 j)
    (h3 : bd_Mc R c p q at' r0 r1 k0 k1 R ∧ q < N → pd' = pd ||| ((1 : Int32) <<< (nI q &&& 31))) (h4 : ¬ (bd_Mc R c p q at' r0 r1 k0 k1 R ∧ q < N) → pd' = pd) :
    bd_XJ W R N c p (upd at' q 1) k0' k1' r0 r1 n1 n2 pd' ∧ bd_Ph W (upd at' q 1) k0' k1' pd' ≤ bd_Ph W at' k0 k1 pd ∧ (∀ r, r < R → bd_gx W k0' k1' p r = bd_gx W k0 k1 p r) ∧ (∀ r, r < R → ∀ i, bd_le (bd_gx W k0' k1' q r i) (bd_out W c (bd_gx W k0 k1) p r i)) ∧
    (∀ t, ¬ at' t = 0 → ∀ r, r < R → ∀ i, bd_le (bd_gx W k0' k1' t r i) (bd_gx W k0 k1 t r i)) := by
  obtain ⟨KO, h01, Iv, hpd, hst⟩ := J
  have hq := bd_lv_le hp l
  have V3 := bd_gx_3 W k0 k1
  -- the new masks at q
  have hM : ∀ r, r < R → (at' q = 0 → bd_ok W (k0' (4 * q + r)) (k1' (4 * q + r)) (bd_out W c (bd_gx W k0 k1) p r)) ∧ (¬ at' q = 0 → bd_ok W (k0' (4 * q + r)) (k1' (4 * q + r)) (fun i => bd_m2 (bd_gx W k0 k1 q r i) (bd_out W c (bd_gx W k0 k1) p r i))) := by
    intro r hr
    have e := h1 r hr
    have o := bd_M_ok KO hres r
    refine ⟨fun z => ?_, fun z => ?_⟩
    · rw [e.1, e.2]; unfold bd_M; rw [if_pos z, if_pos z]; exact o
    · rw [e.1, e.2]; unfold bd_M; rw [if_neg z, if_neg z]; exact bd_ok_and o (bd_KO_ok KO q r)
  have hG1 : ∀ r, r < R → at' q = 0 → bd_gx W k0' k1' q r = bd_out W c (bd_gx W k0 k1) p r := fun r hr z => ((hM r hr).1 z).2.2.2
  have hG2 : ∀ r, r < R → ¬ at' q = 0 → ∀ i, bd_gx W k0' k1' q r i = bd_m2 (bd_gx W k0 k1 q r i) (bd_out W c (bd_gx W k0 k1) p r i) := fun r hr z i => congrFun ((hM r hr).2 z).2.2.2 i
  have hGn : ∀ t r, r < 4 → (¬ t = q ∨ R ≤ r) → bd_gx W k0' k1' t r = bd_gx W k0 k1 t r := by
    intro t r hr ht
    have e := h2 (4 * t + r) (fun s hs => by omega)
    unfold bd_gx; rw [e.1, e.2]
  have KO' : bd_KO W k0' k1' := by
    intro j
    by_cases e : ∃ r, r < R ∧ j = 4 * q + r
    · obtain ⟨r, hr, rfl⟩ := e
      by_cases z : at' q = 0
      · exact ⟨((hM r hr).1 z).1, ((hM r hr).1 z).2.1, ((hM r hr).1 z).2.2.1⟩
      · exact ⟨((hM r hr).2 z).1, ((hM r hr).2 z).2.1, ((hM r hr).2 z).2.2.1⟩
    · have e' := h2 j (fun r hr z => e ⟨r, hr, z⟩)
      rw [e'.1, e'.2]; exact KO j
  have hat : ∀ t, ¬ upd at' q 1 t = 0 ↔ ¬ at' t = 0 ∨ t = q := by
    intro t
    by_cases e : t = q
    · rw [e, pk_us]; exact ⟨fun _ => Or.inr rfl, fun _ => by decide⟩
    · rw [pk_un e]; exact ⟨Or.inl, fun z => z.elim id (fun z => absurd z e)⟩
  have hle : ∀ t, ¬ at' t = 0 → ∀ r, r < R → ∀ i, bd_le (bd_gx W k0' k1' t r i) (bd_gx W k0 k1 t r i) := by
    intro t ht r hr i
    by_cases e : t = q
    · subst e
      rw [hG2 r hr ht i]; exact bd_m2_l
    · rw [hGn t r (by omega) (Or.inl e)]; exact bd_le_r _
  have hqo : ∀ r, r < R → ∀ i, bd_le (bd_gx W k0' k1' q r i) (bd_out W c (bd_gx W k0 k1) p r i) := by
    intro r hr i
    by_cases z : at' q = 0
    · rw [hG1 r hr z]; exact bd_le_r _
    · rw [hG2 r hr z i]; exact bd_m2_r
  have hGp : ∀ r, r < R → bd_gx W k0' k1' p r = bd_gx W k0 k1 p r := by
    intro r hr
    by_cases e : p = q
    · subst e
      funext i
      rw [hG2 r hr hF i, bd_out_self l]
      unfold bd_m2; rw [if_pos rfl]
    · exact hGn p r (by omega) (Or.inl e)
  -- nothing changed
  have same : ¬ bd_Mc R c p q at' r0 r1 k0 k1 R → upd at' q 1 = at' ∧ k0' = k0 ∧ k1' = k1 := by
    intro z
    have zq : ¬ at' q = 0 := fun g => z (Or.inl g)
    have zr : ∀ r, r < R → bd_M c p q at' r0 k0 r = k0 (4 * q + r) ∧ bd_M c p q at' r1 k1 r = k1 (4 * q + r) := fun r hr => Classical.byContradiction fun g => z (Or.inr ⟨r, hr, g⟩)
    refine ⟨?_, ?_, ?_⟩
    · have : at' q = 1 := (h01 q).resolve_left zq
      rw [← this]; exact bd_us'
    · funext j
      by_cases e : ∃ r, r < R ∧ j = 4 * q + r
      · obtain ⟨r, hr, rfl⟩ := e
        rw [(h1 r hr).1, (zr r hr).1]
      · exact (h2 j (fun r hr g => e ⟨r, hr, g⟩)).1
    · funext j
      by_cases e : ∃ r, r < R ∧ j = 4 * q + r
      · obtain ⟨r, hr, rfl⟩ := e
        rw [(h1 r hr).2, (zr r hr).2]
      · exact (h2 j (fun r hr g => e ⟨r, hr, g⟩)).2
  have hpd' : ∀ i, bt pd' i = true ↔ bt pd i = true ∨ (i = q ∧ bd_Mc R c p q at' r0 r1 k0 k1 R ∧ q < N) := by
    intro i
    by_cases z : bd_Mc R c p q at' r0 r1 k0 k1 R ∧ q < N
    · rw [h3 z, bd_bit_or (by omega)]
      exact ⟨fun g => g.imp id (fun g => ⟨g, z⟩), fun g => g.imp id (fun g => g.1)⟩
    · rw [h4 z]
      exact ⟨Or.inl, fun g => g.elim id (fun g => absurd g.2 z)⟩
  refine ⟨⟨KO', fun j => ?_, ?_, fun i hi => ?_, fun t ht htp hat' htpd => ?_⟩, ?_, hGp, hqo, hle⟩
  · by_cases e : j = q
    · rw [e, pk_us]; exact Or.inr rfl
    · rw [pk_un e]; exact h01 j
  · exact bd_Iv_step P V3 Iv hp hF l (fun t _ ht => (hat t).mp ht) ((hat 0).mpr (Or.inl Iv.1)) (fun t _ ht r hr => hGn t r (by omega) (Or.inl ht)) (fun ft r hr i => hG2 r hr ft i) (fun ft r hr i => by
      rw [hG1 r hr (Classical.byContradiction ft)])
  · rcases (hpd' i).mp hi with z | z
    · exact ⟨(hpd i z).1, (hat i).mpr (Or.inl (hpd i z).2)⟩
    · exact ⟨by omega, (hat i).mpr (Or.inr z.1)⟩
  · by_cases z : bd_Mc R c p q at' r0 r1 k0 k1 R
    · have tq : ¬ t = q := fun e => htpd ((hpd' t).mpr (Or.inr ⟨e, z, by omega⟩))
      have ft : ¬ at' t = 0 := ((hat t).mp hat').resolve_right tq
      obtain ⟨s1, ⟨t1, s2, s3⟩, s4⟩ := hst t ht htp ft (fun g => htpd ((hpd' t).mpr (Or.inl g)))
      have eG : ∀ r, r < R → bd_gx W k0' k1' t r = bd_gx W k0 k1 t r := fun r hr => hGn t r (by omega) (Or.inl tq)
      have ea := eG _ (P t ht).2.1
      have eu := eG _ (bd_ub_lt P ht)
      have eres : bd_res W c (bd_gx W k0' k1') t = bd_res W c (bd_gx W k0 k1) t := by unfold bd_res; rw [ea, eu]
      have elv : bd_lv N c (bd_gx W k0' k1') t = bd_lv N c (bd_gx W k0 k1) t := by funext x; exact propext (bd_lv_c ea)
      refine ⟨fun g => by rw [eres]; exact s1 g, ⟨t1, s2, by rw [elv]; exact s3⟩, fun x hx => ?_⟩
      rw [elv] at hx
      obtain ⟨g1, g2⟩ := s4 x hx
      refine ⟨(hat x).mpr (Or.inl g1), fun r hr i => bd_le_t (hle x g1 r hr i) ?_⟩
      have eo : bd_out W c (bd_gx W k0' k1') t r = bd_out W c (bd_gx W k0 k1) t r := by unfold bd_out; rw [eres, eG r hr]
      rw [eo]; exact g2 r hr i
    · obtain ⟨e1, e2, e3⟩ := same z
      rw [e1] at hat' ⊢
      rw [e2, e3]
      exact hst t ht htp hat' (fun g => htpd ((hpd' t).mpr (Or.inl g)))
  · by_cases z : bd_Mc R c p q at' r0 r1 k0 k1 R
    · have c1 : bd_cn (fun i => bt pd' i = true) 24 ≤ bd_cn (fun i => bt pd i = true) 24 + 1 := bd_cn_s (a := q) fun i _ hi => ((hpd' i).mp hi).imp id (fun g => g.1)
      have hF' : ∀ t, ¬ at' t = 0 → ¬ upd at' q 1 t = 0 := fun t ht => (hat t).mpr (Or.inl ht)
      have hf : ∀ j, j < 1600 → ¬ at' (j / 64) = 0 → bd_fl (bd_gx W k0 k1) j = 2 → bd_fl (bd_gx W k0' k1') j = 2 := by
        intro j hj fj e
        unfold bd_fl at e ⊢
        rcases Nat.lt_or_ge (j % 64 / 16) R with hr | hr
        · rcases hle _ fj _ hr (j % 16) with g | g
          · exact g
          · rw [g]; exact e
        · rw [hGn _ _ (by omega) (Or.inr hr)]; exact e
      have c2 : bd_Ps (fun t => ¬ upd at' q 1 t = 0) (bd_fl (bd_gx W k0' k1')) < bd_Ps (fun t => ¬ at' t = 0) (bd_fl (bd_gx W k0 k1)) := by
        rcases z with z | ⟨r, hr, z⟩
        · exact bd_Ps_f hF' hf (t := q) (by omega) (fun g => g z) ((hat q).mpr (Or.inr rfl))
        · by_cases zq : at' q = 0
          · exact bd_Ps_f hF' hf (t := q) (by omega) (fun g => g zq) ((hat q).mpr (Or.inr rfl))
          · have ne : ¬ bd_gx W k0' k1' q r = bd_gx W k0 k1 q r := fun g => z (by
              have a := (hM r hr).2 zq
              have b := bd_KO_ok KO q r
              have a' : bd_ok W (k0' (4 * q + r)) (k1' (4 * q + r)) (bd_gx W k0' k1' q r) := bd_KO_ok KO' q r
              rw [g] at a'
              rw [← (h1 r hr).1, ← (h1 r hr).2]
              exact bd_ok_u a' b)
            obtain ⟨i, hi⟩ : ∃ i, ¬ bd_gx W k0' k1' q r i = bd_gx W k0 k1 q r i := Classical.byContradiction fun g => ne (funext fun i => Classical.byContradiction fun k => g ⟨i, k⟩)
            have iw : i < W := by
              rcases Nat.lt_or_ge i W with y | y
              · exact y
              · rw [bd_gx_ge y, bd_gx_ge y] at hi; exact absurd rfl hi
            have y2 : bd_gx W k0' k1' q r i = 2 := (hle q zq r hr i).resolve_right hi
            have n2' : ¬ bd_gx W k0 k1 q r i = 2 := fun g => hi (y2.trans g.symm)
            refine bd_Ps_k hF' hf (j := 64 * q + 16 * r + i) (by omega) ?_ ?_ ?_
            · show ¬ at' ((64 * q + 16 * r + i) / 64) = 0
              rw [show (64 * q + 16 * r + i) / 64 = q by omega]; exact zq
            · unfold bd_fl
              rw [show (64 * q + 16 * r + i) / 64 = q by omega, show (64 * q + 16 * r + i) % 64 / 16 = r by omega, show (64 * q + 16 * r + i) % 16 = i by omega]; exact n2'
            · unfold bd_fl
              rw [show (64 * q + 16 * r + i) / 64 = q by omega, show (64 * q + 16 * r + i) % 64 / 16 = r by omega, show (64 * q + 16 * r + i) % 16 = i by omega]; exact y2
      unfold bd_Ph
      omega
    · obtain ⟨e1, e2, e3⟩ := same z
      rw [h4 (fun g => z g.1), e1, e2, e3]
      exact Nat.le_refl _
end
end
section
/-! ===== the component's forward walk ===== -/
theorem bd_St_of {W R N : Nat} {c : Nat → Nat} {p t1 : Nat} {at' r0 r1 n1 n2 : Nat → Int32} {G G' : Nat → Nat → Nat → Int32} (P : bd_PV W R N c) (hp : p < N) (gp : ∀ r, r < R → G' p r = G p r) (hres : bd_op c p ≤ 8 → bd_ok W (r0 p) (r1 p) (bd_res W c G p)) (e1 : n1 p = nI t1) (hx : bd_NX N (bd_lv N c G p) t1 (n2 p)) (h : ∀ t, bd_lv N c G p t → ¬ at' t = 0 ∧ ∀ r, r < R → ∀ i, bd_le (G' t r i) (bd_out W c G p r i)) : bd_St W R N c at' G' r0 r1 n1 n2 p := by
  have ea := gp _ (P p hp).2.1
  have eu := gp _ (bd_ub_lt P hp)
  have eres : bd_res W c G' p = bd_res W c G p := by unfold bd_res; rw [ea, eu]
  have elv : bd_lv N c G' p = bd_lv N c G p := by funext x; exact propext (bd_lv_c ea)
  refine ⟨fun g => by rw [eres]; exact hres g, ⟨t1, e1, by rw [elv]; exact hx⟩, fun t ht => ?_⟩
  rw [elv] at ht
  refine ⟨(h t ht).1, fun r hr i => ?_⟩
  have eo : bd_out W c G' p r = bd_out W c G p r := by unfold bd_out; rw [eres, gp r hr]
  rw [eo]; exact (h t ht).2 r hr i
theorem bd_XJ_n {W R N : Nat} {c : Nat → Nat} {p : Nat} {at' k0 k1 r0 r1 n1 n2 : Nat → Int32} {pd x y : Int32} (J : bd_XJ W R N c p at' k0 k1 r0 r1 n1 n2 pd) : bd_XJ W R N c p at' k0 k1 r0 r1 (upd n1 p x) (upd n2 p y) pd := by
  obtain ⟨j1, j2, j3, j4, j5⟩ := J
  refine ⟨j1, j2, j3, j4, fun t ht tp ft hpd => ?_⟩
  obtain ⟨s1, ⟨t1, s2, s3⟩, s4⟩ := j5 t ht tp ft hpd
  exact ⟨s1, ⟨t1, by rw [pk_un tp]; exact s2, by rw [pk_un tp]; exact s3⟩, s4⟩
theorem bd_XJ_r {W R N : Nat} {c : Nat → Nat} {p : Nat} {at' k0 k1 r0 r1 n1 n2 : Nat → Int32} {pd x y : Int32} (J : bd_XJ W R N c p at' k0 k1 r0 r1 n1 n2 pd) : bd_XJ W R N c p at' k0 k1 (upd r0 p x) (upd r1 p y) n1 n2 pd := by
  obtain ⟨j1, j2, j3, j4, j5⟩ := J
  refine ⟨j1, j2, j3, j4, fun t ht tp ft hpd => ?_⟩
  obtain ⟨s1, s2, s4⟩ := j5 t ht tp ft hpd
  exact ⟨fun g => by rw [pk_un tp, pk_un tp]; exact s1 g, s2, s4⟩
theorem bd_XJ_f {W R N : Nat} {c : Nat → Nat} {p : Nat} {at' k0 k1 r0 r1 n1 n2 : Nat → Int32} {pd : Int32} (hN : N ≤ 24) (J : bd_XJ W R N c p at' k0 k1 r0 r1 n1 n2 pd) (h : bd_St W R N c at' (bd_gx W k0 k1) r0 r1 n1 n2 p) : bd_XJ W R N c 25 at' k0 k1 r0 r1 n1 n2 pd := by
  obtain ⟨j1, j2, j3, j4, j5⟩ := J
  refine ⟨j1, j2, j3, j4, fun t ht _ ft hpd => ?_⟩
  by_cases e : t = p
  · rw [e]; exact h
  · exact j5 t ht e ft hpd
section
variable {W R N C : Nat} {c : Nat → Nat} {p : Nat}
variable {f_w f_regCount f_cap f_all f_n f_analysed f_pending f_a0 f_a1 f_b0 f_b1 f_needA f_needB f_chain f_started : Int32} {a_fop a_fd a_fa a_fb a_at a_k0 a_k1 a_dem a_r0 a_r1 a_next1 a_next2 a_want a_kind a_widths a_inputs a_regs a_pcs a_logs a_counts : Nat → Int32}
theorem bd_X_ff23 {post : SX → Prop} (hc : bd_XC N c a_fop a_fd a_fa a_fb) (P : bd_PV W R N c) (hW : W ≤ 16) (hN : N ≤ 24) (hR : R ≤ 4) (hp : p < N) (J : bd_XJ W R N c p a_at a_k0 a_k1 a_r0 a_r1 a_next1 a_next2 f_pending) (hF : ¬ a_at p = 0)
    (hres : bd_op c p ≤ 8 → bd_ok W (a_r0 p) (a_r1 p) (bd_res W c (bd_gx W a_k0 a_k1) p)) (ha : bd_ok W f_a0 f_a1 (bd_gx W a_k0 a_k1 p (bd_a c p)))
    (K : ∀ at' k0 k1 n1 n2 pd, bd_XJ W R N c 25 at' k0 k1 a_r0 a_r1 n1 n2 pd → bd_Ph W at' k0 k1 pd ≤ bd_Ph W a_at a_k0 a_k1 f_pending → post (nI W, nI R, nI C, bd_lo W, nI N, f_analysed, pd, f_a0, f_a1, f_b0, f_b1, f_needA, f_needB, f_chain, f_started, a_fop, a_fd, a_fa, a_fb, at', k0, k1, a_dem, a_r0, a_r1, n1, n2, a_want, a_kind, a_widths, a_inputs, a_regs, a_pcs, a_logs, a_counts)) : wX_flowFrom_23 post (nI p) (nI W) (nI R) (nI C) (bd_lo W) (nI N) f_analysed f_pending f_a0 f_a1 f_b0 f_b1 f_needA f_needB f_chain f_started a_fop a_fd a_fa a_fb a_at a_k0 a_k1 a_dem a_r0 a_r1 a_next1 a_next2 a_want a_kind a_widths a_inputs a_regs a_pcs a_logs a_counts := by
  have h24 : vp_in (nI p) 24 := vp_in_nI (by omega) (by omega)
  unfold wX_flowFrom_23
  refine bd_X_fs (G := bd_gx W a_k0 a_k1) hc P hW hN hp ha (fun t1 x2 hx => ?_)
  refine And.intro h24 ?_
  rw [bd_fat (f := upd a_next1 p (nI t1)) (by omega), pk_us]
  have l1 : bd_lv N c (bd_gx W a_k0 a_k1) p t1 := by
    rcases hx.2 with ⟨-, g⟩ | ⟨s, -, -, g⟩
    · exact (g t1).mpr rfl
    · exact (g t1).mpr (Or.inl rfl)
  refine bd_X_mg hc P hN hR hp hx.1 (fun k0 k1 pd m1 m2 m3 m4 => ?_)
  obtain ⟨J2, ph2, gp2, go2, gl2⟩ := bd_mgJ P hW hR hN (bd_XJ_n (x := nI t1) (y := x2) J) hp hF l1 hres m1 m2 m3 m4
  refine And.intro h24 ?_
  rw [bd_fat (f := upd a_next2 p x2) (by omega), pk_us]
  rcases hx with ⟨ht1, ⟨rfl, hl⟩ | ⟨s, hs, rfl, hl⟩⟩
  · refine br_t (by decide) ?_
    refine K _ _ _ _ _ _ (bd_XJ_f hN J2 (bd_St_of P hp gp2 hres pk_us (by rw [pk_us]; exact ⟨ht1, Or.inl ⟨rfl, hl⟩⟩) (fun t ht => ?_))) ph2
    obtain rfl := (hl t).mp ht
    exact ⟨by rw [pk_us]; decide, go2⟩
  · refine br_f (nI_pos (by omega)) ⟨h24, ?_⟩
    have ea := gp2 _ (P p hp).2.1
    have eu := gp2 _ (bd_ub_lt P hp)
    have eres : bd_res W c (bd_gx W k0 k1) p = bd_res W c (bd_gx W a_k0 a_k1) p := by unfold bd_res; rw [ea, eu]
    have l2 : bd_lv N c (bd_gx W k0 k1) p s := (bd_lv_c ea).mpr ((hl s).mpr (Or.inr rfl))
    have hF2 : ¬ upd a_at t1 1 p = 0 := by
      by_cases e : p = t1
      · rw [e, pk_us]; decide
      · rw [pk_un e]; exact hF
    refine bd_X_mg hc P hN hR hp hs (fun k0' k1' pd' m1 m2 m3 m4 => ?_)
    obtain ⟨J3, ph3, gp3, go3, gl3⟩ := bd_mgJ P hW hR hN J2 hp hF2 l2 (fun g => by rw [eres]; exact hres g) m1 m2 m3 m4
    refine K _ _ _ _ _ _ (bd_XJ_f hN J3 (bd_St_of P hp (G := bd_gx W a_k0 a_k1) (fun r hr => (gp3 r hr).trans (gp2 r hr)) hres pk_us (by rw [pk_us]; exact ⟨ht1, Or.inr ⟨s, hs, rfl, hl⟩⟩) (fun t ht => ?_))) (Nat.le_trans ph3 ph2)
    have eo : ∀ r, r < R → bd_out W c (bd_gx W k0 k1) p r = bd_out W c (bd_gx W a_k0 a_k1) p r := fun r hr => by unfold bd_out; rw [eres, gp2 r hr]
    by_cases es : t = s
    · subst es
      exact ⟨by rw [pk_us]; decide, fun r hr i => by rw [← eo r hr]; exact go3 r hr i⟩
    · have et : t = t1 := ((hl t).mp ht).resolve_right es
      subst et
      refine ⟨by rw [pk_un es, pk_us]; decide, fun r hr i => bd_le_t (gl3 t (by rw [pk_us]; decide) r hr i) (go2 r hr i)⟩
theorem bd_X_ff {post : SX → Prop} (hc : bd_XC N c a_fop a_fd a_fa a_fb) (P : bd_PV W R N c) (hW : W ≤ 16) (hN : N ≤ 24) (hR : R ≤ 4) (hp : p < N) (J : bd_XJ W R N c p a_at a_k0 a_k1 a_r0 a_r1 a_next1 a_next2 f_pending) (hF : ¬ a_at p = 0)
    (K : ∀ a0 a1 b0 b1 at' k0 k1 r0 r1 n1 n2 pd, bd_XJ W R N c 25 at' k0 k1 r0 r1 n1 n2 pd → bd_Ph W at' k0 k1 pd ≤ bd_Ph W a_at a_k0 a_k1 f_pending → post (nI W, nI R, nI C, bd_lo W, nI N, f_analysed, pd, a0, a1, b0, b1, f_needA, f_needB, f_chain, f_started, a_fop, a_fd, a_fa, a_fb, at', k0, k1, a_dem, r0, r1, n1, n2, a_want, a_kind, a_widths, a_inputs, a_regs, a_pcs, a_logs, a_counts)) : wpX_flowFrom post (nI W, nI R, nI C, bd_lo W, nI N, f_analysed, f_pending, f_a0, f_a1, f_b0, f_b1, f_needA, f_needB, f_chain, f_started, a_fop, a_fd, a_fa, a_fb, a_at, a_k0, a_k1, a_dem, a_r0, a_r1, a_next1, a_next2, a_want, a_kind, a_widths, a_inputs, a_regs, a_pcs, a_logs, a_counts) (nI p) := by
  obtain ⟨e1, e2, e3, e4⟩ := hc p hp
  obtain ⟨v1, v2, v3, v4, -⟩ := P p hp
  have h24 : vp_in (nI p) 24 := vp_in_nI (by omega) (by omega)
  have ha := bd_KO_ok J.1 p (bd_a c p)
  unfold wpX_flowFrom
  refine bd_X_ld hc P hN hR hp ?_
  refine And.intro h24 ?_
  rw [bd_fat (f := a_fop) (by omega), e1]
  refine bd_X_wr v1 (fun h8 => br_f (by decide) ?_) (fun h9 => br_t rfl ?_)
  · refine bd_X_mk (v := bd_gx W a_k0 a_k1 p (bd_ub c p)) hc P hW hN hp h8 ha (fun h1 h5 => ?_) (fun z o hk => ?_)
    · unfold bd_ob bd_ub
      rw [if_pos ⟨h1, h5⟩, if_pos ⟨h1, h5⟩, if_pos ⟨h1, h5⟩]
      exact bd_KO_ok J.1 p (bd_b c p)
    · exact bd_X_ff23 hc P hW hN hR hp (bd_XJ_r J) hF (fun _ => by rw [pk_us, pk_us]; exact hk) ha (fun at' k0 k1 n1 n2 pd j ph => K _ _ _ _ _ _ _ _ _ _ _ _ j ph)
  · exact bd_X_ff23 hc P hW hN hR hp J hF (fun h => by omega) ha (fun at' k0 k1 n1 n2 pd j ph => K _ _ _ _ _ _ _ _ _ _ _ _ j ph)
end
/-! the lowest waiting point -/
theorem bd_low1 {x : Int32} (h : ¬ x = 0) : ∃ l, l < 32 ∧ bt x l = true ∧ ∀ i, bt (x &&& (-x)) i = decide (i = l) := by
  obtain ⟨k, hk⟩ : ∃ k, bt x k = true := Classical.byContradiction fun g => h (bd_z.mpr fun i => by
    cases e : bt x i
    · rfl
    · exact absurd ⟨i, e⟩ g)
  obtain ⟨l, hl, hm⟩ := pk_least (fun k => bt x k = true) ⟨k, hk⟩
  have l32 : l < 32 := by
    rcases Nat.lt_or_ge l 32 with z | z
    · exact z
    · rw [b_big z] at hl; cases hl
  refine ⟨l, l32, hl, fun i => ?_⟩
  rcases Nat.lt_or_ge i 32 with z | z
  · rw [b_and]
    have e : bt (-x) i = (bt x i ^^ decide (∃ j, j < i ∧ bt x j = true)) := by
      unfold bt
      rw [Int32.toBitVec_neg, BitVec.getLsbD_neg]
      simp [z]
    rw [e]
    rcases Nat.lt_trichotomy i l with g | g | g
    · have : bt x i = false := by simpa using hm i g
      rw [this, decide_eq_false (show ¬ i = l by omega)]; rfl
    · subst g
      rw [hl, decide_eq_false (fun ⟨j, hj, q⟩ => hm j hj q), decide_eq_true rfl]; rfl
    · rw [decide_eq_true ⟨l, g, hl⟩, decide_eq_false (by omega : ¬ i = l)]
      cases bt x i <;> rfl
  · rw [b_big z, decide_eq_false (by omega)]
section
variable {W R N C : Nat} {c : Nat → Nat}
variable {f_w f_regCount f_cap f_all f_n f_analysed f_pending f_a0 f_a1 f_b0 f_b1 f_needA f_needB f_chain f_started : Int32} {a_fop a_fd a_fa a_fb a_at a_k0 a_k1 a_dem a_r0 a_r1 a_next1 a_next2 a_want a_kind a_widths a_inputs a_regs a_pcs a_logs a_counts : Nat → Int32}
theorem bd_X_fl {post : SX → Prop} (hc : bd_XC N c a_fop a_fd a_fa a_fb) (P : bd_PV W R N c) (hW : W ≤ 16) (hN : N ≤ 24) (hR : R ≤ 4)
    (K : ∀ a0 a1 b0 b1 at' k0 k1 r0 r1 n1 n2, bd_XJ W R N c 25 at' k0 k1 r0 r1 n1 n2 0 → post (nI W, nI R, nI C, bd_lo W, nI N, f_analysed, 0, a0, a1, b0, b1, f_needA, f_needB, f_chain, f_started, a_fop, a_fd, a_fa, a_fb, at', k0, k1, a_dem, r0, r1, n1, n2, a_want, a_kind, a_widths, a_inputs, a_regs, a_pcs, a_logs, a_counts)) :
    ∀ m k a0 a1 b0 b1 at' k0 k1 r0 r1 n1 n2 pd, bd_XJ W R N c 25 at' k0 k1 r0 r1 n1 n2 pd → bd_Ph W at' k0 k1 pd ≤ m → k + m < 4000 →
      wX_forward_14 post (m + 1) (nI k) (nI W) (nI R) (nI C) (bd_lo W) (nI N) f_analysed pd a0 a1 b0 b1 f_needA f_needB f_chain f_started a_fop a_fd a_fa a_fb at' k0 k1 a_dem r0 r1 n1 n2 a_want a_kind a_widths a_inputs a_regs a_pcs a_logs a_counts := by
  intro m
  induction m with
  | zero =>
    intro k a0 a1 b0 b1 at' k0 k1 r0 r1 n1 n2 pd J ph hk
    refine br_f (nI_ge (b := 4000) (by omega) (by omega)) ?_
    have e : pd = 0 := by
      refine bd_z.mpr fun i => ?_
      cases g : bt pd i
      · rfl
      · have hi := (J.2.2.2.1 i g).1
        have := bd_cn_lt (P := fun _ => False) (Q := fun q => bt pd q = true) (a := i) (N := 24) (fun z => z) g (fun _ _ z => z.elim) (by omega)
        unfold bd_Ph at ph
        omega
    subst e
    exact br_t rfl (K _ _ _ _ _ _ _ _ _ _ _ J)
  | succ m ih =>
    intro k a0 a1 b0 b1 at' k0 k1 r0 r1 n1 n2 pd J ph hk
    refine br_f (nI_ge (b := 4000) (by omega) (by omega)) ?_
    by_cases e : pd = 0
    · subst e
      exact br_t rfl (K _ _ _ _ _ _ _ _ _ _ _ J)
    · refine br_f e (nm_e ?_)
      obtain ⟨l, l32, hl, hb⟩ := bd_low1 e
      obtain ⟨hlN, hF⟩ := J.2.2.2.1 l hl
      refine bd_X_bl (nm_r (e' := nI l) ?_ (nm_e ?_))
      · rw [bd_bl_u (q := pd &&& -pd) (k := 32) (t := l + 1) (by omega) (fun _ => by rw [hb]; simp) (fun i hi _ => by rw [hb, decide_eq_false (by omega)]), nI_pred]
      · have hb' : ∀ i, bt (pd &&& ((pd &&& -pd) ^^^ (-1))) i = true ↔ bt pd i = true ∧ ¬ i = l := by
          intro i
          rcases Nat.lt_or_ge i 32 with z | z
          · rw [b_and, bd_not _ z, hb]; simp
          · rw [b_big z]
            exact ⟨fun q => (nomatch q), fun q => by rw [b_big z] at q; exact q.1⟩
        have J' : bd_XJ W R N c l at' k0 k1 r0 r1 n1 n2 (pd &&& ((pd &&& -pd) ^^^ (-1))) := by
          obtain ⟨j1, j2, j3, j4, j5⟩ := J
          refine ⟨j1, j2, j3, fun i hi => j4 i ((hb' i).mp hi).1, fun t ht tl ft hpd => j5 t ht (by omega) ft (fun q => hpd ((hb' t).mpr ⟨q, tl⟩))⟩
        have ph' : bd_Ph W at' k0 k1 (pd &&& ((pd &&& -pd) ^^^ (-1))) ≤ m := by
          have := bd_cn_lt (P := fun q => bt (pd &&& ((pd &&& -pd) ^^^ (-1))) q = true) (Q := fun q => bt pd q = true) (a := l) (N := 24) (fun z => ((hb' l).mp z).2 rfl) hl (fun q _ z => ((hb' q).mp z).1) (by omega)
          unfold bd_Ph at ph ⊢
          omega
        refine bd_X_ff hc P hW hN hR hlN J' hF (fun a0 a1 b0 b1 at' k0 k1 r0 r1 n1 n2 pd' J2 ph2 => nm_r (nI_1 k) ?_)
        exact ih (k + 1) _ _ _ _ _ _ _ _ _ _ _ _ J2 (by omega) (by omega)
theorem bd_X_fw {post : SX → Prop} (hc : bd_XC N c a_fop a_fd a_fa a_fb) (P : bd_PV W R N c) (hW : W ≤ 16) (hN : N ≤ 24) (hN0 : 0 < N) (hR : R ≤ 4) (z1 : ∀ j, a_at j = 0) (z2 : ∀ j, a_k0 j = 0) (z3 : ∀ j, a_k1 j = 0)
    (K : ∀ a0 a1 b0 b1 at' k0 k1 r0 r1 n1 n2, bd_XJ W R N c 25 at' k0 k1 r0 r1 n1 n2 0 → post (nI W, nI R, nI C, bd_lo W, nI N, f_analysed, 0, a0, a1, b0, b1, f_needA, f_needB, f_chain, f_started, a_fop, a_fd, a_fa, a_fb, at', k0, k1, a_dem, r0, r1, n1, n2, a_want, a_kind, a_widths, a_inputs, a_regs, a_pcs, a_logs, a_counts)) : wpX_forward post (nI W, nI R, nI C, bd_lo W, nI N, f_analysed, f_pending, f_a0, f_a1, f_b0, f_b1, f_needA, f_needB, f_chain, f_started, a_fop, a_fd, a_fa, a_fb, a_at, a_k0, a_k1, a_dem, a_r0, a_r1, a_next1, a_next2, a_want, a_kind, a_widths, a_inputs, a_regs, a_pcs, a_logs, a_counts) := by
  have g0 : ∀ p r, bd_gx W a_k0 a_k1 p r = fun _ => 2 := fun p r => by unfold bd_gx; rw [z2, z3]; exact (bd_ok00 W).2.2.2
  have hat : ∀ t, ¬ upd a_at 0 1 t = 0 ↔ t = 0 := by
    intro t
    by_cases e : t = 0
    · rw [e, pk_us]; exact ⟨fun _ => rfl, fun _ => by decide⟩
    · rw [pk_un e, z1]; exact ⟨fun q => absurd rfl q, fun q => absurd q e⟩
  have J : bd_XJ W R N c 25 (upd a_at 0 1) a_k0 a_k1 a_r0 a_r1 a_next1 a_next2 1 := by
    refine ⟨fun j => by rw [z2, z3]; exact ⟨(bd_ok00 W).1, (bd_ok00 W).2.1, (bd_ok00 W).2.2.1⟩, fun j => ?_, ⟨(hat 0).mpr rfl, fun r _ => g0 0 r, fun S V _ Kc p hp fp => ?_⟩, fun q hq => ?_, fun p hp _ fp hpd => ?_⟩
    · by_cases e : j = 0
      · rw [e, pk_us]; exact Or.inr rfl
      · rw [pk_un e]; exact Or.inl (z1 j)
    · obtain rfl := (hat p).mp fp
      exact ⟨Kc.1, fun r hr i => Or.inl (by rw [Kc.2.1 r hr])⟩
    · rw [bd_b1] at hq
      have : q = 0 := by simpa using hq
      rw [this]; exact ⟨hN0, (hat 0).mpr rfl⟩
    · obtain rfl := (hat p).mp fp
      exact absurd (by rw [bd_b1]; rfl) hpd
  have ph : bd_Ph W (upd a_at 0 1) a_k0 a_k1 1 ≤ 1649 := by
    have := bd_cn_le (fun q => bt 1 q = true) 24
    have := bd_Ps_le (fun q => ¬ upd a_at 0 1 q = 0) (bd_fl (bd_gx W a_k0 a_k1))
    unfold bd_Ph; omega
  exact nm_e ⟨1650, bd_X_fl hc P hW hN hR K 1649 0 _ _ _ _ _ _ _ _ _ _ _ _ J ph (by omega)⟩
end
end
section
/-! ===== what a decision is, and the masks of the component's decision ===== -/
def bd_Dec (W op b : Nat) (u v : Nat → Int32) (q k nA nB : Int32) : Prop := bd_KD W op b u v q k ∧ (∀ i, bt nA i = true ↔ bd_NA W op b u v q i) ∧ (∀ i, bt nB i = true ↔ bd_NB W op b u v q i)
theorem bd_f0 {i : Nat} {P : Prop} (h : ¬ P) : bt 0 i = true ↔ P := ⟨(fun z => by rw [b_0] at z; cases z), fun z => absurd z h⟩
section
variable {W op b : Nat} {u v : Nat → Int32} {q nA nB : Int32}
theorem bd_D_drop (h8 : op ≤ 8) (h : q = 0) : bd_Dec W op b u v q 1 0 0 := by
  refine ⟨Or.inr (Or.inr (Or.inr (Or.inl ⟨h8, h, rfl⟩))), fun i => bd_f0 ?_, fun i => bd_f0 fun z => z.2.1 h⟩
  rintro (z | z | z)
  · omega
  · omega
  · exact z.2.1 h
theorem bd_D_const (h8 : op ≤ 8) (h : ¬ q = 0) (ha : bd_al W op b u v q) : bd_Dec W op b u v q 2 0 0 := by
  refine ⟨Or.inr (Or.inr (Or.inr (Or.inr (Or.inl ⟨h8, h, ha, rfl⟩)))), fun i => bd_f0 ?_, fun i => bd_f0 fun z => z.2.2.1 ha⟩
  rintro (z | z | z)
  · omega
  · omega
  · exact z.2.2.1 ha
theorem bd_D_cA (h8 : op ≤ 8) (h : ¬ q = 0) (ha : ¬ bd_al W op b u v q) (hA : bd_cA W op b u v q) : bd_Dec W op b u v q 3 q 0 := by
  refine ⟨Or.inr (Or.inr (Or.inr (Or.inr (Or.inr (Or.inl ⟨h8, h, ha, hA, rfl⟩))))), fun i => ⟨fun z => Or.inr (Or.inr ⟨h8, h, ha, Or.inl ⟨hA, z⟩⟩), ?_⟩, fun i => bd_f0 fun z => z.2.2.2.1 hA⟩
  rintro (z | z | z)
  · omega
  · omega
  · rcases z.2.2.2 with z | z
    · exact z.2
    · exact absurd hA z.1
theorem bd_D_cB (h8 : op ≤ 8) (h : ¬ q = 0) (ha : ¬ bd_al W op b u v q) (hA : ¬ bd_cA W op b u v q) (hB : bd_cB W op u v q) : bd_Dec W op b u v q 4 0 q := by
  refine ⟨Or.inr (Or.inr (Or.inr (Or.inr (Or.inr (Or.inr (Or.inl ⟨h8, h, ha, hA, hB, rfl⟩)))))), fun i => bd_f0 ?_, fun i => ⟨fun z => ⟨h8, h, ha, hA, Or.inl ⟨hB, z⟩⟩, fun z => ?_⟩⟩
  · rintro (z | z | z)
    · omega
    · omega
    · rcases z.2.2.2 with z | z
      · exact hA z.1
      · exact z.2.1 hB
  · rcases z.2.2.2.2 with z | z
    · exact z.2
    · exact absurd hB z.1
theorem bd_D_keep (h8 : op ≤ 8) (h : ¬ q = 0) (ha : ¬ bd_al W op b u v q) (hA : ¬ bd_cA W op b u v q) (hB : ¬ bd_cB W op u v q) (fa : ∀ i, bt nA i = true ↔ bd_fA W op b u v q i) (fb : ∀ i, bt nB i = true ↔ bd_fB W op u v q i) : bd_Dec W op b u v q 0 nA nB := by
  refine ⟨Or.inr (Or.inr (Or.inr (Or.inr (Or.inr (Or.inr (Or.inr ⟨h8, h, ha, hA, hB, rfl⟩)))))), fun i => ⟨fun z => Or.inr (Or.inr ⟨h8, h, ha, Or.inr ⟨hA, hB, (fa i).mp z⟩⟩), ?_⟩, fun i => ⟨fun z => ⟨h8, h, ha, hA, Or.inr ⟨hB, (fb i).mp z⟩⟩, fun z => ?_⟩⟩
  · rintro (z | z | z)
    · omega
    · omega
    · rcases z.2.2.2 with z | z
      · exact absurd z.1 hA
      · exact (fa i).mpr z.2.2
  · rcases z.2.2.2.2 with z | z
    · exact absurd z.1 hB
    · exact (fb i).mpr z.2
theorem bd_D_out (h : op = 9) (hb : b < 65536) : bd_Dec W op b u v q 0 (nI b) 0 := by
  refine ⟨Or.inl ⟨h, rfl⟩, fun i => ?_, fun i => bd_f0 fun z => by have := z.1; omega⟩
  have e : bt (nI b) i = b.testBit i := by
    rcases Nat.lt_or_ge i 32 with z | z
    · exact bd_nb z
    · rw [b_big z, Nat.testBit_lt_two_pow (Nat.lt_of_lt_of_le (show b < 2 ^ 32 by omega) (Nat.pow_le_pow_right (by omega) z))]
  rw [e]
  refine ⟨fun z => Or.inl ⟨h, z⟩, ?_⟩
  rintro (z | z | z)
  · exact z.2
  · omega
  · omega
theorem bd_D_jk (h : op = 10) (hb : b < 32) (hu : u b = 2) : bd_Dec W op b u v q 0 ((1 : Int32) <<< (nI b &&& 31)) 0 := by
  refine ⟨Or.inr (Or.inl ⟨h, hu, rfl⟩), fun i => ?_, fun i => bd_f0 fun z => by have := z.1; omega⟩
  rw [bd_bit1 hb, decide_eq_true_eq]
  refine ⟨fun z => Or.inr (Or.inl ⟨h, hu, z⟩), ?_⟩
  rintro (z | z | z)
  · omega
  · exact z.2.2
  · omega
theorem bd_D_jc (h : op = 10) (hu : ¬ u b = 2) : bd_Dec W op b u v q 2 0 0 := by
  refine ⟨Or.inr (Or.inr (Or.inl ⟨h, hu, rfl⟩)), fun i => bd_f0 ?_, fun i => bd_f0 fun z => by have := z.1; omega⟩
  rintro (z | z | z)
  · omega
  · exact hu z.2.1
  · omega
theorem bd_us_n (h : ¬ op = 4) (i : Nat) : bd_us W op u v q i = bt q i := by unfold bd_us; rw [decide_eq_false h]; simp
theorem bd_al_set (h : op = 0) : bd_al W op b u v q := by
  intro i _ _
  unfold bd_rz
  rw [if_pos h]
  cases b.testBit i <;> decide
end
/-- x without the bits of y is empty -/
theorem bd_an {W : Nat} (hW : W ≤ 16) {x y : Int32} (mx : bd_mk W x) : (x &&& (y ^^^ (-1))) = 0 ↔ ∀ i, i < W → bt x i = true → bt y i = true := by
  rw [bd_z]
  constructor
  · intro h i hi hx
    have := h i
    rw [b_and, bd_not y (by omega), hx] at this
    simpa using this
  · intro h i
    rcases Nat.lt_or_ge i W with z | z
    · rw [b_and, bd_not y (by omega)]
      cases e : bt x i
      · rfl
      · rw [h i z e]; rfl
    · rw [b_and, mx i z]; rfl
theorem bd_al_x {W op b : Nat} (hW : W ≤ 16) {u v : Nat → Int32} {q r0 r1 : Int32} (mq : bd_mk W q) (h : bd_ok W r0 r1 (bd_tr W (bd_rz W op b u v))) : (q &&& ((r0 ||| r1) ^^^ (-1))) = 0 ↔ bd_al W op b u v q := by
  rw [bd_an hW mq]
  have e : ∀ i, i < W → (bt (r0 ||| r1) i = true ↔ ¬ bd_rz W op b u v i = 2) := by
    intro i hi
    have g := bd_ok_i h hi
    rw [bd_tr_lt hi] at g
    rw [g, bd_e3_2, b_or]
    cases bt r0 i <;> cases bt r1 i <;> simp
  exact ⟨fun g i hi z => (e i hi).mp (g i hi z), fun g i hi z => (e i hi).mpr (g i hi z)⟩
def bd_cS (W : Nat) (q S : Int32) : Nat → Bool
  | 0 => false
  | k + 1 => bt q (W - 1 - k) || (bd_cS W q S k && !bt S (W - 1 - k))
def bd_Chn (W : Nat) (q S x : Int32) : Prop := ∀ i, bt x i = (decide (i < W) && (bt q i || bd_cS W q S (W - 1 - i)))
theorem bd_cS_ch {W : Nat} {q S : Int32} {u v : Nat → Int32} (h : ∀ i, i < W → bt S i = bd_sm (u i) (v i)) : ∀ k, k ≤ W → bd_cS W q S k = bd_ch W u v q k
  | 0, _ => rfl
  | k + 1, hk => by
    unfold bd_cS bd_ch
    rw [bd_cS_ch h k (by omega), h _ (by omega)]
theorem bd_Chn_us {W : Nat} {a0 a1 b0 b1 q x : Int32} {u v : Nat → Int32} (ha : bd_ok W a0 a1 u) (hb : bd_ok W b0 b1 v) (h : bd_Chn W q ((a0 &&& b0) ||| (a1 &&& b1)) x) {i : Nat} (hi : i < W) : bt x i = bd_us W 4 u v q i := by
  rw [h i, decide_eq_true hi, Bool.true_and]
  unfold bd_us
  rw [bd_cS_ch (u := u) (v := v) (fun j hj => ?_) _ (by omega)]
  · rfl
  · rw [bd_ok_i ha hj, bd_ok_i hb hj, b_or, b_and, b_and]
    exact (by decide +kernel : ∀ A B A' B' : Bool, (A = true → B = true → False) → (A' = true → B' = true → False) → ((A && A') || (B && B')) = bd_sm (bd_e3 A B) (bd_e3 A' B')) _ _ _ _ (ha.2.2.1 j) (hb.2.2.1 j)
theorem bd_Chn_mk {W : Nat} {q S x : Int32} (h : bd_Chn W q S x) : bd_mk W x := fun i hi => by rw [h i, decide_eq_false (by omega)]; rfl
/-- the copy tests by masks -/
theorem bd_gA {W op b : Nat} (hW : W ≤ 16) {a0 a1 b0 b1 q ch : Int32} {u v : Nat → Int32} (mq : bd_mk W q) (ha : bd_ok W a0 a1 u) (hb : bd_ok W b0 b1 v) (hc : bd_Chn W q ((a0 &&& b0) ||| (a1 &&& b1)) ch) :
    (op = 1 → ((q &&& ((b1 ||| a0) ^^^ (-1))) = 0 ↔ bd_cA W op b u v q)) ∧ (op = 2 → ((q &&& ((b0 ||| a1) ^^^ (-1))) = 0 ↔ bd_cA W op b u v q)) ∧ (op = 3 → ((q &&& (b0 ^^^ (-1))) = 0 ↔ bd_cA W op b u v q)) ∧ (op = 4 → ((ch &&& (b0 ^^^ (-1))) = 0 ↔ bd_cA W op b u v q)) := by
  have key : ∀ x y : Int32, op ≤ 4 → (∀ i, i < W → (bt y i = true ↔ bd_us W op u v q i = true)) → (∀ i, i < W → (bt x i = true ↔ (v i = bd_ee op ∨ u i = bd_oo op))) → ((∀ i, i < W → bt y i = true → bt x i = true) ↔ bd_cA W op b u v q) := by
    intro x y h4 hy h
    unfold bd_cA bd_kA
    constructor
    · intro g i hi z
      rw [if_pos h4, decide_eq_true_eq]; exact (h i hi).mp (g i hi ((hy i hi).mpr z))
    · intro g i hi z
      have := g i hi ((hy i hi).mp z)
      rw [if_pos h4, decide_eq_true_eq] at this
      exact (h i hi).mpr this
  have n3 : ∀ i, ¬ u i = 3 := fun i e => by
    have := bd_ok_3 ha i
    rw [e] at this
    rcases this with z | z | z <;> exact absurd z (by decide)
  refine ⟨fun e => ?_, fun e => ?_, fun e => ?_, fun e => ?_⟩
  · subst e
    rw [bd_an hW mq]
    refine key _ _ (by omega) (fun i hi => by rw [bd_us_n (by omega)]) (fun i hi => ?_)
    rw [b_or, bd_ok_i ha hi, bd_ok_i hb hi]
    show _ ↔ (_ = (1 : Int32) ∨ _ = (0 : Int32))
    rw [bd_e3_1 (hb.2.2.1 i), bd_e3_0, Bool.or_eq_true]
  · subst e
    rw [bd_an hW mq]
    refine key _ _ (by omega) (fun i hi => by rw [bd_us_n (by omega)]) (fun i hi => ?_)
    rw [b_or, bd_ok_i ha hi, bd_ok_i hb hi]
    show _ ↔ (_ = (0 : Int32) ∨ _ = (1 : Int32))
    rw [bd_e3_1 (ha.2.2.1 i), bd_e3_0, Bool.or_eq_true]
  · subst e
    rw [bd_an hW mq]
    refine key _ _ (by omega) (fun i hi => by rw [bd_us_n (by omega)]) (fun i hi => ?_)
    show _ ↔ (v i = (0 : Int32) ∨ u i = (3 : Int32))
    rw [bd_ok_i hb hi, bd_e3_0]
    exact ⟨Or.inl, fun z => z.elim id (fun z => absurd z (n3 i))⟩
  · subst e
    rw [bd_an hW (bd_Chn_mk hc)]
    refine key _ _ (by omega) (fun i hi => by rw [bd_Chn_us ha hb hc hi]) (fun i hi => ?_)
    show _ ↔ (v i = (0 : Int32) ∨ u i = (3 : Int32))
    rw [bd_ok_i hb hi, bd_e3_0]
    exact ⟨Or.inl, fun z => z.elim id (fun z => absurd z (n3 i))⟩
theorem bd_gB {W op : Nat} (hW : W ≤ 16) {a0 a1 b0 b1 q ch : Int32} {u v : Nat → Int32} (mq : bd_mk W q) (ha : bd_ok W a0 a1 u) (hb : bd_ok W b0 b1 v) (hc : bd_Chn W q ((a0 &&& b0) ||| (a1 &&& b1)) ch) :
    (op = 1 → ((q &&& ((a1 ||| b0) ^^^ (-1))) = 0 ↔ bd_cB W op u v q)) ∧ (op = 2 → ((q &&& ((a0 ||| b1) ^^^ (-1))) = 0 ↔ bd_cB W op u v q)) ∧ (op = 3 → ((q &&& (a0 ^^^ (-1))) = 0 ↔ bd_cB W op u v q)) ∧ (op = 4 → ((ch &&& (a0 ^^^ (-1))) = 0 ↔ bd_cB W op u v q)) := by
  have key : ∀ x y : Int32, op ≤ 4 → (∀ i, i < W → (bt y i = true ↔ bd_us W op u v q i = true)) → (∀ i, i < W → (bt x i = true ↔ (u i = bd_ee op ∨ v i = bd_oo op))) → ((∀ i, i < W → bt y i = true → bt x i = true) ↔ bd_cB W op u v q) := by
    intro x y h4 hy h
    unfold bd_cB bd_kB
    constructor
    · intro g
      refine ⟨h4, fun i hi z => ?_⟩
      rw [decide_eq_true_eq]; exact (h i hi).mp (g i hi ((hy i hi).mpr z))
    · intro g i hi z
      have := g.2 i hi ((hy i hi).mp z)
      rw [decide_eq_true_eq] at this
      exact (h i hi).mpr this
  have n3 : ∀ i, ¬ v i = 3 := fun i e => by
    have := bd_ok_3 hb i
    rw [e] at this
    rcases this with z | z | z <;> exact absurd z (by decide)
  refine ⟨fun e => ?_, fun e => ?_, fun e => ?_, fun e => ?_⟩
  · subst e
    rw [bd_an hW mq]
    refine key _ _ (by omega) (fun i hi => by rw [bd_us_n (by omega)]) (fun i hi => ?_)
    rw [b_or, bd_ok_i ha hi, bd_ok_i hb hi]
    show _ ↔ (_ = (1 : Int32) ∨ _ = (0 : Int32))
    rw [bd_e3_1 (ha.2.2.1 i), bd_e3_0, Bool.or_eq_true]
  · subst e
    rw [bd_an hW mq]
    refine key _ _ (by omega) (fun i hi => by rw [bd_us_n (by omega)]) (fun i hi => ?_)
    rw [b_or, bd_ok_i ha hi, bd_ok_i hb hi]
    show _ ↔ (_ = (0 : Int32) ∨ _ = (1 : Int32))
    rw [bd_e3_1 (hb.2.2.1 i), bd_e3_0, Bool.or_eq_true]
  · subst e
    rw [bd_an hW mq]
    refine key _ _ (by omega) (fun i hi => by rw [bd_us_n (by omega)]) (fun i hi => ?_)
    show _ ↔ (u i = (0 : Int32) ∨ v i = (3 : Int32))
    rw [bd_ok_i ha hi, bd_e3_0]
    exact ⟨Or.inl, fun z => z.elim id (fun z => absurd z (n3 i))⟩
  · subst e
    rw [bd_an hW (bd_Chn_mk hc)]
    refine key _ _ (by omega) (fun i hi => by rw [bd_Chn_us ha hb hc hi]) (fun i hi => ?_)
    show _ ↔ (u i = (0 : Int32) ∨ v i = (3 : Int32))
    rw [bd_ok_i ha hi, bd_e3_0]
    exact ⟨Or.inl, fun z => z.elim id (fun z => absurd z (n3 i))⟩
end
section
/-! ===== the full needs by masks ===== -/
section
variable {W op b : Nat} {u v : Nat → Int32} {q : Int32}
theorem bd_fA4 (h : op ≤ 4) {i : Nat} : bd_fA W op b u v q i ↔ (i < W ∧ bd_us W op u v q i = true ∧ (¬ v i = bd_oo op ∨ u i = bd_oo op)) := by
  constructor
  · rintro (z | z | z | z | z)
    · omega
    · omega
    · omega
    · omega
    · exact z.2
  · intro z; exact Or.inr (Or.inr (Or.inr (Or.inr ⟨h, z⟩)))
theorem bd_fB4 (h : op ≤ 4) {i : Nat} : bd_fB W op u v q i ↔ (i < W ∧ bd_us W op u v q i = true ∧ (¬ u i = bd_oo op ∨ v i = bd_oo op)) := by
  constructor
  · rintro (z | z)
    · omega
    · exact z.2
  · intro z; exact Or.inr ⟨h, z⟩
theorem bd_fB6 (h : 6 ≤ op) {i : Nat} : ¬ bd_fB W op u v q i := by
  rintro (z | z) <;> omega
theorem bd_fA5 (h : op = 5) {i : Nat} : bd_fA W op b u v q i ↔ i < bd_bl q W - bd_dA W u v := by
  constructor
  · rintro (z | z | z | z | z)
    · exact z.2
    · omega
    · omega
    · omega
    · omega
  · intro z; exact Or.inl ⟨h, z⟩
theorem bd_fB5 (h : op = 5) {i : Nat} : bd_fB W op u v q i ↔ i < bd_bl q W - bd_dB W u v := by
  constructor
  · rintro (z | z)
    · exact z.2
    · omega
  · intro z; exact Or.inl ⟨h, z⟩
theorem bd_fA6 (h : op = 6) {i : Nat} : bd_fA W op b u v q i ↔ bt q (i + b) = true := by
  constructor
  · rintro (z | z | z | z | z)
    · omega
    · exact z.2
    · omega
    · omega
    · omega
  · intro z; exact Or.inr (Or.inl ⟨h, z⟩)
theorem bd_fA7 (h : op = 7) {i : Nat} : bd_fA W op b u v q i ↔ (b ≤ i ∧ i < W ∧ bt q (i - b) = true) := by
  constructor
  · rintro (z | z | z | z | z)
    · omega
    · omega
    · exact z.2
    · omega
    · omega
  · intro z; exact Or.inr (Or.inr (Or.inl ⟨h, z⟩))
theorem bd_fA8 (h : op = 8) {i : Nat} : bd_fA W op b u v q i ↔ ((i < b ∧ bt q i = true) ∨ (i + 1 = b ∧ ∃ j, b ≤ j ∧ bt q j = true)) := by
  constructor
  · rintro (z | z | z | z | z)
    · omega
    · omega
    · omega
    · exact z.2
    · omega
  · intro z; exact Or.inr (Or.inr (Or.inr (Or.inl ⟨h, z⟩)))
theorem bd_mk_lt {W i : Nat} {q : Int32} (m : bd_mk W q) (h : bt q i = true) : i < W := by
  rcases Nat.lt_or_ge i W with z | z
  · exact z
  · rw [m i z] at h; cases h
variable {a0 a1 b0 b1 ch : Int32}
theorem bd_n3 {g : Nat → Int32} (h : bd_T3 g) (i : Nat) : ¬ g i = 3 := fun e => by
  have := h i
  rw [e] at this
  rcases this with z | z | z <;> exact absurd z (by decide)
theorem bd_xA1 (hW : W ≤ 16) (mq : bd_mk W q) (ha : bd_ok W a0 a1 u) (hb : bd_ok W b0 b1 v) (h : op = 1) (i : Nat) : bt (q &&& ((b0 &&& (a0 ^^^ (-1))) ^^^ (-1))) i = true ↔ bd_fA W op b u v q i := by
  rw [bd_fA4 (by omega)]
  rcases Nat.lt_or_ge i W with hi | hi
  · rw [b_and, bd_not _ (by omega), b_and, bd_not _ (by omega), bd_us_n (by omega), bd_ok_i ha hi, bd_ok_i hb hi, h]
    show _ ↔ (_ ∧ _ ∧ (¬ _ = (0 : Int32) ∨ _ = (0 : Int32)))
    rw [bd_e3_0, bd_e3_0]
    cases bt q i <;> cases bt b0 i <;> cases bt a0 i <;> simp [hi]
  · rw [b_and, mq i hi]
    exact ⟨fun z => (nomatch z), fun z => by omega⟩
theorem bd_xB1 (hW : W ≤ 16) (mq : bd_mk W q) (ha : bd_ok W a0 a1 u) (hb : bd_ok W b0 b1 v) (h : op = 1) (i : Nat) : bt (q &&& ((a0 &&& (b0 ^^^ (-1))) ^^^ (-1))) i = true ↔ bd_fB W op u v q i := by
  rw [bd_fB4 (by omega)]
  rcases Nat.lt_or_ge i W with hi | hi
  · rw [b_and, bd_not _ (by omega), b_and, bd_not _ (by omega), bd_us_n (by omega), bd_ok_i ha hi, bd_ok_i hb hi, h]
    show _ ↔ (_ ∧ _ ∧ (¬ _ = (0 : Int32) ∨ _ = (0 : Int32)))
    rw [bd_e3_0, bd_e3_0]
    cases bt q i <;> cases bt b0 i <;> cases bt a0 i <;> simp [hi]
  · rw [b_and, mq i hi]
    exact ⟨fun z => (nomatch z), fun z => by omega⟩
theorem bd_xA2 (hW : W ≤ 16) (mq : bd_mk W q) (ha : bd_ok W a0 a1 u) (hb : bd_ok W b0 b1 v) (h : op = 2) (i : Nat) : bt (q &&& ((b1 &&& (a1 ^^^ (-1))) ^^^ (-1))) i = true ↔ bd_fA W op b u v q i := by
  rw [bd_fA4 (by omega)]
  rcases Nat.lt_or_ge i W with hi | hi
  · rw [b_and, bd_not _ (by omega), b_and, bd_not _ (by omega), bd_us_n (by omega), bd_ok_i ha hi, bd_ok_i hb hi, h]
    show _ ↔ (_ ∧ _ ∧ (¬ _ = (1 : Int32) ∨ _ = (1 : Int32)))
    rw [bd_e3_1 (ha.2.2.1 i), bd_e3_1 (hb.2.2.1 i)]
    cases bt q i <;> cases bt b1 i <;> cases bt a1 i <;> simp [hi]
  · rw [b_and, mq i hi]
    exact ⟨fun z => (nomatch z), fun z => by omega⟩
theorem bd_xB2 (hW : W ≤ 16) (mq : bd_mk W q) (ha : bd_ok W a0 a1 u) (hb : bd_ok W b0 b1 v) (h : op = 2) (i : Nat) : bt (q &&& ((a1 &&& (b1 ^^^ (-1))) ^^^ (-1))) i = true ↔ bd_fB W op u v q i := by
  rw [bd_fB4 (by omega)]
  rcases Nat.lt_or_ge i W with hi | hi
  · rw [b_and, bd_not _ (by omega), b_and, bd_not _ (by omega), bd_us_n (by omega), bd_ok_i ha hi, bd_ok_i hb hi, h]
    show _ ↔ (_ ∧ _ ∧ (¬ _ = (1 : Int32) ∨ _ = (1 : Int32)))
    rw [bd_e3_1 (ha.2.2.1 i), bd_e3_1 (hb.2.2.1 i)]
    cases bt q i <;> cases bt b1 i <;> cases bt a1 i <;> simp [hi]
  · rw [b_and, mq i hi]
    exact ⟨fun z => (nomatch z), fun z => by omega⟩
theorem bd_xA3 (mq : bd_mk W q) (hu : bd_T3 u) (hv : bd_T3 v) (h : op = 3) (i : Nat) : bt q i = true ↔ bd_fA W op b u v q i := by
  rw [bd_fA4 (by omega), bd_us_n (by omega), h]
  exact ⟨fun z => ⟨bd_mk_lt mq z, z, Or.inl (bd_n3 hv i)⟩, fun z => z.2.1⟩
theorem bd_xB3 (mq : bd_mk W q) (hu : bd_T3 u) (hv : bd_T3 v) (h : op = 3) (i : Nat) : bt q i = true ↔ bd_fB W op u v q i := by
  rw [bd_fB4 (by omega), bd_us_n (by omega), h]
  exact ⟨fun z => ⟨bd_mk_lt mq z, z, Or.inl (bd_n3 hu i)⟩, fun z => z.2.1⟩
theorem bd_xA4 (ha : bd_ok W a0 a1 u) (hb : bd_ok W b0 b1 v) (hc : bd_Chn W q ((a0 &&& b0) ||| (a1 &&& b1)) ch) (h : op = 4) (i : Nat) : bt ch i = true ↔ bd_fA W op b u v q i := by
  rw [bd_fA4 (by omega), h]
  refine ⟨fun z => ?_, fun z => ?_⟩
  · have hi := bd_mk_lt (bd_Chn_mk hc) z
    rw [bd_Chn_us ha hb hc hi] at z
    exact ⟨hi, z, Or.inl (bd_n3 (bd_ok_3 hb) i)⟩
  · rw [bd_Chn_us ha hb hc z.1]; exact z.2.1
theorem bd_xB4 (ha : bd_ok W a0 a1 u) (hb : bd_ok W b0 b1 v) (hc : bd_Chn W q ((a0 &&& b0) ||| (a1 &&& b1)) ch) (h : op = 4) (i : Nat) : bt ch i = true ↔ bd_fB W op u v q i := by
  rw [bd_fB4 (by omega), h]
  refine ⟨fun z => ?_, fun z => ?_⟩
  · have hi := bd_mk_lt (bd_Chn_mk hc) z
    rw [bd_Chn_us ha hb hc hi] at z
    exact ⟨hi, z, Or.inl (bd_n3 (bd_ok_3 ha) i)⟩
  · rw [bd_Chn_us ha hb hc z.1]; exact z.2.1
theorem bd_xA5 (hW : W ≤ 16) (h : op = 5) (i : Nat) : bt (bd_lo (bd_bl q W - bd_dA W u v)) i = true ↔ bd_fA W op b u v q i := by
  have := bd_bl_le q W
  rw [bd_fA5 h, bd_lo_b (by omega), decide_eq_true_eq]
theorem bd_xB5 (hW : W ≤ 16) (h : op = 5) (i : Nat) : bt (bd_lo (bd_bl q W - bd_dB W u v)) i = true ↔ bd_fB W op u v q i := by
  have := bd_bl_le q W
  rw [bd_fB5 h, bd_lo_b (by omega), decide_eq_true_eq]
theorem bd_xA6 (hb : b < 32) (h : op = 6) (i : Nat) : bt ((q.toUInt32 >>> ((nI b).toUInt32 &&& Int32.toUInt32 31)).toInt32) i = true ↔ bd_fA W op b u v q i := by
  rw [bd_fA6 h, b_ushr b hb, Nat.add_comm]
theorem bd_xA7 (hW : W ≤ 16) (hb : b < 32) (h : op = 7) (i : Nat) : bt ((q <<< (nI b &&& 31)) &&& bd_lo W) i = true ↔ bd_fA W op b u v q i := by
  rw [bd_fA7 h]
  rcases Nat.lt_or_ge i 32 with z | z
  · rw [b_and, b_shl b hb q z, bd_lo_b (by omega)]
    simp only [Bool.and_eq_true, decide_eq_true_eq]
    exact ⟨fun g => ⟨g.1.1, g.2, g.1.2⟩, fun g => ⟨⟨g.1, g.2.2⟩, g.2.1⟩⟩
  · rw [b_big z]
    exact ⟨fun g => (nomatch g), fun g => by omega⟩
theorem bd_ush0 (hb : b < 32) : ((q.toUInt32 >>> ((nI b).toUInt32 &&& Int32.toUInt32 31)).toInt32) = 0 ↔ ¬ ∃ j, b ≤ j ∧ bt q j = true := by
  rw [bd_z]
  constructor
  · rintro h ⟨j, h1, h2⟩
    have := h (j - b)
    rw [b_ushr b hb, show b + (j - b) = j by omega, h2] at this; cases this
  · intro h i
    rw [b_ushr b hb]
    cases e : bt q (b + i)
    · rfl
    · exact absurd ⟨_, by omega, e⟩ h
theorem bd_xA8t (hW : W ≤ 16) (h1 : 1 ≤ b) (hb : b ≤ W) (h : op = 8) (hq : ∃ j, b ≤ j ∧ bt q j = true) (i : Nat) : bt ((q &&& bd_lo b) ||| ((1 : Int32) <<< (nI (b - 1) &&& 31))) i = true ↔ bd_fA W op b u v q i := by
  rw [bd_fA8 h, b_or, b_and, bd_lo_b (by omega), bd_bit1 (by omega)]
  simp only [Bool.or_eq_true, Bool.and_eq_true, decide_eq_true_eq]
  exact ⟨fun z => z.imp (fun z => ⟨z.2, z.1⟩) (fun z => ⟨by omega, hq⟩), fun z => z.imp (fun z => ⟨z.2, z.1⟩) (fun z => by omega)⟩
theorem bd_xA8f (hW : W ≤ 16) (h1 : 1 ≤ b) (hb : b ≤ W) (h : op = 8) (hq : ¬ ∃ j, b ≤ j ∧ bt q j = true) (i : Nat) : bt (q &&& bd_lo b) i = true ↔ bd_fA W op b u v q i := by
  rw [bd_fA8 h, b_and, bd_lo_b (by omega)]
  simp only [Bool.and_eq_true, decide_eq_true_eq]
  exact ⟨fun z => Or.inl ⟨z.2, z.1⟩, fun z => z.elim (fun z => ⟨z.2, z.1⟩) (fun z => absurd z.2 hq)⟩
/-- copies of the unary ops -/
theorem bd_cA67 (hq : ¬ q = 0) (mq : bd_mk W q) (h : op = 6 ∨ op = 7) : b = 0 ↔ bd_cA W op b u v q := by
  constructor
  · intro e i _ _
    unfold bd_kA
    rw [if_neg (by omega), if_neg (by omega), decide_eq_true_eq]
    omega
  · intro g
    obtain ⟨k, hk⟩ : ∃ k, bt q k = true := Classical.byContradiction fun g => hq (bd_z.mpr fun i => by
      cases e : bt q i
      · rfl
      · exact absurd ⟨i, e⟩ g)
    have := g k (bd_mk_lt mq hk) (bd_us_q hk)
    unfold bd_kA at this
    rw [if_neg (by omega), if_neg (by omega), decide_eq_true_eq] at this
    exact this.2
theorem bd_cA5 (hq : ¬ q = 0) (mq : bd_mk W q) (h : op = 5) : ¬ bd_cA W op b u v q := by
  intro g
  obtain ⟨k, hk⟩ : ∃ k, bt q k = true := Classical.byContradiction fun g => hq (bd_z.mpr fun i => by
    cases e : bt q i
    · rfl
    · exact absurd ⟨i, e⟩ g)
  have := g k (bd_mk_lt mq hk) (bd_us_q hk)
  unfold bd_kA at this
  rw [if_neg (by omega), if_neg (by omega), decide_eq_true_eq] at this
  omega
theorem bd_cA8 (mq : bd_mk W q) (h : op = 8) : (¬ ∃ j, b ≤ j ∧ bt q j = true) ↔ bd_cA W op b u v q := by
  constructor
  · intro g i hi z
    unfold bd_kA
    rw [if_neg (by omega), if_pos h, decide_eq_true_eq]
    rw [bd_us_n (by omega)] at z
    rcases Nat.lt_or_ge i b with y | y
    · exact y
    · exact absurd ⟨i, y, z⟩ g
  · rintro g ⟨j, h1, h2⟩
    have := g j (bd_mk_lt mq h2) (bd_us_q h2)
    unfold bd_kA at this
    rw [if_neg (by omega), if_pos h, decide_eq_true_eq] at this
    omega
end
end
section
/-! ===== the component's decision walk ===== -/
def bd_dn (j : Nat) : Int32 := nI j - 1
theorem bd_dnS (m : Nat) : bd_dn (m + 1) = nI m := nI_pred m
theorem bd_dn1 (m : Nat) : nI m + (-1) = bd_dn m := by unfold bd_dn; rw [Int32.sub_eq_add_neg]
theorem bd_bbt {b : Bool} (h : b = true) : bd_bb b = 1 := by rw [h]; rfl
theorem bd_bbf {b : Bool} (h : b = false) : bd_bb b = 0 := by rw [h]; rfl
section
variable {W R N C : Nat} {c : Nat → Nat} {p : Nat}
variable {f_w f_regCount f_cap f_all f_n f_analysed f_pending f_a0 f_a1 f_b0 f_b1 f_needA f_needB f_chain f_started : Int32} {a_fop a_fd a_fa a_fb a_at a_k0 a_k1 a_dem a_r0 a_r1 a_next1 a_next2 a_want a_kind a_widths a_inputs a_regs a_pcs a_logs a_counts : Nat → Int32}
theorem bd_X_af {post : Int32 → Prop} {L : Nat → Prop} {t1 r : Nat} (hN : N ≤ 24) (hp : p < N) (hr : r < 4) (e1 : a_next1 p = nI t1) (hx : bd_NX N L t1 (a_next2 p)) (K : ∀ m, (∀ i, bt m i = true ↔ ∃ t, L t ∧ bt (a_dem (4 * t + r)) i = true) → post m) : wpX_after post (nI W, nI R, nI C, bd_lo W, nI N, f_analysed, f_pending, f_a0, f_a1, f_b0, f_b1, f_needA, f_needB, f_chain, f_started, a_fop, a_fd, a_fa, a_fb, a_at, a_k0, a_k1, a_dem, a_r0, a_r1, a_next1, a_next2, a_want, a_kind, a_widths, a_inputs, a_regs, a_pcs, a_logs, a_counts) (nI p) (nI r) := by
  have h24 : vp_in (nI p) 24 := vp_in_nI (by omega) (by omega)
  have ht := hx.1
  refine And.intro h24 ?_
  rw [bd_fat (f := a_next1) (p := p) (by omega), bd_fat (f := a_next2) (p := p) (by omega), e1, bd_ix]
  refine ⟨vp_in_nI (by omega) (by omega), nm_r (bd_fat (by omega)) ⟨h24, ?_⟩⟩
  rcases hx.2 with ⟨e2, hl⟩ | ⟨s, hs, e2, hl⟩
  · rw [e2]
    refine br_t (by decide) (K _ fun i => ⟨fun z => ⟨t1, (hl t1).mpr rfl, z⟩, ?_⟩)
    rintro ⟨t, h1, h2⟩
    rw [(hl t).mp h1] at h2; exact h2
  · rw [e2, bd_ix]
    refine br_f (nI_pos (by omega)) ⟨h24, vp_in_nI (by omega) (by omega), nm_r (e' := a_dem (4 * t1 + r) ||| a_dem (4 * s + r)) (by rw [bd_cl (by omega)]) (K _ fun i => ?_)⟩
    rw [b_or, Bool.or_eq_true]
    constructor
    · rintro (z | z)
      · exact ⟨t1, (hl t1).mpr (Or.inl rfl), z⟩
      · exact ⟨s, (hl s).mpr (Or.inr rfl), z⟩
    · rintro ⟨t, h1, h2⟩
      rcases (hl t).mp h1 with rfl | rfl
      · exact Or.inl h2
      · exact Or.inr h2
theorem bd_X_ac {post : Int32 → Prop} {q : Int32} (hW : W ≤ 16) (hW0 : 1 ≤ W) (K : ∀ x, bd_Chn W q ((f_a0 &&& f_b0) ||| (f_a1 &&& f_b1)) x → post x) : wpX_addChain post (nI W, nI R, nI C, bd_lo W, nI N, f_analysed, f_pending, f_a0, f_a1, f_b0, f_b1, f_needA, f_needB, f_chain, f_started, a_fop, a_fd, a_fa, a_fb, a_at, a_k0, a_k1, a_dem, a_r0, a_r1, a_next1, a_next2, a_want, a_kind, a_widths, a_inputs, a_regs, a_pcs, a_logs, a_counts) q := by
  refine nm_e ?_
  generalize (f_a0 &&& f_b0) ||| (f_a1 &&& f_b1) = S at K
  have loop : ∀ j, j ≤ W → ∀ x3, (∀ i, bt x3 i = (decide (j ≤ i ∧ i < W) && (bt q i || bd_cS W q S (W - 1 - i)))) → wX_addChain_33 post q S (nI W) (nI R) (nI C) (bd_lo W) (nI N) f_analysed f_pending f_a0 f_a1 f_b0 f_b1 f_needA f_needB f_chain f_started a_fop a_fd a_fa a_fb a_at a_k0 a_k1 a_dem a_r0 a_r1 a_next1 a_next2 a_want a_kind a_widths a_inputs a_regs a_pcs a_logs a_counts (j + 1) x3 (bd_bb (bd_cS W q S (W - j))) (bd_dn j) := by
    intro j
    induction j with
    | zero =>
      intro _ x3 h3
      refine br_t (by decide) (K _ fun i => ?_)
      rw [h3 i]
      congr 1
      exact decide_eq_decide.mpr ⟨fun z => z.2, fun z => ⟨by omega, z⟩⟩
    | succ m ih =>
      intro hj x3 h3
      rw [bd_dnS]
      have ek : bd_cS W q S (W - m) = (bt q m || (bd_cS W q S (W - (m + 1)) && !bt S m)) := by
        rw [show W - m = (W - (m + 1)) + 1 by omega, bd_cS, show W - 1 - (W - (m + 1)) = m by omega]
      have ei : W - 1 - m = W - (m + 1) := by omega
      have keep : bt q m = false → bd_cS W q S (W - (m + 1)) = false → ∀ i, bt x3 i = (decide (m ≤ i ∧ i < W) && (bt q i || bd_cS W q S (W - 1 - i))) := by
        intro g1 g2 i
        rw [h3 i]
        by_cases e : i = m
        · subst e
          rw [ei, g1, g2]
          cases decide (i ≤ i ∧ i < W) <;> cases decide (i + 1 ≤ i ∧ i < W) <;> rfl
        · congr 1
          exact decide_eq_decide.mpr ⟨fun z => by omega, fun z => by omega⟩
      have put : (bt q m = true ∨ bd_cS W q S (W - (m + 1)) = true) → ∀ i, bt (x3 ||| ((1 : Int32) <<< (nI m &&& 31))) i = (decide (m ≤ i ∧ i < W) && (bt q i || bd_cS W q S (W - 1 - i))) := by
        intro g i
        rw [b_or, bd_bit1 (by omega), h3 i]
        by_cases e : i = m
        · subst e
          rw [decide_eq_true (rfl : i = i), decide_eq_true (show i ≤ i ∧ i < W by omega), ei, Bool.or_true, Bool.true_and]
          rcases g with g | g
          · rw [g]; rfl
          · rw [g, Bool.or_true]
        · rw [decide_eq_false e, Bool.or_false]
          congr 1
          exact decide_eq_decide.mpr ⟨fun z => by omega, fun z => by omega⟩
      have fin : ∀ y, (∀ i, bt y i = (decide (m ≤ i ∧ i < W) && (bt q i || bd_cS W q S (W - 1 - i)))) → wX_addChain_73 post (wX_addChain_33 post q S (nI W) (nI R) (nI C) (bd_lo W) (nI N) f_analysed f_pending f_a0 f_a1 f_b0 f_b1 f_needA f_needB f_chain f_started a_fop a_fd a_fa a_fb a_at a_k0 a_k1 a_dem a_r0 a_r1 a_next1 a_next2 a_want a_kind a_widths a_inputs a_regs a_pcs a_logs a_counts (m + 1)) q S y (bd_bb (bd_cS W q S (W - (m + 1)))) (nI m) ((1 : Int32) <<< (nI m &&& 31)) (bd_bb (bt q m)) (nI W) (nI R) (nI C) (bd_lo W) (nI N) f_analysed f_pending f_a0 f_a1 f_b0 f_b1 f_needA f_needB f_chain f_started a_fop a_fd a_fa a_fb a_at a_k0 a_k1 a_dem a_r0 a_r1 a_next1 a_next2 a_want a_kind a_widths a_inputs a_regs a_pcs a_logs a_counts := by
        intro y hy
        have go := ih (by omega) y hy
        rw [ek] at go
        cases e1 : bt q m
        · rw [e1] at go
          refine br_t rfl ?_
          cases e2 : bd_cS W q S (W - (m + 1))
          · rw [e2] at go
            exact br_t rfl (nm_r (bd_dn1 m) go)
          · rw [e2] at go
            refine br_f (by decide) ?_
            cases e3 : bt S m
            · rw [e3] at go
              exact br_t ((bd_and1 (by omega)).mpr e3) (nm_r (bd_dn1 m) go)
            · rw [e3] at go
              exact br_f (fun z => by rw [bd_and1 (by omega), e3] at z; cases z) (nm_r (bd_dn1 m) go)
        · rw [e1] at go
          exact br_f (by decide) (nm_r (bd_dn1 m) go)
      have mid : wX_addChain_56 post (wX_addChain_33 post q S (nI W) (nI R) (nI C) (bd_lo W) (nI N) f_analysed f_pending f_a0 f_a1 f_b0 f_b1 f_needA f_needB f_chain f_started a_fop a_fd a_fa a_fb a_at a_k0 a_k1 a_dem a_r0 a_r1 a_next1 a_next2 a_want a_kind a_widths a_inputs a_regs a_pcs a_logs a_counts (m + 1)) q S x3 (bd_bb (bd_cS W q S (W - (m + 1)))) (nI m) ((1 : Int32) <<< (nI m &&& 31)) (bd_bb (bt q m)) (nI W) (nI R) (nI C) (bd_lo W) (nI N) f_analysed f_pending f_a0 f_a1 f_b0 f_b1 f_needA f_needB f_chain f_started a_fop a_fd a_fa a_fb a_at a_k0 a_k1 a_dem a_r0 a_r1 a_next1 a_next2 a_want a_kind a_widths a_inputs a_regs a_pcs a_logs a_counts := by
        cases e1 : bt q m
        · have f1 := fin
          rw [e1] at f1
          refine br_t rfl ?_
          cases e2 : bd_cS W q S (W - (m + 1))
          · rw [e2] at f1
            exact br_t rfl (f1 _ (keep e1 e2))
          · rw [e2] at f1
            exact br_f (by decide) (nm_e (f1 _ (put (Or.inr e2))))
        · have f1 := fin
          rw [e1] at f1
          exact br_f (by decide) (nm_e (f1 _ (put (Or.inl e1))))
      refine br_f (nI_pos (by omega)) (nm_e ?_)
      cases e1 : bt q m
      · rw [e1] at mid
        exact br_t ((bd_and1 (by omega)).mpr e1) mid
      · rw [e1] at mid
        exact br_f (fun z => by rw [bd_and1 (by omega), e1] at z; cases z) mid
  have start := loop W (Nat.le_refl _) 0 (fun i => by
    rw [b_0, decide_eq_false (by omega)]; rfl)
  rw [Nat.sub_self] at start
  exact nm_r (e' := bd_dn W) rfl ⟨W + 1, start⟩
theorem bd_X_bg {post : Int32 → Prop} {o : Nat} {q x0 x1 y0 y1 : Int32} (ho : o ≤ 10) (K1 : o = 1 → post (q &&& ((y1 ||| x0) ^^^ (-1)))) (K2 : o = 2 → post (q &&& ((y0 ||| x1) ^^^ (-1)))) (K3 : o = 3 → post (q &&& (y0 ^^^ (-1)))) (K4 : o = 4 → post (f_chain &&& (y0 ^^^ (-1)))) (K5 : o = 0 ∨ 5 ≤ o → post q) : wpX_binaryGap post (f_w, f_regCount, f_cap, f_all, f_n, f_analysed, f_pending, f_a0, f_a1, f_b0, f_b1, f_needA, f_needB, f_chain, f_started, a_fop, a_fd, a_fa, a_fb, a_at, a_k0, a_k1, a_dem, a_r0, a_r1, a_next1, a_next2, a_want, a_kind, a_widths, a_inputs, a_regs, a_pcs, a_logs, a_counts) (nI o) q x0 x1 y0 y1 :=
  pk_lt o 1 (fun h => K5 (by omega)) (fun h1 => pk_lt 4 o (fun h => K5 (by omega)) (fun h4 => pk_eq o 1 K1 (fun n1 => pk_eq o 2 K2 (fun n2 => pk_eq o 3 K3 (fun n3 => pk_eq o 4 K4 (fun n4 => trivial))))))
theorem bd_X_gA {post : Int32 → Prop} {q : Int32} {u v : Nat → Int32} (hc : bd_XC N c a_fop a_fd a_fa a_fb) (P : bd_PV W R N c) (hW : W ≤ 16) (hN : N ≤ 24) (hp : p < N) (h1 : 1 ≤ bd_op c p) (h8 : bd_op c p ≤ 8) (mq : bd_mk W q) (hq : ¬ q = 0)
    (ha : bd_ok W f_a0 f_a1 u) (hb : 1 ≤ bd_op c p → bd_op c p ≤ 5 → bd_ok W f_b0 f_b1 v) (hch : bd_Chn W q ((f_a0 &&& f_b0) ||| (f_a1 &&& f_b1)) f_chain)
    (K : ∀ x, (x = 0 ↔ bd_cA W (bd_op c p) (bd_b c p) u v q) → post x) : wpX_gapOfA post (nI W, nI R, nI C, bd_lo W, nI N, f_analysed, f_pending, f_a0, f_a1, f_b0, f_b1, f_needA, f_needB, f_chain, f_started, a_fop, a_fd, a_fa, a_fb, a_at, a_k0, a_k1, a_dem, a_r0, a_r1, a_next1, a_next2, a_want, a_kind, a_widths, a_inputs, a_regs, a_pcs, a_logs, a_counts) (nI p) q := by
  obtain ⟨e1, e2, e3, e4⟩ := hc p hp
  obtain ⟨v1, v2, v3, v4, v5, v6, v7, v8, v9⟩ := P p hp
  have h24 : vp_in (nI p) 24 := vp_in_nI (by omega) (by omega)
  refine And.intro h24 (nm_r (e' := nI (bd_op c p)) ((bd_fat (by omega)).trans e1) ?_)
  rw [bd_fat (f := a_fop) (p := p) (by omega), bd_fat (f := a_fb) (p := p) (by omega), e1, e4]
  refine pk_lt (bd_op c p) 6 (fun h6 => ⟨h24, ?_⟩) (fun h6 => pk_lt 8 (bd_op c p) (fun h => by omega) (fun _ => pk_eq (bd_op c p) 6 (fun h => ⟨h24, ?_⟩) (fun n6 => pk_eq (bd_op c p) 7 (fun h => ⟨h24, ?_⟩) (fun n7 => pk_eq (bd_op c p) 8 (fun h => ⟨h24, ?_⟩) (fun n8 => trivial)))))
  · have G := bd_gA (op := bd_op c p) (b := bd_b c p) hW mq ha (hb h1 (by omega)) hch
    exact bd_X_bg v1 (fun h => K _ (G.1 h)) (fun h => K _ (G.2.1 h)) (fun h => K _ (G.2.2.1 h)) (fun h => K _ (G.2.2.2 h)) (fun h => K _ ⟨fun z => absurd z hq, fun z => absurd z (bd_cA5 hq mq (by omega))⟩)
  · refine K _ ?_
    rw [← bd_cA67 hq mq (Or.inl h)]
    exact nI_eq (b := 0) (by omega) (by omega)
  · refine K _ ?_
    rw [← bd_cA67 hq mq (Or.inr h)]
    exact nI_eq (b := 0) (by omega) (by omega)
  · refine K _ ?_
    have := (v6 h).2
    rw [bd_ush0 (by omega)]
    exact bd_cA8 mq h
theorem bd_X_mn {post : SX → Prop} {q : Int32} {u v : Nat → Int32} (hW : W ≤ 16) (mq : bd_mk W q) (ha : bd_ok W f_a0 f_a1 u) (hb : bd_ok W f_b0 f_b1 v)
    (K : post (nI W, nI R, nI C, bd_lo W, nI N, f_analysed, f_pending, f_a0, f_a1, f_b0, f_b1, bd_lo (bd_bl q W - bd_dA W u v), bd_lo (bd_bl q W - bd_dB W u v), f_chain, f_started, a_fop, a_fd, a_fa, a_fb, a_at, a_k0, a_k1, a_dem, a_r0, a_r1, a_next1, a_next2, a_want, a_kind, a_widths, a_inputs, a_regs, a_pcs, a_logs, a_counts)) : wpX_mulNeed post (nI W, nI R, nI C, bd_lo W, nI N, f_analysed, f_pending, f_a0, f_a1, f_b0, f_b1, f_needA, f_needB, f_chain, f_started, a_fop, a_fd, a_fa, a_fb, a_at, a_k0, a_k1, a_dem, a_r0, a_r1, a_next1, a_next2, a_want, a_kind, a_widths, a_inputs, a_regs, a_pcs, a_logs, a_counts) q := by
  have l1 := bd_rn_le (bd_p0 u) W
  have l2 := bd_rn_le (bd_p0 v) W
  have l3 := bd_bl_le q W
  unfold wpX_mulNeed
  refine bd_X_bl ?_
  refine bd_X_lr hW ?_
  refine bd_X_lr hW ?_
  rw [bd_ok_r0 ha, bd_ok_r0 hb, bd_bl_32 mq (by omega)]
  refine bd_X_low (by omega) ?_
  unfold bd_dA bd_dB at K
  refine pk_lt (bd_rn (bd_p0 u) W) (bd_rn (bd_p0 v) W) (fun h => ?_) (fun h => ?_)
  · rw [if_neg (by omega), if_neg (by omega)] at K
    exact bd_X_lowS (by omega) (by omega) K
  · rw [if_pos h, if_pos h] at K
    exact bd_X_lowS (by omega) (by omega) K
theorem bd_X_fn {post : SX → Prop} {q : Int32} {u v : Nat → Int32} (hc : bd_XC N c a_fop a_fd a_fa a_fb) (P : bd_PV W R N c) (hW : W ≤ 16) (hN : N ≤ 24) (hp : p < N) (h1 : 1 ≤ bd_op c p) (h8 : bd_op c p ≤ 8) (mq : bd_mk W q)
    (ha : bd_ok W f_a0 f_a1 u) (hb : 1 ≤ bd_op c p → bd_op c p ≤ 5 → bd_ok W f_b0 f_b1 v) (hch : bd_Chn W q ((f_a0 &&& f_b0) ||| (f_a1 &&& f_b1)) f_chain)
    (K : ∀ nA nB, (∀ i, bt nA i = true ↔ bd_fA W (bd_op c p) (bd_b c p) u v q i) → (∀ i, bt nB i = true ↔ bd_fB W (bd_op c p) u v q i) → post (nI W, nI R, nI C, bd_lo W, nI N, f_analysed, f_pending, f_a0, f_a1, f_b0, f_b1, nA, nB, f_chain, f_started, a_fop, a_fd, a_fa, a_fb, a_at, a_k0, a_k1, a_dem, a_r0, a_r1, a_next1, a_next2, a_want, a_kind, a_widths, a_inputs, a_regs, a_pcs, a_logs, a_counts)) : wpX_fullNeed post (nI W, nI R, nI C, bd_lo W, nI N, f_analysed, f_pending, f_a0, f_a1, f_b0, f_b1, 0, 0, f_chain, f_started, a_fop, a_fd, a_fa, a_fb, a_at, a_k0, a_k1, a_dem, a_r0, a_r1, a_next1, a_next2, a_want, a_kind, a_widths, a_inputs, a_regs, a_pcs, a_logs, a_counts) (nI p) q := by
  obtain ⟨e1, e2, e3, e4⟩ := hc p hp
  obtain ⟨v1, v2, v3, v4, v5, v6, v7, v8, v9⟩ := P p hp
  have h24 : vp_in (nI p) 24 := vp_in_nI (by omega) (by omega)
  refine And.intro h24 (nm_r (e' := nI (bd_b c p)) ((bd_fat (by omega)).trans e4) ⟨h24, nm_r (e' := nI (bd_op c p)) ((bd_fat (by omega)).trans e1) ?_⟩)
  refine pk_lt (bd_op c p) 1 (fun h => by omega) (fun _ => pk_lt 8 (bd_op c p) (fun h => by omega) (fun _ => ?_))
  refine pk_eq (bd_op c p) 1 (fun h => ?_) (fun n1 => ?_)
  · have hb := hb h1 (by omega)
    exact K _ _ (bd_xA1 hW mq ha hb h) (bd_xB1 hW mq ha hb h)
  refine pk_eq (bd_op c p) 2 (fun h => ?_) (fun n2 => ?_)
  · have hb := hb h1 (by omega)
    exact K _ _ (bd_xA2 hW mq ha hb h) (bd_xB2 hW mq ha hb h)
  refine pk_eq (bd_op c p) 3 (fun h => ?_) (fun n3 => ?_)
  · have hb := hb h1 (by omega)
    exact K _ _ (bd_xA3 mq (bd_ok_3 ha) (bd_ok_3 hb) h) (bd_xB3 mq (bd_ok_3 ha) (bd_ok_3 hb) h)
  refine pk_eq (bd_op c p) 4 (fun h => ?_) (fun n4 => ?_)
  · have hb := hb h1 (by omega)
    exact K _ _ (bd_xA4 ha hb hch h) (bd_xB4 ha hb hch h)
  refine pk_eq (bd_op c p) 5 (fun h => ?_) (fun n5 => ?_)
  · have hb := hb h1 (by omega)
    exact bd_X_mn hW mq ha hb (K _ _ (bd_xA5 hW h) (bd_xB5 hW h))
  refine pk_eq (bd_op c p) 6 (fun h => ?_) (fun n6 => ?_)
  · have := v5 (Or.inl h)
    exact K _ _ (bd_xA6 (by omega) h) (fun i => bd_f0 (bd_fB6 (by omega)))
  refine pk_eq (bd_op c p) 7 (fun h => ?_) (fun n7 => ?_)
  · have := v5 (Or.inr (Or.inl h))
    exact K _ _ (bd_xA7 hW (by omega) h) (fun i => bd_f0 (bd_fB6 (by omega)))
  refine pk_eq (bd_op c p) 8 (fun h => ?_) (fun n8 => trivial)
  · obtain ⟨b1, b2⟩ := v6 h
    unfold wpX_sextNeed
    refine bd_X_low (k := bd_b c p) (by omega) ?_
    refine nm_e ?_
    by_cases z : ∃ j, bd_b c p ≤ j ∧ bt q j = true
    · refine br_f (fun g => (bd_ush0 (by omega)).mp g z) (nm_r (e' := (q &&& bd_lo (bd_b c p)) ||| ((1 : Int32) <<< (nI (bd_b c p - 1) &&& 31))) ?_ (K _ _ (bd_xA8t hW b1 b2 h z) (fun i => bd_f0 (bd_fB6 (by omega)))))
      obtain ⟨j, hj⟩ : ∃ j, bd_b c p = j + 1 := ⟨bd_b c p - 1, by omega⟩
      rw [hj, nI_pred, show j + 1 - 1 = j by omega]
    · exact br_t ((bd_ush0 (by omega)).mpr z) (K _ _ (bd_xA8f hW b1 b2 h z) (fun i => bd_f0 (bd_fB6 (by omega))))
theorem bd_X_dcp {post : SX → Prop} {q : Int32} {u v : Nat → Int32} (hc : bd_XC N c a_fop a_fd a_fa a_fb) (P : bd_PV W R N c) (hW : W ≤ 16) (hN : N ≤ 24) (hp : p < N) (h8 : bd_op c p ≤ 8) (mq : bd_mk W q) (hq : ¬ q = 0) (hal : ¬ bd_al W (bd_op c p) (bd_b c p) u v q)
    (ha : bd_ok W f_a0 f_a1 u) (hb : 1 ≤ bd_op c p → bd_op c p ≤ 5 → bd_ok W f_b0 f_b1 v) (hch : bd_Chn W q ((f_a0 &&& f_b0) ||| (f_a1 &&& f_b1)) f_chain)
    (K : ∀ k nA nB, bd_Dec W (bd_op c p) (bd_b c p) u v q k nA nB → post (nI W, nI R, nI C, bd_lo W, nI N, f_analysed, f_pending, f_a0, f_a1, f_b0, f_b1, nA, nB, f_chain, f_started, a_fop, a_fd, a_fa, a_fb, a_at, a_k0, a_k1, a_dem, a_r0, a_r1, a_next1, a_next2, a_want, upd a_kind p k, a_widths, a_inputs, a_regs, a_pcs, a_logs, a_counts)) : wpX_decideCopy post (nI W, nI R, nI C, bd_lo W, nI N, f_analysed, f_pending, f_a0, f_a1, f_b0, f_b1, 0, 0, f_chain, f_started, a_fop, a_fd, a_fa, a_fb, a_at, a_k0, a_k1, a_dem, a_r0, a_r1, a_next1, a_next2, a_want, a_kind, a_widths, a_inputs, a_regs, a_pcs, a_logs, a_counts) (nI p) q := by
  obtain ⟨e1, e2, e3, e4⟩ := hc p hp
  obtain ⟨v1, v2, v3, v4, v5, v6, v7, v8, v9⟩ := P p hp
  have h24 : vp_in (nI p) 24 := vp_in_nI (by omega) (by omega)
  have h1 : 1 ≤ bd_op c p := by
    rcases Nat.eq_zero_or_pos (bd_op c p) with z | z
    · exact absurd (bd_al_set z) hal
    · exact z
  unfold wpX_decideCopy
  refine bd_X_gA hc P hW hN hp h1 h8 mq hq ha hb hch (fun x hx => br_c (fun z => ⟨h24, nm_r (bd_uat (by omega) rfl) (K _ _ _ (bd_D_cA h8 hq hal (hx.mp z)))⟩) (fun z => ⟨h24, ?_⟩))
  have nA : ¬ bd_cA W (bd_op c p) (bd_b c p) u v q := fun g => z (hx.mpr g)
  rw [bd_fat (f := a_fop) (p := p) (by omega), e1]
  have fin : ∀ y : Int32, (y = 0 ↔ bd_cB W (bd_op c p) u v q) → ((y = 0 → vp_in (nI p) 24 ∧ ∀ a : Nat → Int32, a = upd a_kind (nI p).toNatClampNeg 4 → post (nI W, nI R, nI C, bd_lo W, nI N, f_analysed, f_pending, f_a0, f_a1, f_b0, f_b1, 0, q, f_chain, f_started, a_fop, a_fd, a_fa, a_fb, a_at, a_k0, a_k1, a_dem, a_r0, a_r1, a_next1, a_next2, a_want, a, a_widths, a_inputs, a_regs, a_pcs, a_logs, a_counts)) ∧ (¬ y = 0 → vp_in (nI p) 24 ∧ ∀ a : Nat → Int32, a = upd a_kind (nI p).toNatClampNeg 0 → wpX_fullNeed post (nI W, nI R, nI C, bd_lo W, nI N, f_analysed, f_pending, f_a0, f_a1, f_b0, f_b1, 0, 0, f_chain, f_started, a_fop, a_fd, a_fa, a_fb, a_at, a_k0, a_k1, a_dem, a_r0, a_r1, a_next1, a_next2, a_want, a, a_widths, a_inputs, a_regs, a_pcs, a_logs, a_counts) (nI p) q)) := by
    intro y hy
    refine br_c (fun g => ⟨h24, nm_r (bd_uat (by omega) rfl) (K _ _ _ (bd_D_cB h8 hq hal nA (hy.mp g)))⟩) (fun g => ⟨h24, nm_r (bd_uat (by omega) rfl) ?_⟩)
    exact bd_X_fn hc P hW hN hp h1 h8 mq ha hb hch (fun nA' nB' f1 f2 => K _ _ _ (bd_D_keep h8 hq hal nA (fun g' => g (hy.mpr g')) f1 f2))
  have G : bd_op c p ≤ 5 → _ := fun h5 => bd_gB (op := bd_op c p) hW mq ha (hb h1 h5) hch
  exact bd_X_bg v1 (fun h => fin _ ((G (by omega)).1 h)) (fun h => fin _ ((G (by omega)).2.1 h)) (fun h => fin _ ((G (by omega)).2.2.1 h)) (fun h => fin _ ((G (by omega)).2.2.2 h)) (fun h => fin _ ⟨fun z => absurd z hq, fun z => by have := z.1; omega⟩)
theorem bd_X_dw {post : SX → Prop} {q : Int32} {u v : Nat → Int32} {t1 : Nat} {L : Nat → Prop} (hc : bd_XC N c a_fop a_fd a_fa a_fb) (P : bd_PV W R N c) (hW : W ≤ 16) (hW0 : 1 ≤ W) (hR : R ≤ 4) (hN : N ≤ 24) (hp : p < N) (h8 : bd_op c p ≤ 8)
    (ha : bd_ok W f_a0 f_a1 u) (hb : 1 ≤ bd_op c p → bd_op c p ≤ 5 → bd_ok W f_b0 f_b1 v) (hr : bd_ok W (a_r0 p) (a_r1 p) (bd_tr W (bd_rz W (bd_op c p) (bd_b c p) u v))) (e1n : a_next1 p = nI t1) (hx : bd_NX N L t1 (a_next2 p)) (hL : ∀ t, L t ↔ t = p + 1) (mq : bd_mk W q) (eq : q = a_dem (4 * (p + 1) + bd_d c p))
    (K : ∀ k nA nB ch, bd_Dec W (bd_op c p) (bd_b c p) u v q k nA nB → post (nI W, nI R, nI C, bd_lo W, nI N, f_analysed, f_pending, f_a0, f_a1, f_b0, f_b1, nA, nB, ch, f_started, a_fop, a_fd, a_fa, a_fb, a_at, a_k0, a_k1, a_dem, a_r0, a_r1, a_next1, a_next2, upd a_want p q, upd a_kind p k, a_widths, a_inputs, a_regs, a_pcs, a_logs, a_counts)) : wpX_decideWriter post (nI W, nI R, nI C, bd_lo W, nI N, f_analysed, f_pending, f_a0, f_a1, f_b0, f_b1, 0, 0, f_chain, f_started, a_fop, a_fd, a_fa, a_fb, a_at, a_k0, a_k1, a_dem, a_r0, a_r1, a_next1, a_next2, a_want, a_kind, a_widths, a_inputs, a_regs, a_pcs, a_logs, a_counts) (nI p) := by
  obtain ⟨e1, e2, e3, e4⟩ := hc p hp
  obtain ⟨v1, v2, v3, v4, v5, v6, v7, v8, v9⟩ := P p hp
  have h24 : vp_in (nI p) 24 := vp_in_nI (by omega) (by omega)
  have hd := v3 h8
  refine And.intro h24 ?_
  rw [bd_fat (f := a_fd) (p := p) (by omega), e2]
  refine bd_X_af hN hp (by omega) e1n hx (fun m hm => ?_)
  have em : m = q := by
    rw [eq]
    refine b_ext fun i _ => bd_bE ((hm i).trans ⟨?_, fun z => ⟨p + 1, (hL _).mpr rfl, z⟩⟩)
    rintro ⟨t, g1, g2⟩
    rw [(hL t).mp g1] at g2; exact g2
  subst em
  refine And.intro h24 (nm_r (bd_uat (by omega) rfl) ?_)
  rw [bd_fat (f := a_r0) (p := p) (by omega), bd_fat (f := a_r1) (p := p) (by omega)]
  refine br_c (fun g => ⟨h24, nm_r (bd_uat (by omega) rfl) (K _ _ _ _ (bd_D_drop h8 g))⟩) (fun g => ⟨h24, h24, br_c (fun z => ⟨h24, nm_r (bd_uat (by omega) rfl) (K _ _ _ _ (bd_D_const h8 g ((bd_al_x hW mq hr).mp z)))⟩) (fun z => ?_)⟩)
  refine bd_X_ac hW hW0 (fun ch hch => ?_)
  exact bd_X_dcp hc P hW hN hp h8 mq g (fun y => z ((bd_al_x hW mq hr).mpr y)) ha hb hch (fun k nA nB D => K _ _ _ _ D)
/-- a slot's decision: kind, needs, wanted bits -/
theorem bd_X_dec {post : SX → Prop} {G : Nat → Nat → Nat → Int32} {t1 : Nat} (hc : bd_XC N c a_fop a_fd a_fa a_fb) (P : bd_PV W R N c) (hW : W ≤ 16) (hW0 : 1 ≤ W) (hR : R ≤ 4) (hN : N ≤ 24) (hp : p < N)
    (ha : bd_ok W f_a0 f_a1 (G p (bd_a c p))) (hb : 1 ≤ bd_op c p → bd_op c p ≤ 5 → bd_ok W f_b0 f_b1 (G p (bd_ub c p))) (hr : bd_op c p ≤ 8 → bd_ok W (a_r0 p) (a_r1 p) (bd_res W c G p)) (e1n : a_next1 p = nI t1) (hx : bd_NX N (bd_lv N c G p) t1 (a_next2 p)) (mD : ∀ j, bd_mk W (a_dem j))
    (K : ∀ k nA nB ch wn, bd_Dec W (bd_op c p) (bd_b c p) (G p (bd_a c p)) (G p (bd_ub c p)) (bd_qq c a_dem p) k nA nB → (∀ j, ¬ j = p → wn j = a_want j) → (bd_op c p ≤ 8 → wn p = bd_qq c a_dem p) → post (nI W, nI R, nI C, bd_lo W, nI N, f_analysed, f_pending, f_a0, f_a1, f_b0, f_b1, nA, nB, ch, f_started, a_fop, a_fd, a_fa, a_fb, a_at, a_k0, a_k1, a_dem, a_r0, a_r1, a_next1, a_next2, wn, upd a_kind p k, a_widths, a_inputs, a_regs, a_pcs, a_logs, a_counts)) : wpX_decide post (nI W, nI R, nI C, bd_lo W, nI N, f_analysed, f_pending, f_a0, f_a1, f_b0, f_b1, f_needA, f_needB, f_chain, f_started, a_fop, a_fd, a_fa, a_fb, a_at, a_k0, a_k1, a_dem, a_r0, a_r1, a_next1, a_next2, a_want, a_kind, a_widths, a_inputs, a_regs, a_pcs, a_logs, a_counts) (nI p) := by
  obtain ⟨e1, e2, e3, e4⟩ := hc p hp
  obtain ⟨v1, v2, v3, v4, v5, v6, v7, v8, v9⟩ := P p hp
  have h24 : vp_in (nI p) 24 := vp_in_nI (by omega) (by omega)
  refine And.intro h24 ?_
  rw [bd_fat (f := a_fop) (p := p) (by omega), e1, bd_fat (f := a_fb) (p := p) (by omega), e4]
  refine pk_eq (bd_op c p) 9 (fun h => ⟨h24, nm_r (bd_uat (by omega) rfl) ⟨h24, nm_e ?_⟩⟩) (fun n9 => ⟨h24, pk_eq (bd_op c p) 10 (fun h => ⟨h24, nm_e ?_⟩) (fun n10 => ?_)⟩)
  · exact K _ _ _ _ _ (bd_D_out h v9) (fun _ _ => rfl) (fun g => by omega)
  · have hb' := v5 (Or.inr (Or.inr h))
    have hg := bd_ok_i ha hb'
    by_cases z : bt (f_a0 ||| f_a1) (bd_b c p) = true
    · have n2 : ¬ G p (bd_a c p) (bd_b c p) = 2 := by
        rw [hg, bd_e3_2]
        rw [b_or] at z
        rintro ⟨z1, z2⟩
        rw [z1, z2] at z; cases z
      exact br_f (fun q => by rw [bd_and1 (by omega), z] at q; cases q) (br_f (by decide) (And.intro h24 (nm_r (bd_uat (by omega) rfl) (br_f (by decide) (K _ _ _ _ _ (bd_D_jc h n2) (fun _ _ => rfl) (fun g => by omega))))))
    · have z' : bt (f_a0 ||| f_a1) (bd_b c p) = false := by simpa using z
      have n2 : G p (bd_a c p) (bd_b c p) = 2 := by
        rw [hg, bd_e3_2]
        rw [b_or] at z'
        simpa using z'
      exact br_t ((bd_and1 (by omega)).mpr z') (br_t rfl (And.intro h24 (nm_r (bd_uat (by omega) rfl) (br_t rfl (K _ _ _ _ _ (bd_D_jk h (by omega) n2) (fun _ _ => rfl) (fun g => by omega))))))
  · have h8 : bd_op c p ≤ 8 := by omega
    have eq : bd_qq c a_dem p = a_dem (4 * (p + 1) + bd_d c p) := by unfold bd_qq; rw [if_pos h8]
    refine bd_X_dw (q := bd_qq c a_dem p) hc P hW hW0 hR hN hp h8 ha hb (hr h8) e1n hx (fun t => ⟨fun l => ?_, fun l => Or.inl ⟨l, fun q => n10 q.1⟩⟩) (bd_qq_mk mD p) eq (fun k nA nB ch D => K _ _ _ _ _ D (fun j hj => pk_un hj) (fun _ => pk_us))
    rcases l with l | l
    · exact l.1
    · exact absurd l.2.1 n10
end
end
section
/-! ===== the component's backward invariant ===== -/
def bd_Sb (W R N : Nat) (c : Nat → Nat) (G : Nat → Nat → Nat → Int32) (D kd wn : Nat → Int32) (p : Nat) : Prop :=
  (∀ t, bd_lv N c G p t → bd_C1 W R N c G D p t) ∧ bd_kd W c G p (bd_qq c D p) (kd p) ∧ (bd_op c p ≤ 8 → wn p = bd_qq c D p)
def bd_XB (W R N : Nat) (c : Nat → Nat) (at' : Nat → Int32) (G : Nat → Nat → Nat → Int32) (D kd wn : Nat → Int32) (pd : Int32) : Prop :=
  bd_IB W R N c (fun q => ¬ at' q = 0) G D ∧ (∀ q, bt pd q = true → q < N ∧ ¬ at' q = 0) ∧ (∀ p, p < N → at' p = 0 → kd p = 1) ∧ ∀ p, p < N → ¬ at' p = 0 → ¬ bt pd p = true → bd_Sb W R N c G D kd wn p
def bd_eg (n1 n2 : Nat → Int32) (q e : Nat) : Nat := if e = 0 then (n1 q).toNatClampNeg else (n2 q).toNatClampNeg
def bd_ms (n1 n2 D : Nat → Int32) (q j : Nat) : Prop := ¬ bt (D (4 * bd_eg n1 n2 q (j / 64) + j % 64 / 16)) (j % 16) = true
noncomputable def bd_pot (n1 n2 D : Nat → Int32) (pd : Int32) (q : Nat) : Nat := bd_01 (bt pd q = true) + bd_cn (bd_ms n1 n2 D q) 128
noncomputable def bd_Pb (n1 n2 D : Nat → Int32) (pd : Int32) : Nat := bd_su (bd_pot n1 n2 D pd) 24
theorem bd_Pb_le (n1 n2 D : Nat → Int32) (pd : Int32) : bd_Pb n1 n2 D pd ≤ 3096 := by
  have := bd_su_le (f := bd_pot n1 n2 D pd) (B := 129) (n := 24) (fun k _ => by
    have := bd_01_le (bt pd k = true)
    have := bd_cn_le (bd_ms n1 n2 D k) 128
    unfold bd_pot; omega)
  unfold bd_Pb; omega
theorem bd_01_0 {P : Prop} (h : ¬ P) : bd_01 P = 0 := bd_01f h
/-- what growDemand leaves at p -/
def bd_Gr (N : Nat) (c : Nat → Nat) (L : Nat → Prop) (D : Nat → Int32) (nA nB : Int32) (p r i : Nat) : Prop :=
  bt (D (4 * p + r)) i = true ∨ (¬ (bd_op c p ≤ 8 ∧ r = bd_d c p) ∧ ∃ t, L t ∧ bt (D (4 * t + r)) i = true) ∨ (r = bd_a c p ∧ bt nA i = true) ∨ ((1 ≤ bd_op c p ∧ bd_op c p ≤ 5) ∧ r = bd_b c p ∧ bt nB i = true)
section
variable {W R N : Nat} {c : Nat → Nat} {p : Nat} {at' n1 n2 D D' kd wn wn' : Nat → Int32} {G : Nat → Nat → Nat → Int32} {pd pd0 pd' k nA nB : Int32}
theorem bd_NA_lt {W op b : Nat} {u v : Nat → Int32} {q : Int32} (hW : W ≤ 16) (mq : bd_mk W q) (h6 : op = 6 ∨ op = 7 ∨ op = 10 → b < W) (h8 : op = 8 → 1 ≤ b ∧ b ≤ W) (h9 : op = 0 ∨ op = 9 → b < 2 ^ W) {i : Nat} (h : bd_NA W op b u v q i) : i < W := by
  rcases h with ⟨h1, h2⟩ | ⟨h1, h2, h3⟩ | ⟨h1, h2, h3, h4⟩
  · rcases Nat.lt_or_ge i W with z | z
    · exact z
    · rw [Nat.testBit_lt_two_pow (Nat.lt_of_lt_of_le (h9 (Or.inr h1)) (Nat.pow_le_pow_right (by omega) z))] at h2; cases h2
  · have := h6 (Or.inr (Or.inr h1)); omega
  · rcases h4 with h4 | ⟨-, -, h4⟩
    · exact bd_mk_lt mq h4.2
    · have := bd_bl_le q W
      rcases h4 with z | z | z | z | z
      · omega
      · have := bd_mk_lt mq z.2; omega
      · exact z.2.2.1
      · have := h8 z.1
        rcases z.2 with z | z <;> omega
      · exact z.2.1
theorem bd_NB_lt {W op b : Nat} {u v : Nat → Int32} {q : Int32} (mq : bd_mk W q) {i : Nat} (h : bd_NB W op b u v q i) : i < W := by
  obtain ⟨h1, h2, h3, h4, h5⟩ := h
  rcases h5 with h5 | h5
  · exact bd_mk_lt mq h5.2
  · have := bd_bl_le q W
    rcases h5.2 with z | z
    · omega
    · exact z.2.1
theorem bd_xbs (P : bd_PV W R N c) (hG : bd_V3 G) (hW : W ≤ 16) (hR : R ≤ 4) (hN : N ≤ 24) (B : bd_XB W R N c at' G D kd wn pd) (hp : p < N) (hF : ¬ at' p = 0) (hpd : bt pd p = true) (hN1 : ∀ q, q < N → ¬ at' q = 0 → ∃ t1, n1 q = nI t1 ∧ bd_NX N (bd_lv N c G q) t1 (n2 q))
    (hpd0 : ∀ i, bt pd0 i = true ↔ bt pd i = true ∧ ¬ i = p)
    (dec : bd_Dec W (bd_op c p) (bd_b c p) (G p (bd_a c p)) (G p (bd_ub c p)) (bd_qq c D p) k nA nB) (hw : ∀ j, ¬ j = p → wn' j = wn j) (hwp : bd_op c p ≤ 8 → wn' p = bd_qq c D p)
    (g1 : ∀ r, r < R → ∀ i, bt (D' (4 * p + r)) i = true ↔ bd_Gr N c (bd_lv N c G p) D nA nB p r i) (g2 : ∀ j, (∀ r, r < R → ¬ j = 4 * p + r) → D' j = D j)
    (g3 : (∀ r, r < R → D' (4 * p + r) = D (4 * p + r)) → pd' = pd0) (g4 : (∃ r, r < R ∧ ¬ D' (4 * p + r) = D (4 * p + r)) → ∀ i, bt pd' i = true ↔ bt pd0 i = true ∨ (i < N ∧ ¬ at' i = 0 ∧ (n1 i = nI p ∨ n2 i = nI p))) :
    bd_XB W R N c at' G D' (upd kd p k) wn' pd' ∧ bd_Pb n1 n2 D' pd' < bd_Pb n1 n2 D pd := by
  obtain ⟨I, b2, b3, b4⟩ := B
  obtain ⟨v1, v2, v3, v4, v5, v6, v7, v8, v9⟩ := P p hp
  have mq := bd_qq_mk (c := c) I.1 p
  have hsub : ∀ j, bd_sub (D j) (D' j) := by
    intro j i hi
    by_cases e : ∃ r, r < R ∧ j = 4 * p + r
    · obtain ⟨r, hr, rfl⟩ := e
      exact (g1 r hr i).mpr (Or.inl hi)
    · rw [g2 j (fun r hr z => e ⟨r, hr, z⟩)]; exact hi
  have hmk : ∀ j, bd_mk W (D' j) := by
    intro j
    by_cases e : ∃ r, r < R ∧ j = 4 * p + r
    · obtain ⟨r, hr, rfl⟩ := e
      intro i hi
      cases z : bt (D' (4 * p + r)) i
      · rfl
      · exfalso
        rcases (g1 r hr i).mp z with y | ⟨-, t, -, y⟩ | ⟨-, y⟩ | ⟨-, -, y⟩
        · rw [I.1 _ i hi] at y; cases y
        · rw [I.1 _ i hi] at y; cases y
        · have := bd_NA_lt hW mq v5 v6 v7 ((dec.2.1 i).mp y); omega
        · have := bd_NB_lt mq ((dec.2.2 i).mp y); omega
    · rw [g2 j (fun r hr z => e ⟨r, hr, z⟩)]; exact I.1 j
  have hn : ∀ q r, r < 4 → ¬ q = p → D' (4 * q + r) = D (4 * q + r) := fun q r hr hq => g2 _ (fun s hs => by omega)
  have I' : bd_IB W R N c (fun q => ¬ at' q = 0) G D' := by
    refine bd_IB_step P hG I I hp hF hmk (fun q _ hq r hr => hn q r (by omega) hq) (fun r hr i hi => ?_)
    rcases (g1 r hr i).mp hi with y | ⟨y1, t, y2, y3⟩ | ⟨y1, y2⟩ | ⟨y0, y1, y2⟩
    · exact Or.inl y
    · exact Or.inr (Or.inl ⟨t, y2, y1, y3⟩)
    · exact Or.inr (Or.inr (Or.inl ⟨y1, (dec.2.1 i).mp y2⟩))
    · exact Or.inr (Or.inr (Or.inr ⟨y0.1, y0.2, y1, (dec.2.2 i).mp y2⟩))
  have same : (∀ r, r < R → D' (4 * p + r) = D (4 * p + r)) → D' = D := by
    intro h
    funext j
    by_cases e : ∃ r, r < R ∧ j = 4 * p + r
    · obtain ⟨r, hr, rfl⟩ := e; exact h r hr
    · exact g2 j (fun r hr z => e ⟨r, hr, z⟩)
  have dich : (∀ r, r < R → D' (4 * p + r) = D (4 * p + r)) ∨ (∃ r, r < R ∧ ¬ D' (4 * p + r) = D (4 * p + r)) := by
    rcases Classical.em (∃ r, r < R ∧ ¬ D' (4 * p + r) = D (4 * p + r)) with z | z
    · exact Or.inr z
    · exact Or.inl fun r hr => Classical.byContradiction fun y => z ⟨r, hr, y⟩
  -- an edge to p is seen by the waiting list
  have pre : ∀ t, t < N → ¬ at' t = 0 → bd_lv N c G t p → n1 t = nI p ∨ n2 t = nI p := by
    intro t ht ft l
    obtain ⟨t1, e1, hx⟩ := hN1 t ht ft
    rcases hx.2 with ⟨-, hl⟩ | ⟨s, -, e2, hl⟩
    · left; rw [e1, (hl p).mp l]
    · rcases (hl p).mp l with z | z
      · left; rw [e1, z]
      · right; rw [e2, z]
  have pd'0 : ∀ i, bt pd0 i = true → bt pd' i = true := by
    intro i hi
    rcases dich with z | z
    · rw [g3 z]; exact hi
    · exact (g4 z i).mpr (Or.inl hi)
  have ns : ∀ t, t < N → ¬ at' t = 0 → ¬ bt pd' t = true → ∀ s, bd_lv N c G t s → ∀ r, r < R → D' (4 * s + r) = D (4 * s + r) := by
    intro t ht ft hb s l r hr
    by_cases e : s = p
    · rcases dich with z | z
      · rw [e]; exact z r hr
      · subst e
        exact absurd ((g4 z t).mpr (Or.inr ⟨ht, ft, pre t ht ft l⟩)) hb
    · exact hn s r (by omega) e
  have nq : ∀ t, t < N → ¬ at' t = 0 → ¬ bt pd' t = true → bd_qq c D' t = bd_qq c D t := by
    intro t ht ft hb
    unfold bd_qq
    by_cases h8 : bd_op c t ≤ 8
    · rw [if_pos h8, if_pos h8]
      exact ns t ht ft hb (t + 1) (Or.inl ⟨rfl, fun z => by omega⟩) _ ((P t ht).2.2.1 h8)
    · rw [if_neg h8, if_neg h8]
  refine ⟨⟨I', fun q hq => ?_, fun q hq fq => ?_, fun t ht ft hb => ?_⟩, ?_⟩
  · rcases dich with z | z
    · rw [g3 z] at hq
      exact b2 q ((hpd0 q).mp hq).1
    · rcases (g4 z q).mp hq with y | y
      · exact b2 q ((hpd0 q).mp y).1
      · exact ⟨y.1, y.2.1⟩
  · have : ¬ q = p := fun e => hF (by rw [← e]; exact fq)
    rw [pk_un this]; exact b3 q hq fq
  · have eq := nq t ht ft hb
    by_cases e : t = p
    · subst e
      refine ⟨fun s l r hr => ?_, by rw [pk_us, eq]; exact dec.1, fun h8 => by rw [eq]; exact hwp h8⟩
      refine ⟨fun z i hi => ?_, fun z i hi => ?_, fun z1 z2 z3 i hi => ?_⟩
      · rw [ns t ht ft hb s l r hr] at hi
        exact (g1 r hr i).mpr (Or.inr (Or.inl ⟨z, s, l, hi⟩))
      · rw [eq] at hi
        exact (g1 r hr i).mpr (Or.inr (Or.inr (Or.inl ⟨z, (dec.2.1 i).mpr hi⟩)))
      · rw [eq] at hi
        exact (g1 r hr i).mpr (Or.inr (Or.inr (Or.inr ⟨⟨z1, z2⟩, z3, (dec.2.2 i).mpr hi⟩)))
    · have hb' : ¬ bt pd t = true := fun z => hb (pd'0 t ((hpd0 t).mpr ⟨z, e⟩))
      obtain ⟨s1, s2, s3⟩ := b4 t ht ft hb'
      refine ⟨fun s l r hr => ?_, by rw [pk_un e, eq]; exact s2, fun h8 => by rw [eq, hw t e]; exact s3 h8⟩
      obtain ⟨y1, y2, y3⟩ := s1 s l r hr
      rw [hn t r (by omega) e, ns t ht ft hb s l r hr, eq]
      exact ⟨y1, y2, y3⟩
  · refine bd_su_lt (a := p) (fun t ht => ?_) (by omega) ?_
    · have mm : bd_cn (bd_ms n1 n2 D' t) 128 ≤ bd_cn (bd_ms n1 n2 D t) 128 := bd_cn_m fun j _ z y => z (hsub _ _ y)
      unfold bd_pot
      rcases Classical.em (bt pd' t = true) with y | y
      · rcases dich with z | z
        · rw [g3 z] at y
          rw [bd_01t ((hpd0 t).mp y).1]
          have := bd_01_le (bt pd' t = true)
          omega
        · rcases (g4 z t).mp y with x | x
          · rw [bd_01t ((hpd0 t).mp x).1]
            have := bd_01_le (bt pd' t = true)
            omega
          · obtain ⟨r, hr, z⟩ := z
            obtain ⟨i, hi, i1, i2⟩ := bd_dif (I.1 _) (hmk _) (hsub _) z
            have ex : ∃ e, e < 2 ∧ bd_eg n1 n2 t e = p := by
              rcases x.2.2 with x | x
              · exact ⟨0, by omega, by unfold bd_eg; rw [if_pos rfl, x, bd_cl (by omega)]⟩
              · exact ⟨1, by omega, by unfold bd_eg; rw [if_neg (by omega), x, bd_cl (by omega)]⟩
            obtain ⟨e, he, ee⟩ := ex
            have := bd_cn_lt (P := bd_ms n1 n2 D' t) (Q := bd_ms n1 n2 D t) (a := 64 * e + 16 * r + i) (by
              unfold bd_ms
              rw [show (64 * e + 16 * r + i) / 64 = e by omega, show (64 * e + 16 * r + i) % 64 / 16 = r by omega, show (64 * e + 16 * r + i) % 16 = i by omega, ee]
              exact fun q => q i2) (by
              unfold bd_ms
              rw [show (64 * e + 16 * r + i) / 64 = e by omega, show (64 * e + 16 * r + i) % 64 / 16 = r by omega, show (64 * e + 16 * r + i) % 16 = i by omega, ee]
              exact i1) (N := 128) (fun j _ z y => z (hsub _ _ y)) (by omega)
            have := bd_01_le (bt pd' t = true)
            omega
      · rw [bd_01f y]; omega
    · have mm : bd_cn (bd_ms n1 n2 D' p) 128 ≤ bd_cn (bd_ms n1 n2 D p) 128 := bd_cn_m fun j _ z y => z (hsub _ _ y)
      unfold bd_pot
      rw [bd_01t hpd]
      rcases Classical.em (bt pd' p = true) with y | y
      · rcases dich with z | z
        · rw [g3 z] at y
          exact absurd rfl ((hpd0 p).mp y).2
        · rcases (g4 z p).mp y with x | x
          · exact absurd rfl ((hpd0 p).mp x).2
          · obtain ⟨r, hr, z⟩ := z
            obtain ⟨i, hi, i1, i2⟩ := bd_dif (I.1 _) (hmk _) (hsub _) z
            have ex : ∃ e, e < 2 ∧ bd_eg n1 n2 p e = p := by
              rcases x.2.2 with x | x
              · exact ⟨0, by omega, by unfold bd_eg; rw [if_pos rfl, x, bd_cl (by omega)]⟩
              · exact ⟨1, by omega, by unfold bd_eg; rw [if_neg (by omega), x, bd_cl (by omega)]⟩
            obtain ⟨e, he, ee⟩ := ex
            have := bd_cn_lt (P := bd_ms n1 n2 D' p) (Q := bd_ms n1 n2 D p) (a := 64 * e + 16 * r + i) (by
              unfold bd_ms
              rw [show (64 * e + 16 * r + i) / 64 = e by omega, show (64 * e + 16 * r + i) % 64 / 16 = r by omega, show (64 * e + 16 * r + i) % 16 = i by omega, ee]
              exact fun q => q i2) (by
              unfold bd_ms
              rw [show (64 * e + 16 * r + i) / 64 = e by omega, show (64 * e + 16 * r + i) % 64 / 16 = r by omega, show (64 * e + 16 * r + i) % 16 = i by omega, ee]
              exact i1) (N := 128) (fun j _ z y => z (hsub _ _ y)) (by omega)
            have := bd_01_le (bt pd' p = true)
            omega
      · rw [bd_01f y]; omega
end
end
section
/-! ===== the component's backward walk ===== -/
section
variable {W R N C : Nat} {c : Nat → Nat} {p r : Nat}
variable {f_w f_regCount f_cap f_all f_n f_analysed f_pending f_a0 f_a1 f_b0 f_b1 f_needA f_needB f_chain f_started : Int32} {a_fop a_fd a_fa a_fb a_at a_k0 a_k1 a_dem a_r0 a_r1 a_next1 a_next2 a_want a_kind a_widths a_inputs a_regs a_pcs a_logs a_counts : Nat → Int32}
variable {post : Int32 → SX → Prop} {J : Int32 → Int32 → (Nat → Int32) → (Nat → Int32) → (Nat → Int32) → (Nat → Int32) → (Nat → Int32) → (Nat → Int32) → (Nat → Int32) → (Nat → Int32) → (Nat → Int32) → (Nat → Int32) → (Nat → Int32) → (Nat → Int32) → (Nat → Int32) → (Nat → Int32) → (Nat → Int32) → (Nat → Int32) → (Nat → Int32) → (Nat → Int32) → (Nat → Int32) → (Nat → Int32) → Prop} {x2 x3 x4 x6 : Int32}
theorem bd_X_g122 (hr : r < 4) (hp : p < 24) (K : ∀ x, (x6 = a_dem (4 * p + r) ∧ x = x2 ∨ ¬ x6 = a_dem (4 * p + r) ∧ x = 1) → J x (nI (r + 1)) a_fop a_fd a_fa a_fb a_at a_k0 a_k1 (upd a_dem (4 * p + r) x6) a_r0 a_r1 a_next1 a_next2 a_want a_kind a_widths a_inputs a_regs a_pcs a_logs a_counts) : wX_growDemand_122 post J (nI p) x2 x3 x4 (nI r) x6 f_w f_regCount f_cap f_all f_n f_analysed f_pending f_a0 f_a1 f_b0 f_b1 f_needA f_needB f_chain f_started a_fop a_fd a_fa a_fb a_at a_k0 a_k1 a_dem a_r0 a_r1 a_next1 a_next2 a_want a_kind a_widths a_inputs a_regs a_pcs a_logs a_counts := by
  have hi : vp_in (nI (4 * p + r)) 100 := vp_in_nI (by omega) (by omega)
  unfold wX_growDemand_122 wX_growDemand_140
  rw [bd_ix, bd_fat (f := a_dem) (p := 4 * p + r) (by omega)]
  exact ⟨hi, br_c (fun e => ⟨hi, nm_r (bd_uat (by omega) rfl) (nm_r (nI_1 r) (K _ (Or.inl ⟨e, rfl⟩)))⟩) (fun e => ⟨hi, nm_r (bd_uat (by omega) rfl) (nm_r (nI_1 r) (K _ (Or.inr ⟨e, rfl⟩)))⟩)⟩
theorem bd_X_g97 (hc : bd_XC N c a_fop a_fd a_fa a_fb) (P : bd_PV W R N c) (hR : R ≤ 4) (hN : N ≤ 24) (hr : r < R) (hp : p < N) (h4 : x4 = 0 ∧ ¬ (1 ≤ bd_op c p ∧ bd_op c p ≤ 5) ∨ x4 = 1 ∧ (1 ≤ bd_op c p ∧ bd_op c p ≤ 5))
    (K : ∀ y x, (∀ i, bt y i = true ↔ bt x6 i = true ∨ ((1 ≤ bd_op c p ∧ bd_op c p ≤ 5) ∧ r = bd_b c p ∧ bt f_needB i = true)) → (y = a_dem (4 * p + r) ∧ x = x2 ∨ ¬ y = a_dem (4 * p + r) ∧ x = 1) → J x (nI (r + 1)) a_fop a_fd a_fa a_fb a_at a_k0 a_k1 (upd a_dem (4 * p + r) y) a_r0 a_r1 a_next1 a_next2 a_want a_kind a_widths a_inputs a_regs a_pcs a_logs a_counts) : wX_growDemand_97 post J (nI p) x2 x3 x4 (nI r) x6 f_w f_regCount f_cap f_all f_n f_analysed f_pending f_a0 f_a1 f_b0 f_b1 f_needA f_needB f_chain f_started a_fop a_fd a_fa a_fb a_at a_k0 a_k1 a_dem a_r0 a_r1 a_next1 a_next2 a_want a_kind a_widths a_inputs a_regs a_pcs a_logs a_counts := by
  obtain ⟨e1, e2, e3, e4⟩ := hc p hp
  obtain ⟨v1, v2, v3, v4, v5, v6, v7, v8, v9⟩ := P p hp
  have h24 : vp_in (nI p) 24 := vp_in_nI (by omega) (by omega)
  rcases h4 with ⟨rfl, h4⟩ | ⟨rfl, h4⟩
  · refine br_t rfl (bd_X_g122 (by omega) (by omega) (K _ · (fun i => ⟨Or.inl, fun z => z.elim id (fun z => absurd z.1 h4)⟩)))
  · refine br_f (by decide) ⟨h24, ?_⟩
    refine pk_eq r (bd_b c p) (fun e => ?_) (fun e => ?_) (hy := (bd_fat (by omega)).trans e4)
    · refine nm_e (bd_X_g122 (by omega) (by omega) (K _ · (fun i => ?_)))
      rw [b_or, Bool.or_eq_true]
      exact ⟨fun z => z.imp id (fun z => ⟨h4, e, z⟩), fun z => z.imp id (fun z => z.2.2)⟩
    · exact bd_X_g122 (by omega) (by omega) (K _ · (fun i => ⟨Or.inl, fun z => z.elim id (fun z => absurd z.2.1 e)⟩))
theorem bd_X_g77 (hc : bd_XC N c a_fop a_fd a_fa a_fb) (P : bd_PV W R N c) (hR : R ≤ 4) (hN : N ≤ 24) (hr : r < R) (hp : p < N) (h4 : x4 = 0 ∧ ¬ (1 ≤ bd_op c p ∧ bd_op c p ≤ 5) ∨ x4 = 1 ∧ (1 ≤ bd_op c p ∧ bd_op c p ≤ 5))
    (K : ∀ y x, (∀ i, bt y i = true ↔ bt x6 i = true ∨ (r = bd_a c p ∧ bt f_needA i = true) ∨ ((1 ≤ bd_op c p ∧ bd_op c p ≤ 5) ∧ r = bd_b c p ∧ bt f_needB i = true)) → (y = a_dem (4 * p + r) ∧ x = x2 ∨ ¬ y = a_dem (4 * p + r) ∧ x = 1) → J x (nI (r + 1)) a_fop a_fd a_fa a_fb a_at a_k0 a_k1 (upd a_dem (4 * p + r) y) a_r0 a_r1 a_next1 a_next2 a_want a_kind a_widths a_inputs a_regs a_pcs a_logs a_counts) : wX_growDemand_77 post J (nI p) x2 x3 x4 (nI r) x6 f_w f_regCount f_cap f_all f_n f_analysed f_pending f_a0 f_a1 f_b0 f_b1 f_needA f_needB f_chain f_started a_fop a_fd a_fa a_fb a_at a_k0 a_k1 a_dem a_r0 a_r1 a_next1 a_next2 a_want a_kind a_widths a_inputs a_regs a_pcs a_logs a_counts := by
  obtain ⟨e1, e2, e3, e4⟩ := hc p hp
  obtain ⟨v1, v2, v3, v4, v5, v6, v7, v8, v9⟩ := P p hp
  have h24 : vp_in (nI p) 24 := vp_in_nI (by omega) (by omega)
  refine And.intro h24 ?_
  refine pk_eq r (bd_a c p) (fun e => ?_) (fun e => ?_) (hy := (bd_fat (by omega)).trans e3)
  · refine nm_e (bd_X_g97 hc P hR hN hr hp h4 (fun y x hy hx => K y x (fun i => ?_) hx))
    rw [hy i, b_or, Bool.or_eq_true]
    constructor
    · rintro ((z | z) | z)
      · exact Or.inl z
      · exact Or.inr (Or.inl ⟨e, z⟩)
      · exact Or.inr (Or.inr z)
    · rintro (z | z | z)
      · exact Or.inl (Or.inl z)
      · exact Or.inl (Or.inr z.2)
      · exact Or.inr z
  · refine bd_X_g97 hc P hR hN hr hp h4 (fun y x hy hx => K y x (fun i => ?_) hx)
    rw [hy i]
    constructor
    · rintro (z | z)
      · exact Or.inl z
      · exact Or.inr (Or.inr z)
    · rintro (z | z | z)
      · exact Or.inl z
      · exact absurd z.1 e
      · exact Or.inr z
end
section
variable {W R N C : Nat} {c : Nat → Nat} {p : Nat}
variable {f_w f_regCount f_cap f_all f_n f_analysed f_pending f_a0 f_a1 f_b0 f_b1 f_needA f_needB f_chain f_started : Int32} {a_fop a_fd a_fa a_fb a_at a_k0 a_k1 a_dem a_r0 a_r1 a_next1 a_next2 a_want a_kind a_widths a_inputs a_regs a_pcs a_logs a_counts : Nat → Int32}
theorem bd_X_gd {post : Int32 → SX → Prop} {L : Nat → Prop} {t1 : Nat} (hc : bd_XC N c a_fop a_fd a_fa a_fb) (P : bd_PV W R N c) (hN : N ≤ 24) (hR : R ≤ 4) (hp : p < N) (en : a_next1 p = nI t1) (hx : bd_NX N L t1 (a_next2 p))
    (K : ∀ g D', (∀ r, r < R → ∀ i, bt (D' (4 * p + r)) i = true ↔ bd_Gr N c L a_dem f_needA f_needB p r i) → (∀ j, (∀ r, r < R → ¬ j = 4 * p + r) → D' j = a_dem j) →
      (g = 0 ∧ (∀ r, r < R → D' (4 * p + r) = a_dem (4 * p + r)) ∨ g = 1 ∧ (∃ r, r < R ∧ ¬ D' (4 * p + r) = a_dem (4 * p + r))) → post g (nI W, nI R, nI C, bd_lo W, nI N, f_analysed, f_pending, f_a0, f_a1, f_b0, f_b1, f_needA, f_needB, f_chain, f_started, a_fop, a_fd, a_fa, a_fb, a_at, a_k0, a_k1, D', a_r0, a_r1, a_next1, a_next2, a_want, a_kind, a_widths, a_inputs, a_regs, a_pcs, a_logs, a_counts)) : wpX_growDemand post (nI W, nI R, nI C, bd_lo W, nI N, f_analysed, f_pending, f_a0, f_a1, f_b0, f_b1, f_needA, f_needB, f_chain, f_started, a_fop, a_fd, a_fa, a_fb, a_at, a_k0, a_k1, a_dem, a_r0, a_r1, a_next1, a_next2, a_want, a_kind, a_widths, a_inputs, a_regs, a_pcs, a_logs, a_counts) (nI p) := by
  obtain ⟨e1, e2, e3, e4⟩ := hc p hp
  obtain ⟨v1, v2, v3, v4, v5, v6, v7, v8, v9⟩ := P p hp
  have h24 : vp_in (nI p) 24 := vp_in_nI (by omega) (by omega)
  have loop : ∀ x3 x4 : Int32, (x3 = 0 ∧ 8 < bd_op c p ∨ x3 = 1 ∧ bd_op c p ≤ 8) → (x4 = 0 ∧ ¬ (1 ≤ bd_op c p ∧ bd_op c p ≤ 5) ∨ x4 = 1 ∧ (1 ≤ bd_op c p ∧ bd_op c p ≤ 5)) →
      ∀ m r D' g, r + m = R → (∀ s, s < r → ∀ i, bt (D' (4 * p + s)) i = true ↔ bd_Gr N c L a_dem f_needA f_needB p s i) → (∀ j, (∀ s, s < r → ¬ j = 4 * p + s) → D' j = a_dem j) →
      (g = 0 ∧ (∀ s, s < r → D' (4 * p + s) = a_dem (4 * p + s)) ∨ g = 1 ∧ (∃ s, s < r ∧ ¬ D' (4 * p + s) = a_dem (4 * p + s))) →
      wX_growDemand_28 post (nI p) x3 x4 (nI W) (nI R) (nI C) (bd_lo W) (nI N) f_analysed f_pending f_a0 f_a1 f_b0 f_b1 f_needA f_needB f_chain f_started (m + 1) g (nI r) a_fop a_fd a_fa a_fb a_at a_k0 a_k1 D' a_r0 a_r1 a_next1 a_next2 a_want a_kind a_widths a_inputs a_regs a_pcs a_logs a_counts := by
    intro x3 x4 h3 h4 m
    induction m with
    | zero =>
      intro r D' g hr hd hj hg
      obtain rfl : r = R := by omega
      refine br_t (nI_le (Nat.le_refl _) (by omega)) ⟨?_, K g D' hd hj hg⟩
      rcases hg with hg | hg
      · rw [hg.1]; rfl
      · rw [hg.1]; rfl
    | succ m ih =>
      intro r D' g hr hd hj hg
      have hpr := hj (4 * p + r) (fun s hs => by omega)
      have htr : ∀ t, D' (4 * t + r) = a_dem (4 * t + r) := fun t => hj _ (fun s hs => by omega)
      have nxt : ∀ y x, (∀ i, bt y i = true ↔ bd_Gr N c L a_dem f_needA f_needB p r i) → (y = D' (4 * p + r) ∧ x = g ∨ ¬ y = D' (4 * p + r) ∧ x = 1) → wX_growDemand_28 post (nI p) x3 x4 (nI W) (nI R) (nI C) (bd_lo W) (nI N) f_analysed f_pending f_a0 f_a1 f_b0 f_b1 f_needA f_needB f_chain f_started (m + 1) x (nI (r + 1)) a_fop a_fd a_fa a_fb a_at a_k0 a_k1 (upd D' (4 * p + r) y) a_r0 a_r1 a_next1 a_next2 a_want a_kind a_widths a_inputs a_regs a_pcs a_logs a_counts := by
        intro y x hy hx
        rw [hpr] at hx
        refine ih (r + 1) _ x (by omega) (fun s hs => ?_) (fun j h => ?_) ?_
        · by_cases e : s = r
          · rw [e, pk_us]; exact hy
          · rw [pk_un (by omega)]; exact hd s (by omega)
        · rw [pk_un (h r (by omega))]
          exact hj j (fun s hs => h s (by omega))
        · rcases hx with ⟨q1, q2⟩ | ⟨q1, q2⟩
          · rcases hg with ⟨w1, w2⟩ | ⟨w1, s, w2, w3⟩
            · refine Or.inl ⟨q2.trans w1, fun s hs => ?_⟩
              by_cases e : s = r
              · rw [e, pk_us]; exact q1
              · rw [pk_un (by omega)]; exact w2 s (by omega)
            · refine Or.inr ⟨q2.trans w1, s, by omega, ?_⟩
              rw [pk_un (by omega)]; exact w3
          · refine Or.inr ⟨q2, r, by omega, ?_⟩
            rw [pk_us]; exact q1
      have s77 : (bd_op c p ≤ 8 ∧ r = bd_d c p) → wX_growDemand_77 post (wX_growDemand_28 post (nI p) x3 x4 (nI W) (nI R) (nI C) (bd_lo W) (nI N) f_analysed f_pending f_a0 f_a1 f_b0 f_b1 f_needA f_needB f_chain f_started (m + 1)) (nI p) g x3 x4 (nI r) (D' (4 * p + r)) (nI W) (nI R) (nI C) (bd_lo W) (nI N) f_analysed f_pending f_a0 f_a1 f_b0 f_b1 f_needA f_needB f_chain f_started a_fop a_fd a_fa a_fb a_at a_k0 a_k1 D' a_r0 a_r1 a_next1 a_next2 a_want a_kind a_widths a_inputs a_regs a_pcs a_logs a_counts := by
        intro hw
        refine bd_X_g77 hc P hR hN (by omega) hp h4 (fun y x hy hx => nxt y x (fun i => ?_) hx)
        rw [hy i, hpr]
        exact ⟨fun z => z.imp id Or.inr, fun z => z.imp id (fun z => z.elim (fun z => absurd hw z.1) id)⟩
      have s65 : ¬ (bd_op c p ≤ 8 ∧ r = bd_d c p) → wX_growDemand_65 post (wX_growDemand_28 post (nI p) x3 x4 (nI W) (nI R) (nI C) (bd_lo W) (nI N) f_analysed f_pending f_a0 f_a1 f_b0 f_b1 f_needA f_needB f_chain f_started (m + 1)) (nI p) g x3 x4 (nI r) (D' (4 * p + r)) (nI W) (nI R) (nI C) (bd_lo W) (nI N) f_analysed f_pending f_a0 f_a1 f_b0 f_b1 f_needA f_needB f_chain f_started a_fop a_fd a_fa a_fb a_at a_k0 a_k1 D' a_r0 a_r1 a_next1 a_next2 a_want a_kind a_widths a_inputs a_regs a_pcs a_logs a_counts := by
        intro hw
        unfold wX_growDemand_65
        refine bd_X_af hN hp (by omega) en hx (fun a ha => nm_e (bd_X_g77 hc P hR hN (by omega) hp h4 (fun y x hy hx => nxt y x (fun i => ?_) hx)))
        rw [hy i, b_or, Bool.or_eq_true, ha i, hpr]
        constructor
        · rintro ((z | ⟨t, z1, z2⟩) | z)
          · exact Or.inl z
          · rw [htr t] at z2; exact Or.inr (Or.inl ⟨hw, t, z1, z2⟩)
          · exact Or.inr (Or.inr z)
        · rintro (z | ⟨-, t, z1, z2⟩ | z)
          · exact Or.inl (Or.inl z)
          · exact Or.inl (Or.inr ⟨t, z1, by rw [htr t]; exact z2⟩)
          · exact Or.inr z
      refine br_f (nI_ge (by omega) (by omega)) ?_
      rw [bd_ix]
      refine ⟨vp_in_nI (by omega) (by omega), nm_r (bd_fat (by omega)) ?_⟩
      rcases h3 with ⟨rfl, h3⟩ | ⟨rfl, h3⟩
      · exact br_t rfl (s65 fun z => by omega)
      · refine br_f (by decide) ⟨h24, ?_⟩
        have hd' := v3 h3
        refine pk_eq r (bd_d c p) (fun e => s77 ⟨h3, e⟩) (fun e => s65 fun z => e z.2) (hy := (bd_fat (by omega)).trans e2)
  refine And.intro h24 ?_
  rw [bd_fat (f := a_fop) (p := p) (by omega), e1]
  refine bd_X_wr v1 (fun h8 => ⟨h24, bd_X_bin v1 (fun b1 b5 => ⟨R + 1, ?_⟩) (fun nb => ⟨R + 1, ?_⟩)⟩) (fun h9 => ⟨h24, bd_X_bin v1 (fun b1 b5 => ⟨R + 1, ?_⟩) (fun nb => ⟨R + 1, ?_⟩)⟩)
  · exact loop 1 1 (Or.inr ⟨rfl, h8⟩) (Or.inr ⟨rfl, b1, b5⟩) R 0 _ 0 (by omega) (fun s hs => by omega) (fun _ _ => rfl) (Or.inl ⟨rfl, fun s hs => by omega⟩)
  · exact loop 1 0 (Or.inr ⟨rfl, h8⟩) (Or.inl ⟨rfl, nb⟩) R 0 _ 0 (by omega) (fun s hs => by omega) (fun _ _ => rfl) (Or.inl ⟨rfl, fun s hs => by omega⟩)
  · exact loop 0 1 (Or.inl ⟨rfl, h9⟩) (Or.inr ⟨rfl, b1, b5⟩) R 0 _ 0 (by omega) (fun s hs => by omega) (fun _ _ => rfl) (Or.inl ⟨rfl, fun s hs => by omega⟩)
  · exact loop 0 0 (Or.inl ⟨rfl, h9⟩) (Or.inl ⟨rfl, nb⟩) R 0 _ 0 (by omega) (fun s hs => by omega) (fun _ _ => rfl) (Or.inl ⟨rfl, fun s hs => by omega⟩)
theorem bd_X_aw {post : SX → Prop} (hN : N ≤ 24) (K : ∀ pd, (∀ i, bt pd i = true ↔ bt f_pending i = true ∨ (i < N ∧ ¬ a_at i = 0 ∧ (a_next1 i = nI p ∨ a_next2 i = nI p))) → post (nI W, nI R, nI C, bd_lo W, nI N, f_analysed, pd, f_a0, f_a1, f_b0, f_b1, f_needA, f_needB, f_chain, f_started, a_fop, a_fd, a_fa, a_fb, a_at, a_k0, a_k1, a_dem, a_r0, a_r1, a_next1, a_next2, a_want, a_kind, a_widths, a_inputs, a_regs, a_pcs, a_logs, a_counts)) : wpX_awakePredecessors post (nI W, nI R, nI C, bd_lo W, nI N, f_analysed, f_pending, f_a0, f_a1, f_b0, f_b1, f_needA, f_needB, f_chain, f_started, a_fop, a_fd, a_fa, a_fb, a_at, a_k0, a_k1, a_dem, a_r0, a_r1, a_next1, a_next2, a_want, a_kind, a_widths, a_inputs, a_regs, a_pcs, a_logs, a_counts) (nI p) := by
  have loop : ∀ m q pd, q + m = N → (∀ i, bt pd i = true ↔ bt f_pending i = true ∨ (i < q ∧ ¬ a_at i = 0 ∧ (a_next1 i = nI p ∨ a_next2 i = nI p))) → wX_awakePredecessors_2 post (nI p) (nI W) (nI R) (nI C) (bd_lo W) (nI N) f_analysed f_a0 f_a1 f_b0 f_b1 f_needA f_needB f_chain f_started a_fop a_fd a_fa a_fb a_at a_k0 a_k1 a_dem a_r0 a_r1 a_next1 a_next2 a_want a_kind a_widths a_inputs a_regs a_pcs a_logs a_counts (m + 1) (nI q) pd := by
    intro m
    induction m with
    | zero =>
      intro q pd hq h
      obtain rfl : q = N := by omega
      exact br_t (nI_le (Nat.le_refl _) (by omega)) (K pd h)
    | succ m ih =>
      intro q pd hq h
      have h25 : vp_in (nI q) 25 := vp_in_nI (by omega) (by omega)
      have h24 : vp_in (nI q) 24 := vp_in_nI (by omega) (by omega)
      have skip : ¬ (¬ a_at q = 0 ∧ (a_next1 q = nI p ∨ a_next2 q = nI p)) → wX_awakePredecessors_2 post (nI p) (nI W) (nI R) (nI C) (bd_lo W) (nI N) f_analysed f_a0 f_a1 f_b0 f_b1 f_needA f_needB f_chain f_started a_fop a_fd a_fa a_fb a_at a_k0 a_k1 a_dem a_r0 a_r1 a_next1 a_next2 a_want a_kind a_widths a_inputs a_regs a_pcs a_logs a_counts (m + 1) (nI (q + 1)) pd := by
        intro g
        refine ih (q + 1) pd (by omega) (fun i => (h i).trans ⟨fun z => z.imp id (fun z => ⟨by omega, z.2⟩), fun z => z.imp id (fun z => ⟨?_, z.2⟩)⟩)
        rcases Nat.lt_or_ge i q with y | y
        · exact y
        · have : i = q := by omega
          subst this; exact absurd z.2 g
      have put : (¬ a_at q = 0 ∧ (a_next1 q = nI p ∨ a_next2 q = nI p)) → wX_awakePredecessors_2 post (nI p) (nI W) (nI R) (nI C) (bd_lo W) (nI N) f_analysed f_a0 f_a1 f_b0 f_b1 f_needA f_needB f_chain f_started a_fop a_fd a_fa a_fb a_at a_k0 a_k1 a_dem a_r0 a_r1 a_next1 a_next2 a_want a_kind a_widths a_inputs a_regs a_pcs a_logs a_counts (m + 1) (nI (q + 1)) (pd ||| ((1 : Int32) <<< (nI q &&& 31))) := by
        intro g
        refine ih (q + 1) _ (by omega) (fun i => ?_)
        rw [bd_bit_or (by omega), h i]
        constructor
        · rintro ((z | z) | z)
          · exact Or.inl z
          · exact Or.inr ⟨by omega, z.2⟩
          · subst z; exact Or.inr ⟨by omega, g⟩
        · rintro (z | z)
          · exact Or.inl (Or.inl z)
          · by_cases e : i = q
            · exact Or.inr e
            · exact Or.inl (Or.inr ⟨by omega, z.2⟩)
      refine br_f (nI_ge (by omega) (by omega)) ⟨h25, ?_⟩
      rw [bd_fat (f := a_at) (p := q) (by omega), bd_fat (f := a_next1) (p := q) (by omega), bd_fat (f := a_next2) (p := q) (by omega)]
      refine br_c (fun e => nm_r (nI_1 q) (skip fun z => z.1 e)) (fun e => ⟨h24, br_c (fun e1 => nm_e (nm_r (nI_1 q) (put ⟨e, Or.inl e1⟩))) (fun e1 => ⟨h24, br_c (fun e2 => nm_e (nm_r (nI_1 q) (put ⟨e, Or.inr e2⟩))) (fun e2 => nm_r (nI_1 q) (skip fun z => z.2.elim e1 e2))⟩)⟩)
  exact ⟨N + 1, loop N 0 _ (by omega) (fun i => ⟨Or.inl, fun z => z.elim id (fun z => by omega)⟩)⟩
end
end
section
/-! ===== the component's analysis as a whole ===== -/
def bd_un (D : Nat → Int32) (r : Nat) : Nat → Int32
  | 0 => 0
  | k + 1 => bd_un D r k ||| D (4 * k + r)
def bd_ck (k : Nat → Int32) : Nat → Nat
  | 0 => 0
  | p + 1 => bd_ck k p + (if k p = 0 then 0 else 1)
theorem bd_ck_le (k : Nat → Int32) : ∀ p, bd_ck k p ≤ p
  | 0 => Nat.le_refl _
  | p + 1 => by
    have := bd_ck_le k p
    unfold bd_ck; split <;> omega
section
variable {W R N C : Nat} {c : Nat → Nat}
variable {f_w f_regCount f_cap f_all f_n f_analysed f_pending f_a0 f_a1 f_b0 f_b1 f_needA f_needB f_chain f_started : Int32} {a_fop a_fd a_fa a_fb a_at a_k0 a_k1 a_dem a_r0 a_r1 a_next1 a_next2 a_want a_kind a_widths a_inputs a_regs a_pcs a_logs a_counts : Nat → Int32}
theorem bd_X_b51 {post : SX → Prop} (hc : bd_XC N c a_fop a_fd a_fa a_fb) (P : bd_PV W R N c) (hW : W ≤ 16) (hW0 : 1 ≤ W) (hN : N ≤ 24) (hR : R ≤ 4) (FJ : bd_XJ W R N c 25 a_at a_k0 a_k1 a_r0 a_r1 a_next1 a_next2 0)
    (K : ∀ a0 a1 b0 b1 nA nB ch D wn kd, bd_XB W R N c a_at (bd_gx W a_k0 a_k1) D kd wn 0 → post (nI W, nI R, nI C, bd_lo W, nI N, f_analysed, 0, a0, a1, b0, b1, nA, nB, ch, f_started, a_fop, a_fd, a_fa, a_fb, a_at, a_k0, a_k1, D, a_r0, a_r1, a_next1, a_next2, wn, kd, a_widths, a_inputs, a_regs, a_pcs, a_logs, a_counts)) :
    ∀ m k a0 a1 b0 b1 nA nB ch D wn kd pd, bd_XB W R N c a_at (bd_gx W a_k0 a_k1) D kd wn pd → bd_Pb a_next1 a_next2 D pd ≤ m → k + m < 4000 →
      wX_backward_51 post (m + 1) (nI k) (nI W) (nI R) (nI C) (bd_lo W) (nI N) f_analysed pd a0 a1 b0 b1 nA nB ch f_started a_fop a_fd a_fa a_fb a_at a_k0 a_k1 D a_r0 a_r1 a_next1 a_next2 wn kd a_widths a_inputs a_regs a_pcs a_logs a_counts := by
  intro m
  induction m with
  | zero =>
    intro k a0 a1 b0 b1 nA nB ch D wn kd pd B ph hk
    refine br_f (nI_ge (b := 4000) (by omega) (by omega)) ?_
    have e : pd = 0 := by
      refine bd_z.mpr fun i => ?_
      cases g : bt pd i
      · rfl
      · have hi := (B.2.1 i g).1
        have := bd_su_lt (f := fun _ => 0) (g := bd_pot a_next1 a_next2 D pd) (a := i) (n := 24) (fun _ _ => Nat.zero_le _) (by omega) (by
          show 0 < bd_pot a_next1 a_next2 D pd i
          unfold bd_pot; rw [bd_01t g]; omega)
        unfold bd_Pb at ph
        omega
    subst e
    exact br_t rfl (K _ _ _ _ _ _ _ _ _ _ B)
  | succ m ih =>
    intro k a0 a1 b0 b1 nA nB ch D wn kd pd B ph hk
    refine br_f (nI_ge (b := 4000) (by omega) (by omega)) ?_
    by_cases e : pd = 0
    · subst e
      exact br_t rfl (K _ _ _ _ _ _ _ _ _ _ B)
    · refine br_f e ?_
      have hb0 : 0 < bd_bl pd 32 := by
        rcases Nat.eq_zero_or_pos (bd_bl pd 32) with z | z
        · exfalso
          apply e
          refine b_ext fun i hi => ?_
          rw [b_0]; exact bd_bl_f (by omega) hi
        · exact z
      have hpd := bd_bl_t hb0
      obtain ⟨p, hpe⟩ : ∃ p, bd_bl pd 32 = p + 1 := ⟨bd_bl pd 32 - 1, by omega⟩
      rw [hpe, show p + 1 - 1 = p by omega] at hpd
      obtain ⟨hp, hF⟩ := B.2.1 p hpd
      obtain ⟨s1, ⟨t1, s2, s3⟩, s4⟩ := FJ.2.2.2.2 p hp (by omega) hF (by rw [b_0]; decide)
      refine bd_X_bl (nm_r (e' := nI p) (by rw [hpe, nI_pred]) (nm_e ?_))
      have hpd0 : ∀ i, bt (pd &&& (((1 : Int32) <<< (nI p &&& 31)) ^^^ (-1))) i = true ↔ bt pd i = true ∧ ¬ i = p := by
        intro i
        rcases Nat.lt_or_ge i 32 with z | z
        · rw [b_and, bd_not _ z, bd_bit1 (by omega)]; simp
        · rw [b_big z]
          exact ⟨fun q => (nomatch q), fun q => by rw [b_big z] at q; exact q.1⟩
      refine bd_X_ld hc P hN hR hp ?_
      refine bd_X_dec (G := bd_gx W a_k0 a_k1) hc P hW hW0 hR hN hp (bd_KO_ok FJ.1 p (bd_a c p)) (fun h1 h5 => ?_) s1 s2 s3 B.1.1 (fun k' nA' nB' ch' wn' dec w1 w2 => ?_)
      · unfold bd_ob bd_ub
        rw [if_pos ⟨h1, h5⟩, if_pos ⟨h1, h5⟩, if_pos ⟨h1, h5⟩]
        exact bd_KO_ok FJ.1 p (bd_b c p)
      · refine bd_X_gd hc P hN hR hp s2 s3 (fun g D' g1 g2 g3 => ?_)
        have fin : ∀ pd', ((∀ r, r < R → D' (4 * p + r) = D (4 * p + r)) → pd' = (pd &&& (((1 : Int32) <<< (nI p &&& 31)) ^^^ (-1)))) → ((∃ r, r < R ∧ ¬ D' (4 * p + r) = D (4 * p + r)) → ∀ i, bt pd' i = true ↔ bt (pd &&& (((1 : Int32) <<< (nI p &&& 31)) ^^^ (-1))) i = true ∨ (i < N ∧ ¬ a_at i = 0 ∧ (a_next1 i = nI p ∨ a_next2 i = nI p))) → _ :=
          fun pd' q1 q2 => bd_xbs P (bd_gx_3 W a_k0 a_k1) hW hR hN B hp hF hpd (fun q hq fq => (FJ.2.2.2.2 q hq (by omega) fq (by rw [b_0]; decide)).2.1) hpd0 dec w1 w2 g1 g2 q1 q2
        rcases g3 with ⟨rfl, g3⟩ | ⟨rfl, g3⟩
        · obtain ⟨B', pb⟩ := fin _ (fun _ => rfl) (fun z => by
            obtain ⟨r, hr, z⟩ := z
            exact absurd (g3 r hr) z)
          exact br_t rfl (nm_r (nI_1 k) (ih (k + 1) _ _ _ _ _ _ _ _ _ _ _ B' (by omega) (by omega)))
        · refine br_f (by decide) (bd_X_aw hN (fun pd' hpd' => ?_))
          obtain ⟨B', pb⟩ := fin pd' (fun z => by
            obtain ⟨r, hr, y⟩ := g3
            exact absurd (z r hr) y) (fun _ => hpd')
          exact nm_r (nI_1 k) (ih (k + 1) _ _ _ _ _ _ _ _ _ _ _ B' (by omega) (by omega))
theorem bd_X_bw {post : SX → Prop} (hc : bd_XC N c a_fop a_fd a_fa a_fb) (P : bd_PV W R N c) (hW : W ≤ 16) (hW0 : 1 ≤ W) (hN : N ≤ 24) (hR : R ≤ 4) (FJ : bd_XJ W R N c 25 a_at a_k0 a_k1 a_r0 a_r1 a_next1 a_next2 0) (zd : ∀ j, a_dem j = 0)
    (K : ∀ a0 a1 b0 b1 nA nB ch D wn kd, bd_XB W R N c a_at (bd_gx W a_k0 a_k1) D kd wn 0 → post (nI W, nI R, nI C, bd_lo W, nI N, f_analysed, 0, a0, a1, b0, b1, nA, nB, ch, f_started, a_fop, a_fd, a_fa, a_fb, a_at, a_k0, a_k1, D, a_r0, a_r1, a_next1, a_next2, wn, kd, a_widths, a_inputs, a_regs, a_pcs, a_logs, a_counts)) : wpX_backward post (nI W, nI R, nI C, bd_lo W, nI N, f_analysed, f_pending, f_a0, f_a1, f_b0, f_b1, f_needA, f_needB, f_chain, f_started, a_fop, a_fd, a_fa, a_fb, a_at, a_k0, a_k1, a_dem, a_r0, a_r1, a_next1, a_next2, a_want, a_kind, a_widths, a_inputs, a_regs, a_pcs, a_logs, a_counts) := by
  have loop : ∀ m q pd kd, q + m = N → (∀ i, bt pd i = true ↔ (i < q ∧ ¬ a_at i = 0)) → (∀ i, i < q → kd i = 1) → wX_backward_7 post (nI W) (nI R) (nI C) (bd_lo W) (nI N) f_analysed f_a0 f_a1 f_b0 f_b1 f_needA f_needB f_chain f_started (m + 1) (nI q) pd a_fop a_fd a_fa a_fb a_at a_k0 a_k1 a_dem a_r0 a_r1 a_next1 a_next2 a_want kd a_widths a_inputs a_regs a_pcs a_logs a_counts := by
    intro m
    induction m with
    | zero =>
      intro q pd kd hq h hk
      obtain rfl : q = N := by omega
      refine br_t (nI_le (Nat.le_refl _) (by omega)) ⟨3097, bd_X_b51 hc P hW hW0 hN hR FJ K 3096 0 _ _ _ _ _ _ _ _ _ _ pd ?_ (bd_Pb_le _ _ _ _) (by omega)⟩
      exact ⟨bd_IB_0 zd, fun i hi => (h i).mp hi, fun i hi _ => hk i hi, fun i hi fi z => absurd ((h i).mpr ⟨hi, fi⟩) z⟩
    | succ m ih =>
      intro q pd kd hq h hk
      have h24 : vp_in (nI q) 24 := vp_in_nI (by omega) (by omega)
      have h25 : vp_in (nI q) 25 := vp_in_nI (by omega) (by omega)
      have hk' : ∀ i, i < q + 1 → upd kd q 1 i = 1 := by
        intro i hi
        by_cases e : i = q
        · rw [e, pk_us]
        · rw [pk_un e]; exact hk i (by omega)
      refine br_f (nI_ge (by omega) (by omega)) ⟨h24, nm_r (bd_uat (by omega) rfl) ⟨h25, ?_⟩⟩
      rw [bd_fat (f := a_at) (p := q) (by omega)]
      refine br_c (fun e => nm_r (nI_1 q) (ih (q + 1) _ _ (by omega) (fun i => (h i).trans ⟨fun z => ⟨by omega, z.2⟩, fun z => ⟨?_, z.2⟩⟩) hk')) (fun e => nm_e (nm_r (nI_1 q) (ih (q + 1) _ _ (by omega) (fun i => ?_) hk')))
      · rcases Nat.lt_or_ge i q with y | y
        · exact y
        · have : i = q := by omega
          subst this; exact absurd e z.2
      · rw [bd_bit_or (by omega), h i]
        constructor
        · rintro (z | z)
          · exact ⟨by omega, z.2⟩
          · subst z; exact ⟨by omega, e⟩
        · intro z
          by_cases g : i = q
          · exact Or.inr g
          · exact Or.inl ⟨by omega, z.2⟩
  exact ⟨N + 1, loop N 0 0 _ (by omega) (fun i => ⟨(fun z => by rw [b_0] at z; cases z), fun z => by omega⟩) (fun i hi => by omega)⟩
theorem bd_X_mw {post : SX → Prop} (hN : N ≤ 24) (hR : R ≤ 4) (K : ∀ wd, (∀ r, r < R → wd r = nI (bd_bl (bd_un a_dem r (N + 1)) 32)) → post (nI W, nI R, nI C, bd_lo W, nI N, f_analysed, f_pending, f_a0, f_a1, f_b0, f_b1, f_needA, f_needB, f_chain, f_started, a_fop, a_fd, a_fa, a_fb, a_at, a_k0, a_k1, a_dem, a_r0, a_r1, a_next1, a_next2, a_want, a_kind, wd, a_inputs, a_regs, a_pcs, a_logs, a_counts)) : wpX_measureWidths post (nI W, nI R, nI C, bd_lo W, nI N, f_analysed, f_pending, f_a0, f_a1, f_b0, f_b1, f_needA, f_needB, f_chain, f_started, a_fop, a_fd, a_fa, a_fb, a_at, a_k0, a_k1, a_dem, a_r0, a_r1, a_next1, a_next2, a_want, a_kind, a_widths, a_inputs, a_regs, a_pcs, a_logs, a_counts) := by
  have inner : ∀ (J : Int32 → (Nat → Int32) → (Nat → Int32) → (Nat → Int32) → (Nat → Int32) → (Nat → Int32) → (Nat → Int32) → (Nat → Int32) → (Nat → Int32) → (Nat → Int32) → (Nat → Int32) → (Nat → Int32) → (Nat → Int32) → (Nat → Int32) → (Nat → Int32) → (Nat → Int32) → (Nat → Int32) → (Nat → Int32) → (Nat → Int32) → (Nat → Int32) → (Nat → Int32) → Prop) r wd, r < 4 →
      J (nI (r + 1)) a_fop a_fd a_fa a_fb a_at a_k0 a_k1 a_dem a_r0 a_r1 a_next1 a_next2 a_want a_kind (upd wd r (nI (bd_bl (bd_un a_dem r (N + 1)) 32))) a_inputs a_regs a_pcs a_logs a_counts → ∀ m k, k + m = N + 1 → wX_measureWidths_14 post J (nI r) (nI W) (nI R) (nI C) (bd_lo W) (nI N) f_analysed f_pending f_a0 f_a1 f_b0 f_b1 f_needA f_needB f_chain f_started a_fop a_fd a_fa a_fb a_at a_k0 a_k1 a_dem a_r0 a_r1 a_next1 a_next2 a_want a_kind wd a_inputs a_regs a_pcs a_logs a_counts (m + 1) (bd_un a_dem r k) (nI k) := by
    intro J r wd hr hJ m
    induction m with
    | zero =>
      intro k hk
      obtain rfl : k = N + 1 := by omega
      refine br_t (nI_lt (by omega) (by omega)) (bd_X_bl ⟨vp_in_nI hr (by omega), nm_r (bd_uat (by omega) rfl) (nm_r (nI_1 r) hJ)⟩)
    | succ m ih =>
      intro k hk
      refine br_f (nI_nlt (by omega) (by omega)) ?_
      rw [bd_ix]
      exact ⟨vp_in_nI (by omega) (by omega), nm_r (e' := bd_un a_dem r (k + 1)) (by rw [bd_cl (by omega)]; rfl) (nm_r (nI_1 k) (ih (k + 1) (by omega)))⟩
  have loop : ∀ m r wd, r + m = R → (∀ s, s < r → wd s = nI (bd_bl (bd_un a_dem s (N + 1)) 32)) → wX_measureWidths_2 post (nI W) (nI R) (nI C) (bd_lo W) (nI N) f_analysed f_pending f_a0 f_a1 f_b0 f_b1 f_needA f_needB f_chain f_started (m + 1) (nI r) a_fop a_fd a_fa a_fb a_at a_k0 a_k1 a_dem a_r0 a_r1 a_next1 a_next2 a_want a_kind wd a_inputs a_regs a_pcs a_logs a_counts := by
    intro m
    induction m with
    | zero =>
      intro r wd hr h
      obtain rfl : r = R := by omega
      exact br_t (nI_le (Nat.le_refl _) (by omega)) (K wd h)
    | succ m ih =>
      intro r wd hr h
      refine br_f (nI_ge (by omega) (by omega)) ⟨N + 2, inner _ r wd (by omega) (ih (r + 1) _ (by omega) (fun s hs => ?_)) (N + 1) 0 (by omega)⟩
      by_cases e : s = r
      · rw [e, pk_us]
      · rw [pk_un e]; exact h s (by omega)
  exact ⟨R + 1, loop R 0 _ (by omega) (fun s hs => by omega)⟩
theorem bd_X_cnt {post : Int32 → SX → Prop} (hN : N ≤ 24) (K : post (nI (bd_ck a_kind N)) (nI W, nI R, nI C, bd_lo W, nI N, f_analysed, f_pending, f_a0, f_a1, f_b0, f_b1, f_needA, f_needB, f_chain, f_started, a_fop, a_fd, a_fa, a_fb, a_at, a_k0, a_k1, a_dem, a_r0, a_r1, a_next1, a_next2, a_want, a_kind, a_widths, a_inputs, a_regs, a_pcs, a_logs, a_counts)) : ∀ m p, p + m = N → wX_analyse_40 post (nI W) (nI R) (nI C) (bd_lo W) (nI N) f_analysed f_pending f_a0 f_a1 f_b0 f_b1 f_needA f_needB f_chain f_started a_fop a_fd a_fa a_fb a_at a_k0 a_k1 a_dem a_r0 a_r1 a_next1 a_next2 a_want a_kind a_widths a_inputs a_regs a_pcs a_logs a_counts (m + 1) (nI (bd_ck a_kind p)) (nI p) := by
  intro m
  induction m with
  | zero =>
    intro p hp
    obtain rfl : p = N := by omega
    exact br_t (nI_le (Nat.le_refl _) (by omega)) K
  | succ m ih =>
    intro p hp
    refine br_f (nI_ge (by omega) (by omega)) ⟨vp_in_nI (by omega) (by omega), ?_⟩
    rw [bd_fat (f := a_kind) (p := p) (by omega)]
    have go := ih (p + 1) (by omega)
    unfold bd_ck at go
    refine br_c (fun e => nm_r (nI_1 p) ?_) (fun e => nm_r (nI_1 (bd_ck a_kind p)) (nm_r (nI_1 p) ?_))
    · rw [if_pos e] at go; exact go
    · rw [if_neg e] at go; exact go
theorem bd_X_an {post : Int32 → SX → Prop} (hc : bd_XC N c a_fop a_fd a_fa a_fb) (P : bd_PV W R N c) (hW : W ≤ 16) (hW0 : 1 ≤ W) (hN : N ≤ 24) (hN0 : 0 < N) (hR : R ≤ 4) (z1 : ∀ j, a_at j = 0) (z2 : ∀ j, a_k0 j = 0) (z3 : ∀ j, a_k1 j = 0) (zd : ∀ j, a_dem j = 0)
    (K : ∀ a0 a1 b0 b1 nA nB ch at' k0 k1 r0 r1 n1 n2 D wn kd wd, bd_XJ W R N c 25 at' k0 k1 r0 r1 n1 n2 0 → bd_XB W R N c at' (bd_gx W k0 k1) D kd wn 0 → (∀ r, r < R → wd r = nI (bd_bl (bd_un D r (N + 1)) 32)) →
      post (nI (bd_ck kd N)) (nI W, nI R, nI C, bd_lo W, nI N, 1, 0, a0, a1, b0, b1, nA, nB, ch, f_started, a_fop, a_fd, a_fa, a_fb, at', k0, k1, D, r0, r1, n1, n2, wn, kd, wd, a_inputs, a_regs, a_pcs, a_logs, a_counts)) : wpX_analyse post (nI W, nI R, nI C, bd_lo W, nI N, 0, f_pending, f_a0, f_a1, f_b0, f_b1, f_needA, f_needB, f_chain, f_started, a_fop, a_fd, a_fa, a_fb, a_at, a_k0, a_k1, a_dem, a_r0, a_r1, a_next1, a_next2, a_want, a_kind, a_widths, a_inputs, a_regs, a_pcs, a_logs, a_counts) := by
  refine br_t rfl (br_f (nI_ne0 hN0 (by omega)) ?_)
  refine bd_X_fw hc P hW hN hN0 hR z1 z2 z3 (fun a0 a1 b0 b1 at' k0 k1 r0 r1 n1 n2 FJ => ?_)
  refine bd_X_bw hc P hW hW0 hN hR FJ zd (fun a0 a1 b0 b1 nA nB ch D wn kd B => ?_)
  refine bd_X_mw hN hR (fun wd hwd => ?_)
  exact ⟨N + 1, bd_X_cnt hN (K _ _ _ _ _ _ _ _ _ _ _ _ _ _ _ _ _ _ FJ B hwd) N 0 (by omega)⟩
end
end
section
/-! ===== the reference's helpers: run, known, result ===== -/
def bd_F3 (f : Nat → Int32) : Prop := ∀ j, bd_x3 (f j)
def bd_at' (W : Nat) (f : Nat → Int32) (B : Nat) : Nat → Int32 := bd_tr W (fun i => f (B + i))
def bd_gy (W : Nat) (f : Nat → Int32) (p r : Nat) : Nat → Int32 := bd_at' W f (64 * p + 16 * r)
theorem bd_at_3 {W : Nat} {f : Nat → Int32} (h : bd_F3 f) (B : Nat) : bd_T3 (bd_at' W f B) := bd_tr_3 fun _ => h _
theorem bd_gy_3 {W : Nat} {f : Nat → Int32} (h : bd_F3 f) : bd_V3 (bd_gy W f) := fun _ _ => bd_at_3 h _
theorem bd_at_lt {W : Nat} {f : Nat → Int32} {B i : Nat} (h : i < W) : bd_at' W f B i = f (B + i) := bd_tr_lt h
theorem bd_nn {x : Int32} (h : bd_mk 31 x) : ¬ x < 0 := by
  intro g
  rw [Int32.lt_iff_toInt_lt] at g
  have e : (0 : Int32).toInt = 0 := rfl
  have m := BitVec.msb_eq_toInt (x := x.toBitVec)
  rw [BitVec.msb_eq_getLsbD_last] at m
  have h31 : x.toBitVec.getLsbD (32 - 1) = false := h 31 (by omega)
  rw [h31] at m
  have : ¬ x.toBitVec.toInt < 0 := by simpa using m.symm
  exact this (by rw [e] at g; exact g)
theorem bd_le0 {x : Int32} (h : bd_x3 x) : x ≤ 0 ↔ x = 0 := by rcases h with rfl | rfl | rfl <;> decide
theorem bd_le1 {x : Int32} (h : bd_x3 x) : x ≤ 1 ↔ ¬ x = 2 := by rcases h with rfl | rfl | rfl <;> decide
theorem bd_01v (x : Int32) : (x &&& 1) = 0 ∨ (x &&& 1) = 1 := by
  cases h : bt x 0
  · exact Or.inl (bd_a1.mpr h)
  · exact Or.inr (bd_a1'.mpr h)
theorem bd_bbv (x : Int32) {i : Nat} (hi : i < 32) : ((x >>> (nI i &&& 31)) &&& 1) = bd_bb (bt x i) := by
  cases h : bt x i
  · exact (bd_sb0 hi).mpr h
  · exact (bd_sb hi).mpr h
theorem bd_jx (p r : Nat) : 64 * nI p + 16 * nI r = nI (64 * p + 16 * r) := by
  rw [show (64 : Int32) = nI 64 from rfl, show (16 : Int32) = nI 16 from rfl, pk_mul, pk_mul, nI_add]
theorem bd_j16 (p r : Nat) : 16 * nI p + nI r = nI (16 * p + r) := by
  rw [show (16 : Int32) = nI 16 from rfl, pk_mul, nI_add]
theorem bd_j64 (p k : Nat) : 64 * nI p + nI k = nI (64 * p + k) := by
  rw [show (64 : Int32) = nI 64 from rfl, pk_mul, nI_add]
theorem bd_cy_c {u v u' v' : Nat → Int32} : ∀ {i : Nat}, (∀ j, j < i → u j = u' j) → (∀ j, j < i → v j = v' j) → bd_cy u v i = bd_cy u' v' i
  | 0, _, _ => rfl
  | i + 1, h1, h2 => by
    show bd_maj (u i) (v i) (bd_cy u v i) = bd_maj (u' i) (v' i) (bd_cy u' v' i)
    rw [h1 i (by omega), h2 i (by omega), bd_cy_c (fun j hj => h1 j (by omega)) (fun j hj => h2 j (by omega))]
section
variable {W R N C : Nat}
variable {g_w g_m g_rs g_cap g_n g_op g_d g_a g_b g_x g_y g_needA g_needB g_analysed g_started : Int32} {h_code h_fact h_dem h_res h_inputs h_regs h_pcs h_counts h_logs h_seen : Nat → Int32}
theorem bd_Y_run {post : Int32 → Prop} {B : Nat} {x : Int32} {Q : Nat → Bool} (hW : W ≤ 16) (hB : B + W ≤ 1600) (hQ : ∀ i, i < W → (h_fact (B + i) ≤ x ↔ Q i = true)) (K : post (nI (bd_rn Q W))) : wpY_run post (nI W, bd_lo W, nI R, nI C, nI N, g_op, g_d, g_a, g_b, g_x, g_y, g_needA, g_needB, g_analysed, g_started, h_code, h_fact, h_dem, h_res, h_inputs, h_regs, h_pcs, h_counts, h_logs, h_seen) (nI B) x := by
  have loop : ∀ m k, k + m = W → (∀ i, i < k → Q i = true) → wY_run_2 post (nI B) x (nI W) (bd_lo W) (nI R) (nI C) (nI N) g_op g_d g_a g_b g_x g_y g_needA g_needB g_analysed g_started h_code h_fact h_dem h_res h_inputs h_regs h_pcs h_counts h_logs h_seen (m + 1) (nI k) := by
    intro m
    induction m with
    | zero =>
      intro k hk h
      obtain rfl : k = W := by omega
      rw [bd_rn_u (Nat.le_refl _) h (fun z => by omega)] at K
      exact br_t (nI_le (Nat.le_refl _) (by omega)) K
    | succ m ih =>
      intro k hk h
      refine br_f (nI_ge (by omega) (by omega)) ?_
      rw [nI_add, bd_fat (f := h_fact) (p := B + k) (by omega)]
      refine ⟨vp_in_nI (by omega) (by omega), br_c (fun e => nm_r (nI_1 k) (ih (k + 1) (by omega) (fun i hi => ?_))) (fun e => ?_)⟩
      · rcases Nat.lt_or_ge i k with z | z
        · exact h i z
        · rw [show i = k by omega]; exact (hQ k (by omega)).mp e
      · have c : Q k = false := by
          cases g : Q k
          · rfl
          · exact absurd ((hQ k (by omega)).mpr g) e
        rw [bd_rn_u (t := k) (by omega) h (fun _ => c)] at K
        exact K
  exact ⟨W + 1, loop W 0 (by omega) (fun i hi => by omega)⟩
theorem bd_Y_run0 {post : Int32 → Prop} {B : Nat} (h3 : bd_F3 h_fact) (hW : W ≤ 16) (hB : B + W ≤ 1600) (K : post (nI (bd_rn (bd_p0 (bd_at' W h_fact B)) W))) : wpY_run post (nI W, bd_lo W, nI R, nI C, nI N, g_op, g_d, g_a, g_b, g_x, g_y, g_needA, g_needB, g_analysed, g_started, h_code, h_fact, h_dem, h_res, h_inputs, h_regs, h_pcs, h_counts, h_logs, h_seen) (nI B) 0 :=
  bd_Y_run hW hB (fun i hi => by unfold bd_p0; rw [decide_eq_true_eq, bd_at_lt hi]; exact bd_le0 (h3 _)) K
theorem bd_Y_run1 {post : Int32 → Prop} {B : Nat} (h3 : bd_F3 h_fact) (hW : W ≤ 16) (hB : B + W ≤ 1600) (K : post (nI (bd_rn (bd_p1 (bd_at' W h_fact B)) W))) : wpY_run post (nI W, bd_lo W, nI R, nI C, nI N, g_op, g_d, g_a, g_b, g_x, g_y, g_needA, g_needB, g_analysed, g_started, h_code, h_fact, h_dem, h_res, h_inputs, h_regs, h_pcs, h_counts, h_logs, h_seen) (nI B) 1 :=
  bd_Y_run hW hB (fun i hi => by unfold bd_p1; rw [decide_eq_true_eq, bd_at_lt hi]; exact bd_le1 (h3 _)) K
theorem bd_Y_reg {post : Int32 → Prop} {x : Int32} (hR : R ≤ 4) (K1 : ∀ r, r < R → x = nI r → post 1) (K0 : (∀ r, r < R → ¬ x = nI r) → post 0) : wpY_isReg post (nI W, bd_lo W, nI R, nI C, nI N, g_op, g_d, g_a, g_b, g_x, g_y, g_needA, g_needB, g_analysed, g_started, h_code, h_fact, h_dem, h_res, h_inputs, h_regs, h_pcs, h_counts, h_logs, h_seen) x := by
  rcases pk_ix x (n := R) (by omega) with h | h | ⟨j, hj, rfl⟩
  · refine br_t h (K0 fun r hr e => ?_)
    rw [e] at h; exact nI_pos (by omega) h
  · refine br_f (fun z => ?_) (br_t h (K0 fun r hr e => ?_))
    · have a := Int32.le_iff_toInt_le.mp h
      have b := Int32.lt_iff_toInt_lt.mp z
      rw [nI_toInt (by omega)] at a
      have e : (0 : Int32).toInt = 0 := rfl
      omega
    · rw [e] at h; exact nI_ge hr (by omega) h
  · exact br_f (nI_pos (by omega)) (br_f (nI_ge hj (by omega)) (K1 j hj rfl))
/-- the loop of known from a register -/
theorem bd_Y_k46 {post : Int32 → Prop} {p r : Nat} {v : Int32} (hW : W ≤ 16) (hp : p < 25) (hr : r < 4) (hs : ¬ h_seen p = 0) (K : ∀ y, (∀ i, bt y i = decide (i < W ∧ h_fact (64 * p + 16 * r + i) = v)) → post y) : ∃ n, wY_known_46 post (nI p) (nI r) v (nI W) (bd_lo W) (nI R) (nI C) (nI N) g_op g_d g_a g_b g_x g_y g_needA g_needB g_analysed g_started h_code h_fact h_dem h_res h_inputs h_regs h_pcs h_counts h_logs h_seen n 0 0 := by
  have loop : ∀ m k y, k + m = W → (∀ i, bt y i = decide (i < k ∧ h_fact (64 * p + 16 * r + i) = v)) → wY_known_46 post (nI p) (nI r) v (nI W) (bd_lo W) (nI R) (nI C) (nI N) g_op g_d g_a g_b g_x g_y g_needA g_needB g_analysed g_started h_code h_fact h_dem h_res h_inputs h_regs h_pcs h_counts h_logs h_seen (m + 1) y (nI k) := by
    intro m
    induction m with
    | zero =>
      intro k y hk h
      obtain rfl : k = W := by omega
      exact br_t (nI_le (Nat.le_refl _) (by omega)) (K y h)
    | succ m ih =>
      intro k y hk h
      have nn : ¬ y < 0 := bd_nn fun i hi => by rw [h i, decide_eq_false (by omega)]
      refine br_f (nI_ge (by omega) (by omega)) (br_f nn ⟨vp_in_nI (by omega) (by omega), br_f (by rw [bd_cl (by omega)]; exact hs) ?_⟩)
      rw [bd_jx, nI_add, bd_fat (f := h_fact) (p := 64 * p + 16 * r + k) (by omega)]
      refine ⟨vp_in_nI (by omega) (by omega), br_c (fun e => nm_e (nm_r (nI_1 k) (ih (k + 1) _ (by omega) (fun i => ?_)))) (fun e => nm_r (nI_1 k) (ih (k + 1) _ (by omega) (fun i => ?_)))⟩
      · rw [b_or, bd_bit1 (by omega), h i]
        apply bd_bE
        rw [Bool.or_eq_true, decide_eq_true_eq, decide_eq_true_eq, decide_eq_true_eq]
        constructor
        · rintro (z | z)
          · exact ⟨by omega, z.2⟩
          · rw [z]; exact ⟨by omega, e⟩
        · intro z
          by_cases g : i = k
          · exact Or.inr g
          · exact Or.inl ⟨by omega, z.2⟩
      · rw [h i]
        refine decide_eq_decide.mpr ⟨fun z => ⟨by omega, z.2⟩, fun z => ⟨?_, z.2⟩⟩
        rcases Nat.lt_or_ge i k with g | g
        · exact g
        · have : i = k := by omega
          rw [this] at z; exact absurd z.2 e
  exact ⟨W + 1, loop W 0 0 (by omega) (fun i => by rw [b_0, decide_eq_false (by omega)])⟩
theorem bd_Y_k1 {post : Int32 → Prop} {p : Nat} {x : Int32} (hW : W ≤ 16) (hW0 : 0 < W) (hN : N ≤ 24) (hR : R ≤ 4) (hp : p ≤ N) (K : ∀ y, (∀ r, r < R → x = nI r → ¬ h_seen p = 0 → y = nI (bd_nv (bd_gy W h_fact p r) W)) → post y) : wpY_known post (nI W, bd_lo W, nI R, nI C, nI N, g_op, g_d, g_a, g_b, g_x, g_y, g_needA, g_needB, 1, g_started, h_code, h_fact, h_dem, h_res, h_inputs, h_regs, h_pcs, h_counts, h_logs, h_seen) (nI p) x 1 := by
  refine br_f (by decide) (br_f (nI_pos (by omega)) (br_f (nI_nlt (by omega) (by omega)) ?_))
  refine bd_Y_reg hR (fun r hr e => br_f (by decide) (br_f (by decide) (br_t (by decide) ?_))) (fun h => br_t rfl ⟨1, br_f (nI_nle (by omega) (by omega)) (br_t (by decide) (K _ fun r hr e => absurd e (h r hr)))⟩)
  subst e
  by_cases hs : h_seen p = 0
  · exact ⟨1, br_f (nI_nle (by omega) (by omega)) (br_f (by decide) ⟨vp_in_nI (by omega) (by omega), br_t ((bd_fat (by omega)).trans hs) (K _ fun _ _ _ z => absurd hs z)⟩)⟩
  · refine bd_Y_k46 hW (by omega) (by omega) hs (fun y hy => K y fun r' hr' e _ => ?_)
    have : r' = r := ((nI_eq (by omega) (by omega)).mp e).symm
    subst this
    apply b_ext
    intro i hi
    rw [hy i, bd_nb hi, bd_nv_tb]
    refine decide_eq_decide.mpr ⟨fun z => ⟨z.1, ?_⟩, fun z => ⟨z.1, ?_⟩⟩
    · unfold bd_gy; rw [bd_at_lt z.1]; exact z.2
    · have := z.2; unfold bd_gy at this; rw [bd_at_lt z.1] at this; exact this
end
end
section
/-! ===== the reference's result bits ===== -/
def bd_yz (W o b : Nat) (u v : Nat → Int32) (x7 : Int32) (s : Nat) (i : Nat) : Int32 :=
  if o = 0 then ((nI b >>> (nI i &&& 31)) &&& 1)
  else if o = 3 then bd_s3 (u i) (v i) 0
  else if o = 4 then bd_s3 (u i) (v i) (bd_cy u v i)
  else if o = 1 then bd_a3 (u i) (v i)
  else if o = 2 then bd_o3 (u i) (v i)
  else if o = 5 then (if s ≤ i then 2 else ((x7 >>> (nI i &&& 31)) &&& 1))
  else if o = 6 then (if b ≤ i then u (i - b) else 0)
  else if o = 7 then (if i < W - b then u (i + b) else 0)
  else if o = 8 then (if b ≤ i then u (b - 1) else u i)
  else 2
theorem bd_yz_3 {W o b : Nat} {u v : Nat → Int32} {x7 : Int32} {s : Nat} (hu : bd_T3 u) (hv : bd_T3 v) (i : Nat) : bd_x3 (bd_yz W o b u v x7 s i) := by
  obtain ⟨x, ex⟩ := bd_t3 (hu i)
  obtain ⟨y, ey⟩ := bd_t3 (hv i)
  obtain ⟨c, ec⟩ := bd_t3 (bd_cy_3 hu hv i)
  have d2 : bd_x3 2 := Or.inr (Or.inr rfl)
  have d01 : ∀ z : Int32, bd_x3 (z &&& 1) := fun z => (bd_01v z).imp id Or.inl
  unfold bd_yz
  split; · exact d01 _
  split; · rw [ex, ey]; exact bd_s3_f x y 0
  split; · rw [ex, ey, ec]; exact bd_s3_f x y c
  split; · rw [ex, ey]; exact bd_a3_f x y
  split; · rw [ex, ey]; exact bd_o3_f x y
  split
  · split
    · exact d2
    · exact d01 _
  split
  · split
    · exact hu _
    · exact Or.inl rfl
  split
  · split
    · exact hu _
    · exact Or.inl rfl
  split
  · split
    · exact hu _
    · exact hu _
  · exact d2
/-- with the right product and sure bits it is the result fact -/
theorem bd_yz_rz {W o b : Nat} {u v : Nat → Int32} {x7 : Int32} {s : Nat} (ho : o ≤ 8) (hW : W ≤ 16) (h7 : o = 5 → x7 = nI (bd_nv u W * bd_nv v W)) (hs : o = 5 → s = bd_sure W u v) {i : Nat} (hi : i < W) : bd_yz W o b u v x7 s i = bd_rz W o b u v i := by
  unfold bd_yz bd_rz
  by_cases c0 : o = 0
  · rw [if_pos c0, if_pos c0, bd_bbv _ (by omega), bd_nb (by omega)]
  rw [if_neg c0, if_neg c0]
  by_cases c1 : o = 1
  · rw [if_neg (by omega), if_neg (by omega), if_pos c1, if_pos c1]
  by_cases c2 : o = 2
  · rw [if_neg (by omega), if_neg (by omega), if_neg c1, if_pos c2, if_neg c1, if_pos c2]
  by_cases c3 : o = 3
  · rw [if_pos c3, if_neg c1, if_neg c2, if_pos c3]
  by_cases c4 : o = 4
  · rw [if_neg c3, if_pos c4, if_neg c1, if_neg c2, if_neg c3, if_pos c4]
  rw [if_neg c3, if_neg c4, if_neg c1, if_neg c2, if_neg c1, if_neg c2, if_neg c3, if_neg c4]
  by_cases c5 : o = 5
  · rw [if_pos c5, if_pos c5, h7 c5, hs c5]
    by_cases g : i < bd_sure W u v
    · rw [if_neg (by omega), if_pos g, bd_bbv _ (by omega), bd_nb (by omega)]
    · rw [if_pos (by omega), if_neg g]
  rw [if_neg c5, if_neg c5]
  by_cases c6 : o = 6
  · rw [if_pos c6, if_pos c6]
    by_cases g : i < b
    · rw [if_neg (by omega), if_pos g]
    · rw [if_pos (by omega), if_neg g]
  rw [if_neg c6, if_neg c6]
  by_cases c7 : o = 7
  · rw [if_pos c7, if_pos c7]
    by_cases g : i < W - b
    · rw [if_pos g, if_neg (by omega)]
    · rw [if_neg g, if_pos (by omega)]
  rw [if_neg c7, if_neg c7, if_pos (by omega)]
  by_cases g : i < b
  · rw [if_neg (by omega), if_pos g]
  · rw [if_pos (by omega), if_neg g]
section
variable {W R N C : Nat} {o b X Y i : Nat}
variable {g_w g_m g_rs g_cap g_n g_op g_d g_a g_b g_x g_y g_needA g_needB g_analysed g_started : Int32} {h_code h_fact h_dem h_res h_inputs h_regs h_pcs h_counts h_logs h_seen : Nat → Int32}
variable {post : SY → Prop} {J : Int32 → Int32 → (Nat → Int32) → (Nat → Int32) → (Nat → Int32) → (Nat → Int32) → (Nat → Int32) → (Nat → Int32) → (Nat → Int32) → (Nat → Int32) → (Nat → Int32) → (Nat → Int32) → Prop} {x6 x7 x8 x10 x11 z : Int32}
theorem bd_Y_451 (hi : i < 16) (ho : o ≤ 10) (K : J (if o = 4 then bd_maj x10 x11 x6 else x6) (nI (i + 1)) h_code h_fact h_dem (upd h_res i z) h_inputs h_regs h_pcs h_counts h_logs h_seen) : wY_result_451 post J x6 x7 x8 (nI i) x10 x11 z (nI i) (nI W) (bd_lo W) (nI R) (nI C) (nI N) (nI o) g_d g_a g_b g_x g_y g_needA g_needB g_analysed g_started h_code h_fact h_dem h_res h_inputs h_regs h_pcs h_counts h_logs h_seen := by
  refine And.intro (vp_in_nI hi (by omega)) (nm_r (bd_uat (by omega) rfl) ?_)
  refine pk_eq o 4 (fun h => ?_) (fun h => ?_)
  · rw [if_pos h] at K
    unfold bd_maj at K
    refine br_c (fun e1 => ?_) (fun e1 => br_c (fun e2 => ?_) (fun e2 => br_c (fun e3 => ?_) (fun e3 => ?_)))
    · rw [if_pos (Or.inl e1)] at K; exact nm_r (nI_1 i) K
    · rw [if_pos (Or.inr e2)] at K; exact nm_r (nI_1 i) K
    · rw [if_neg (fun q => q.elim e1 e2), if_pos e3] at K; exact nm_r (nI_1 i) K
    · rw [if_neg (fun q => q.elim e1 e2), if_neg e3] at K; exact nm_r (nI_1 i) K
  · rw [if_neg h] at K; exact nm_r (nI_1 i) K
theorem bd_Y_173 (hi : i < 16) (ho : o ≤ 10) (K : J (if o = 4 then bd_maj x10 x11 x6 else x6) (nI (i + 1)) h_code h_fact h_dem (upd h_res i (bd_s3 x10 x11 x6)) h_inputs h_regs h_pcs h_counts h_logs h_seen) : wY_result_173 post J x6 x7 x8 (nI i) x10 x11 (nI i) (nI W) (bd_lo W) (nI R) (nI C) (nI N) (nI o) g_d g_a g_b g_x g_y g_needA g_needB g_analysed g_started h_code h_fact h_dem h_res h_inputs h_regs h_pcs h_counts h_logs h_seen := by
  unfold bd_s3 at K
  refine br_c (fun e1 => ?_) (fun e1 => br_c (fun e2 => ?_) (fun e2 => br_c (fun e3 => ?_) (fun e3 => ?_)))
  · rw [if_pos (Or.inl e1)] at K; exact bd_Y_451 hi ho K
  · rw [if_pos (Or.inr (Or.inl e2))] at K; exact bd_Y_451 hi ho K
  · rw [if_pos (Or.inr (Or.inr e3))] at K; exact bd_Y_451 hi ho K
  · rw [if_neg (show ¬ (x10 = 2 ∨ x11 = 2 ∨ x6 = 2) from fun q => q.elim e1 (fun q => q.elim e2 e3))] at K; exact bd_Y_451 hi ho K
end
section
variable {W R N C : Nat} {o b X Y : Nat}
variable {g_w g_m g_rs g_cap g_n g_op g_d g_a g_b g_x g_y g_needA g_needB g_analysed g_started : Int32} {h_code h_fact h_dem h_res h_inputs h_regs h_pcs h_counts h_logs h_seen : Nat → Int32}
theorem bd_Y_r95 {post : SY → Prop} {x7 : Int32} {s : Nat} (hW : W ≤ 16) (ho : o ≤ 10) (hX : X + 16 ≤ 1600) (hY : Y + 16 ≤ 1600) (hb6 : o = 6 ∨ o = 7 → b < W) (hb8 : o = 8 → 1 ≤ b ∧ b ≤ W) (hb : b < 65536) (hs : s ≤ 64)
    (K : ∀ res, (∀ i, i < W → res i = bd_yz W o b (bd_at' W h_fact X) (bd_at' W h_fact Y) x7 s i) → (∀ i, W ≤ i → res i = h_res i) → post (nI W, bd_lo W, nI R, nI C, nI N, nI o, g_d, g_a, nI b, nI X, nI Y, g_needA, g_needB, g_analysed, g_started, h_code, h_fact, h_dem, res, h_inputs, h_regs, h_pcs, h_counts, h_logs, h_seen)) :
    ∃ n, wY_result_95 post x7 (nI s) (nI W) (bd_lo W) (nI R) (nI C) (nI N) (nI o) g_d g_a (nI b) (nI X) (nI Y) g_needA g_needB g_analysed g_started n 0 0 h_code h_fact h_dem h_res h_inputs h_regs h_pcs h_counts h_logs h_seen := by
  have loop : ∀ m i res x6, i + m = W → (∀ j, j < i → res j = bd_yz W o b (bd_at' W h_fact X) (bd_at' W h_fact Y) x7 s j) → (∀ j, i ≤ j → res j = h_res j) → (x6 = if o = 4 then bd_cy (bd_at' W h_fact X) (bd_at' W h_fact Y) i else 0) →
      wY_result_95 post x7 (nI s) (nI W) (bd_lo W) (nI R) (nI C) (nI N) (nI o) g_d g_a (nI b) (nI X) (nI Y) g_needA g_needB g_analysed g_started (m + 1) x6 (nI i) h_code h_fact h_dem res h_inputs h_regs h_pcs h_counts h_logs h_seen := by
    intro m
    induction m with
    | zero =>
      intro i res x6 hi h1 h2 h6
      obtain rfl : i = W := by omega
      exact br_t (nI_le (Nat.le_refl _) (by omega)) (K res h1 h2)
    | succ m ih =>
      intro i res x6 hi h1 h2 h6
      have hiW : i < W := by omega
      have fin : ∀ z, z = bd_yz W o b (bd_at' W h_fact X) (bd_at' W h_fact Y) x7 s i → wY_result_95 post x7 (nI s) (nI W) (bd_lo W) (nI R) (nI C) (nI N) (nI o) g_d g_a (nI b) (nI X) (nI Y) g_needA g_needB g_analysed g_started (m + 1) (if o = 4 then bd_maj (h_fact (X + i)) (h_fact (Y + i)) x6 else x6) (nI (i + 1)) h_code h_fact h_dem (upd res i z) h_inputs h_regs h_pcs h_counts h_logs h_seen := by
        intro z hz
        refine ih (i + 1) _ _ (by omega) (fun j hj => ?_) (fun j hj => ?_) ?_
        · by_cases e : j = i
          · rw [e, pk_us]; exact hz
          · rw [pk_un e]; exact h1 j (by omega)
        · rw [pk_un (by omega)]; exact h2 j (by omega)
        · by_cases e : o = 4
          · rw [if_pos e, if_pos e, h6, if_pos e, ← bd_at_lt (W := W) (f := h_fact) (B := X) hiW, ← bd_at_lt (W := W) (f := h_fact) (B := Y) hiW]; rfl
          · rw [if_neg e, if_neg e, h6, if_neg e]
      have eu : bd_at' W h_fact X i = h_fact (X + i) := bd_at_lt hiW
      have ev : bd_at' W h_fact Y i = h_fact (Y + i) := bd_at_lt hiW
      unfold bd_yz at fin
      rw [eu, ev] at fin
      refine br_f (nI_ge (by omega) (by omega)) ?_
      rw [nI_add, nI_add]
      refine ⟨vp_in_nI (by omega) (by omega), nm_r (bd_fat (by omega)) ⟨vp_in_nI (by omega) (by omega), nm_r (bd_fat (by omega)) ?_⟩⟩
      refine pk_eq o 0 (fun c0 => ?_) (fun c0 => ?_)
      · rw [if_pos c0] at fin
        exact bd_Y_451 (by omega) ho (fin _ rfl)
      rw [if_neg c0] at fin
      refine pk_eq o 3 (fun c3 => ?_) (fun c3 => ?_)
      · rw [if_pos c3] at fin
        refine bd_Y_173 (by omega) ho (fin _ ?_)
        rw [h6, if_neg (by omega)]
      rw [if_neg c3] at fin
      refine pk_eq o 4 (fun c4 => ?_) (fun c4 => ?_)
      · rw [if_pos c4] at fin
        refine bd_Y_173 (by omega) ho ?_
        have := fin _ rfl
        rw [← (show x6 = bd_cy (bd_at' W h_fact X) (bd_at' W h_fact Y) i by rw [h6, if_pos c4])] at this
        exact this
      rw [if_neg c4] at fin
      refine pk_eq o 1 (fun c1 => ?_) (fun c1 => ?_)
      · rw [if_pos c1] at fin
        unfold bd_a3 at fin
        refine br_c (fun e1 => ?_) (fun e1 => br_c (fun e2 => ?_) (fun e2 => br_c (fun e3 => br_c (fun e4 => ?_) (fun e4 => ?_)) (fun e3 => ?_)))
        · rw [if_pos (Or.inl e1)] at fin; exact bd_Y_451 (by omega) ho (fin _ rfl)
        · rw [if_pos (Or.inr e2)] at fin; exact bd_Y_451 (by omega) ho (fin _ rfl)
        · rw [if_neg (fun q => q.elim e1 e2), if_pos ⟨e3, e4⟩] at fin; exact bd_Y_451 (by omega) ho (fin _ rfl)
        · rw [if_neg (fun q => q.elim e1 e2), if_neg (fun q => e4 q.2)] at fin; exact bd_Y_451 (by omega) ho (fin _ rfl)
        · rw [if_neg (fun q => q.elim e1 e2), if_neg (fun q => e3 q.1)] at fin; exact bd_Y_451 (by omega) ho (fin _ rfl)
      rw [if_neg c1] at fin
      refine pk_eq o 2 (fun c2 => ?_) (fun c2 => ?_)
      · rw [if_pos c2] at fin
        unfold bd_o3 at fin
        refine br_c (fun e1 => ?_) (fun e1 => br_c (fun e2 => ?_) (fun e2 => br_c (fun e3 => br_c (fun e4 => ?_) (fun e4 => ?_)) (fun e3 => ?_)))
        · rw [if_pos (Or.inl e1)] at fin; exact bd_Y_451 (by omega) ho (fin _ rfl)
        · rw [if_pos (Or.inr e2)] at fin; exact bd_Y_451 (by omega) ho (fin _ rfl)
        · rw [if_neg (fun q => q.elim e1 e2), if_pos ⟨e3, e4⟩] at fin; exact bd_Y_451 (by omega) ho (fin _ rfl)
        · rw [if_neg (fun q => q.elim e1 e2), if_neg (fun q => e4 q.2)] at fin; exact bd_Y_451 (by omega) ho (fin _ rfl)
        · rw [if_neg (fun q => q.elim e1 e2), if_neg (fun q => e3 q.1)] at fin; exact bd_Y_451 (by omega) ho (fin _ rfl)
      rw [if_neg c2] at fin
      refine pk_eq o 5 (fun c5 => ?_) (fun c5 => ?_)
      · rw [if_pos c5] at fin
        refine pk_le s i (fun g => ?_) (fun g => ?_)
        · rw [if_pos g] at fin; exact bd_Y_451 (by omega) ho (fin _ rfl)
        · rw [if_neg (by omega)] at fin; exact bd_Y_451 (by omega) ho (fin _ rfl)
      rw [if_neg c5] at fin
      refine pk_eq o 6 (fun c6 => ?_) (fun c6 => ?_)
      · rw [if_pos c6] at fin
        refine pk_le b i (fun g => ?_) (fun g => ?_)
        · rw [if_pos g, bd_at_lt (by omega), show X + (i - b) = X + i - b by omega] at fin
          rw [pk_sub (by omega), bd_fat (f := h_fact) (p := X + i - b) (by omega)]
          exact ⟨vp_in_nI (by omega) (by omega), bd_Y_451 (by omega) ho (fin _ rfl)⟩
        · rw [if_neg (by omega)] at fin; exact bd_Y_451 (by omega) ho (fin _ rfl)
      rw [if_neg c6] at fin
      refine pk_eq o 7 (fun c7 => ?_) (fun c7 => ?_)
      · rw [if_pos c7] at fin
        have hb' := hb6 (Or.inr c7)
        rw [pk_sub (by omega)]
        refine pk_lt i (W - b) (fun g => ?_) (fun g => ?_)
        · rw [if_pos g, bd_at_lt (by omega), show X + (i + b) = X + i + b by omega] at fin
          rw [nI_add, bd_fat (f := h_fact) (p := X + i + b) (by omega)]
          exact ⟨vp_in_nI (by omega) (by omega), bd_Y_451 (by omega) ho (fin _ rfl)⟩
        · rw [if_neg (by omega)] at fin; exact bd_Y_451 (by omega) ho (fin _ rfl)
      rw [if_neg c7] at fin
      refine pk_eq o 8 (fun c8 => ?_) (fun c8 => ?_)
      · rw [if_pos c8] at fin
        obtain ⟨b1, b2⟩ := hb8 c8
        refine pk_le b i (fun g => ?_) (fun g => ?_)
        · rw [if_pos g, bd_at_lt (by omega)] at fin
          rw [nI_add, show X + b = (X + (b - 1)) + 1 by omega, nI_pred, bd_fat (f := h_fact) (p := X + (b - 1)) (by omega)]
          exact ⟨vp_in_nI (by omega) (by omega), bd_Y_451 (by omega) ho (fin _ rfl)⟩
        · rw [if_neg (by omega)] at fin; exact bd_Y_451 (by omega) ho (fin _ rfl)
      rw [if_neg c8] at fin
      exact bd_Y_451 (by omega) ho (fin _ rfl)
  exact ⟨W + 1, loop W 0 _ 0 (by omega) (fun j hj => by omega) (fun _ _ => rfl) (by split <;> rfl)⟩
end
section
variable {W R N C : Nat} {c : Nat → Nat} {p : Nat}
variable {g_w g_m g_rs g_cap g_n g_op g_d g_a g_b g_x g_y g_needA g_needB g_analysed g_started : Int32} {h_code h_fact h_dem h_res h_inputs h_regs h_pcs h_counts h_logs h_seen : Nat → Int32}
/-- the result bits of slot p -/
theorem bd_Y_res {post : SY → Prop} (P : bd_PV W R N c) (hW : W ≤ 16) (hW0 : 0 < W) (hN : N ≤ 24) (hR : R ≤ 4) (hp : p < N) (h3 : bd_F3 h_fact) (hr3 : bd_F3 h_res)
    (K : ∀ res, bd_F3 res → (¬ h_seen p = 0 → bd_op c p ≤ 8 → ∀ i, i < W → res i = bd_res W c (bd_gy W h_fact) p i) →
      post (nI W, bd_lo W, nI R, nI C, nI N, nI (bd_op c p), nI (bd_d c p), nI (bd_a c p), nI (bd_b c p), nI (64 * p + 16 * bd_a c p), nI (64 * p + 16 * bd_ub c p), g_needA, g_needB, 1, g_started, h_code, h_fact, h_dem, res, h_inputs, h_regs, h_pcs, h_counts, h_logs, h_seen)) :
    wpY_result post (nI W, bd_lo W, nI R, nI C, nI N, nI (bd_op c p), nI (bd_d c p), nI (bd_a c p), nI (bd_b c p), nI (64 * p + 16 * bd_a c p), nI (64 * p + 16 * bd_ub c p), g_needA, g_needB, 1, g_started, h_code, h_fact, h_dem, h_res, h_inputs, h_regs, h_pcs, h_counts, h_logs, h_seen) (nI p) := by
  obtain ⟨v1, v2, v3, v4, v5, v6, v7, v8, v9⟩ := P p hp
  have vu := bd_ub_lt P hp
  have t1 := bd_rn_le (bd_p0 (bd_gy W h_fact p (bd_a c p))) W
  have t2 := bd_rn_le (bd_p0 (bd_gy W h_fact p (bd_ub c p))) W
  have t3 := bd_rn_le (bd_p1 (bd_gy W h_fact p (bd_a c p))) W
  have t4 := bd_rn_le (bd_p1 (bd_gy W h_fact p (bd_ub c p))) W
  have t5 := bd_p01 (u := bd_gy W h_fact p (bd_a c p)) (k := W)
  have t6 := bd_p01 (u := bd_gy W h_fact p (bd_ub c p)) (k := W)
  unfold wpY_result
  refine bd_Y_run0 h3 hW (by omega) ?_
  refine bd_Y_run0 h3 hW (by omega) ?_
  refine bd_Y_run1 h3 hW (by omega) ?_
  refine nm_r (pk_sub t5) ?_
  refine bd_Y_run1 h3 hW (by omega) ?_
  refine nm_r (pk_sub t6) ?_
  refine bd_Y_k1 hW hW0 hN hR (by omega) (fun y1 hy1 => ?_)
  refine bd_Y_k1 hW hW0 hN hR (by omega) (fun y2 hy2 => ?_)
  refine nm_e ?_
  have fin : ∀ s, s = bd_sure W (bd_gy W h_fact p (bd_a c p)) (bd_gy W h_fact p (bd_ub c p)) → ∃ n, wY_result_95 post (y1 * y2) (nI s) (nI W) (bd_lo W) (nI R) (nI C) (nI N) (nI (bd_op c p)) (nI (bd_d c p)) (nI (bd_a c p)) (nI (bd_b c p)) (nI (64 * p + 16 * bd_a c p)) (nI (64 * p + 16 * bd_ub c p)) g_needA g_needB 1 g_started n 0 0 h_code h_fact h_dem h_res h_inputs h_regs h_pcs h_counts h_logs h_seen := by
    intro s hs
    refine bd_Y_r95 hW v1 (by omega) (by omega) (fun h => v5 (h.elim Or.inl (fun h => Or.inr (Or.inl h)))) v6 v9 (by rw [hs]; unfold bd_sure; omega) (fun res q1 q2 => K res (fun i => ?_) (fun hsn h8 i hi => ?_))
    · rcases Nat.lt_or_ge i W with z | z
      · rw [q1 i z]; exact bd_yz_3 (bd_at_3 h3 _) (bd_at_3 h3 _) i
      · rw [q2 i z]; exact hr3 i
    · rw [q1 i hi]
      unfold bd_res
      rw [bd_tr_lt hi]
      refine bd_yz_rz h8 hW (fun h5 => ?_) (fun _ => hs) hi
      have eu : bd_ub c p = bd_b c p := by unfold bd_ub; rw [if_pos ⟨by omega, by omega⟩]
      rw [hy1 _ v2 rfl hsn, hy2 _ (v4 (by omega) (by omega)) rfl hsn, pk_mul]
      show nI (bd_nv (bd_gy W h_fact p (bd_a c p)) W * bd_nv (bd_gy W h_fact p (bd_b c p)) W) = nI (bd_nv (bd_gy W h_fact p (bd_a c p)) W * bd_nv (bd_gy W h_fact p (bd_ub c p)) W)
      rw [eu]
  unfold bd_gy at t1 t2 t3 t4 t5 t6 fin
  unfold bd_sure at fin
  refine pk_le (bd_rn (bd_p1 (bd_at' W h_fact (64 * p + 16 * bd_ub c p))) W - bd_rn (bd_p0 (bd_at' W h_fact (64 * p + 16 * bd_ub c p))) W) (bd_rn (bd_p1 (bd_at' W h_fact (64 * p + 16 * bd_a c p))) W - bd_rn (bd_p0 (bd_at' W h_fact (64 * p + 16 * bd_a c p))) W) (fun g => ?_) (fun g => ?_)
  · refine nm_r (e' := nI (bd_rn (bd_p0 (bd_at' W h_fact (64 * p + 16 * bd_a c p))) W + bd_rn (bd_p0 (bd_at' W h_fact (64 * p + 16 * bd_ub c p))) W + (bd_rn (bd_p1 (bd_at' W h_fact (64 * p + 16 * bd_ub c p))) W - bd_rn (bd_p0 (bd_at' W h_fact (64 * p + 16 * bd_ub c p))) W))) (by rw [nI_add, nI_add]) (fin _ (by omega))
  · refine nm_r (e' := nI (bd_rn (bd_p0 (bd_at' W h_fact (64 * p + 16 * bd_a c p))) W + bd_rn (bd_p0 (bd_at' W h_fact (64 * p + 16 * bd_ub c p))) W + (bd_rn (bd_p1 (bd_at' W h_fact (64 * p + 16 * bd_a c p))) W - bd_rn (bd_p0 (bd_at' W h_fact (64 * p + 16 * bd_a c p))) W))) (by rw [nI_add, nI_add]) (fin _ (by omega))
end
end
section
/-! ===== the reference's decision: one bit of its loop ===== -/
def bd_GA (o : Nat) (x3 x4 x5 x8 x14 x15 x16 x18 : Int32) : Prop := (o = 5 ∧ ((x3 < x4 ∧ ¬ (x5 - x4) < x14) ∨ (¬ x3 < x4 ∧ ¬ x5 < x14))) ∨ (¬ o = 5 ∧ ¬ x18 = 0 ∧ (¬ x16 = x8 ∨ x15 = x8))
def bd_GB (o : Nat) (x3 x4 x5 x8 x14 x15 x16 x18 : Int32) : Prop := (o = 5 ∧ ((x3 < x4 ∧ ¬ x5 < x14) ∨ (¬ x3 < x4 ∧ ¬ (x5 - x3) < x14))) ∨ (¬ o = 5 ∧ ¬ x18 = 0 ∧ (¬ x15 = x8 ∨ x16 = x8))
section
variable {W R N C : Nat} {o b m : Nat}
variable {g_w g_m g_rs g_cap g_n g_op g_d g_a g_b g_x g_y g_needA g_needB g_analysed g_started : Int32} {h_code h_fact h_dem h_res h_inputs h_regs h_pcs h_counts h_logs h_seen : Nat → Int32}
variable {post : Int32 → SY → Prop} {J : Int32 → Int32 → Int32 → Int32 → Int32 → Int32 → Int32 → Int32 → Prop} {x2 x3 x4 x5 x6 x7 x8 x9 x10 x11 x12 x13 x15 x16 x17 x18 : Int32} {Q cc us : Bool}
theorem bd_Y_702 (ho : o ≤ 10) (K : ∀ y, (bd_GB o x3 x4 x5 x8 (nI m) x15 x16 x18 ∧ y = x7 ||| ((1 : Int32) <<< (nI m &&& 31)) ∨ ¬ bd_GB o x3 x4 x5 x8 (nI m) x15 x16 x18 ∧ y = x7) → J x5 x6 y x10 x11 x12 x13 (bd_dn m)) : wY_decide_702 post J x2 x3 x4 x5 x6 x7 x8 x9 x10 x11 x12 x13 (nI m) x15 x16 x18 (nI W) (bd_lo W) (nI R) (nI C) (nI N) (nI o) g_d g_a g_b g_x g_y g_needA g_needB g_analysed g_started h_code h_fact h_dem h_res h_inputs h_regs h_pcs h_counts h_logs h_seen := by
  have put : bd_GB o x3 x4 x5 x8 (nI m) x15 x16 x18 → wY_decide_752 post J x2 x3 x4 x5 x6 x7 x8 x9 x10 x11 x12 x13 (nI m) (nI W) (bd_lo W) (nI R) (nI C) (nI N) (nI o) g_d g_a g_b g_x g_y g_needA g_needB g_analysed g_started h_code h_fact h_dem h_res h_inputs h_regs h_pcs h_counts h_logs h_seen := fun g => nm_e (nm_r (bd_dn1 m) (K _ (Or.inl ⟨g, rfl⟩)))
  have not : ¬ bd_GB o x3 x4 x5 x8 (nI m) x15 x16 x18 → J x5 x6 x7 x10 x11 x12 x13 (bd_dn m) := fun g => K _ (Or.inr ⟨g, rfl⟩)
  unfold bd_GB at put not
  refine pk_eq o 5 (fun h => br_c (fun e1 => br_c (fun e2 => nm_r (bd_dn1 m) (not ?_)) (fun e2 => put (Or.inl ⟨h, Or.inl ⟨e1, e2⟩⟩))) (fun e1 => br_c (fun e2 => nm_r (bd_dn1 m) (not ?_)) (fun e2 => put (Or.inl ⟨h, Or.inr ⟨e1, e2⟩⟩)))) (fun h => br_c (fun e1 => nm_r (bd_dn1 m) (not ?_)) (fun e1 => br_c (fun e2 => br_c (fun e3 => put (Or.inr ⟨h, e1, Or.inr e3⟩)) (fun e3 => nm_r (bd_dn1 m) (not ?_))) (fun e2 => put (Or.inr ⟨h, e1, Or.inl e2⟩))))
  · rintro (⟨-, z | z⟩ | z)
    · exact z.2 e2
    · exact z.1 e1
    · exact z.1 h
  · rintro (⟨-, z | z⟩ | z)
    · exact e1 z.1
    · exact z.2 e2
    · exact z.1 h
  · rintro (z | z)
    · exact h z.1
    · exact z.2.1 e1
  · rintro (z | z)
    · exact h z.1
    · exact z.2.2.elim (fun z => z e2) e3
theorem bd_Y_640 (ho : o ≤ 10) (K : ∀ y, (bd_GA o x3 x4 x5 x8 (nI m) x15 x16 x18 ∧ y = x6 ||| ((1 : Int32) <<< (nI m &&& 31)) ∨ ¬ bd_GA o x3 x4 x5 x8 (nI m) x15 x16 x18 ∧ y = x6) → wY_decide_702 post J x2 x3 x4 x5 y x7 x8 x9 x10 x11 x12 x13 (nI m) x15 x16 x18 (nI W) (bd_lo W) (nI R) (nI C) (nI N) (nI o) g_d g_a g_b g_x g_y g_needA g_needB g_analysed g_started h_code h_fact h_dem h_res h_inputs h_regs h_pcs h_counts h_logs h_seen) : wY_decide_640 post J x2 x3 x4 x5 x6 x7 x8 x9 x10 x11 x13 (nI m) x15 x16 x18 x12 (nI W) (bd_lo W) (nI R) (nI C) (nI N) (nI o) g_d g_a g_b g_x g_y g_needA g_needB g_analysed g_started h_code h_fact h_dem h_res h_inputs h_regs h_pcs h_counts h_logs h_seen := by
  have put : bd_GA o x3 x4 x5 x8 (nI m) x15 x16 x18 → wY_decide_693 post J x2 x3 x4 x5 x6 x7 x8 x9 x10 x11 x12 x13 (nI m) x15 x16 x18 (nI W) (bd_lo W) (nI R) (nI C) (nI N) (nI o) g_d g_a g_b g_x g_y g_needA g_needB g_analysed g_started h_code h_fact h_dem h_res h_inputs h_regs h_pcs h_counts h_logs h_seen := fun g => nm_e (K _ (Or.inl ⟨g, rfl⟩))
  have not : ¬ bd_GA o x3 x4 x5 x8 (nI m) x15 x16 x18 → wY_decide_702 post J x2 x3 x4 x5 x6 x7 x8 x9 x10 x11 x12 x13 (nI m) x15 x16 x18 (nI W) (bd_lo W) (nI R) (nI C) (nI N) (nI o) g_d g_a g_b g_x g_y g_needA g_needB g_analysed g_started h_code h_fact h_dem h_res h_inputs h_regs h_pcs h_counts h_logs h_seen := fun g => K _ (Or.inr ⟨g, rfl⟩)
  unfold bd_GA at put not
  refine pk_eq o 5 (fun h => br_c (fun e1 => br_c (fun e2 => not ?_) (fun e2 => put (Or.inl ⟨h, Or.inl ⟨e1, e2⟩⟩))) (fun e1 => br_c (fun e2 => not ?_) (fun e2 => put (Or.inl ⟨h, Or.inr ⟨e1, e2⟩⟩)))) (fun h => br_c (fun e1 => not ?_) (fun e1 => br_c (fun e2 => br_c (fun e3 => put (Or.inr ⟨h, e1, Or.inr e3⟩)) (fun e3 => not ?_)) (fun e2 => put (Or.inr ⟨h, e1, Or.inl e2⟩))))
  · rintro (⟨-, z | z⟩ | z)
    · exact z.2 e2
    · exact z.1 e1
    · exact z.1 h
  · rintro (⟨-, z | z⟩ | z)
    · exact e1 z.1
    · exact z.2 e2
    · exact z.1 h
  · rintro (z | z)
    · exact h z.1
    · exact z.2.1 e1
  · rintro (z | z)
    · exact h z.1
    · exact z.2.2.elim (fun z => z e2) e3
theorem bd_Y_609 {B : Bool} (K : wY_decide_640 post J x2 x3 x4 x5 x6 x7 x8 x9 x10 x11 x13 (nI m) x15 x16 (bd_bb us) (bd_bb (B && (!us || decide (x15 = x9 ∨ x16 = x8)))) (nI W) (bd_lo W) (nI R) (nI C) (nI N) g_op g_d g_a g_b g_x g_y g_needA g_needB g_analysed g_started h_code h_fact h_dem h_res h_inputs h_regs h_pcs h_counts h_logs h_seen) : wY_decide_609 post J x2 x3 x4 x5 x6 x7 x8 x9 x10 (bd_bb B) x13 (nI m) x15 x16 (bd_bb us) x11 (nI W) (bd_lo W) (nI R) (nI C) (nI N) g_op g_d g_a g_b g_x g_y g_needA g_needB g_analysed g_started h_code h_fact h_dem h_res h_inputs h_regs h_pcs h_counts h_logs h_seen := by
  cases B
  · exact br_t rfl K
  · refine br_f (by decide) ?_
    cases us
    · exact br_t rfl K
    · refine br_f (by decide) (br_c (fun e1 => ?_) (fun e1 => br_c (fun e2 => ?_) (fun e2 => ?_)))
      · rw [decide_eq_true (Or.inl e1)] at K; exact K
      · rw [decide_eq_true (Or.inr e2)] at K; exact K
      · rw [decide_eq_false (fun z => z.elim e1 e2)] at K; exact K
theorem bd_Y_531 {A : Bool} (ho : o ≤ 8) (hb : b < 65536) (hm : m < 32) {u v : Nat → Int32} (e15 : x15 = u m) (e16 : x16 = v m) (e8 : x8 = bd_oo o) (e9 : x9 = bd_ee o) (K : wY_decide_609 post J x2 x3 x4 x5 x6 x7 x8 x9 x10 x12 x13 (nI m) x15 x16 (bd_bb us) (bd_bb (A && (!us || bd_kA o b u v m))) (nI W) (bd_lo W) (nI R) (nI C) (nI N) (nI o) g_d g_a (nI b) g_x g_y g_needA g_needB g_analysed g_started h_code h_fact h_dem h_res h_inputs h_regs h_pcs h_counts h_logs h_seen) : wY_decide_531 post J x2 x3 x4 x5 x6 x7 x8 x9 (bd_bb A) x12 x13 (nI m) x15 x16 (bd_bb us) x10 (nI W) (bd_lo W) (nI R) (nI C) (nI N) (nI o) g_d g_a (nI b) g_x g_y g_needA g_needB g_analysed g_started h_code h_fact h_dem h_res h_inputs h_regs h_pcs h_counts h_logs h_seen := by
  cases A
  · exact br_t rfl K
  · refine br_f (by decide) ?_
    cases us
    · exact br_t rfl K
    · refine br_f (by decide) ?_
      unfold bd_kA at K
      refine pk_lt 4 o (fun h4 => ?_) (fun h4 => ?_)
      · rw [if_neg (by omega)] at K
        refine pk_eq o 8 (fun h8 => ?_) (fun h8 => ?_)
        · rw [if_pos h8] at K
          refine pk_le b m (fun g => ?_) (fun g => ?_)
          · rw [decide_eq_false (by omega)] at K; exact K
          · rw [decide_eq_true g] at K; exact K
        · rw [if_neg h8] at K
          refine pk_eq o 5 (fun h5 => ?_) (fun h5 => ?_)
          · rw [decide_eq_false (fun z => z.1 h5)] at K; exact K
          · refine pk_eq b 0 (fun g => ?_) (fun g => ?_)
            · rw [decide_eq_true ⟨h5, g⟩] at K; exact K
            · rw [decide_eq_false (fun z => g z.2)] at K; exact K
      · rw [if_pos h4, ← e15, ← e16, ← e8, ← e9] at K
        refine br_c (fun e1 => ?_) (fun e1 => br_c (fun e2 => ?_) (fun e2 => ?_))
        · rw [decide_eq_true (Or.inl e1)] at K; exact K
        · rw [decide_eq_true (Or.inr e2)] at K; exact K
        · rw [decide_eq_false (fun z => z.elim e1 e2)] at K; exact K
theorem bd_Y_503 {A : Bool} (hm : m < 16) (K : wY_decide_531 post J x2 x3 x4 x5 x6 x7 x8 x9 x11 x12 x13 (nI m) x15 x16 x18 (bd_bb (A && (!Q || decide (¬ h_res m = 2)))) (nI W) (bd_lo W) (nI R) (nI C) (nI N) g_op g_d g_a g_b g_x g_y g_needA g_needB g_analysed g_started h_code h_fact h_dem h_res h_inputs h_regs h_pcs h_counts h_logs h_seen) : wY_decide_503 post J x2 x3 x4 x6 x7 x8 x9 (bd_bb A) x11 x12 x13 (nI m) x15 x16 (bd_bb Q) x18 x5 (nI W) (bd_lo W) (nI R) (nI C) (nI N) g_op g_d g_a g_b g_x g_y g_needA g_needB g_analysed g_started h_code h_fact h_dem h_res h_inputs h_regs h_pcs h_counts h_logs h_seen := by
  cases A
  · exact br_t rfl K
  · refine br_f (by decide) ?_
    cases Q
    · exact br_t rfl K
    · refine br_f (by decide) ⟨vp_in_nI hm (by omega), ?_⟩
      rw [bd_fat (f := h_res) (p := m) (by omega)]
      refine br_c (fun e => ?_) (fun e => ?_)
      · rw [decide_eq_false (fun z => z e)] at K; exact K
      · rw [decide_eq_true e] at K; exact K
theorem bd_Y_482 (K : ∀ h, (Q = true ∧ ¬ nI m ≤ x5 ∧ h = nI m ∨ ¬ (Q = true ∧ ¬ nI m ≤ x5) ∧ h = x5) → wY_decide_503 post J x2 x3 x4 x6 x7 x8 x9 x10 x11 x12 x13 (nI m) x15 x16 (bd_bb Q) x18 h (nI W) (bd_lo W) (nI R) (nI C) (nI N) g_op g_d g_a g_b g_x g_y g_needA g_needB g_analysed g_started h_code h_fact h_dem h_res h_inputs h_regs h_pcs h_counts h_logs h_seen) : wY_decide_482 post J x2 x3 x4 x5 x6 x7 x8 x9 x10 x11 x12 (nI m) x15 x16 (bd_bb Q) x18 x13 (nI W) (bd_lo W) (nI R) (nI C) (nI N) g_op g_d g_a g_b g_x g_y g_needA g_needB g_analysed g_started h_code h_fact h_dem h_res h_inputs h_regs h_pcs h_counts h_logs h_seen := by
  cases Q
  · exact br_t rfl (K _ (Or.inr ⟨fun z => (nomatch z.1), rfl⟩))
  · refine br_f (by decide) (br_c (fun e => ?_) (fun e => ?_))
    · exact K _ (Or.inr ⟨fun z => z.2 e, rfl⟩)
    · exact K _ (Or.inl ⟨rfl, e, rfl⟩)
theorem bd_Y_452 (K : wY_decide_482 post J x2 x3 x4 x5 x6 x7 x8 x9 x10 x11 x12 (nI m) x15 x16 (bd_bb Q) x18 (bd_bb (Q || (cc && !bd_sm x15 x16))) (nI W) (bd_lo W) (nI R) (nI C) (nI N) g_op g_d g_a g_b g_x g_y g_needA g_needB g_analysed g_started h_code h_fact h_dem h_res h_inputs h_regs h_pcs h_counts h_logs h_seen) : wY_decide_452 post J x2 x3 x4 x5 x6 x7 x8 x9 x10 x11 x12 (bd_bb cc) (nI m) x15 x16 (bd_bb Q) x18 (nI W) (bd_lo W) (nI R) (nI C) (nI N) g_op g_d g_a g_b g_x g_y g_needA g_needB g_analysed g_started h_code h_fact h_dem h_res h_inputs h_regs h_pcs h_counts h_logs h_seen := by
  unfold bd_sm at K
  cases Q
  · refine br_t rfl ?_
    cases cc
    · exact br_t rfl K
    · refine br_f (by decide) (br_c (fun e1 => br_c (fun e2 => ?_) (fun e2 => ?_)) (fun e1 => ?_))
      · rw [decide_eq_false (fun z => z.2 e2)] at K; exact K
      · rw [decide_eq_true ⟨e1, e2⟩] at K; exact K
      · rw [decide_eq_false (fun z => e1 z.1)] at K; exact K
  · exact br_f (by decide) K
theorem bd_Y_427 (ho : o ≤ 10) (K : wY_decide_452 post J x2 x3 x4 x5 x6 x7 x8 x9 x10 x11 x12 (bd_bb cc) (nI m) x15 x16 (bd_bb Q) (bd_bb (Q || (decide (o = 4) && cc))) (nI W) (bd_lo W) (nI R) (nI C) (nI N) (nI o) g_d g_a g_b g_x g_y g_needA g_needB g_analysed g_started h_code h_fact h_dem h_res h_inputs h_regs h_pcs h_counts h_logs h_seen) : wY_decide_427 post J x2 x3 x4 x5 x6 x7 x8 x9 x10 x11 x12 (bd_bb cc) (nI m) x15 x16 (bd_bb Q) (nI W) (bd_lo W) (nI R) (nI C) (nI N) (nI o) g_d g_a g_b g_x g_y g_needA g_needB g_analysed g_started h_code h_fact h_dem h_res h_inputs h_regs h_pcs h_counts h_logs h_seen := by
  cases Q
  · refine br_t rfl (pk_eq o 4 (fun h => ?_) (fun h => ?_))
    · rw [decide_eq_true h] at K
      cases cc
      · exact br_t rfl K
      · exact br_f (by decide) K
    · rw [decide_eq_false h] at K
      exact K
  · exact br_f (by decide) K
end
end
section
/-! ===== the reference's decision: its loop and its end ===== -/
theorem bd_dnS' (k t : Nat) : bd_dn k - nI t = nI k - nI (t + 1) := by
  unfold bd_dn
  rw [← nI_1 t]
  grind
theorem bd_dnT {k t : Nat} (hk : k < 1000) (ht : t < 1000) : (bd_dn k - nI t).toInt = (k : Int) - 1 - t := by
  rw [bd_dnS', pk_sub_toInt (by omega) (by omega)]
  omega
theorem bd_dnI {k : Nat} (hk : k < 1000) : (bd_dn k).toInt = (k : Int) - 1 := by
  unfold bd_dn
  rw [show (1 : Int32) = nI 1 from rfl, pk_sub_toInt (by omega) (by omega)]
  omega
theorem bd_dn_lt {k m : Nat} (hk : k < 1000) (hm : m < 1000) : ¬ bd_dn k < nI m ↔ m < k := by
  rw [Int32.lt_iff_toInt_lt, bd_dnI hk, nI_toInt (by omega)]; omega
theorem bd_dn_lt' {k t m : Nat} (hk : k < 1000) (ht : t < 1000) (hm : m < 1000) : ¬ bd_dn k - nI t < nI m ↔ m < k - t := by
  rw [Int32.lt_iff_toInt_lt, bd_dnT hk ht, nI_toInt (by omega)]; omega
theorem bd_dn_le {k m : Nat} (hk : k < 1000) (hm : m < 1000) : nI m ≤ bd_dn k ↔ m < k := by
  rw [Int32.le_iff_toInt_le, bd_dnI hk, nI_toInt (by omega)]; omega
def bd_Tp (W : Nat) (q : Int32) (j tp : Nat) : Prop := (tp = 0 ∧ ∀ i, j ≤ i → i < W → bt q i = false) ∨ (j < tp ∧ tp ≤ W ∧ bt q (tp - 1) = true ∧ ∀ i, tp ≤ i → i < W → bt q i = false)
theorem bd_Tp_bl {W j tp : Nat} {q : Int32} (h : bd_Tp W q j tp) {d : Nat} : j < tp - d ↔ j < bd_bl q W - d := by
  have hl := bd_bl_le q W
  rcases h with ⟨h1, h2⟩ | ⟨h1, h2, h3, h4⟩
  · have : bd_bl q W ≤ j := by
      rcases Nat.lt_or_ge j (bd_bl q W) with z | z
      · have := bd_bl_t (q := q) (k := W) (by omega)
        rw [h2 _ (by omega) (by omega)] at this; cases this
      · exact z
    omega
  · rw [bd_bl_u h2 (fun _ => h3) h4]
def bd_FA (W o : Nat) (u v : Nat → Int32) (q : Int32) (i : Nat) : Prop := (o = 5 ∧ i < bd_bl q W - bd_dA W u v) ∨ (¬ o = 5 ∧ bd_us W o u v q i = true ∧ (¬ v i = bd_oo o ∨ u i = bd_oo o))
def bd_FB (W o : Nat) (u v : Nat → Int32) (q : Int32) (i : Nat) : Prop := (o = 5 ∧ i < bd_bl q W - bd_dB W u v) ∨ (¬ o = 5 ∧ bd_us W o u v q i = true ∧ (¬ u i = bd_oo o ∨ v i = bd_oo o))
theorem bd_GA_F {W o m tp : Nat} {u v : Nat → Int32} {q : Int32} (hW : W ≤ 16) (hm : m < W) (ht : bd_Tp W q m tp) : bd_GA o (nI (bd_rn (bd_p0 u) W)) (nI (bd_rn (bd_p0 v) W)) (bd_dn tp) (bd_oo o) (nI m) (u m) (v m) (bd_bb (bd_us W o u v q m)) ↔ bd_FA W o u v q m := by
  have l1 := bd_rn_le (bd_p0 u) W
  have l2 := bd_rn_le (bd_p0 v) W
  have ltp : tp ≤ W := by rcases ht with h | h <;> omega
  unfold bd_GA bd_FA bd_dA
  rw [nI_ltI (by omega) (by omega), bd_dn_lt (by omega) (by omega), bd_dn_lt' (by omega) (by omega) (by omega)]
  refine or_congr (and_congr_right fun _ => ?_) (and_congr_right fun _ => and_congr ?_ Iff.rfl)
  · by_cases g : bd_rn (bd_p0 v) W ≤ bd_rn (bd_p0 u) W
    · rw [if_pos g, ← bd_Tp_bl ht]; omega
    · rw [if_neg g, ← bd_Tp_bl ht]; omega
  · cases bd_us W o u v q m <;> decide
theorem bd_GB_F {W o m tp : Nat} {u v : Nat → Int32} {q : Int32} (hW : W ≤ 16) (hm : m < W) (ht : bd_Tp W q m tp) : bd_GB o (nI (bd_rn (bd_p0 u) W)) (nI (bd_rn (bd_p0 v) W)) (bd_dn tp) (bd_oo o) (nI m) (u m) (v m) (bd_bb (bd_us W o u v q m)) ↔ bd_FB W o u v q m := by
  have l1 := bd_rn_le (bd_p0 u) W
  have l2 := bd_rn_le (bd_p0 v) W
  have ltp : tp ≤ W := by rcases ht with h | h <;> omega
  unfold bd_GB bd_FB bd_dB
  rw [nI_ltI (by omega) (by omega), bd_dn_lt (by omega) (by omega), bd_dn_lt' (by omega) (by omega) (by omega)]
  refine or_congr (and_congr_right fun _ => ?_) (and_congr_right fun _ => and_congr ?_ Iff.rfl)
  · by_cases g : bd_rn (bd_p0 v) W ≤ bd_rn (bd_p0 u) W
    · rw [if_pos g, ← bd_Tp_bl ht]; omega
    · rw [if_neg g, ← bd_Tp_bl ht]; omega
  · cases bd_us W o u v q m <;> decide
theorem bd_ssh {q : Int32} {b W : Nat} (hW : W ≤ 16) (mq : bd_mk W q) (hb : b < 32) (i : Nat) : bt (q >>> (nI b &&& 31)) i = bt q (b + i) := by
  rcases Nat.lt_or_ge i 32 with z | z
  · rw [b_sshr b hb q z]
    split
    · rfl
    · rw [mq 31 (by omega), mq (b + i) (by omega)]
  · rw [b_big z, b_big (by omega)]
theorem bd_ssh0 {q : Int32} {b W : Nat} (hW : W ≤ 16) (mq : bd_mk W q) (hb : b < 32) : (q >>> (nI b &&& 31)) = 0 ↔ ¬ ∃ j, b ≤ j ∧ bt q j = true := by
  rw [bd_z]
  constructor
  · rintro h ⟨j, h1, h2⟩
    have := h (j - b)
    rw [bd_ssh hW mq hb, show b + (j - b) = j by omega, h2] at this; cases this
  · intro h i
    rw [bd_ssh hW mq hb]
    cases e : bt q (b + i)
    · rfl
    · exact absurd ⟨_, by omega, e⟩ h
section
variable {W R N C : Nat} {o b X Y : Nat} {q : Int32}
variable {g_w g_m g_rs g_cap g_n g_op g_d g_a g_b g_x g_y g_needA g_needB g_analysed g_started : Int32} {h_code h_fact h_dem h_res h_inputs h_regs h_pcs h_counts h_logs h_seen : Nat → Int32}
variable {post : Int32 → SY → Prop}
theorem bd_Y_866 {x6 x7 : Int32} {cA cB : Bool} (ho : o ≤ 10) (K1 : cA = true → post 3 (nI W, bd_lo W, nI R, nI C, nI N, nI o, g_d, g_a, g_b, g_x, g_y, q, 0, g_analysed, g_started, h_code, h_fact, h_dem, h_res, h_inputs, h_regs, h_pcs, h_counts, h_logs, h_seen)) (K2 : cA = false → cB = true → post 4 (nI W, bd_lo W, nI R, nI C, nI N, nI o, g_d, g_a, g_b, g_x, g_y, 0, if o ≤ 5 then q else 0, g_analysed, g_started, h_code, h_fact, h_dem, h_res, h_inputs, h_regs, h_pcs, h_counts, h_logs, h_seen)) (K3 : cA = false → cB = false → post 0 (nI W, bd_lo W, nI R, nI C, nI N, nI o, g_d, g_a, g_b, g_x, g_y, x6, if o ≤ 5 then x7 else 0, g_analysed, g_started, h_code, h_fact, h_dem, h_res, h_inputs, h_regs, h_pcs, h_counts, h_logs, h_seen)) : wY_decide_866 post q x6 x7 (bd_bb cA) (bd_bb cB) (nI W) (bd_lo W) (nI R) (nI C) (nI N) (nI o) g_d g_a g_b g_x g_y g_needA 0 g_analysed g_started h_code h_fact h_dem h_res h_inputs h_regs h_pcs h_counts h_logs h_seen := by
  cases cA
  · refine br_t rfl ?_
    cases cB
    · have K := K3 rfl rfl
      refine br_t rfl (br_t rfl (pk_le o 5 (fun h => ?_) (fun h => ?_)))
      · rw [if_pos h] at K
        exact br_t rfl (br_t rfl (br_t rfl K))
      · rw [if_neg (by omega)] at K
        exact br_t rfl (br_t rfl K)
    · have K := K2 rfl rfl
      refine br_f (by decide) (br_t rfl (pk_le o 5 (fun h => ?_) (fun h => ?_)))
      · rw [if_pos h] at K
        exact br_f (by decide) (br_t rfl (br_f (by decide) K))
      · rw [if_neg (by omega)] at K
        exact br_t rfl (br_f (by decide) K)
  · exact br_f (by decide) (br_f (by decide) (br_f (by decide) (K1 rfl)))
/-- the end of the loop -/
theorem bd_Y_end {u v : Nat → Int32} {x6 x7 : Int32} {cA cB : Bool} (hW : W ≤ 16) (ho : o ≤ 8) (hu : bd_T3 u) (hv : bd_T3 v) (mq : bd_mk W q) (hq : ¬ q = 0) (hal : ¬ bd_al W o b u v q) (hA : cA = true ↔ bd_cA W o b u v q) (hB : cB = true ↔ bd_cB W o u v q) (h6 : ∀ i, bt x6 i = true ↔ (i < W ∧ bd_FA W o u v q i)) (h7 : ∀ i, bt x7 i = true ↔ (i < W ∧ bd_FB W o u v q i))
    (hb6 : o = 6 ∨ o = 7 → b < W) (hb8 : o = 8 → 1 ≤ b ∧ b ≤ W) (hb : b < 65536)
    (K : ∀ k nA nB, bd_Dec W o b u v q k nA nB → post k (nI W, bd_lo W, nI R, nI C, nI N, nI o, g_d, g_a, nI b, g_x, g_y, nA, nB, g_analysed, g_started, h_code, h_fact, h_dem, h_res, h_inputs, h_regs, h_pcs, h_counts, h_logs, h_seen)) :
    ((nI o = 6 → wY_decide_792 post q x7 (bd_bb cA) (bd_bb cB) (nI W) (bd_lo W) (nI R) (nI C) (nI N) (nI o) g_d g_a (nI b) g_x g_y g_needA 0 g_analysed g_started h_code h_fact h_dem h_res h_inputs h_regs h_pcs h_counts h_logs h_seen) ∧ (¬ nI o = 6 → ((nI o = 7 → wY_decide_792 post q x7 (bd_bb cA) (bd_bb cB) (nI W) (bd_lo W) (nI R) (nI C) (nI N) (nI o) g_d g_a (nI b) g_x g_y g_needA 0 g_analysed g_started h_code h_fact h_dem h_res h_inputs h_regs h_pcs h_counts h_logs h_seen) ∧ (¬ nI o = 7 → wY_decide_823 post q x6 x7 (bd_bb cA) (bd_bb cB) (nI W) (bd_lo W) (nI R) (nI C) (nI N) (nI o) g_d g_a (nI b) g_x g_y g_needA 0 g_analysed g_started h_code h_fact h_dem h_res h_inputs h_regs h_pcs h_counts h_logs h_seen)))) := by
  have fin : ∀ y6, (∀ i, bt y6 i = true ↔ bd_fA W o b u v q i) → wY_decide_866 post q y6 x7 (bd_bb cA) (bd_bb cB) (nI W) (bd_lo W) (nI R) (nI C) (nI N) (nI o) g_d g_a (nI b) g_x g_y g_needA 0 g_analysed g_started h_code h_fact h_dem h_res h_inputs h_regs h_pcs h_counts h_logs h_seen := by
    intro y6 hy6
    refine bd_Y_866 (by omega) (fun e => K _ _ _ (bd_D_cA ho hq hal (hA.mp e))) (fun e1 e2 => ?_) (fun e1 e2 => ?_)
    · have nA : ¬ bd_cA W o b u v q := fun z => by rw [hA.mpr z] at e1; cases e1
      have cb := hB.mp e2
      have h4 := cb.1
      rw [if_pos (by omega)]
      exact K _ _ _ (bd_D_cB ho hq hal nA cb)
    · have nA : ¬ bd_cA W o b u v q := fun z => by rw [hA.mpr z] at e1; cases e1
      have nB : ¬ bd_cB W o u v q := fun z => by rw [hB.mpr z] at e2; cases e2
      refine K _ _ _ (bd_D_keep ho hq hal nA nB hy6 (fun i => ?_))
      by_cases h5 : o ≤ 5
      · rw [if_pos h5, h7 i]
        by_cases e5 : o = 5
        · rw [bd_fB5 e5]
          have := bd_bl_le q W
          unfold bd_FB
          constructor
          · rintro ⟨-, z | z⟩
            · exact z.2
            · exact absurd e5 z.1
          · intro z; exact ⟨by omega, Or.inl ⟨e5, z⟩⟩
        · rw [bd_fB4 (by omega)]
          unfold bd_FB
          constructor
          · rintro ⟨z0, z | z⟩
            · exact absurd z.1 e5
            · exact ⟨z0, z.2⟩
          · intro z; exact ⟨z.1, Or.inr ⟨e5, z.2⟩⟩
      · rw [if_neg h5]
        exact bd_f0 (bd_fB6 (by omega))
  refine pk_eq o 6 (fun c6 => ?_) (fun c6 => pk_eq o 7 (fun c7 => ?_) (fun c7 => ?_))
  · refine br_t (by rw [c6]; rfl) (br_f (by rw [c6]; decide) (fin _ (fun i => ?_)))
    have := hb6 (Or.inl c6)
    rw [bd_ssh hW mq (by omega), bd_fA6 c6, Nat.add_comm]
  · refine br_f (by rw [c7]; decide) (br_f (by rw [c7]; decide) (fin _ (fun i => ?_)))
    have := hb6 (Or.inr c7)
    exact bd_xA7 hW (by omega) c7 i
  · refine pk_eq o 8 (fun c8 => ?_) (fun c8 => ?_)
    · obtain ⟨b1, b2⟩ := hb8 c8
      by_cases z : ∃ j, b ≤ j ∧ bt q j = true
      · refine br_f (fun g => (bd_ssh0 hW mq (by omega)).mp g z) (nm_e ?_)
        have e : nI b - 1 = nI (b - 1) := by
          obtain ⟨j, rfl⟩ : ∃ j, b = j + 1 := ⟨b - 1, by omega⟩
          exact nI_pred j
        rw [bd_lo_s b (by omega), e]
        exact fin _ (bd_xA8t hW b1 b2 c8 z)
      · refine br_t ((bd_ssh0 hW mq (by omega)).mpr z) (nm_e ?_)
        rw [bd_lo_s b (by omega)]
        refine fin _ (fun i => ?_)
        rw [b_or, b_0, Bool.or_false]
        exact bd_xA8f hW b1 b2 c8 z i
    · refine fin x6 (fun i => ?_)
      rw [h6 i]
      by_cases e5 : o = 5
      · rw [bd_fA5 e5]
        have := bd_bl_le q W
        unfold bd_FA
        constructor
        · rintro ⟨-, z | z⟩
          · exact z.2
          · exact absurd e5 z.1
        · intro z; exact ⟨by omega, Or.inl ⟨e5, z⟩⟩
      · rw [bd_fA4 (by omega)]
        unfold bd_FA
        constructor
        · rintro ⟨z0, z | z⟩
          · exact absurd z.1 e5
          · exact ⟨z0, z.2⟩
        · intro z; exact ⟨z.1, Or.inr ⟨e5, z.2⟩⟩
theorem bd_Y_379 (hW : W ≤ 16) (hW0 : 0 < W) (ho : o ≤ 8) (h3 : bd_F3 h_fact) (hX : X + 16 ≤ 1600) (hY : Y + 16 ≤ 1600) (mq : bd_mk W q) (hq : ¬ q = 0) (hres : ∀ i, i < W → h_res i = bd_rz W o b (bd_at' W h_fact X) (bd_at' W h_fact Y) i)
    (hb6 : o = 6 ∨ o = 7 → b < W) (hb8 : o = 8 → 1 ≤ b ∧ b ≤ W) (hb : b < 65536)
    (K : ∀ k nA nB, bd_Dec W o b (bd_at' W h_fact X) (bd_at' W h_fact Y) q k nA nB → post k (nI W, bd_lo W, nI R, nI C, nI N, nI o, g_d, g_a, nI b, nI X, nI Y, nA, nB, g_analysed, g_started, h_code, h_fact, h_dem, h_res, h_inputs, h_regs, h_pcs, h_counts, h_logs, h_seen)) :
    ∃ n, wY_decide_379 post q (nI (bd_rn (bd_p0 (bd_at' W h_fact X)) W)) (nI (bd_rn (bd_p0 (bd_at' W h_fact Y)) W)) (bd_oo o) (bd_ee o) (nI W) (bd_lo W) (nI R) (nI C) (nI N) (nI o) g_d g_a (nI b) (nI X) (nI Y) 0 0 g_analysed g_started h_code h_fact h_dem h_res h_inputs h_regs h_pcs h_counts h_logs h_seen n (-1) 0 0 1 1 (bd_bb (decide (o ≤ 4))) 0 (bd_dn W) := by
  have loop : ∀ j, j ≤ W → ∀ tp x6 x7 A cA cB, bd_Tp W q j tp → (∀ i, bt x6 i = true ↔ (j ≤ i ∧ i < W ∧ bd_FA W o (bd_at' W h_fact X) (bd_at' W h_fact Y) q i)) → (∀ i, bt x7 i = true ↔ (j ≤ i ∧ i < W ∧ bd_FB W o (bd_at' W h_fact X) (bd_at' W h_fact Y) q i)) →
      (A = true ↔ ∀ i, j ≤ i → i < W → bt q i = true → ¬ bd_rz W o b (bd_at' W h_fact X) (bd_at' W h_fact Y) i = 2) → (cA = true ↔ ∀ i, j ≤ i → i < W → bd_us W o (bd_at' W h_fact X) (bd_at' W h_fact Y) q i = true → bd_kA o b (bd_at' W h_fact X) (bd_at' W h_fact Y) i = true) → (cB = true ↔ (o ≤ 4 ∧ ∀ i, j ≤ i → i < W → bd_us W o (bd_at' W h_fact X) (bd_at' W h_fact Y) q i = true → bd_kB o (bd_at' W h_fact X) (bd_at' W h_fact Y) i = true)) →
      wY_decide_379 post q (nI (bd_rn (bd_p0 (bd_at' W h_fact X)) W)) (nI (bd_rn (bd_p0 (bd_at' W h_fact Y)) W)) (bd_oo o) (bd_ee o) (nI W) (bd_lo W) (nI R) (nI C) (nI N) (nI o) g_d g_a (nI b) (nI X) (nI Y) 0 0 g_analysed g_started h_code h_fact h_dem h_res h_inputs h_regs h_pcs h_counts h_logs h_seen (j + 1) (bd_dn tp) x6 x7 (bd_bb A) (bd_bb cA) (bd_bb cB) (bd_bb (bd_ch W (bd_at' W h_fact X) (bd_at' W h_fact Y) q (W - j))) (bd_dn j) := by
    have hu := bd_at_3 (W := W) h3 X
    have hv := bd_at_3 (W := W) h3 Y
    have eu : ∀ m, m < W → bd_at' W h_fact X m = h_fact (X + m) := fun m hm => bd_at_lt hm
    have ev : ∀ m, m < W → bd_at' W h_fact Y m = h_fact (Y + m) := fun m hm => bd_at_lt hm
    generalize bd_at' W h_fact X = u at *
    generalize bd_at' W h_fact Y = v at *
    intro j
    induction j with
    | zero =>
      intro _ tp x6 x7 A cA cB htp h6 h7 hA hcA hcB
      refine br_t (by decide) ?_
      have z6 : ∀ i, bt x6 i = true ↔ (i < W ∧ bd_FA W o u v q i) := fun i => (h6 i).trans ⟨fun z => z.2, fun z => ⟨by omega, z⟩⟩
      have z7 : ∀ i, bt x7 i = true ↔ (i < W ∧ bd_FB W o u v q i) := fun i => (h7 i).trans ⟨fun z => z.2, fun z => ⟨by omega, z⟩⟩
      have zA : A = true ↔ bd_al W o b u v q := hA.trans ⟨fun z i hi => z i (by omega) hi, fun z i _ hi => z i hi⟩
      have zcA : cA = true ↔ bd_cA W o b u v q := hcA.trans ⟨fun z i hi => z i (by omega) hi, fun z i _ hi => z i hi⟩
      have zcB : cB = true ↔ bd_cB W o u v q := hcB.trans ⟨fun z => ⟨z.1, fun i hi => z.2 i (by omega) hi⟩, fun z => ⟨z.1, fun i _ hi => z.2 i hi⟩⟩
      cases A
      · have nal : ¬ bd_al W o b u v q := fun z => by have := zA.mpr z; cases this
        exact br_t rfl (bd_Y_end hW ho hu hv mq hq nal zcA zcB z6 z7 hb6 hb8 hb K)
      · exact br_f (by decide) (K _ _ _ (bd_D_const ho hq (zA.mp rfl)))
    | succ m ih =>
      intro hj tp x6 x7 A cA cB htp h6 h7 hA hcA hcB
      have hm : m < W := by omega
      rw [bd_dnS]
      have ltp : tp ≤ W := by rcases htp with h | h <;> omega
      have ei : W - 1 - m = W - (m + 1) := by omega
      have ech : bd_ch W u v q (W - m) = (bt q m || (bd_ch W u v q (W - (m + 1)) && !bd_sm (u m) (v m))) := by
        rw [show W - m = (W - (m + 1)) + 1 by omega, bd_ch, show W - 1 - (W - (m + 1)) = m by omega]
      have eus : bd_us W o u v q m = (bt q m || (decide (o = 4) && bd_ch W u v q (W - (m + 1)))) := by
        unfold bd_us; rw [ei]
      refine br_f (nI_pos (by omega)) ?_
      rw [nI_add, nI_add]
      refine ⟨vp_in_nI (by omega) (by omega), nm_r (e' := u m) ((bd_fat (by omega)).trans (eu m hm).symm) ⟨vp_in_nI (by omega) (by omega), nm_r (e' := v m) ((bd_fat (by omega)).trans (ev m hm).symm) ?_⟩⟩
      have main : wY_decide_427 post (wY_decide_379 post q (nI (bd_rn (bd_p0 u) W)) (nI (bd_rn (bd_p0 v) W)) (bd_oo o) (bd_ee o) (nI W) (bd_lo W) (nI R) (nI C) (nI N) (nI o) g_d g_a (nI b) (nI X) (nI Y) 0 0 g_analysed g_started h_code h_fact h_dem h_res h_inputs h_regs h_pcs h_counts h_logs h_seen (m + 1)) q (nI (bd_rn (bd_p0 u) W)) (nI (bd_rn (bd_p0 v) W)) (bd_dn tp) x6 x7 (bd_oo o) (bd_ee o) (bd_bb A) (bd_bb cA) (bd_bb cB) (bd_bb (bd_ch W u v q (W - (m + 1)))) (nI m) (u m) (v m) (bd_bb (bt q m)) (nI W) (bd_lo W) (nI R) (nI C) (nI N) (nI o) g_d g_a (nI b) (nI X) (nI Y) 0 0 g_analysed g_started h_code h_fact h_dem h_res h_inputs h_regs h_pcs h_counts h_logs h_seen := by
        refine bd_Y_427 (by omega) ?_
        refine bd_Y_452 ?_
        rw [← eus, ← ech]
        refine bd_Y_482 (fun h hh => ?_)
        obtain ⟨tp', rfl, htp'⟩ : ∃ tp', h = bd_dn tp' ∧ bd_Tp W q m tp' := by
          rw [bd_dn_le (by omega) (by omega)] at hh
          rcases hh with ⟨g1, g2, g3⟩ | ⟨g1, g2⟩
          · refine ⟨m + 1, by rw [g3, bd_dnS], Or.inr ⟨by omega, by omega, g1, fun i hi hi' => ?_⟩⟩
            rcases htp with ⟨t1, t2⟩ | ⟨t1, t2, t3, t4⟩
            · exact t2 i (by omega) hi'
            · exact absurd (by omega) g2
          · refine ⟨tp, g2, ?_⟩
            rcases htp with ⟨t1, t2⟩ | ⟨t1, t2, t3, t4⟩
            · refine Or.inl ⟨t1, fun i hi hi' => ?_⟩
              by_cases e : i = m
              · subst e
                cases z : bt q i
                · rfl
                · exact absurd ⟨z, by omega⟩ g1
              · exact t2 i (by omega) hi'
            · exact Or.inr ⟨by omega, t2, t3, t4⟩
        refine bd_Y_503 (by omega) ?_
        rw [hres m hm]
        refine bd_Y_531 (by omega) hb (by omega) rfl rfl rfl rfl ?_
        refine bd_Y_609 ?_
        refine bd_Y_640 (by omega) (fun y6 hy6 => ?_)
        refine bd_Y_702 (by omega) (fun y7 hy7 => ?_)
        rw [bd_GA_F hW hm htp'] at hy6
        rw [bd_GB_F hW hm htp'] at hy7
        refine ih (by omega) tp' y6 y7 _ _ _ htp' (fun i => ?_) (fun i => ?_) ?_ ?_ ?_
        · rcases hy6 with ⟨g, rfl⟩ | ⟨g, rfl⟩
          · rw [bd_bit_or (by omega), h6 i]
            constructor
            · rintro (z | z)
              · exact ⟨by omega, z.2⟩
              · subst z; exact ⟨by omega, hm, g⟩
            · intro z
              by_cases e : i = m
              · exact Or.inr e
              · exact Or.inl ⟨by omega, z.2⟩
          · rw [h6 i]
            refine ⟨fun z => ⟨by omega, z.2⟩, fun z => ⟨?_, z.2⟩⟩
            by_cases e : i = m
            · subst e; exact absurd z.2.2 g
            · omega
        · rcases hy7 with ⟨g, rfl⟩ | ⟨g, rfl⟩
          · rw [bd_bit_or (by omega), h7 i]
            constructor
            · rintro (z | z)
              · exact ⟨by omega, z.2⟩
              · subst z; exact ⟨by omega, hm, g⟩
            · intro z
              by_cases e : i = m
              · exact Or.inr e
              · exact Or.inl ⟨by omega, z.2⟩
          · rw [h7 i]
            refine ⟨fun z => ⟨by omega, z.2⟩, fun z => ⟨?_, z.2⟩⟩
            by_cases e : i = m
            · subst e; exact absurd z.2.2 g
            · omega
        · rw [Bool.and_eq_true, hA, Bool.or_eq_true, Bool.not_eq_true', decide_eq_true_eq]
          constructor
          · rintro ⟨z1, z2⟩ i hi hi' hqi
            by_cases e : i = m
            · subst e
              rcases z2 with z2 | z2
              · rw [z2] at hqi; cases hqi
              · exact z2
            · exact z1 i (by omega) hi' hqi
          · intro z
            refine ⟨fun i hi => z i (by omega), ?_⟩
            cases e : bt q m
            · exact Or.inl rfl
            · exact Or.inr (z m (by omega) hm e)
        · rw [Bool.and_eq_true, hcA, Bool.or_eq_true, Bool.not_eq_true']
          constructor
          · rintro ⟨z1, z2⟩ i hi hi' hqi
            by_cases e : i = m
            · subst e
              rcases z2 with z2 | z2
              · rw [z2] at hqi; cases hqi
              · exact z2
            · exact z1 i (by omega) hi' hqi
          · intro z
            refine ⟨fun i hi => z i (by omega), ?_⟩
            cases e : bd_us W o u v q m
            · exact Or.inl rfl
            · exact Or.inr (z m (by omega) hm e)
        · rw [Bool.and_eq_true, hcB, Bool.or_eq_true, Bool.not_eq_true']
          constructor
          · rintro ⟨⟨z0, z1⟩, z2⟩
            refine ⟨z0, fun i hi hi' hqi => ?_⟩
            by_cases e : i = m
            · subst e
              rcases z2 with z2 | z2
              · rw [z2] at hqi; cases hqi
              · exact z2
            · exact z1 i (by omega) hi' hqi
          · rintro ⟨z0, z⟩
            refine ⟨⟨z0, fun i hi => z i (by omega)⟩, ?_⟩
            cases e : bd_us W o u v q m
            · exact Or.inl rfl
            · exact Or.inr (z m (by omega) hm e)
      cases e : bt q m
      · rw [e] at main
        exact br_f (fun z => by rw [bd_sb (by omega), e] at z; cases z) main
      · rw [e] at main
        exact br_t ((bd_sb (by omega)).mpr e) main
  have start := loop W (Nat.le_refl _) 0 0 0 true true (decide (o ≤ 4)) (Or.inl ⟨rfl, fun i hi hi' => by omega⟩) (fun i => bd_f0 fun z => by omega) (fun i => bd_f0 fun z => by omega) ⟨fun _ i hi hi' => by omega, fun _ => rfl⟩ ⟨fun _ i hi hi' => by omega, fun _ => rfl⟩ (by
    rw [decide_eq_true_eq]
    exact ⟨fun z => ⟨z, fun i hi hi' => by omega⟩, fun z => z.1⟩)
  rw [Nat.sub_self] at start
  exact ⟨W + 1, start⟩
end
end
section
/-! ===== the reference's decision of a slot ===== -/
def bd_YC (N : Nat) (c : Nat → Nat) (code : Nat → Int32) : Prop := ∀ j, j < 4 * N → code j = nI (c j)
theorem bd_i4 (p : Nat) : 4 * nI p = nI (4 * p) := by rw [show (4 : Int32) = nI 4 from rfl, pk_mul]
theorem bd_i41 (p : Nat) : 4 * nI p + 1 = nI (4 * p + 1) := bd_iy p 1
theorem bd_i42 (p : Nat) : 4 * nI p + 2 = nI (4 * p + 2) := bd_iy p 2
theorem bd_i43 (p : Nat) : 4 * nI p + 3 = nI (4 * p + 3) := bd_iy p 3
theorem bd_p1b {b : Nat} (hb : b < 32) : ¬ ((1 : Int32) <<< (nI b &&& 31)) = 0 := fun z => by
  have := bd_z.mp z b
  rw [bd_bit1 hb] at this
  simp at this
section
variable {W R N C : Nat} {c : Nat → Nat} {p : Nat}
variable {g_w g_m g_rs g_cap g_n g_op g_d g_a g_b g_x g_y g_needA g_needB g_analysed g_started : Int32} {h_code h_fact h_dem h_res h_inputs h_regs h_pcs h_counts h_logs h_seen : Nat → Int32}
variable {post : Int32 → SY → Prop}
theorem bd_Y_142 (P : bd_PV W R N c) (hW : W ≤ 16) (hW0 : 0 < W) (hN : N ≤ 24) (hR : R ≤ 4) (hp : p < N) (h3 : bd_F3 h_fact) {q : Int32} (mq : bd_mk W q) (hq0 : 8 < bd_op c p → q = 0) (hres : ¬ h_seen p = 0 → bd_op c p ≤ 8 → ∀ i, i < W → h_res i = bd_res W c (bd_gy W h_fact) p i)
    (K : ∀ k nA nB, (¬ h_seen p = 0 → bd_Dec W (bd_op c p) (bd_b c p) (bd_gy W h_fact p (bd_a c p)) (bd_gy W h_fact p (bd_ub c p)) q k nA nB) → (h_seen p = 0 → k = 1 ∧ nA = 0 ∧ nB = 0) →
      post k (nI W, bd_lo W, nI R, nI C, nI N, nI (bd_op c p), nI (bd_d c p), nI (bd_a c p), nI (bd_b c p), nI (64 * p + 16 * bd_a c p), nI (64 * p + 16 * bd_ub c p), nA, nB, 1, g_started, h_code, h_fact, h_dem, h_res, h_inputs, h_regs, h_pcs, h_counts, h_logs, h_seen)) :
    wY_decide_142 post (nI p) q (nI W) (bd_lo W) (nI R) (nI C) (nI N) (nI (bd_op c p)) (nI (bd_d c p)) (nI (bd_a c p)) (nI (bd_b c p)) (nI (64 * p + 16 * bd_a c p)) (nI (64 * p + 16 * bd_ub c p)) g_needA g_needB 1 g_started h_code h_fact h_dem h_res h_inputs h_regs h_pcs h_counts h_logs h_seen := by
  obtain ⟨v1, v2, v3, v4, v5, v6, v7, v8, v9⟩ := P p hp
  have vu := bd_ub_lt P hp
  have h25 : vp_in (nI p) 25 := vp_in_nI (by omega) (by omega)
  have es : h_seen (nI p).toNatClampNeg = h_seen p := bd_fat (by omega)
  -- the unseen slot
  have un : h_seen p = 0 → ∀ z, wY_decide_327 post (nI p) (nI W) (bd_lo W) (nI R) (nI C) (nI N) (nI (bd_op c p)) (nI (bd_d c p)) (nI (bd_a c p)) (nI (bd_b c p)) (nI (64 * p + 16 * bd_a c p)) (nI (64 * p + 16 * bd_ub c p)) 0 0 1 g_started h_code h_fact h_dem h_res h_inputs h_regs h_pcs h_counts h_logs h_seen ∨ z := by
    intro hs z
    left
    exact And.intro h25 (br_t (es.trans hs) (K _ _ _ (fun g => absurd hs g) (fun _ => ⟨rfl, rfl, rfl⟩)))
  have s306 : ∀ nA, (h_seen p = 0 → nA = 0) → (¬ h_seen p = 0 → (bd_op c p = 9 ∧ nA = nI (bd_b c p)) ∨ (bd_op c p = 10 ∧ h_fact (64 * p + 16 * bd_a c p + bd_b c p) = 2 ∧ nA = ((1 : Int32) <<< (nI (bd_b c p) &&& 31))) ∨ (bd_op c p = 10 ∧ ¬ h_fact (64 * p + 16 * bd_a c p + bd_b c p) = 2 ∧ nA = 0) ∨ (bd_op c p ≤ 8 ∧ nA = 0)) →
      wY_decide_306 post (nI p) q (nI (bd_rn (bd_p0 (bd_gy W h_fact p (bd_a c p))) W)) (nI (bd_rn (bd_p0 (bd_gy W h_fact p (bd_ub c p))) W)) (-1) 0 0 (bd_oo (bd_op c p)) (bd_ee (bd_op c p)) 1 1 (bd_bb (decide (bd_op c p ≤ 4))) 0 nA (nI W) (bd_lo W) (nI R) (nI C) (nI N) (nI (bd_op c p)) (nI (bd_d c p)) (nI (bd_a c p)) (nI (bd_b c p)) (nI (64 * p + 16 * bd_a c p)) (nI (64 * p + 16 * bd_ub c p)) g_needA g_needB 1 g_started h_code h_fact h_dem h_res h_inputs h_regs h_pcs h_counts h_logs h_seen := by
    intro nA hA0 hA
    refine And.intro h25 ?_
    refine br_c (fun g => ?_) (fun g => ?_)
    · have g' := es.symm.trans g
      rw [hA0 g']
      exact (un g' False).elim id False.elim
    · have hs : ¬ h_seen p = 0 := fun z => g (es.trans z)
      rcases hA hs with ⟨h9, rfl⟩ | ⟨h10, hf, rfl⟩ | ⟨h10, hf, rfl⟩ | ⟨h8, rfl⟩
      · refine br_t (hq0 (by omega)) (And.intro h25 (br_f g (pk_lt 8 (bd_op c p) (fun _ => pk_eq (bd_op c p) 9 (fun _ => ?_) (fun z => absurd h9 z)) (fun z => by omega))))
        exact K _ _ _ (fun _ => bd_D_out h9 v9) (fun z => absurd z hs)
      · have hb := v5 (Or.inr (Or.inr h10))
        refine br_t (hq0 (by omega)) (And.intro h25 (br_f g (pk_lt 8 (bd_op c p) (fun _ => pk_eq (bd_op c p) 9 (fun z => by omega) (fun z => br_f (bd_p1b (by omega)) ?_)) (fun z => by omega))))
        exact K _ _ _ (fun _ => bd_D_jk h10 (by omega) ((bd_at_lt hb).trans hf)) (fun z => absurd z hs)
      · have hb := v5 (Or.inr (Or.inr h10))
        refine br_t (hq0 (by omega)) (And.intro h25 (br_f g (pk_lt 8 (bd_op c p) (fun _ => pk_eq (bd_op c p) 9 (fun z => by omega) (fun z => br_t rfl ?_)) (fun z => by omega))))
        exact K _ _ _ (fun _ => bd_D_jc h10 (fun z => hf ((bd_at_lt hb).symm.trans z))) (fun z => absurd z hs)
      · refine br_c (fun e => ?_) (fun e => ?_)
        · refine And.intro h25 (br_f g (pk_lt 8 (bd_op c p) (fun z => by omega) (fun _ => ?_)))
          exact K _ _ _ (fun _ => bd_D_drop h8 e) (fun z => absurd z hs)
        · refine nm_r (e' := bd_dn W) rfl ?_
          refine bd_Y_379 hW hW0 h8 h3 (by omega) (by omega) mq e (fun i hi => ?_) (fun h => v5 (h.elim Or.inl (fun h => Or.inr (Or.inl h)))) v6 v9 (fun k nA nB D => K _ _ _ (fun _ => D) (fun z => absurd z hs))
          rw [hres hs h8 i hi]
          unfold bd_res
          rw [bd_tr_lt hi]; rfl
  have s234 : wY_decide_234 post (nI p) q (nI (bd_rn (bd_p0 (bd_gy W h_fact p (bd_a c p))) W)) (nI (bd_rn (bd_p0 (bd_gy W h_fact p (bd_ub c p))) W)) (-1) 0 0 (bd_oo (bd_op c p)) (bd_ee (bd_op c p)) 1 1 (bd_bb (decide (bd_op c p ≤ 4))) (nI W) (bd_lo W) (nI R) (nI C) (nI N) (nI (bd_op c p)) (nI (bd_d c p)) (nI (bd_a c p)) (nI (bd_b c p)) (nI (64 * p + 16 * bd_a c p)) (nI (64 * p + 16 * bd_ub c p)) g_needA g_needB 1 g_started h_code h_fact h_dem h_res h_inputs h_regs h_pcs h_counts h_logs h_seen := by
    refine And.intro h25 ?_
    refine br_c (fun g => ?_) (fun g => ?_)
    · exact s306 0 (fun _ => rfl) (fun z => absurd (es.symm.trans g) z)
    · have hs : ¬ h_seen p = 0 := fun z => g (es.trans z)
      refine pk_eq (bd_op c p) 9 (fun h9 => ?_) (fun h9 => pk_eq (bd_op c p) 10 (fun h10 => ?_) (fun h10 => ?_))
      · exact s306 _ (fun z => absurd z hs) (fun _ => Or.inl ⟨h9, rfl⟩)
      · have hb := v5 (Or.inr (Or.inr h10))
        rw [nI_add, bd_fat (f := h_fact) (p := 64 * p + 16 * bd_a c p + bd_b c p) (by omega)]
        refine ⟨vp_in_nI (by omega) (by omega), br_c (fun e => ?_) (fun e => ?_)⟩
        · exact s306 _ (fun z => absurd z hs) (fun _ => Or.inr (Or.inl ⟨h10, e, rfl⟩))
        · exact s306 0 (fun z => absurd z hs) (fun _ => Or.inr (Or.inr (Or.inl ⟨h10, e, rfl⟩)))
      · exact s306 0 (fun z => absurd z hs) (fun _ => Or.inr (Or.inr (Or.inr ⟨by omega, rfl⟩)))
  have s213 : wY_decide_213 post (nI p) q (nI (bd_rn (bd_p0 (bd_gy W h_fact p (bd_a c p))) W)) (nI (bd_rn (bd_p0 (bd_gy W h_fact p (bd_ub c p))) W)) (-1) 0 0 (bd_oo (bd_op c p)) (bd_ee (bd_op c p)) (nI W) (bd_lo W) (nI R) (nI C) (nI N) (nI (bd_op c p)) (nI (bd_d c p)) (nI (bd_a c p)) (nI (bd_b c p)) (nI (64 * p + 16 * bd_a c p)) (nI (64 * p + 16 * bd_ub c p)) g_needA g_needB 1 g_started h_code h_fact h_dem h_res h_inputs h_regs h_pcs h_counts h_logs h_seen := by
    refine pk_lt 4 (bd_op c p) (fun h => ?_) (fun h => ?_)
    · rw [decide_eq_false (by omega)] at s234; exact s234
    · rw [decide_eq_true h] at s234; exact s234
  have s198 : wY_decide_198 post (nI p) q (nI (bd_rn (bd_p0 (bd_gy W h_fact p (bd_a c p))) W)) (nI (bd_rn (bd_p0 (bd_gy W h_fact p (bd_ub c p))) W)) (-1) 0 0 (bd_oo (bd_op c p)) (nI W) (bd_lo W) (nI R) (nI C) (nI N) (nI (bd_op c p)) (nI (bd_d c p)) (nI (bd_a c p)) (nI (bd_b c p)) (nI (64 * p + 16 * bd_a c p)) (nI (64 * p + 16 * bd_ub c p)) g_needA g_needB 1 g_started h_code h_fact h_dem h_res h_inputs h_regs h_pcs h_counts h_logs h_seen := by
    refine pk_eq (bd_op c p) 1 (fun h => ?_) (fun h => ?_)
    · rw [show bd_ee (bd_op c p) = 1 by unfold bd_ee; rw [if_pos h]] at s213; exact s213
    · rw [show bd_ee (bd_op c p) = 0 by unfold bd_ee; rw [if_neg h]] at s213; exact s213
  unfold wY_decide_142
  refine bd_Y_run0 h3 hW (by omega) ?_
  refine bd_Y_run0 h3 hW (by omega) ?_
  refine pk_eq (bd_op c p) 1 (fun h => ?_) (fun h => pk_eq (bd_op c p) 2 (fun h2 => ?_) (fun h2 => ?_))
  · rw [show bd_oo (bd_op c p) = 0 by unfold bd_oo; rw [if_pos h]] at s198; exact s198
  · rw [show bd_oo (bd_op c p) = 1 by unfold bd_oo; rw [if_neg h, if_pos h2]] at s198; exact s198
  · rw [show bd_oo (bd_op c p) = 3 by unfold bd_oo; rw [if_neg h, if_neg h2]] at s198; exact s198
theorem bd_Y_dec (hc : bd_YC N c h_code) (P : bd_PV W R N c) (hW : W ≤ 16) (hW0 : 0 < W) (hN : N ≤ 24) (hR : R ≤ 4) (hp : p < N) (h3 : bd_F3 h_fact) (hr3 : bd_F3 h_res) (mD : ∀ j, bd_mk W (h_dem j))
    (K : ∀ k nA nB res, bd_F3 res → (¬ h_seen p = 0 → bd_op c p ≤ 8 → ∀ i, i < W → res i = bd_res W c (bd_gy W h_fact) p i) → (¬ h_seen p = 0 → bd_Dec W (bd_op c p) (bd_b c p) (bd_gy W h_fact p (bd_a c p)) (bd_gy W h_fact p (bd_ub c p)) (bd_qq c h_dem p) k nA nB) → (h_seen p = 0 → k = 1 ∧ nA = 0 ∧ nB = 0) →
      post k (nI W, bd_lo W, nI R, nI C, nI N, nI (bd_op c p), nI (bd_d c p), nI (bd_a c p), nI (bd_b c p), nI (64 * p + 16 * bd_a c p), nI (64 * p + 16 * bd_ub c p), nA, nB, 1, g_started, h_code, h_fact, h_dem, res, h_inputs, h_regs, h_pcs, h_counts, h_logs, h_seen)) : wpY_decide post (nI W, bd_lo W, nI R, nI C, nI N, g_op, g_d, g_a, g_b, g_x, g_y, g_needA, g_needB, 1, g_started, h_code, h_fact, h_dem, h_res, h_inputs, h_regs, h_pcs, h_counts, h_logs, h_seen) (nI p) := by
  obtain ⟨v1, v2, v3, v4, v5, v6, v7, v8, v9⟩ := P p hp
  have e0 : h_code (4 * p) = nI (bd_op c p) := hc _ (by omega)
  have e1 : h_code (4 * p + 1) = nI (bd_d c p) := hc _ (by omega)
  have e2 : h_code (4 * p + 2) = nI (bd_a c p) := hc _ (by omega)
  have e3 : h_code (4 * p + 3) = nI (bd_b c p) := hc _ (by omega)
  have s106 : wY_decide_106 post (nI p) (nI (64 * p + 16 * bd_ub c p)) (nI W) (bd_lo W) (nI R) (nI C) (nI N) (nI (bd_op c p)) (nI (bd_d c p)) (nI (bd_a c p)) (nI (bd_b c p)) (nI (64 * p + 16 * bd_a c p)) g_y g_needA g_needB 1 g_started h_code h_fact h_dem h_res h_inputs h_regs h_pcs h_counts h_logs h_seen := by
    unfold wY_decide_106
    refine bd_Y_res P hW hW0 hN hR hp h3 hr3 (fun res r1 r2 => ?_)
    refine pk_lt 8 (bd_op c p) (fun h => ?_) (fun h => ?_)
    · have eq : bd_qq c h_dem p = 0 := by unfold bd_qq; rw [if_neg (by omega)]
      refine bd_Y_142 P hW hW0 hN hR hp h3 (bd_mk0 W) (fun _ => rfl) r2 (fun k nA nB d1 d2 => K k nA nB res r1 r2 (fun g => ?_) d2)
      rw [eq]; exact d1 g
    · have eq : bd_qq c h_dem p = h_dem (4 * (p + 1) + bd_d c p) := by unfold bd_qq; rw [if_pos h]
      have hd := v3 h
      have ei : 4 * nI p + 4 + nI (bd_d c p) = nI (4 * (p + 1) + bd_d c p) := by
        rw [bd_i4, show (4 : Int32) = nI 4 from rfl, nI_add, nI_add, show 4 * p + 4 + bd_d c p = 4 * (p + 1) + bd_d c p by omega]
      rw [ei, bd_fat (f := h_dem) (p := 4 * (p + 1) + bd_d c p) (by omega)]
      refine ⟨vp_in_nI (by omega) (by omega), bd_Y_142 P hW hW0 hN hR hp h3 (mD _) (fun z => by omega) r2 (fun k nA nB d1 d2 => K k nA nB res r1 r2 (fun g => ?_) d2)⟩
      rw [eq]; exact d1 g
  have eub : ¬ (1 ≤ bd_op c p ∧ bd_op c p ≤ 5) → bd_ub c p = bd_a c p := fun z => by unfold bd_ub; rw [if_neg z]
  refine And.intro (by rw [bd_i4]; exact vp_in_nI (by omega) (by omega)) (nm_r (e' := nI (bd_op c p)) (by rw [bd_i4, bd_cl (by omega)]; exact e0) ⟨by rw [bd_i4, nI_1]; exact vp_in_nI (by omega) (by omega), nm_r (e' := nI (bd_d c p)) (by rw [bd_i4, nI_1, bd_cl (by omega)]; exact e1) ⟨by rw [bd_i42]; exact vp_in_nI (by omega) (by omega), nm_r (e' := nI (bd_a c p)) (by rw [bd_i42, bd_cl (by omega)]; exact e2) ⟨by rw [bd_i43]; exact vp_in_nI (by omega) (by omega), nm_r (e' := nI (bd_b c p)) (by rw [bd_i43, bd_cl (by omega)]; exact e3) (nm_r (bd_jx p (bd_a c p)) ?_)⟩⟩⟩)
  refine pk_lt (bd_op c p) 1 (fun h => ?_) (fun h => pk_lt 5 (bd_op c p) (fun h5 => ?_) (fun h5 => ?_))
  · rw [eub (by omega)] at s106; exact s106
  · rw [eub (by omega)] at s106; exact s106
  · rw [bd_jx]
    have : bd_ub c p = bd_b c p := by unfold bd_ub; rw [if_pos ⟨by omega, by omega⟩]
    rw [this] at s106; exact s106
end
end
section
/-! ===== one step of the reference's sweeps, pure ===== -/
def bd_val (c : Nat → Nat) (p : Nat) (res f : Nat → Int32) (k : Nat) : Int32 := if bd_op c p ≤ 8 ∧ k / 16 = bd_d c p then res (k % 16) else f (64 * p + k)
def bd_mgk (c : Nat → Nat) (p t : Nat) (sn res f : Nat → Int32) (k : Nat) : Int32 := if sn t = 0 then bd_val c p res f k else bd_m2 (f (64 * t + k)) (bd_val c p res f k)
def bd_YI (W R N : Nat) (c : Nat → Nat) (sn f : Nat → Int32) : Prop := bd_F3 f ∧ (∀ j, sn j = 0 ∨ sn j = 1) ∧ bd_Iv W R N c (fun q => ¬ sn q = 0) (bd_gy W f)
/-- a live step of phase 0: the new facts, and whether something changed -/
def bd_S0 (c : Nat → Nat) (p t : Nat) (sn res f f' : Nat → Int32) (x x' : Int32) : Prop :=
  (∀ k, k < 64 → f' (64 * t + k) = bd_mgk c p t sn res f k) ∧ (∀ j, (∀ k, k < 64 → ¬ j = 64 * t + k) → f' j = f j) ∧
  (x' = 0 ∧ x = 0 ∧ ¬ sn t = 0 ∧ (∀ k, k < 64 → bd_mgk c p t sn res f k = f (64 * t + k)) ∨ x' = 1 ∧ (¬ x = 0 ∨ sn t = 0 ∨ ∃ k, k < 64 ∧ ¬ bd_mgk c p t sn res f k = f (64 * t + k)))
theorem bd_gy_out {W R N : Nat} {c : Nat → Nat} {p r i : Nat} {res f : Nat → Int32} (hW : W ≤ 16) (hres : bd_op c p ≤ 8 → ∀ i, i < W → res i = bd_res W c (bd_gy W f) p i) (hi : i < W) : bd_val c p res f (16 * r + i) = bd_out W c (bd_gy W f) p r i := by
  unfold bd_val bd_out
  rw [show (16 * r + i) / 16 = r by omega, show (16 * r + i) % 16 = i by omega]
  by_cases h : bd_op c p ≤ 8 ∧ r = bd_d c p
  · rw [if_pos h, if_pos h]; exact hres h.1 i hi
  · rw [if_neg h, if_neg h]
    unfold bd_gy
    rw [bd_at_lt hi, show 64 * p + (16 * r + i) = 64 * p + 16 * r + i by omega]
theorem bd_gy_ge {W : Nat} {f : Nat → Int32} {p r i : Nat} (h : W ≤ i) : bd_gy W f p r i = 2 := by unfold bd_gy bd_at'; exact bd_tr_ge h
theorem bd_out_ge {W : Nat} {c : Nat → Nat} {f : Nat → Int32} {p r i : Nat} (h : W ≤ i) : bd_out W c (bd_gy W f) p r i = 2 := by
  unfold bd_out
  split
  · exact bd_tr_ge h
  · exact bd_gy_ge h
theorem bd_ys0 {W R N : Nat} {c : Nat → Nat} {p t : Nat} {sn res f f' : Nat → Int32} {x x' : Int32} (P : bd_PV W R N c) (hW : W ≤ 16) (hR : R ≤ 4) (hN : N ≤ 24) (I : bd_YI W R N c sn f) (hp : p < N) (hF : ¬ sn p = 0) (l : bd_lv N c (bd_gy W f) p t) (r3 : bd_F3 res) (hres : bd_op c p ≤ 8 → ∀ i, i < W → res i = bd_res W c (bd_gy W f) p i) (S : bd_S0 c p t sn res f f' x x') :
    bd_YI W R N c (upd sn t 1) f' ∧ (x' = 0 → x = 0 ∧ f' = f ∧ upd sn t 1 = sn ∧ ∀ r, r < R → ∀ i, bd_le (bd_gy W f t r i) (bd_out W c (bd_gy W f) p r i)) ∧ bd_Ps (fun q => ¬ upd sn t 1 q = 0) f' ≤ bd_Ps (fun q => ¬ sn q = 0) f ∧ (x' = 1 → x = 0 → bd_Ps (fun q => ¬ upd sn t 1 q = 0) f' < bd_Ps (fun q => ¬ sn q = 0) f) := by
  obtain ⟨F3, h01, Iv⟩ := I
  obtain ⟨s1, s2, s3⟩ := S
  have ht := bd_lv_le hp l
  have v3 : ∀ k, bd_x3 (bd_val c p res f k) := by
    intro k; unfold bd_val; split
    · exact r3 _
    · exact F3 _
  have m3 : ∀ k, bd_x3 (bd_mgk c p t sn res f k) := by
    intro k; unfold bd_mgk; split
    · exact v3 k
    · exact bd_m2_3 (v3 k)
  have F3' : bd_F3 f' := by
    intro j
    by_cases e : ∃ k, k < 64 ∧ j = 64 * t + k
    · obtain ⟨k, hk, rfl⟩ := e
      rw [s1 k hk]; exact m3 k
    · rw [s2 j (fun k hk z => e ⟨k, hk, z⟩)]; exact F3 j
  have hat : ∀ q, ¬ upd sn t 1 q = 0 ↔ ¬ sn q = 0 ∨ q = t := by
    intro q
    by_cases e : q = t
    · rw [e, pk_us]; exact ⟨fun _ => Or.inr rfl, fun _ => by decide⟩
    · rw [pk_un e]; exact ⟨Or.inl, fun z => z.elim id (fun z => absurd z e)⟩
  have hn : ∀ q, q ≤ N → ¬ q = t → ∀ r, r < R → bd_gy W f' q r = bd_gy W f q r := by
    intro q _ hq r hr
    refine bd_trE fun i hi => ?_
    exact s2 _ (fun k hk => by omega)
  have g1 : ¬ sn t = 0 → ∀ r, r < R → ∀ i, bd_gy W f' t r i = bd_m2 (bd_gy W f t r i) (bd_out W c (bd_gy W f) p r i) := by
    intro z r hr i
    rcases Nat.lt_or_ge i W with hi | hi
    · rw [← bd_gy_out (R := R) (N := N) hW hres hi]
      unfold bd_gy
      rw [bd_at_lt hi, bd_at_lt hi, show 64 * t + 16 * r + i = 64 * t + (16 * r + i) by omega, s1 _ (by omega)]
      unfold bd_mgk
      rw [if_neg z]
    · rw [bd_gy_ge hi, bd_gy_ge hi, bd_out_ge hi]; rfl
  have g2 : ¬ ¬ sn t = 0 → ∀ r, r < R → ∀ i, bd_gy W f' t r i = bd_out W c (bd_gy W f) p r i := by
    intro z r hr i
    have z' : sn t = 0 := Classical.byContradiction z
    rcases Nat.lt_or_ge i W with hi | hi
    · rw [← bd_gy_out (R := R) (N := N) hW hres hi]
      unfold bd_gy
      rw [bd_at_lt hi, show 64 * t + 16 * r + i = 64 * t + (16 * r + i) by omega, s1 _ (by omega)]
      unfold bd_mgk
      rw [if_pos z']
    · rw [bd_gy_ge hi, bd_out_ge hi]
  have hF' : ∀ q, ¬ sn q = 0 → ¬ upd sn t 1 q = 0 := fun q z => (hat q).mpr (Or.inl z)
  have hf : ∀ j, j < 1600 → ¬ sn (j / 64) = 0 → f j = 2 → f' j = 2 := by
    intro j hj z e
    by_cases g : ∃ k, k < 64 ∧ j = 64 * t + k
    · obtain ⟨k, hk, rfl⟩ := g
      rw [show (64 * t + k) / 64 = t by omega] at z
      rw [s1 k hk]
      unfold bd_mgk
      rw [if_neg z, e]
      rcases bd_m2_l (x := 2) (y := bd_val c p res f k) with y | y <;> exact y
    · rw [s2 j (fun k hk z => g ⟨k, hk, z⟩)]; exact e
  refine ⟨⟨F3', fun j => ?_, bd_Iv_step P (bd_gy_3 F3) Iv hp hF l (fun q _ z => (hat q).mp z) ((hat 0).mpr (Or.inl Iv.1)) hn g1 g2⟩, fun e => ?_, bd_Ps_m hF' hf, fun e e0 => ?_⟩
  · by_cases e : j = t
    · rw [e, pk_us]; exact Or.inr rfl
    · rw [pk_un e]; exact h01 j
  · rcases s3 with ⟨-, y0, y1, y2⟩ | ⟨y, -⟩
    · have ef : f' = f := by
        funext j
        by_cases g : ∃ k, k < 64 ∧ j = 64 * t + k
        · obtain ⟨k, hk, rfl⟩ := g
          rw [s1 k hk, y2 k hk]
        · exact s2 j (fun k hk z => g ⟨k, hk, z⟩)
      refine ⟨y0, ef, ?_, fun r hr i => ?_⟩
      · rw [← (h01 t).resolve_left y1]; exact bd_us'
      · apply bd_m2_le
        rw [← g1 y1 r hr i, ef]
    · rw [e] at y; exact absurd y (by decide)
  · rcases s3 with ⟨y, -⟩ | ⟨-, y⟩
    · rw [e] at y; exact absurd y (by decide)
    · rcases y with y | y | ⟨k, hk, y⟩
      · exact absurd e0 y
      · exact bd_Ps_f hF' hf (t := t) (by omega) (fun z => z y) ((hat t).mpr (Or.inr rfl))
      · by_cases z : sn t = 0
        · exact bd_Ps_f hF' hf (t := t) (by omega) (fun g => g z) ((hat t).mpr (Or.inr rfl))
        · have y' := y
          unfold bd_mgk at y'
          rw [if_neg z] at y'
          have h2 : bd_m2 (f (64 * t + k)) (bd_val c p res f k) = 2 := (bd_m2_l (x := f (64 * t + k)) (y := bd_val c p res f k)).resolve_right y'
          refine bd_Ps_k hF' hf (j := 64 * t + k) (by omega) ?_ (fun q => y' (h2.trans q.symm)) ?_
          · show ¬ sn ((64 * t + k) / 64) = 0
            rw [show (64 * t + k) / 64 = t by omega]; exact z
          · rw [s1 k hk]; unfold bd_mgk; rw [if_neg z]; exact h2
/-! phase 1 -/
def bd_Gy (c : Nat → Nat) (D : Nat → Int32) (nA nB : Int32) (p t r i : Nat) : Prop :=
  bt (D (4 * p + r)) i = true ∨ (¬ (bd_op c p ≤ 8 ∧ r = bd_d c p) ∧ bt (D (4 * t + r)) i = true) ∨ (r = bd_a c p ∧ bt nA i = true) ∨ (r = bd_b c p ∧ bt nB i = true)
def bd_S1 (R : Nat) (c : Nat → Nat) (p t : Nat) (nA nB : Int32) (D D' : Nat → Int32) (x x' : Int32) : Prop :=
  (∀ r, r < R → ∀ i, bt (D' (4 * p + r)) i = true ↔ bd_Gy c D nA nB p t r i) ∧ (∀ j, (∀ r, r < R → ¬ j = 4 * p + r) → D' j = D j) ∧
  (x' = 0 ∧ x = 0 ∧ (∀ r, r < R → D' (4 * p + r) = D (4 * p + r)) ∨ x' = 1 ∧ (¬ x = 0 ∨ ∃ r, r < R ∧ ¬ D' (4 * p + r) = D (4 * p + r)))
theorem bd_NB_bin {W op b : Nat} {u v : Nat → Int32} {q : Int32} {i : Nat} (h : bd_NB W op b u v q i) : 1 ≤ op ∧ op ≤ 5 := by
  obtain ⟨h1, h2, h3, h4, h5⟩ := h
  refine ⟨?_, ?_⟩
  · rcases Nat.eq_zero_or_pos op with z | z
    · exact absurd (bd_al_set z) h3
    · exact z
  · rcases h5 with z | z
    · have := z.1.1; omega
    · rcases z.2 with z | z <;> omega
theorem bd_ys1 {W R N : Nat} {c : Nat → Nat} {p t : Nat} {F : Nat → Prop} {G : Nat → Nat → Nat → Int32} {D D0 D' : Nat → Int32} {x x' k nA nB : Int32} (P : bd_PV W R N c) (hW : W ≤ 16) (hR : R ≤ 4) (hN : N ≤ 24) (hG : bd_V3 G) (I : bd_IB W R N c F G D) (I0 : bd_IB W R N c F G D0) (hp : p < N) (hF : F p) (l : bd_lv N c G p t) (dec : bd_Dec W (bd_op c p) (bd_b c p) (G p (bd_a c p)) (G p (bd_ub c p)) (bd_qq c D0 p) k nA nB) (S : bd_S1 R c p t nA nB D D' x x') :
    bd_IB W R N c F G D' ∧ (x' = 0 → x = 0 ∧ D' = D ∧ (D0 = D → bd_C1 W R N c G D p t)) ∧ bd_PB D' ≤ bd_PB D ∧ (x' = 1 → x = 0 → bd_PB D' < bd_PB D) := by
  obtain ⟨s1, s2, s3⟩ := S
  obtain ⟨v1, v2, v3, v4, v5, v6, v7, v8, v9⟩ := P p hp
  have mq := bd_qq_mk (c := c) I0.1 p
  have hsub : ∀ j, bd_sub (D j) (D' j) := by
    intro j i hi
    by_cases e : ∃ r, r < R ∧ j = 4 * p + r
    · obtain ⟨r, hr, rfl⟩ := e
      exact (s1 r hr i).mpr (Or.inl hi)
    · rw [s2 j (fun r hr z => e ⟨r, hr, z⟩)]; exact hi
  have hmk : ∀ j, bd_mk W (D' j) := by
    intro j
    by_cases e : ∃ r, r < R ∧ j = 4 * p + r
    · obtain ⟨r, hr, rfl⟩ := e
      intro i hi
      cases z : bt (D' (4 * p + r)) i
      · rfl
      · exfalso
        rcases (s1 r hr i).mp z with y | ⟨-, y⟩ | ⟨-, y⟩ | ⟨-, y⟩
        · rw [I.1 _ i hi] at y; cases y
        · rw [I.1 _ i hi] at y; cases y
        · have := bd_NA_lt hW mq v5 v6 v7 ((dec.2.1 i).mp y); omega
        · have := bd_NB_lt mq ((dec.2.2 i).mp y); omega
    · rw [s2 j (fun r hr z => e ⟨r, hr, z⟩)]; exact I.1 j
  refine ⟨bd_IB_step P hG I I0 hp hF hmk (fun q _ hq r hr => s2 _ (fun s hs => by omega)) (fun r hr i hi => ?_), fun e => ?_, bd_PB_m hsub, fun e e0 => ?_⟩
  · rcases (s1 r hr i).mp hi with y | ⟨y1, y2⟩ | ⟨y1, y2⟩ | ⟨y1, y2⟩
    · exact Or.inl y
    · exact Or.inr (Or.inl ⟨t, l, y1, y2⟩)
    · exact Or.inr (Or.inr (Or.inl ⟨y1, (dec.2.1 i).mp y2⟩))
    · have nb := (dec.2.2 i).mp y2
      have bn := bd_NB_bin nb
      exact Or.inr (Or.inr (Or.inr ⟨bn.1, bn.2, y1, nb⟩))
  · rcases s3 with ⟨-, y0, y1⟩ | ⟨y, -⟩
    · have ed : D' = D := by
        funext j
        by_cases g : ∃ r, r < R ∧ j = 4 * p + r
        · obtain ⟨r, hr, rfl⟩ := g
          exact y1 r hr
        · exact s2 j (fun r hr z => g ⟨r, hr, z⟩)
      refine ⟨y0, ed, fun e0 r hr => ?_⟩
      rw [ed] at s1
      rw [e0] at dec
      exact ⟨fun z i hi => (s1 r hr i).mpr (Or.inr (Or.inl ⟨z, hi⟩)), fun z i hi => (s1 r hr i).mpr (Or.inr (Or.inr (Or.inl ⟨z, (dec.2.1 i).mpr hi⟩))), fun _ _ z i hi => (s1 r hr i).mpr (Or.inr (Or.inr (Or.inr ⟨z, (dec.2.2 i).mpr hi⟩)))⟩
    · rw [e] at y; exact absurd y (by decide)
  · rcases s3 with ⟨y, -⟩ | ⟨-, y⟩
    · rw [e] at y; exact absurd y (by decide)
    · rcases y with y | ⟨r, hr, y⟩
      · exact absurd e0 y
      · obtain ⟨i, hi, i1, i2⟩ := bd_dif (I.1 _) (hmk _) (hsub _) y
        exact bd_PB_lt hsub (j := 4 * p + r) (i := i) (by omega) (by omega) i1 i2
end
section
/-! ===== one step of the reference's sweeps, walked ===== -/
theorem bd_dv {k : Nat} (h : k < 2147483648) : nI k / 16 = nI (k / 16) := pk_div (d := 16) h (by omega) (by omega)
theorem bd_rm {k : Nat} (h : k < 2147483648) : nI k - nI k / 16 * 16 = nI (k % 16) := pk_rem (d := 16) h (by omega) (by omega)
section
variable {W R N C : Nat} {c : Nat → Nat} {p t : Nat}
variable {g_w g_m g_rs g_cap g_n g_op g_d g_a g_b g_x g_y g_needA g_needB g_analysed g_started : Int32} {h_code h_fact h_dem h_res h_inputs h_regs h_pcs h_counts h_logs h_seen : Nat → Int32}
variable {post : Int32 → SY → Prop} {J67 J85 : Int32 → Int32 → Int32 → Int32 → Int32 → Int32 → Int32 → Int32 → Int32 → Int32 → Int32 → Int32 → Int32 → Int32 → Int32 → Int32 → Int32 → (Nat → Int32) → (Nat → Int32) → (Nat → Int32) → (Nat → Int32) → (Nat → Int32) → (Nat → Int32) → (Nat → Int32) → (Nat → Int32) → (Nat → Int32) → (Nat → Int32) → Prop} {J104 J226 J408 : Int32 → Int32 → (Nat → Int32) → (Nat → Int32) → (Nat → Int32) → (Nat → Int32) → (Nat → Int32) → (Nat → Int32) → (Nat → Int32) → (Nat → Int32) → (Nat → Int32) → (Nat → Int32) → Prop} {x1 x2 x3 x4 x8 x9 : Int32}
/-- one fact of a merge -/
theorem bd_Y_289 {k : Nat} {z : Int32} (ht : t < 25) (hk : k < 64) (h9 : x9 = 0 ∨ x9 = 1) (K : ∀ y x, (x9 = 0 ∧ y = bd_m2 (h_fact (64 * t + k)) z ∨ x9 = 1 ∧ y = z) → (x = 0 ∧ x4 = 0 ∧ x9 = 0 ∧ y = h_fact (64 * t + k) ∨ x = 1 ∧ (¬ x4 = 0 ∨ x9 = 1 ∨ ¬ y = h_fact (64 * t + k))) → J226 x (nI (k + 1)) h_code (upd h_fact (64 * t + k) y) h_dem h_res h_inputs h_regs h_pcs h_counts h_logs h_seen) : wY_analyse_289 post J67 J85 J104 J226 x1 x2 x3 x4 (nI p) (nI t) x8 x9 (nI k) z g_w g_m g_rs g_cap g_n g_op g_d g_a g_b g_x g_y g_needA g_needB g_analysed g_started h_code h_fact h_dem h_res h_inputs h_regs h_pcs h_counts h_logs h_seen := by
  have hi : vp_in (nI (64 * t + k)) 1600 := vp_in_nI (by omega) (by omega)
  have ci : (nI (64 * t + k)).toNatClampNeg = 64 * t + k := bd_cl (by omega)
  have fin : ∀ y, (x9 = 0 ∧ y = bd_m2 (h_fact (64 * t + k)) z ∨ x9 = 1 ∧ y = z) → wY_analyse_336 post J67 J85 J104 J226 x1 x2 x3 x4 (nI p) (nI t) x8 x9 (nI k) (h_fact (64 * t + k)) y (nI (64 * t + k)) g_w g_m g_rs g_cap g_n g_op g_d g_a g_b g_x g_y g_needA g_needB g_analysed g_started h_code h_fact h_dem h_res h_inputs h_regs h_pcs h_counts h_logs h_seen := by
    intro y hy
    have K' := K y
    refine And.intro hi (nm_r (bd_uat (by omega) rfl) ?_)
    rw [bd_j64, ci, pk_us]
    refine br_c (fun e4 => br_c (fun e9 => ⟨hi, br_c (fun e => nm_r (nI_1 k) (K' 0 hy (Or.inl ⟨rfl, e4, e9, e⟩))) (fun e => nm_r (nI_1 k) (K' 1 hy (Or.inr ⟨rfl, Or.inr (Or.inr e)⟩)))⟩) (fun e9 => nm_r (nI_1 k) (K' 1 hy (Or.inr ⟨rfl, Or.inr (Or.inl (h9.resolve_left e9))⟩)))) (fun e4 => nm_r (nI_1 k) (K' 1 hy (Or.inr ⟨rfl, Or.inl e4⟩)))
  unfold wY_analyse_289
  rw [bd_j64, ci]
  refine ⟨hi, nm_e (br_c (fun e9 => br_c (fun e => ?_) (fun e => ?_)) (fun e9 => ?_))⟩
  · exact fin z (Or.inl ⟨e9, by unfold bd_m2; rw [if_pos e]⟩)
  · exact fin 2 (Or.inl ⟨e9, by unfold bd_m2; rw [if_neg e]⟩)
  · exact fin z (Or.inr ⟨h9.resolve_left e9, rfl⟩)
theorem bd_Y_226 (P : bd_PV W R N c) (hR : R ≤ 4) (hN : N ≤ 24) (hp : p < N) (ht : t ≤ N) (h9 : x9 = 0 ∧ ¬ h_seen t = 0 ∨ x9 = 1 ∧ h_seen t = 0) (h4 : x4 = 0 ∨ x4 = 1)
    (K : ∀ f' x', bd_S0 c p t h_seen h_res h_fact f' x4 x' → wY_analyse_378 post J67 J85 J104 x1 x2 0 x' (nI p) (nI t) 1 (nI W) (bd_lo W) (nI R) (nI C) (nI N) (nI (bd_op c p)) (nI (bd_d c p)) (nI (bd_a c p)) (nI (bd_b c p)) g_x g_y g_needA g_needB g_analysed g_started h_code f' h_dem h_res h_inputs h_regs h_pcs h_counts h_logs h_seen) :
    ∃ n, wY_analyse_226 post J67 J85 J104 x1 x2 0 (nI p) (nI t) 1 x9 (nI W) (bd_lo W) (nI R) (nI C) (nI N) (nI (bd_op c p)) (nI (bd_d c p)) (nI (bd_a c p)) (nI (bd_b c p)) g_x g_y g_needA g_needB g_analysed g_started n x4 0 h_code h_fact h_dem h_res h_inputs h_regs h_pcs h_counts h_logs h_seen := by
  obtain ⟨v1, v2, v3, v4, v5, v6, v7, v8, v9⟩ := P p hp
  have loop : ∀ m k f' x', k + m = 64 → (∀ s, s < k → f' (64 * t + s) = bd_mgk c p t h_seen h_res h_fact s) → (∀ j, (∀ s, s < k → ¬ j = 64 * t + s) → f' j = h_fact j) →
      (x' = 0 ∧ x4 = 0 ∧ (k = 0 ∨ ¬ h_seen t = 0) ∧ (∀ s, s < k → bd_mgk c p t h_seen h_res h_fact s = h_fact (64 * t + s)) ∨ x' = 1 ∧ (¬ x4 = 0 ∨ h_seen t = 0 ∨ ∃ s, s < k ∧ ¬ bd_mgk c p t h_seen h_res h_fact s = h_fact (64 * t + s))) →
      wY_analyse_226 post J67 J85 J104 x1 x2 0 (nI p) (nI t) 1 x9 (nI W) (bd_lo W) (nI R) (nI C) (nI N) (nI (bd_op c p)) (nI (bd_d c p)) (nI (bd_a c p)) (nI (bd_b c p)) g_x g_y g_needA g_needB g_analysed g_started (m + 1) x' (nI k) h_code f' h_dem h_res h_inputs h_regs h_pcs h_counts h_logs h_seen := by
    intro m
    induction m with
    | zero =>
      intro k f' x' hk q1 q2 q3
      obtain rfl : k = 64 := by omega
      refine br_t (nI_le (a := 64) (b := 64) (by omega) (by omega)) (K f' x' ⟨q1, q2, ?_⟩)
      rcases q3 with ⟨y1, y2, y3, y4⟩ | ⟨y1, y2⟩
      · exact Or.inl ⟨y1, y2, y3.resolve_left (by omega), y4⟩
      · exact Or.inr ⟨y1, y2⟩
    | succ m ih =>
      intro k f' x' hk q1 q2 q3
      have e1 := q2 (64 * t + k) (fun s hs => by omega)
      have e2 := q2 (64 * p + k) (fun s hs => by omega)
      have step : ∀ z, z = bd_val c p h_res h_fact k → wY_analyse_289 post J67 J85 J104 (wY_analyse_226 post J67 J85 J104 x1 x2 0 (nI p) (nI t) 1 x9 (nI W) (bd_lo W) (nI R) (nI C) (nI N) (nI (bd_op c p)) (nI (bd_d c p)) (nI (bd_a c p)) (nI (bd_b c p)) g_x g_y g_needA g_needB g_analysed g_started (m + 1)) x1 x2 0 x' (nI p) (nI t) 1 x9 (nI k) z (nI W) (bd_lo W) (nI R) (nI C) (nI N) (nI (bd_op c p)) (nI (bd_d c p)) (nI (bd_a c p)) (nI (bd_b c p)) g_x g_y g_needA g_needB g_analysed g_started h_code f' h_dem h_res h_inputs h_regs h_pcs h_counts h_logs h_seen := by
        intro z hz
        subst hz
        refine bd_Y_289 (by omega) (by omega) (h9.imp And.left And.left) (fun y x hy hx => ?_)
        have ey : y = bd_mgk c p t h_seen h_res h_fact k := by
          unfold bd_mgk
          rw [e1] at hy
          rcases h9 with ⟨g1, g2⟩ | ⟨g1, g2⟩
          · rw [if_neg g2]
            rcases hy with hy | hy
            · exact hy.2
            · rw [g1] at hy; exact absurd hy.1 (by decide)
          · rw [if_pos g2]
            rcases hy with hy | hy
            · rw [g1] at hy; exact absurd hy.1 (by decide)
            · exact hy.2
        rw [e1] at hx
        refine ih (k + 1) _ x (by omega) (fun s hs => ?_) (fun j h => ?_) ?_
        · by_cases e : s = k
          · rw [e, pk_us]; exact ey
          · rw [pk_un (by omega)]; exact q1 s (by omega)
        · rw [pk_un (h k (by omega))]
          exact q2 j (fun s hs => h s (by omega))
        · rcases hx with ⟨w1, w2, w3, w4⟩ | ⟨w1, w2⟩
          · rcases q3 with ⟨y1, y2, y3, y4⟩ | ⟨y1, y2⟩
            · refine Or.inl ⟨w1, y2, Or.inr ?_, fun s hs => ?_⟩
              · rcases h9 with g | g
                · exact g.2
                · rw [w3] at g; exact absurd g.1 (by decide)
              · by_cases e : s = k
                · rw [e, ← ey]; exact w4
                · exact y4 s (by omega)
            · rw [y1] at w2; exact absurd w2 (by decide)
          · refine Or.inr ⟨w1, ?_⟩
            rcases w2 with w2 | w2 | w2
            · rcases q3 with ⟨y1, y2, y3, y4⟩ | ⟨y1, y2 | y2 | ⟨s, y3, y4⟩⟩
              · exact absurd y1 w2
              · exact Or.inl y2
              · exact Or.inr (Or.inl y2)
              · exact Or.inr (Or.inr ⟨s, by omega, y4⟩)
            · rcases h9 with g | g
              · rw [w2] at g; exact absurd g.1 (by decide)
              · exact Or.inr (Or.inl g.2)
            · exact Or.inr (Or.inr ⟨k, by omega, by rw [← ey]; exact w2⟩)
      have s276 : ¬ (bd_op c p ≤ 8 ∧ k / 16 = bd_d c p) → wY_analyse_276 post J67 J85 J104 (wY_analyse_226 post J67 J85 J104 x1 x2 0 (nI p) (nI t) 1 x9 (nI W) (bd_lo W) (nI R) (nI C) (nI N) (nI (bd_op c p)) (nI (bd_d c p)) (nI (bd_a c p)) (nI (bd_b c p)) g_x g_y g_needA g_needB g_analysed g_started (m + 1)) x1 x2 0 x' (nI p) (nI t) 1 x9 (nI k) (nI W) (bd_lo W) (nI R) (nI C) (nI N) (nI (bd_op c p)) (nI (bd_d c p)) (nI (bd_a c p)) (nI (bd_b c p)) g_x g_y g_needA g_needB g_analysed g_started h_code f' h_dem h_res h_inputs h_regs h_pcs h_counts h_logs h_seen := by
        intro h
        unfold wY_analyse_276
        rw [bd_j64, bd_fat (f := f') (p := 64 * p + k) (by omega)]
        exact ⟨vp_in_nI (by omega) (by omega), step _ (by unfold bd_val; rw [if_neg h]; exact e2)⟩
      refine br_f (nI_ge (b := 64) (by omega) (by omega)) (br_f (by decide) (br_t rfl ?_))
      refine pk_lt 8 (bd_op c p) (fun h => s276 fun z => by omega) (fun h => ⟨by decide, ?_⟩)
      have hd := v3 h
      rw [bd_rm (by omega), bd_dv (by omega)]
      refine pk_eq (k / 16) (bd_d c p) (fun e => ⟨by decide, vp_in_nI (by omega) (by omega), ?_⟩) (fun e => s276 fun z => e z.2)
      rw [bd_fat (f := h_res) (p := k % 16) (by omega)]
      exact step _ (by unfold bd_val; rw [if_pos ⟨h, e⟩])
  refine ⟨65, loop 64 0 _ x4 (by omega) (fun s hs => by omega) (fun _ _ => rfl) ?_⟩
  rcases h4 with h4 | h4
  · exact Or.inl ⟨h4, h4, Or.inl rfl, fun s hs => by omega⟩
  · exact Or.inr ⟨h4, Or.inl (by rw [h4]; decide)⟩
/-- the liveness of an edge -/
theorem bd_Y_140 (P : bd_PV W R N c) (hW : W ≤ 16) (hN : N ≤ 24) (hp : p < N) (ht : t ≤ N) {z : Int32} (hz : z = if bd_op c p = 10 then h_fact (64 * p + 16 * bd_a c p + bd_b c p) else 0)
    (K1 : ¬ h_seen p = 0 → bd_lv N c (bd_gy W h_fact) p t → wY_analyse_204 post J67 J85 J104 x1 x2 x3 x4 (nI p) (nI t) 1 (nI W) (bd_lo W) (nI R) (nI C) (nI N) (nI (bd_op c p)) (nI (bd_d c p)) (nI (bd_a c p)) (nI (bd_b c p)) g_x g_y g_needA g_needB g_analysed g_started h_code h_fact h_dem h_res h_inputs h_regs h_pcs h_counts h_logs h_seen) (K0 : ¬ (¬ h_seen p = 0 ∧ bd_lv N c (bd_gy W h_fact) p t) → wY_analyse_204 post J67 J85 J104 x1 x2 x3 x4 (nI p) (nI t) 0 (nI W) (bd_lo W) (nI R) (nI C) (nI N) (nI (bd_op c p)) (nI (bd_d c p)) (nI (bd_a c p)) (nI (bd_b c p)) g_x g_y g_needA g_needB g_analysed g_started h_code h_fact h_dem h_res h_inputs h_regs h_pcs h_counts h_logs h_seen) : wY_analyse_140 post J67 J85 J104 x1 x2 x3 x4 (nI p) (nI t) z (nI W) (bd_lo W) (nI R) (nI C) (nI N) (nI (bd_op c p)) (nI (bd_d c p)) (nI (bd_a c p)) (nI (bd_b c p)) g_x g_y g_needA g_needB g_analysed g_started h_code h_fact h_dem h_res h_inputs h_regs h_pcs h_counts h_logs h_seen := by
  obtain ⟨v1, v2, v3, v4, v5, v6, v7, v8, v9⟩ := P p hp
  have hg : bd_op c p = 10 → bd_gy W h_fact p (bd_a c p) (bd_b c p) = z := by
    intro h
    rw [hz, if_pos h]
    exact bd_at_lt (v5 (Or.inr (Or.inr h)))
  have h1z : z = 1 → bd_op c p = 10 := by
    intro e
    by_cases h : bd_op c p = 10
    · exact h
    · rw [if_neg h] at hz; rw [hz] at e; exact absurd e (by decide)
  have h0z : ¬ z = 0 → bd_op c p = 10 := by
    intro e
    by_cases h : bd_op c p = 10
    · exact h
    · rw [if_neg h] at hz; exact absurd hz e
  refine And.intro (vp_in_nI (by omega) (by omega)) ?_
  rw [bd_fat (f := h_seen) (p := p) (by omega)]
  refine br_c (fun e => K0 fun q => q.1 e) (fun e => ?_)
  have s167 : ¬ (t = p + 1 ∧ ¬ (bd_op c p = 10 ∧ bd_gy W h_fact p (bd_a c p) (bd_b c p) = 1)) → wY_analyse_167 post J67 J85 J104 x1 x2 x3 x4 (nI p) (nI t) z (nI W) (bd_lo W) (nI R) (nI C) (nI N) (nI (bd_op c p)) (nI (bd_d c p)) (nI (bd_a c p)) (nI (bd_b c p)) g_x g_y g_needA g_needB g_analysed g_started h_code h_fact h_dem h_res h_inputs h_regs h_pcs h_counts h_logs h_seen := by
    intro no
    have e196 : ∀ s, s ≤ 24 → s = bd_tg N c p → ¬ z = 0 → wY_analyse_196 post J67 J85 J104 x1 x2 x3 x4 (nI p) (nI t) (nI s) (nI t) (nI W) (bd_lo W) (nI R) (nI C) (nI N) (nI (bd_op c p)) (nI (bd_d c p)) (nI (bd_a c p)) (nI (bd_b c p)) g_x g_y g_needA g_needB g_analysed g_started h_code h_fact h_dem h_res h_inputs h_regs h_pcs h_counts h_logs h_seen := by
      intro s hs es nz
      have h10 := h0z nz
      refine pk_eq t s (fun g => K1 e (Or.inr ⟨by rw [g, es], h10, by rw [hg h10]; exact nz⟩)) (fun g => K0 fun q => ?_)
      rcases q.2 with y | y
      · exact no y
      · exact g (by rw [es]; exact y.1)
    refine br_c (fun g => K0 fun q => ?_) (fun g => pk_le N (bd_d c p) (fun y => ?_) (fun y => ?_))
    · rcases q.2 with y | y
      · exact no y
      · exact y.2.2 (by rw [hg y.2.1]; exact g)
    · exact e196 N hN (by unfold bd_tg; rw [if_neg (by omega)]) g
    · exact e196 _ v8 (by unfold bd_tg; rw [if_pos y]) g
  refine br_c (fun g => s167 fun q => q.2 ⟨h1z g, by rw [hg (h1z g)]; exact g⟩) (fun g => ?_)
  refine pk_eq t (p + 1) (fun y => K1 e (Or.inl ⟨y, fun q => g (by rw [← hg q.1]; exact q.2)⟩)) (fun y => s167 fun q => y q.1) (hy := nI_1 p)
end
end
section
/-! ===== the reference's sweeps: an edge, a slot, phase 0 ===== -/
section
variable {W R N C : Nat} {c : Nat → Nat} {p t : Nat}
variable {g_w g_m g_rs g_cap g_n g_op g_d g_a g_b g_x g_y g_needA g_needB g_analysed g_started : Int32} {h_code h_fact h_dem h_res h_inputs h_regs h_pcs h_counts h_logs h_seen : Nat → Int32}
variable {post : Int32 → SY → Prop} {J67 J85 : Int32 → Int32 → Int32 → Int32 → Int32 → Int32 → Int32 → Int32 → Int32 → Int32 → Int32 → Int32 → Int32 → Int32 → Int32 → Int32 → Int32 → (Nat → Int32) → (Nat → Int32) → (Nat → Int32) → (Nat → Int32) → (Nat → Int32) → (Nat → Int32) → (Nat → Int32) → (Nat → Int32) → (Nat → Int32) → (Nat → Int32) → Prop} {J104 : Int32 → Int32 → (Nat → Int32) → (Nat → Int32) → (Nat → Int32) → (Nat → Int32) → (Nat → Int32) → (Nat → Int32) → (Nat → Int32) → (Nat → Int32) → (Nat → Int32) → (Nat → Int32) → Prop} {x1 x2 x3 x4 x8 : Int32}
theorem bd_Y_378 (ht : t ≤ 24) (h01 : h_seen t = 0 ∨ h_seen t = 1) (h8 : x8 = 0 ∨ x8 = 1) (K : ∀ sn, (x8 = 0 ∧ sn = h_seen ∨ x8 = 1 ∧ sn = upd h_seen t 1) → ∃ n, wY_analyse_408 post J67 J85 J104 x1 x2 x3 (nI p) (nI t) x8 g_w g_m g_rs g_cap g_n g_op g_d g_a g_b g_x g_y g_needA g_needB g_analysed g_started n x4 0 h_code h_fact h_dem h_res h_inputs h_regs h_pcs h_counts h_logs sn) : wY_analyse_378 post J67 J85 J104 x1 x2 x3 x4 (nI p) (nI t) x8 g_w g_m g_rs g_cap g_n g_op g_d g_a g_b g_x g_y g_needA g_needB g_analysed g_started h_code h_fact h_dem h_res h_inputs h_regs h_pcs h_counts h_logs h_seen := by
  have h25 : vp_in (nI t) 25 := vp_in_nI (by omega) (by omega)
  refine And.intro h25 ?_
  rw [bd_fat (f := h_seen) (p := t) (by omega)]
  refine br_c (fun e => br_c (fun e8 => ⟨h25, nm_r (e' := h_seen) ?_ (K _ (Or.inl ⟨e8, rfl⟩))⟩) (fun e8 => ⟨h25, nm_r (bd_uat (by omega) rfl) (K _ (Or.inr ⟨h8.resolve_left e8, rfl⟩))⟩)) (fun e => ⟨h25, ?_⟩)
  · rw [bd_cl (by omega)]
    have : vp_nar .boolean 0 = h_seen t := e.symm
    rw [this]; exact bd_us'
  · rcases h8 with h8 | h8
    · refine nm_r (e' := h_seen) ?_ (K _ (Or.inl ⟨h8, rfl⟩))
      rw [bd_cl (by omega)]
      have : vp_nar .boolean 1 = h_seen t := (h01.resolve_left e).symm
      rw [this]; exact bd_us'
    · exact nm_r (bd_uat (by omega) rfl) (K _ (Or.inr ⟨h8, rfl⟩))
/-- an edge in phase 0 -/
theorem bd_Y_m0 (P : bd_PV W R N c) (hW : W ≤ 16) (hR : R ≤ 4) (hR0 : 0 < R) (hN : N ≤ 24) (hp : p < N) (ht : t ≤ N) (h01 : ∀ j, h_seen j = 0 ∨ h_seen j = 1) (h4 : x4 = 0 ∨ x4 = 1) {z : Int32} (hz : z = if bd_op c p = 10 then h_fact (64 * p + 16 * bd_a c p + bd_b c p) else 0)
    (K : ∀ f' sn' x', ((¬ h_seen p = 0 ∧ bd_lv N c (bd_gy W h_fact) p t) ∧ bd_S0 c p t h_seen h_res h_fact f' x4 x' ∧ sn' = upd h_seen t 1 ∨ ¬ (¬ h_seen p = 0 ∧ bd_lv N c (bd_gy W h_fact) p t) ∧ f' = h_fact ∧ sn' = h_seen ∧ x' = x4) → J104 x' (nI (t + 1)) h_code f' h_dem h_res h_inputs h_regs h_pcs h_counts h_logs sn') :
    wY_analyse_140 post J67 J85 J104 x1 x2 0 x4 (nI p) (nI t) z (nI W) (bd_lo W) (nI R) (nI C) (nI N) (nI (bd_op c p)) (nI (bd_d c p)) (nI (bd_a c p)) (nI (bd_b c p)) g_x g_y g_needA g_needB g_analysed g_started h_code h_fact h_dem h_res h_inputs h_regs h_pcs h_counts h_logs h_seen := by
  have h25 : vp_in (nI t) 25 := vp_in_nI (by omega) (by omega)
  have es : h_seen (nI t).toNatClampNeg = h_seen t := bd_fat (by omega)
  refine bd_Y_140 P hW hN hp ht hz (fun a l => ?_) (fun nl => ?_)
  · have go : ∀ x9 : Int32, (x9 = 0 ∧ ¬ h_seen t = 0 ∨ x9 = 1 ∧ h_seen t = 0) → ∃ n, wY_analyse_226 post J67 J85 J104 x1 x2 0 (nI p) (nI t) 1 x9 (nI W) (bd_lo W) (nI R) (nI C) (nI N) (nI (bd_op c p)) (nI (bd_d c p)) (nI (bd_a c p)) (nI (bd_b c p)) g_x g_y g_needA g_needB g_analysed g_started n x4 0 h_code h_fact h_dem h_res h_inputs h_regs h_pcs h_counts h_logs h_seen := fun x9 h9 => bd_Y_226 P hR hN hp ht h9 h4 (fun f' x' S => by
      refine bd_Y_378 (by omega) (h01 t) (Or.inr rfl) (fun sn hsn => ?_)
      have esn : sn = upd h_seen t 1 := by
        rcases hsn with g | g
        · exact absurd g.1 (by decide)
        · exact g.2
      exact ⟨1, br_f (nI_nle hR0 (by omega)) (br_f (by decide) (br_f (by decide) (nm_r (nI_1 t) (K f' sn x' (Or.inl ⟨⟨a, l⟩, S, esn⟩)))))⟩)
    refine And.intro h25 (br_c (fun e => go 1 (Or.inr ⟨rfl, es.symm.trans e⟩)) (fun e => go 0 (Or.inl ⟨rfl, fun q => e (es.trans q)⟩)))
  · have dead : ∀ x9, ∃ n, wY_analyse_226 post J67 J85 J104 x1 x2 0 (nI p) (nI t) 0 x9 (nI W) (bd_lo W) (nI R) (nI C) (nI N) (nI (bd_op c p)) (nI (bd_d c p)) (nI (bd_a c p)) (nI (bd_b c p)) g_x g_y g_needA g_needB g_analysed g_started n x4 0 h_code h_fact h_dem h_res h_inputs h_regs h_pcs h_counts h_logs h_seen := by
      intro x9
      refine ⟨1, br_f (by decide) (br_t rfl ?_)⟩
      refine bd_Y_378 (by omega) (h01 t) (Or.inl rfl) (fun sn hsn => ?_)
      have esn : sn = h_seen := by
        rcases hsn with g | g
        · exact g.2
        · exact absurd g.1 (by decide)
      exact ⟨1, br_f (nI_nle hR0 (by omega)) (br_t rfl (nm_r (nI_1 t) (K _ sn _ (Or.inr ⟨nl, rfl, esn, rfl⟩))))⟩
    exact And.intro h25 (br_c (fun _ => dead 1) (fun _ => dead 0))
end
/-- a sweep of phase 0, so far -/
def bd_Cp (W R N : Nat) (c : Nat → Nat) (sn f : Nat → Int32) (p t : Nat) : Prop := ¬ sn p = 0 → bd_lv N c (bd_gy W f) p t → ¬ sn t = 0 ∧ ∀ r, r < R → ∀ i, bd_le (bd_gy W f t r i) (bd_out W c (bd_gy W f) p r i)
def bd_Sw (W R N : Nat) (c : Nat → Nat) (f0 sn0 f sn : Nat → Int32) (x : Int32) (Dn : Nat → Nat → Prop) : Prop :=
  bd_YI W R N c sn f ∧ (x = 0 ∧ f = f0 ∧ sn = sn0 ∧ (∀ p t, Dn p t → bd_Cp W R N c sn f p t) ∨ x = 1 ∧ bd_Ps (fun q => ¬ sn q = 0) f < bd_Ps (fun q => ¬ sn0 q = 0) f0)
theorem bd_Sw_m {W R N : Nat} {c : Nat → Nat} {f0 sn0 f sn : Nat → Int32} {x : Int32} {Dn Dn' : Nat → Nat → Prop} (h : bd_Sw W R N c f0 sn0 f sn x Dn) (m : ∀ p t, Dn' p t → Dn p t ∨ bd_Cp W R N c sn f p t) : bd_Sw W R N c f0 sn0 f sn x Dn' := by
  obtain ⟨h1, h2⟩ := h
  refine ⟨h1, ?_⟩
  rcases h2 with ⟨a, b, e, d⟩ | h2
  · exact Or.inl ⟨a, b, e, fun p t q => (m p t q).elim (d p t) id⟩
  · exact Or.inr h2
theorem bd_Sw_01 {W R N : Nat} {c : Nat → Nat} {f0 sn0 f sn : Nat → Int32} {x : Int32} {Dn : Nat → Nat → Prop} (h : bd_Sw W R N c f0 sn0 f sn x Dn) : x = 0 ∨ x = 1 := h.2.imp And.left And.left
theorem bd_Sw_s {W R N : Nat} {c : Nat → Nat} {p t : Nat} {f0 sn0 sn res f f' : Nat → Int32} {x x' : Int32} {Dn Dn' : Nat → Nat → Prop} (P : bd_PV W R N c) (hW : W ≤ 16) (hR : R ≤ 4) (hN : N ≤ 24) (Q : bd_Sw W R N c f0 sn0 f sn x Dn) (hp : p < N) (hF : ¬ sn p = 0) (l : bd_lv N c (bd_gy W f) p t) (r3 : bd_F3 res) (hres : bd_op c p ≤ 8 → ∀ i, i < W → res i = bd_res W c (bd_gy W f) p i) (S : bd_S0 c p t sn res f f' x x') (hD : ∀ a b, Dn' a b → Dn a b ∨ (a = p ∧ b = t)) : bd_Sw W R N c f0 sn0 f' (upd sn t 1) x' Dn' := by
  obtain ⟨a1, a2, a3, a4⟩ := bd_ys0 P hW hR hN Q.1 hp hF l r3 hres S
  refine ⟨a1, ?_⟩
  have s01 : x' = 0 ∨ x' = 1 := S.2.2.imp And.left And.left
  rcases s01 with e | e
  · obtain ⟨b1, b2, b3, b4⟩ := a2 e
    rcases Q.2 with ⟨q1, q2, q3, q4⟩ | ⟨q1, q2⟩
    · refine Or.inl ⟨e, b2.trans q2, b3.trans q3, fun a b d => ?_⟩
      rw [b2, b3]
      rcases hD a b d with y | ⟨rfl, rfl⟩
      · exact q4 a b y
      · exact fun _ _ => ⟨by rw [← b3, pk_us]; decide, b4⟩
    · rw [b1] at q1; exact absurd q1 (by decide)
  · refine Or.inr ⟨e, ?_⟩
    rcases Q.2 with ⟨q1, q2, q3, q4⟩ | ⟨q1, q2⟩
    · have := a4 e q1
      rw [q2, q3] at this
      rw [q3]; exact this
    · omega
theorem bd_S0_p {W R N : Nat} {c : Nat → Nat} {p t : Nat} {sn res f f' : Nat → Int32} {x x' : Int32} (hW : W ≤ 16) (hR : R ≤ 4) (hF : ¬ sn p = 0) (l : bd_lv N c (bd_gy W f) p t) (S : bd_S0 c p t sn res f f' x x') : ∀ r, r < R → bd_gy W f' p r = bd_gy W f p r := by
  intro r hr
  refine bd_trE fun i hi => ?_
  by_cases e : p = t
  · subst e
    show f' (64 * p + 16 * r + i) = f (64 * p + 16 * r + i)
    rw [show 64 * p + 16 * r + i = 64 * p + (16 * r + i) by omega, S.1 _ (by omega)]
    unfold bd_mgk bd_val
    have n8 : ¬ (bd_op c p ≤ 8 ∧ (16 * r + i) / 16 = bd_d c p) := by
      rcases l with l | l <;> omega
    rw [if_neg hF, if_neg n8]
    unfold bd_m2
    rw [if_pos rfl]
  · exact S.2.1 _ (fun k hk => by omega)
section
variable {W R N C : Nat} {c : Nat → Nat} {p : Nat}
variable {g_w g_m g_rs g_cap g_n g_op g_d g_a g_b g_x g_y g_needA g_needB g_analysed g_started : Int32} {h_code h_fact h_dem h_res h_inputs h_regs h_pcs h_counts h_logs h_seen : Nat → Int32}
variable {post : Int32 → SY → Prop} {J67 J85 : Int32 → Int32 → Int32 → Int32 → Int32 → Int32 → Int32 → Int32 → Int32 → Int32 → Int32 → Int32 → Int32 → Int32 → Int32 → Int32 → Int32 → (Nat → Int32) → (Nat → Int32) → (Nat → Int32) → (Nat → Int32) → (Nat → Int32) → (Nat → Int32) → (Nat → Int32) → (Nat → Int32) → (Nat → Int32) → (Nat → Int32) → Prop} {x1 x2 x3 : Int32}
/-- the edges of a slot in phase 0 -/
theorem bd_Y_t0 (P : bd_PV W R N c) (hW : W ≤ 16) (hR : R ≤ 4) (hR0 : 0 < R) (hN : N ≤ 24) (hp : p < N) (r3 : bd_F3 h_res) {f0 sn0 : Nat → Int32}
    (K : ∀ f sn x, bd_Sw W R N c f0 sn0 f sn x (fun a _ => a < p + 1) → J85 x (nI (p + 1)) (nI W) (bd_lo W) (nI R) (nI C) (nI N) (nI (bd_op c p)) (nI (bd_d c p)) (nI (bd_a c p)) (nI (bd_b c p)) (nI (64 * p + 16 * bd_a c p)) g_y g_needA g_needB g_analysed g_started h_code f h_dem h_res h_inputs h_regs h_pcs h_counts h_logs sn) :
    ∀ m t f sn x, t + m = N + 1 → bd_Sw W R N c f0 sn0 f sn x (fun a b => a < p ∨ (a = p ∧ b < t)) → (¬ sn p = 0 → bd_op c p ≤ 8 → ∀ i, i < W → h_res i = bd_res W c (bd_gy W f) p i) →
      wY_analyse_104 post J67 J85 x1 x2 0 (nI p) (nI W) (bd_lo W) (nI R) (nI C) (nI N) (nI (bd_op c p)) (nI (bd_d c p)) (nI (bd_a c p)) (nI (bd_b c p)) (nI (64 * p + 16 * bd_a c p)) g_y g_needA g_needB g_analysed g_started (m + 1) x (nI t) h_code f h_dem h_res h_inputs h_regs h_pcs h_counts h_logs sn := by
  obtain ⟨v1, v2, v3, v4, v5, v6, v7, v8, v9⟩ := P p hp
  intro m
  induction m with
  | zero =>
    intro t f sn x ht Q hres
    obtain rfl : t = N + 1 := by omega
    refine br_t (nI_lt (by omega) (by omega)) (nm_r (nI_1 p) (K f sn x (bd_Sw_m Q (fun a b h => ?_))))
    by_cases e : a = p
    · by_cases g : b < N + 1
      · exact Or.inl (Or.inr ⟨e, g⟩)
      · right
        intro _ l
        have := bd_lv_le (by omega) l
        omega
    · exact Or.inl (Or.inl (by omega))
  | succ m ih =>
    intro t f sn x ht Q hres
    have step : ∀ z, z = (if bd_op c p = 10 then f (64 * p + 16 * bd_a c p + bd_b c p) else 0) → wY_analyse_140 post J67 J85 (wY_analyse_104 post J67 J85 x1 x2 0 (nI p) (nI W) (bd_lo W) (nI R) (nI C) (nI N) (nI (bd_op c p)) (nI (bd_d c p)) (nI (bd_a c p)) (nI (bd_b c p)) (nI (64 * p + 16 * bd_a c p)) g_y g_needA g_needB g_analysed g_started (m + 1)) x1 x2 0 x (nI p) (nI t) z (nI W) (bd_lo W) (nI R) (nI C) (nI N) (nI (bd_op c p)) (nI (bd_d c p)) (nI (bd_a c p)) (nI (bd_b c p)) (nI (64 * p + 16 * bd_a c p)) g_y g_needA g_needB g_analysed g_started h_code f h_dem h_res h_inputs h_regs h_pcs h_counts h_logs sn := by
      intro z hz
      refine bd_Y_m0 P hW hR hR0 hN hp (by omega) Q.1.2.1 (bd_Sw_01 Q) hz (fun f' sn' x' h => ?_)
      rcases h with ⟨⟨a, l⟩, S, rfl⟩ | ⟨nl, rfl, rfl, rfl⟩
      · have gp := bd_S0_p (R := R) hW hR a l S
        refine ih (t + 1) f' _ x' (by omega) (bd_Sw_s P hW hR hN Q hp a l r3 (hres a) S (fun a b h => ?_)) (fun _ h8 i hi => ?_)
        · rcases h with h | h
          · exact Or.inl (Or.inl h)
          · by_cases g : b = t
            · exact Or.inr ⟨h.1, g⟩
            · exact Or.inl (Or.inr ⟨h.1, by omega⟩)
        · rw [hres a h8 i hi]
          unfold bd_res
          rw [gp _ v2, gp _ (bd_ub_lt P hp)]
      · refine ih (t + 1) _ _ _ (by omega) (bd_Sw_m Q (fun a b h => ?_)) hres
        rcases h with h | h
        · exact Or.inl (Or.inl h)
        · by_cases g : b = t
          · right
            rw [h.1, g]
            intro y1 y2
            exact absurd ⟨y1, y2⟩ nl
          · exact Or.inl (Or.inr ⟨h.1, by omega⟩)
    refine br_f (nI_nlt (by omega) (by omega)) (pk_eq (bd_op c p) 10 (fun h => ?_) (fun h => ?_))
    · have hb := v5 (Or.inr (Or.inr h))
      rw [nI_add, bd_fat (f := f) (p := 64 * p + 16 * bd_a c p + bd_b c p) (by omega)]
      exact ⟨vp_in_nI (by omega) (by omega), step _ (by rw [if_pos h])⟩
    · exact step 0 (by rw [if_neg h])
/-- a sweep of phase 0 -/
theorem bd_Y_p0 (hc : bd_YC N c h_code) (P : bd_PV W R N c) (hW : W ≤ 16) (hW0 : 0 < W) (hR : R ≤ 4) (hR0 : 0 < R) (hN : N ≤ 24) (mD : ∀ j, bd_mk W (h_dem j)) {f0 sn0 : Nat → Int32} {s : Nat}
    (K0 : ∀ o d a b x y nA nB res f sn, bd_F3 res → bd_YI W R N c sn f → bd_Ps (fun q => ¬ sn q = 0) f < bd_Ps (fun q => ¬ sn0 q = 0) f0 → J67 (nI (s + 1)) 0 (nI W) (bd_lo W) (nI R) (nI C) (nI N) o d a b x y nA nB 1 g_started h_code f h_dem res h_inputs h_regs h_pcs h_counts h_logs sn)
    (K1 : ∀ o d a b x y nA nB res, bd_F3 res → bd_YI W R N c sn0 f0 → bd_Cl W R N c (fun q => ¬ sn0 q = 0) (bd_gy W f0) → J67 (nI (s + 1)) 1 (nI W) (bd_lo W) (nI R) (nI C) (nI N) o d a b x y nA nB 1 g_started h_code f0 h_dem res h_inputs h_regs h_pcs h_counts h_logs sn0) :
    ∀ m p o d a b x y nA nB res f sn x4, p + m = N → bd_F3 res → bd_Sw W R N c f0 sn0 f sn x4 (fun a _ => a < p) →
      wY_analyse_85 post J67 x1 (nI s) 0 (m + 1) x4 (nI p) (nI W) (bd_lo W) (nI R) (nI C) (nI N) o d a b x y nA nB 1 g_started h_code f h_dem res h_inputs h_regs h_pcs h_counts h_logs sn := by
  intro m
  induction m with
  | zero =>
    intro p o d a b x y nA nB res f sn x4 hp r3 Q
    obtain rfl : p = N := by omega
    refine br_t (nI_le (Nat.le_refl _) (by omega)) ?_
    rcases Q.2 with ⟨rfl, rfl, rfl, q4⟩ | ⟨rfl, q2⟩
    · refine br_t rfl (nm_r (e' := 1) rfl (nm_r (nI_1 s) (K1 _ _ _ _ _ _ _ _ _ r3 Q.1 ⟨Q.1.2.2.1, Q.1.2.2.2.1, fun p hp fp t l => q4 p t hp fp l⟩)))
    · exact br_f (by decide) (nm_r (nI_1 s) (K0 _ _ _ _ _ _ _ _ _ _ _ r3 Q.1 q2))
  | succ m ih =>
    intro p o d a b x y nA nB res f sn x4 hp r3 Q
    refine br_f (nI_ge (by omega) (by omega)) ?_
    refine bd_Y_dec hc P hW hW0 hN hR (by omega) Q.1.1 r3 mD (fun k nA nB res' r1 r2 _ _ => ⟨N + 2, ?_⟩)
    refine bd_Y_t0 P hW hR hR0 hN (by omega) r1 (fun f' sn' x' Q' => ?_) (N + 1) 0 f sn x4 (by omega) (bd_Sw_m Q (fun a b h => ?_)) r2
    · exact ih (p + 1) _ _ _ _ _ _ _ _ _ _ _ _ (by omega) r1 Q'
    · rcases h with h | h
      · exact Or.inl h
      · omega
end
end
section
/-! ===== the reference's sweeps: phase 1 ===== -/
section
variable {W R N C : Nat} {c : Nat → Nat} {p t : Nat}
variable {g_w g_m g_rs g_cap g_n g_op g_d g_a g_b g_x g_y g_needA g_needB g_analysed g_started : Int32} {h_code h_fact h_dem h_res h_inputs h_regs h_pcs h_counts h_logs h_seen : Nat → Int32}
variable {post : Int32 → SY → Prop} {J67 J85 : Int32 → Int32 → Int32 → Int32 → Int32 → Int32 → Int32 → Int32 → Int32 → Int32 → Int32 → Int32 → Int32 → Int32 → Int32 → Int32 → Int32 → (Nat → Int32) → (Nat → Int32) → (Nat → Int32) → (Nat → Int32) → (Nat → Int32) → (Nat → Int32) → (Nat → Int32) → (Nat → Int32) → (Nat → Int32) → (Nat → Int32) → Prop} {J104 J408 : Int32 → Int32 → (Nat → Int32) → (Nat → Int32) → (Nat → Int32) → (Nat → Int32) → (Nat → Int32) → (Nat → Int32) → (Nat → Int32) → (Nat → Int32) → (Nat → Int32) → (Nat → Int32) → Prop} {x1 x2 x3 x4 x8 : Int32}
/-- one register of an edge -/
theorem bd_Y_475 {r : Nat} {z : Int32} (P : bd_PV W R N c) (hR : R ≤ 4) (hN : N ≤ 24) (hp : p < N) (hr : r < R)
    (K : ∀ y x, (∀ i, bt y i = true ↔ bt (h_dem (4 * p + r)) i = true ∨ bt z i = true ∨ (r = bd_a c p ∧ bt g_needA i = true) ∨ (r = bd_b c p ∧ bt g_needB i = true)) → (x = 0 ∧ x4 = 0 ∧ y = h_dem (4 * p + r) ∨ x = 1 ∧ (¬ x4 = 0 ∨ ¬ y = h_dem (4 * p + r))) → J408 x (nI (r + 1)) h_code h_fact (upd h_dem (4 * p + r) y) h_res h_inputs h_regs h_pcs h_counts h_logs h_seen) :
    wY_analyse_475 post J67 J85 J104 J408 x1 x2 x3 x4 (nI p) (nI t) x8 (nI r) (h_dem (4 * p + r)) z (nI W) (bd_lo W) (nI R) (nI C) (nI N) (nI (bd_op c p)) (nI (bd_d c p)) (nI (bd_a c p)) (nI (bd_b c p)) g_x g_y g_needA g_needB g_analysed g_started h_code h_fact h_dem h_res h_inputs h_regs h_pcs h_counts h_logs h_seen := by
  obtain ⟨v1, v2, v3, v4, v5, v6, v7, v8, v9⟩ := P p hp
  have hi : vp_in (nI (4 * p + r)) 100 := vp_in_nI (by omega) (by omega)
  have ci : (nI (4 * p + r)).toNatClampNeg = 4 * p + r := bd_cl (by omega)
  have s528 : ∀ z0 z1, (∀ i, bt (z1 ||| z0) i = true ↔ bt (h_dem (4 * p + r)) i = true ∨ bt z i = true ∨ (r = bd_a c p ∧ bt g_needA i = true) ∨ (r = bd_b c p ∧ bt g_needB i = true)) → wY_analyse_528 post J67 J85 J104 J408 x1 x2 x3 x4 (nI p) (nI t) x8 (nI r) (h_dem (4 * p + r)) z0 z1 (nI (4 * p + r)) (nI W) (bd_lo W) (nI R) (nI C) (nI N) (nI (bd_op c p)) (nI (bd_d c p)) (nI (bd_a c p)) (nI (bd_b c p)) g_x g_y g_needA g_needB g_analysed g_started h_code h_fact h_dem h_res h_inputs h_regs h_pcs h_counts h_logs h_seen := by
    intro z0 z1 h
    have K' := K (z1 ||| z0)
    refine And.intro hi (nm_r (bd_uat (by omega) rfl) ?_)
    rw [bd_iy, ci, pk_us]
    exact br_c (fun e4 => ⟨hi, br_c (fun e => nm_r (nI_1 r) (K' 0 h (Or.inl ⟨rfl, e4, e⟩))) (fun e => nm_r (nI_1 r) (K' 1 h (Or.inr ⟨rfl, Or.inr e⟩)))⟩) (fun e4 => nm_r (nI_1 r) (K' 1 h (Or.inr ⟨rfl, Or.inl e4⟩)))
  have s510 : ∀ z0, (∀ i, bt z0 i = true ↔ r = bd_a c p ∧ bt g_needA i = true) → wY_analyse_510 post J67 J85 J104 J408 x1 x2 x3 x4 (nI p) (nI t) x8 (nI r) (h_dem (4 * p + r)) z0 (h_dem (4 * p + r) ||| z) (nI (4 * p + r)) (nI W) (bd_lo W) (nI R) (nI C) (nI N) (nI (bd_op c p)) (nI (bd_d c p)) (nI (bd_a c p)) (nI (bd_b c p)) g_x g_y g_needA g_needB g_analysed g_started h_code h_fact h_dem h_res h_inputs h_regs h_pcs h_counts h_logs h_seen := by
    intro z0 h0
    refine pk_eq r (bd_b c p) (fun e => s528 _ _ fun i => ?_) (fun e => s528 _ _ fun i => ?_)
    · rw [b_or, b_or, b_or, Bool.or_eq_true, Bool.or_eq_true, Bool.or_eq_true, h0 i]
      constructor
      · rintro (((y | y) | y) | y)
        · exact Or.inl y
        · exact Or.inr (Or.inl y)
        · exact Or.inr (Or.inr (Or.inl y))
        · exact Or.inr (Or.inr (Or.inr ⟨e, y⟩))
      · rintro (y | y | y | y)
        · exact Or.inl (Or.inl (Or.inl y))
        · exact Or.inl (Or.inl (Or.inr y))
        · exact Or.inl (Or.inr y)
        · exact Or.inr y.2
    · rw [b_or, b_or, b_or, Bool.or_eq_true, Bool.or_eq_true, Bool.or_eq_true, h0 i, b_0]
      constructor
      · rintro (((y | y) | y) | y)
        · exact Or.inl y
        · exact Or.inr (Or.inl y)
        · exact Or.inr (Or.inr (Or.inl y))
        · cases y
      · rintro (y | y | y | y)
        · exact Or.inl (Or.inl (Or.inl y))
        · exact Or.inl (Or.inl (Or.inr y))
        · exact Or.inl (Or.inr y)
        · exact absurd y.1 e
  unfold wY_analyse_475
  rw [bd_iy]
  refine pk_eq r (bd_a c p) (fun e => s510 _ fun i => ⟨fun y => ⟨e, y⟩, fun y => y.2⟩) (fun e => s510 _ fun i => bd_f0 fun y => e y.1)
theorem bd_Y_408 (P : bd_PV W R N c) (hR : R ≤ 4) (hN : N ≤ 24) (hp : p < N) (ht : t ≤ N) (h4 : x4 = 0 ∨ x4 = 1)
    (K : ∀ D' x', bd_S1 R c p t g_needA g_needB h_dem D' x4 x' → J104 x' (nI (t + 1)) h_code h_fact D' h_res h_inputs h_regs h_pcs h_counts h_logs h_seen) :
    ∃ n, wY_analyse_408 post J67 J85 J104 x1 x2 1 (nI p) (nI t) 1 (nI W) (bd_lo W) (nI R) (nI C) (nI N) (nI (bd_op c p)) (nI (bd_d c p)) (nI (bd_a c p)) (nI (bd_b c p)) g_x g_y g_needA g_needB g_analysed g_started n x4 0 h_code h_fact h_dem h_res h_inputs h_regs h_pcs h_counts h_logs h_seen := by
  obtain ⟨v1, v2, v3, v4, v5, v6, v7, v8, v9⟩ := P p hp
  have loop : ∀ m r D' x', r + m = R → (∀ s, s < r → ∀ i, bt (D' (4 * p + s)) i = true ↔ bd_Gy c h_dem g_needA g_needB p t s i) → (∀ j, (∀ s, s < r → ¬ j = 4 * p + s) → D' j = h_dem j) →
      (x' = 0 ∧ x4 = 0 ∧ (∀ s, s < r → D' (4 * p + s) = h_dem (4 * p + s)) ∨ x' = 1 ∧ (¬ x4 = 0 ∨ ∃ s, s < r ∧ ¬ D' (4 * p + s) = h_dem (4 * p + s))) →
      wY_analyse_408 post J67 J85 J104 x1 x2 1 (nI p) (nI t) 1 (nI W) (bd_lo W) (nI R) (nI C) (nI N) (nI (bd_op c p)) (nI (bd_d c p)) (nI (bd_a c p)) (nI (bd_b c p)) g_x g_y g_needA g_needB g_analysed g_started (m + 1) x' (nI r) h_code h_fact D' h_res h_inputs h_regs h_pcs h_counts h_logs h_seen := by
    intro m
    induction m with
    | zero =>
      intro r D' x' hr q1 q2 q3
      obtain rfl : r = R := by omega
      exact br_t (nI_le (Nat.le_refl _) (by omega)) (nm_r (nI_1 t) (K D' x' ⟨q1, q2, q3⟩))
    | succ m ih =>
      intro r D' x' hr q1 q2 q3
      have e1 := q2 (4 * p + r) (fun s hs => by omega)
      have e2 : D' (4 * t + r) = h_dem (4 * t + r) := q2 _ (fun s hs => by omega)
      have step : ∀ z, (∀ i, bt z i = true ↔ ¬ (bd_op c p ≤ 8 ∧ r = bd_d c p) ∧ bt (h_dem (4 * t + r)) i = true) → wY_analyse_475 post J67 J85 J104 (wY_analyse_408 post J67 J85 J104 x1 x2 1 (nI p) (nI t) 1 (nI W) (bd_lo W) (nI R) (nI C) (nI N) (nI (bd_op c p)) (nI (bd_d c p)) (nI (bd_a c p)) (nI (bd_b c p)) g_x g_y g_needA g_needB g_analysed g_started (m + 1)) x1 x2 1 x' (nI p) (nI t) 1 (nI r) (D' (4 * p + r)) z (nI W) (bd_lo W) (nI R) (nI C) (nI N) (nI (bd_op c p)) (nI (bd_d c p)) (nI (bd_a c p)) (nI (bd_b c p)) g_x g_y g_needA g_needB g_analysed g_started h_code h_fact D' h_res h_inputs h_regs h_pcs h_counts h_logs h_seen := by
        intro z hz
        refine bd_Y_475 P hR hN hp (by omega) (fun y x hy hx => ?_)
        rw [e1] at hx
        refine ih (r + 1) _ x (by omega) (fun s hs => ?_) (fun j h => ?_) ?_
        · by_cases e : s = r
          · subst e
            intro i
            rw [pk_us, hy i, hz i, e1]; rfl
          · rw [pk_un (by omega)]; exact q1 s (by omega)
        · rw [pk_un (h r (by omega))]
          exact q2 j (fun s hs => h s (by omega))
        · rcases hx with ⟨w1, w2, w3⟩ | ⟨w1, w2⟩
          · rcases q3 with ⟨y1, y2, y3⟩ | ⟨y1, y2⟩
            · refine Or.inl ⟨w1, y2, fun s hs => ?_⟩
              by_cases e : s = r
              · rw [e, pk_us]; exact w3
              · rw [pk_un (by omega)]; exact y3 s (by omega)
            · rw [y1] at w2; exact absurd w2 (by decide)
          · refine Or.inr ⟨w1, ?_⟩
            rcases w2 with w2 | w2
            · rcases q3 with ⟨y1, y2, y3⟩ | ⟨y1, y2 | ⟨s, y3, y4⟩⟩
              · exact absurd y1 w2
              · exact Or.inl y2
              · exact Or.inr ⟨s, by omega, by rw [pk_un (by omega)]; exact y4⟩
            · exact Or.inr ⟨r, by omega, by rw [pk_us]; exact w2⟩
      have s463 : ¬ (bd_op c p ≤ 8 ∧ r = bd_d c p) → wY_analyse_463 post J67 J85 J104 (wY_analyse_408 post J67 J85 J104 x1 x2 1 (nI p) (nI t) 1 (nI W) (bd_lo W) (nI R) (nI C) (nI N) (nI (bd_op c p)) (nI (bd_d c p)) (nI (bd_a c p)) (nI (bd_b c p)) g_x g_y g_needA g_needB g_analysed g_started (m + 1)) x1 x2 1 x' (nI p) (nI t) 1 (nI r) (D' (4 * p + r)) (nI W) (bd_lo W) (nI R) (nI C) (nI N) (nI (bd_op c p)) (nI (bd_d c p)) (nI (bd_a c p)) (nI (bd_b c p)) g_x g_y g_needA g_needB g_analysed g_started h_code h_fact D' h_res h_inputs h_regs h_pcs h_counts h_logs h_seen := by
        intro h
        unfold wY_analyse_463
        rw [bd_iy, bd_fat (f := D') (p := 4 * t + r) (by omega), e2]
        exact ⟨vp_in_nI (by omega) (by omega), step _ fun i => ⟨fun y => ⟨h, y⟩, fun y => y.2⟩⟩
      refine br_f (nI_ge (by omega) (by omega)) (br_f (by decide) (br_t rfl ?_))
      rw [bd_iy]
      refine ⟨vp_in_nI (by omega) (by omega), nm_r (bd_fat (by omega)) ?_⟩
      refine pk_lt 8 (bd_op c p) (fun h => s463 fun z => by omega) (fun h => ?_)
      have hd := v3 h
      exact pk_eq r (bd_d c p) (fun e => step 0 fun i => bd_f0 fun y => y.1 ⟨h, e⟩) (fun e => s463 fun z => e z.2)
  refine ⟨R + 1, loop R 0 _ x4 (by omega) (fun s hs => by omega) (fun _ _ => rfl) ?_⟩
  rcases h4 with h4 | h4
  · exact Or.inl ⟨h4, h4, fun s hs => by omega⟩
  · exact Or.inr ⟨h4, Or.inl (by rw [h4]; decide)⟩
/-- an edge in phase 1 -/
theorem bd_Y_m1 (P : bd_PV W R N c) (hW : W ≤ 16) (hR : R ≤ 4) (hR0 : 0 < R) (hN : N ≤ 24) (hp : p < N) (ht : t ≤ N) (h01 : ∀ j, h_seen j = 0 ∨ h_seen j = 1) (hcl : ¬ h_seen p = 0 → bd_lv N c (bd_gy W h_fact) p t → ¬ h_seen t = 0) (h4 : x4 = 0 ∨ x4 = 1) {z : Int32} (hz : z = if bd_op c p = 10 then h_fact (64 * p + 16 * bd_a c p + bd_b c p) else 0)
    (K : ∀ D' x', ((¬ h_seen p = 0 ∧ bd_lv N c (bd_gy W h_fact) p t) ∧ bd_S1 R c p t g_needA g_needB h_dem D' x4 x' ∨ ¬ (¬ h_seen p = 0 ∧ bd_lv N c (bd_gy W h_fact) p t) ∧ D' = h_dem ∧ x' = x4) → J104 x' (nI (t + 1)) h_code h_fact D' h_res h_inputs h_regs h_pcs h_counts h_logs h_seen) :
    wY_analyse_140 post J67 J85 J104 x1 x2 1 x4 (nI p) (nI t) z (nI W) (bd_lo W) (nI R) (nI C) (nI N) (nI (bd_op c p)) (nI (bd_d c p)) (nI (bd_a c p)) (nI (bd_b c p)) g_x g_y g_needA g_needB g_analysed g_started h_code h_fact h_dem h_res h_inputs h_regs h_pcs h_counts h_logs h_seen := by
  have h25 : vp_in (nI t) 25 := vp_in_nI (by omega) (by omega)
  refine bd_Y_140 P hW hN hp ht hz (fun a l => ?_) (fun nl => ?_)
  · have st := hcl a l
    have go : ∀ x9 : Int32, ∃ n, wY_analyse_226 post J67 J85 J104 x1 x2 1 (nI p) (nI t) 1 x9 (nI W) (bd_lo W) (nI R) (nI C) (nI N) (nI (bd_op c p)) (nI (bd_d c p)) (nI (bd_a c p)) (nI (bd_b c p)) g_x g_y g_needA g_needB g_analysed g_started n x4 0 h_code h_fact h_dem h_res h_inputs h_regs h_pcs h_counts h_logs h_seen := by
      intro x9
      refine ⟨1, br_f (by decide) (br_f (by decide) (br_f (by decide) ?_))⟩
      refine bd_Y_378 (by omega) (h01 t) (Or.inr rfl) (fun sn hsn => ?_)
      have esn : sn = h_seen := by
        rcases hsn with g | g
        · exact g.2
        · rw [g.2, ← (h01 t).resolve_left st]; exact bd_us'
      rw [esn]
      exact bd_Y_408 P hR hN hp ht h4 (fun D' x' S => K D' x' (Or.inl ⟨⟨a, l⟩, S⟩))
    exact And.intro h25 (br_c (fun e => go 1) (fun e => go 0))
  · have dead : ∀ x9 : Int32, ∃ n, wY_analyse_226 post J67 J85 J104 x1 x2 1 (nI p) (nI t) 0 x9 (nI W) (bd_lo W) (nI R) (nI C) (nI N) (nI (bd_op c p)) (nI (bd_d c p)) (nI (bd_a c p)) (nI (bd_b c p)) g_x g_y g_needA g_needB g_analysed g_started n x4 0 h_code h_fact h_dem h_res h_inputs h_regs h_pcs h_counts h_logs h_seen := by
      intro x9
      refine ⟨1, br_f (by decide) (br_t rfl ?_)⟩
      refine bd_Y_378 (by omega) (h01 t) (Or.inl rfl) (fun sn hsn => ?_)
      have esn : sn = h_seen := by
        rcases hsn with g | g
        · exact g.2
        · exact absurd g.1 (by decide)
      rw [esn]
      exact ⟨1, br_f (nI_nle hR0 (by omega)) (br_t rfl (nm_r (nI_1 t) (K _ _ (Or.inr ⟨nl, rfl, rfl⟩))))⟩
    exact And.intro h25 (br_c (fun _ => dead 1) (fun _ => dead 0))
end
/-- a sweep of phase 1, so far -/
def bd_S2 (W R N : Nat) (c : Nat → Nat) (F : Nat → Prop) (G : Nat → Nat → Nat → Int32) (D0 D : Nat → Int32) (x : Int32) (Dn : Nat → Nat → Prop) : Prop :=
  bd_IB W R N c F G D ∧ (x = 0 ∧ D = D0 ∧ (∀ p t, Dn p t → F p → bd_lv N c G p t → bd_C1 W R N c G D p t) ∨ x = 1 ∧ bd_PB D < bd_PB D0)
theorem bd_S2_m {W R N : Nat} {c : Nat → Nat} {F : Nat → Prop} {G : Nat → Nat → Nat → Int32} {D0 D : Nat → Int32} {x : Int32} {Dn Dn' : Nat → Nat → Prop} (h : bd_S2 W R N c F G D0 D x Dn) (m : ∀ p t, Dn' p t → F p → bd_lv N c G p t → Dn p t) : bd_S2 W R N c F G D0 D x Dn' := by
  obtain ⟨h1, h2⟩ := h
  refine ⟨h1, ?_⟩
  rcases h2 with ⟨a, b, d⟩ | h2
  · exact Or.inl ⟨a, b, fun p t q f l => d p t (m p t q f l) f l⟩
  · exact Or.inr h2
section
variable {W R N C : Nat} {c : Nat → Nat} {p : Nat}
variable {g_w g_m g_rs g_cap g_n g_op g_d g_a g_b g_x g_y g_needA g_needB g_analysed g_started : Int32} {h_code h_fact h_dem h_res h_inputs h_regs h_pcs h_counts h_logs h_seen : Nat → Int32}
variable {post : Int32 → SY → Prop} {J67 J85 : Int32 → Int32 → Int32 → Int32 → Int32 → Int32 → Int32 → Int32 → Int32 → Int32 → Int32 → Int32 → Int32 → Int32 → Int32 → Int32 → Int32 → (Nat → Int32) → (Nat → Int32) → (Nat → Int32) → (Nat → Int32) → (Nat → Int32) → (Nat → Int32) → (Nat → Int32) → (Nat → Int32) → (Nat → Int32) → (Nat → Int32) → Prop} {x1 x2 x3 k : Int32}
theorem bd_Y_t1 (P : bd_PV W R N c) (hW : W ≤ 16) (hR : R ≤ 4) (hR0 : 0 < R) (hN : N ≤ 24) (hp : p < N) (I : bd_YI W R N c h_seen h_fact) (Kc : bd_Cl W R N c (fun q => ¬ h_seen q = 0) (bd_gy W h_fact)) {D0 Dp : Nat → Int32} (Ip : bd_IB W R N c (fun q => ¬ h_seen q = 0) (bd_gy W h_fact) Dp)
    (dec : ¬ h_seen p = 0 → bd_Dec W (bd_op c p) (bd_b c p) (bd_gy W h_fact p (bd_a c p)) (bd_gy W h_fact p (bd_ub c p)) (bd_qq c Dp p) k g_needA g_needB)
    (K : ∀ D x, bd_S2 W R N c (fun q => ¬ h_seen q = 0) (bd_gy W h_fact) D0 D x (fun a _ => a < p + 1) → J85 x (nI (p + 1)) (nI W) (bd_lo W) (nI R) (nI C) (nI N) (nI (bd_op c p)) (nI (bd_d c p)) (nI (bd_a c p)) (nI (bd_b c p)) (nI (64 * p + 16 * bd_a c p)) g_y g_needA g_needB g_analysed g_started h_code h_fact D h_res h_inputs h_regs h_pcs h_counts h_logs h_seen) :
    ∀ m t D x, t + m = N + 1 → bd_S2 W R N c (fun q => ¬ h_seen q = 0) (bd_gy W h_fact) D0 D x (fun a b => a < p ∨ (a = p ∧ b < t)) → (x = 0 → Dp = D) →
      wY_analyse_104 post J67 J85 x1 x2 1 (nI p) (nI W) (bd_lo W) (nI R) (nI C) (nI N) (nI (bd_op c p)) (nI (bd_d c p)) (nI (bd_a c p)) (nI (bd_b c p)) (nI (64 * p + 16 * bd_a c p)) g_y g_needA g_needB g_analysed g_started (m + 1) x (nI t) h_code h_fact D h_res h_inputs h_regs h_pcs h_counts h_logs h_seen := by
  obtain ⟨v1, v2, v3, v4, v5, v6, v7, v8, v9⟩ := P p hp
  intro m
  induction m with
  | zero =>
    intro t D x ht Q hd
    obtain rfl : t = N + 1 := by omega
    refine br_t (nI_lt (by omega) (by omega)) (nm_r (nI_1 p) (K D x (bd_S2_m Q (fun a b h f l => ?_))))
    by_cases e : a = p
    · have := bd_lv_le (by omega) l
      exact Or.inr ⟨e, by omega⟩
    · exact Or.inl (by omega)
  | succ m ih =>
    intro t D x ht Q hd
    have x01 : x = 0 ∨ x = 1 := Q.2.imp And.left And.left
    have step : ∀ z, z = (if bd_op c p = 10 then h_fact (64 * p + 16 * bd_a c p + bd_b c p) else 0) → wY_analyse_140 post J67 J85 (wY_analyse_104 post J67 J85 x1 x2 1 (nI p) (nI W) (bd_lo W) (nI R) (nI C) (nI N) (nI (bd_op c p)) (nI (bd_d c p)) (nI (bd_a c p)) (nI (bd_b c p)) (nI (64 * p + 16 * bd_a c p)) g_y g_needA g_needB g_analysed g_started (m + 1)) x1 x2 1 x (nI p) (nI t) z (nI W) (bd_lo W) (nI R) (nI C) (nI N) (nI (bd_op c p)) (nI (bd_d c p)) (nI (bd_a c p)) (nI (bd_b c p)) (nI (64 * p + 16 * bd_a c p)) g_y g_needA g_needB g_analysed g_started h_code h_fact D h_res h_inputs h_regs h_pcs h_counts h_logs h_seen := by
      intro z hz
      refine bd_Y_m1 P hW hR hR0 hN hp (by omega) I.2.1 (fun a l => (Kc.2.2 p hp a t l).1) x01 hz (fun D' x' h => ?_)
      rcases h with ⟨⟨a, l⟩, S⟩ | ⟨nl, rfl, rfl⟩
      · obtain ⟨a1, a2, a3, a4⟩ := bd_ys1 P hW hR hN (bd_gy_3 I.1) Q.1 Ip hp a l (dec a) S
        have s01 : x' = 0 ∨ x' = 1 := S.2.2.imp And.left And.left
        refine ih (t + 1) D' x' (by omega) ⟨a1, ?_⟩ (fun e => ?_)
        · rcases s01 with e | e
          · obtain ⟨b1, b2, b3⟩ := a2 e
            rcases Q.2 with ⟨q1, q2, q3⟩ | ⟨q1, q2⟩
            · refine Or.inl ⟨e, b2.trans q2, fun a' b' d' f' l' => ?_⟩
              rw [b2]
              rcases d' with y | y
              · exact q3 a' b' (Or.inl y) f' l'
              · by_cases g : b' = t
                · obtain ⟨y1, -⟩ := y
                  subst y1; subst g
                  exact b3 (hd q1)
                · exact q3 a' b' (Or.inr ⟨y.1, by omega⟩) f' l'
            · rw [b1] at q1; exact absurd q1 (by decide)
          · refine Or.inr ⟨e, ?_⟩
            rcases Q.2 with ⟨q1, q2, q3⟩ | ⟨q1, q2⟩
            · have := a4 e q1
              rw [q2] at this
              exact this
            · omega
        · obtain ⟨b1, b2, b3⟩ := a2 e
          rw [b2]; exact hd b1
      · refine ih (t + 1) _ _ (by omega) (bd_S2_m Q (fun a b h f l => ?_)) hd
        rcases h with h | h
        · exact Or.inl h
        · by_cases g : b = t
          · rw [h.1, g] at l
            rw [h.1] at f
            exact absurd ⟨f, l⟩ nl
          · exact Or.inr ⟨h.1, by omega⟩
    refine br_f (nI_nlt (by omega) (by omega)) (pk_eq (bd_op c p) 10 (fun h => ?_) (fun h => ?_))
    · have hb := v5 (Or.inr (Or.inr h))
      rw [nI_add, bd_fat (f := h_fact) (p := 64 * p + 16 * bd_a c p + bd_b c p) (by omega)]
      exact ⟨vp_in_nI (by omega) (by omega), step _ (by rw [if_pos h])⟩
    · exact step 0 (by rw [if_neg h])
theorem bd_Y_p1 (hc : bd_YC N c h_code) (P : bd_PV W R N c) (hW : W ≤ 16) (hW0 : 0 < W) (hR : R ≤ 4) (hR0 : 0 < R) (hN : N ≤ 24) (I : bd_YI W R N c h_seen h_fact) (Kc : bd_Cl W R N c (fun q => ¬ h_seen q = 0) (bd_gy W h_fact)) {D0 : Nat → Int32} {s : Nat}
    (K0 : ∀ o d a b x y nA nB res D, bd_F3 res → bd_IB W R N c (fun q => ¬ h_seen q = 0) (bd_gy W h_fact) D → bd_PB D < bd_PB D0 → J67 (nI (s + 1)) 1 (nI W) (bd_lo W) (nI R) (nI C) (nI N) o d a b x y nA nB 1 g_started h_code h_fact D res h_inputs h_regs h_pcs h_counts h_logs h_seen)
    (K1 : ∀ o d a b x y nA nB res, bd_F3 res → bd_IB W R N c (fun q => ¬ h_seen q = 0) (bd_gy W h_fact) D0 → bd_CB W R N c (fun q => ¬ h_seen q = 0) (bd_gy W h_fact) D0 → J67 (nI (s + 1)) 2 (nI W) (bd_lo W) (nI R) (nI C) (nI N) o d a b x y nA nB 1 g_started h_code h_fact D0 res h_inputs h_regs h_pcs h_counts h_logs h_seen) :
    ∀ m p o d a b x y nA nB res D x4, p + m = N → bd_F3 res → bd_S2 W R N c (fun q => ¬ h_seen q = 0) (bd_gy W h_fact) D0 D x4 (fun a _ => a < p) →
      wY_analyse_85 post J67 x1 (nI s) 1 (m + 1) x4 (nI p) (nI W) (bd_lo W) (nI R) (nI C) (nI N) o d a b x y nA nB 1 g_started h_code h_fact D res h_inputs h_regs h_pcs h_counts h_logs h_seen := by
  intro m
  induction m with
  | zero =>
    intro p o d a b x y nA nB res D x4 hp r3 Q
    obtain rfl : p = N := by omega
    refine br_t (nI_le (Nat.le_refl _) (by omega)) ?_
    rcases Q.2 with ⟨rfl, rfl, q4⟩ | ⟨rfl, q2⟩
    · refine br_t rfl (nm_r (e' := 2) rfl (nm_r (nI_1 s) (K1 _ _ _ _ _ _ _ _ _ r3 Q.1 ⟨Q.1.1, fun p hp fp t l => q4 p t hp fp l⟩)))
    · exact br_f (by decide) (nm_r (nI_1 s) (K0 _ _ _ _ _ _ _ _ _ _ r3 Q.1 q2))
  | succ m ih =>
    intro p o d a b x y nA nB res D x4 hp r3 Q
    refine br_f (nI_ge (by omega) (by omega)) ?_
    refine bd_Y_dec hc P hW hW0 hN hR (by omega) I.1 r3 Q.1.1 (fun k nA nB res' r1 r2 d1 d2 => ⟨N + 2, ?_⟩)
    refine bd_Y_t1 P hW hR hR0 hN (by omega) I Kc Q.1 d1 (fun D' x' Q' => ?_) (N + 1) 0 D x4 (by omega) (bd_S2_m Q (fun a b h f l => ?_)) (fun _ => rfl)
    · exact ih (p + 1) _ _ _ _ _ _ _ _ _ _ _ (by omega) r1 Q'
    · rcases h with h | h
      · exact h
      · omega
end
end
section
/-! ===== the reference's analysis as a whole ===== -/
def bd_Kap (W N : Nat) (c : Nat → Nat) (sn f D κ : Nat → Int32) : Prop := ∀ p, p < N → (¬ sn p = 0 → bd_kd W c (bd_gy W f) p (bd_qq c D p) (κ p)) ∧ (sn p = 0 → κ p = 1)
section
variable {W R N C : Nat} {c : Nat → Nat}
variable {g_w g_m g_rs g_cap g_n g_op g_d g_a g_b g_x g_y g_needA g_needB g_analysed g_started : Int32} {h_code h_fact h_dem h_res h_inputs h_regs h_pcs h_counts h_logs h_seen : Nat → Int32}
variable {post : Int32 → SY → Prop}
theorem bd_Y_593 (hc : bd_YC N c h_code) (P : bd_PV W R N c) (hW : W ≤ 16) (hW0 : 0 < W) (hR : R ≤ 4) (hN : N ≤ 24) (h3 : bd_F3 h_fact) (mD : ∀ j, bd_mk W (h_dem j))
    (K : ∀ o d a b x y nA nB res r, bd_F3 res → (∀ κ, bd_Kap W N c h_seen h_fact h_dem κ → r = nI (bd_ck κ N)) → post r (nI W, bd_lo W, nI R, nI C, nI N, o, d, a, b, x, y, nA, nB, 1, g_started, h_code, h_fact, h_dem, res, h_inputs, h_regs, h_pcs, h_counts, h_logs, h_seen)) :
    ∀ m p o d a b x y nA nB res r, p + m = N → bd_F3 res → (∀ κ, bd_Kap W N c h_seen h_fact h_dem κ → r = nI (bd_ck κ p)) → wY_analyse_593 post (m + 1) r (nI p) (nI W) (bd_lo W) (nI R) (nI C) (nI N) o d a b x y nA nB 1 g_started h_code h_fact h_dem res h_inputs h_regs h_pcs h_counts h_logs h_seen := by
  intro m
  induction m with
  | zero =>
    intro p o d a b x y nA nB res r hp r3 hr
    obtain rfl : p = N := by omega
    exact br_t (nI_le (Nat.le_refl _) (by omega)) (K _ _ _ _ _ _ _ _ _ r r3 hr)
  | succ m ih =>
    intro p o d a b x y nA nB res r hp r3 hr
    refine br_f (nI_ge (by omega) (by omega)) ?_
    refine bd_Y_dec hc P hW hW0 hN hR (by omega) h3 r3 mD (fun k nA nB res' r1 r2 d1 d2 => ?_)
    have ek : ∀ κ, bd_Kap W N c h_seen h_fact h_dem κ → κ p = k := by
      intro κ hκ
      obtain ⟨q1, q2⟩ := hκ p (by omega)
      by_cases s : h_seen p = 0
      · rw [q2 s, (d2 s).1]
      · exact bd_KD_u (q1 s) (d1 s).1
    refine br_c (fun e => nm_r (nI_1 p) (ih (p + 1) _ _ _ _ _ _ _ _ _ _ (by omega) r1 (fun κ hκ => ?_))) (fun e => nm_e (nm_r (nI_1 p) (ih (p + 1) _ _ _ _ _ _ _ _ _ _ (by omega) r1 (fun κ hκ => ?_))))
    · rw [hr κ hκ, bd_ck, ek κ hκ, if_pos e]; rfl
    · rw [hr κ hκ, bd_ck, ek κ hκ, if_neg e, nI_1]
theorem bd_Y_ph2 (hc : bd_YC N c h_code) (P : bd_PV W R N c) (hW : W ≤ 16) (hW0 : 0 < W) (hR : R ≤ 4) (hN : N ≤ 24) (h3 : bd_F3 h_fact) (mD : ∀ j, bd_mk W (h_dem j)) (r3 : bd_F3 h_res)
    (K : ∀ o d a b x y nA nB res r, bd_F3 res → (∀ κ, bd_Kap W N c h_seen h_fact h_dem κ → r = nI (bd_ck κ N)) → post r (nI W, bd_lo W, nI R, nI C, nI N, o, d, a, b, x, y, nA, nB, 1, g_started, h_code, h_fact, h_dem, res, h_inputs, h_regs, h_pcs, h_counts, h_logs, h_seen)) (n : Nat) (x2 : Int32) :
    wY_analyse_67 post 0 (n + 1) x2 2 (nI W) (bd_lo W) (nI R) (nI C) (nI N) g_op g_d g_a g_b g_x g_y g_needA g_needB 1 g_started h_code h_fact h_dem h_res h_inputs h_regs h_pcs h_counts h_logs h_seen := by
  have go : ∃ n593, wY_analyse_593 post n593 0 0 (nI W) (bd_lo W) (nI R) (nI C) (nI N) g_op g_d g_a g_b g_x g_y g_needA g_needB 1 g_started h_code h_fact h_dem h_res h_inputs h_regs h_pcs h_counts h_logs h_seen := ⟨N + 1, bd_Y_593 hc P hW hW0 hR hN h3 mD K N 0 _ _ _ _ _ _ _ _ _ 0 (by omega) r3 (fun κ _ => rfl)⟩
  exact br_c (fun _ => go) (fun _ => br_t (by decide) go)
theorem bd_Y_ph1 (hc : bd_YC N c h_code) (P : bd_PV W R N c) (hW : W ≤ 16) (hW0 : 0 < W) (hR : R ≤ 4) (hR0 : 0 < R) (hN : N ≤ 24) (I : bd_YI W R N c h_seen h_fact) (Kc : bd_Cl W R N c (fun q => ¬ h_seen q = 0) (bd_gy W h_fact))
    (K : ∀ o d a b x y nA nB res D r, bd_F3 res → bd_IB W R N c (fun q => ¬ h_seen q = 0) (bd_gy W h_fact) D → bd_CB W R N c (fun q => ¬ h_seen q = 0) (bd_gy W h_fact) D → (∀ κ, bd_Kap W N c h_seen h_fact D κ → r = nI (bd_ck κ N)) → post r (nI W, bd_lo W, nI R, nI C, nI N, o, d, a, b, x, y, nA, nB, 1, g_started, h_code, h_fact, D, res, h_inputs, h_regs, h_pcs, h_counts, h_logs, h_seen)) :
    ∀ m s o d a b x y nA nB res D n, bd_F3 res → bd_IB W R N c (fun q => ¬ h_seen q = 0) (bd_gy W h_fact) D → bd_PB D ≤ m → s + m < 4000 → m + 2 ≤ n →
      wY_analyse_67 post 0 n (nI s) 1 (nI W) (bd_lo W) (nI R) (nI C) (nI N) o d a b x y nA nB 1 g_started h_code h_fact D res h_inputs h_regs h_pcs h_counts h_logs h_seen := by
  intro m
  induction m with
  | zero =>
    intro s o d a b x y nA nB res D n r3 IB hm hs hn
    obtain ⟨n', rfl⟩ : ∃ n', n = n' + 2 := ⟨n - 2, by omega⟩
    refine br_f (nI_ge (b := 4000) (by omega) (by omega)) (br_f (by decide) ⟨N + 1, ?_⟩)
    refine bd_Y_p1 hc P hW hW0 hR hR0 hN I Kc (D0 := D) (fun o d a b x y nA nB res D' _ _ h => by omega) (fun o d a b x y nA nB res r3 IB CB => ?_) N 0 _ _ _ _ _ _ _ _ _ _ 0 (by omega) r3 ⟨IB, Or.inl ⟨rfl, rfl, fun p t h => by omega⟩⟩
    exact bd_Y_ph2 hc P hW hW0 hR hN I.1 IB.1 r3 (fun o d a b x y nA nB res r r3 hr => K _ _ _ _ _ _ _ _ _ _ _ r3 IB CB hr) n' _
  | succ m ih =>
    intro s o d a b x y nA nB res D n r3 IB hm hs hn
    obtain ⟨n', rfl⟩ : ∃ n', n = n' + 2 := ⟨n - 2, by omega⟩
    refine br_f (nI_ge (b := 4000) (by omega) (by omega)) (br_f (by decide) ⟨N + 1, ?_⟩)
    refine bd_Y_p1 hc P hW hW0 hR hR0 hN I Kc (D0 := D) (fun o d a b x y nA nB res D' r3 IB h => ?_) (fun o d a b x y nA nB res r3 IB CB => ?_) N 0 _ _ _ _ _ _ _ _ _ _ 0 (by omega) r3 ⟨IB, Or.inl ⟨rfl, rfl, fun p t h => by omega⟩⟩
    · exact ih (s + 1) _ _ _ _ _ _ _ _ _ _ _ r3 IB (by omega) (by omega) (by omega)
    · exact bd_Y_ph2 hc P hW hW0 hR hN I.1 IB.1 r3 (fun o d a b x y nA nB res r r3 hr => K _ _ _ _ _ _ _ _ _ _ _ r3 IB CB hr) n' _
theorem bd_Y_ph0 (hc : bd_YC N c h_code) (P : bd_PV W R N c) (hW : W ≤ 16) (hW0 : 0 < W) (hR : R ≤ 4) (hR0 : 0 < R) (hN : N ≤ 24) (zd : ∀ j, h_dem j = 0)
    (K : ∀ o d a b x y nA nB res f sn D r, bd_F3 res → bd_YI W R N c sn f → bd_Cl W R N c (fun q => ¬ sn q = 0) (bd_gy W f) → bd_IB W R N c (fun q => ¬ sn q = 0) (bd_gy W f) D → bd_CB W R N c (fun q => ¬ sn q = 0) (bd_gy W f) D → (∀ κ, bd_Kap W N c sn f D κ → r = nI (bd_ck κ N)) → post r (nI W, bd_lo W, nI R, nI C, nI N, o, d, a, b, x, y, nA, nB, 1, g_started, h_code, f, D, res, h_inputs, h_regs, h_pcs, h_counts, h_logs, sn)) :
    ∀ m s o d a b x y nA nB res f sn n, bd_F3 res → bd_YI W R N c sn f → bd_Ps (fun q => ¬ sn q = 0) f ≤ m → s + m + 1601 < 4000 → m + 1604 ≤ n →
      wY_analyse_67 post 0 n (nI s) 0 (nI W) (bd_lo W) (nI R) (nI C) (nI N) o d a b x y nA nB 1 g_started h_code f h_dem res h_inputs h_regs h_pcs h_counts h_logs sn := by
  have mD : ∀ j, bd_mk W (h_dem j) := fun j => by rw [zd j]; exact bd_mk0 W
  intro m
  induction m with
  | zero =>
    intro s o d a b x y nA nB res f sn n r3 I hm hs hn
    obtain ⟨n', rfl⟩ : ∃ n', n = n' + 1 := ⟨n - 1, by omega⟩
    refine br_f (nI_ge (b := 4000) (by omega) (by omega)) (br_f (by decide) ⟨N + 1, ?_⟩)
    refine bd_Y_p0 hc P hW hW0 hR hR0 hN mD (f0 := f) (sn0 := sn) (fun o d a b x y nA nB res f' sn' _ _ h => by omega) (fun o d a b x y nA nB res r3 I Cl => ?_) N 0 _ _ _ _ _ _ _ _ _ _ _ 0 (by omega) r3 ⟨I, Or.inl ⟨rfl, rfl, rfl, fun p t h => by omega⟩⟩
    exact bd_Y_ph1 hc P hW hW0 hR hR0 hN I Cl (fun o d a b x y nA nB res D r r3 IB CB hr => K _ _ _ _ _ _ _ _ _ _ _ _ _ r3 I Cl IB CB hr) 1600 (s + 1) _ _ _ _ _ _ _ _ _ _ n' r3 (bd_IB_0 zd) (bd_PB_le _) (by omega) (by omega)
  | succ m ih =>
    intro s o d a b x y nA nB res f sn n r3 I hm hs hn
    obtain ⟨n', rfl⟩ : ∃ n', n = n' + 1 := ⟨n - 1, by omega⟩
    refine br_f (nI_ge (b := 4000) (by omega) (by omega)) (br_f (by decide) ⟨N + 1, ?_⟩)
    refine bd_Y_p0 hc P hW hW0 hR hR0 hN mD (f0 := f) (sn0 := sn) (fun o d a b x y nA nB res f' sn' r3 I h => ?_) (fun o d a b x y nA nB res r3 I Cl => ?_) N 0 _ _ _ _ _ _ _ _ _ _ _ 0 (by omega) r3 ⟨I, Or.inl ⟨rfl, rfl, rfl, fun p t h => by omega⟩⟩
    · exact ih (s + 1) _ _ _ _ _ _ _ _ _ _ _ _ r3 I (by omega) (by omega) (by omega)
    · exact bd_Y_ph1 hc P hW hW0 hR hR0 hN I Cl (fun o d a b x y nA nB res D r r3 IB CB hr => K _ _ _ _ _ _ _ _ _ _ _ _ _ r3 I Cl IB CB hr) 1600 (s + 1) _ _ _ _ _ _ _ _ _ _ n' r3 (bd_IB_0 zd) (bd_PB_le _) (by omega) (by omega)
theorem bd_Y_an (hc : bd_YC N c h_code) (P : bd_PV W R N c) (hW : W ≤ 16) (hW0 : 0 < W) (hR : R ≤ 4) (hR0 : 0 < R) (hN : N ≤ 24) (hN0 : 0 < N) (zd : ∀ j, h_dem j = 0) (zf : ∀ j, h_fact j = 0) (zs : ∀ j, h_seen j = 0) (r3 : bd_F3 h_res)
    (K : ∀ o d a b x y nA nB res f sn D r, bd_F3 res → bd_YI W R N c sn f → bd_Cl W R N c (fun q => ¬ sn q = 0) (bd_gy W f) → bd_IB W R N c (fun q => ¬ sn q = 0) (bd_gy W f) D → bd_CB W R N c (fun q => ¬ sn q = 0) (bd_gy W f) D → (∀ κ, bd_Kap W N c sn f D κ → r = nI (bd_ck κ N)) → post r (nI W, bd_lo W, nI R, nI C, nI N, o, d, a, b, x, y, nA, nB, 1, g_started, h_code, f, D, res, h_inputs, h_regs, h_pcs, h_counts, h_logs, sn)) :
    wpY_analyse post (nI W, bd_lo W, nI R, nI C, nI N, g_op, g_d, g_a, g_b, g_x, g_y, g_needA, g_needB, 0, g_started, h_code, h_fact, h_dem, h_res, h_inputs, h_regs, h_pcs, h_counts, h_logs, h_seen) := by
  have loop : ∀ m k f, k + m = 64 → (∀ j, j < k → f j = 2) → (∀ j, k ≤ j → f j = 0) → wY_analyse_44 post 0 (nI W) (bd_lo W) (nI R) (nI C) (nI N) g_op g_d g_a g_b g_x g_y g_needA g_needB 1 g_started (m + 1) (nI k) h_code f h_dem h_res h_inputs h_regs h_pcs h_counts h_logs (upd h_seen 0 1) := by
    intro m
    induction m with
    | zero =>
      intro k f hk h1 h2
      obtain rfl : k = 64 := by omega
      refine br_t (nI_le (a := 64) (b := 64) (by omega) (by omega)) ⟨3229, ?_⟩
      have hat : ∀ t, ¬ upd h_seen 0 1 t = 0 ↔ t = 0 := by
        intro t
        by_cases e : t = 0
        · rw [e, pk_us]; exact ⟨fun _ => rfl, fun _ => by decide⟩
        · rw [pk_un e, zs]; exact ⟨fun q => absurd rfl q, fun q => absurd q e⟩
      refine bd_Y_ph0 hc P hW hW0 hR hR0 hN zd K 1625 0 _ _ _ _ _ _ _ _ _ f _ 3229 r3 ⟨fun j => ?_, fun j => ?_, (hat 0).mpr rfl, fun r hr => ?_, fun S V _ Kc p hp fp => ?_⟩ (bd_Ps_le _ _) (by omega) (by omega)
      · rcases Nat.lt_or_ge j 64 with z | z
        · rw [h1 j z]; exact Or.inr (Or.inr rfl)
        · rw [h2 j z]; exact Or.inl rfl
      · by_cases e : j = 0
        · rw [e, pk_us]; exact Or.inr rfl
        · rw [pk_un e]; exact Or.inl (zs j)
      · funext i
        unfold bd_gy
        rcases Nat.lt_or_ge i W with z | z
        · rw [bd_at_lt z, h1 _ (by omega)]
        · exact bd_tr_ge z
      · obtain rfl := (hat p).mp fp
        exact ⟨Kc.1, fun r hr i => Or.inl (by rw [Kc.2.1 r hr])⟩
    | succ m ih =>
      intro k f hk h1 h2
      refine br_f (nI_ge (b := 64) (by omega) (by omega)) ⟨vp_in_nI (by omega) (by omega), nm_r (bd_uat (by omega) rfl) (nm_r (nI_1 k) (ih (k + 1) _ (by omega) (fun j hj => ?_) (fun j hj => ?_)))⟩
      · by_cases e : j = k
        · rw [e, pk_us]
        · rw [pk_un e]; exact h1 j (by omega)
      · rw [pk_un (by omega)]; exact h2 j (by omega)
  refine br_t rfl (br_f (nI_ne0 hN0 (by omega)) (nm_e ⟨65, ?_⟩))
  exact loop 64 0 _ (by omega) (fun j hj => by omega) (fun j _ => zf j)
end
end
section
/-! ===== the relation ===== -/
def bd_Post (W R N : Nat) (c : Nat → Nat) (at' k0 k1 D r0 r1 n1 n2 wn kd wd f hD sn : Nat → Int32) : Prop :=
  bd_XJ W R N c 25 at' k0 k1 r0 r1 n1 n2 0 ∧ bd_XB W R N c at' (bd_gx W k0 k1) D kd wn 0 ∧ bd_YI W R N c sn f ∧
  (∀ p, p ≤ N → (at' p = 0 ↔ sn p = 0) ∧ (¬ at' p = 0 → ∀ r, r < R → bd_gx W k0 k1 p r = bd_gy W f p r)) ∧
  (∀ j, bd_mk W (hD j)) ∧ (∀ p, p ≤ N → ∀ r, r < R → hD (4 * p + r) = D (4 * p + r)) ∧ bd_Kap W N c sn f hD kd ∧ (∀ r, r < R → wd r = nI (bd_bl (bd_un D r (N + 1)) 32))
def bd_Inv (W R N C : Nat) (c : Nat → Nat) (an st : Int32) (fo fd fa fb at' k0 k1 D r0 r1 n1 n2 wn kd wd ip rg pc ct code f hD res sn : Nat → Int32) : Prop :=
  (4 ≤ W ∧ W ≤ 16 ∧ 2 ≤ R ∧ R ≤ 4 ∧ 4 ≤ C ∧ C ≤ 24 ∧ N ≤ C) ∧ bd_XC N c fo fd fa fb ∧ bd_YC N c code ∧ bd_PV W R N c ∧
  (an = 0 ∨ an = 1) ∧ (st = 0 ∨ st = 1) ∧ (st = 1 → an = 1) ∧ (∀ j, bd_mk W (ip j)) ∧ bd_F3 res ∧
  (an = 0 → (∀ j, at' j = 0) ∧ (∀ j, k0 j = 0) ∧ (∀ j, k1 j = 0) ∧ (∀ j, D j = 0) ∧ (∀ j, hD j = 0) ∧ (∀ j, f j = 0) ∧ (∀ j, sn j = 0)) ∧
  (an = 1 → bd_Post W R N c at' k0 k1 D r0 r1 n1 n2 wn kd wd f hD sn) ∧
  (∀ j, bd_mk W (rg j)) ∧ (∀ s, s < 2 → ∃ q, q ≤ N ∧ pc s = nI q) ∧ (∀ s, s < 2 → ∃ k, k ≤ 16 ∧ ct s = nI k)
def i_Rel (k : Nat) (u : SX) (v : SY) : Prop := ∃ (W R N C : Nat) (c : Nat → Nat) (an st f_pending f_a0 f_a1 f_b0 f_b1 f_needA f_needB f_chain g_op g_d g_a g_b g_x g_y g_needA g_needB : Int32) (a_fop a_fd a_fa a_fb a_at a_k0 a_k1 a_dem a_r0 a_r1 a_next1 a_next2 a_want a_kind a_widths a_inputs a_regs a_pcs a_logs a_counts h_code h_fact h_dem h_res h_seen : Nat → Int32),
  bd_Inv W R N C c an st a_fop a_fd a_fa a_fb a_at a_k0 a_k1 a_dem a_r0 a_r1 a_next1 a_next2 a_want a_kind a_widths a_inputs a_regs a_pcs a_counts h_code h_fact h_dem h_res h_seen ∧ u = (nI W, nI R, nI C, bd_lo W, nI N, an, f_pending, f_a0, f_a1, f_b0, f_b1, f_needA, f_needB, f_chain, st, a_fop, a_fd, a_fa, a_fb, a_at, a_k0, a_k1, a_dem, a_r0, a_r1, a_next1, a_next2, a_want, a_kind, a_widths, a_inputs, a_regs, a_pcs, a_logs, a_counts) ∧ v = (nI W, bd_lo W, nI R, nI C, nI N, g_op, g_d, g_a, g_b, g_x, g_y, g_needA, g_needB, an, st, h_code, h_fact, h_dem, h_res, a_inputs, a_regs, a_pcs, a_counts, a_logs, h_seen)
theorem bd_el {k : Nat} {u : SX} {v : SY} {P : SX → SY → Prop}
    (h : ∀ (W R N C : Nat) (c : Nat → Nat) (an st f_pending f_a0 f_a1 f_b0 f_b1 f_needA f_needB f_chain g_op g_d g_a g_b g_x g_y g_needA g_needB : Int32) (a_fop a_fd a_fa a_fb a_at a_k0 a_k1 a_dem a_r0 a_r1 a_next1 a_next2 a_want a_kind a_widths a_inputs a_regs a_pcs a_logs a_counts h_code h_fact h_dem h_res h_seen : Nat → Int32),
      bd_Inv W R N C c an st a_fop a_fd a_fa a_fb a_at a_k0 a_k1 a_dem a_r0 a_r1 a_next1 a_next2 a_want a_kind a_widths a_inputs a_regs a_pcs a_counts h_code h_fact h_dem h_res h_seen → P (nI W, nI R, nI C, bd_lo W, nI N, an, f_pending, f_a0, f_a1, f_b0, f_b1, f_needA, f_needB, f_chain, st, a_fop, a_fd, a_fa, a_fb, a_at, a_k0, a_k1, a_dem, a_r0, a_r1, a_next1, a_next2, a_want, a_kind, a_widths, a_inputs, a_regs, a_pcs, a_logs, a_counts) (nI W, bd_lo W, nI R, nI C, nI N, g_op, g_d, g_a, g_b, g_x, g_y, g_needA, g_needB, an, st, h_code, h_fact, h_dem, h_res, a_inputs, a_regs, a_pcs, a_counts, a_logs, h_seen)) (I : i_Rel k u v) : P u v :=
  Exists.elim I fun W I => Exists.elim I fun R I => Exists.elim I fun N I => Exists.elim I fun C I => Exists.elim I fun c I => Exists.elim I fun an I => Exists.elim I fun st I => Exists.elim I fun f_pending I => Exists.elim I fun f_a0 I => Exists.elim I fun f_a1 I => Exists.elim I fun f_b0 I => Exists.elim I fun f_b1 I => Exists.elim I fun f_needA I => Exists.elim I fun f_needB I => Exists.elim I fun f_chain I =>
  Exists.elim I fun g_op I => Exists.elim I fun g_d I => Exists.elim I fun g_a I => Exists.elim I fun g_b I => Exists.elim I fun g_x I => Exists.elim I fun g_y I => Exists.elim I fun g_needA I => Exists.elim I fun g_needB I =>
  Exists.elim I fun a_fop I => Exists.elim I fun a_fd I => Exists.elim I fun a_fa I => Exists.elim I fun a_fb I => Exists.elim I fun a_at I => Exists.elim I fun a_k0 I => Exists.elim I fun a_k1 I => Exists.elim I fun a_dem I => Exists.elim I fun a_r0 I => Exists.elim I fun a_r1 I => Exists.elim I fun a_next1 I => Exists.elim I fun a_next2 I => Exists.elim I fun a_want I => Exists.elim I fun a_kind I => Exists.elim I fun a_widths I =>
  Exists.elim I fun a_inputs I => Exists.elim I fun a_regs I => Exists.elim I fun a_pcs I => Exists.elim I fun a_logs I => Exists.elim I fun a_counts I => Exists.elim I fun h_code I => Exists.elim I fun h_fact I => Exists.elim I fun h_dem I => Exists.elim I fun h_res I => Exists.elim I fun h_seen I =>
  I.2.1.symm ▸ I.2.2.symm ▸ h W R N C c an st f_pending f_a0 f_a1 f_b0 f_b1 f_needA f_needB f_chain g_op g_d g_a g_b g_x g_y g_needA g_needB a_fop a_fd a_fa a_fb a_at a_k0 a_k1 a_dem a_r0 a_r1 a_next1 a_next2 a_want a_kind a_widths a_inputs a_regs a_pcs a_logs a_counts h_code h_fact h_dem h_res h_seen I.1
section
variable {W R N C : Nat} {c : Nat → Nat} {an st f_pending f_a0 f_a1 f_b0 f_b1 f_needA f_needB f_chain g_op g_d g_a g_b g_x g_y g_needA g_needB : Int32} {a_fop a_fd a_fa a_fb a_at a_k0 a_k1 a_dem a_r0 a_r1 a_next1 a_next2 a_want a_kind a_widths a_inputs a_regs a_pcs a_logs a_counts h_code h_fact h_dem h_res h_seen : Nat → Int32}
theorem bd_rel {k : Nat} (h : bd_Inv W R N C c an st a_fop a_fd a_fa a_fb a_at a_k0 a_k1 a_dem a_r0 a_r1 a_next1 a_next2 a_want a_kind a_widths a_inputs a_regs a_pcs a_counts h_code h_fact h_dem h_res h_seen) : i_Rel k (nI W, nI R, nI C, bd_lo W, nI N, an, f_pending, f_a0, f_a1, f_b0, f_b1, f_needA, f_needB, f_chain, st, a_fop, a_fd, a_fa, a_fb, a_at, a_k0, a_k1, a_dem, a_r0, a_r1, a_next1, a_next2, a_want, a_kind, a_widths, a_inputs, a_regs, a_pcs, a_logs, a_counts) (nI W, bd_lo W, nI R, nI C, nI N, g_op, g_d, g_a, g_b, g_x, g_y, g_needA, g_needB, an, st, h_code, h_fact, h_dem, h_res, a_inputs, a_regs, a_pcs, a_counts, a_logs, h_seen) :=
  ⟨W, R, N, C, c, an, st, f_pending, f_a0, f_a1, f_b0, f_b1, f_needA, f_needB, f_chain, g_op, g_d, g_a, g_b, g_x, g_y, g_needA, g_needB, a_fop, a_fd, a_fa, a_fb, a_at, a_k0, a_k1, a_dem, a_r0, a_r1, a_next1, a_next2, a_want, a_kind, a_widths, a_inputs, a_regs, a_pcs, a_logs, a_counts, h_code, h_fact, h_dem, h_res, h_seen, h, rfl, rfl⟩
end
theorem i_up {k : Nat} {u : SX} {v : SY} (h : i_Rel k u v) : i_Rel (k + 5) u v := h
/-! the constructors -/
theorem bd_clp {post : Int32 → Prop} {u : SX} {x lo hi : Int32} {l h : Nat} (hl : lo = nI l) (hh : hi = nI h) (hlh : l ≤ h) (hs : h < 2147483648) (K : ∀ n, l ≤ n → n ≤ h → ((nI l ≤ x → x ≤ nI h → x = nI n) ∧ (nI l ≤ x → ¬ x ≤ nI h → n = h) ∧ (¬ nI l ≤ x → n = l)) → post (nI n)) : wpX_clamp post u x lo hi := by
  subst hl; subst hh
  unfold wpX_clamp
  refine br_c (fun e => br_c (fun g => ?_) (fun g => ?_)) (fun e => ?_)
  · obtain ⟨j, hj, rfl⟩ := nI_of (x := x) (fun z => by
      rw [Int32.le_iff_toInt_le, nI_toInt (by omega)] at e
      rw [Int32.lt_iff_toInt_lt, show (0 : Int32).toInt = 0 from rfl] at z
      omega)
    exact K j ((nI_leI (by omega) hj).mp e) ((nI_leI hj (by omega)).mp g) ⟨fun _ _ => rfl, fun _ z => absurd g z, fun z => absurd e z⟩
  · exact K h hlh (Nat.le_refl _) ⟨fun _ z => absurd z g, fun _ _ => rfl, fun z => absurd e z⟩
  · exact K l (Nat.le_refl _) hlh ⟨fun z => absurd z e, fun z => absurd z e, fun _ => rfl⟩
theorem i_vc0 (k0 : Int32) (k1 : Int32) (k2 : Int32) : wpX_init (fun u => wpY_init (fun v => i_Rel 3 u v) k0 k1 k2) k0 k1 k2 := by
  unfold wpX_init
  refine bd_clp (l := 4) (h := 16) rfl rfl (by omega) (by omega) (fun W w1 w2 w3 => ?_)
  refine bd_clp (l := 2) (h := 4) rfl rfl (by omega) (by omega) (fun R r1 r2 r3 => ?_)
  refine bd_clp (l := 4) (h := 24) rfl rfl (by omega) (by omega) (fun C c1 c2 c3 => ?_)
  refine nm_r (bd_lo_s W (by omega)) ?_
  have fin : i_Rel 3 (nI W, nI R, nI C, bd_lo W, 0, 0, 0, 0, 0, 0, 0, 0, 0, 0, 0, fun _ => 0, fun _ => 0, fun _ => 0, fun _ => 0, fun _ => 0, fun _ => 0, fun _ => 0, fun _ => 0, fun _ => 0, fun _ => 0, fun _ => 0, fun _ => 0, fun _ => 0, fun _ => 0, fun _ => 0, fun _ => 0, fun _ => 0, fun _ => 0, fun _ => 0, fun _ => 0)
      (nI W, bd_lo W, nI R, nI C, 0, 0, 0, 0, 0, 0, 0, 0, 0, 0, 0, fun _ => 0, fun _ => 0, fun _ => 0, fun _ => 0, fun _ => 0, fun _ => 0, fun _ => 0, fun _ => 0, fun _ => 0, fun _ => 0) := by
    refine bd_rel (N := 0) (c := fun _ => 0) ⟨⟨w1, w2, r1, r2, c1, c2, by omega⟩, fun p hp => by omega, fun j hj => by omega, fun p hp => by omega, Or.inl rfl, Or.inl rfl, fun z => absurd z (by decide), fun _ => bd_mk0 W, fun _ => Or.inl rfl, fun _ => ⟨fun _ => rfl, fun _ => rfl, fun _ => rfl, fun _ => rfl, fun _ => rfl, fun _ => rfl, fun _ => rfl⟩, fun z => absurd z (by decide), fun _ => bd_mk0 W, fun s _ => ⟨0, by omega, rfl⟩, fun s _ => ⟨0, by omega, rfl⟩⟩
  have s139 : wY_init_139 (fun v => i_Rel 3 (nI W, nI R, nI C, bd_lo W, 0, 0, 0, 0, 0, 0, 0, 0, 0, 0, 0, fun _ => 0, fun _ => 0, fun _ => 0, fun _ => 0, fun _ => 0, fun _ => 0, fun _ => 0, fun _ => 0, fun _ => 0, fun _ => 0, fun _ => 0, fun _ => 0, fun _ => 0, fun _ => 0, fun _ => 0, fun _ => 0, fun _ => 0, fun _ => 0, fun _ => 0, fun _ => 0) v) k2 (nI R)
      (nI W) (bd_lo W) 0 0 0 0 0 0 0 0 0 0 0 0 0 (fun _ => 0) (fun _ => 0) (fun _ => 0) (fun _ => 0) (fun _ => 0) (fun _ => 0) (fun _ => 0) (fun _ => 0) (fun _ => 0) (fun _ => 0) := by
    refine br_c (fun e => br_c (fun g => ?_) (fun g => ?_)) (fun e => ?_)
    · have := c3.1 e g
      rw [this]; exact fin
    · have := c3.2.1 e g
      subst this; exact fin
    · have := c3.2.2 e
      subst this; exact fin
  have s104 : wY_init_104 (fun v => i_Rel 3 (nI W, nI R, nI C, bd_lo W, 0, 0, 0, 0, 0, 0, 0, 0, 0, 0, 0, fun _ => 0, fun _ => 0, fun _ => 0, fun _ => 0, fun _ => 0, fun _ => 0, fun _ => 0, fun _ => 0, fun _ => 0, fun _ => 0, fun _ => 0, fun _ => 0, fun _ => 0, fun _ => 0, fun _ => 0, fun _ => 0, fun _ => 0, fun _ => 0, fun _ => 0, fun _ => 0) v) k1 k2 (nI W)
      0 0 0 0 0 0 0 0 0 0 0 0 0 0 0 (fun _ => 0) (fun _ => 0) (fun _ => 0) (fun _ => 0) (fun _ => 0) (fun _ => 0) (fun _ => 0) (fun _ => 0) (fun _ => 0) (fun _ => 0) := by
    refine nm_r (bd_lo_s W (by omega)) (br_c (fun e => br_c (fun g => ?_) (fun g => ?_)) (fun e => ?_))
    · have := r3.1 e g
      rw [this]; exact s139
    · have := r3.2.1 e g
      subst this; exact s139
    · have := r3.2.2 e
      subst this; exact s139
  refine br_c (fun e => br_c (fun g => ?_) (fun g => ?_)) (fun e => ?_)
  · have := w3.1 e g
    rw [this]; exact s104
  · have := w3.2.1 e g
    subst this; exact s104
  · have := w3.2.2 e
    subst this; exact s104
end
section
/-! ===== widths ===== -/
theorem bd_bl_or (x y : Int32) (k : Nat) : bd_bl (x ||| y) k = max (bd_bl x k) (bd_bl y k) := by
  have l1 := bd_bl_le x k
  have l2 := bd_bl_le y k
  refine bd_bl_u (by omega) (fun h => ?_) (fun i h1 h2 => ?_)
  · rw [b_or]
    rcases Nat.lt_or_ge (bd_bl x k) (bd_bl y k) with z | z
    · rw [show max (bd_bl x k) (bd_bl y k) = bd_bl y k by omega] at h ⊢
      rw [bd_bl_t h, Bool.or_true]
    · rw [show max (bd_bl x k) (bd_bl y k) = bd_bl x k by omega] at h ⊢
      rw [bd_bl_t h, Bool.true_or]
  · rw [b_or, bd_bl_f (by omega) h2, bd_bl_f (by omega) h2]; rfl
theorem bd_un_mk {W : Nat} {D : Nat → Int32} (h : ∀ j, bd_mk W (D j)) (r : Nat) : ∀ k, bd_mk W (bd_un D r k)
  | 0 => bd_mk0 W
  | k + 1 => bd_mk_or (bd_un_mk h r k) (h _)
theorem bd_un_c {D D' : Nat → Int32} {r : Nat} : ∀ {k : Nat}, (∀ p, p < k → D (4 * p + r) = D' (4 * p + r)) → bd_un D r k = bd_un D' r k
  | 0, _ => rfl
  | k + 1, h => by
    unfold bd_un
    rw [bd_un_c (k := k) (fun p hp => h p (by omega)), h k (by omega)]
theorem bd_un_b {D : Nat → Int32} {r : Nat} : ∀ {k p i : Nat}, p < k → bt (D (4 * p + r)) i = true → bt (bd_un D r k) i = true
  | 0, _, _, h, _ => by omega
  | k + 1, p, i, h, hb => by
    unfold bd_un
    rw [b_or, Bool.or_eq_true]
    by_cases e : p = k
    · right; rw [← e]; exact hb
    · exact Or.inl (bd_un_b (by omega) hb)
theorem bd_sh_bl {W : Nat} {q : Int32} (hW : W ≤ 16) (mq : bd_mk W q) {i : Nat} (hi : i < W) : (q >>> (nI i &&& 31)) = 0 ↔ bd_bl q W ≤ i := by
  rw [bd_ssh0 hW mq (by omega)]
  constructor
  · intro h
    rcases Nat.lt_or_ge i (bd_bl q W) with z | z
    · exact absurd ⟨_, by omega, bd_bl_t (q := q) (k := W) (by omega)⟩ h
    · exact z
  · rintro h ⟨j, h1, h2⟩
    rw [bd_bl_f (by omega) (bd_mk_lt mq h2)] at h2; cases h2
section
variable {W R N C : Nat}
variable {g_w g_m g_rs g_cap g_n g_op g_d g_a g_b g_x g_y g_needA g_needB g_analysed g_started : Int32} {h_code h_fact h_dem h_res h_inputs h_regs h_pcs h_counts h_logs h_seen : Nat → Int32}
theorem bd_Y_wd {post : Int32 → Prop} {r : Nat} (hW : W ≤ 16) (hW0 : 0 < W) (hN : N ≤ 24) (hR : R ≤ 4) (hr : r < R) (mD : ∀ j, bd_mk W (h_dem j)) (K : post (nI (bd_bl (bd_un h_dem r (N + 1)) W))) : wpY_width post (nI W, bd_lo W, nI R, nI C, nI N, g_op, g_d, g_a, g_b, g_x, g_y, g_needA, g_needB, 1, g_started, h_code, h_fact, h_dem, h_res, h_inputs, h_regs, h_pcs, h_counts, h_logs, h_seen) (nI r) := by
  have inner : ∀ (J : Int32 → Int32 → Prop) p z, p ≤ N → z ≤ W → J (nI (max z (bd_bl (h_dem (4 * p + r)) W))) (nI (p + 1)) → ∀ m i, i + m = W → z ≤ i → wY_width_38 post J (nI r) (nI p) (nI W) (bd_lo W) (nI R) (nI C) (nI N) g_op g_d g_a g_b g_x g_y g_needA g_needB 1 g_started h_code h_fact h_dem h_res h_inputs h_regs h_pcs h_counts h_logs h_seen (m + 1) (nI (max z (min i (bd_bl (h_dem (4 * p + r)) W)))) (nI i) := by
    intro J p z hp hz hJ m
    have lb := bd_bl_le (h_dem (4 * p + r)) W
    induction m with
    | zero =>
      intro i hi hzi
      obtain rfl : i = W := by omega
      rw [show min i (bd_bl (h_dem (4 * p + r)) i) = bd_bl (h_dem (4 * p + r)) i by omega]
      exact br_t (nI_le (Nat.le_refl _) (by omega)) (nm_r (nI_1 p) hJ)
    | succ m ih =>
      intro i hi hzi
      refine br_f (nI_ge (by omega) (by omega)) ?_
      rw [bd_iy, bd_fat (f := h_dem) (p := 4 * p + r) (by omega)]
      have go := ih (i + 1) (by omega) (by omega)
      refine ⟨vp_in_nI (by omega) (by omega), br_c (fun e => nm_r (nI_1 i) ?_) (fun e => nm_r (e' := nI (max z (min (i + 1) (bd_bl (h_dem (4 * p + r)) W)))) ?_ (nm_r (nI_1 i) go))⟩
      · rw [bd_sh_bl hW (mD _) (by omega)] at e
        rw [show min (i + 1) (bd_bl (h_dem (4 * p + r)) W) = min i (bd_bl (h_dem (4 * p + r)) W) by omega] at go
        exact go
      · rw [bd_sh_bl hW (mD _) (by omega)] at e
        rw [nI_1]
        exact congrArg nI (by omega)
  have loop : ∀ m p, p + m = N + 1 → wY_width_23 post (nI r) (nI W) (bd_lo W) (nI R) (nI C) (nI N) g_op g_d g_a g_b g_x g_y g_needA g_needB 1 g_started h_code h_fact h_dem h_res h_inputs h_regs h_pcs h_counts h_logs h_seen (m + 1) (nI (bd_bl (bd_un h_dem r p) W)) (nI p) := by
    intro m
    induction m with
    | zero =>
      intro p hp
      obtain rfl : p = N + 1 := by omega
      exact br_t (nI_lt (by omega) (by omega)) K
    | succ m ih =>
      intro p hp
      have lb := bd_bl_le (bd_un h_dem r p) W
      have go := ih (p + 1) (by omega)
      unfold bd_un at go
      rw [bd_bl_or] at go
      refine br_f (nI_nlt (by omega) (by omega)) (br_f (nI_pos (by omega)) ⟨W - bd_bl (bd_un h_dem r p) W + 1, ?_⟩)
      have := inner _ p _ (by omega) lb go (W - bd_bl (bd_un h_dem r p) W) (bd_bl (bd_un h_dem r p) W) (by omega) (Nat.le_refl _)
      rw [show max (bd_bl (bd_un h_dem r p) W) (min (bd_bl (bd_un h_dem r p) W) (bd_bl (h_dem (4 * p + r)) W)) = bd_bl (bd_un h_dem r p) W by omega] at this
      exact this
  have h0 : bd_bl (bd_un h_dem r 0) W = 0 := bd_bl_u (by omega) (fun h => by omega) (fun i _ _ => b_0 i)
  refine br_f (by decide) ?_
  refine bd_Y_reg hR (fun _ _ _ => br_f (by decide) ⟨N + 2, ?_⟩) (fun h => absurd rfl (h r hr))
  have := loop (N + 1) 0 (by omega)
  rw [h0] at this
  exact this
/-- width of no register, or before the analysis -/
theorem bd_Y_wm {post : Int32 → Prop} {x : Int32} (hN : N ≤ 24) (K : post (-1)) : ∃ n, wY_width_23 post x (nI W) (bd_lo W) (nI R) (nI C) (nI N) g_op g_d g_a g_b g_x g_y g_needA g_needB g_analysed g_started h_code h_fact h_dem h_res h_inputs h_regs h_pcs h_counts h_logs h_seen n (-1) 0 :=
  ⟨1, br_f (fun z => nI_nlt (a := N) (b := 0) (by omega) (by omega) z) (br_t (by decide) K)⟩
theorem bd_Y_km {post : Int32 → Prop} {x y z : Int32} (hW0 : 0 < W) (hW : W ≤ 16) (K : post (-1)) : ∃ n, wY_known_46 post x y z (nI W) (bd_lo W) (nI R) (nI C) (nI N) g_op g_d g_a g_b g_x g_y g_needA g_needB g_analysed g_started h_code h_fact h_dem h_res h_inputs h_regs h_pcs h_counts h_logs h_seen n (-1) 0 :=
  ⟨1, br_f (nI_nle hW0 (by omega)) (br_t (by decide) K)⟩
end
end
section
/-! ===== the owed rows of the readers ===== -/
theorem bd_ix3 (x : Int32) {n : Nat} (hn : n < 2147483648) : x < 0 ∨ (¬ x < 0 ∧ nI n ≤ x ∧ ¬ x < nI n) ∨ ∃ j : Nat, j < n ∧ x = nI j := by
  rcases pk_ix x (n := n) hn with h | h | h
  · exact Or.inl h
  · right; left
    have a := Int32.le_iff_toInt_le.mp h
    rw [nI_toInt (by omega)] at a
    refine ⟨fun z => ?_, h, fun z => ?_⟩
    · have b := Int32.lt_iff_toInt_lt.mp z
      rw [show (0 : Int32).toInt = 0 from rfl] at b
      omega
    · have b := Int32.lt_iff_toInt_lt.mp z
      rw [nI_toInt (by omega)] at b
      omega
  · exact Or.inr (Or.inr h)
theorem bd_ix4 (x : Int32) {n : Nat} (hn : n < 2147483647) : x < 0 ∨ (¬ x < 0 ∧ nI n < x ∧ ¬ x ≤ nI n) ∨ ∃ j : Nat, j ≤ n ∧ x = nI j := by
  rcases pk_ix x (n := n + 1) (by omega) with h | h | ⟨j, hj, h⟩
  · exact Or.inl h
  · right; left
    have a := Int32.le_iff_toInt_le.mp h
    rw [nI_toInt (by omega)] at a
    refine ⟨fun z => ?_, ?_, fun z => ?_⟩
    · have b := Int32.lt_iff_toInt_lt.mp z
      rw [show (0 : Int32).toInt = 0 from rfl] at b
      omega
    · rw [Int32.lt_iff_toInt_lt, nI_toInt (by omega)]
      omega
    · have b := Int32.le_iff_toInt_le.mp z
      rw [nI_toInt (by omega)] at b
      omega
  · exact Or.inr (Or.inr ⟨j, by omega, h⟩)
section
variable {W R N C : Nat}
variable {f_w f_regCount f_cap f_all f_n f_analysed f_pending f_a0 f_a1 f_b0 f_b1 f_needA f_needB f_chain f_started : Int32} {a_fop a_fd a_fa a_fb a_at a_k0 a_k1 a_dem a_r0 a_r1 a_next1 a_next2 a_want a_kind a_widths a_inputs a_regs a_pcs a_logs a_counts : Nat → Int32}
theorem bd_X_reg2 {post : Int32 → Prop} {x : Int32} (hR : R ≤ 4) (K1 : ∀ r, r < R → x = nI r → post 1) (K0 : (∀ r, r < R → ¬ x = nI r) → post 0) : wpX_isReg post (nI W, nI R, nI C, bd_lo W, nI N, f_analysed, f_pending, f_a0, f_a1, f_b0, f_b1, f_needA, f_needB, f_chain, f_started, a_fop, a_fd, a_fa, a_fb, a_at, a_k0, a_k1, a_dem, a_r0, a_r1, a_next1, a_next2, a_want, a_kind, a_widths, a_inputs, a_regs, a_pcs, a_logs, a_counts) x := by
  rcases bd_ix3 x (n := R) (by omega) with h | ⟨h1, h2, h3⟩ | ⟨j, hj, rfl⟩
  · refine br_t h (K0 fun r hr e => ?_)
    rw [e] at h; exact nI_pos (by omega) h
  · refine br_f h1 (br_t h2 (K0 fun r hr e => ?_))
    rw [e] at h2; exact nI_ge hr (by omega) h2
  · exact br_f (nI_pos (by omega)) (br_f (nI_ge hj (by omega)) (K1 j hj rfl))
end
theorem bd_01i {x : Int32} (h : x = 0 ∨ x = 1) (n : ¬ x = 0) : x = 1 := h.resolve_left n
theorem i_vc_slot {k : Nat} {u : SX} {v : SY} (I : i_Rel k u v) (hk : k + 5 ≤ 2563) (v1 : Int32) (v2 : Int32) : wpX_slot (fun r => wpY_slot (fun r' => r' = r ∧ i_Rel (k + 5) u v) v v1 v2) u v1 v2 := by
  refine bd_el (P := fun u v => wpX_slot (fun r => wpY_slot (fun r' => r' = r ∧ i_Rel (k + 5) u v) v v1 v2) u v1 v2) ?_ I
  intro W R N C c an st f_pending f_a0 f_a1 f_b0 f_b1 f_needA f_needB f_chain g_op g_d g_a g_b g_x g_y g_needA g_needB a_fop a_fd a_fa a_fb a_at a_k0 a_k1 a_dem a_r0 a_r1 a_next1 a_next2 a_want a_kind a_widths a_inputs a_regs a_pcs a_logs a_counts h_code h_fact h_dem h_res h_seen H
  have rel := bd_rel (k := k + 5) (f_pending := f_pending) (f_a0 := f_a0) (f_a1 := f_a1) (f_b0 := f_b0) (f_b1 := f_b1) (f_needA := f_needA) (f_needB := f_needB) (f_chain := f_chain) (g_op := g_op) (g_d := g_d) (g_a := g_a) (g_b := g_b) (g_x := g_x) (g_y := g_y) (g_needA := g_needA) (g_needB := g_needB) (a_logs := a_logs) H
  obtain ⟨⟨w1, w2, r1, r2, c1, c2, n1⟩, hc, hy, P, -⟩ := H
  rcases bd_ix3 v1 (n := N) (by omega) with h | ⟨h1, h2, h3⟩ | ⟨p, hp, rfl⟩
  · exact br_t h (br_t h ⟨rfl, rel⟩)
  · exact br_f h1 (br_f h3 (br_f h1 (br_t h2 ⟨rfl, rel⟩)))
  · have p0 := nI_pos (n := p) (by omega)
    obtain ⟨e1, e2, e3, e4⟩ := hc p hp
    have y0 : h_code (4 * p) = nI (bd_op c p) := hy _ (by omega)
    have y1 : h_code (4 * p + 1) = nI (bd_d c p) := hy _ (by omega)
    have y2 : h_code (4 * p + 2) = nI (bd_a c p) := hy _ (by omega)
    have y3 : h_code (4 * p + 3) = nI (bd_b c p) := hy _ (by omega)
    have h24 : vp_in (nI p) 24 := vp_in_nI (by omega) (by omega)
    refine br_f p0 (br_t (nI_lt hp (by omega)) ?_)
    have Y : ∀ r : Int32, (v2 < 0 ∧ r = -1 ∨ (¬ v2 < 0 ∧ ¬ v2 ≤ 3) ∧ r = -1 ∨ ∃ f, f < 4 ∧ v2 = nI f ∧ h_code (4 * p + f) = r) → wpY_slot (fun r' => r' = r ∧ i_Rel (k + 5) (nI W, nI R, nI C, bd_lo W, nI N, an, f_pending, f_a0, f_a1, f_b0, f_b1, f_needA, f_needB, f_chain, st, a_fop, a_fd, a_fa, a_fb, a_at, a_k0, a_k1, a_dem, a_r0, a_r1, a_next1, a_next2, a_want, a_kind, a_widths, a_inputs, a_regs, a_pcs, a_logs, a_counts) (nI W, bd_lo W, nI R, nI C, nI N, g_op, g_d, g_a, g_b, g_x, g_y, g_needA, g_needB, an, st, h_code, h_fact, h_dem, h_res, a_inputs, a_regs, a_pcs, a_counts, a_logs, h_seen)) (nI W, bd_lo W, nI R, nI C, nI N, g_op, g_d, g_a, g_b, g_x, g_y, g_needA, g_needB, an, st, h_code, h_fact, h_dem, h_res, a_inputs, a_regs, a_pcs, a_counts, a_logs, h_seen) (nI p) v2 := by
      intro r h
      refine br_f p0 (br_f (nI_ge hp (by omega)) ?_)
      rcases h with ⟨h, rfl⟩ | ⟨⟨h, h'⟩, rfl⟩ | ⟨f, hf, rfl, e⟩
      · exact br_t h ⟨rfl, rel⟩
      · exact br_f h (br_f h' ⟨rfl, rel⟩)
      · refine br_f (nI_pos (by omega)) (br_t (nI_le (b := 3) (by omega) (by omega)) ?_)
        rw [bd_iy, bd_fat (f := h_code) (p := 4 * p + f) (by omega)]
        exact ⟨vp_in_nI (by omega) (by omega), e, rel⟩
    rw [bd_fat (f := a_fop) (p := p) (by omega), bd_fat (f := a_fd) (p := p) (by omega), bd_fat (f := a_fa) (p := p) (by omega), bd_fat (f := a_fb) (p := p) (by omega), e1, e2, e3, e4]
    rcases bd_ix4 v2 (n := 3) (by omega) with h | ⟨h1, h2, h3⟩ | ⟨f, hf, rfl⟩
    · exact br_t h (Y _ (Or.inl ⟨h, rfl⟩))
    · exact br_f h1 (br_t h2 (Y _ (Or.inr (Or.inl ⟨⟨h1, h3⟩, rfl⟩))))
    · refine br_f (nI_pos (by omega)) (br_f (nI_nlt (b := f) (a := 3) (by omega) (by omega)) ?_)
      refine pk_eq f 0 (fun e => ⟨h24, Y _ (Or.inr (Or.inr ⟨0, by omega, by rw [e], y0⟩))⟩) (fun n0 => pk_eq f 1 (fun e => ⟨h24, Y _ (Or.inr (Or.inr ⟨1, by omega, by rw [e], y1⟩))⟩) (fun n1 => pk_eq f 2 (fun e => ⟨h24, Y _ (Or.inr (Or.inr ⟨2, by omega, by rw [e], y2⟩))⟩) (fun n2 => pk_eq f 3 (fun e => ⟨h24, Y _ (Or.inr (Or.inr ⟨3, by omega, by rw [e], y3⟩))⟩) (fun n3 => trivial))))
theorem i_vc_reached {k : Nat} {u : SX} {v : SY} (I : i_Rel k u v) (hk : k + 5 ≤ 2563) (v1 : Int32) : wpX_reached (fun r => wpY_reached (fun r' => r' = r ∧ i_Rel (k + 5) u v) v v1) u v1 := by
  refine bd_el (P := fun u v => wpX_reached (fun r => wpY_reached (fun r' => r' = r ∧ i_Rel (k + 5) u v) v v1) u v1) ?_ I
  intro W R N C c an st f_pending f_a0 f_a1 f_b0 f_b1 f_needA f_needB f_chain g_op g_d g_a g_b g_x g_y g_needA g_needB a_fop a_fd a_fa a_fb a_at a_k0 a_k1 a_dem a_r0 a_r1 a_next1 a_next2 a_want a_kind a_widths a_inputs a_regs a_pcs a_logs a_counts h_code h_fact h_dem h_res h_seen H
  have rel := bd_rel (k := k + 5) (f_pending := f_pending) (f_a0 := f_a0) (f_a1 := f_a1) (f_b0 := f_b0) (f_b1 := f_b1) (f_needA := f_needA) (f_needB := f_needB) (f_chain := f_chain) (g_op := g_op) (g_d := g_d) (g_a := g_a) (g_b := g_b) (g_x := g_x) (g_y := g_y) (g_needA := g_needA) (g_needB := g_needB) (a_logs := a_logs) H
  obtain ⟨⟨w1, w2, r1, r2, c1, c2, n1⟩, hc, hy, P, an01, st01, sa, ipm, r3, pre, pst, rgm, pcs, cts⟩ := H
  by_cases ea : an = 0
  · exact br_t ea (br_t ea ⟨rfl, rel⟩)
  · obtain ⟨XJ, XB, YI, ag, mD, eD, Kp, wdt⟩ := pst (bd_01i an01 ea)
    refine br_f ea ?_
    rcases bd_ix4 v1 (n := N) (by omega) with h | ⟨h1, h2, h3⟩ | ⟨p, hp, rfl⟩
    · exact br_t h (br_f ea (br_t h ⟨rfl, rel⟩))
    · exact br_f h1 (br_t h2 (br_f ea (br_f h1 (br_t h2 ⟨rfl, rel⟩))))
    · have p0 := nI_pos (n := p) (by omega)
      have p1 := nI_nlt (a := N) (b := p) hp (by omega)
      have h25 : vp_in (nI p) 25 := vp_in_nI (by omega) (by omega)
      have e1 : a_at (nI p).toNatClampNeg = a_at p := bd_fat (by omega)
      have e2 : h_seen (nI p).toNatClampNeg = h_seen p := bd_fat (by omega)
      have a := (ag p hp).1
      refine br_f p0 (br_f p1 ⟨h25, br_c (fun e => ?_) (fun e => ?_)⟩)
      · exact br_f ea (br_f p0 (br_f p1 ⟨h25, br_t (e2.trans (a.mp (e1.symm.trans e))) ⟨rfl, rel⟩⟩))
      · exact br_f ea (br_f p0 (br_f p1 ⟨h25, br_f (fun z => e (e1.trans (a.mpr (e2.symm.trans z)))) ⟨rfl, rel⟩⟩))
theorem i_vc_known {k : Nat} {u : SX} {v : SY} (I : i_Rel k u v) (hk : k + 5 ≤ 2563) (v1 : Int32) (v2 : Int32) (v3 : Int32) : wpX_known (fun r => wpY_known (fun r' => r' = r ∧ i_Rel (k + 5) u v) v v1 v2 v3) u v1 v2 v3 := by
  refine bd_el (P := fun u v => wpX_known (fun r => wpY_known (fun r' => r' = r ∧ i_Rel (k + 5) u v) v v1 v2 v3) u v1 v2 v3) ?_ I
  intro W R N C c an st f_pending f_a0 f_a1 f_b0 f_b1 f_needA f_needB f_chain g_op g_d g_a g_b g_x g_y g_needA g_needB a_fop a_fd a_fa a_fb a_at a_k0 a_k1 a_dem a_r0 a_r1 a_next1 a_next2 a_want a_kind a_widths a_inputs a_regs a_pcs a_logs a_counts h_code h_fact h_dem h_res h_seen H
  have rel := bd_rel (k := k + 5) (f_pending := f_pending) (f_a0 := f_a0) (f_a1 := f_a1) (f_b0 := f_b0) (f_b1 := f_b1) (f_needA := f_needA) (f_needB := f_needB) (f_chain := f_chain) (g_op := g_op) (g_d := g_d) (g_a := g_a) (g_b := g_b) (g_x := g_x) (g_y := g_y) (g_needA := g_needA) (g_needB := g_needB) (a_logs := a_logs) H
  obtain ⟨⟨w1, w2, r1, r2, c1, c2, n1⟩, hc, hy, P, an01, st01, sa, ipm, r3, pre, pst, rgm, pcs, cts⟩ := H
  have km : ∀ {x y z : Int32}, ∃ n, wY_known_46 (fun r' => r' = -1 ∧ i_Rel (k + 5) (nI W, nI R, nI C, bd_lo W, nI N, an, f_pending, f_a0, f_a1, f_b0, f_b1, f_needA, f_needB, f_chain, st, a_fop, a_fd, a_fa, a_fb, a_at, a_k0, a_k1, a_dem, a_r0, a_r1, a_next1, a_next2, a_want, a_kind, a_widths, a_inputs, a_regs, a_pcs, a_logs, a_counts) (nI W, bd_lo W, nI R, nI C, nI N, g_op, g_d, g_a, g_b, g_x, g_y, g_needA, g_needB, an, st, h_code, h_fact, h_dem, h_res, a_inputs, a_regs, a_pcs, a_counts, a_logs, h_seen)) x y z (nI W) (bd_lo W) (nI R) (nI C) (nI N) g_op g_d g_a g_b g_x g_y g_needA g_needB an st h_code h_fact h_dem h_res a_inputs a_regs a_pcs a_counts a_logs h_seen n (-1) 0 := bd_Y_km (by omega) w2 ⟨rfl, rel⟩
  by_cases ea : an = 0
  · exact br_t ea (br_t ea km)
  · obtain ⟨XJ, XB, YI, ag, mD, eD, Kp, wdt⟩ := pst (bd_01i an01 ea)
    refine br_f ea ?_
    rcases bd_ix4 v1 (n := N) (by omega) with h | ⟨h1, h2, h3⟩ | ⟨p, hp, rfl⟩
    · exact br_t h (br_f ea (br_t h km))
    · exact br_f h1 (br_t h2 (br_f ea (br_f h1 (br_t h2 km))))
    · have p0 := nI_pos (n := p) (by omega)
      have p1 := nI_nlt (a := N) (b := p) hp (by omega)
      refine br_f p0 (br_f p1 ?_)
      refine bd_X_reg2 r2 (fun r hr e => ?_) (fun hn => br_t rfl (br_f ea (br_f p0 (br_f p1 (bd_Y_reg r2 (fun r hr e => absurd e (hn r hr)) (fun _ => br_t rfl km))))))
      subst e
      have Yr : ∀ {post : Int32 → Prop}, post 1 → wpY_isReg post (nI W, bd_lo W, nI R, nI C, nI N, g_op, g_d, g_a, g_b, g_x, g_y, g_needA, g_needB, an, st, h_code, h_fact, h_dem, h_res, a_inputs, a_regs, a_pcs, a_counts, a_logs, h_seen) (nI r) := fun {post} q => bd_Y_reg r2 (fun _ _ _ => q) (fun h => absurd rfl (h r hr))
      have Yv : (¬ v3 = 0 ∧ ¬ v3 = 1) → wpY_known (fun r' => r' = -1 ∧ i_Rel (k + 5) (nI W, nI R, nI C, bd_lo W, nI N, an, f_pending, f_a0, f_a1, f_b0, f_b1, f_needA, f_needB, f_chain, st, a_fop, a_fd, a_fa, a_fb, a_at, a_k0, a_k1, a_dem, a_r0, a_r1, a_next1, a_next2, a_want, a_kind, a_widths, a_inputs, a_regs, a_pcs, a_logs, a_counts) (nI W, bd_lo W, nI R, nI C, nI N, g_op, g_d, g_a, g_b, g_x, g_y, g_needA, g_needB, an, st, h_code, h_fact, h_dem, h_res, a_inputs, a_regs, a_pcs, a_counts, a_logs, h_seen)) (nI W, bd_lo W, nI R, nI C, nI N, g_op, g_d, g_a, g_b, g_x, g_y, g_needA, g_needB, an, st, h_code, h_fact, h_dem, h_res, a_inputs, a_regs, a_pcs, a_counts, a_logs, h_seen) (nI p) (nI r) v3 := by
        intro h
        refine br_f ea (br_f p0 (br_f p1 (Yr (br_f (by decide) (br_c (fun _ => km) (fun z => br_f (fun z' => ?_) km))))))
        rcases bd_ix4 v3 (n := 1) (by omega) with y | ⟨-, -, y⟩ | ⟨j, hj, y⟩
        · exact z y
        · exact y z'
        · have : j = 0 ∨ j = 1 := by omega
          rcases this with rfl | rfl
          · exact h.1 y
          · exact h.2 y
      have h25 : vp_in (nI p) 25 := vp_in_nI (by omega) (by omega)
      have e1 : a_at (nI p).toNatClampNeg = a_at p := bd_fat (by omega)
      have e2 : h_seen (nI p).toNatClampNeg = h_seen p := bd_fat (by omega)
      have hi : vp_in (nI (4 * p + r)) 100 := vp_in_nI (by omega) (by omega)
      have a := ag p hp
      have go : (v3 = 0 ∨ v3 = 1) → wX_known_40 (fun r' => wpY_known (fun r'' => r'' = r' ∧ i_Rel (k + 5) (nI W, nI R, nI C, bd_lo W, nI N, an, f_pending, f_a0, f_a1, f_b0, f_b1, f_needA, f_needB, f_chain, st, a_fop, a_fd, a_fa, a_fb, a_at, a_k0, a_k1, a_dem, a_r0, a_r1, a_next1, a_next2, a_want, a_kind, a_widths, a_inputs, a_regs, a_pcs, a_logs, a_counts) (nI W, bd_lo W, nI R, nI C, nI N, g_op, g_d, g_a, g_b, g_x, g_y, g_needA, g_needB, an, st, h_code, h_fact, h_dem, h_res, a_inputs, a_regs, a_pcs, a_counts, a_logs, h_seen)) (nI W, bd_lo W, nI R, nI C, nI N, g_op, g_d, g_a, g_b, g_x, g_y, g_needA, g_needB, an, st, h_code, h_fact, h_dem, h_res, a_inputs, a_regs, a_pcs, a_counts, a_logs, h_seen) (nI p) (nI r) v3) (nI p) (nI r) v3 (nI W) (nI R) (nI C) (bd_lo W) (nI N) an f_pending f_a0 f_a1 f_b0 f_b1 f_needA f_needB f_chain st a_fop a_fd a_fa a_fb a_at a_k0 a_k1 a_dem a_r0 a_r1 a_next1 a_next2 a_want a_kind a_widths a_inputs a_regs a_pcs a_logs a_counts := by
        intro hv
        have yv : ∀ {post : Int32 → Prop}, (∃ n, wY_known_46 post (nI p) (nI r) v3 (nI W) (bd_lo W) (nI R) (nI C) (nI N) g_op g_d g_a g_b g_x g_y g_needA g_needB an st h_code h_fact h_dem h_res a_inputs a_regs a_pcs a_counts a_logs h_seen n 0 0) → wpY_known post (nI W, bd_lo W, nI R, nI C, nI N, g_op, g_d, g_a, g_b, g_x, g_y, g_needA, g_needB, an, st, h_code, h_fact, h_dem, h_res, a_inputs, a_regs, a_pcs, a_counts, a_logs, h_seen) (nI p) (nI r) v3 := by
          intro post q
          refine br_f ea (br_f p0 (br_f p1 (Yr (br_f (by decide) (br_f ?_ (br_t ?_ q))))))
          · rcases hv with rfl | rfl <;> decide
          · rcases hv with rfl | rfl <;> decide
        refine And.intro h25 ?_
        rw [e1]
        by_cases hs : a_at p = 0
        · refine br_t hs (yv ⟨1, br_f (nI_nle (by omega) (by omega)) (br_f (by decide) ⟨h25, br_t (e2.trans (a.1.mp hs)) ⟨rfl, rel⟩⟩)⟩)
        · have hs' : ¬ h_seen p = 0 := fun z => hs (a.1.mpr z)
          have ok := bd_KO_ok XJ.1 p r
          rw [a.2 hs r hr] at ok
          refine br_f hs ?_
          rw [bd_ix, bd_fat (f := a_k0) (p := 4 * p + r) (by omega), bd_fat (f := a_k1) (p := 4 * p + r) (by omega)]
          rcases hv with rfl | rfl
          · refine br_t rfl ⟨hi, yv (bd_Y_k46 w2 (by omega) (by omega) hs' (fun y hy => ⟨?_, rel⟩))⟩
            apply b_ext
            intro i _
            rw [hy i]
            apply bd_bE
            rw [decide_eq_true_eq]
            constructor
            · intro z
              have g := bd_ok_i ok z.1
              unfold bd_gy at g
              rw [bd_at_lt z.1, z.2] at g
              exact bd_e3_0.mp g.symm
            · intro z
              have hi := bd_mk_lt ok.1 z
              have g := bd_ok_i ok hi
              unfold bd_gy at g
              rw [bd_at_lt hi] at g
              exact ⟨hi, g.trans (bd_e3_0.mpr z)⟩
          · refine br_f (by decide) ⟨hi, yv (bd_Y_k46 w2 (by omega) (by omega) hs' (fun y hy => ⟨?_, rel⟩))⟩
            apply b_ext
            intro i _
            rw [hy i]
            apply bd_bE
            rw [decide_eq_true_eq]
            constructor
            · intro z
              have g := bd_ok_i ok z.1
              unfold bd_gy at g
              rw [bd_at_lt z.1, z.2] at g
              exact (bd_e3_1 (ok.2.2.1 i)).mp g.symm
            · intro z
              have hi := bd_mk_lt ok.2.1 z
              have g := bd_ok_i ok hi
              unfold bd_gy at g
              rw [bd_at_lt hi] at g
              exact ⟨hi, g.trans ((bd_e3_1 (ok.2.2.1 i)).mpr z)⟩
      exact br_f (by decide) (br_c (fun z => go (Or.inl z)) (fun z => br_c (fun z1 => go (Or.inr z1)) (fun z1 => Yv ⟨z, z1⟩)))
theorem i_vc_demanded {k : Nat} {u : SX} {v : SY} (I : i_Rel k u v) (hk : k + 5 ≤ 2563) (v1 : Int32) (v2 : Int32) : wpX_demanded (fun r => wpY_demanded (fun r' => r' = r ∧ i_Rel (k + 5) u v) v v1 v2) u v1 v2 := by
  refine bd_el (P := fun u v => wpX_demanded (fun r => wpY_demanded (fun r' => r' = r ∧ i_Rel (k + 5) u v) v v1 v2) u v1 v2) ?_ I
  intro W R N C c an st f_pending f_a0 f_a1 f_b0 f_b1 f_needA f_needB f_chain g_op g_d g_a g_b g_x g_y g_needA g_needB a_fop a_fd a_fa a_fb a_at a_k0 a_k1 a_dem a_r0 a_r1 a_next1 a_next2 a_want a_kind a_widths a_inputs a_regs a_pcs a_logs a_counts h_code h_fact h_dem h_res h_seen H
  have rel := bd_rel (k := k + 5) (f_pending := f_pending) (f_a0 := f_a0) (f_a1 := f_a1) (f_b0 := f_b0) (f_b1 := f_b1) (f_needA := f_needA) (f_needB := f_needB) (f_chain := f_chain) (g_op := g_op) (g_d := g_d) (g_a := g_a) (g_b := g_b) (g_x := g_x) (g_y := g_y) (g_needA := g_needA) (g_needB := g_needB) (a_logs := a_logs) H
  obtain ⟨⟨w1, w2, r1, r2, c1, c2, n1⟩, hc, hy, P, an01, st01, sa, ipm, r3, pre, pst, rgm, pcs, cts⟩ := H
  by_cases ea : an = 0
  · exact br_t ea (br_t ea ⟨rfl, rel⟩)
  · obtain ⟨XJ, XB, YI, ag, mD, eD, Kp, wdt⟩ := pst (bd_01i an01 ea)
    refine br_f ea ?_
    rcases bd_ix4 v1 (n := N) (by omega) with h | ⟨h1, h2, h3⟩ | ⟨p, hp, rfl⟩
    · exact br_t h (br_f ea (br_t h ⟨rfl, rel⟩))
    · exact br_f h1 (br_t h2 (br_f ea (br_f h1 (br_t h2 ⟨rfl, rel⟩))))
    · have p0 := nI_pos (n := p) (by omega)
      have p1 := nI_nlt (a := N) (b := p) hp (by omega)
      refine br_f p0 (br_f p1 ?_)
      refine bd_X_reg2 r2 (fun r hr e => ?_) (fun hn => br_t rfl (br_f ea (br_f p0 (br_f p1 (bd_Y_reg r2 (fun r hr e => absurd e (hn r hr)) (fun _ => br_t rfl ⟨rfl, rel⟩))))))
      subst e
      have hi : vp_in (nI (4 * p + r)) 100 := vp_in_nI (by omega) (by omega)
      refine br_f (by decide) ?_
      rw [bd_ix, bd_fat (f := a_dem) (p := 4 * p + r) (by omega)]
      refine ⟨hi, br_f ea (br_f p0 (br_f p1 (bd_Y_reg r2 (fun _ _ _ => br_f (by decide) ?_) (fun h => absurd rfl (h r hr)))))⟩
      rw [bd_iy, bd_fat (f := h_dem) (p := 4 * p + r) (by omega)]
      exact ⟨hi, eD p hp r hr, rel⟩
end
section
/-! ===== the owed rows: rewrite, width, input, the machine's readers ===== -/
theorem i_vc_rewrite {k : Nat} {u : SX} {v : SY} (I : i_Rel k u v) (hk : k + 5 ≤ 2563) (v1 : Int32) : wpX_rewrite (fun r => wpY_rewrite (fun r' v' => r' = r ∧ i_Rel (k + 5) u v') v v1) u v1 := by
  refine bd_el (P := fun u v => wpX_rewrite (fun r => wpY_rewrite (fun r' v' => r' = r ∧ i_Rel (k + 5) u v') v v1) u v1) ?_ I
  intro W R N C c an st f_pending f_a0 f_a1 f_b0 f_b1 f_needA f_needB f_chain g_op g_d g_a g_b g_x g_y g_needA g_needB a_fop a_fd a_fa a_fb a_at a_k0 a_k1 a_dem a_r0 a_r1 a_next1 a_next2 a_want a_kind a_widths a_inputs a_regs a_pcs a_logs a_counts h_code h_fact h_dem h_res h_seen H
  have rel := bd_rel (k := k + 5) (f_pending := f_pending) (f_a0 := f_a0) (f_a1 := f_a1) (f_b0 := f_b0) (f_b1 := f_b1) (f_needA := f_needA) (f_needB := f_needB) (f_chain := f_chain) (g_op := g_op) (g_d := g_d) (g_a := g_a) (g_b := g_b) (g_x := g_x) (g_y := g_y) (g_needA := g_needA) (g_needB := g_needB) (a_logs := a_logs) H
  have H' := H
  obtain ⟨⟨w1, w2, r1, r2, c1, c2, n1⟩, hc, hy, P, an01, st01, sa, ipm, r3, pre, pst, rgm, pcs, cts⟩ := H
  by_cases ea : an = 0
  · exact br_t ea (br_t ea ⟨rfl, rel⟩)
  · have a1 := bd_01i an01 ea
    obtain ⟨XJ, XB, YI, ag, mD, eD, Kp, wdt⟩ := pst a1
    refine br_f ea ?_
    rcases bd_ix3 v1 (n := N) (by omega) with h | ⟨h1, h2, h3⟩ | ⟨p, hp, rfl⟩
    · exact br_t h (br_f ea (br_t h ⟨rfl, rel⟩))
    · exact br_f h1 (br_f h3 (br_f ea (br_f h1 (br_f h3 ⟨rfl, rel⟩))))
    · have p0 := nI_pos (n := p) (by omega)
      have p1 := nI_lt hp (by omega)
      refine br_f p0 (br_t p1 ⟨vp_in_nI (by omega) (by omega), br_f ea (br_f p0 (br_t p1 ?_))⟩)
      rw [bd_fat (f := a_kind) (p := p) (by omega)]
      subst a1
      refine bd_Y_dec hy P w2 (by omega) (by omega) r2 hp YI.1 r3 mD (fun kk nA nB res q1 q2 q3 q4 => ⟨?_, ?_⟩)
      · obtain ⟨k1, k2⟩ := Kp p hp
        by_cases s : h_seen p = 0
        · rw [k2 s, (q4 s).1]
        · exact bd_KD_u (q3 s).1 (k1 s)
      · exact bd_rel ⟨⟨w1, w2, r1, r2, c1, c2, n1⟩, hc, hy, P, an01, st01, sa, ipm, q1, pre, pst, rgm, pcs, cts⟩
theorem i_vc_width {k : Nat} {u : SX} {v : SY} (I : i_Rel k u v) (hk : k + 5 ≤ 2563) (v1 : Int32) : wpX_width (fun r => wpY_width (fun r' => r' = r ∧ i_Rel (k + 5) u v) v v1) u v1 := by
  refine bd_el (P := fun u v => wpX_width (fun r => wpY_width (fun r' => r' = r ∧ i_Rel (k + 5) u v) v v1) u v1) ?_ I
  intro W R N C c an st f_pending f_a0 f_a1 f_b0 f_b1 f_needA f_needB f_chain g_op g_d g_a g_b g_x g_y g_needA g_needB a_fop a_fd a_fa a_fb a_at a_k0 a_k1 a_dem a_r0 a_r1 a_next1 a_next2 a_want a_kind a_widths a_inputs a_regs a_pcs a_logs a_counts h_code h_fact h_dem h_res h_seen H
  have rel := bd_rel (k := k + 5) (f_pending := f_pending) (f_a0 := f_a0) (f_a1 := f_a1) (f_b0 := f_b0) (f_b1 := f_b1) (f_needA := f_needA) (f_needB := f_needB) (f_chain := f_chain) (g_op := g_op) (g_d := g_d) (g_a := g_a) (g_b := g_b) (g_x := g_x) (g_y := g_y) (g_needA := g_needA) (g_needB := g_needB) (a_logs := a_logs) H
  obtain ⟨⟨w1, w2, r1, r2, c1, c2, n1⟩, hc, hy, P, an01, st01, sa, ipm, r3, pre, pst, rgm, pcs, cts⟩ := H
  have wm : ∀ {x : Int32}, ∃ n, wY_width_23 (fun r' => r' = -1 ∧ i_Rel (k + 5) (nI W, nI R, nI C, bd_lo W, nI N, an, f_pending, f_a0, f_a1, f_b0, f_b1, f_needA, f_needB, f_chain, st, a_fop, a_fd, a_fa, a_fb, a_at, a_k0, a_k1, a_dem, a_r0, a_r1, a_next1, a_next2, a_want, a_kind, a_widths, a_inputs, a_regs, a_pcs, a_logs, a_counts) (nI W, bd_lo W, nI R, nI C, nI N, g_op, g_d, g_a, g_b, g_x, g_y, g_needA, g_needB, an, st, h_code, h_fact, h_dem, h_res, a_inputs, a_regs, a_pcs, a_counts, a_logs, h_seen)) x (nI W) (bd_lo W) (nI R) (nI C) (nI N) g_op g_d g_a g_b g_x g_y g_needA g_needB an st h_code h_fact h_dem h_res a_inputs a_regs a_pcs a_counts a_logs h_seen n (-1) 0 := bd_Y_wm (by omega) ⟨rfl, rel⟩
  by_cases ea : an = 0
  · exact br_t ea (br_t ea wm)
  · have a1 := bd_01i an01 ea
    obtain ⟨XJ, XB, YI, ag, mD, eD, Kp, wdt⟩ := pst a1
    refine br_f ea ?_
    refine bd_X_reg2 r2 (fun r hr e => ?_) (fun hn => br_t rfl (br_f ea (bd_Y_reg r2 (fun r hr e => absurd e (hn r hr)) (fun _ => br_t rfl wm))))
    subst e; subst a1
    refine br_f (by decide) ⟨vp_in_nI (by omega) (by omega), ?_⟩
    rw [bd_fat (f := a_widths) (p := r) (by omega), wdt r hr]
    refine bd_Y_wd w2 (by omega) (by omega) r2 hr mD ⟨?_, rel⟩
    rw [bd_un_c (D := h_dem) (D' := a_dem) (fun p hp => eD p (by omega) r hr), bd_bl_32 (bd_un_mk XB.1.1 r _) (by omega)]
theorem i_vc_input {k : Nat} {u : SX} {v : SY} (I : i_Rel k u v) (hk : k + 5 ≤ 2563) (v1 : Int32) (v2 : Int32) : wpX_input (fun r u' => wpY_input (fun r' v' => r' = r ∧ i_Rel (k + 5) u' v') v v1 v2) u v1 v2 := by
  refine bd_el (P := fun u v => wpX_input (fun r u' => wpY_input (fun r' v' => r' = r ∧ i_Rel (k + 5) u' v') v v1 v2) u v1 v2) ?_ I
  intro W R N C c an st f_pending f_a0 f_a1 f_b0 f_b1 f_needA f_needB f_chain g_op g_d g_a g_b g_x g_y g_needA g_needB a_fop a_fd a_fa a_fb a_at a_k0 a_k1 a_dem a_r0 a_r1 a_next1 a_next2 a_want a_kind a_widths a_inputs a_regs a_pcs a_logs a_counts h_code h_fact h_dem h_res h_seen H
  have rel := bd_rel (k := k + 5) (f_pending := f_pending) (f_a0 := f_a0) (f_a1 := f_a1) (f_b0 := f_b0) (f_b1 := f_b1) (f_needA := f_needA) (f_needB := f_needB) (f_chain := f_chain) (g_op := g_op) (g_d := g_d) (g_a := g_a) (g_b := g_b) (g_x := g_x) (g_y := g_y) (g_needA := g_needA) (g_needB := g_needB) (a_logs := a_logs) H
  obtain ⟨⟨w1, w2, r1, r2, c1, c2, n1⟩, hc, hy, P, an01, st01, sa, ipm, r3, pre, pst, rgm, pcs, cts⟩ := H
  unfold wpX_input wpY_input
  refine bd_X_reg2 r2 (fun r hr e => ?_) (fun hn => br_t rfl (bd_Y_reg r2 (fun r hr e => absurd e (hn r hr)) (fun _ => br_t rfl (br_t (by decide) ⟨rfl, rel⟩))))
  subst e
  have h4 : vp_in (nI r) 4 := vp_in_nI (by omega) (by omega)
  have er : a_inputs (nI r).toNatClampNeg = a_inputs r := bd_fat (by omega)
  have nn : ¬ a_inputs r < 0 := bd_nn fun i hi => ipm r i (by omega)
  refine br_f (by decide) ⟨h4, nm_r er ⟨h4, nm_r (bd_uat (by omega) rfl) ?_⟩⟩
  refine bd_Y_reg r2 (fun _ _ _ => br_f (by decide) ⟨h4, ?_⟩) (fun h => absurd rfl (h r hr))
  rw [er]
  refine br_f nn ⟨h4, nm_r (bd_uat (by omega) rfl) ⟨rfl, ?_⟩⟩
  refine bd_rel ⟨⟨w1, w2, r1, r2, c1, c2, n1⟩, hc, hy, P, an01, st01, sa, fun j => ?_, r3, pre, pst, rgm, pcs, cts⟩
  by_cases e : j = r
  · rw [e, pk_us]; exact bd_mk_and' (bd_lo_mk (Nat.le_refl _) (by omega))
  · rw [pk_un e]; exact ipm j
theorem bd_sd (x : Int32) : x = 0 ∨ x = 1 ∨ (¬ x = 0 ∧ ¬ x = 1) := by
  by_cases h : x = 0
  · exact Or.inl h
  · by_cases g : x = 1
    · exact Or.inr (Or.inl g)
    · exact Or.inr (Or.inr ⟨h, g⟩)
section
variable {W R N C : Nat}
variable {f_w f_regCount f_cap f_all f_n f_analysed f_pending f_a0 f_a1 f_b0 f_b1 f_needA f_needB f_chain f_started : Int32} {a_fop a_fd a_fa a_fb a_at a_k0 a_k1 a_dem a_r0 a_r1 a_next1 a_next2 a_want a_kind a_widths a_inputs a_regs a_pcs a_logs a_counts : Nat → Int32}
theorem bd_X_sd {post : Int32 → Prop} {x : Int32} (K1 : ∀ s, s < 2 → x = nI s → post 1) (K0 : (∀ s, s < 2 → ¬ x = nI s) → post 0) : wpX_isSide post (f_w, f_regCount, f_cap, f_all, f_n, f_analysed, f_pending, f_a0, f_a1, f_b0, f_b1, f_needA, f_needB, f_chain, f_started, a_fop, a_fd, a_fa, a_fb, a_at, a_k0, a_k1, a_dem, a_r0, a_r1, a_next1, a_next2, a_want, a_kind, a_widths, a_inputs, a_regs, a_pcs, a_logs, a_counts) x := by
  refine br_c (fun e => K1 0 (by omega) e) (fun e => br_c (fun g => K1 1 (by omega) g) (fun g => K0 fun s hs z => ?_))
  have : s = 0 ∨ s = 1 := by omega
  rcases this with rfl | rfl
  · exact e z
  · exact g z
end
section
variable {W R N C : Nat}
variable {g_w g_m g_rs g_cap g_n g_op g_d g_a g_b g_x g_y g_needA g_needB g_analysed g_started : Int32} {h_code h_fact h_dem h_res h_inputs h_regs h_pcs h_counts h_logs h_seen : Nat → Int32}
theorem bd_Y_sd {post : Int32 → Prop} {x : Int32} (hs : ¬ g_started = 0) (K1 : ∀ s, s < 2 → x = nI s → post 1) (K0 : (∀ s, s < 2 → ¬ x = nI s) → post 0) : wpY_isSide post (g_w, g_m, g_rs, g_cap, g_n, g_op, g_d, g_a, g_b, g_x, g_y, g_needA, g_needB, g_analysed, g_started, h_code, h_fact, h_dem, h_res, h_inputs, h_regs, h_pcs, h_counts, h_logs, h_seen) x := by
  refine br_f hs (br_c (fun e => K1 0 (by omega) e) (fun e => br_c (fun g => K1 1 (by omega) g) (fun g => K0 fun s hs z => ?_)))
  have : s = 0 ∨ s = 1 := by omega
  rcases this with rfl | rfl
  · exact e z
  · exact g z
theorem bd_Y_sd0 {post : Int32 → Prop} {x : Int32} (hs : g_started = 0) (K : post 0) : wpY_isSide post (g_w, g_m, g_rs, g_cap, g_n, g_op, g_d, g_a, g_b, g_x, g_y, g_needA, g_needB, g_analysed, g_started, h_code, h_fact, h_dem, h_res, h_inputs, h_regs, h_pcs, h_counts, h_logs, h_seen) x := br_t hs K
end
theorem i_vc_pc {k : Nat} {u : SX} {v : SY} (I : i_Rel k u v) (hk : k + 5 ≤ 2563) (v1 : Int32) : wpX_pc (fun r => wpY_pc (fun r' => r' = r ∧ i_Rel (k + 5) u v) v v1) u v1 := by
  refine bd_el (P := fun u v => wpX_pc (fun r => wpY_pc (fun r' => r' = r ∧ i_Rel (k + 5) u v) v v1) u v1) ?_ I
  intro W R N C c an st f_pending f_a0 f_a1 f_b0 f_b1 f_needA f_needB f_chain g_op g_d g_a g_b g_x g_y g_needA g_needB a_fop a_fd a_fa a_fb a_at a_k0 a_k1 a_dem a_r0 a_r1 a_next1 a_next2 a_want a_kind a_widths a_inputs a_regs a_pcs a_logs a_counts h_code h_fact h_dem h_res h_seen H
  have rel := bd_rel (k := k + 5) (f_pending := f_pending) (f_a0 := f_a0) (f_a1 := f_a1) (f_b0 := f_b0) (f_b1 := f_b1) (f_needA := f_needA) (f_needB := f_needB) (f_chain := f_chain) (g_op := g_op) (g_d := g_d) (g_a := g_a) (g_b := g_b) (g_x := g_x) (g_y := g_y) (g_needA := g_needA) (g_needB := g_needB) (a_logs := a_logs) H
  obtain ⟨⟨w1, w2, r1, r2, c1, c2, n1⟩, hc, hy, P, an01, st01, sa, ipm, r3, pre, pst, rgm, pcs, cts⟩ := H
  unfold wpX_pc wpY_pc
  by_cases es : st = 0
  · exact br_t es (bd_Y_sd0 es (br_t rfl ⟨rfl, rel⟩))
  · refine br_f es ?_
    refine bd_X_sd (fun s hs e => ?_) (fun hn => br_t rfl (bd_Y_sd es (fun s hs e => absurd e (hn s hs)) (fun _ => br_t rfl ⟨rfl, rel⟩)))
    subst e
    have h2 : vp_in (nI s) 2 := vp_in_nI hs (by omega)
    exact br_f (by decide) ⟨h2, bd_Y_sd es (fun _ _ _ => br_f (by decide) ⟨h2, rfl, rel⟩) (fun h => absurd rfl (h s hs))⟩
theorem i_vc_outCount {k : Nat} {u : SX} {v : SY} (I : i_Rel k u v) (hk : k + 5 ≤ 2563) (v1 : Int32) : wpX_outCount (fun r => wpY_outCount (fun r' => r' = r ∧ i_Rel (k + 5) u v) v v1) u v1 := by
  refine bd_el (P := fun u v => wpX_outCount (fun r => wpY_outCount (fun r' => r' = r ∧ i_Rel (k + 5) u v) v v1) u v1) ?_ I
  intro W R N C c an st f_pending f_a0 f_a1 f_b0 f_b1 f_needA f_needB f_chain g_op g_d g_a g_b g_x g_y g_needA g_needB a_fop a_fd a_fa a_fb a_at a_k0 a_k1 a_dem a_r0 a_r1 a_next1 a_next2 a_want a_kind a_widths a_inputs a_regs a_pcs a_logs a_counts h_code h_fact h_dem h_res h_seen H
  have rel := bd_rel (k := k + 5) (f_pending := f_pending) (f_a0 := f_a0) (f_a1 := f_a1) (f_b0 := f_b0) (f_b1 := f_b1) (f_needA := f_needA) (f_needB := f_needB) (f_chain := f_chain) (g_op := g_op) (g_d := g_d) (g_a := g_a) (g_b := g_b) (g_x := g_x) (g_y := g_y) (g_needA := g_needA) (g_needB := g_needB) (a_logs := a_logs) H
  obtain ⟨⟨w1, w2, r1, r2, c1, c2, n1⟩, hc, hy, P, an01, st01, sa, ipm, r3, pre, pst, rgm, pcs, cts⟩ := H
  unfold wpX_outCount wpY_outCount
  by_cases es : st = 0
  · exact br_t es (bd_Y_sd0 es (br_t rfl ⟨rfl, rel⟩))
  · refine br_f es ?_
    refine bd_X_sd (fun s hs e => ?_) (fun hn => br_t rfl (bd_Y_sd es (fun s hs e => absurd e (hn s hs)) (fun _ => br_t rfl ⟨rfl, rel⟩)))
    subst e
    have h2 : vp_in (nI s) 2 := vp_in_nI hs (by omega)
    exact br_f (by decide) ⟨h2, bd_Y_sd es (fun _ _ _ => br_f (by decide) ⟨h2, rfl, rel⟩) (fun h => absurd rfl (h s hs))⟩
theorem i_vc_reg {k : Nat} {u : SX} {v : SY} (I : i_Rel k u v) (hk : k + 5 ≤ 2563) (v1 : Int32) (v2 : Int32) : wpX_reg (fun r => wpY_reg (fun r' => r' = r ∧ i_Rel (k + 5) u v) v v1 v2) u v1 v2 := by
  refine bd_el (P := fun u v => wpX_reg (fun r => wpY_reg (fun r' => r' = r ∧ i_Rel (k + 5) u v) v v1 v2) u v1 v2) ?_ I
  intro W R N C c an st f_pending f_a0 f_a1 f_b0 f_b1 f_needA f_needB f_chain g_op g_d g_a g_b g_x g_y g_needA g_needB a_fop a_fd a_fa a_fb a_at a_k0 a_k1 a_dem a_r0 a_r1 a_next1 a_next2 a_want a_kind a_widths a_inputs a_regs a_pcs a_logs a_counts h_code h_fact h_dem h_res h_seen H
  have rel := bd_rel (k := k + 5) (f_pending := f_pending) (f_a0 := f_a0) (f_a1 := f_a1) (f_b0 := f_b0) (f_b1 := f_b1) (f_needA := f_needA) (f_needB := f_needB) (f_chain := f_chain) (g_op := g_op) (g_d := g_d) (g_a := g_a) (g_b := g_b) (g_x := g_x) (g_y := g_y) (g_needA := g_needA) (g_needB := g_needB) (a_logs := a_logs) H
  obtain ⟨⟨w1, w2, r1, r2, c1, c2, n1⟩, hc, hy, P, an01, st01, sa, ipm, r3, pre, pst, rgm, pcs, cts⟩ := H
  unfold wpX_reg wpY_reg
  by_cases es : st = 0
  · exact br_t es (bd_Y_sd0 es (br_t rfl ⟨rfl, rel⟩))
  · refine br_f es ?_
    refine bd_X_sd (fun s hs e => ?_) (fun hn => br_t rfl (bd_Y_sd es (fun s hs e => absurd e (hn s hs)) (fun _ => br_t rfl ⟨rfl, rel⟩)))
    subst e
    refine br_f (by decide) ?_
    refine bd_X_reg2 r2 (fun r hr e => ?_) (fun hn => br_t rfl (bd_Y_sd es (fun _ _ _ => br_f (by decide) (bd_Y_reg r2 (fun r hr e => absurd e (hn r hr)) (fun _ => br_t rfl ⟨rfl, rel⟩))) (fun h => absurd rfl (h s hs))))
    subst e
    have h8 : vp_in (nI (4 * s + r)) 8 := vp_in_nI (by omega) (by omega)
    refine br_f (by decide) ?_
    rw [bd_ix]
    refine ⟨h8, bd_Y_sd es (fun _ _ _ => br_f (by decide) (bd_Y_reg r2 (fun _ _ _ => br_f (by decide) ?_) (fun h => absurd rfl (h r hr)))) (fun h => absurd rfl (h s hs))⟩
    rw [bd_iy]
    exact ⟨h8, rfl, rel⟩
theorem i_vc_out {k : Nat} {u : SX} {v : SY} (I : i_Rel k u v) (hk : k + 5 ≤ 2563) (v1 : Int32) (v2 : Int32) : wpX_out (fun r => wpY_out (fun r' => r' = r ∧ i_Rel (k + 5) u v) v v1 v2) u v1 v2 := by
  refine bd_el (P := fun u v => wpX_out (fun r => wpY_out (fun r' => r' = r ∧ i_Rel (k + 5) u v) v v1 v2) u v1 v2) ?_ I
  intro W R N C c an st f_pending f_a0 f_a1 f_b0 f_b1 f_needA f_needB f_chain g_op g_d g_a g_b g_x g_y g_needA g_needB a_fop a_fd a_fa a_fb a_at a_k0 a_k1 a_dem a_r0 a_r1 a_next1 a_next2 a_want a_kind a_widths a_inputs a_regs a_pcs a_logs a_counts h_code h_fact h_dem h_res h_seen H
  have rel := bd_rel (k := k + 5) (f_pending := f_pending) (f_a0 := f_a0) (f_a1 := f_a1) (f_b0 := f_b0) (f_b1 := f_b1) (f_needA := f_needA) (f_needB := f_needB) (f_chain := f_chain) (g_op := g_op) (g_d := g_d) (g_a := g_a) (g_b := g_b) (g_x := g_x) (g_y := g_y) (g_needA := g_needA) (g_needB := g_needB) (a_logs := a_logs) H
  obtain ⟨⟨w1, w2, r1, r2, c1, c2, n1⟩, hc, hy, P, an01, st01, sa, ipm, r3, pre, pst, rgm, pcs, cts⟩ := H
  unfold wpX_out wpY_out
  by_cases es : st = 0
  · exact br_t es (bd_Y_sd0 es (br_t rfl ⟨rfl, rel⟩))
  · refine br_f es ?_
    refine bd_X_sd (fun s hs e => ?_) (fun hn => br_t rfl (bd_Y_sd es (fun s hs e => absurd e (hn s hs)) (fun _ => br_t rfl ⟨rfl, rel⟩)))
    subst e
    have h2 : vp_in (nI s) 2 := vp_in_nI hs (by omega)
    obtain ⟨ct, ct1, ct2⟩ := cts s hs
    have ec : a_counts (nI s).toNatClampNeg = nI ct := (bd_fat (by omega)).trans ct2
    have ys : ∀ {post : Int32 → Prop}, post 1 → wpY_isSide post (nI W, bd_lo W, nI R, nI C, nI N, g_op, g_d, g_a, g_b, g_x, g_y, g_needA, g_needB, an, st, h_code, h_fact, h_dem, h_res, a_inputs, a_regs, a_pcs, a_counts, a_logs, h_seen) (nI s) := fun {post} q => bd_Y_sd es (fun _ _ _ => q) (fun h => absurd rfl (h s hs))
    refine br_f (by decide) ?_
    rcases bd_ix3 v2 (n := ct) (by omega) with h | ⟨h1, h3, h4⟩ | ⟨i, hi, rfl⟩
    · exact br_t h (ys (br_f (by decide) (br_t h ⟨rfl, rel⟩)))
    · refine br_f h1 ⟨h2, ?_⟩
      rw [ec]
      refine br_f h4 (ys (br_f (by decide) (br_f h1 ⟨h2, ?_⟩)))
      rw [ec]
      exact br_t h3 ⟨rfl, rel⟩
    · have i0 := nI_pos (n := i) (by omega)
      have h32 : vp_in (nI (16 * s + i)) 32 := vp_in_nI (by omega) (by omega)
      refine br_f i0 ⟨h2, ?_⟩
      rw [ec, show nI s * 16 + nI i = nI (16 * s + i) by rw [show (16 : Int32) = nI 16 from rfl, pk_mul, nI_add, Nat.mul_comm]]
      refine br_t (nI_lt hi (by omega)) ⟨h32, ys (br_f (by decide) (br_f i0 ⟨h2, ?_⟩))⟩
      rw [ec, bd_j16]
      exact br_f (nI_ge hi (by omega)) ⟨h32, rfl, rel⟩
theorem i_vc_flip {k : Nat} {u : SX} {v : SY} (I : i_Rel k u v) (hk : k + 5 ≤ 2563) (v1 : Int32) (v2 : Int32) : wpX_flip (fun r u' => wpY_flip (fun r' v' => r' = r ∧ i_Rel (k + 5) u' v') v v1 v2) u v1 v2 := by
  refine bd_el (P := fun u v => wpX_flip (fun r u' => wpY_flip (fun r' v' => r' = r ∧ i_Rel (k + 5) u' v') v v1 v2) u v1 v2) ?_ I
  intro W R N C c an st f_pending f_a0 f_a1 f_b0 f_b1 f_needA f_needB f_chain g_op g_d g_a g_b g_x g_y g_needA g_needB a_fop a_fd a_fa a_fb a_at a_k0 a_k1 a_dem a_r0 a_r1 a_next1 a_next2 a_want a_kind a_widths a_inputs a_regs a_pcs a_logs a_counts h_code h_fact h_dem h_res h_seen H
  have rel := bd_rel (k := k + 5) (f_pending := f_pending) (f_a0 := f_a0) (f_a1 := f_a1) (f_b0 := f_b0) (f_b1 := f_b1) (f_needA := f_needA) (f_needB := f_needB) (f_chain := f_chain) (g_op := g_op) (g_d := g_d) (g_a := g_a) (g_b := g_b) (g_x := g_x) (g_y := g_y) (g_needA := g_needA) (g_needB := g_needB) (a_logs := a_logs) H
  obtain ⟨⟨w1, w2, r1, r2, c1, c2, n1⟩, hc, hy, P, an01, st01, sa, ipm, r3, pre, pst, rgm, pcs, cts⟩ := H
  unfold wpX_flip wpY_flip
  by_cases es : st = 0
  · exact br_t es (br_t es (br_t (by decide) ⟨rfl, rel⟩))
  · refine br_f es ?_
    have a1 := sa (bd_01i st01 es)
    obtain ⟨XJ, XB, YI, ag, mD, eD, Kp, wdt⟩ := pst a1
    refine bd_X_reg2 r2 (fun r hr e => ?_) (fun hn => br_t rfl (br_f es (bd_Y_reg r2 (fun r hr e => absurd e (hn r hr)) (fun _ => br_t rfl (br_t (by decide) ⟨rfl, rel⟩)))))
    subst e
    obtain ⟨q, q1, q2⟩ := pcs 1 (by omega)
    have h8 : vp_in (4 + nI r) 8 := by
      rw [show (4 : Int32) = nI 4 from rfl, nI_add]; exact vp_in_nI (by omega) (by omega)
    have e8 : (4 + nI r).toNatClampNeg = 4 + r := by
      rw [show (4 : Int32) = nI 4 from rfl, nI_add]; exact bd_cl (by omega)
    have hi : vp_in (nI (4 * q + r)) 100 := vp_in_nI (by omega) (by omega)
    refine br_f (by decide) ?_
    rw [q2, bd_ix, bd_fat (f := a_dem) (p := 4 * q + r) (by omega), e8]
    refine ⟨hi, nm_e ⟨h8, h8, nm_e (br_f es (bd_Y_reg r2 (fun _ _ _ => br_f (by decide) ?_) (fun h => absurd rfl (h r hr))))⟩⟩
    rw [q2, bd_iy, bd_fat (f := h_dem) (p := 4 * q + r) (by omega), eD q q1 r hr]
    refine ⟨hi, ?_⟩
    have mf : bd_mk W ((v2 &&& bd_lo W) &&& (a_dem (4 * q + r) ^^^ (-1))) := bd_mk_and (bd_mk_and' (bd_lo_mk (Nat.le_refl _) (by omega)))
    generalize (v2 &&& bd_lo W) &&& (a_dem (4 * q + r) ^^^ (-1)) = f at *
    have fin : i_Rel (k + 5) (nI W, nI R, nI C, bd_lo W, nI N, an, f_pending, f_a0, f_a1, f_b0, f_b1, f_needA, f_needB, f_chain, st, a_fop, a_fd, a_fa, a_fb, a_at, a_k0, a_k1, a_dem, a_r0, a_r1, a_next1, a_next2, a_want, a_kind, a_widths, a_inputs, upd a_regs (4 + r) (a_regs (4 + r) ^^^ f), a_pcs, a_logs, a_counts) (nI W, bd_lo W, nI R, nI C, nI N, g_op, g_d, g_a, g_b, g_x, g_y, g_needA, g_needB, an, st, h_code, h_fact, h_dem, h_res, a_inputs, upd a_regs (4 + r) (a_regs (4 + r) ^^^ f), a_pcs, a_counts, a_logs, h_seen) := by
      refine bd_rel ⟨⟨w1, w2, r1, r2, c1, c2, n1⟩, hc, hy, P, an01, st01, sa, ipm, r3, pre, pst, fun j => ?_, pcs, cts⟩
      by_cases e : j = 4 + r
      · rw [e, pk_us]; exact bd_mk_xor (rgm _) mf
      · rw [pk_un e]; exact rgm j
    refine br_c (fun z => ⟨rfl, ?_⟩) (fun z => ⟨h8, h8, ?_⟩)
    · have f0 : f = 0 := by
        have nn := bd_nn (x := f) (fun i hi => mf i (by omega))
        rw [Int32.lt_iff_toInt_lt, show (0 : Int32).toInt = 0 from rfl] at nn
        rw [Int32.le_iff_toInt_le, show (0 : Int32).toInt = 0 from rfl] at z
        exact Int32.toInt_inj.mp (by rw [show (0 : Int32).toInt = 0 from rfl]; omega)
      have : upd a_regs (4 + r) (a_regs (4 + r) ^^^ f) = a_regs := by
        rw [f0, Int32.xor_zero]; exact bd_us'
      rw [this] at fin ⊢
      exact fin
    · rw [e8]
      exact nm_e ⟨rfl, fin⟩
end
section
/-! ===== the owed row of analyse ===== -/
theorem bd_XJ_Cl {W R N : Nat} {c : Nat → Nat} {at' k0 k1 r0 r1 n1 n2 : Nat → Int32} (hN : N ≤ 24) (J : bd_XJ W R N c 25 at' k0 k1 r0 r1 n1 n2 0) : bd_Cl W R N c (fun q => ¬ at' q = 0) (bd_gx W k0 k1) :=
  ⟨J.2.2.1.1, J.2.2.1.2.1, fun p hp fp t l => (J.2.2.2.2 p hp (by omega) fp (by rw [b_0]; decide)).2.2 t l⟩
theorem bd_XB_CB {W R N : Nat} {c : Nat → Nat} {at' D kd wn : Nat → Int32} {G : Nat → Nat → Nat → Int32} (B : bd_XB W R N c at' G D kd wn 0) : bd_CB W R N c (fun q => ¬ at' q = 0) G D :=
  ⟨B.1.1, fun p hp fp t l => (B.2.2.2 p hp fp (by rw [b_0]; decide)).1 t l⟩
theorem bd_join {W R N : Nat} {c : Nat → Nat} {at' k0 k1 D r0 r1 n1 n2 wn kd wd f hD sn : Nat → Int32} (P : bd_PV W R N c) (hN : N ≤ 24) (J : bd_XJ W R N c 25 at' k0 k1 r0 r1 n1 n2 0) (B : bd_XB W R N c at' (bd_gx W k0 k1) D kd wn 0) (hw : ∀ r, r < R → wd r = nI (bd_bl (bd_un D r (N + 1)) 32))
    (I : bd_YI W R N c sn f) (K : bd_Cl W R N c (fun q => ¬ sn q = 0) (bd_gy W f)) (IB : bd_IB W R N c (fun q => ¬ sn q = 0) (bd_gy W f) hD) (CB : bd_CB W R N c (fun q => ¬ sn q = 0) (bd_gy W f) hD) : bd_Post W R N c at' k0 k1 D r0 r1 n1 n2 wn kd wd f hD sn := by
  have U : ∀ p, p ≤ N → (¬ at' p = 0 ↔ ¬ sn p = 0) ∧ (¬ at' p = 0 → ∀ r, r < R → bd_gx W k0 k1 p r = bd_gy W f p r) := fun p hp => bd_Iv_u (bd_gx_3 W k0 k1) (bd_gy_3 I.1) J.2.2.1 (bd_XJ_Cl hN J) I.2.2 K hp
  have IX : bd_IB W R N c (fun q => ¬ sn q = 0) (bd_gy W f) D := bd_IB_c P (fun p hp => (U p hp).1.mp) (fun p hp f r hr => (U p hp).2 f r hr) (fun p hp => (U p hp).1.mpr) B.1
  have CX : bd_CB W R N c (fun q => ¬ sn q = 0) (bd_gy W f) D := bd_CB_c P (fun p hp => (U p hp).1.mpr) (fun p hp f r hr => (U p hp).2 f r hr) (bd_XB_CB B)
  have eD : ∀ p, p ≤ N → ∀ r, r < R → hD (4 * p + r) = D (4 * p + r) := fun p hp r hr => bd_IB_u IB CB IX CX hp hr
  refine ⟨J, B, I, fun p hp => ⟨?_, (U p hp).2⟩, IB.1, eD, fun p hp => ⟨fun s => ?_, fun s => ?_⟩, hw⟩
  · have a := (U p hp).1
    exact ⟨fun z => Classical.byContradiction fun y => a.mpr y z, fun z => Classical.byContradiction fun y => a.mp y z⟩
  · have fp := (U p (by omega)).1.mpr s
    have e := (U p (by omega)).2 fp
    have kk := (B.2.2.2 p hp fp (by rw [b_0]; decide)).2.1
    unfold bd_kd at kk ⊢
    rw [e _ (P p hp).2.1, e _ (bd_ub_lt P hp)] at kk
    have eq : bd_qq c hD p = bd_qq c D p := by
      unfold bd_qq
      by_cases h8 : bd_op c p ≤ 8
      · rw [if_pos h8, if_pos h8]; exact eD (p + 1) (by omega) _ ((P p hp).2.2.1 h8)
      · rw [if_neg h8, if_neg h8]
    rw [eq]; exact kk
  · have a := (U p (by omega)).1
    exact B.2.2.1 p hp (Classical.byContradiction fun y => a.mp y s)
theorem i_vc_analyse {k : Nat} {u : SX} {v : SY} (I : i_Rel k u v) (hk : k + 5 ≤ 2563) : wpX_analyse (fun r u' => wpY_analyse (fun r' v' => r' = r ∧ i_Rel (k + 5) u' v') v) u := by
  refine bd_el (P := fun u v => wpX_analyse (fun r u' => wpY_analyse (fun r' v' => r' = r ∧ i_Rel (k + 5) u' v') v) u) ?_ I
  intro W R N C c an st f_pending f_a0 f_a1 f_b0 f_b1 f_needA f_needB f_chain g_op g_d g_a g_b g_x g_y g_needA g_needB a_fop a_fd a_fa a_fb a_at a_k0 a_k1 a_dem a_r0 a_r1 a_next1 a_next2 a_want a_kind a_widths a_inputs a_regs a_pcs a_logs a_counts h_code h_fact h_dem h_res h_seen H
  have rel := bd_rel (k := k + 5) (f_pending := f_pending) (f_a0 := f_a0) (f_a1 := f_a1) (f_b0 := f_b0) (f_b1 := f_b1) (f_needA := f_needA) (f_needB := f_needB) (f_chain := f_chain) (g_op := g_op) (g_d := g_d) (g_a := g_a) (g_b := g_b) (g_x := g_x) (g_y := g_y) (g_needA := g_needA) (g_needB := g_needB) (a_logs := a_logs) H
  obtain ⟨⟨w1, w2, r1, r2, c1, c2, n1⟩, hc, hy, P, an01, st01, sa, ipm, r3, pre, pst, rgm, pcs, cts⟩ := H
  by_cases ea : an = 0
  · subst ea
    rcases Nat.eq_zero_or_pos N with z | hN0
    · subst z
      exact br_t rfl (br_t rfl (br_t rfl (br_t rfl (br_t rfl ⟨rfl, rel⟩))))
    · obtain ⟨z1, z2, z3, z4, z5, z6, z7⟩ := pre rfl
      refine bd_X_an hc P w2 (by omega) (by omega) hN0 r2 z1 z2 z3 z4 (fun a0 a1 b0 b1 nA nB ch at' k0 k1 r0 r1' n1' n2 D wn kd wd J B hw => ?_)
      refine bd_Y_an hy P w2 (by omega) r2 (by omega) (by omega) hN0 z5 z6 z7 r3 (fun o d a b x y nA' nB' res f sn hD r q3 YI Cl IB CB hr => ?_)
      have PO := bd_join P (by omega) J B hw YI Cl IB CB
      refine ⟨hr kd PO.2.2.2.2.2.2.1, bd_rel ⟨⟨w1, w2, r1, r2, c1, c2, n1⟩, hc, hy, P, Or.inr rfl, st01, fun _ => rfl, ipm, q3, fun z => absurd z (by decide), fun _ => PO, rgm, pcs, cts⟩⟩
  · exact br_f ea (br_f ea (br_f ea ⟨rfl, rel⟩))
end
section
/-! ===== the owed row of emit ===== -/
def bd_RG (R : Nat) (x : Int32) : Prop := ∃ r, r < R ∧ x = nI r
def bd_VO (W R C o : Nat) (v2 v3 v4 : Int32) : Prop := (o = 0 ∨ bd_RG R v3) ∧ (o = 10 → ∃ d, d ≤ C ∧ v2 = nI d) ∧ (o ≤ 8 → bd_RG R v2) ∧ (1 ≤ o → o ≤ 5 → bd_RG R v4) ∧ (o = 6 ∨ o = 7 ∨ o = 10 → ∃ b, b < W ∧ v4 = nI b) ∧ (o = 8 → ∃ b, 1 ≤ b ∧ b ≤ W ∧ v4 = nI b)
def bd_VD (W R C : Nat) (v1 v2 v3 v4 : Int32) : Prop := ∃ o, o ≤ 10 ∧ v1 = nI o ∧ bd_VO W R C o v2 v3 v4
theorem bd_VD_o {W R C o : Nat} {v2 v3 v4 : Int32} (ho : o ≤ 10) : bd_VD W R C (nI o) v2 v3 v4 ↔ bd_VO W R C o v2 v3 v4 := by
  constructor
  · rintro ⟨o', h1, h2, h3⟩
    have : o' = o := ((nI_eq (by omega) (by omega)).mp h2).symm
    subst this; exact h3
  · intro h; exact ⟨o, ho, rfl, h⟩
section
variable {W R N C : Nat} {o : Nat}
variable {f_w f_regCount f_cap f_all f_n f_analysed f_pending f_a0 f_a1 f_b0 f_b1 f_needA f_needB f_chain f_started : Int32} {a_fop a_fd a_fa a_fb a_at a_k0 a_k1 a_dem a_r0 a_r1 a_next1 a_next2 a_want a_kind a_widths a_inputs a_regs a_pcs a_logs a_counts : Nat → Int32}
variable {post : Int32 → Prop} {v2 v3 v4 : Int32}
theorem bd_X_rg {post : Int32 → Prop} {x : Int32} (hR : R ≤ 4) (K1 : bd_RG R x → post 1) (K0 : ¬ bd_RG R x → post 0) : wpX_isReg post (nI W, nI R, nI C, bd_lo W, nI N, f_analysed, f_pending, f_a0, f_a1, f_b0, f_b1, f_needA, f_needB, f_chain, f_started, a_fop, a_fd, a_fa, a_fb, a_at, a_k0, a_k1, a_dem, a_r0, a_r1, a_next1, a_next2, a_want, a_kind, a_widths, a_inputs, a_regs, a_pcs, a_logs, a_counts) x :=
  bd_X_reg2 hR (fun r hr e => K1 ⟨r, hr, e⟩) (fun h => K0 fun z => by
    obtain ⟨r, hr, e⟩ := z
    exact h r hr e)
theorem bd_X_v66 (hR : R ≤ 4) (h1 : 1 ≤ o) (h5 : o ≤ 5) (K1 : bd_VO W R C o v2 v3 v4 → post 1) (K0 : ¬ bd_VO W R C o v2 v3 v4 → post 0) : wX_valid_66 post v2 v3 v4 (nI W) (nI R) (nI C) (bd_lo W) (nI N) f_analysed f_pending f_a0 f_a1 f_b0 f_b1 f_needA f_needB f_chain f_started a_fop a_fd a_fa a_fb a_at a_k0 a_k1 a_dem a_r0 a_r1 a_next1 a_next2 a_want a_kind a_widths a_inputs a_regs a_pcs a_logs a_counts := by
  unfold wX_valid_66
  refine bd_X_rg hR (fun g2 => br_f (by decide) ?_) (fun g2 => br_t rfl (K0 fun z => g2 (z.2.2.1 (by omega))))
  refine bd_X_rg hR (fun g3 => br_f (by decide) ?_) (fun g3 => br_t rfl (K0 fun z => g3 (z.1.resolve_left (by omega))))
  refine bd_X_rg hR (fun g4 => br_f (by decide) ?_) (fun g4 => br_t rfl (K0 fun z => g4 (z.2.2.2.1 h1 h5)))
  exact K1 ⟨Or.inr g3, fun e => by omega, fun _ => g2, fun _ _ => g4, fun e => by omega, fun e => by omega⟩
theorem bd_rgW {W : Nat} {x : Int32} (hW : W ≤ 16) {A B : Prop} (K1 : (∃ b, b < W ∧ x = nI b) → B) (K0 : (¬ ∃ b, b < W ∧ x = nI b) → A) : (x < 0 → A) ∧ (¬ x < 0 → ((nI W ≤ x → A) ∧ (¬ nI W ≤ x → B))) := by
  rcases bd_ix3 x (n := W) (by omega) with h | ⟨h1, h2, h3⟩ | ⟨j, hj, rfl⟩
  · refine br_t h (K0 ?_)
    rintro ⟨b, hb, rfl⟩
    exact nI_pos (by omega) h
  · refine br_f h1 (br_t h2 (K0 ?_))
    rintro ⟨b, hb, rfl⟩
    exact nI_ge hb (by omega) h2
  · exact br_f (nI_pos (by omega)) (br_f (nI_ge hj (by omega)) (K1 ⟨j, hj, rfl⟩))
theorem bd_rgS {W : Nat} {x : Int32} (hW : W ≤ 16) {A B : Prop} (K1 : (∃ b, 1 ≤ b ∧ b ≤ W ∧ x = nI b) → B) (K0 : (¬ ∃ b, 1 ≤ b ∧ b ≤ W ∧ x = nI b) → A) : (x < 1 → A) ∧ (¬ x < 1 → ((nI W < x → A) ∧ (¬ nI W < x → B))) := by
  rcases bd_ix4 x (n := W) (by omega) with h | ⟨h1, h2, h3⟩ | ⟨j, hj, rfl⟩
  · refine br_t ?_ (K0 ?_)
    · rw [Int32.lt_iff_toInt_lt] at h ⊢
      rw [show (0 : Int32).toInt = 0 from rfl] at h
      rw [show (1 : Int32).toInt = 1 from rfl]
      omega
    · rintro ⟨b, hb, hb', rfl⟩
      exact nI_pos (by omega) h
  · have k0 : ¬ ∃ b, 1 ≤ b ∧ b ≤ W ∧ x = nI b := by
      rintro ⟨b, hb, hb', rfl⟩
      exact h3 (nI_le hb' (by omega))
    exact br_c (fun _ => K0 k0) (fun _ => br_t h2 (K0 k0))
  · refine pk_lt j 1 (fun h => K0 ?_) (fun h => br_f (nI_nlt hj (by omega)) (K1 ⟨j, h, hj, rfl⟩))
    rintro ⟨b, hb, hb', e⟩
    have := (nI_eq (by omega) (by omega)).mp e
    omega
theorem bd_rgC {C : Nat} {x : Int32} (hC : C ≤ 24) {A B : Prop} (K1 : (∃ d, d ≤ C ∧ x = nI d) → B) (K0 : (¬ ∃ d, d ≤ C ∧ x = nI d) → A) : (x < 0 → A) ∧ (¬ x < 0 → ((nI C < x → A) ∧ (¬ nI C < x → B))) := by
  rcases bd_ix4 x (n := C) (by omega) with h | ⟨h1, h2, h3⟩ | ⟨j, hj, rfl⟩
  · refine br_t h (K0 ?_)
    rintro ⟨b, hb, rfl⟩
    exact nI_pos (by omega) h
  · refine br_f h1 (br_t h2 (K0 ?_))
    rintro ⟨b, hb, rfl⟩
    exact h3 (nI_le hb (by omega))
  · exact br_f (nI_pos (by omega)) (br_f (nI_nlt hj (by omega)) (K1 ⟨j, hj, rfl⟩))
theorem bd_X_v97 (hW : W ≤ 16) (hR : R ≤ 4) (h67 : o = 6 ∨ o = 7) (K1 : bd_VO W R C o v2 v3 v4 → post 1) (K0 : ¬ bd_VO W R C o v2 v3 v4 → post 0) : wX_valid_97 post v2 v3 v4 (nI W) (nI R) (nI C) (bd_lo W) (nI N) f_analysed f_pending f_a0 f_a1 f_b0 f_b1 f_needA f_needB f_chain f_started a_fop a_fd a_fa a_fb a_at a_k0 a_k1 a_dem a_r0 a_r1 a_next1 a_next2 a_want a_kind a_widths a_inputs a_regs a_pcs a_logs a_counts := by
  unfold wX_valid_97
  refine bd_X_rg hR (fun g2 => br_f (by decide) ?_) (fun g2 => br_t rfl (K0 fun z => g2 (z.2.2.1 (by omega))))
  refine bd_X_rg hR (fun g3 => br_f (by decide) ?_) (fun g3 => br_t rfl (K0 fun z => g3 (z.1.resolve_left (by omega))))
  exact bd_rgW hW (fun g4 => K1 ⟨Or.inr g3, fun e => by omega, fun _ => g2, fun _ _ => by omega, fun _ => g4, fun e => by omega⟩) (fun g4 => K0 fun z => g4 (z.2.2.2.2.1 (by omega)))
theorem bd_X_valid {v1 : Int32} (hW : W ≤ 16) (hR : R ≤ 4) (hC : C ≤ 24) (K1 : bd_VD W R C v1 v2 v3 v4 → post 1) (K0 : ¬ bd_VD W R C v1 v2 v3 v4 → post 0) : wpX_valid post (nI W, nI R, nI C, bd_lo W, nI N, f_analysed, f_pending, f_a0, f_a1, f_b0, f_b1, f_needA, f_needB, f_chain, f_started, a_fop, a_fd, a_fa, a_fb, a_at, a_k0, a_k1, a_dem, a_r0, a_r1, a_next1, a_next2, a_want, a_kind, a_widths, a_inputs, a_regs, a_pcs, a_logs, a_counts) v1 v2 v3 v4 := by
  rcases bd_ix4 v1 (n := 10) (by omega) with h | ⟨h1, h2, h3⟩ | ⟨o, ho, rfl⟩
  · refine br_t h (K0 ?_)
    rintro ⟨o, ho, rfl, -⟩
    exact nI_pos (by omega) h
  · refine br_f h1 (br_t h2 (K0 ?_))
    rintro ⟨o, ho, rfl, -⟩
    exact h3 (nI_le (b := 10) ho (by omega))
  · rw [bd_VD_o ho] at K1 K0
    refine br_f (nI_pos (by omega)) (br_f (nI_nlt (a := 10) ho (by omega)) ?_)
    refine pk_eq o 0 (fun e => ?_) (fun e0 => ?_)
    · refine bd_X_rg hR (fun g2 => ⟨rfl, K1 ⟨Or.inl e, fun e => by omega, fun _ => g2, fun _ _ => by omega, fun e => by omega, fun e => by omega⟩⟩) (fun g2 => ⟨rfl, K0 fun z => g2 (z.2.2.1 (by omega))⟩)
    refine pk_eq o 1 (fun e => bd_X_v66 hR (by omega) (by omega) K1 K0) (fun e1 => ?_)
    refine pk_eq o 2 (fun e => bd_X_v66 hR (by omega) (by omega) K1 K0) (fun e2 => ?_)
    refine pk_eq o 3 (fun e => bd_X_v66 hR (by omega) (by omega) K1 K0) (fun e3 => ?_)
    refine pk_eq o 4 (fun e => bd_X_v66 hR (by omega) (by omega) K1 K0) (fun e4 => ?_)
    refine pk_eq o 5 (fun e => bd_X_v66 hR (by omega) (by omega) K1 K0) (fun e5 => ?_)
    refine pk_eq o 6 (fun e => bd_X_v97 hW hR (by omega) K1 K0) (fun e6 => ?_)
    refine pk_eq o 7 (fun e => bd_X_v97 hW hR (by omega) K1 K0) (fun e7 => ?_)
    refine pk_eq o 8 (fun e => ?_) (fun e8 => ?_)
    · refine bd_X_rg hR (fun g2 => br_f (by decide) ?_) (fun g2 => br_t rfl (K0 fun z => g2 (z.2.2.1 (by omega))))
      refine bd_X_rg hR (fun g3 => br_f (by decide) ?_) (fun g3 => br_t rfl (K0 fun z => g3 (z.1.resolve_left (by omega))))
      exact bd_rgS hW (fun g4 => K1 ⟨Or.inr g3, fun e => by omega, fun _ => g2, fun _ _ => by omega, fun e => by omega, fun _ => g4⟩) (fun g4 => K0 fun z => g4 (z.2.2.2.2.2 e))
    refine pk_eq o 9 (fun e => ?_) (fun e9 => ?_)
    · exact bd_X_rg hR (fun g3 => ⟨rfl, K1 ⟨Or.inr g3, fun e => by omega, fun e => by omega, fun _ _ => by omega, fun e => by omega, fun e => by omega⟩⟩) (fun g3 => ⟨rfl, K0 fun z => g3 (z.1.resolve_left (by omega))⟩)
    refine pk_eq o 10 (fun e => ?_) (fun e10 => trivial)
    · refine bd_rgC hC (fun g2 => ?_) (fun g2 => K0 fun z => g2 (z.2.1 e))
      refine bd_X_rg hR (fun g3 => br_f (by decide) ?_) (fun g3 => br_t rfl (K0 fun z => g3 (z.1.resolve_left (by omega))))
      exact bd_rgW hW (fun g4 => K1 ⟨Or.inr g3, fun _ => g2, fun e => by omega, fun _ _ => by omega, fun _ => g4, fun e => by omega⟩) (fun g4 => K0 fun z => g4 (z.2.2.2.2.1 (by omega)))
end
section
variable {W R N C : Nat} {o : Nat}
variable {f_w f_regCount f_cap f_all f_n f_analysed f_pending f_a0 f_a1 f_b0 f_b1 f_needA f_needB f_chain f_started : Int32} {a_fop a_fd a_fa a_fb a_at a_k0 a_k1 a_dem a_r0 a_r1 a_next1 a_next2 a_want a_kind a_widths a_inputs a_regs a_pcs a_logs a_counts : Nat → Int32}
/-- the component stores a slot -/
theorem bd_X_put {post : Int32 → SX → Prop} {v1 v2 v3 v4 z : Int32} (hN : N < 24) (hz : z = 0 ∧ ¬ v1 = 0 ∧ ¬ v1 = 9 ∨ z = 1 ∧ (v1 = 0 ∨ v1 = 9)) (K : post (nI N) (nI W, nI R, nI C, bd_lo W, nI (N + 1), f_analysed, f_pending, f_a0, f_a1, f_b0, f_b1, f_needA, f_needB, f_chain, f_started, upd a_fop N v1, upd a_fd N (if v1 = 9 then 0 else v2), upd a_fa N (if v1 = 0 then 0 else v3), upd a_fb N (if v1 = 0 ∨ v1 = 9 then v4 &&& bd_lo W else v4), a_at, a_k0, a_k1, a_dem, a_r0, a_r1, a_next1, a_next2, a_want, a_kind, a_widths, a_inputs, a_regs, a_pcs, a_logs, a_counts)) : wX_emit_53 post v1 v2 v3 v4 z (nI W) (nI R) (nI C) (bd_lo W) (nI N) f_analysed f_pending f_a0 f_a1 f_b0 f_b1 f_needA f_needB f_chain f_started a_fop a_fd a_fa a_fb a_at a_k0 a_k1 a_dem a_r0 a_r1 a_next1 a_next2 a_want a_kind a_widths a_inputs a_regs a_pcs a_logs a_counts := by
  have h24 : vp_in (nI N) 24 := vp_in_nI (by omega) (by omega)
  have s128 : ∀ {fd fa : Nat → Int32} {b : Int32}, fd = upd a_fd N (if v1 = 9 then 0 else v2) → fa = upd a_fa N (if v1 = 0 then 0 else v3) → b = (if v1 = 0 ∨ v1 = 9 then v4 &&& bd_lo W else v4) → wX_emit_128 post b (nI N) (nI W) (nI R) (nI C) (bd_lo W) (nI N) f_analysed f_pending f_a0 f_a1 f_b0 f_b1 f_needA f_needB f_chain f_started (upd a_fop N v1) fd fa a_fb a_at a_k0 a_k1 a_dem a_r0 a_r1 a_next1 a_next2 a_want a_kind a_widths a_inputs a_regs a_pcs a_logs a_counts := by
    intro fd fa b e1 e2 e3
    subst e1; subst e2; subst e3
    refine And.intro h24 (nm_r (bd_uat (by omega) rfl) (nm_r (nI_1 N) ?_))
    rw [nI_pred]; exact K
  have s102 : ∀ {fd : Nat → Int32} {a : Int32}, fd = upd a_fd N (if v1 = 9 then 0 else v2) → a = (if v1 = 0 then 0 else v3) → wX_emit_102 post v4 z a (nI N) (nI W) (nI R) (nI C) (bd_lo W) (nI N) f_analysed f_pending f_a0 f_a1 f_b0 f_b1 f_needA f_needB f_chain f_started (upd a_fop N v1) fd a_fa a_fb a_at a_k0 a_k1 a_dem a_r0 a_r1 a_next1 a_next2 a_want a_kind a_widths a_inputs a_regs a_pcs a_logs a_counts := by
    intro fd a e1 e2
    refine And.intro h24 (nm_r (bd_uat (by omega) rfl) (br_c (fun g => s128 e1 (by rw [e2]) ?_) (fun g => s128 e1 (by rw [e2]) ?_)))
    · rcases hz with hz | hz
      · rw [if_neg (fun y => y.elim hz.2.1 hz.2.2)]
      · rw [hz.1] at g; exact absurd g (by decide)
    · rcases hz with hz | hz
      · exact absurd hz.1 g
      · rw [if_pos hz.2]
  have s84 : ∀ {d : Int32}, d = (if v1 = 9 then 0 else v2) → wX_emit_84 post v1 v3 v4 z d (nI N) (nI W) (nI R) (nI C) (bd_lo W) (nI N) f_analysed f_pending f_a0 f_a1 f_b0 f_b1 f_needA f_needB f_chain f_started (upd a_fop N v1) a_fd a_fa a_fb a_at a_k0 a_k1 a_dem a_r0 a_r1 a_next1 a_next2 a_want a_kind a_widths a_inputs a_regs a_pcs a_logs a_counts := by
    intro d e1
    refine And.intro h24 (nm_r (bd_uat (by omega) rfl) (br_c (fun g => s102 (by rw [e1]) (by rw [if_pos g])) (fun g => s102 (by rw [e1]) (by rw [if_neg g]))))
  exact And.intro h24 (nm_r (bd_uat (by omega) rfl) (br_c (fun g => s84 (by rw [if_pos g])) (fun g => s84 (by rw [if_neg g]))))
end
section
variable {W R N C : Nat} {o : Nat}
variable {g_w g_m g_rs g_cap g_n g_op g_d g_a g_b g_x g_y g_needA g_needB g_analysed g_started : Int32} {h_code h_fact h_dem h_res h_inputs h_regs h_pcs h_counts h_logs h_seen : Nat → Int32}
variable {post : Int32 → SY → Prop} {v2 v3 v4 : Int32}
theorem bd_Y_put {v1 : Int32} (hN : N < 24) (K : post (nI N) (nI W, bd_lo W, nI R, nI C, nI (N + 1), g_op, g_d, g_a, g_b, g_x, g_y, g_needA, g_needB, g_analysed, g_started, upd (upd (upd (upd h_code (4 * N) v1) (4 * N + 1) (if v1 = 9 then 0 else v2)) (4 * N + 2) (if v1 = 0 then 0 else v3)) (4 * N + 3) (if v1 = 0 ∨ v1 = 9 then v4 &&& bd_lo W else v4), h_fact, h_dem, h_res, h_inputs, h_regs, h_pcs, h_counts, h_logs, h_seen)) : wY_emit_212 post v1 v2 v3 v4 (nI W) (bd_lo W) (nI R) (nI C) (nI N) g_op g_d g_a g_b g_x g_y g_needA g_needB g_analysed g_started h_code h_fact h_dem h_res h_inputs h_regs h_pcs h_counts h_logs h_seen := by
  have s304 : ∀ {cd : Nat → Int32} {b : Int32}, cd = upd (upd (upd h_code (4 * N) v1) (4 * N + 1) (if v1 = 9 then 0 else v2)) (4 * N + 2) (if v1 = 0 then 0 else v3) → b = (if v1 = 0 ∨ v1 = 9 then v4 &&& bd_lo W else v4) → wY_emit_304 post b (4 * nI N + 3) (nI W) (bd_lo W) (nI R) (nI C) (nI N) g_op g_d g_a g_b g_x g_y g_needA g_needB g_analysed g_started cd h_fact h_dem h_res h_inputs h_regs h_pcs h_counts h_logs h_seen := by
    intro cd b e1 e2
    subst e1; subst e2
    rw [bd_i43]
    exact And.intro (vp_in_nI (by omega) (by omega)) (nm_r (bd_uat (by omega) rfl) (nm_r (nI_1 N) K))
  have s269 : ∀ {cd : Nat → Int32} {a : Int32}, cd = upd (upd h_code (4 * N) v1) (4 * N + 1) (if v1 = 9 then 0 else v2) → a = (if v1 = 0 then 0 else v3) → wY_emit_269 post v1 v4 a (4 * nI N + 2) (nI W) (bd_lo W) (nI R) (nI C) (nI N) g_op g_d g_a g_b g_x g_y g_needA g_needB g_analysed g_started cd h_fact h_dem h_res h_inputs h_regs h_pcs h_counts h_logs h_seen := by
    intro cd a e1 e2
    subst e1; subst e2
    rw [bd_i42]
    refine And.intro (vp_in_nI (by omega) (by omega)) (nm_r (bd_uat (by omega) rfl) (br_c (fun g => s304 rfl (by rw [if_pos (Or.inl g)])) (fun g => br_c (fun g' => s304 rfl (by rw [if_pos (Or.inr g')])) (fun g' => s304 rfl (by rw [if_neg (fun y => y.elim g g')])))))
  have s247 : ∀ {d : Int32}, d = (if v1 = 9 then 0 else v2) → wY_emit_247 post v1 v3 v4 d (4 * nI N + 1) (nI W) (bd_lo W) (nI R) (nI C) (nI N) g_op g_d g_a g_b g_x g_y g_needA g_needB g_analysed g_started (upd h_code (4 * N) v1) h_fact h_dem h_res h_inputs h_regs h_pcs h_counts h_logs h_seen := by
    intro d e1
    subst e1
    rw [bd_i41]
    refine And.intro (vp_in_nI (by omega) (by omega)) (nm_r (bd_uat (by omega) rfl) (br_c (fun g => s269 rfl (by rw [if_pos g])) (fun g => s269 rfl (by rw [if_neg g]))))
  unfold wY_emit_212
  rw [bd_i4]
  refine ⟨vp_in_nI (by omega) (by omega), nm_r (bd_uat (by omega) rfl) ?_⟩
  rw [← bd_i4]
  exact br_c (fun g => s247 (by rw [if_pos g])) (fun g => s247 (by rw [if_neg g]))
theorem bd_Y_rg {post : Int32 → Prop} {x : Int32} (hR : R ≤ 4) (K1 : bd_RG R x → post 1) (K0 : ¬ bd_RG R x → post 0) : wpY_isReg post (nI W, bd_lo W, nI R, nI C, nI N, g_op, g_d, g_a, g_b, g_x, g_y, g_needA, g_needB, g_analysed, g_started, h_code, h_fact, h_dem, h_res, h_inputs, h_regs, h_pcs, h_counts, h_logs, h_seen) x :=
  bd_Y_reg hR (fun r hr e => K1 ⟨r, hr, e⟩) (fun h => K0 fun z => by
    obtain ⟨r, hr, e⟩ := z
    exact h r hr e)
theorem bd_Y_e184 (hW : W ≤ 16) (ho : o ≤ 10) {z : Bool} (K1 : z = true → (o = 8 → ∃ b, 1 ≤ b ∧ b ≤ W ∧ v4 = nI b) → wY_emit_212 post (nI o) v2 v3 v4 (nI W) (bd_lo W) (nI R) (nI C) (nI N) g_op g_d g_a g_b g_x g_y g_needA g_needB g_analysed g_started h_code h_fact h_dem h_res h_inputs h_regs h_pcs h_counts h_logs h_seen) (K0 : ¬ (z = true ∧ (o = 8 → ∃ b, 1 ≤ b ∧ b ≤ W ∧ v4 = nI b)) → post (-1) (nI W, bd_lo W, nI R, nI C, nI N, g_op, g_d, g_a, g_b, g_x, g_y, g_needA, g_needB, g_analysed, g_started, h_code, h_fact, h_dem, h_res, h_inputs, h_regs, h_pcs, h_counts, h_logs, h_seen)) : wY_emit_184 post (nI o) v2 v3 v4 (bd_bb z) (nI W) (bd_lo W) (nI R) (nI C) (nI N) g_op g_d g_a g_b g_x g_y g_needA g_needB g_analysed g_started h_code h_fact h_dem h_res h_inputs h_regs h_pcs h_counts h_logs h_seen := by
  cases z
  · exact br_t rfl (K0 fun y => (nomatch y.1))
  · refine br_f (by decide) (pk_eq o 8 (fun e => ?_) (fun e => K1 rfl (fun y => absurd y e)))
    have := bd_rgS (x := v4) hW (A := post (-1) (nI W, bd_lo W, nI R, nI C, nI N, g_op, g_d, g_a, g_b, g_x, g_y, g_needA, g_needB, g_analysed, g_started, h_code, h_fact, h_dem, h_res, h_inputs, h_regs, h_pcs, h_counts, h_logs, h_seen)) (B := wY_emit_212 post (nI o) v2 v3 v4 (nI W) (bd_lo W) (nI R) (nI C) (nI N) g_op g_d g_a g_b g_x g_y g_needA g_needB g_analysed g_started h_code h_fact h_dem h_res h_inputs h_regs h_pcs h_counts h_logs h_seen) (fun g => K1 rfl (fun _ => g)) (fun g => K0 fun y => g (y.2 e))
    refine ⟨this.1, fun h => ?_⟩
    have t := this.2 h
    exact ⟨fun y => t.2 (fun y' => by
      rw [Int32.le_iff_toInt_le] at y
      rw [Int32.lt_iff_toInt_lt] at y'
      omega), fun y => t.1 (Int32.not_le.mp y)⟩
theorem bd_Y_e140 (hW : W ≤ 16) (ho : o ≤ 10) {z : Bool} (K1 : z = true → (o = 6 ∨ o = 7 ∨ o = 10 → ∃ b, b < W ∧ v4 = nI b) → (o = 8 → ∃ b, 1 ≤ b ∧ b ≤ W ∧ v4 = nI b) → wY_emit_212 post (nI o) v2 v3 v4 (nI W) (bd_lo W) (nI R) (nI C) (nI N) g_op g_d g_a g_b g_x g_y g_needA g_needB g_analysed g_started h_code h_fact h_dem h_res h_inputs h_regs h_pcs h_counts h_logs h_seen) (K0 : ¬ (z = true ∧ (o = 6 ∨ o = 7 ∨ o = 10 → ∃ b, b < W ∧ v4 = nI b) ∧ (o = 8 → ∃ b, 1 ≤ b ∧ b ≤ W ∧ v4 = nI b)) → post (-1) (nI W, bd_lo W, nI R, nI C, nI N, g_op, g_d, g_a, g_b, g_x, g_y, g_needA, g_needB, g_analysed, g_started, h_code, h_fact, h_dem, h_res, h_inputs, h_regs, h_pcs, h_counts, h_logs, h_seen)) : wY_emit_140 post (nI o) v2 v3 v4 (bd_bb z) (nI W) (bd_lo W) (nI R) (nI C) (nI N) g_op g_d g_a g_b g_x g_y g_needA g_needB g_analysed g_started h_code h_fact h_dem h_res h_inputs h_regs h_pcs h_counts h_logs h_seen := by
  have s158 : (o = 6 ∨ o = 7 ∨ o = 10) → wY_emit_158 post (nI o) v2 v3 v4 (bd_bb z) (nI W) (bd_lo W) (nI R) (nI C) (nI N) g_op g_d g_a g_b g_x g_y g_needA g_needB g_analysed g_started h_code h_fact h_dem h_res h_inputs h_regs h_pcs h_counts h_logs h_seen := by
    intro h
    have bad : (¬ (z = true ∧ ∃ b, b < W ∧ v4 = nI b)) → wY_emit_181 post (nI o) v2 v3 v4 (nI W) (bd_lo W) (nI R) (nI C) (nI N) g_op g_d g_a g_b g_x g_y g_needA g_needB g_analysed g_started h_code h_fact h_dem h_res h_inputs h_regs h_pcs h_counts h_logs h_seen := fun g => bd_Y_e184 (z := false) hW ho (fun y => (nomatch y)) (fun _ => K0 fun y => g ⟨y.1, y.2.1 h⟩)
    cases z
    · exact br_t rfl (bad fun y => (nomatch y.1))
    · exact br_f (by decide) (bd_rgW hW (fun g => bd_Y_e184 (z := true) hW ho (fun _ g8 => K1 rfl (fun _ => g) g8) (fun y => K0 fun y' => y ⟨rfl, y'.2.2⟩)) (fun g => bad fun y => g y.2))
  refine pk_eq o 6 (fun e => s158 (by omega)) (fun e6 => pk_eq o 7 (fun e => s158 (by omega)) (fun e7 => pk_eq o 10 (fun e => s158 (by omega)) (fun e10 => ?_)))
  exact bd_Y_e184 hW ho (fun y g8 => K1 y (fun h => h.elim (fun h => absurd h e6) (fun h => h.elim (fun h => absurd h e7) (fun h => absurd h e10))) g8) (fun y => K0 fun y' => y ⟨y'.1, y'.2.2⟩)
theorem bd_Y_e107 (hW : W ≤ 16) (hR : R ≤ 4) (ho : o ≤ 10) {z : Bool} (K1 : z = true → (1 ≤ o → o ≤ 5 → bd_RG R v4) → (o = 6 ∨ o = 7 ∨ o = 10 → ∃ b, b < W ∧ v4 = nI b) → (o = 8 → ∃ b, 1 ≤ b ∧ b ≤ W ∧ v4 = nI b) → wY_emit_212 post (nI o) v2 v3 v4 (nI W) (bd_lo W) (nI R) (nI C) (nI N) g_op g_d g_a g_b g_x g_y g_needA g_needB g_analysed g_started h_code h_fact h_dem h_res h_inputs h_regs h_pcs h_counts h_logs h_seen) (K0 : ¬ (z = true ∧ (1 ≤ o → o ≤ 5 → bd_RG R v4) ∧ (o = 6 ∨ o = 7 ∨ o = 10 → ∃ b, b < W ∧ v4 = nI b) ∧ (o = 8 → ∃ b, 1 ≤ b ∧ b ≤ W ∧ v4 = nI b)) → post (-1) (nI W, bd_lo W, nI R, nI C, nI N, g_op, g_d, g_a, g_b, g_x, g_y, g_needA, g_needB, g_analysed, g_started, h_code, h_fact, h_dem, h_res, h_inputs, h_regs, h_pcs, h_counts, h_logs, h_seen)) : wY_emit_107 post (nI o) v2 v3 v4 (bd_bb z) (nI W) (bd_lo W) (nI R) (nI C) (nI N) g_op g_d g_a g_b g_x g_y g_needA g_needB g_analysed g_started h_code h_fact h_dem h_res h_inputs h_regs h_pcs h_counts h_logs h_seen := by
  have pass : ¬ (1 ≤ o ∧ o ≤ 5) → wY_emit_140 post (nI o) v2 v3 v4 (bd_bb z) (nI W) (bd_lo W) (nI R) (nI C) (nI N) g_op g_d g_a g_b g_x g_y g_needA g_needB g_analysed g_started h_code h_fact h_dem h_res h_inputs h_regs h_pcs h_counts h_logs h_seen := fun h => bd_Y_e140 hW ho (fun y g6 g8 => K1 y (fun a b => absurd ⟨a, b⟩ h) g6 g8) (fun y => K0 fun y' => y ⟨y'.1, y'.2.2⟩)
  refine pk_lt o 1 (fun h => pass (by omega)) (fun h1 => pk_lt 5 o (fun h => pass (by omega)) (fun h5 => ?_))
  have bad : ¬ (z = true ∧ bd_RG R v4) → wY_emit_137 post (nI o) v2 v3 v4 (nI W) (bd_lo W) (nI R) (nI C) (nI N) g_op g_d g_a g_b g_x g_y g_needA g_needB g_analysed g_started h_code h_fact h_dem h_res h_inputs h_regs h_pcs h_counts h_logs h_seen := fun g => bd_Y_e140 (z := false) hW ho (fun y => (nomatch y)) (fun _ => K0 fun y => g ⟨y.1, y.2.1 h1 h5⟩)
  cases z
  · exact br_t rfl (bad fun y => (nomatch y.1))
  · refine br_f (by decide) ?_
    refine bd_Y_rg hR (fun g => br_f (by decide) ?_) (fun g => br_t rfl (bad fun y => g y.2))
    exact bd_Y_e140 (z := true) hW ho (fun _ g6 g8 => K1 rfl (fun _ _ => g) g6 g8) (fun y => K0 fun y' => y ⟨rfl, y'.2.2⟩)
theorem bd_Y_e60 (hW : W ≤ 16) (hR : R ≤ 4) (hC : C ≤ 24) (ho : o ≤ 10) {z : Bool} (K1 : z = true → (o = 10 → ∃ d, d ≤ C ∧ v2 = nI d) → (o ≤ 8 → bd_RG R v2) → (1 ≤ o → o ≤ 5 → bd_RG R v4) → (o = 6 ∨ o = 7 ∨ o = 10 → ∃ b, b < W ∧ v4 = nI b) → (o = 8 → ∃ b, 1 ≤ b ∧ b ≤ W ∧ v4 = nI b) → wY_emit_212 post (nI o) v2 v3 v4 (nI W) (bd_lo W) (nI R) (nI C) (nI N) g_op g_d g_a g_b g_x g_y g_needA g_needB g_analysed g_started h_code h_fact h_dem h_res h_inputs h_regs h_pcs h_counts h_logs h_seen) (K0 : ¬ (z = true ∧ (o = 10 → ∃ d, d ≤ C ∧ v2 = nI d) ∧ (o ≤ 8 → bd_RG R v2) ∧ (1 ≤ o → o ≤ 5 → bd_RG R v4) ∧ (o = 6 ∨ o = 7 ∨ o = 10 → ∃ b, b < W ∧ v4 = nI b) ∧ (o = 8 → ∃ b, 1 ≤ b ∧ b ≤ W ∧ v4 = nI b)) → post (-1) (nI W, bd_lo W, nI R, nI C, nI N, g_op, g_d, g_a, g_b, g_x, g_y, g_needA, g_needB, g_analysed, g_started, h_code, h_fact, h_dem, h_res, h_inputs, h_regs, h_pcs, h_counts, h_logs, h_seen)) : wY_emit_60 post (nI o) v2 v3 v4 (bd_bb z) (nI W) (bd_lo W) (nI R) (nI C) (nI N) g_op g_d g_a g_b g_x g_y g_needA g_needB g_analysed g_started h_code h_fact h_dem h_res h_inputs h_regs h_pcs h_counts h_logs h_seen := by
  have bad : ¬ (z = true ∧ (o = 10 → ∃ d, d ≤ C ∧ v2 = nI d) ∧ (o ≤ 8 → bd_RG R v2)) → wY_emit_106 post (nI o) v2 v3 v4 (nI W) (bd_lo W) (nI R) (nI C) (nI N) g_op g_d g_a g_b g_x g_y g_needA g_needB g_analysed g_started h_code h_fact h_dem h_res h_inputs h_regs h_pcs h_counts h_logs h_seen := fun g => bd_Y_e107 (z := false) hW hR ho (fun y => (nomatch y)) (fun _ => K0 fun y => g ⟨y.1, y.2.1, y.2.2.1⟩)
  have good : z = true → (o = 10 → ∃ d, d ≤ C ∧ v2 = nI d) → (o ≤ 8 → bd_RG R v2) → wY_emit_102 post (nI o) v2 v3 v4 (nI W) (bd_lo W) (nI R) (nI C) (nI N) g_op g_d g_a g_b g_x g_y g_needA g_needB g_analysed g_started h_code h_fact h_dem h_res h_inputs h_regs h_pcs h_counts h_logs h_seen := fun e g10 g8 => bd_Y_e107 (z := true) hW hR ho (fun _ a b d => K1 e g10 g8 a b d) (fun y => K0 fun y' => y ⟨rfl, y'.2.2.2⟩)
  cases z
  · exact br_t rfl (bad fun y => (nomatch y.1))
  · refine br_f (by decide) (pk_eq o 10 (fun e => bd_rgC hC (fun g => good rfl (fun _ => g) (fun y => by omega)) (fun g => bad fun y => g (y.2.1 e))) (fun e10 => pk_eq o 9 (fun e => good rfl (fun y => by omega) (fun y => by omega)) (fun e9 => ?_)))
    have h8 : o ≤ 8 := by omega
    exact bd_Y_rg hR (fun g => br_f (by decide) (good rfl (fun y => absurd y e10) (fun _ => g))) (fun g => br_t rfl (bad fun y => g (y.2.2 h8)))
/-- the reference's emit -/
theorem bd_Y_em {v1 : Int32} (hW : W ≤ 16) (hR : R ≤ 4) (hC : C ≤ 24) (hNC : N < C) (K1 : bd_VD W R C v1 v2 v3 v4 → wY_emit_212 post v1 v2 v3 v4 (nI W) (bd_lo W) (nI R) (nI C) (nI N) g_op g_d g_a g_b g_x g_y g_needA g_needB 0 g_started h_code h_fact h_dem h_res h_inputs h_regs h_pcs h_counts h_logs h_seen) (K0 : ¬ bd_VD W R C v1 v2 v3 v4 → post (-1) (nI W, bd_lo W, nI R, nI C, nI N, g_op, g_d, g_a, g_b, g_x, g_y, g_needA, g_needB, 0, g_started, h_code, h_fact, h_dem, h_res, h_inputs, h_regs, h_pcs, h_counts, h_logs, h_seen)) : wpY_emit post (nI W, bd_lo W, nI R, nI C, nI N, g_op, g_d, g_a, g_b, g_x, g_y, g_needA, g_needB, 0, g_started, h_code, h_fact, h_dem, h_res, h_inputs, h_regs, h_pcs, h_counts, h_logs, h_seen) v1 v2 v3 v4 := by
  refine br_t rfl (br_t (nI_lt hNC (by omega)) ?_)
  have s60 : ∀ o, o ≤ 10 → v1 = nI o → ∀ z : Bool, (z = true ↔ (o = 0 ∨ bd_RG R v3)) → wY_emit_60 post v1 v2 v3 v4 (bd_bb z) (nI W) (bd_lo W) (nI R) (nI C) (nI N) g_op g_d g_a g_b g_x g_y g_needA g_needB 0 g_started h_code h_fact h_dem h_res h_inputs h_regs h_pcs h_counts h_logs h_seen := by
    intro o ho e z hz
    subst e
    rw [bd_VD_o ho] at K1 K0
    exact bd_Y_e60 hW hR hC ho (fun a b d e f g => K1 ⟨hz.mp a, b, d, e, f, g⟩) (fun y => K0 fun y' => y ⟨hz.mpr y'.1, y'.2⟩)
  rcases bd_ix4 v1 (n := 10) (by omega) with h | ⟨h1, h2, h3⟩ | ⟨o, ho, e⟩
  · have nv : ¬ bd_VD W R C v1 v2 v3 v4 := by
      rintro ⟨o, ho, rfl, -⟩
      exact nI_pos (by omega) h
    have ne : ∀ o, o ≤ 10 → ¬ v1 = nI o := fun o ho e => by rw [e] at h; exact nI_pos (by omega) h
    refine br_t h (br_t rfl (br_t (by
      rw [Int32.lt_iff_toInt_lt] at h ⊢
      rw [show (0 : Int32).toInt = 0 from rfl] at h
      rw [show (1 : Int32).toInt = 1 from rfl]
      omega) (br_f (ne 6 (by omega)) (br_f (ne 7 (by omega)) (br_f (ne 10 (by omega)) (br_t rfl (K0 nv)))))))
  · have nv : ¬ bd_VD W R C v1 v2 v3 v4 := by
      rintro ⟨o, ho, rfl, -⟩
      exact h3 (nI_le (b := 10) ho (by omega))
    have ne : ∀ o, o ≤ 10 → ¬ v1 = nI o := fun o ho e => by rw [e] at h3; exact h3 (nI_le (b := 10) ho (by omega))
    have g5 : (5 : Int32) < v1 := by
      rw [Int32.lt_iff_toInt_lt] at h2 ⊢
      rw [show (nI 10).toInt = 10 from rfl] at h2
      rw [show (5 : Int32).toInt = 5 from rfl]
      omega
    have s140 : wY_emit_140 post v1 v2 v3 v4 0 (nI W) (bd_lo W) (nI R) (nI C) (nI N) g_op g_d g_a g_b g_x g_y g_needA g_needB 0 g_started h_code h_fact h_dem h_res h_inputs h_regs h_pcs h_counts h_logs h_seen := br_f (ne 6 (by omega)) (br_f (ne 7 (by omega)) (br_f (ne 10 (by omega)) (br_t rfl (K0 nv))))
    exact br_f h1 (br_t h2 (br_t rfl (br_c (fun _ => s140) (fun _ => br_t g5 s140))))
  · subst e
    refine br_f (nI_pos (by omega)) (br_f (nI_nlt (a := 10) ho (by omega)) (pk_eq o 0 (fun e => s60 o ho rfl true ⟨fun _ => Or.inl e, fun _ => rfl⟩) (fun e => ?_)))
    exact bd_Y_rg hR (fun g => br_f (by decide) (s60 o ho rfl true ⟨fun _ => Or.inr g, fun _ => rfl⟩)) (fun g => br_t rfl (s60 o ho rfl false ⟨fun y => (nomatch y), fun y => absurd (y.resolve_left e) g⟩))
end
end
section
/-! ===== emit and start, owed ===== -/
def bd_c' (c : Nat → Nat) (N o d a b : Nat) (j : Nat) : Nat := if j = 4 * N then o else if j = 4 * N + 1 then d else if j = 4 * N + 2 then a else if j = 4 * N + 3 then b else c j
theorem bd_c'_lt {c : Nat → Nat} {N o d a b j : Nat} (h : j < 4 * N) : bd_c' c N o d a b j = c j := by
  unfold bd_c'
  rw [if_neg (by omega), if_neg (by omega), if_neg (by omega), if_neg (by omega)]
theorem bd_c'_0 {c : Nat → Nat} {N o d a b : Nat} : bd_c' c N o d a b (4 * N) = o := by unfold bd_c'; rw [if_pos rfl]
theorem bd_c'_1 {c : Nat → Nat} {N o d a b : Nat} : bd_c' c N o d a b (4 * N + 1) = d := by unfold bd_c'; rw [if_neg (by omega), if_pos rfl]
theorem bd_c'_2 {c : Nat → Nat} {N o d a b : Nat} : bd_c' c N o d a b (4 * N + 2) = a := by unfold bd_c'; rw [if_neg (by omega), if_neg (by omega), if_pos rfl]
theorem bd_c'_3 {c : Nat → Nat} {N o d a b : Nat} : bd_c' c N o d a b (4 * N + 3) = b := by unfold bd_c'; rw [if_neg (by omega), if_neg (by omega), if_neg (by omega), if_pos rfl]
/-- what is stored is a slot -/
theorem bd_VD_c {W R C : Nat} (hW : W ≤ 16) (hR0 : 0 < R) (hC : C ≤ 24) (hR : R ≤ 4) {v1 v2 v3 v4 : Int32} (h : bd_VD W R C v1 v2 v3 v4) : ∃ o d a b, v1 = nI o ∧ (if v1 = 9 then 0 else v2) = nI d ∧ (if v1 = 0 then 0 else v3) = nI a ∧ (if v1 = 0 ∨ v1 = 9 then v4 &&& bd_lo W else v4) = nI b ∧
    o ≤ 10 ∧ a < R ∧ (o ≤ 8 → d < R) ∧ (1 ≤ o → o ≤ 5 → b < R) ∧ (o = 6 ∨ o = 7 ∨ o = 10 → b < W) ∧ (o = 8 → 1 ≤ b ∧ b ≤ W) ∧ (o = 0 ∨ o = 9 → b < 2 ^ W) ∧ d ≤ 24 ∧ b < 65536 := by
  obtain ⟨o, ho, rfl, q1, q2, q3, q4, q5, q6⟩ := h
  have e9 : nI o = 9 ↔ o = 9 := nI_eq (b := 9) (by omega) (by omega)
  have e0 : nI o = 0 ↔ o = 0 := nI_eq (b := 0) (by omega) (by omega)
  have p16 : 2 ^ W ≤ 65536 := Nat.pow_le_pow_right (by omega) hW
  have hd : ∃ d, (if nI o = 9 then 0 else v2) = nI d ∧ (o ≤ 8 → d < R) ∧ d ≤ 24 := by
    by_cases h9 : o = 9
    · exact ⟨0, by rw [if_pos (e9.mpr h9)]; rfl, fun _ => hR0, by omega⟩
    · rw [if_neg (fun z => h9 (e9.mp z))]
      by_cases h10 : o = 10
      · obtain ⟨d, d1, d2⟩ := q2 h10
        exact ⟨d, d2, fun z => by omega, by omega⟩
      · have h8 : o ≤ 8 := by omega
        obtain ⟨d, d1, d2⟩ := q3 h8
        exact ⟨d, d2, fun _ => d1, by omega⟩
  have ha : ∃ a, (if nI o = 0 then 0 else v3) = nI a ∧ a < R := by
    by_cases h0 : o = 0
    · exact ⟨0, by rw [if_pos (e0.mpr h0)]; rfl, hR0⟩
    · rw [if_neg (fun z => h0 (e0.mp z))]
      obtain ⟨a, a1, a2⟩ := q1.resolve_left h0
      exact ⟨a, a2, a1⟩
  have hb : ∃ b, (if nI o = 0 ∨ nI o = 9 then v4 &&& bd_lo W else v4) = nI b ∧ (1 ≤ o → o ≤ 5 → b < R) ∧ (o = 6 ∨ o = 7 ∨ o = 10 → b < W) ∧ (o = 8 → 1 ≤ b ∧ b ≤ W) ∧ (o = 0 ∨ o = 9 → b < 2 ^ W) ∧ b < 65536 := by
    by_cases h09 : o = 0 ∨ o = 9
    · rw [if_pos (h09.imp e0.mpr e9.mpr)]
      have hm : (bd_lo W).toBitVec.toNat = 2 ^ W - 1 := pk_tn (by omega)
      have lt : v4.toBitVec.toNat % 2 ^ W < 2 ^ W := Nat.mod_lt _ (Nat.two_pow_pos W)
      exact ⟨_, pk_and v4 W hm, fun _ _ => by omega, fun _ => by omega, fun _ => by omega, fun _ => lt, by omega⟩
    · rw [if_neg (fun z => h09 (z.imp e0.mp e9.mp))]
      by_cases h5 : 1 ≤ o ∧ o ≤ 5
      · obtain ⟨b, b1, b2⟩ := q4 h5.1 h5.2
        exact ⟨b, b2, fun _ _ => b1, fun _ => by omega, fun _ => by omega, fun z => absurd z h09, by omega⟩
      · by_cases h6 : o = 6 ∨ o = 7 ∨ o = 10
        · obtain ⟨b, b1, b2⟩ := q5 h6
          exact ⟨b, b2, fun x y => absurd ⟨x, y⟩ h5, fun _ => b1, fun _ => by omega, fun z => absurd z h09, by omega⟩
        · have h8 : o = 8 := by omega
          obtain ⟨b, b1, b2, b3⟩ := q6 h8
          exact ⟨b, b3, fun x y => absurd ⟨x, y⟩ h5, fun z => absurd z h6, fun _ => ⟨b1, b2⟩, fun z => absurd z h09, by omega⟩
  obtain ⟨d, d1, d2, d3⟩ := hd
  obtain ⟨a, a1, a2⟩ := ha
  obtain ⟨b, b1, b2, b3, b4, b5, b6⟩ := hb
  exact ⟨o, d, a, b, rfl, d1, a1, b1, ho, a2, d2, b2, b3, b4, b5, d3, b6⟩
theorem i_vc_emit {k : Nat} {u : SX} {v : SY} (I : i_Rel k u v) (hk : k + 5 ≤ 2563) (v1 : Int32) (v2 : Int32) (v3 : Int32) (v4 : Int32) : wpX_emit (fun r u' => wpY_emit (fun r' v' => r' = r ∧ i_Rel (k + 5) u' v') v v1 v2 v3 v4) u v1 v2 v3 v4 := by
  refine bd_el (P := fun u v => wpX_emit (fun r u' => wpY_emit (fun r' v' => r' = r ∧ i_Rel (k + 5) u' v') v v1 v2 v3 v4) u v1 v2 v3 v4) ?_ I
  intro W R N C c an st f_pending f_a0 f_a1 f_b0 f_b1 f_needA f_needB f_chain g_op g_d g_a g_b g_x g_y g_needA g_needB a_fop a_fd a_fa a_fb a_at a_k0 a_k1 a_dem a_r0 a_r1 a_next1 a_next2 a_want a_kind a_widths a_inputs a_regs a_pcs a_logs a_counts h_code h_fact h_dem h_res h_seen H
  have rel := bd_rel (k := k + 5) (f_pending := f_pending) (f_a0 := f_a0) (f_a1 := f_a1) (f_b0 := f_b0) (f_b1 := f_b1) (f_needA := f_needA) (f_needB := f_needB) (f_chain := f_chain) (g_op := g_op) (g_d := g_d) (g_a := g_a) (g_b := g_b) (g_x := g_x) (g_y := g_y) (g_needA := g_needA) (g_needB := g_needB) (a_logs := a_logs) H
  obtain ⟨⟨w1, w2, r1, r2, c1, c2, n1⟩, hc, hy, P, an01, st01, sa, ipm, r3, pre, pst, rgm, pcs, cts⟩ := H
  by_cases ea : an = 0
  · subst ea
    refine br_t rfl ?_
    by_cases hNC : N < C
    · refine br_t (nI_lt hNC (by omega)) ?_
      refine bd_X_valid w2 r2 c2 (fun vd => br_f (by decide) ?_) (fun nvd => br_t rfl ?_)
      · have fin : ∀ z : Int32, (z = 0 ∧ ¬ v1 = 0 ∧ ¬ v1 = 9 ∨ z = 1 ∧ (v1 = 0 ∨ v1 = 9)) → wX_emit_53 (fun r u' => wpY_emit (fun r' v' => r' = r ∧ i_Rel (k + 5) u' v') (nI W, bd_lo W, nI R, nI C, nI N, g_op, g_d, g_a, g_b, g_x, g_y, g_needA, g_needB, 0, st, h_code, h_fact, h_dem, h_res, a_inputs, a_regs, a_pcs, a_counts, a_logs, h_seen) v1 v2 v3 v4) v1 v2 v3 v4 z (nI W) (nI R) (nI C) (bd_lo W) (nI N) 0 f_pending f_a0 f_a1 f_b0 f_b1 f_needA f_needB f_chain st a_fop a_fd a_fa a_fb a_at a_k0 a_k1 a_dem a_r0 a_r1 a_next1 a_next2 a_want a_kind a_widths a_inputs a_regs a_pcs a_logs a_counts := by
          intro z hz
          refine bd_X_put (by omega) hz ?_
          refine bd_Y_em w2 r2 c2 hNC (fun _ => bd_Y_put (by omega) ⟨rfl, ?_⟩) (fun g => absurd vd g)
          obtain ⟨o, d, a, b, e1, e2, e3, e4, q1, q2, q3, q4, q5, q6, q7, q8, q9⟩ := bd_VD_c w2 (by omega) c2 r2 vd
          rw [e1] at e2 e3 e4 ⊢
          rw [e2, e3, e4]
          have hcp : ∀ p, p < N → bd_op (bd_c' c N o d a b) p = bd_op c p ∧ bd_d (bd_c' c N o d a b) p = bd_d c p ∧ bd_a (bd_c' c N o d a b) p = bd_a c p ∧ bd_b (bd_c' c N o d a b) p = bd_b c p := fun p hp =>
            ⟨bd_c'_lt (by omega), bd_c'_lt (by omega), bd_c'_lt (by omega), bd_c'_lt (by omega)⟩
          refine bd_rel (N := N + 1) (c := bd_c' c N o d a b) ⟨⟨w1, w2, r1, r2, c1, c2, by omega⟩, fun p hp => ?_, fun j hj => ?_, fun p hp => ?_, an01, st01, sa, ipm, r3, pre, fun z => absurd z (by decide), rgm, fun s hs => ?_, cts⟩
          · by_cases e : p = N
            · subst e
              exact ⟨pk_us.trans (congrArg nI bd_c'_0.symm), pk_us.trans (congrArg nI bd_c'_1.symm), pk_us.trans (congrArg nI bd_c'_2.symm), pk_us.trans (congrArg nI bd_c'_3.symm)⟩
            · obtain ⟨g1, g2, g3, g4⟩ := hcp p (by omega)
              rw [pk_un e, pk_un e, pk_un e, pk_un e, g1, g2, g3, g4]
              exact hc p (by omega)
          · by_cases e3' : j = 4 * N + 3
            · rw [e3', pk_us, bd_c'_3]
            rw [pk_un e3']
            by_cases e2' : j = 4 * N + 2
            · rw [e2', pk_us, bd_c'_2]
            rw [pk_un e2']
            by_cases e1' : j = 4 * N + 1
            · rw [e1', pk_us, bd_c'_1]
            rw [pk_un e1']
            by_cases e0' : j = 4 * N
            · rw [e0', pk_us, bd_c'_0]
            rw [pk_un e0', bd_c'_lt (by omega)]
            exact hy j (by omega)
          · by_cases e : p = N
            · subst e
              unfold bd_op bd_d bd_a bd_b
              rw [bd_c'_0, bd_c'_1, bd_c'_2, bd_c'_3]
              exact ⟨q1, q2, q3, q4, q5, q6, q7, q8, q9⟩
            · obtain ⟨g1, g2, g3, g4⟩ := hcp p (by omega)
              rw [g1, g2, g3, g4]
              exact P p (by omega)
          · obtain ⟨q, hq, e⟩ := pcs s hs
            exact ⟨q, by omega, e⟩
        exact br_c (fun e => fin 1 (Or.inr ⟨rfl, Or.inl e⟩)) (fun e => br_c (fun g => fin 1 (Or.inr ⟨rfl, Or.inr g⟩)) (fun g => fin 0 (Or.inl ⟨rfl, e, g⟩)))
      · exact bd_Y_em w2 r2 c2 hNC (fun g => absurd g nvd) (fun _ => ⟨rfl, rel⟩)
    · have nl : ¬ nI N < nI C := nI_nlt (by omega) (by omega)
      exact br_f nl (br_t rfl (br_f nl (br_t rfl ⟨rfl, rel⟩)))
  · exact br_f ea (br_f ea (br_f ea ⟨rfl, rel⟩))
/-! start -/
section
variable {W R N C : Nat}
variable {f_w f_regCount f_cap f_all f_n f_analysed f_pending f_a0 f_a1 f_b0 f_b1 f_needA f_needB f_chain f_started : Int32} {a_fop a_fd a_fa a_fb a_at a_k0 a_k1 a_dem a_r0 a_r1 a_next1 a_next2 a_want a_kind a_widths a_inputs a_regs a_pcs a_logs a_counts : Nat → Int32}
def bd_sg (rg ip : Nat → Int32) (w : Nat → Nat) : Nat → Nat → Int32
  | 0 => rg
  | r + 1 => upd (upd (bd_sg rg ip w r) r (ip r)) (4 + r) (ip r &&& bd_lo (w r))
theorem bd_X_st {post : Int32 → SX → Prop} {w : Nat → Nat} (hR : R ≤ 4) (hw : ∀ r, r < R → a_widths r = nI (w r) ∧ w r ≤ 16) (K : post 1 (nI W, nI R, nI C, bd_lo W, nI N, f_analysed, f_pending, f_a0, f_a1, f_b0, f_b1, f_needA, f_needB, f_chain, 1, a_fop, a_fd, a_fa, a_fb, a_at, a_k0, a_k1, a_dem, a_r0, a_r1, a_next1, a_next2, a_want, a_kind, a_widths, a_inputs, bd_sg a_regs a_inputs w R, upd (upd a_pcs 0 0) 1 0, a_logs, upd (upd a_counts 0 0) 1 0)) (ha : ¬ f_analysed = 0) : wpX_start post (nI W, nI R, nI C, bd_lo W, nI N, f_analysed, f_pending, f_a0, f_a1, f_b0, f_b1, f_needA, f_needB, f_chain, f_started, a_fop, a_fd, a_fa, a_fb, a_at, a_k0, a_k1, a_dem, a_r0, a_r1, a_next1, a_next2, a_want, a_kind, a_widths, a_inputs, a_regs, a_pcs, a_logs, a_counts) := by
  have loop : ∀ m r, r + m = R → wX_start_38 post (nI W) (nI R) (nI C) (bd_lo W) (nI N) f_analysed f_pending f_a0 f_a1 f_b0 f_b1 f_needA f_needB f_chain f_started (m + 1) (nI r) a_fop a_fd a_fa a_fb a_at a_k0 a_k1 a_dem a_r0 a_r1 a_next1 a_next2 a_want a_kind a_widths a_inputs (bd_sg a_regs a_inputs w r) (upd (upd a_pcs 0 0) 1 0) a_logs (upd (upd a_counts 0 0) 1 0) := by
    intro m
    induction m with
    | zero =>
      intro r hr
      obtain rfl : r = R := by omega
      exact br_t (nI_le (Nat.le_refl _) (by omega)) K
    | succ m ih =>
      intro r hr
      have h4 : vp_in (nI r) 4 := vp_in_nI (by omega) (by omega)
      obtain ⟨w1, w2⟩ := hw r (by omega)
      refine br_f (nI_ge (by omega) (by omega)) ⟨h4, vp_in_nI (by omega) (by omega), nm_r (e' := upd (bd_sg a_regs a_inputs w r) r (a_inputs r)) (bd_uat (by omega) (bd_fat (by omega))) ⟨h4, h4, ?_⟩⟩
      rw [bd_fat (f := a_widths) (p := r) (by omega), w1]
      refine bd_X_low (by omega) ?_
      have e8 : (4 : Int32) + nI r = nI (4 + r) := by rw [show (4 : Int32) = nI 4 from rfl, nI_add]
      rw [e8]
      exact ⟨vp_in_nI (by omega) (by omega), nm_r (e' := bd_sg a_regs a_inputs w (r + 1)) (by rw [bd_cl (by omega), bd_cl (by omega)]; rfl) (nm_r (nI_1 r) (ih (r + 1) (by omega)))⟩
  refine br_f ha ⟨3, br_f (by decide) ⟨vp_in_iff.mpr (by decide), nm_e ⟨vp_in_iff.mpr (by decide), nm_e (nm_e ?_)⟩⟩⟩
  refine br_f (by decide) ⟨vp_in_iff.mpr (by decide), nm_e ⟨vp_in_iff.mpr (by decide), nm_e (nm_e ?_)⟩⟩
  exact br_t (by decide) ⟨R + 1, loop R 0 (by omega)⟩
end
section
variable {W R N C : Nat}
variable {g_w g_m g_rs g_cap g_n g_op g_d g_a g_b g_x g_y g_needA g_needB g_analysed g_started : Int32} {h_code h_fact h_dem h_res h_inputs h_regs h_pcs h_counts h_logs h_seen : Nat → Int32}
theorem bd_Y_st {post : Int32 → SY → Prop} {w : Nat → Nat} (hW : W ≤ 16) (hW0 : 0 < W) (hN : N ≤ 24) (hR : R ≤ 4) (mD : ∀ j, bd_mk W (h_dem j)) (hw : ∀ r, r < R → w r = bd_bl (bd_un h_dem r (N + 1)) W) (K : post 1 (nI W, bd_lo W, nI R, nI C, nI N, g_op, g_d, g_a, g_b, g_x, g_y, g_needA, g_needB, 1, 1, h_code, h_fact, h_dem, h_res, h_inputs, bd_sg h_regs h_inputs w R, upd (upd h_pcs 0 0) 1 0, upd (upd h_counts 0 0) 1 0, h_logs, h_seen)) : wpY_start post (nI W, bd_lo W, nI R, nI C, nI N, g_op, g_d, g_a, g_b, g_x, g_y, g_needA, g_needB, 1, g_started, h_code, h_fact, h_dem, h_res, h_inputs, h_regs, h_pcs, h_counts, h_logs, h_seen) := by
  have loop : ∀ m r, r + m = R → wY_start_44 post (nI W) (bd_lo W) (nI R) (nI C) (nI N) g_op g_d g_a g_b g_x g_y g_needA g_needB 1 1 (m + 1) (nI r) h_code h_fact h_dem h_res h_inputs (bd_sg h_regs h_inputs w r) (upd (upd h_pcs 0 0) 1 0) (upd (upd h_counts 0 0) 1 0) h_logs h_seen := by
    intro m
    induction m with
    | zero =>
      intro r hr
      obtain rfl : r = R := by omega
      exact br_t (nI_le (Nat.le_refl _) (by omega)) ⟨rfl, K⟩
    | succ m ih =>
      intro r hr
      have h4 : vp_in (nI r) 4 := vp_in_nI (by omega) (by omega)
      have w2 := bd_bl_le (bd_un h_dem r (N + 1)) W
      refine br_f (nI_ge (by omega) (by omega)) (br_f (by decide) ?_)
      refine bd_Y_wd hW hW0 hN hR (by omega) mD ?_
      rw [bd_lo_s _ (by omega), ← hw r (by omega)]
      have e8 : (4 : Int32) + nI r = nI (4 + r) := by rw [show (4 : Int32) = nI 4 from rfl, nI_add]
      rw [e8]
      exact ⟨h4, vp_in_nI (by omega) (by omega), nm_r (e' := upd (bd_sg h_regs h_inputs w r) r (h_inputs r)) (bd_uat (by omega) (bd_fat (by omega))) ⟨h4, vp_in_nI (by omega) (by omega), nm_r (e' := bd_sg h_regs h_inputs w (r + 1)) (by rw [bd_cl (by omega), bd_cl (by omega)]; rfl) (nm_r (nI_1 r) (ih (r + 1) (by omega)))⟩⟩
  refine And.intro rfl ⟨rfl, 3, br_f (by decide) (br_f (by decide) ⟨vp_in_iff.mpr (by decide), nm_e ⟨vp_in_iff.mpr (by decide), nm_e (nm_e ?_)⟩⟩)⟩
  refine br_f (by decide) (br_f (by decide) ⟨vp_in_iff.mpr (by decide), nm_e ⟨vp_in_iff.mpr (by decide), nm_e (nm_e ?_)⟩⟩)
  exact br_t (by decide) ⟨R + 1, loop R 0 (by omega)⟩
end
theorem bd_sg_mk {W : Nat} {rg ip : Nat → Int32} {w : Nat → Nat} (h1 : ∀ j, bd_mk W (rg j)) (h2 : ∀ j, bd_mk W (ip j)) : ∀ r j, bd_mk W (bd_sg rg ip w r j)
  | 0, j => h1 j
  | r + 1, j => by
    unfold bd_sg
    by_cases e : j = 4 + r
    · rw [e, pk_us]; exact bd_mk_and (h2 r)
    · rw [pk_un e]
      by_cases g : j = r
      · rw [g, pk_us]; exact h2 r
      · rw [pk_un g]; exact bd_sg_mk h1 h2 r j
theorem i_vc_start {k : Nat} {u : SX} {v : SY} (I : i_Rel k u v) (hk : k + 5 ≤ 2563) : wpX_start (fun r u' => wpY_start (fun r' v' => r' = r ∧ i_Rel (k + 5) u' v') v) u := by
  refine bd_el (P := fun u v => wpX_start (fun r u' => wpY_start (fun r' v' => r' = r ∧ i_Rel (k + 5) u' v') v) u) ?_ I
  intro W R N C c an st f_pending f_a0 f_a1 f_b0 f_b1 f_needA f_needB f_chain g_op g_d g_a g_b g_x g_y g_needA g_needB a_fop a_fd a_fa a_fb a_at a_k0 a_k1 a_dem a_r0 a_r1 a_next1 a_next2 a_want a_kind a_widths a_inputs a_regs a_pcs a_logs a_counts h_code h_fact h_dem h_res h_seen H
  have rel := bd_rel (k := k + 5) (f_pending := f_pending) (f_a0 := f_a0) (f_a1 := f_a1) (f_b0 := f_b0) (f_b1 := f_b1) (f_needA := f_needA) (f_needB := f_needB) (f_chain := f_chain) (g_op := g_op) (g_d := g_d) (g_a := g_a) (g_b := g_b) (g_x := g_x) (g_y := g_y) (g_needA := g_needA) (g_needB := g_needB) (a_logs := a_logs) H
  obtain ⟨⟨w1, w2, r1, r2, c1, c2, n1⟩, hc, hy, P, an01, st01, sa, ipm, r3, pre, pst, rgm, pcs, cts⟩ := H
  by_cases ea : an = 0
  · subst ea
    have es : st = 0 := by
      rcases st01 with e | e
      · exact e
      · exact absurd (sa e) (by decide)
    subst es
    exact br_t rfl (And.intro rfl ⟨rfl, 1, br_f (by decide) (br_t rfl ⟨1, br_f (nI_nle (by omega) (by omega)) (br_t rfl ⟨rfl, rfl, rel⟩)⟩)⟩)
  · have a1 := bd_01i an01 ea
    subst a1
    obtain ⟨XJ, XB, YI, ag, mD, eD, Kp, wdt⟩ := pst rfl
    have eu : ∀ r, r < R → bd_bl (bd_un a_dem r (N + 1)) 32 = bd_bl (bd_un h_dem r (N + 1)) W := fun r hr => by
      rw [bd_un_c (D := h_dem) (D' := a_dem) (fun p hp => eD p (by omega) r hr), bd_bl_32 (bd_un_mk XB.1.1 r _) (by omega)]
    refine bd_X_st (w := fun r => bd_bl (bd_un h_dem r (N + 1)) W) r2 (fun r hr => ⟨by rw [wdt r hr, eu r hr], Nat.le_trans (bd_bl_le _ _) w2⟩) ?_ ea
    refine bd_Y_st w2 (by omega) (by omega) r2 mD (fun r _ => rfl) ⟨rfl, ?_⟩
    refine bd_rel ⟨⟨w1, w2, r1, r2, c1, c2, n1⟩, hc, hy, P, an01, Or.inr rfl, fun _ => rfl, ipm, r3, pre, pst, bd_sg_mk rgm ipm R, fun s hs => ⟨0, by omega, ?_⟩, fun s hs => ⟨0, by omega, ?_⟩⟩
    · have : s = 0 ∨ s = 1 := by omega
      rcases this with rfl | rfl
      · rw [pk_un (by omega), pk_us]; rfl
      · rw [pk_us]; rfl
    · have : s = 0 ∨ s = 1 := by omega
      rcases this with rfl | rfl
      · rw [pk_un (by omega), pk_us]; rfl
      · rw [pk_us]; rfl
end
section
/-! ===== the machines: one step, pure, and the component's walk ===== -/
def bd_vl (W o b : Nat) (x y : Int32) : Int32 :=
  if o = 0 then nI b else if o = 1 then x &&& y else if o = 2 then x ||| y else if o = 3 then x ^^^ y else if o = 4 then (x + y) &&& bd_lo W else if o = 5 then (x * y) &&& bd_lo W
  else if o = 6 then (x <<< (nI b &&& 31)) &&& bd_lo W else if o = 7 then (x.toUInt32 >>> ((nI b).toUInt32 &&& Int32.toUInt32 31)).toInt32 else bd_ext W b x
theorem bd_vl_mk {W o b : Nat} {x y : Int32} (hW : W ≤ 16) (ho : o ≤ 8) (mx : bd_mk W x) (my : bd_mk W y) (h0 : o = 0 → b < 2 ^ W) (h7 : o = 7 → b < W) (h8 : o = 8 → 1 ≤ b ∧ b ≤ W) : bd_mk W (bd_vl W o b x y) := by
  have hm : bd_mk W (bd_lo W) := bd_lo_mk (Nat.le_refl _) (by omega)
  unfold bd_vl
  by_cases c0 : o = 0
  · rw [if_pos c0]; exact fun i hi => bd_nbk (h0 c0) (by omega) hi
  rw [if_neg c0]
  by_cases c1 : o = 1
  · rw [if_pos c1]; exact bd_mk_and mx
  rw [if_neg c1]
  by_cases c2 : o = 2
  · rw [if_pos c2]; exact bd_mk_or mx my
  rw [if_neg c2]
  by_cases c3 : o = 3
  · rw [if_pos c3]; exact bd_mk_xor mx my
  rw [if_neg c3]
  by_cases c4 : o = 4
  · rw [if_pos c4]; exact bd_mk_and' hm
  rw [if_neg c4]
  by_cases c5 : o = 5
  · rw [if_pos c5]; exact bd_mk_and' hm
  rw [if_neg c5]
  by_cases c6 : o = 6
  · rw [if_pos c6]; exact bd_mk_and' hm
  rw [if_neg c6]
  by_cases c7 : o = 7
  · rw [if_pos c7]
    have := h7 c7
    exact fun i hi => by rw [b_ushr b (by omega)]; exact mx _ (by omega)
  rw [if_neg c7]
  obtain ⟨b1, b2⟩ := h8 (by omega)
  exact fun i hi => by rw [bd_ext_b hW b1 b2, decide_eq_false (by omega)]; rfl
/-- the kind that a side obeys at p -/
def bd_kk (s : Nat) (k : Int32) : Int32 := if s = 0 then 0 else k
def bd_yy (c : Nat → Nat) (p s : Nat) (rg : Nat → Int32) : Int32 := if 1 ≤ bd_op c p ∧ bd_op c p ≤ 5 then rg (4 * s + bd_b c p) else 0
def bd_wv (W : Nat) (c : Nat → Nat) (p s : Nat) (k r1 wn : Int32) (w : Nat → Nat) (rg : Nat → Int32) : Int32 :=
  if k = 0 then (if s = 0 then bd_vl W (bd_op c p) (bd_b c p) (rg (4 * s + bd_a c p)) (bd_yy c p s rg) else bd_vl W (bd_op c p) (bd_b c p) (rg (4 * s + bd_a c p)) (bd_yy c p s rg) &&& bd_lo (w (bd_d c p)))
  else if k = 2 then r1 &&& wn else if k = 3 then rg (4 * s + bd_a c p) &&& bd_lo (w (bd_d c p)) else rg (4 * s + bd_b c p) &&& bd_lo (w (bd_d c p))
def bd_nr (W : Nat) (c : Nat → Nat) (p s : Nat) (k r1 wn : Int32) (w : Nat → Nat) (rg : Nat → Int32) : Nat → Int32 :=
  if bd_op c p ≤ 8 ∧ ¬ k = 1 then upd rg (4 * s + bd_d c p) (bd_wv W c p s k r1 wn w rg) else rg
def bd_np (N : Nat) (c : Nat → Nat) (p s : Nat) (k n1 : Int32) (rg : Nat → Int32) : Int32 :=
  if bd_op c p = 10 then (if k = 0 then (if bt (rg (4 * s + bd_a c p)) (bd_b c p) = true then nI (bd_tg N c p) else nI (p + 1)) else if k = 1 then nI (p + 1) else n1) else nI (p + 1)
def bd_nl (c : Nat → Nat) (p s ct : Nat) (k : Int32) (rg lg : Nat → Int32) : Nat → Int32 := if bd_op c p = 9 ∧ k = 0 then upd lg (16 * s + ct) (rg (4 * s + bd_a c p) &&& nI (bd_b c p)) else lg
def bd_nc (c : Nat → Nat) (p s ct : Nat) (k : Int32) (cts : Nat → Int32) : Nat → Int32 := if bd_op c p = 9 ∧ k = 0 then upd cts s (nI (ct + 1)) else cts
/-- which kinds a slot can have -/
def bd_kc (c : Nat → Nat) (p : Nat) (k : Int32) : Prop := (bd_op c p = 9 → k = 0 ∨ k = 1) ∧ (bd_op c p = 10 → k = 0 ∨ k = 1 ∨ k = 2) ∧ (bd_op c p ≤ 8 → k = 0 ∨ k = 1 ∨ k = 2 ∨ k = 3 ∨ (k = 4 ∧ 1 ≤ bd_op c p ∧ bd_op c p ≤ 5))
theorem bd_KD_kc {W : Nat} {c : Nat → Nat} {p : Nat} {u v : Nat → Int32} {q k : Int32} (h : bd_KD W (bd_op c p) (bd_b c p) u v q k) : bd_kc c p k := by
  unfold bd_kc
  rcases h with h | h | h | h | h | h | h | h
  · exact ⟨fun _ => Or.inl h.2, fun e => by omega, fun e => by omega⟩
  · exact ⟨fun e => by omega, fun _ => Or.inl h.2.2, fun e => by omega⟩
  · exact ⟨fun e => by omega, fun _ => Or.inr (Or.inr h.2.2), fun e => by omega⟩
  · exact ⟨fun e => by omega, fun e => by omega, fun _ => Or.inr (Or.inl h.2.2)⟩
  · exact ⟨fun e => by omega, fun e => by omega, fun _ => Or.inr (Or.inr (Or.inl h.2.2.2))⟩
  · exact ⟨fun e => by omega, fun e => by omega, fun _ => Or.inr (Or.inr (Or.inr (Or.inl h.2.2.2.2)))⟩
  · refine ⟨fun e => by omega, fun e => by omega, fun _ => Or.inr (Or.inr (Or.inr (Or.inr ⟨h.2.2.2.2.2, ?_, ?_⟩)))⟩
    · rcases Nat.eq_zero_or_pos (bd_op c p) with z | z
      · exact absurd (bd_al_set z) h.2.2.1
      · exact z
    · have := h.2.2.2.2.1.1; omega
  · exact ⟨fun e => by omega, fun e => by omega, fun _ => Or.inl h.2.2.2.2.2⟩
section
variable {W N : Nat} {c : Nat → Nat} {p s ct : Nat} {k r1 wn n1 : Int32} {w : Nat → Nat} {rg lg cts : Nat → Int32}
theorem bd_nr0 (h : ¬ (bd_op c p ≤ 8 ∧ ¬ k = 1)) : bd_nr W c p s k r1 wn w rg = rg := by unfold bd_nr; rw [if_neg h]
theorem bd_nr1 (h : bd_op c p ≤ 8 ∧ ¬ k = 1) : bd_nr W c p s k r1 wn w rg = upd rg (4 * s + bd_d c p) (bd_wv W c p s k r1 wn w rg) := by unfold bd_nr; rw [if_pos h]
theorem bd_nl0 (h : ¬ (bd_op c p = 9 ∧ k = 0)) : bd_nl c p s ct k rg lg = lg := by unfold bd_nl; rw [if_neg h]
theorem bd_nl1 (h : bd_op c p = 9 ∧ k = 0) : bd_nl c p s ct k rg lg = upd lg (16 * s + ct) (rg (4 * s + bd_a c p) &&& nI (bd_b c p)) := by unfold bd_nl; rw [if_pos h]
theorem bd_nc0 (h : ¬ (bd_op c p = 9 ∧ k = 0)) : bd_nc c p s ct k cts = cts := by unfold bd_nc; rw [if_neg h]
theorem bd_nc1 (h : bd_op c p = 9 ∧ k = 0) : bd_nc c p s ct k cts = upd cts s (nI (ct + 1)) := by unfold bd_nc; rw [if_pos h]
theorem bd_np0 (h : ¬ bd_op c p = 10) : bd_np N c p s k n1 rg = nI (p + 1) := by unfold bd_np; rw [if_neg h]
theorem bd_npt (h : bd_op c p = 10) (hk : k = 0) (z : bt (rg (4 * s + bd_a c p)) (bd_b c p) = true) : bd_np N c p s k n1 rg = nI (bd_tg N c p) := by unfold bd_np; rw [if_pos h, if_pos hk, if_pos z]
theorem bd_npf (h : bd_op c p = 10) (hk : k = 0) (z : ¬ bt (rg (4 * s + bd_a c p)) (bd_b c p) = true) : bd_np N c p s k n1 rg = nI (p + 1) := by unfold bd_np; rw [if_pos h, if_pos hk, if_neg z]
theorem bd_np1 (hk : k = 1) : bd_np N c p s k n1 rg = nI (p + 1) := by
  subst hk
  unfold bd_np
  rw [if_neg (show ¬ (1 : Int32) = 0 by decide), if_pos rfl]
  split <;> rfl
theorem bd_np2 (h : bd_op c p = 10) (k0 : ¬ k = 0) (k1 : ¬ k = 1) : bd_np N c p s k n1 rg = n1 := by unfold bd_np; rw [if_pos h, if_neg k0, if_neg k1]
theorem bd_wv0 (hk : k = 0) : bd_wv W c p s k r1 wn w rg = (if s = 0 then bd_vl W (bd_op c p) (bd_b c p) (rg (4 * s + bd_a c p)) (bd_yy c p s rg) else bd_vl W (bd_op c p) (bd_b c p) (rg (4 * s + bd_a c p)) (bd_yy c p s rg) &&& bd_lo (w (bd_d c p))) := by unfold bd_wv; rw [if_pos hk]
theorem bd_wv2 (hk : k = 2) : bd_wv W c p s k r1 wn w rg = r1 &&& wn := by unfold bd_wv; rw [if_neg (show ¬ k = 0 by rw [hk]; decide), if_pos hk]
theorem bd_wv3 (hk : k = 3) : bd_wv W c p s k r1 wn w rg = rg (4 * s + bd_a c p) &&& bd_lo (w (bd_d c p)) := by unfold bd_wv; rw [if_neg (show ¬ k = 0 by rw [hk]; decide), if_neg (show ¬ k = 2 by rw [hk]; decide), if_pos hk]
theorem bd_wv4 (k0 : ¬ k = 0) (k2 : ¬ k = 2) (k3 : ¬ k = 3) : bd_wv W c p s k r1 wn w rg = rg (4 * s + bd_b c p) &&& bd_lo (w (bd_d c p)) := by unfold bd_wv; rw [if_neg k0, if_neg k2, if_neg k3]
end
theorem bd_ix16 (s i : Nat) : nI s * 16 + nI i = nI (16 * s + i) := by rw [show (16 : Int32) = nI 16 from rfl, pk_mul, nI_add, Nat.mul_comm]
section
variable {W R N C : Nat} {c : Nat → Nat} {p s ct : Nat}
variable {f_w f_regCount f_cap f_all f_n f_analysed f_pending f_a0 f_a1 f_b0 f_b1 f_needA f_needB f_chain f_started : Int32} {a_fop a_fd a_fa a_fb a_at a_k0 a_k1 a_dem a_r0 a_r1 a_next1 a_next2 a_want a_kind a_widths a_inputs a_regs a_pcs a_logs a_counts : Nat → Int32}
theorem bd_X_val {post : Int32 → Prop} {x y : Int32} (hc : bd_XC N c a_fop a_fd a_fa a_fb) (P : bd_PV W R N c) (hW : W ≤ 16) (hN : N ≤ 24) (hp : p < N) (h8 : bd_op c p ≤ 8) (K : post (bd_vl W (bd_op c p) (bd_b c p) x y)) : wpX_value post (nI W, nI R, nI C, bd_lo W, nI N, f_analysed, f_pending, f_a0, f_a1, f_b0, f_b1, f_needA, f_needB, f_chain, f_started, a_fop, a_fd, a_fa, a_fb, a_at, a_k0, a_k1, a_dem, a_r0, a_r1, a_next1, a_next2, a_want, a_kind, a_widths, a_inputs, a_regs, a_pcs, a_logs, a_counts) (nI p) x y := by
  obtain ⟨e1, e2, e3, e4⟩ := hc p hp
  obtain ⟨v1, v2, v3, v4, v5, v6, v7, v8, v9⟩ := P p hp
  have h24 : vp_in (nI p) 24 := vp_in_nI (by omega) (by omega)
  unfold bd_vl at K
  refine And.intro h24 (nm_r (e' := nI (bd_b c p)) ((bd_fat (by omega)).trans e4) ⟨h24, nm_r (e' := nI (bd_op c p)) ((bd_fat (by omega)).trans e1) ?_⟩)
  refine pk_lt (bd_op c p) 0 (fun h => by omega) (fun _ => pk_lt 7 (bd_op c p) (fun h => ?_) (fun h7 => ?_))
  · obtain ⟨b1, b2⟩ := v6 (by omega)
    rw [if_neg (by omega), if_neg (by omega), if_neg (by omega), if_neg (by omega), if_neg (by omega), if_neg (by omega), if_neg (by omega), if_neg (by omega)] at K
    exact bd_X_ext hW b1 b2 K
  refine pk_eq (bd_op c p) 0 (fun h => ?_) (fun c0 => ?_)
  · rw [if_pos h] at K; exact K
  rw [if_neg c0] at K
  refine pk_eq (bd_op c p) 1 (fun h => ?_) (fun c1 => ?_)
  · rw [if_pos h] at K; exact K
  rw [if_neg c1] at K
  refine pk_eq (bd_op c p) 2 (fun h => ?_) (fun c2 => ?_)
  · rw [if_pos h] at K; exact K
  rw [if_neg c2] at K
  refine pk_eq (bd_op c p) 3 (fun h => ?_) (fun c3 => ?_)
  · rw [if_pos h] at K; exact K
  rw [if_neg c3] at K
  refine pk_eq (bd_op c p) 4 (fun h => ?_) (fun c4 => ?_)
  · rw [if_pos h] at K; exact K
  rw [if_neg c4] at K
  refine pk_eq (bd_op c p) 5 (fun h => ?_) (fun c5 => ?_)
  · rw [if_pos h] at K; exact K
  rw [if_neg c5] at K
  refine pk_eq (bd_op c p) 6 (fun h => ?_) (fun c6 => ?_)
  · rw [if_pos h] at K; exact K
  rw [if_neg c6] at K
  refine pk_eq (bd_op c p) 7 (fun h => ?_) (fun c7 => trivial)
  · rw [if_pos h] at K; exact K
/-- the plain step -/
theorem bd_X_rp {post : SX → Prop} {r1 wn n1 : Int32} {w : Nat → Nat} (hc : bd_XC N c a_fop a_fd a_fa a_fb) (P : bd_PV W R N c) (hW : W ≤ 16) (hN : N ≤ 24) (hR : R ≤ 4) (hp : p < N) (hs : s < 2) (hct : a_counts s = nI ct) (hc16 : bd_op c p = 9 → ct < 16) (hct' : ct ≤ 16) (hw : ∀ r, r < R → a_widths r = nI (w r) ∧ w r ≤ 16)
    (K : post (nI W, nI R, nI C, bd_lo W, nI N, f_analysed, f_pending, f_a0, f_a1, f_b0, f_b1, f_needA, f_needB, f_chain, f_started, a_fop, a_fd, a_fa, a_fb, a_at, a_k0, a_k1, a_dem, a_r0, a_r1, a_next1, a_next2, a_want, a_kind, a_widths, a_inputs, bd_nr W c p s 0 r1 wn w a_regs, upd a_pcs s (bd_np N c p s 0 n1 a_regs), bd_nl c p s ct 0 a_regs a_logs, bd_nc c p s ct 0 a_counts)) : wpX_runPlain post (nI W, nI R, nI C, bd_lo W, nI N, f_analysed, f_pending, f_a0, f_a1, f_b0, f_b1, f_needA, f_needB, f_chain, f_started, a_fop, a_fd, a_fa, a_fb, a_at, a_k0, a_k1, a_dem, a_r0, a_r1, a_next1, a_next2, a_want, a_kind, a_widths, a_inputs, a_regs, a_pcs, a_logs, a_counts) (nI s) (nI p) := by
  obtain ⟨e1, e2, e3, e4⟩ := hc p hp
  obtain ⟨v1, v2, v3, v4, v5, v6, v7, v8, v9⟩ := P p hp
  have h24 : vp_in (nI p) 24 := vp_in_nI (by omega) (by omega)
  have h2 : vp_in (nI s) 2 := vp_in_nI hs (by omega)
  refine And.intro h24 ?_
  rw [bd_fat (f := a_fa) (p := p) (by omega), e3, bd_ix, bd_fat (f := a_fop) (p := p) (by omega), e1, bd_fat (f := a_fb) (p := p) (by omega), e4, bd_fat (f := a_counts) (p := s) (by omega), hct]
  refine ⟨vp_in_nI (by omega) (by omega), nm_r (bd_fat (by omega)) ⟨h2, nm_r (bd_uat (by omega) (nI_1 p)) ⟨h24, pk_eq (bd_op c p) 9 (fun h9 => ?_) (fun h9 => ⟨h24, pk_eq (bd_op c p) 10 (fun h10 => ⟨h24, ?_⟩) (fun h10 => ⟨h24, ?_⟩)⟩)⟩⟩⟩
  · have h16 := hc16 h9
    rw [bd_nr0 (fun z => by omega), bd_np0 (by omega), bd_nl1 ⟨h9, rfl⟩, bd_nc1 ⟨h9, rfl⟩] at K
    rw [bd_ix16, bd_cl (p := 16 * s + ct) (by omega)]
    exact ⟨h2, h24, vp_in_nI (by omega) (by omega), nm_e ⟨h2, h2, nm_r (bd_uat (by omega) (nI_1 ct)) K⟩⟩
  · have hb := v5 (Or.inr (Or.inr h10))
    rw [bd_nr0 (fun z => by omega), bd_nl0 (fun z => h9 z.1), bd_nc0 (fun z => h9 z.1)] at K
    by_cases z : bt (a_regs (4 * s + bd_a c p)) (bd_b c p) = true
    · rw [bd_npt h10 rfl z] at K
      refine br_f (fun q => by rw [bd_ubt (by omega), z] at q; cases q) (bd_X_tg hc P hN hp ⟨h2, nm_r (e' := upd a_pcs s (nI (bd_tg N c p))) (by rw [bd_cl (by omega), bd_uu]) K⟩)
    · rw [bd_npf h10 rfl z] at K
      exact br_t ((bd_ubt (by omega)).mpr (by simpa using z)) K
  · have h8 : bd_op c p ≤ 8 := by omega
    have hd := v3 h8
    rw [bd_nr1 ⟨h8, by decide⟩, bd_np0 h10, bd_nl0 (fun z => h9 z.1), bd_nc0 (fun z => h9 z.1), bd_wv0 rfl] at K
    have s180 : ∀ x5, x5 = (if s = 0 then bd_vl W (bd_op c p) (bd_b c p) (a_regs (4 * s + bd_a c p)) (bd_yy c p s a_regs) else bd_vl W (bd_op c p) (bd_b c p) (a_regs (4 * s + bd_a c p)) (bd_yy c p s a_regs) &&& bd_lo (w (bd_d c p))) → wX_runPlain_180 post (nI s) (nI p) x5 (nI W) (nI R) (nI C) (bd_lo W) (nI N) f_analysed f_pending f_a0 f_a1 f_b0 f_b1 f_needA f_needB f_chain f_started a_fop a_fd a_fa a_fb a_at a_k0 a_k1 a_dem a_r0 a_r1 a_next1 a_next2 a_want a_kind a_widths a_inputs a_regs (upd a_pcs s (nI (p + 1))) a_logs a_counts := by
      intro x5 h5
      unfold wX_runPlain_180
      rw [bd_fat (f := a_fd) (p := p) (by omega), e2, bd_ix]
      exact ⟨h24, vp_in_nI (by omega) (by omega), nm_r (bd_uat (by omega) h5) K⟩
    have s143 : ∀ z0, z0 = bd_yy c p s a_regs → wX_runPlain_143 post (nI s) (nI p) (a_regs (4 * s + bd_a c p)) z0 (nI W) (nI R) (nI C) (bd_lo W) (nI N) f_analysed f_pending f_a0 f_a1 f_b0 f_b1 f_needA f_needB f_chain f_started a_fop a_fd a_fa a_fb a_at a_k0 a_k1 a_dem a_r0 a_r1 a_next1 a_next2 a_want a_kind a_widths a_inputs a_regs (upd a_pcs s (nI (p + 1))) a_logs a_counts := by
      intro z0 hz
      unfold wX_runPlain_143
      refine bd_X_val hc P hW hN hp h8 ?_
      rw [hz]
      refine pk_eq s 1 (fun h1 => ⟨h24, ?_⟩) (fun h1 => s180 _ (by rw [if_pos (by omega)]))
      rw [bd_fat (f := a_fd) (p := p) (by omega), e2, bd_fat (f := a_widths) (p := bd_d c p) (by omega), (hw _ hd).1]
      have := (hw _ hd).2
      exact ⟨vp_in_nI (by omega) (by omega), bd_X_low (by omega) (nm_e (s180 _ (by rw [if_neg (by omega)])))⟩
    refine bd_X_bin v1 (fun b1 b5 => br_f (by decide) ⟨h24, ?_⟩) (fun nb => br_t rfl (s143 0 (by unfold bd_yy; rw [if_neg nb])))
    have := v4 b1 b5
    rw [bd_ix, bd_fat (f := a_regs) (p := 4 * s + bd_b c p) (by omega)]
    exact ⟨vp_in_nI (by omega) (by omega), s143 _ (by unfold bd_yy; rw [if_pos ⟨b1, b5⟩])⟩
/-- the rewritten step -/
theorem bd_X_rr {post : SX → Prop} {w : Nat → Nat} (hc : bd_XC N c a_fop a_fd a_fa a_fb) (P : bd_PV W R N c) (hW : W ≤ 16) (hN : N ≤ 24) (hR : R ≤ 4) (hp : p < N) (hw : ∀ r, r < R → a_widths r = nI (w r) ∧ w r ≤ 16) (hk : bd_kc c p (a_kind p)) (hk0 : ¬ a_kind p = 0)
    (K : post (nI W, nI R, nI C, bd_lo W, nI N, f_analysed, f_pending, f_a0, f_a1, f_b0, f_b1, f_needA, f_needB, f_chain, f_started, a_fop, a_fd, a_fa, a_fb, a_at, a_k0, a_k1, a_dem, a_r0, a_r1, a_next1, a_next2, a_want, a_kind, a_widths, a_inputs, bd_nr W c p 1 (a_kind p) (a_r1 p) (a_want p) w a_regs, upd a_pcs 1 (bd_np N c p 1 (a_kind p) (a_next1 p) a_regs), bd_nl c p 1 ct (a_kind p) a_regs a_logs, bd_nc c p 1 ct (a_kind p) a_counts)) : wpX_runRewritten post (nI W, nI R, nI C, bd_lo W, nI N, f_analysed, f_pending, f_a0, f_a1, f_b0, f_b1, f_needA, f_needB, f_chain, f_started, a_fop, a_fd, a_fa, a_fb, a_at, a_k0, a_k1, a_dem, a_r0, a_r1, a_next1, a_next2, a_want, a_kind, a_widths, a_inputs, a_regs, a_pcs, a_logs, a_counts) (nI p) := by
  obtain ⟨e1, e2, e3, e4⟩ := hc p hp
  obtain ⟨v1, v2, v3, v4, v5, v6, v7, v8, v9⟩ := P p hp
  have h24 : vp_in (nI p) 24 := vp_in_nI (by omega) (by omega)
  rw [bd_nl0 (fun z => hk0 z.2), bd_nc0 (fun z => hk0 z.2)] at K
  refine nm_r (e' := upd a_pcs 1 (nI (p + 1))) (by rw [nI_1]) ⟨h24, ?_⟩
  have e8 : ∀ r, (4 : Int32) + nI r = nI (4 + r) := fun r => by rw [show (4 : Int32) = nI 4 from rfl, nI_add]
  rw [bd_fat (f := a_kind) (p := p) (by omega), bd_fat (f := a_fop) (p := p) (by omega), e1, bd_fat (f := a_fd) (p := p) (by omega), e2, bd_fat (f := a_fa) (p := p) (by omega), e3, bd_fat (f := a_fb) (p := p) (by omega), e4, bd_fat (f := a_r1) (p := p) (by omega), bd_fat (f := a_want) (p := p) (by omega), bd_fat (f := a_next1) (p := p) (by omega), e8, e8]
  refine br_c (fun k1 => ?_) (fun k1 => ⟨h24, pk_eq (bd_op c p) 10 (fun h10 => ⟨h24, ?_⟩) (fun h10 => ⟨h24, nm_e ⟨h24, ?_⟩⟩)⟩)
  · rw [bd_nr0 (fun z => z.2 k1), bd_np1 k1] at K
    exact K
  · rw [bd_nr0 (fun z => by omega), bd_np2 h10 hk0 k1] at K
    exact nm_r (e' := upd a_pcs 1 (a_next1 p)) bd_uu K
  · have h9 : ¬ bd_op c p = 9 := fun z => (hk.1 z).elim hk0 k1
    have h8 : bd_op c p ≤ 8 := by omega
    have hd := v3 h8
    obtain ⟨w1, w2⟩ := hw _ hd
    have hk8 := hk.2.2 h8
    rw [bd_nr1 ⟨h8, k1⟩, bd_np0 h10] at K
    have h4d : vp_in (nI (4 + bd_d c p)) 8 := vp_in_nI (by omega) (by omega)
    rw [e8, bd_fat (f := a_widths) (p := bd_d c p) (by omega), w1, bd_fat (f := a_regs) (p := 4 + bd_a c p) (by omega)]
    refine br_c (fun k2 => ⟨h24, h24, h4d, ?_⟩) (fun k2 => ⟨h24, br_c (fun k3 => ⟨h24, vp_in_nI (by omega) (by omega), vp_in_nI (by omega) (by omega), ?_⟩) (fun k3 => ⟨h24, ?_⟩)⟩)
    · rw [bd_wv2 k2] at K
      exact nm_r (bd_uat (by omega) rfl) K
    · rw [bd_wv3 k3] at K
      exact bd_X_low (by omega) ⟨h4d, nm_r (bd_uat (by omega) rfl) K⟩
    · rw [bd_wv4 hk0 k2 k3] at K
      have b5 : 1 ≤ bd_op c p ∧ bd_op c p ≤ 5 := by
        rcases hk8 with z | z | z | z | z
        · exact absurd z hk0
        · exact absurd z k1
        · exact absurd z k2
        · exact absurd z k3
        · exact z.2
      have := v4 b5.1 b5.2
      rw [bd_fat (f := a_regs) (p := 4 + bd_b c p) (by omega)]
      exact ⟨vp_in_nI (by omega) (by omega), vp_in_nI (by omega) (by omega), bd_X_low (by omega) ⟨h4d, nm_r (bd_uat (by omega) rfl) K⟩⟩
theorem bd_X_co {post : SX → Prop} {w : Nat → Nat} (hc : bd_XC N c a_fop a_fd a_fa a_fb) (P : bd_PV W R N c) (hW : W ≤ 16) (hN : N ≤ 24) (hR : R ≤ 4) (hp : p < N) (hs : s < 2) (hpc : a_pcs s = nI p) (hct : a_counts s = nI ct) (hc16 : bd_op c p = 9 → ct < 16) (hct' : ct ≤ 16) (hw : ∀ r, r < R → a_widths r = nI (w r) ∧ w r ≤ 16) (hk : bd_kc c p (a_kind p))
    (K : post (nI W, nI R, nI C, bd_lo W, nI N, f_analysed, f_pending, f_a0, f_a1, f_b0, f_b1, f_needA, f_needB, f_chain, f_started, a_fop, a_fd, a_fa, a_fb, a_at, a_k0, a_k1, a_dem, a_r0, a_r1, a_next1, a_next2, a_want, a_kind, a_widths, a_inputs, bd_nr W c p s (bd_kk s (a_kind p)) (a_r1 p) (a_want p) w a_regs, upd a_pcs s (bd_np N c p s (bd_kk s (a_kind p)) (a_next1 p) a_regs), bd_nl c p s ct (bd_kk s (a_kind p)) a_regs a_logs, bd_nc c p s ct (bd_kk s (a_kind p)) a_counts)) : wpX_carryOut post (nI W, nI R, nI C, bd_lo W, nI N, f_analysed, f_pending, f_a0, f_a1, f_b0, f_b1, f_needA, f_needB, f_chain, f_started, a_fop, a_fd, a_fa, a_fb, a_at, a_k0, a_k1, a_dem, a_r0, a_r1, a_next1, a_next2, a_want, a_kind, a_widths, a_inputs, a_regs, a_pcs, a_logs, a_counts) (nI s) := by
  have h24 : vp_in (nI p) 24 := vp_in_nI (by omega) (by omega)
  have h2 : vp_in (nI s) 2 := vp_in_nI hs (by omega)
  unfold bd_kk at K
  refine And.intro h2 (nm_r (e' := nI p) ((bd_fat (by omega)).trans hpc) ?_)
  refine pk_eq s 0 (fun h0 => ?_) (fun h0 => ⟨h24, ?_⟩)
  · rw [if_pos h0] at K
    exact bd_X_rp hc P hW hN hR hp hs hct hc16 hct' hw K
  · rw [if_neg h0] at K
    rw [bd_fat (f := a_kind) (p := p) (by omega)]
    refine br_c (fun k0 => ?_) (fun k0 => ?_)
    · rw [k0] at K
      exact bd_X_rp hc P hW hN hR hp hs hct hc16 hct' hw K
    · obtain rfl : s = 1 := by omega
      exact bd_X_rr hc P hW hN hR hp hw hk k0 K
end
end
section
/-! ===== the reference's machine step ===== -/
theorem bd_and_lo {W : Nat} {x : Int32} (hW : W ≤ 16) (m : bd_mk W x) : x &&& bd_lo W = x := b_ext fun i _ => by
  rw [b_and, bd_lo_b (by omega)]
  rcases Nat.lt_or_ge i W with z | z
  · rw [decide_eq_true z, Bool.and_true]
  · rw [m i z, Bool.false_and]
theorem bd_vl_c {W o b : Nat} {x y y' : Int32} (h : 1 ≤ o → o ≤ 5 → y = y') : bd_vl W o b x y = bd_vl W o b x y' := by
  by_cases g : 1 ≤ o ∧ o ≤ 5
  · rw [h g.1 g.2]
  · unfold bd_vl
    by_cases c0 : o = 0
    · rw [if_pos c0, if_pos c0]
    · have c1 : ¬ o = 1 := by omega
      have c2 : ¬ o = 2 := by omega
      have c3 : ¬ o = 3 := by omega
      have c4 : ¬ o = 4 := by omega
      have c5 : ¬ o = 5 := by omega
      simp only [if_neg c0, if_neg c1, if_neg c2, if_neg c3, if_neg c4, if_neg c5]
theorem bd_ext_y {W b : Nat} (hW : W ≤ 16) (h1 : 1 ≤ b) (hb : b ≤ W) {x : Int32} (mx : bd_mk W x) : (bt x (b - 1) = true → (x ||| (bd_lo b ^^^ (-1))) &&& bd_lo W = bd_ext W b x) ∧ (¬ bt x (b - 1) = true → x &&& bd_lo b = bd_ext W b x) := by
  refine ⟨fun h => b_ext fun i hi => ?_, fun h => b_ext fun i hi => ?_⟩
  · rw [bd_ext_b hW h1 hb, b_and, b_or, bd_not _ hi, bd_lo_b (by omega), bd_lo_b (by omega)]
    by_cases c : i < b
    · rw [if_pos c, decide_eq_true c]
      cases bt x i <;> cases decide (i < W) <;> rfl
    · rw [if_neg c, decide_eq_false c, h]
      cases bt x i <;> cases decide (i < W) <;> rfl
  · unfold bd_ext
    rw [if_neg h]
section
variable {W R N C : Nat} {c : Nat → Nat} {p s ct : Nat}
variable {g_w g_m g_rs g_cap g_n g_op g_d g_a g_b g_x g_y g_needA g_needB g_analysed g_started : Int32} {h_code h_fact h_dem h_res h_inputs h_regs h_pcs h_counts h_logs h_seen : Nat → Int32}
variable {post : Int32 → SY → Prop}
theorem bd_Y_538 {x3 : Int32} {w : Nat → Nat} {d : Nat} (hW : W ≤ 16) (hW0 : 0 < W) (hN : N ≤ 24) (hR : R ≤ 4) (hs : s < 2) (hd : d < R) (mD : ∀ j, bd_mk W (h_dem j)) (hw : ∀ r, r < R → w r = bd_bl (bd_un h_dem r (N + 1)) W) (K : post 1 (nI W, bd_lo W, nI R, nI C, nI N, g_op, nI d, g_a, g_b, g_x, g_y, g_needA, g_needB, 1, g_started, h_code, h_fact, h_dem, h_res, h_inputs, upd h_regs (4 * s + d) (x3 &&& bd_lo (if s = 0 then W else w d)), h_pcs, h_counts, h_logs, h_seen)) : wY_act_538 post (nI s) x3 (nI W) (bd_lo W) (nI R) (nI C) (nI N) g_op (nI d) g_a g_b g_x g_y g_needA g_needB 1 g_started h_code h_fact h_dem h_res h_inputs h_regs h_pcs h_counts h_logs h_seen := by
  have s558 : ∀ cut, cut ≤ 16 → cut = (if s = 0 then W else w d) → wY_act_558 post (nI s) x3 (nI cut) (nI W) (bd_lo W) (nI R) (nI C) (nI N) g_op (nI d) g_a g_b g_x g_y g_needA g_needB 1 g_started h_code h_fact h_dem h_res h_inputs h_regs h_pcs h_counts h_logs h_seen := by
    intro cut h16 e
    unfold wY_act_558
    rw [bd_iy, bd_lo_s cut (by omega), e]
    exact ⟨vp_in_nI (by omega) (by omega), nm_r (bd_uat (by omega) rfl) K⟩
  refine pk_eq s 1 (fun h => ?_) (fun h => s558 W hW (by rw [if_pos (by omega)]))
  have := bd_bl_le (bd_un h_dem d (N + 1)) W
  refine bd_Y_wd hW hW0 hN hR hd mD (s558 _ (by omega) (by rw [if_neg (by omega), hw d hd]))
theorem bd_Y_338 {x3 k u v : Int32} (P : bd_PV W R N c) (hW : W ≤ 16) (hp : p < N) (h8 : bd_op c p ≤ 8) (mu : bd_mk W u) (K : ∀ x, (k = 0 ∧ x = bd_vl W (bd_op c p) (bd_b c p) u v ∨ ¬ k = 0 ∧ x = x3) → wY_act_538 post (nI s) x (nI W) (bd_lo W) (nI R) (nI C) (nI N) (nI (bd_op c p)) g_d g_a (nI (bd_b c p)) g_x g_y g_needA g_needB g_analysed g_started h_code h_fact h_dem h_res h_inputs h_regs h_pcs h_counts h_logs h_seen) : wY_act_338 post (nI s) x3 k u v (nI W) (bd_lo W) (nI R) (nI C) (nI N) (nI (bd_op c p)) g_d g_a (nI (bd_b c p)) g_x g_y g_needA g_needB g_analysed g_started h_code h_fact h_dem h_res h_inputs h_regs h_pcs h_counts h_logs h_seen := by
  obtain ⟨v1, v2, v3, v4, v5, v6, v7, v8, v9⟩ := P p hp
  refine br_c (fun k0 => ?_) (fun k0 => K _ (Or.inr ⟨k0, rfl⟩))
  have go : ∀ x, x = bd_vl W (bd_op c p) (bd_b c p) u v → wY_act_537 post (nI s) x (nI W) (bd_lo W) (nI R) (nI C) (nI N) (nI (bd_op c p)) g_d g_a (nI (bd_b c p)) g_x g_y g_needA g_needB g_analysed g_started h_code h_fact h_dem h_res h_inputs h_regs h_pcs h_counts h_logs h_seen := fun x e => K x (Or.inl ⟨k0, e⟩)
  unfold bd_vl at go
  refine pk_eq (bd_op c p) 0 (fun h => ?_) (fun c0 => ?_)
  · rw [if_pos h] at go; exact go _ rfl
  rw [if_neg c0] at go
  refine pk_eq (bd_op c p) 1 (fun h => ?_) (fun c1 => ?_)
  · rw [if_pos h] at go; exact go _ rfl
  rw [if_neg c1] at go
  refine pk_eq (bd_op c p) 2 (fun h => ?_) (fun c2 => ?_)
  · rw [if_pos h] at go; exact go _ rfl
  rw [if_neg c2] at go
  refine pk_eq (bd_op c p) 3 (fun h => ?_) (fun c3 => ?_)
  · rw [if_pos h] at go; exact go _ rfl
  rw [if_neg c3] at go
  refine pk_eq (bd_op c p) 4 (fun h => ?_) (fun c4 => ?_)
  · rw [if_pos h] at go; exact go _ rfl
  rw [if_neg c4] at go
  refine pk_eq (bd_op c p) 5 (fun h => ?_) (fun c5 => ?_)
  · rw [if_pos h] at go; exact go _ rfl
  rw [if_neg c5] at go
  refine pk_eq (bd_op c p) 6 (fun h => ?_) (fun c6 => ?_)
  · rw [if_pos h] at go; exact go _ rfl
  rw [if_neg c6] at go
  refine pk_eq (bd_op c p) 7 (fun h => ?_) (fun c7 => ?_)
  · rw [if_pos h] at go; exact go _ rfl
  rw [if_neg c7] at go
  obtain ⟨b1, b2⟩ := v6 (by omega)
  obtain ⟨y1, y2⟩ := bd_ext_y hW b1 b2 mu
  have e : nI (bd_b c p) - 1 = nI (bd_b c p - 1) := by
    obtain ⟨j, hj⟩ : ∃ j, bd_b c p = j + 1 := ⟨bd_b c p - 1, by omega⟩
    rw [hj]; exact nI_pred j
  rw [e, bd_lo_s _ (by omega)]
  by_cases z : bt u (bd_b c p - 1) = true
  · exact br_t ((bd_sb (by omega)).mpr z) (go _ (y1 z))
  · exact br_f (fun q => z ((bd_sb (by omega)).mp q)) (go _ (y2 z))
/-- the bits of a constant -/
theorem bd_Y_257 {k u v q : Int32} (hW : W ≤ 16) (hp : p < 24) {d : Nat} (hd : d < 4) (hq : q = h_dem (4 * (p + 1) + d)) (K : ∀ z, (k = 2 → ∀ i, bt z i = decide (i < W ∧ h_res i = 1 ∧ bt q i = true)) → ((k = 3 → wY_act_324 post (nI s) k u v (nI W) (bd_lo W) (nI R) (nI C) (nI N) g_op (nI d) g_a g_b g_x g_y g_needA g_needB g_analysed g_started h_code h_fact h_dem h_res h_inputs h_regs h_pcs h_counts h_logs h_seen) ∧ (¬ k = 3 → ((k = 4 → wY_act_324 post (nI s) k u v (nI W) (bd_lo W) (nI R) (nI C) (nI N) g_op (nI d) g_a g_b g_x g_y g_needA g_needB g_analysed g_started h_code h_fact h_dem h_res h_inputs h_regs h_pcs h_counts h_logs h_seen) ∧ (¬ k = 4 → wY_act_338 post (nI s) z k u v (nI W) (bd_lo W) (nI R) (nI C) (nI N) g_op (nI d) g_a g_b g_x g_y g_needA g_needB g_analysed g_started h_code h_fact h_dem h_res h_inputs h_regs h_pcs h_counts h_logs h_seen))))) : ∃ n, wY_act_257 post (nI s) (nI p) k u v (nI W) (bd_lo W) (nI R) (nI C) (nI N) g_op (nI d) g_a g_b g_x g_y g_needA g_needB g_analysed g_started h_code h_fact h_dem h_res h_inputs h_regs h_pcs h_counts h_logs h_seen n 0 0 := by
  have loop : ∀ m j z, j + m = W → (k = 2 → ∀ i, bt z i = decide (i < j ∧ h_res i = 1 ∧ bt q i = true)) → wY_act_257 post (nI s) (nI p) k u v (nI W) (bd_lo W) (nI R) (nI C) (nI N) g_op (nI d) g_a g_b g_x g_y g_needA g_needB g_analysed g_started h_code h_fact h_dem h_res h_inputs h_regs h_pcs h_counts h_logs h_seen (m + 1) z (nI j) := by
    intro m
    induction m with
    | zero =>
      intro j z hj h
      obtain rfl : j = W := by omega
      exact br_t (nI_le (Nat.le_refl _) (by omega)) (K z h)
    | succ m ih =>
      intro j z hj h
      refine br_f (nI_ge (by omega) (by omega)) (br_c (fun k2 => ⟨vp_in_nI (by omega) (by omega), ?_⟩) (fun k2 => nm_r (nI_1 j) (ih (j + 1) z (by omega) (fun y => absurd y k2))))
      have ei : 4 * nI p + 4 + nI d = nI (4 * (p + 1) + d) := by
        rw [bd_i4, show (4 : Int32) = nI 4 from rfl, nI_add, nI_add, show 4 * p + 4 + d = 4 * (p + 1) + d by omega]
      rw [bd_fat (f := h_res) (p := j) (by omega), ei, bd_fat (f := h_dem) (p := 4 * (p + 1) + d) (by omega), ← hq]
      refine br_c (fun e => ⟨vp_in_nI (by omega) (by omega), nm_e (nm_r (nI_1 j) (ih (j + 1) _ (by omega) (fun _ i => ?_)))⟩) (fun e => nm_r (nI_1 j) (ih (j + 1) _ (by omega) (fun _ i => ?_)))
      · rw [b_or, b_and, bd_bit1 (by omega), h k2 i]
        apply bd_bE
        rw [Bool.or_eq_true, Bool.and_eq_true, decide_eq_true_eq, decide_eq_true_eq, decide_eq_true_eq]
        constructor
        · rintro (y | ⟨y, y'⟩)
          · exact ⟨by omega, y.2⟩
          · rw [y] at y' ⊢; exact ⟨by omega, e, y'⟩
        · intro y
          by_cases g : i = j
          · exact Or.inr ⟨g, y.2.2⟩
          · exact Or.inl ⟨by omega, y.2⟩
      · rw [h k2 i]
        refine decide_eq_decide.mpr ⟨fun y => ⟨by omega, y.2⟩, fun y => ⟨?_, y.2⟩⟩
        rcases Nat.lt_or_ge i j with g | g
        · exact g
        · have : i = j := by omega
          rw [this] at y; exact absurd y.2.1 e
  exact ⟨W + 1, loop W 0 0 (by omega) (fun _ i => by rw [b_0, decide_eq_false (by omega)])⟩
/-- the step behind the decision -/
theorem bd_Y_a60 {k r1 wn n1 : Int32} {w : Nat → Nat} (P : bd_PV W R N c) (hW : W ≤ 16) (hW0 : 0 < W) (hN : N ≤ 24) (hR : R ≤ 4) (hp : p < N) (hs : s < 2) (hct : h_counts s = nI ct) (hc16 : bd_op c p = 9 → ct < 16) (hct' : ct ≤ 16) (mD : ∀ j, bd_mk W (h_dem j)) (mr : ∀ j, bd_mk W (h_regs j)) (hw : ∀ r, r < R → w r = bd_bl (bd_un h_dem r (N + 1)) W) (hk : bd_kc c p k) (hs0 : s = 0 → k = 0)
    (hr1 : k = 2 → bd_op c p ≤ 8 → bd_mk W r1 ∧ ∀ i, i < W → (bt r1 i = true ↔ h_res i = 1)) (hwn : k = 2 → bd_op c p ≤ 8 → wn = h_dem (4 * (p + 1) + bd_d c p)) (hn1 : k = 2 → bd_op c p = 10 → n1 = if h_fact (64 * p + 16 * bd_a c p + bd_b c p) = 1 then nI (bd_tg N c p) else nI (p + 1))
    (K : post 1 (nI W, bd_lo W, nI R, nI C, nI N, nI (bd_op c p), nI (bd_d c p), nI (bd_a c p), nI (bd_b c p), nI (64 * p + 16 * bd_a c p), g_y, g_needA, g_needB, 1, g_started, h_code, h_fact, h_dem, h_res, h_inputs, bd_nr W c p s k r1 wn w h_regs, upd h_pcs s (bd_np N c p s k n1 h_regs), bd_nc c p s ct k h_counts, bd_nl c p s ct k h_regs h_logs, h_seen)) :
    wY_act_60 post (nI s) (nI p) 0 k (nI W) (bd_lo W) (nI R) (nI C) (nI N) (nI (bd_op c p)) (nI (bd_d c p)) (nI (bd_a c p)) (nI (bd_b c p)) (nI (64 * p + 16 * bd_a c p)) g_y g_needA g_needB 1 g_started h_code h_fact h_dem h_res h_inputs h_regs h_pcs h_counts h_logs h_seen := by
  obtain ⟨v1, v2, v3, v4, v5, v6, v7, v8, v9⟩ := P p hp
  have h2 : vp_in (nI s) 2 := vp_in_nI hs (by omega)
  have s237 : ∀ v : Int32, (1 ≤ bd_op c p → bd_op c p ≤ 5 → v = h_regs (4 * s + bd_b c p)) → wY_act_237 post (nI s) (nI p) 0 k (h_regs (4 * s + bd_a c p)) v (nI W) (bd_lo W) (nI R) (nI C) (nI N) (nI (bd_op c p)) (nI (bd_d c p)) (nI (bd_a c p)) (nI (bd_b c p)) (nI (64 * p + 16 * bd_a c p)) g_y g_needA g_needB 1 g_started h_code h_fact h_dem h_res h_inputs h_regs (upd h_pcs s (bd_np N c p s k n1 h_regs)) (bd_nc c p s ct k h_counts) (bd_nl c p s ct k h_regs h_logs) h_seen := by
    intro v hv
    refine pk_lt 8 (bd_op c p) (fun h => ?_) (fun h8 => br_c (fun k1 => ?_) (fun k1 => ?_))
    · rw [bd_nr0 (fun z => by omega)] at K; exact K
    · rw [bd_nr0 (fun z => z.2 k1)] at K; exact K
    · have hd := v3 h8
      rw [bd_nr1 ⟨h8, k1⟩] at K
      have fin : ∀ x, x &&& bd_lo (if s = 0 then W else w (bd_d c p)) = bd_wv W c p s k r1 wn w h_regs → wY_act_538 post (nI s) x (nI W) (bd_lo W) (nI R) (nI C) (nI N) (nI (bd_op c p)) (nI (bd_d c p)) (nI (bd_a c p)) (nI (bd_b c p)) (nI (64 * p + 16 * bd_a c p)) g_y g_needA g_needB 1 g_started h_code h_fact h_dem h_res h_inputs h_regs (upd h_pcs s (bd_np N c p s k n1 h_regs)) (bd_nc c p s ct k h_counts) (bd_nl c p s ct k h_regs h_logs) h_seen := by
        intro x hx
        refine bd_Y_538 hW hW0 hN hR hs hd mD hw ?_
        rw [hx]; exact K
      have s338 : ∀ x3, (¬ k = 0 → x3 &&& bd_lo (if s = 0 then W else w (bd_d c p)) = bd_wv W c p s k r1 wn w h_regs) → wY_act_338 post (nI s) x3 k (h_regs (4 * s + bd_a c p)) v (nI W) (bd_lo W) (nI R) (nI C) (nI N) (nI (bd_op c p)) (nI (bd_d c p)) (nI (bd_a c p)) (nI (bd_b c p)) (nI (64 * p + 16 * bd_a c p)) g_y g_needA g_needB 1 g_started h_code h_fact h_dem h_res h_inputs h_regs (upd h_pcs s (bd_np N c p s k n1 h_regs)) (bd_nc c p s ct k h_counts) (bd_nl c p s ct k h_regs h_logs) h_seen := by
        intro x3 h3
        refine bd_Y_338 P hW hp h8 (mr _) (fun x hx => fin x ?_)
        rcases hx with ⟨k0, rfl⟩ | ⟨k0, rfl⟩
        · have ev : bd_vl W (bd_op c p) (bd_b c p) (h_regs (4 * s + bd_a c p)) v = bd_vl W (bd_op c p) (bd_b c p) (h_regs (4 * s + bd_a c p)) (bd_yy c p s h_regs) := bd_vl_c (fun a b => by unfold bd_yy; rw [if_pos ⟨a, b⟩]; exact hv a b)
          have mv : bd_mk W (bd_vl W (bd_op c p) (bd_b c p) (h_regs (4 * s + bd_a c p)) (bd_yy c p s h_regs)) := by
            refine bd_vl_mk hW h8 (mr _) ?_ (fun e => v7 (Or.inl e)) (fun e => v5 (Or.inr (Or.inl e))) v6
            unfold bd_yy
            split
            · exact mr _
            · exact bd_mk0 W
          rw [ev, bd_wv0 k0]
          by_cases h0 : s = 0
          · rw [if_pos h0, if_pos h0]; exact bd_and_lo hW mv
          · rw [if_neg h0, if_neg h0]
        · exact h3 k0
      have ns0 : ¬ k = 0 → ¬ s = 0 := fun z y => z (hs0 y)
      refine bd_Y_257 hW (by omega) (by omega) rfl (fun z hz => br_c (fun k3 => br_t k3 (s338 _ (fun k0 => ?_))) (fun k3 => br_c (fun k4 => br_f k3 (s338 _ (fun k0 => ?_))) (fun k4 => s338 _ (fun k0 => ?_))))
      · rw [if_neg (ns0 k0), bd_wv3 k3]
      · have b5 : 1 ≤ bd_op c p ∧ bd_op c p ≤ 5 := by
          rcases hk.2.2 h8 with y | y | y | y | y
          · exact absurd y k0
          · exact absurd y k1
          · rw [k4] at y; exact absurd y (by decide)
          · exact absurd y k3
          · exact y.2
        rw [if_neg (ns0 k0), bd_wv4 k0 (by rw [k4]; decide) k3, hv b5.1 b5.2]
      · have k2 : k = 2 := by
          rcases hk.2.2 h8 with y | y | y | y | y
          · exact absurd y k0
          · exact absurd y k1
          · exact y
          · exact absurd y k3
          · exact absurd y.1 k4
        obtain ⟨m1, b1⟩ := hr1 k2 h8
        rw [if_neg (ns0 k0), bd_wv2 k2, hwn k2 h8]
        apply b_ext
        intro i hi
        have lw := bd_bl_le (bd_un h_dem (bd_d c p) (N + 1)) W
        rw [b_and, b_and, hz k2 i, bd_lo_b (by rw [hw _ hd]; omega)]
        apply bd_bE
        rw [Bool.and_eq_true, Bool.and_eq_true, decide_eq_true_eq, decide_eq_true_eq]
        constructor
        · rintro ⟨y, -⟩
          exact ⟨(b1 i y.1).mpr y.2.1, y.2.2⟩
        · rintro ⟨y1, y2⟩
          have iW := bd_mk_lt m1 y1
          refine ⟨⟨iW, (b1 i iW).mp y1, y2⟩, ?_⟩
          rw [hw _ hd]
          have ub := bd_un_b (D := h_dem) (r := bd_d c p) (k := N + 1) (p := p + 1) (i := i) (by omega) y2
          rcases Nat.lt_or_ge i (bd_bl (bd_un h_dem (bd_d c p) (N + 1)) W) with g | g
          · exact g
          · rw [bd_bl_f g iW] at ub; cases ub
  have s209 : ∀ v : Int32, (1 ≤ bd_op c p → bd_op c p ≤ 5 → v = h_regs (4 * s + bd_b c p)) → bd_np N c p s k n1 h_regs = nI (bd_tg N c p) → wY_act_209 post (nI s) (nI p) 0 k (h_regs (4 * s + bd_a c p)) v (nI W) (bd_lo W) (nI R) (nI C) (nI N) (nI (bd_op c p)) (nI (bd_d c p)) (nI (bd_a c p)) (nI (bd_b c p)) (nI (64 * p + 16 * bd_a c p)) g_y g_needA g_needB 1 g_started h_code h_fact h_dem h_res h_inputs h_regs (upd h_pcs s (nI (p + 1))) (bd_nc c p s ct k h_counts) (bd_nl c p s ct k h_regs h_logs) h_seen := by
    intro v hv e
    have q := s237 v hv
    rw [e] at q
    unfold bd_tg at q
    refine pk_le N (bd_d c p) (fun h => ?_) (fun h => ?_)
    · rw [if_neg (by omega)] at q
      exact And.intro h2 (nm_r (e' := upd h_pcs s (nI N)) (by rw [bd_cl (by omega), bd_uu]) q)
    · rw [if_pos (by omega)] at q
      exact And.intro h2 (nm_r (e' := upd h_pcs s (nI (bd_d c p))) (by rw [bd_cl (by omega), bd_uu]) q)
  have s158 : ∀ v : Int32, (1 ≤ bd_op c p → bd_op c p ≤ 5 → v = h_regs (4 * s + bd_b c p)) → wY_act_158 post (nI s) (nI p) 0 k (h_regs (4 * s + bd_a c p)) v (nI W) (bd_lo W) (nI R) (nI C) (nI N) (nI (bd_op c p)) (nI (bd_d c p)) (nI (bd_a c p)) (nI (bd_b c p)) (nI (64 * p + 16 * bd_a c p)) g_y g_needA g_needB 1 g_started h_code h_fact h_dem h_res h_inputs h_regs (upd h_pcs s (nI (p + 1))) (bd_nc c p s ct k h_counts) (bd_nl c p s ct k h_regs h_logs) h_seen := by
    intro v hv
    have q := s237 v hv
    refine pk_eq (bd_op c p) 10 (fun h10 => ?_) (fun h10 => by rw [bd_np0 h10] at q; exact q)
    have hb := v5 (Or.inr (Or.inr h10))
    refine br_c (fun k0 => ?_) (fun k0 => ?_)
    · by_cases z : bt (h_regs (4 * s + bd_a c p)) (bd_b c p) = true
      · exact br_t ((bd_sb (by omega)).mpr z) (s209 v hv (bd_npt h10 k0 z))
      · rw [bd_npf h10 k0 z] at q
        exact br_f (fun y => z ((bd_sb (by omega)).mp y)) (br_f (by rw [k0]; decide) q)
    · refine br_c (fun k2 => ?_) (fun k2 => ?_)
      · rw [nI_add, bd_fat (f := h_fact) (p := 64 * p + 16 * bd_a c p + bd_b c p) (by omega)]
        have e := hn1 k2 h10
        have e' : bd_np N c p s k n1 h_regs = n1 := bd_np2 h10 k0 (by rw [k2]; decide)
        refine ⟨vp_in_nI (by omega) (by omega), br_c (fun g => ?_) (fun g => ?_)⟩
        · rw [if_pos g] at e
          exact s209 v hv (e'.trans e)
        · rw [if_neg g] at e
          rw [e', e] at q; exact q
      · have k1 : k = 1 := by
          rcases hk.2.1 h10 with y | y | y
          · exact absurd y k0
          · exact y
          · exact absurd y k2
        rw [bd_np1 k1] at q; exact q
  have s105 : ∀ v : Int32, (1 ≤ bd_op c p → bd_op c p ≤ 5 → v = h_regs (4 * s + bd_b c p)) → wY_act_105 post (nI s) (nI p) 0 k (h_regs (4 * s + bd_a c p)) v (nI W) (bd_lo W) (nI R) (nI C) (nI N) (nI (bd_op c p)) (nI (bd_d c p)) (nI (bd_a c p)) (nI (bd_b c p)) (nI (64 * p + 16 * bd_a c p)) g_y g_needA g_needB 1 g_started h_code h_fact h_dem h_res h_inputs h_regs h_pcs h_counts h_logs h_seen := by
    intro v hv
    have q := s158 v hv
    refine And.intro h2 (nm_r (bd_uat (by omega) (nI_1 p)) ?_)
    rw [bd_fat (f := h_counts) (p := s) (by omega), hct]
    refine pk_eq (bd_op c p) 9 (fun h9 => br_c (fun k0 => ?_) (fun k0 => ?_)) (fun h9 => ?_)
    · have := hc16 h9
      rw [bd_nl1 ⟨h9, k0⟩, bd_nc1 ⟨h9, k0⟩] at q
      rw [bd_j16]
      exact ⟨h2, h2, nm_r (bd_uat (by omega) (nI_1 ct)) ⟨vp_in_nI (by omega) (by omega), nm_r (bd_uat (by omega) rfl) q⟩⟩
    · rw [bd_nl0 (fun z => k0 z.2), bd_nc0 (fun z => k0 z.2)] at q; exact q
    · rw [bd_nl0 (fun z => h9 z.1), bd_nc0 (fun z => h9 z.1)] at q; exact q
  unfold wY_act_60
  rw [bd_iy]
  refine ⟨vp_in_nI (by omega) (by omega), nm_r (bd_fat (by omega)) ?_⟩
  refine bd_Y_reg hR (fun r hr e => br_f (by decide) ?_) (fun h => br_t rfl (s105 0 (fun a b => absurd rfl (h _ (v4 a b)))))
  have er : bd_b c p = r := (nI_eq (by omega) (by omega)).mp e
  rw [bd_iy, bd_fat (f := h_regs) (p := 4 * s + bd_b c p) (by omega)]
  exact ⟨vp_in_nI (by omega) (by omega), s105 _ (fun _ _ => rfl)⟩
end
end
section
/-! ===== the machines run ===== -/
def bd_mp (M : (Nat → Int32) × (Nat → Int32) × (Nat → Int32) × (Nat → Int32)) (s : Nat) : Nat := (M.2.1 s).toNatClampNeg
def bd_mc (M : (Nat → Int32) × (Nat → Int32) × (Nat → Int32) × (Nat → Int32)) (s : Nat) : Nat := (M.2.2.2 s).toNatClampNeg
def bd_nx (W N : Nat) (c : Nat → Nat) (kd r1 wn n1 : Nat → Int32) (w : Nat → Nat) (s : Nat) (M : (Nat → Int32) × (Nat → Int32) × (Nat → Int32) × (Nat → Int32)) : (Nat → Int32) × (Nat → Int32) × (Nat → Int32) × (Nat → Int32) :=
  (bd_nr W c (bd_mp M s) s (bd_kk s (kd (bd_mp M s))) (r1 (bd_mp M s)) (wn (bd_mp M s)) w M.1, upd M.2.1 s (bd_np N c (bd_mp M s) s (bd_kk s (kd (bd_mp M s))) (n1 (bd_mp M s)) M.1),
   bd_nl c (bd_mp M s) s (bd_mc M s) (bd_kk s (kd (bd_mp M s))) M.1 M.2.2.1, bd_nc c (bd_mp M s) s (bd_mc M s) (bd_kk s (kd (bd_mp M s))) M.2.2.2)
def bd_rs (N : Nat) (c : Nat → Nat) (s : Nat) (M : (Nat → Int32) × (Nat → Int32) × (Nat → Int32) × (Nat → Int32)) : Bool := decide (N ≤ bd_mp M s ∨ (bd_op c (bd_mp M s) = 9 ∧ 16 ≤ bd_mc M s))
def bd_run (W N : Nat) (c : Nat → Nat) (kd r1 wn n1 : Nat → Int32) (w : Nat → Nat) (s : Nat) : Nat → (Nat → Int32) × (Nat → Int32) × (Nat → Int32) × (Nat → Int32) → ((Nat → Int32) × (Nat → Int32) × (Nat → Int32) × (Nat → Int32)) × Nat
  | 0, M => (M, 0)
  | m + 1, M => if bd_rs N c s M = true then (M, 0) else ((bd_run W N c kd r1 wn n1 w s m (bd_nx W N c kd r1 wn n1 w s M)).1, (bd_run W N c kd r1 wn n1 w s m (bd_nx W N c kd r1 wn n1 w s M)).2 + 1)
def bd_MI (W N : Nat) (M : (Nat → Int32) × (Nat → Int32) × (Nat → Int32) × (Nat → Int32)) : Prop := (∀ j, bd_mk W (M.1 j)) ∧ (∀ s, s < 2 → ∃ q, q ≤ N ∧ M.2.1 s = nI q) ∧ (∀ s, s < 2 → ∃ k, k ≤ 16 ∧ M.2.2.2 s = nI k)
/-- what the machine needs of the analysis -/
def bd_MH (W N : Nat) (c : Nat → Nat) (kd r1 wn n1 f hD sn : Nat → Int32) : Prop := ∀ p, p < N → bd_kc c p (kd p) ∧ (kd p = 2 → bd_op c p ≤ 8 → bd_mk W (r1 p) ∧ ∀ i, i < W → (bt (r1 p) i = true ↔ bd_res W c (bd_gy W f) p i = 1)) ∧ (kd p = 2 → bd_op c p ≤ 8 → wn p = hD (4 * (p + 1) + bd_d c p)) ∧ (kd p = 2 → bd_op c p = 10 → n1 p = if f (64 * p + 16 * bd_a c p + bd_b c p) = 1 then nI (bd_tg N c p) else nI (p + 1))
theorem bd_MH_of {W R N : Nat} {c : Nat → Nat} {at' k0 k1 D r0 r1 n1 n2 wn kd wd f hD sn : Nat → Int32} (P : bd_PV W R N c) (hN : N ≤ 24) (h : bd_Post W R N c at' k0 k1 D r0 r1 n1 n2 wn kd wd f hD sn) : bd_MH W N c kd r1 wn n1 f hD sn := by
  obtain ⟨XJ, XB, YI, ag, mD, eD, Kp, wdt⟩ := h
  intro p hp
  obtain ⟨v1, v2, v3, v4, v5, v6, v7, v8, v9⟩ := P p hp
  obtain ⟨q1, q2⟩ := Kp p hp
  have kc : bd_kc c p (kd p) := by
    by_cases s : sn p = 0
    · rw [q2 s]; exact ⟨fun _ => Or.inr rfl, fun _ => Or.inr (Or.inl rfl), fun _ => Or.inr (Or.inl rfl)⟩
    · exact bd_KD_kc (q1 s)
  refine ⟨kc, ?_⟩
  by_cases k2 : kd p = 2
  · have fp : ¬ at' p = 0 := fun z => by
      rw [XB.2.2.1 p hp z] at k2; exact absurd k2 (by decide)
    have sp : ¬ sn p = 0 := fun z => fp ((ag p (by omega)).1.mpr z)
    obtain ⟨s1, ⟨t1, s2, s3⟩, s4⟩ := XJ.2.2.2.2 p hp (by omega) fp (by rw [b_0]; decide)
    have e := (ag p (by omega)).2 fp
    have ea := e _ v2
    have er : bd_res W c (bd_gx W k0 k1) p = bd_res W c (bd_gy W f) p := by unfold bd_res; rw [ea, e _ (bd_ub_lt P hp)]
    refine ⟨fun _ h8 => ?_, fun _ h8 => ?_, fun _ h10 => ?_⟩
    · have ok := s1 h8
      rw [er] at ok
      refine ⟨ok.2.1, fun i hi => ?_⟩
      rw [bd_ok_i ok hi, bd_e3_1 (ok.2.2.1 i)]
    · have := (XB.2.2.2 p hp fp (by rw [b_0]; decide)).2.2 h8
      rw [this]
      unfold bd_qq
      rw [if_pos h8]
      exact (eD (p + 1) (by omega) _ (v3 h8)).symm
    · have hb := v5 (Or.inr (Or.inr h10))
      have kk := q1 sp
      have u2 : ¬ bd_gy W f p (bd_a c p) (bd_b c p) = 2 := by
        rcases kk with z | z | z | z | z | z | z | z
        · omega
        · rw [k2] at z; exact absurd z.2.2 (by decide)
        · exact z.2.1
        · omega
        · omega
        · omega
        · omega
        · omega
      have eg : bd_gy W f p (bd_a c p) (bd_b c p) = f (64 * p + 16 * bd_a c p + bd_b c p) := bd_at_lt hb
      have l1 : bd_lv N c (bd_gx W k0 k1) p t1 := by
        rcases s3.2 with ⟨-, g⟩ | ⟨s, -, -, g⟩
        · exact (g t1).mpr rfl
        · exact (g t1).mpr (Or.inl rfl)
      have l2 : bd_lv N c (bd_gy W f) p t1 := (bd_lv_c ea).mp l1
      rw [s2]
      by_cases g : f (64 * p + 16 * bd_a c p + bd_b c p) = 1
      · rw [if_pos g]
        rcases l2 with y | y
        · exact absurd ⟨h10, eg.trans g⟩ y.2
        · rw [y.1]
      · rw [if_neg g]
        rcases l2 with y | y
        · rw [y.1]
        · exfalso
          rcases (bd_gy_3 YI.1 p (bd_a c p) (bd_b c p)) with z | z | z
          · exact y.2.2 z
          · exact g (eg.symm.trans z)
          · exact u2 z
  · exact ⟨fun z => absurd z k2, fun z => absurd z k2, fun z => absurd z k2⟩
theorem bd_MI_x {W R N : Nat} {c : Nat → Nat} {kd r1 wn n1 f hD sn : Nat → Int32} {w : Nat → Nat} {s : Nat} {M : (Nat → Int32) × (Nat → Int32) × (Nat → Int32) × (Nat → Int32)} (P : bd_PV W R N c) (hW : W ≤ 16) (H : bd_MH W N c kd r1 wn n1 f hD sn) (hs : s < 2) (I : bd_MI W N M) (h : ¬ bd_rs N c s M = true) : bd_MI W N (bd_nx W N c kd r1 wn n1 w s M) := by
  unfold bd_rs at h
  rw [decide_eq_true_eq] at h
  have hp : bd_mp M s < N := by
    rcases Nat.lt_or_ge (bd_mp M s) N with z | z
    · exact z
    · exact absurd (Or.inl z) h
  obtain ⟨v1, v2, v3, v4, v5, v6, v7, v8, v9⟩ := P _ hp
  obtain ⟨m1, m2, m3, m4⟩ := H _ hp
  have kks : bd_kk s (kd (bd_mp M s)) = 0 ∨ bd_kk s (kd (bd_mp M s)) = kd (bd_mp M s) := by
    unfold bd_kk; split
    · exact Or.inl rfl
    · exact Or.inr rfl
  refine ⟨fun j => ?_, fun t ht => ?_, fun t ht => ?_⟩
  · show bd_mk W (bd_nr W c (bd_mp M s) s (bd_kk s (kd (bd_mp M s))) (r1 (bd_mp M s)) (wn (bd_mp M s)) w M.1 j)
    by_cases g : bd_op c (bd_mp M s) ≤ 8 ∧ ¬ bd_kk s (kd (bd_mp M s)) = 1
    · rw [bd_nr1 g]
      by_cases e : j = 4 * s + bd_d c (bd_mp M s)
      · rw [e, pk_us]
        by_cases k0 : bd_kk s (kd (bd_mp M s)) = 0
        · have mv : bd_mk W (bd_vl W (bd_op c (bd_mp M s)) (bd_b c (bd_mp M s)) (M.1 (4 * s + bd_a c (bd_mp M s))) (bd_yy c (bd_mp M s) s M.1)) := by
            refine bd_vl_mk hW g.1 (I.1 _) ?_ (fun e => v7 (Or.inl e)) (fun e => v5 (Or.inr (Or.inl e))) v6
            unfold bd_yy
            split
            · exact I.1 _
            · exact bd_mk0 W
          rw [bd_wv0 k0]
          split
          · exact mv
          · exact bd_mk_and mv
        · have ek := kks.resolve_left k0
          by_cases k2 : bd_kk s (kd (bd_mp M s)) = 2
          · rw [bd_wv2 k2]
            exact bd_mk_and (m2 (ek.symm.trans k2) g.1).1
          · by_cases k3 : bd_kk s (kd (bd_mp M s)) = 3
            · rw [bd_wv3 k3]; exact bd_mk_and (I.1 _)
            · rw [bd_wv4 k0 k2 k3]; exact bd_mk_and (I.1 _)
      · rw [pk_un e]; exact I.1 j
    · rw [bd_nr0 g]; exact I.1 j
  · show ∃ q, q ≤ N ∧ upd M.2.1 s (bd_np N c (bd_mp M s) s (bd_kk s (kd (bd_mp M s))) (n1 (bd_mp M s)) M.1) t = nI q
    by_cases e : t = s
    · rw [e, pk_us]
      have ht := bd_tg_le N c (bd_mp M s)
      unfold bd_np
      split
      · rename_i h10
        split
        · split
          · exact ⟨_, ht, rfl⟩
          · exact ⟨_, by omega, rfl⟩
        · rename_i k0
          split
          · exact ⟨_, by omega, rfl⟩
          · rename_i k1
            have ek := kks.resolve_left k0
            have k2 : kd (bd_mp M s) = 2 := by
              rcases m1.2.1 h10 with y | y | y
              · exact absurd (ek.trans y) k0
              · exact absurd (ek.trans y) k1
              · exact y
            rw [m4 k2 h10]
            split
            · exact ⟨_, ht, rfl⟩
            · exact ⟨_, by omega, rfl⟩
      · exact ⟨_, by omega, rfl⟩
    · rw [pk_un e]; exact I.2.1 t ht
  · show ∃ q, q ≤ 16 ∧ bd_nc c (bd_mp M s) s (bd_mc M s) (bd_kk s (kd (bd_mp M s))) M.2.2.2 t = nI q
    by_cases g : bd_op c (bd_mp M s) = 9 ∧ bd_kk s (kd (bd_mp M s)) = 0
    · rw [bd_nc1 g]
      by_cases e : t = s
      · rw [e, pk_us]
        have : ¬ 16 ≤ bd_mc M s := fun z => h (Or.inr ⟨g.1, z⟩)
        exact ⟨_, by omega, rfl⟩
      · rw [pk_un e]; exact I.2.2 t ht
    · rw [bd_nc0 g]; exact I.2.2 t ht
theorem bd_run_r {W N : Nat} {c : Nat → Nat} {kd r1 wn n1 : Nat → Int32} {w : Nat → Nat} {s m : Nat} {M : (Nat → Int32) × (Nat → Int32) × (Nat → Int32) × (Nat → Int32)} (h : bd_rs N c s M = true) : bd_run W N c kd r1 wn n1 w s m M = (M, 0) := by
  cases m with
  | zero => rfl
  | succ m => unfold bd_run; rw [if_pos h]
theorem bd_run_I {W R N : Nat} {c : Nat → Nat} {kd r1 wn n1 f hD sn : Nat → Int32} {w : Nat → Nat} {s : Nat} (P : bd_PV W R N c) (hW : W ≤ 16) (H : bd_MH W N c kd r1 wn n1 f hD sn) (hs : s < 2) : ∀ m (M : (Nat → Int32) × (Nat → Int32) × (Nat → Int32) × (Nat → Int32)), bd_MI W N M → bd_MI W N (bd_run W N c kd r1 wn n1 w s m M).1
  | 0, _, I => I
  | m + 1, M, I => by
    by_cases h : bd_rs N c s M = true
    · rw [bd_run_r h]; exact I
    · unfold bd_run
      rw [if_neg h]
      exact bd_run_I P hW H hs m _ (bd_MI_x P hW H hs I h)
section
variable {W R N C : Nat} {c : Nat → Nat} {s cc : Nat} {w : Nat → Nat} {f hD sn : Nat → Int32}
variable {f_w f_regCount f_cap f_all f_n f_analysed f_pending f_a0 f_a1 f_b0 f_b1 f_needA f_needB f_chain f_started : Int32} {a_fop a_fd a_fa a_fb a_at a_k0 a_k1 a_dem a_r0 a_r1 a_next1 a_next2 a_want a_kind a_widths a_inputs a_regs a_pcs a_logs a_counts : Nat → Int32}
theorem bd_X_run {post : Int32 → SX → Prop} (hc : bd_XC N c a_fop a_fd a_fa a_fb) (P : bd_PV W R N c) (hW : W ≤ 16) (hN : N ≤ 24) (hR : R ≤ 4) (hs : s < 2) (hcc : cc ≤ 64) (hw : ∀ r, r < R → a_widths r = nI (w r) ∧ w r ≤ 16) (H : bd_MH W N c a_kind a_r1 a_want a_next1 f hD sn) :
    ∀ m k x3 (M : (Nat → Int32) × (Nat → Int32) × (Nat → Int32) × (Nat → Int32)), bd_MI W N M → k + m = cc → post (nI (x3 + (bd_run W N c a_kind a_r1 a_want a_next1 w s m M).2)) (nI W, nI R, nI C, bd_lo W, nI N, f_analysed, f_pending, f_a0, f_a1, f_b0, f_b1, f_needA, f_needB, f_chain, f_started, a_fop, a_fd, a_fa, a_fb, a_at, a_k0, a_k1, a_dem, a_r0, a_r1, a_next1, a_next2, a_want, a_kind, a_widths, a_inputs, (bd_run W N c a_kind a_r1 a_want a_next1 w s m M).1.1, (bd_run W N c a_kind a_r1 a_want a_next1 w s m M).1.2.1, (bd_run W N c a_kind a_r1 a_want a_next1 w s m M).1.2.2.1, (bd_run W N c a_kind a_r1 a_want a_next1 w s m M).1.2.2.2) →
      wX_run_5 post (nI s) (nI cc) (m + 1) (nI x3) (nI k) (nI W) (nI R) (nI C) (bd_lo W) (nI N) f_analysed f_pending f_a0 f_a1 f_b0 f_b1 f_needA f_needB f_chain f_started a_fop a_fd a_fa a_fb a_at a_k0 a_k1 a_dem a_r0 a_r1 a_next1 a_next2 a_want a_kind a_widths a_inputs M.1 M.2.1 M.2.2.1 M.2.2.2 := by
  intro m
  induction m with
  | zero =>
    intro k x3 M I hk K
    exact br_t (nI_le (by omega) (by omega)) K
  | succ m ih =>
    intro k x3 M I hk K
    obtain ⟨p, p1, p2⟩ := I.2.1 s hs
    obtain ⟨ct, ct1, ct2⟩ := I.2.2 s hs
    have ep : bd_mp M s = p := by unfold bd_mp; rw [p2]; exact bd_cl (by omega)
    have ec : bd_mc M s = ct := by unfold bd_mc; rw [ct2]; exact bd_cl (by omega)
    have h2 : vp_in (nI s) 2 := vp_in_nI hs (by omega)
    have stop : (N ≤ p ∨ (bd_op c p = 9 ∧ 16 ≤ ct)) → post (nI x3) (nI W, nI R, nI C, bd_lo W, nI N, f_analysed, f_pending, f_a0, f_a1, f_b0, f_b1, f_needA, f_needB, f_chain, f_started, a_fop, a_fd, a_fa, a_fb, a_at, a_k0, a_k1, a_dem, a_r0, a_r1, a_next1, a_next2, a_want, a_kind, a_widths, a_inputs, M.1, M.2.1, M.2.2.1, M.2.2.2) := by
      intro h
      rw [bd_run_r (by unfold bd_rs; rw [decide_eq_true_eq, ep, ec]; exact h)] at K
      exact K
    have go : ¬ (N ≤ p ∨ (bd_op c p = 9 ∧ 16 ≤ ct)) → wpX_carryOut (fun u => match u with | (f_w_1, f_regCount_1, f_cap_1, f_all_1, f_n_1, f_analysed_1, f_pending_1, f_a0_1, f_a1_1, f_b0_1, f_b1_1, f_needA_1, f_needB_1, f_chain_1, f_started_1, a_fop_1, a_fd_1, a_fa_1, a_fb_1, a_at_1, a_k0_1, a_k1_1, a_dem_1, a_r0_1, a_r1_1, a_next1_1, a_next2_1, a_want_1, a_kind_1, a_widths_1, a_inputs_1, a_regs_1, a_pcs_1, a_logs_1, a_counts_1) => (∀ x3_1 : Int32, x3_1 = nI x3 + 1 → (∀ x4_1 : Int32, x4_1 = nI k + 1 → (wX_run_5 post (nI s) (nI cc) (m + 1) x3_1 x4_1 f_w_1 f_regCount_1 f_cap_1 f_all_1 f_n_1 f_analysed_1 f_pending_1 f_a0_1 f_a1_1 f_b0_1 f_b1_1 f_needA_1 f_needB_1 f_chain_1 f_started_1 a_fop_1 a_fd_1 a_fa_1 a_fb_1 a_at_1 a_k0_1 a_k1_1 a_dem_1 a_r0_1 a_r1_1 a_next1_1 a_next2_1 a_want_1 a_kind_1 a_widths_1 a_inputs_1 a_regs_1 a_pcs_1 a_logs_1 a_counts_1)))) (nI W, nI R, nI C, bd_lo W, nI N, f_analysed, f_pending, f_a0, f_a1, f_b0, f_b1, f_needA, f_needB, f_chain, f_started, a_fop, a_fd, a_fa, a_fb, a_at, a_k0, a_k1, a_dem, a_r0, a_r1, a_next1, a_next2, a_want, a_kind, a_widths, a_inputs, M.1, M.2.1, M.2.2.1, M.2.2.2) (nI s) := by
      intro h
      have hrs : ¬ bd_rs N c s M = true := by unfold bd_rs; rw [decide_eq_true_eq, ep, ec]; exact h
      have hp : p < N := by
        rcases Nat.lt_or_ge p N with z | z
        · exact z
        · exact absurd (Or.inl z) h
      have I' := bd_MI_x (w := w) P hW H hs I hrs
      have K' := K
      unfold bd_run at K'
      rw [if_neg hrs] at K'
      have nxt := ih (k + 1) (x3 + 1) _ I' (by omega) (by
        rw [show x3 + 1 + (bd_run W N c a_kind a_r1 a_want a_next1 w s m (bd_nx W N c a_kind a_r1 a_want a_next1 w s M)).2 = x3 + ((bd_run W N c a_kind a_r1 a_want a_next1 w s m (bd_nx W N c a_kind a_r1 a_want a_next1 w s M)).2 + 1) by omega]
        exact K')
      refine bd_X_co (w := w) hc P hW hN hR hp hs p2 ct2 (fun h9 => ?_) ct1 hw (H p hp).1 (nm_r (nI_1 x3) (nm_r (nI_1 k) ?_))
      · rcases Nat.lt_or_ge ct 16 with z | z
        · exact z
        · exact absurd (Or.inr ⟨h9, z⟩) h
      · unfold bd_nx at nxt
        rw [ep, ec] at nxt
        exact nxt
    refine br_f (nI_ge (by omega) (by omega)) ?_
    refine And.intro h2 (nm_r (e' := nI p) ((bd_fat (by omega)).trans p2) (pk_le N p (fun h => br_f (by decide) (stop (Or.inl h))) (fun h => ⟨vp_in_nI (by omega) (by omega), ?_⟩)))
    rw [bd_fat (f := a_fop) (p := p) (by omega), (hc p h).1, bd_fat (f := M.2.2.2) (p := s) (by omega), ct2]
    have v1 := (P p h).1
    refine pk_eq (bd_op c p) 9 (fun h9 => ⟨h2, pk_lt ct 16 (fun g => br_t rfl (go (fun z => by omega))) (fun g => br_f (by decide) (stop (Or.inr ⟨h9, g⟩)))⟩) (fun h9 => br_t rfl (go (fun z => by omega)))
end
end
section
/-! ===== the reference's machines run; step, owed ===== -/
section
variable {W R N C : Nat} {c : Nat → Nat} {s cc : Nat} {w : Nat → Nat} {kd r1 wn n1 : Nat → Int32}
variable {g_w g_m g_rs g_cap g_n g_op g_d g_a g_b g_x g_y g_needA g_needB g_analysed g_started : Int32} {h_code h_fact h_dem h_res h_inputs h_regs h_pcs h_counts h_logs h_seen : Nat → Int32}
theorem bd_Y_act {post : Int32 → SY → Prop} {M : (Nat → Int32) × (Nat → Int32) × (Nat → Int32) × (Nat → Int32)} (hc : bd_YC N c h_code) (P : bd_PV W R N c) (hW : W ≤ 16) (hW0 : 0 < W) (hN : N ≤ 24) (hR : R ≤ 4) (hs : s < 2) (h3 : bd_F3 h_fact) (r3 : bd_F3 h_res) (mD : ∀ j, bd_mk W (h_dem j)) (hw : ∀ r, r < R → w r = bd_bl (bd_un h_dem r (N + 1)) W) (H : bd_MH W N c kd r1 wn n1 h_fact h_dem h_seen) (Kp : bd_Kap W N c h_seen h_fact h_dem kd) (I : bd_MI W N M)
    (K0 : bd_rs N c s M = true → post 0 (nI W, bd_lo W, nI R, nI C, nI N, g_op, g_d, g_a, g_b, g_x, g_y, g_needA, g_needB, 1, g_started, h_code, h_fact, h_dem, h_res, h_inputs, M.1, M.2.1, M.2.2.2, M.2.2.1, h_seen))
    (K1 : ¬ bd_rs N c s M = true → ∀ o d a b x y nA nB res, bd_F3 res → post 1 (nI W, bd_lo W, nI R, nI C, nI N, o, d, a, b, x, y, nA, nB, 1, g_started, h_code, h_fact, h_dem, res, h_inputs, (bd_nx W N c kd r1 wn n1 w s M).1, (bd_nx W N c kd r1 wn n1 w s M).2.1, (bd_nx W N c kd r1 wn n1 w s M).2.2.2, (bd_nx W N c kd r1 wn n1 w s M).2.2.1, h_seen)) :
    wpY_act post (nI W, bd_lo W, nI R, nI C, nI N, g_op, g_d, g_a, g_b, g_x, g_y, g_needA, g_needB, 1, g_started, h_code, h_fact, h_dem, h_res, h_inputs, M.1, M.2.1, M.2.2.2, M.2.2.1, h_seen) (nI s) := by
  obtain ⟨p, p1, p2⟩ := I.2.1 s hs
  obtain ⟨ct, ct1, ct2⟩ := I.2.2 s hs
  have ep : bd_mp M s = p := by unfold bd_mp; rw [p2]; exact bd_cl (by omega)
  have ec : bd_mc M s = ct := by unfold bd_mc; rw [ct2]; exact bd_cl (by omega)
  have h2 : vp_in (nI s) 2 := vp_in_nI hs (by omega)
  have stop : (N ≤ p ∨ (bd_op c p = 9 ∧ 16 ≤ ct)) → post 0 (nI W, bd_lo W, nI R, nI C, nI N, g_op, g_d, g_a, g_b, g_x, g_y, g_needA, g_needB, 1, g_started, h_code, h_fact, h_dem, h_res, h_inputs, M.1, M.2.1, M.2.2.2, M.2.2.1, h_seen) := fun h => K0 (by unfold bd_rs; rw [decide_eq_true_eq, ep, ec]; exact h)
  refine And.intro h2 (nm_r (e' := nI p) ((bd_fat (by omega)).trans p2) (pk_le N p (fun h => stop (Or.inl h)) (fun hp => ?_)))
  have go : ¬ (N ≤ p ∨ (bd_op c p = 9 ∧ 16 ≤ ct)) → wY_act_43 post (nI s) (nI p) 0 (nI W) (bd_lo W) (nI R) (nI C) (nI N) g_op g_d g_a g_b g_x g_y g_needA g_needB 1 g_started h_code h_fact h_dem h_res h_inputs M.1 M.2.1 M.2.2.2 M.2.2.1 h_seen := by
    intro h
    have K := K1 (by unfold bd_rs; rw [decide_eq_true_eq, ep, ec]; exact h)
    unfold bd_nx at K
    rw [ep, ec] at K
    obtain ⟨m1, m2, m3, m4⟩ := H p hp
    have hc16 : bd_op c p = 9 → ct < 16 := fun h9 => by
      rcases Nat.lt_or_ge ct 16 with z | z
      · exact z
      · exact absurd (Or.inr ⟨h9, z⟩) h
    unfold wY_act_43
    refine bd_Y_dec hc P hW hW0 hN hR hp h3 r3 mD (fun k nA nB res q1 q2 q3 q4 => ?_)
    have ek : k = kd p := by
      obtain ⟨a1, a2⟩ := Kp p hp
      by_cases z : h_seen p = 0
      · rw [(q4 z).1, a2 z]
      · exact bd_KD_u (q3 z).1 (a1 z)
    have sn2 : kd p = 2 → ¬ h_seen p = 0 := fun k2 z => by
      rw [(Kp p hp).2 z] at k2; exact absurd k2 (by decide)
    refine pk_eq s 0 (fun h0 => ?_) (fun h0 => ?_)
    · have e0 : bd_kk s (kd p) = 0 := by unfold bd_kk; rw [if_pos h0]
      rw [e0] at K
      refine bd_Y_a60 (w := w) (r1 := r1 p) (wn := wn p) (n1 := n1 p) P hW hW0 hN hR hp hs ct2 hc16 ct1 mD I.1 hw ⟨fun _ => Or.inl rfl, fun _ => Or.inl rfl, fun _ => Or.inl rfl⟩ (fun _ => rfl) (fun z => absurd z (by decide)) (fun z => absurd z (by decide)) (fun z => absurd z (by decide)) (K _ _ _ _ _ _ _ _ _ q1)
    · have e0 : bd_kk s (kd p) = kd p := by unfold bd_kk; rw [if_neg h0]
      rw [e0] at K
      rw [ek]
      refine bd_Y_a60 (w := w) (r1 := r1 p) (wn := wn p) (n1 := n1 p) P hW hW0 hN hR hp hs ct2 hc16 ct1 mD I.1 hw m1 (fun z => absurd z h0) (fun k2 h8 => ⟨(m2 k2 h8).1, fun i hi => ?_⟩) m3 m4 (K _ _ _ _ _ _ _ _ _ q1)
      rw [(m2 k2 h8).2 i hi, q2 (sn2 k2) h8 i hi]
  have e9 : h_code (4 * p) = nI (bd_op c p) := hc _ (by omega)
  have v1 := (P p hp).1
  rw [bd_i4, bd_fat (f := h_code) (p := 4 * p) (by omega), e9, bd_fat (f := M.2.2.2) (p := s) (by omega), ct2]
  exact ⟨vp_in_nI (by omega) (by omega), pk_eq (bd_op c p) 9 (fun h9 => ⟨h2, pk_lt ct 16 (fun g => go (fun z => by omega)) (fun g => stop (Or.inr ⟨h9, g⟩))⟩) (fun h9 => go (fun z => by omega))⟩
theorem bd_Y_s52 {post : Int32 → SY → Prop} {v1 x2 : Int32} (hc : bd_YC N c h_code) (P : bd_PV W R N c) (hW : W ≤ 16) (hW0 : 0 < W) (hN : N ≤ 24) (hR : R ≤ 4) (hcc : cc ≤ 64) (hv : (v1 ≤ nI cc ∨ cc = 64) ∧ ∀ j, j < cc → ¬ v1 ≤ nI j) (hst : ¬ g_started = 0) (h3 : bd_F3 h_fact) (mD : ∀ j, bd_mk W (h_dem j)) (hw : ∀ r, r < R → w r = bd_bl (bd_un h_dem r (N + 1)) W) (H : bd_MH W N c kd r1 wn n1 h_fact h_dem h_seen) (Kp : bd_Kap W N c h_seen h_fact h_dem kd) :
    ∀ m k o d a b x y nA nB res (M : (Nat → Int32) × (Nat → Int32) × (Nat → Int32) × (Nat → Int32)), bd_F3 res → bd_MI W N M → k + m = cc → (∀ o d a b x y nA nB res, bd_F3 res → post x2 (nI W, bd_lo W, nI R, nI C, nI N, o, d, a, b, x, y, nA, nB, 1, g_started, h_code, h_fact, h_dem, res, h_inputs, (bd_run W N c kd r1 wn n1 w 1 m M).1.1, (bd_run W N c kd r1 wn n1 w 1 m M).1.2.1, (bd_run W N c kd r1 wn n1 w 1 m M).1.2.2.2, (bd_run W N c kd r1 wn n1 w 1 m M).1.2.2.1, h_seen)) →
      wY_step_52 post v1 x2 (m + 1) (nI k) (nI W) (bd_lo W) (nI R) (nI C) (nI N) o d a b x y nA nB 1 g_started h_code h_fact h_dem res h_inputs M.1 M.2.1 M.2.2.2 M.2.2.1 h_seen := by
  intro m
  induction m with
  | zero =>
    intro k o d a b x y nA nB res M r3 I hk K
    obtain rfl : k = cc := by omega
    have K' := K o d a b x y nA nB res r3
    refine br_c (fun _ => K') (fun z => br_t ?_ K')
    rcases hv.1 with g | g
    · exact absurd g z
    · exact nI_le (a := 64) (by omega) (by omega)
  | succ m ih =>
    intro k o d a b x y nA nB res M r3 I hk K
    refine br_f (hv.2 k (by omega)) (br_f (nI_ge (b := 64) (by omega) (by omega)) (br_f hst ?_))
    refine bd_Y_act (s := 1) (w := w) (kd := kd) (r1 := r1) (wn := wn) (n1 := n1) hc P hW hW0 hN hR (by omega) h3 r3 mD hw H Kp I (fun hr => nm_r (nI_1 k) ?_) (fun hr o d a b x y nA nB res r3' => nm_r (nI_1 k) ?_)
    · refine ih (k + 1) _ _ _ _ _ _ _ _ _ M r3 I (by omega) (fun o d a b x y nA nB res r3 => ?_)
      have := K o d a b x y nA nB res r3
      rw [bd_run_r hr] at this ⊢
      exact this
    · refine ih (k + 1) _ _ _ _ _ _ _ _ _ _ r3' (bd_MI_x P hW H (by omega) I hr) (by omega) (fun o d a b x y nA nB res r3 => ?_)
      have := K o d a b x y nA nB res r3
      unfold bd_run at this
      rw [if_neg hr] at this
      exact this
theorem bd_Y_s15 {post : Int32 → SY → Prop} {v1 : Int32} (hc : bd_YC N c h_code) (P : bd_PV W R N c) (hW : W ≤ 16) (hW0 : 0 < W) (hN : N ≤ 24) (hR : R ≤ 4) (hcc : cc ≤ 64) (hv : (v1 ≤ nI cc ∨ cc = 64) ∧ ∀ j, j < cc → ¬ v1 ≤ nI j) (hst : ¬ g_started = 0) (h3 : bd_F3 h_fact) (mD : ∀ j, bd_mk W (h_dem j)) (hw : ∀ r, r < R → w r = bd_bl (bd_un h_dem r (N + 1)) W) (H : bd_MH W N c kd r1 wn n1 h_fact h_dem h_seen) (Kp : bd_Kap W N c h_seen h_fact h_dem kd) :
    ∀ m k x2 o d a b x y nA nB res (M : (Nat → Int32) × (Nat → Int32) × (Nat → Int32) × (Nat → Int32)), bd_F3 res → bd_MI W N M → k + m = cc → (∀ o d a b x y nA nB res, bd_F3 res → ∃ n, wY_step_52 post v1 (nI (x2 + (bd_run W N c kd r1 wn n1 w 0 m M).2)) n 0 (nI W) (bd_lo W) (nI R) (nI C) (nI N) o d a b x y nA nB 1 g_started h_code h_fact h_dem res h_inputs ((bd_run W N c kd r1 wn n1 w 0 m M).1.1) ((bd_run W N c kd r1 wn n1 w 0 m M).1.2.1) ((bd_run W N c kd r1 wn n1 w 0 m M).1.2.2.2) ((bd_run W N c kd r1 wn n1 w 0 m M).1.2.2.1) h_seen) →
      wY_step_15 post v1 (m + 1) (nI x2) (nI k) (nI W) (bd_lo W) (nI R) (nI C) (nI N) o d a b x y nA nB 1 g_started h_code h_fact h_dem res h_inputs M.1 M.2.1 M.2.2.2 M.2.2.1 h_seen := by
  intro m
  induction m with
  | zero =>
    intro k x2 o d a b x y nA nB res M r3 I hk K
    obtain rfl : k = cc := by omega
    have K' := K o d a b x y nA nB res r3
    refine br_c (fun _ => K') (fun z => br_t ?_ K')
    rcases hv.1 with g | g
    · exact absurd g z
    · exact nI_le (a := 64) (by omega) (by omega)
  | succ m ih =>
    intro k x2 o d a b x y nA nB res M r3 I hk K
    refine br_f (hv.2 k (by omega)) (br_f (nI_ge (b := 64) (by omega) (by omega)) (br_f hst ?_))
    refine bd_Y_act (s := 0) (w := w) (kd := kd) (r1 := r1) (wn := wn) (n1 := n1) hc P hW hW0 hN hR (by omega) h3 r3 mD hw H Kp I (fun hr => br_t rfl (nm_r (nI_1 k) ?_)) (fun hr o d a b x y nA nB res r3' => br_f (by decide) (nm_r (nI_1 x2) (nm_r (nI_1 k) ?_)))
    · refine ih (k + 1) x2 _ _ _ _ _ _ _ _ _ M r3 I (by omega) (fun o d a b x y nA nB res r3 => ?_)
      have := K o d a b x y nA nB res r3
      rw [bd_run_r hr] at this ⊢
      exact this
    · refine ih (k + 1) (x2 + 1) _ _ _ _ _ _ _ _ _ _ r3' (bd_MI_x P hW H (by omega) I hr) (by omega) (fun o d a b x y nA nB res r3 => ?_)
      have := K o d a b x y nA nB res r3
      unfold bd_run at this
      rw [if_neg hr] at this
      rw [show x2 + 1 + (bd_run W N c kd r1 wn n1 w 0 m (bd_nx W N c kd r1 wn n1 w 0 M)).2 = x2 + ((bd_run W N c kd r1 wn n1 w 0 m (bd_nx W N c kd r1 wn n1 w 0 M)).2 + 1) by omega]
      exact this
end
theorem i_vc_step {k : Nat} {u : SX} {v : SY} (I : i_Rel k u v) (hk : k + 5 ≤ 2563) (v1 : Int32) : wpX_step (fun r u' => wpY_step (fun r' v' => r' = r ∧ i_Rel (k + 5) u' v') v v1) u v1 := by
  refine bd_el (P := fun u v => wpX_step (fun r u' => wpY_step (fun r' v' => r' = r ∧ i_Rel (k + 5) u' v') v v1) u v1) ?_ I
  intro W R N C c an st f_pending f_a0 f_a1 f_b0 f_b1 f_needA f_needB f_chain g_op g_d g_a g_b g_x g_y g_needA g_needB a_fop a_fd a_fa a_fb a_at a_k0 a_k1 a_dem a_r0 a_r1 a_next1 a_next2 a_want a_kind a_widths a_inputs a_regs a_pcs a_logs a_counts h_code h_fact h_dem h_res h_seen H
  have rel := bd_rel (k := k + 5) (f_pending := f_pending) (f_a0 := f_a0) (f_a1 := f_a1) (f_b0 := f_b0) (f_b1 := f_b1) (f_needA := f_needA) (f_needB := f_needB) (f_chain := f_chain) (g_op := g_op) (g_d := g_d) (g_a := g_a) (g_b := g_b) (g_x := g_x) (g_y := g_y) (g_needA := g_needA) (g_needB := g_needB) (a_logs := a_logs) H
  obtain ⟨⟨w1, w2, r1, r2, c1, c2, n1⟩, hc, hy, P, an01, st01, sa, ipm, r3, pre, pst, rgm, pcs, cts⟩ := H
  by_cases es : st = 0
  · have s52 : ∃ n, wY_step_52 (fun r' v' => r' = -1 ∧ i_Rel (k + 5) (nI W, nI R, nI C, bd_lo W, nI N, an, f_pending, f_a0, f_a1, f_b0, f_b1, f_needA, f_needB, f_chain, st, a_fop, a_fd, a_fa, a_fb, a_at, a_k0, a_k1, a_dem, a_r0, a_r1, a_next1, a_next2, a_want, a_kind, a_widths, a_inputs, a_regs, a_pcs, a_logs, a_counts) v') v1 (-1) n 0 (nI W) (bd_lo W) (nI R) (nI C) (nI N) g_op g_d g_a g_b g_x g_y g_needA g_needB an st h_code h_fact h_dem h_res a_inputs a_regs a_pcs a_counts a_logs h_seen :=
      ⟨1, br_c (fun _ => ⟨rfl, rel⟩) (fun _ => br_f (by decide) (br_t es ⟨rfl, rel⟩))⟩
    exact br_t es (br_t es ⟨1, br_c (fun _ => s52) (fun _ => br_f (by decide) (br_t es s52))⟩)
  · have a1 := sa (bd_01i st01 es)
    subst a1
    have PO := pst rfl
    have MH := bd_MH_of P (by omega) PO
    obtain ⟨XJ, XB, YI, ag, mD, eD, Kp, wdt⟩ := PO
    have eu : ∀ r, r < R → bd_bl (bd_un a_dem r (N + 1)) 32 = bd_bl (bd_un h_dem r (N + 1)) W := fun r hr => by
      rw [bd_un_c (D := h_dem) (D' := a_dem) (fun p hp => eD p (by omega) r hr), bd_bl_32 (bd_un_mk XB.1.1 r _) (by omega)]
    have hwX : ∀ r, r < R → a_widths r = nI ((fun r => bd_bl (bd_un h_dem r (N + 1)) W) r) ∧ (fun r => bd_bl (bd_un h_dem r (N + 1)) W) r ≤ 16 := fun r hr => ⟨by rw [wdt r hr, eu r hr], Nat.le_trans (bd_bl_le _ _) w2⟩
    have I0 : bd_MI W N (a_regs, a_pcs, a_logs, a_counts) := ⟨rgm, pcs, cts⟩
    refine br_f es ?_
    have main : ∀ cc, 1 ≤ cc → cc ≤ 64 → ((v1 ≤ nI cc ∨ cc = 64) ∧ ∀ j, j < cc → ¬ v1 ≤ nI j) → wX_step_28 (fun r u' => wpY_step (fun r' v' => r' = r ∧ i_Rel (k + 5) u' v') (nI W, bd_lo W, nI R, nI C, nI N, g_op, g_d, g_a, g_b, g_x, g_y, g_needA, g_needB, 1, st, h_code, h_fact, h_dem, h_res, a_inputs, a_regs, a_pcs, a_counts, a_logs, h_seen) v1) (nI cc) (nI W) (nI R) (nI C) (bd_lo W) (nI N) 1 f_pending f_a0 f_a1 f_b0 f_b1 f_needA f_needB f_chain st a_fop a_fd a_fa a_fb a_at a_k0 a_k1 a_dem a_r0 a_r1 a_next1 a_next2 a_want a_kind a_widths a_inputs a_regs a_pcs a_logs a_counts := by
      intro cc hc1 hc64 hv
      unfold wX_step_28
      refine ⟨cc + 1, bd_X_run (s := 0) hc P w2 (by omega) r2 (by omega) hc64 hwX MH cc 0 0 (a_regs, a_pcs, a_logs, a_counts) I0 (by omega) ?_⟩
      have I1 := bd_run_I (w := fun r => bd_bl (bd_un h_dem r (N + 1)) W) (s := 0) P w2 MH (by omega) cc (a_regs, a_pcs, a_logs, a_counts) I0
      refine ⟨cc + 1, bd_X_run (s := 1) hc P w2 (by omega) r2 (by omega) hc64 hwX MH cc 0 0 _ I1 (by omega) ?_⟩
      have I2 := bd_run_I (w := fun r => bd_bl (bd_un h_dem r (N + 1)) W) (s := 1) P w2 MH (by omega) cc _ I1
      refine br_f es ⟨cc + 1, ?_⟩
      refine bd_Y_s15 hy P w2 (by omega) (by omega) r2 hc64 hv es YI.1 mD (fun r _ => rfl) MH Kp cc 0 0 _ _ _ _ _ _ _ _ _ (a_regs, a_pcs, a_logs, a_counts) r3 I0 (by omega) (fun o d a b x y nA nB res q3 => ⟨cc + 1, ?_⟩)
      refine bd_Y_s52 hy P w2 (by omega) (by omega) r2 hc64 hv es YI.1 mD (fun r _ => rfl) MH Kp cc 0 _ _ _ _ _ _ _ _ _ _ q3 I1 (by omega) (fun o d a b x y nA nB res q3' => ⟨rfl, ?_⟩)
      exact bd_rel ⟨⟨w1, w2, r1, r2, c1, c2, n1⟩, hc, hy, P, an01, st01, sa, ipm, q3', pre, pst, I2.1, I2.2.1, I2.2.2⟩
    rcases bd_ix4 v1 (n := 64) (by omega) with h | ⟨h1, h2, h3⟩ | ⟨j, hj, e⟩
    · have n1' : ¬ (1 : Int32) ≤ v1 := fun z => by
        have a := Int32.le_iff_toInt_le.mp z
        have b := Int32.lt_iff_toInt_lt.mp h
        rw [show (1 : Int32).toInt = 1 from rfl] at a
        rw [show (0 : Int32).toInt = 0 from rfl] at b
        omega
      have l0 : v1 ≤ 0 := by
        rw [Int32.le_iff_toInt_le, show (0 : Int32).toInt = 0 from rfl]
        have b := Int32.lt_iff_toInt_lt.mp h
        rw [show (0 : Int32).toInt = 0 from rfl] at b
        omega
      exact br_f n1' (br_f es ⟨1, br_t l0 ⟨1, br_t l0 ⟨rfl, rel⟩⟩⟩)
    · have b := Int32.lt_iff_toInt_lt.mp h2
      rw [nI_toInt (by omega)] at b
      have g1 : (1 : Int32) ≤ v1 := by
        rw [Int32.le_iff_toInt_le, show (1 : Int32).toInt = 1 from rfl]; omega
      refine br_t g1 (br_f h3 (main 64 (by omega) (by omega) ⟨Or.inr rfl, fun j hj z => ?_⟩))
      have a := Int32.le_iff_toInt_le.mp z
      rw [nI_toInt (by omega)] at a
      omega
    · subst e
      rcases Nat.eq_zero_or_pos j with z | z
      · subst z
        exact br_f (by decide) (br_f es ⟨1, br_t (by decide) ⟨1, br_t (by decide) ⟨rfl, rel⟩⟩⟩)
      · exact br_t (nI_le (a := 1) (by omega) (by omega)) (br_t (nI_le (b := 64) (by omega) (by omega)) (main j z hj ⟨Or.inl (nI_le (Nat.le_refl _) (by omega)), fun i hi => nI_ge hi (by omega)⟩))
end
