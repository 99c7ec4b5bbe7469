section
/-! pure rows to paste: stores, nI and lN arithmetic, masks, shifts, narrowing, branches by naturals (pk_le, pk_lt, pk_eq), loops (lp1 .. lp16: the measure of the state; rp1 ..: recursion), negatives. Take what you need -/
theorem pk_us {f : Nat → Int32} {k : Nat} {x : Int32} : upd f k x k = x := if_pos rfl
theorem pk_un {f : Nat → Int32} {k j : Nat} {x : Int32} (h : j ≠ k) : upd f k x j = f j := if_neg h
theorem pk_uLs {f : Nat → Int64} {k : Nat} {x : Int64} : vp_updL f k x k = x := if_pos rfl
theorem pk_uLn {f : Nat → Int64} {k j : Nat} {x : Int64} (h : j ≠ k) : vp_updL f k x j = f j := if_neg h
theorem pk_sub {a b : Nat} (h : b ≤ a) : nI a - nI b = nI (a - b) := by
  obtain ⟨c, rfl⟩ : ∃ c, a = c + b := ⟨a - b, by omega⟩
  rw [← nI_add, Int32.add_sub_cancel, Nat.add_sub_cancel]
theorem pk_m1 (n : Nat) : nI (n + 1) + (-1) = nI n := by
  rw [← nI_1, Int32.add_assoc, show (1 : Int32) + (-1) = 0 from rfl, Int32.add_zero]
theorem pk_mul (a b : Nat) : nI a * nI b = nI (a * b) := (Int32.ofNat_mul a b).symm
theorem pk_div {a d : Nat} (ha : a < 2 ^ 31) (h0 : 0 < d) (hd : d < 2 ^ 31) : nI a / nI d = nI (a / d) := by
  apply Int32.toInt_inj.mp
  rw [lg_idiv_nonneg (by rw [nI_toInt ha]; omega) (by rw [nI_toInt hd]; omega), nI_toInt ha, nI_toInt hd, nI_toInt (Nat.lt_of_le_of_lt (Nat.div_le_self a d) ha)]
  first | rfl | exact (Int.natCast_ediv _ _).symm
theorem pk_rem {a d : Nat} (ha : a < 2 ^ 31) (h0 : 0 < d) (hd : d < 2 ^ 31) : nI a - nI a / nI d * nI d = nI (a % d) := by
  rw [pk_div ha h0 hd, pk_mul, pk_sub (Nat.div_mul_le_self a d)]
  exact congrArg nI (by have := Nat.div_add_mod' a d; omega)
theorem pk_sub_toInt {a b : Nat} (ha : a < 2 ^ 30) (hb : b < 2 ^ 30) : (nI a - nI b).toInt = (a : Int) - b := by
  rw [Int32.toInt_sub, nI_toInt (by omega), nI_toInt (by omega)]
  exact Int.bmod_eq_of_le (by omega) (by omega)
theorem pk_sneg {a b : Nat} (hb : b < 2 ^ 30) (h : a < b) : nI a - nI b < 0 := by
  rw [Int32.lt_iff_toInt_lt, pk_sub_toInt (by omega) hb, show (0 : Int32).toInt = 0 from by decide]
  omega
theorem pk_ix (x : Int32) {n : Nat} (hn : n < 2 ^ 31) : x < 0 ∨ nI n ≤ x ∨ ∃ j : Nat, j < n ∧ x = nI j := by
  by_cases h : x < 0
  · exact Or.inl h
  · obtain ⟨j, hj, rfl⟩ := nI_of h
    by_cases h2 : j < n
    · exact Or.inr (Or.inr ⟨j, h2, rfl⟩)
    · exact Or.inr (Or.inl (nI_le (by omega) hj))
theorem pk_le {x y : Int32} {A B : Prop} (a b : Nat) (f : a ≤ b → A) (g : b < a → B) (hx : x = nI a := by rfl) (hy : y = nI b := by rfl) (ha : a < 2 ^ 31 := by omega) (hb : b < 2 ^ 31 := by omega) : (x ≤ y → A) ∧ (¬ x ≤ y → B) := by
  subst hx hy
  rw [nI_leI ha hb]
  exact ⟨f, fun z => g (by omega)⟩
theorem pk_lt {x y : Int32} {A B : Prop} (a b : Nat) (f : a < b → A) (g : b ≤ a → B) (hx : x = nI a := by rfl) (hy : y = nI b := by rfl) (ha : a < 2 ^ 31 := by omega) (hb : b < 2 ^ 31 := by omega) : (x < y → A) ∧ (¬ x < y → B) := by
  subst hx hy
  rw [nI_ltI ha hb]
  exact ⟨f, fun z => g (by omega)⟩
theorem pk_eq {x y : Int32} {A B : Prop} (a b : Nat) (f : a = b → A) (g : a ≠ b → B) (hx : x = nI a := by rfl) (hy : y = nI b := by rfl) (ha : a < 2 ^ 31 := by omega) (hb : b < 2 ^ 31 := by omega) : (x = y → A) ∧ (¬ x = y → B) := by
  subst hx hy
  rw [nI_eq ha hb]
  exact ⟨f, g⟩
theorem pk_in {x : Int32} (n N : Nat) (h : n < N) (hx : x = nI n := by rfl) (hN : N < 2 ^ 31 := by omega) : vp_in x N := by
  subst hx
  exact vp_in_nI h hN
theorem pk_cl {x : Int32} (n : Nat) (hx : x = nI n := by rfl) (h : n < 2 ^ 31 := by omega) : x.toNatClampNeg = n := by
  subst hx
  exact nI_clamp h
theorem pk_tn {n : Nat} (h : n < 2 ^ 32) : (nI n).toBitVec.toNat = n := Nat.mod_eq_of_lt h
theorem pk_and (x : Int32) {m : Int32} (k : Nat) (hm : m.toBitVec.toNat = 2 ^ k - 1) : x &&& m = nI (x.toBitVec.toNat % 2 ^ k) := by
  apply Int32.toBitVec_inj.mp
  apply BitVec.eq_of_toNat_eq
  rw [Int32.toBitVec_and, BitVec.toNat_and, hm, Nat.and_two_pow_sub_one_eq_mod]
  show _ = (BitVec.ofNat 32 _).toNat
  rw [BitVec.toNat_ofNat]
  exact (Nat.mod_eq_of_lt (Nat.lt_of_le_of_lt (Nat.mod_le _ _) x.toBitVec.isLt)).symm
theorem pk_andN {n : Nat} (h : n < 2 ^ 32) {m : Int32} (k : Nat) (hm : m.toBitVec.toNat = 2 ^ k - 1) : nI n &&& m = nI (n % 2 ^ k) := by
  rw [pk_and _ k hm, pk_tn h]
theorem pk_andE (x : Int32) {m : Int32} (k : Nat) (hm : m.toBitVec.toNat = 2 ^ k - 1) : ∃ j : Nat, j < 2 ^ k ∧ x &&& m = nI j := ⟨_, Nat.mod_lt _ (Nat.two_pow_pos k), pk_and x k hm⟩
theorem pk_andIn (x : Int32) {m : Int32} (k : Nat) (hm : m.toBitVec.toNat = 2 ^ k - 1) (hk : k ≤ 30) : vp_in (x &&& m) (2 ^ k) := by
  obtain ⟨j, hj, e⟩ := pk_andE x k hm
  rw [e]
  exact vp_in_nI hj (Nat.lt_of_le_of_lt (Nat.pow_le_pow_right (by decide) hk) (by decide))
theorem pk_shl (a s : Int32) (k : Nat) (hs : (s.toBitVec.smod 32).toNat = k) : (a <<< s).toBitVec.toNat = a.toBitVec.toNat * 2 ^ k % 2 ^ 32 := by
  show (a.toBitVec <<< (s.toBitVec.smod 32).toNat).toNat = _
  rw [hs, BitVec.toNat_shiftLeft, Nat.shiftLeft_eq]
theorem pk_shlN {n : Nat} (s : Int32) (k : Nat) (hs : (s.toBitVec.smod 32).toNat = k) (h : n * 2 ^ k < 2 ^ 32) : nI n <<< s = nI (n * 2 ^ k) := by
  apply Int32.toBitVec_inj.mp
  apply BitVec.eq_of_toNat_eq
  have hn : n < 2 ^ 32 := Nat.lt_of_le_of_lt (Nat.le_mul_of_pos_right n (Nat.two_pow_pos k)) h
  rw [pk_shl _ _ k hs, pk_tn hn, pk_tn h, Nat.mod_eq_of_lt h]
theorem pk_shr (a s : Int32) (k : Nat) (hs : (s.toBitVec.smod 32).toNat = k) : (a >>> s).toInt = a.toInt >>> k := by
  show (a.toBitVec.sshiftRight (s.toBitVec.smod 32).toNat).toInt = _
  rw [hs, BitVec.toInt_sshiftRight]
  rfl
theorem pk_shrN {n : Nat} (h : n < 2 ^ 31) (s : Int32) (k : Nat) (hs : (s.toBitVec.smod 32).toNat = k) : nI n >>> s = nI (n / 2 ^ k) := by
  apply Int32.toInt_inj.mp
  have h2 : n / 2 ^ k ≤ n := Nat.div_le_self _ _
  rw [pk_shr _ _ k hs, nI_toInt h, nI_toInt (by omega), Int.shiftRight_eq_div_pow]
  rfl
theorem pk_ushr (x s : Int32) (k : Nat) (hs : ((s.toUInt32 &&& Int32.toUInt32 31).toBitVec % 32).toNat = k) : (x.toUInt32 >>> (s.toUInt32 &&& Int32.toUInt32 31)).toInt32.toBitVec.toNat = x.toBitVec.toNat / 2 ^ k := by
  have e : (x.toUInt32 >>> (s.toUInt32 &&& Int32.toUInt32 31)).toInt32.toBitVec = x.toBitVec >>> k := by
    rw [← hs]
    exact UInt32.toBitVec_shiftRight _ _
  rw [e, BitVec.toNat_ushiftRight, Nat.shiftRight_eq_div_pow]
theorem pk_ushrN {n : Nat} (hn : n < 2 ^ 32) (s : Int32) (k : Nat) (hs : ((s.toUInt32 &&& Int32.toUInt32 31).toBitVec % 32).toNat = k) : ((nI n).toUInt32 >>> (s.toUInt32 &&& Int32.toUInt32 31)).toInt32 = nI (n / 2 ^ k) := by
  apply Int32.toBitVec_inj.mp
  apply BitVec.eq_of_toNat_eq
  rw [pk_ushr _ s k hs, pk_tn hn, pk_tn (Nat.lt_of_le_of_lt (Nat.div_le_self _ _) hn)]
theorem pk_nb (z : Int32) : narrow .byte (.int z.toInt8.toInt32) = .int z.toInt8.toInt32 := congrArg Value.int (by simp)
theorem pk_ns (z : Int32) : narrow .short (.int z.toInt16.toInt32) = .int z.toInt16.toInt32 := congrArg Value.int (by simp)
theorem pk_fb (r : Int32) : fits .byte (.int r.toInt8.toInt32) = true := by
  have ⟨a, b⟩ := lg_i2b_range r
  have h1 : (-128 : Int32).toInt = -128 := by decide
  have h2 : (127 : Int32).toInt = 127 := by decide
  simp only [fits, Bool.and_eq_true, decide_eq_true_eq, Int32.le_iff_toInt_le, h1, h2]
  omega
theorem pk_fs (r : Int32) : fits .short (.int r.toInt16.toInt32) = true := by
  have ⟨a, b⟩ := lg_i2s_range r
  have h1 : (-32768 : Int32).toInt = -32768 := by decide
  have h2 : (32767 : Int32).toInt = 32767 := by decide
  simp only [fits, Bool.and_eq_true, decide_eq_true_eq, Int32.le_iff_toInt_le, h1, h2]
  omega
theorem pk_charN {q : Nat} (hq : q < 65536) : narrow .char (.int (nI q)) = .int (nI q) ∧ fits .char (.int (nI q)) = true := by
  constructor
  · have e : (nI q).toUInt32.toUInt16.toUInt32.toInt32 = nI q := by
      apply Int32.toBitVec_inj.mp
      apply BitVec.eq_of_toNat_eq
      show (nI q).toUInt32.toUInt16.toUInt32.toNat = q % 2 ^ 32
      rw [UInt16.toNat_toUInt32, UInt32.toNat_toUInt16, show (nI q).toUInt32.toNat = q % 2 ^ 32 from rfl]
      omega
    exact congrArg Value.int e
  · have a : (0 : Int32) ≤ nI q := nI_pos' (by omega)
    have b : nI q ≤ 65535 := nI_le (b := 65535) (by omega) (by decide)
    show (decide ((0 : Int32) ≤ nI q) && decide (nI q ≤ 65535)) = true
    rw [decide_eq_true a, decide_eq_true b]
    rfl
theorem pk_char (x : Int32) : (x.toUInt32 % 65536).toInt32 = nI (x.toBitVec.toNat % 65536) := by
  apply Int32.toBitVec_inj.mp
  apply BitVec.eq_of_toNat_eq
  rw [pk_tn (by omega)]
  show (x.toUInt32 % 65536).toNat = _
  rw [UInt32.toNat_mod]
  rfl
theorem pk_nc (x : Int32) : narrow .char (.int (x.toUInt32 % 65536).toInt32) = .int (x.toUInt32 % 65536).toInt32 := by
  rw [pk_char]
  exact (pk_charN (Nat.mod_lt _ (by decide))).1
theorem pk_fc (x : Int32) : fits .char (.int (x.toUInt32 % 65536).toInt32) = true := by
  rw [pk_char]
  exact (pk_charN (Nat.mod_lt _ (by decide))).2
theorem pk_vb (z : Int32) : vp_nar .byte z.toInt8.toInt32 = z.toInt8.toInt32 := by rw [vp_nar_byte]; simp
theorem pk_vs (z : Int32) : vp_nar .short z.toInt16.toInt32 = z.toInt16.toInt32 := by rw [vp_nar_short]; simp
theorem pk_vc (z : Int32) : vp_nar .char (z.toUInt32 % 65536).toInt32 = (z.toUInt32 % 65536).toInt32 := Value.int.inj (pk_nc z)
theorem pk_lT {n : Nat} (h : n < 2 ^ 63) : (lN n).toInt = (n : Int) := lg_ofNat_toInt h
theorem pk_lLT {a b : Nat} (ha : a < 2 ^ 63) (hb : b < 2 ^ 63) : lN a < lN b ↔ a < b := by
  rw [Int64.lt_iff_toInt_lt, pk_lT ha, pk_lT hb]; omega
theorem pk_lLE {a b : Nat} (ha : a < 2 ^ 63) (hb : b < 2 ^ 63) : lN a ≤ lN b ↔ a ≤ b := by
  rw [Int64.le_iff_toInt_le, pk_lT ha, pk_lT hb]; omega
theorem pk_lEQ {a b : Nat} (ha : a < 2 ^ 63) (hb : b < 2 ^ 63) : lN a = lN b ↔ a = b := by
  rw [← Int64.toInt_inj, pk_lT ha, pk_lT hb]; omega
theorem pk_lOf {x : Int64} (h : ¬ x < 0) : ∃ k : Nat, k < 2 ^ 63 ∧ x = lN k := by
  rw [Int64.lt_iff_toInt_lt] at h
  have h0 : (0 : Int64).toInt = 0 := by decide
  have hx := Int64.toInt_lt x
  refine ⟨x.toInt.toNat, by omega, Int64.toInt_inj.mp ?_⟩
  rw [pk_lT (by omega)]
  omega
theorem pk_lDiv {a b : Nat} (ha : a < 2 ^ 63) (h0 : 0 < b) (hb : b < 2 ^ 63) : lN a / lN b = lN (a / b) := by
  apply Int64.toInt_inj.mp
  rw [lg_ldiv_nonneg (by rw [pk_lT ha]; omega) (by rw [pk_lT hb]; omega), pk_lT ha, pk_lT hb, pk_lT (Nat.lt_of_le_of_lt (Nat.div_le_self a b) ha)]
  rfl
theorem pk_lRem {a b : Nat} (ha : a < 2 ^ 63) (h0 : 0 < b) (hb : b < 2 ^ 63) : lN a - lN a / lN b * lN b = lN (a % b) := by
  rw [pk_lDiv ha h0 hb, lN_mul, lN_sub (Nat.div_mul_le_self a b)]
  exact congrArg lN (by have := Nat.div_add_mod' a b; omega)
theorem pk_loop {σ : Type} (W : Nat → Nat → σ → Prop) (I : Nat → σ → Prop) (e i0 : Nat) (s : σ) (hi : i0 ≤ e) (h0 : I i0 s) (hx : ∀ n s, I e s → W (n + 1) e s)
    (hs : ∀ n i s, i < e → I i s → (∀ s', I (i + 1) s' → W n (i + 1) s') → W (n + 1) i s) : ∃ n, W n i0 s :=
  ⟨e + 1, loop_i W I e hx hs (e + 1) i0 s hi (by omega) h0⟩
theorem pk_loopD {σ : Type} (W : Nat → Nat → σ → Prop) (I : Nat → σ → Prop) (hx : ∀ n s, I 0 s → W (n + 1) 0 s)
    (hs : ∀ n i s, I (i + 1) s → (∀ s', I i s' → W n i s') → W (n + 1) (i + 1) s) : ∀ (e : Nat) (s : σ), I e s → W (e + 1) e s := by
  intro e
  induction e with
  | zero => exact fun s h => hx 0 s h
  | succ e ih => exact fun s h => hs (e + 1) e s h (fun s' h' => ih s' h')
theorem lp1 {A1 : Type} (W : Nat → A1 → Prop) (I : A1 → Prop) (μ : A1 → Nat) (hs : ∀ (n : Nat) (a1 : A1), I a1 → (∀ (b1 : A1), I b1 → μ b1 < μ a1 → W n b1) → W (n + 1) a1) (a1 : A1) (h : I a1) : ∃ n, W n a1 :=
  loop_m (σ := A1) (fun n s => W n s) (fun s => I s) (fun s => μ s) (fun n s hI hk => hs n s hI (fun b1 h9 hm => hk b1 h9 hm)) a1 h
theorem lp2 {A1 A2 : Type} (W : Nat → A1 → A2 → Prop) (I : A1 → A2 → Prop) (μ : A1 → A2 → Nat) (hs : ∀ (n : Nat) (a1 : A1) (a2 : A2), I a1 a2 → (∀ (b1 : A1) (b2 : A2), I b1 b2 → μ b1 b2 < μ a1 a2 → W n b1 b2) → W (n + 1) a1 a2) (a1 : A1) (a2 : A2) (h : I a1 a2) : ∃ n, W n a1 a2 :=
  loop_m (σ := A1 × A2) (fun n s => W n s.1 s.2) (fun s => I s.1 s.2) (fun s => μ s.1 s.2) (fun n s hI hk => hs n s.1 s.2 hI (fun b1 b2 h9 hm => hk (b1, b2) h9 hm)) (a1, a2) h
theorem lp3 {A1 A2 A3 : Type} (W : Nat → A1 → A2 → A3 → Prop) (I : A1 → A2 → A3 → Prop) (μ : A1 → A2 → A3 → Nat) (hs : ∀ (n : Nat) (a1 : A1) (a2 : A2) (a3 : A3), I a1 a2 a3 → (∀ (b1 : A1) (b2 : A2) (b3 : A3), I b1 b2 b3 → μ b1 b2 b3 < μ a1 a2 a3 → W n b1 b2 b3) → W (n + 1) a1 a2 a3) (a1 : A1) (a2 : A2) (a3 : A3) (h : I a1 a2 a3) : ∃ n, W n a1 a2 a3 :=
  loop_m (σ := A1 × A2 × A3) (fun n s => W n s.1 s.2.1 s.2.2) (fun s => I s.1 s.2.1 s.2.2) (fun s => μ s.1 s.2.1 s.2.2) (fun n s hI hk => hs n s.1 s.2.1 s.2.2 hI (fun b1 b2 b3 h9 hm => hk (b1, b2, b3) h9 hm)) (a1, a2, a3) h
theorem lp4 {A1 A2 A3 A4 : Type} (W : Nat → A1 → A2 → A3 → A4 → Prop) (I : A1 → A2 → A3 → A4 → Prop) (μ : A1 → A2 → A3 → A4 → Nat) (hs : ∀ (n : Nat) (a1 : A1) (a2 : A2) (a3 : A3) (a4 : A4), I a1 a2 a3 a4 → (∀ (b1 : A1) (b2 : A2) (b3 : A3) (b4 : A4), I b1 b2 b3 b4 → μ b1 b2 b3 b4 < μ a1 a2 a3 a4 → W n b1 b2 b3 b4) → W (n + 1) a1 a2 a3 a4) (a1 : A1) (a2 : A2) (a3 : A3) (a4 : A4) (h : I a1 a2 a3 a4) : ∃ n, W n a1 a2 a3 a4 :=
  loop_m (σ := A1 × A2 × A3 × A4) (fun n s => W n s.1 s.2.1 s.2.2.1 s.2.2.2) (fun s => I s.1 s.2.1 s.2.2.1 s.2.2.2) (fun s => μ s.1 s.2.1 s.2.2.1 s.2.2.2) (fun n s hI hk => hs n s.1 s.2.1 s.2.2.1 s.2.2.2 hI (fun b1 b2 b3 b4 h9 hm => hk (b1, b2, b3, b4) h9 hm)) (a1, a2, a3, a4) h
theorem lp5 {A1 A2 A3 A4 A5 : Type} (W : Nat → A1 → A2 → A3 → A4 → A5 → Prop) (I : A1 → A2 → A3 → A4 → A5 → Prop) (μ : A1 → A2 → A3 → A4 → A5 → Nat) (hs : ∀ (n : Nat) (a1 : A1) (a2 : A2) (a3 : A3) (a4 : A4) (a5 : A5), I a1 a2 a3 a4 a5 → (∀ (b1 : A1) (b2 : A2) (b3 : A3) (b4 : A4) (b5 : A5), I b1 b2 b3 b4 b5 → μ b1 b2 b3 b4 b5 < μ a1 a2 a3 a4 a5 → W n b1 b2 b3 b4 b5) → W (n + 1) a1 a2 a3 a4 a5) (a1 : A1) (a2 : A2) (a3 : A3) (a4 : A4) (a5 : A5) (h : I a1 a2 a3 a4 a5) : ∃ n, W n a1 a2 a3 a4 a5 :=
  loop_m (σ := A1 × A2 × A3 × A4 × A5) (fun n s => W n s.1 s.2.1 s.2.2.1 s.2.2.2.1 s.2.2.2.2) (fun s => I s.1 s.2.1 s.2.2.1 s.2.2.2.1 s.2.2.2.2) (fun s => μ s.1 s.2.1 s.2.2.1 s.2.2.2.1 s.2.2.2.2) (fun n s hI hk => hs n s.1 s.2.1 s.2.2.1 s.2.2.2.1 s.2.2.2.2 hI (fun b1 b2 b3 b4 b5 h9 hm => hk (b1, b2, b3, b4, b5) h9 hm)) (a1, a2, a3, a4, a5) h
theorem lp6 {A1 A2 A3 A4 A5 A6 : Type} (W : Nat → A1 → A2 → A3 → A4 → A5 → A6 → Prop) (I : A1 → A2 → A3 → A4 → A5 → A6 → Prop) (μ : A1 → A2 → A3 → A4 → A5 → A6 → Nat) (hs : ∀ (n : Nat) (a1 : A1) (a2 : A2) (a3 : A3) (a4 : A4) (a5 : A5) (a6 : A6), I a1 a2 a3 a4 a5 a6 → (∀ (b1 : A1) (b2 : A2) (b3 : A3) (b4 : A4) (b5 : A5) (b6 : A6), I b1 b2 b3 b4 b5 b6 → μ b1 b2 b3 b4 b5 b6 < μ a1 a2 a3 a4 a5 a6 → W n b1 b2 b3 b4 b5 b6) → W (n + 1) a1 a2 a3 a4 a5 a6) (a1 : A1) (a2 : A2) (a3 : A3) (a4 : A4) (a5 : A5) (a6 : A6) (h : I a1 a2 a3 a4 a5 a6) : ∃ n, W n a1 a2 a3 a4 a5 a6 :=
  loop_m (σ := A1 × A2 × A3 × A4 × A5 × A6) (fun n s => W n s.1 s.2.1 s.2.2.1 s.2.2.2.1 s.2.2.2.2.1 s.2.2.2.2.2) (fun s => I s.1 s.2.1 s.2.2.1 s.2.2.2.1 s.2.2.2.2.1 s.2.2.2.2.2) (fun s => μ s.1 s.2.1 s.2.2.1 s.2.2.2.1 s.2.2.2.2.1 s.2.2.2.2.2) (fun n s hI hk => hs n s.1 s.2.1 s.2.2.1 s.2.2.2.1 s.2.2.2.2.1 s.2.2.2.2.2 hI (fun b1 b2 b3 b4 b5 b6 h9 hm => hk (b1, b2, b3, b4, b5, b6) h9 hm)) (a1, a2, a3, a4, a5, a6) h
theorem lp7 {A1 A2 A3 A4 A5 A6 A7 : Type} (W : Nat → A1 → A2 → A3 → A4 → A5 → A6 → A7 → Prop) (I : A1 → A2 → A3 → A4 → A5 → A6 → A7 → Prop) (μ : A1 → A2 → A3 → A4 → A5 → A6 → A7 → Nat) (hs : ∀ (n : Nat) (a1 : A1) (a2 : A2) (a3 : A3) (a4 : A4) (a5 : A5) (a6 : A6) (a7 : A7), I a1 a2 a3 a4 a5 a6 a7 → (∀ (b1 : A1) (b2 : A2) (b3 : A3) (b4 : A4) (b5 : A5) (b6 : A6) (b7 : A7), I b1 b2 b3 b4 b5 b6 b7 → μ b1 b2 b3 b4 b5 b6 b7 < μ a1 a2 a3 a4 a5 a6 a7 → W n b1 b2 b3 b4 b5 b6 b7) → W (n + 1) a1 a2 a3 a4 a5 a6 a7) (a1 : A1) (a2 : A2) (a3 : A3) (a4 : A4) (a5 : A5) (a6 : A6) (a7 : A7) (h : I a1 a2 a3 a4 a5 a6 a7) : ∃ n, W n a1 a2 a3 a4 a5 a6 a7 :=
  loop_m (σ := A1 × A2 × A3 × A4 × A5 × A6 × A7) (fun n s => W n s.1 s.2.1 s.2.2.1 s.2.2.2.1 s.2.2.2.2.1 s.2.2.2.2.2.1 s.2.2.2.2.2.2) (fun s => I s.1 s.2.1 s.2.2.1 s.2.2.2.1 s.2.2.2.2.1 s.2.2.2.2.2.1 s.2.2.2.2.2.2) (fun s => μ s.1 s.2.1 s.2.2.1 s.2.2.2.1 s.2.2.2.2.1 s.2.2.2.2.2.1 s.2.2.2.2.2.2) (fun n s hI hk => hs n s.1 s.2.1 s.2.2.1 s.2.2.2.1 s.2.2.2.2.1 s.2.2.2.2.2.1 s.2.2.2.2.2.2 hI (fun b1 b2 b3 b4 b5 b6 b7 h9 hm => hk (b1, b2, b3, b4, b5, b6, b7) h9 hm)) (a1, a2, a3, a4, a5, a6, a7) h
theorem lp8 {A1 A2 A3 A4 A5 A6 A7 A8 : Type} (W : Nat → A1 → A2 → A3 → A4 → A5 → A6 → A7 → A8 → Prop) (I : A1 → A2 → A3 → A4 → A5 → A6 → A7 → A8 → Prop) (μ : A1 → A2 → A3 → A4 → A5 → A6 → A7 → A8 → Nat) (hs : ∀ (n : Nat) (a1 : A1) (a2 : A2) (a3 : A3) (a4 : A4) (a5 : A5) (a6 : A6) (a7 : A7) (a8 : A8), I a1 a2 a3 a4 a5 a6 a7 a8 → (∀ (b1 : A1) (b2 : A2) (b3 : A3) (b4 : A4) (b5 : A5) (b6 : A6) (b7 : A7) (b8 : A8), I b1 b2 b3 b4 b5 b6 b7 b8 → μ b1 b2 b3 b4 b5 b6 b7 b8 < μ a1 a2 a3 a4 a5 a6 a7 a8 → W n b1 b2 b3 b4 b5 b6 b7 b8) → W (n + 1) a1 a2 a3 a4 a5 a6 a7 a8) (a1 : A1) (a2 : A2) (a3 : A3) (a4 : A4) (a5 : A5) (a6 : A6) (a7 : A7) (a8 : A8) (h : I a1 a2 a3 a4 a5 a6 a7 a8) : ∃ n, W n a1 a2 a3 a4 a5 a6 a7 a8 :=
  loop_m (σ := A1 × A2 × A3 × A4 × A5 × A6 × A7 × A8) (fun n s => W n s.1 s.2.1 s.2.2.1 s.2.2.2.1 s.2.2.2.2.1 s.2.2.2.2.2.1 s.2.2.2.2.2.2.1 s.2.2.2.2.2.2.2) (fun s => I s.1 s.2.1 s.2.2.1 s.2.2.2.1 s.2.2.2.2.1 s.2.2.2.2.2.1 s.2.2.2.2.2.2.1 s.2.2.2.2.2.2.2) (fun s => μ s.1 s.2.1 s.2.2.1 s.2.2.2.1 s.2.2.2.2.1 s.2.2.2.2.2.1 s.2.2.2.2.2.2.1 s.2.2.2.2.2.2.2) (fun n s hI hk => hs n s.1 s.2.1 s.2.2.1 s.2.2.2.1 s.2.2.2.2.1 s.2.2.2.2.2.1 s.2.2.2.2.2.2.1 s.2.2.2.2.2.2.2 hI (fun b1 b2 b3 b4 b5 b6 b7 b8 h9 hm => hk (b1, b2, b3, b4, b5, b6, b7, b8) h9 hm)) (a1, a2, a3, a4, a5, a6, a7, a8) h
theorem lp9 {A1 A2 A3 A4 A5 A6 A7 A8 A9 : Type} (W : Nat → A1 → A2 → A3 → A4 → A5 → A6 → A7 → A8 → A9 → Prop) (I : A1 → A2 → A3 → A4 → A5 → A6 → A7 → A8 → A9 → Prop) (μ : A1 → A2 → A3 → A4 → A5 → A6 → A7 → A8 → A9 → Nat) (hs : ∀ (n : Nat) (a1 : A1) (a2 : A2) (a3 : A3) (a4 : A4) (a5 : A5) (a6 : A6) (a7 : A7) (a8 : A8) (a9 : A9), I a1 a2 a3 a4 a5 a6 a7 a8 a9 → (∀ (b1 : A1) (b2 : A2) (b3 : A3) (b4 : A4) (b5 : A5) (b6 : A6) (b7 : A7) (b8 : A8) (b9 : A9), I b1 b2 b3 b4 b5 b6 b7 b8 b9 → μ b1 b2 b3 b4 b5 b6 b7 b8 b9 < μ a1 a2 a3 a4 a5 a6 a7 a8 a9 → W n b1 b2 b3 b4 b5 b6 b7 b8 b9) → W (n + 1) a1 a2 a3 a4 a5 a6 a7 a8 a9) (a1 : A1) (a2 : A2) (a3 : A3) (a4 : A4) (a5 : A5) (a6 : A6) (a7 : A7) (a8 : A8) (a9 : A9) (h : I a1 a2 a3 a4 a5 a6 a7 a8 a9) : ∃ n, W n a1 a2 a3 a4 a5 a6 a7 a8 a9 :=
  loop_m (σ := A1 × A2 × A3 × A4 × A5 × A6 × A7 × A8 × A9) (fun n s => W n s.1 s.2.1 s.2.2.1 s.2.2.2.1 s.2.2.2.2.1 s.2.2.2.2.2.1 s.2.2.2.2.2.2.1 s.2.2.2.2.2.2.2.1 s.2.2.2.2.2.2.2.2) (fun s => I s.1 s.2.1 s.2.2.1 s.2.2.2.1 s.2.2.2.2.1 s.2.2.2.2.2.1 s.2.2.2.2.2.2.1 s.2.2.2.2.2.2.2.1 s.2.2.2.2.2.2.2.2) (fun s => μ s.1 s.2.1 s.2.2.1 s.2.2.2.1 s.2.2.2.2.1 s.2.2.2.2.2.1 s.2.2.2.2.2.2.1 s.2.2.2.2.2.2.2.1 s.2.2.2.2.2.2.2.2) (fun n s hI hk => hs n s.1 s.2.1 s.2.2.1 s.2.2.2.1 s.2.2.2.2.1 s.2.2.2.2.2.1 s.2.2.2.2.2.2.1 s.2.2.2.2.2.2.2.1 s.2.2.2.2.2.2.2.2 hI (fun b1 b2 b3 b4 b5 b6 b7 b8 b9 h9 hm => hk (b1, b2, b3, b4, b5, b6, b7, b8, b9) h9 hm)) (a1, a2, a3, a4, a5, a6, a7, a8, a9) h
theorem lp10 {A1 A2 A3 A4 A5 A6 A7 A8 A9 A10 : Type} (W : Nat → A1 → A2 → A3 → A4 → A5 → A6 → A7 → A8 → A9 → A10 → Prop) (I : A1 → A2 → A3 → A4 → A5 → A6 → A7 → A8 → A9 → A10 → Prop) (μ : A1 → A2 → A3 → A4 → A5 → A6 → A7 → A8 → A9 → A10 → Nat) (hs : ∀ (n : Nat) (a1 : A1) (a2 : A2) (a3 : A3) (a4 : A4) (a5 : A5) (a6 : A6) (a7 : A7) (a8 : A8) (a9 : A9) (a10 : A10), I a1 a2 a3 a4 a5 a6 a7 a8 a9 a10 → (∀ (b1 : A1) (b2 : A2) (b3 : A3) (b4 : A4) (b5 : A5) (b6 : A6) (b7 : A7) (b8 : A8) (b9 : A9) (b10 : A10), I b1 b2 b3 b4 b5 b6 b7 b8 b9 b10 → μ b1 b2 b3 b4 b5 b6 b7 b8 b9 b10 < μ a1 a2 a3 a4 a5 a6 a7 a8 a9 a10 → W n b1 b2 b3 b4 b5 b6 b7 b8 b9 b10) → W (n + 1) a1 a2 a3 a4 a5 a6 a7 a8 a9 a10) (a1 : A1) (a2 : A2) (a3 : A3) (a4 : A4) (a5 : A5) (a6 : A6) (a7 : A7) (a8 : A8) (a9 : A9) (a10 : A10) (h : I a1 a2 a3 a4 a5 a6 a7 a8 a9 a10) : ∃ n, W n a1 a2 a3 a4 a5 a6 a7 a8 a9 a10 :=
  loop_m (σ := A1 × A2 × A3 × A4 × A5 × A6 × A7 × A8 × A9 × A10) (fun n s => W n s.1 s.2.1 s.2.2.1 s.2.2.2.1 s.2.2.2.2.1 s.2.2.2.2.2.1 s.2.2.2.2.2.2.1 s.2.2.2.2.2.2.2.1 s.2.2.2.2.2.2.2.2.1 s.2.2.2.2.2.2.2.2.2) (fun s => I s.1 s.2.1 s.2.2.1 s.2.2.2.1 s.2.2.2.2.1 s.2.2.2.2.2.1 s.2.2.2.2.2.2.1 s.2.2.2.2.2.2.2.1 s.2.2.2.2.2.2.2.2.1 s.2.2.2.2.2.2.2.2.2) (fun s => μ s.1 s.2.1 s.2.2.1 s.2.2.2.1 s.2.2.2.2.1 s.2.2.2.2.2.1 s.2.2.2.2.2.2.1 s.2.2.2.2.2.2.2.1 s.2.2.2.2.2.2.2.2.1 s.2.2.2.2.2.2.2.2.2) (fun n s hI hk => hs n s.1 s.2.1 s.2.2.1 s.2.2.2.1 s.2.2.2.2.1 s.2.2.2.2.2.1 s.2.2.2.2.2.2.1 s.2.2.2.2.2.2.2.1 s.2.2.2.2.2.2.2.2.1 s.2.2.2.2.2.2.2.2.2 hI (fun b1 b2 b3 b4 b5 b6 b7 b8 b9 b10 h9 hm => hk (b1, b2, b3, b4, b5, b6, b7, b8, b9, b10) h9 hm)) (a1, a2, a3, a4, a5, a6, a7, a8, a9, a10) h
theorem lp11 {A1 A2 A3 A4 A5 A6 A7 A8 A9 A10 A11 : Type} (W : Nat → A1 → A2 → A3 → A4 → A5 → A6 → A7 → A8 → A9 → A10 → A11 → Prop) (I : A1 → A2 → A3 → A4 → A5 → A6 → A7 → A8 → A9 → A10 → A11 → Prop) (μ : A1 → A2 → A3 → A4 → A5 → A6 → A7 → A8 → A9 → A10 → A11 → Nat) (hs : ∀ (n : Nat) (a1 : A1) (a2 : A2) (a3 : A3) (a4 : A4) (a5 : A5) (a6 : A6) (a7 : A7) (a8 : A8) (a9 : A9) (a10 : A10) (a11 : A11), I a1 a2 a3 a4 a5 a6 a7 a8 a9 a10 a11 → (∀ (b1 : A1) (b2 : A2) (b3 : A3) (b4 : A4) (b5 : A5) (b6 : A6) (b7 : A7) (b8 : A8) (b9 : A9) (b10 : A10) (b11 : A11), I b1 b2 b3 b4 b5 b6 b7 b8 b9 b10 b11 → μ b1 b2 b3 b4 b5 b6 b7 b8 b9 b10 b11 < μ a1 a2 a3 a4 a5 a6 a7 a8 a9 a10 a11 → W n b1 b2 b3 b4 b5 b6 b7 b8 b9 b10 b11) → W (n + 1) a1 a2 a3 a4 a5 a6 a7 a8 a9 a10 a11) (a1 : A1) (a2 : A2) (a3 : A3) (a4 : A4) (a5 : A5) (a6 : A6) (a7 : A7) (a8 : A8) (a9 : A9) (a10 : A10) (a11 : A11) (h : I a1 a2 a3 a4 a5 a6 a7 a8 a9 a10 a11) : ∃ n, W n a1 a2 a3 a4 a5 a6 a7 a8 a9 a10 a11 :=
  loop_m (σ := A1 × A2 × A3 × A4 × A5 × A6 × A7 × A8 × A9 × A10 × A11) (fun n s => W n s.1 s.2.1 s.2.2.1 s.2.2.2.1 s.2.2.2.2.1 s.2.2.2.2.2.1 s.2.2.2.2.2.2.1 s.2.2.2.2.2.2.2.1 s.2.2.2.2.2.2.2.2.1 s.2.2.2.2.2.2.2.2.2.1 s.2.2.2.2.2.2.2.2.2.2) (fun s => I s.1 s.2.1 s.2.2.1 s.2.2.2.1 s.2.2.2.2.1 s.2.2.2.2.2.1 s.2.2.2.2.2.2.1 s.2.2.2.2.2.2.2.1 s.2.2.2.2.2.2.2.2.1 s.2.2.2.2.2.2.2.2.2.1 s.2.2.2.2.2.2.2.2.2.2) (fun s => μ s.1 s.2.1 s.2.2.1 s.2.2.2.1 s.2.2.2.2.1 s.2.2.2.2.2.1 s.2.2.2.2.2.2.1 s.2.2.2.2.2.2.2.1 s.2.2.2.2.2.2.2.2.1 s.2.2.2.2.2.2.2.2.2.1 s.2.2.2.2.2.2.2.2.2.2) (fun n s hI hk => hs n s.1 s.2.1 s.2.2.1 s.2.2.2.1 s.2.2.2.2.1 s.2.2.2.2.2.1 s.2.2.2.2.2.2.1 s.2.2.2.2.2.2.2.1 s.2.2.2.2.2.2.2.2.1 s.2.2.2.2.2.2.2.2.2.1 s.2.2.2.2.2.2.2.2.2.2 hI (fun b1 b2 b3 b4 b5 b6 b7 b8 b9 b10 b11 h9 hm => hk (b1, b2, b3, b4, b5, b6, b7, b8, b9, b10, b11) h9 hm)) (a1, a2, a3, a4, a5, a6, a7, a8, a9, a10, a11) h
theorem lp12 {A1 A2 A3 A4 A5 A6 A7 A8 A9 A10 A11 A12 : Type} (W : Nat → A1 → A2 → A3 → A4 → A5 → A6 → A7 → A8 → A9 → A10 → A11 → A12 → Prop) (I : A1 → A2 → A3 → A4 → A5 → A6 → A7 → A8 → A9 → A10 → A11 → A12 → Prop) (μ : A1 → A2 → A3 → A4 → A5 → A6 → A7 → A8 → A9 → A10 → A11 → A12 → Nat) (hs : ∀ (n : Nat) (a1 : A1) (a2 : A2) (a3 : A3) (a4 : A4) (a5 : A5) (a6 : A6) (a7 : A7) (a8 : A8) (a9 : A9) (a10 : A10) (a11 : A11) (a12 : A12), I a1 a2 a3 a4 a5 a6 a7 a8 a9 a10 a11 a12 → (∀ (b1 : A1) (b2 : A2) (b3 : A3) (b4 : A4) (b5 : A5) (b6 : A6) (b7 : A7) (b8 : A8) (b9 : A9) (b10 : A10) (b11 : A11) (b12 : A12), I b1 b2 b3 b4 b5 b6 b7 b8 b9 b10 b11 b12 → μ b1 b2 b3 b4 b5 b6 b7 b8 b9 b10 b11 b12 < μ a1 a2 a3 a4 a5 a6 a7 a8 a9 a10 a11 a12 → W n b1 b2 b3 b4 b5 b6 b7 b8 b9 b10 b11 b12) → W (n + 1) a1 a2 a3 a4 a5 a6 a7 a8 a9 a10 a11 a12) (a1 : A1) (a2 : A2) (a3 : A3) (a4 : A4) (a5 : A5) (a6 : A6) (a7 : A7) (a8 : A8) (a9 : A9) (a10 : A10) (a11 : A11) (a12 : A12) (h : I a1 a2 a3 a4 a5 a6 a7 a8 a9 a10 a11 a12) : ∃ n, W n a1 a2 a3 a4 a5 a6 a7 a8 a9 a10 a11 a12 :=
  loop_m (σ := A1 × A2 × A3 × A4 × A5 × A6 × A7 × A8 × A9 × A10 × A11 × A12) (fun n s => W n s.1 s.2.1 s.2.2.1 s.2.2.2.1 s.2.2.2.2.1 s.2.2.2.2.2.1 s.2.2.2.2.2.2.1 s.2.2.2.2.2.2.2.1 s.2.2.2.2.2.2.2.2.1 s.2.2.2.2.2.2.2.2.2.1 s.2.2.2.2.2.2.2.2.2.2.1 s.2.2.2.2.2.2.2.2.2.2.2) (fun s => I s.1 s.2.1 s.2.2.1 s.2.2.2.1 s.2.2.2.2.1 s.2.2.2.2.2.1 s.2.2.2.2.2.2.1 s.2.2.2.2.2.2.2.1 s.2.2.2.2.2.2.2.2.1 s.2.2.2.2.2.2.2.2.2.1 s.2.2.2.2.2.2.2.2.2.2.1 s.2.2.2.2.2.2.2.2.2.2.2) (fun s => μ s.1 s.2.1 s.2.2.1 s.2.2.2.1 s.2.2.2.2.1 s.2.2.2.2.2.1 s.2.2.2.2.2.2.1 s.2.2.2.2.2.2.2.1 s.2.2.2.2.2.2.2.2.1 s.2.2.2.2.2.2.2.2.2.1 s.2.2.2.2.2.2.2.2.2.2.1 s.2.2.2.2.2.2.2.2.2.2.2) (fun n s hI hk => hs n s.1 s.2.1 s.2.2.1 s.2.2.2.1 s.2.2.2.2.1 s.2.2.2.2.2.1 s.2.2.2.2.2.2.1 s.2.2.2.2.2.2.2.1 s.2.2.2.2.2.2.2.2.1 s.2.2.2.2.2.2.2.2.2.1 s.2.2.2.2.2.2.2.2.2.2.1 s.2.2.2.2.2.2.2.2.2.2.2 hI (fun b1 b2 b3 b4 b5 b6 b7 b8 b9 b10 b11 b12 h9 hm => hk (b1, b2, b3, b4, b5, b6, b7, b8, b9, b10, b11, b12) h9 hm)) (a1, a2, a3, a4, a5, a6, a7, a8, a9, a10, a11, a12) h
theorem lp13 {A1 A2 A3 A4 A5 A6 A7 A8 A9 A10 A11 A12 A13 : Type} (W : Nat → A1 → A2 → A3 → A4 → A5 → A6 → A7 → A8 → A9 → A10 → A11 → A12 → A13 → Prop) (I : A1 → A2 → A3 → A4 → A5 → A6 → A7 → A8 → A9 → A10 → A11 → A12 → A13 → Prop) (μ : A1 → A2 → A3 → A4 → A5 → A6 → A7 → A8 → A9 → A10 → A11 → A12 → A13 → Nat) (hs : ∀ (n : Nat) (a1 : A1) (a2 : A2) (a3 : A3) (a4 : A4) (a5 : A5) (a6 : A6) (a7 : A7) (a8 : A8) (a9 : A9) (a10 : A10) (a11 : A11) (a12 : A12) (a13 : A13), I a1 a2 a3 a4 a5 a6 a7 a8 a9 a10 a11 a12 a13 → (∀ (b1 : A1) (b2 : A2) (b3 : A3) (b4 : A4) (b5 : A5) (b6 : A6) (b7 : A7) (b8 : A8) (b9 : A9) (b10 : A10) (b11 : A11) (b12 : A12) (b13 : A13), I b1 b2 b3 b4 b5 b6 b7 b8 b9 b10 b11 b12 b13 → μ b1 b2 b3 b4 b5 b6 b7 b8 b9 b10 b11 b12 b13 < μ a1 a2 a3 a4 a5 a6 a7 a8 a9 a10 a11 a12 a13 → W n b1 b2 b3 b4 b5 b6 b7 b8 b9 b10 b11 b12 b13) → W (n + 1) a1 a2 a3 a4 a5 a6 a7 a8 a9 a10 a11 a12 a13) (a1 : A1) (a2 : A2) (a3 : A3) (a4 : A4) (a5 : A5) (a6 : A6) (a7 : A7) (a8 : A8) (a9 : A9) (a10 : A10) (a11 : A11) (a12 : A12) (a13 : A13) (h : I a1 a2 a3 a4 a5 a6 a7 a8 a9 a10 a11 a12 a13) : ∃ n, W n a1 a2 a3 a4 a5 a6 a7 a8 a9 a10 a11 a12 a13 :=
  loop_m (σ := A1 × A2 × A3 × A4 × A5 × A6 × A7 × A8 × A9 × A10 × A11 × A12 × A13) (fun n s => W n s.1 s.2.1 s.2.2.1 s.2.2.2.1 s.2.2.2.2.1 s.2.2.2.2.2.1 s.2.2.2.2.2.2.1 s.2.2.2.2.2.2.2.1 s.2.2.2.2.2.2.2.2.1 s.2.2.2.2.2.2.2.2.2.1 s.2.2.2.2.2.2.2.2.2.2.1 s.2.2.2.2.2.2.2.2.2.2.2.1 s.2.2.2.2.2.2.2.2.2.2.2.2) (fun s => I s.1 s.2.1 s.2.2.1 s.2.2.2.1 s.2.2.2.2.1 s.2.2.2.2.2.1 s.2.2.2.2.2.2.1 s.2.2.2.2.2.2.2.1 s.2.2.2.2.2.2.2.2.1 s.2.2.2.2.2.2.2.2.2.1 s.2.2.2.2.2.2.2.2.2.2.1 s.2.2.2.2.2.2.2.2.2.2.2.1 s.2.2.2.2.2.2.2.2.2.2.2.2) (fun s => μ s.1 s.2.1 s.2.2.1 s.2.2.2.1 s.2.2.2.2.1 s.2.2.2.2.2.1 s.2.2.2.2.2.2.1 s.2.2.2.2.2.2.2.1 s.2.2.2.2.2.2.2.2.1 s.2.2.2.2.2.2.2.2.2.1 s.2.2.2.2.2.2.2.2.2.2.1 s.2.2.2.2.2.2.2.2.2.2.2.1 s.2.2.2.2.2.2.2.2.2.2.2.2) (fun n s hI hk => hs n s.1 s.2.1 s.2.2.1 s.2.2.2.1 s.2.2.2.2.1 s.2.2.2.2.2.1 s.2.2.2.2.2.2.1 s.2.2.2.2.2.2.2.1 s.2.2.2.2.2.2.2.2.1 s.2.2.2.2.2.2.2.2.2.1 s.2.2.2.2.2.2.2.2.2.2.1 s.2.2.2.2.2.2.2.2.2.2.2.1 s.2.2.2.2.2.2.2.2.2.2.2.2 hI (fun b1 b2 b3 b4 b5 b6 b7 b8 b9 b10 b11 b12 b13 h9 hm => hk (b1, b2, b3, b4, b5, b6, b7, b8, b9, b10, b11, b12, b13) h9 hm)) (a1, a2, a3, a4, a5, a6, a7, a8, a9, a10, a11, a12, a13) h
theorem lp14 {A1 A2 A3 A4 A5 A6 A7 A8 A9 A10 A11 A12 A13 A14 : Type} (W : Nat → A1 → A2 → A3 → A4 → A5 → A6 → A7 → A8 → A9 → A10 → A11 → A12 → A13 → A14 → Prop) (I : A1 → A2 → A3 → A4 → A5 → A6 → A7 → A8 → A9 → A10 → A11 → A12 → A13 → A14 → Prop) (μ : A1 → A2 → A3 → A4 → A5 → A6 → A7 → A8 → A9 → A10 → A11 → A12 → A13 → A14 → Nat) (hs : ∀ (n : Nat) (a1 : A1) (a2 : A2) (a3 : A3) (a4 : A4) (a5 : A5) (a6 : A6) (a7 : A7) (a8 : A8) (a9 : A9) (a10 : A10) (a11 : A11) (a12 : A12) (a13 : A13) (a14 : A14), I a1 a2 a3 a4 a5 a6 a7 a8 a9 a10 a11 a12 a13 a14 → (∀ (b1 : A1) (b2 : A2) (b3 : A3) (b4 : A4) (b5 : A5) (b6 : A6) (b7 : A7) (b8 : A8) (b9 : A9) (b10 : A10) (b11 : A11) (b12 : A12) (b13 : A13) (b14 : A14), I b1 b2 b3 b4 b5 b6 b7 b8 b9 b10 b11 b12 b13 b14 → μ b1 b2 b3 b4 b5 b6 b7 b8 b9 b10 b11 b12 b13 b14 < μ a1 a2 a3 a4 a5 a6 a7 a8 a9 a10 a11 a12 a13 a14 → W n b1 b2 b3 b4 b5 b6 b7 b8 b9 b10 b11 b12 b13 b14) → W (n + 1) a1 a2 a3 a4 a5 a6 a7 a8 a9 a10 a11 a12 a13 a14) (a1 : A1) (a2 : A2) (a3 : A3) (a4 : A4) (a5 : A5) (a6 : A6) (a7 : A7) (a8 : A8) (a9 : A9) (a10 : A10) (a11 : A11) (a12 : A12) (a13 : A13) (a14 : A14) (h : I a1 a2 a3 a4 a5 a6 a7 a8 a9 a10 a11 a12 a13 a14) : ∃ n, W n a1 a2 a3 a4 a5 a6 a7 a8 a9 a10 a11 a12 a13 a14 :=
  loop_m (σ := A1 × A2 × A3 × A4 × A5 × A6 × A7 × A8 × A9 × A10 × A11 × A12 × A13 × A14) (fun n s => W n s.1 s.2.1 s.2.2.1 s.2.2.2.1 s.2.2.2.2.1 s.2.2.2.2.2.1 s.2.2.2.2.2.2.1 s.2.2.2.2.2.2.2.1 s.2.2.2.2.2.2.2.2.1 s.2.2.2.2.2.2.2.2.2.1 s.2.2.2.2.2.2.2.2.2.2.1 s.2.2.2.2.2.2.2.2.2.2.2.1 s.2.2.2.2.2.2.2.2.2.2.2.2.1 s.2.2.2.2.2.2.2.2.2.2.2.2.2) (fun s => I s.1 s.2.1 s.2.2.1 s.2.2.2.1 s.2.2.2.2.1 s.2.2.2.2.2.1 s.2.2.2.2.2.2.1 s.2.2.2.2.2.2.2.1 s.2.2.2.2.2.2.2.2.1 s.2.2.2.2.2.2.2.2.2.1 s.2.2.2.2.2.2.2.2.2.2.1 s.2.2.2.2.2.2.2.2.2.2.2.1 s.2.2.2.2.2.2.2.2.2.2.2.2.1 s.2.2.2.2.2.2.2.2.2.2.2.2.2) (fun s => μ s.1 s.2.1 s.2.2.1 s.2.2.2.1 s.2.2.2.2.1 s.2.2.2.2.2.1 s.2.2.2.2.2.2.1 s.2.2.2.2.2.2.2.1 s.2.2.2.2.2.2.2.2.1 s.2.2.2.2.2.2.2.2.2.1 s.2.2.2.2.2.2.2.2.2.2.1 s.2.2.2.2.2.2.2.2.2.2.2.1 s.2.2.2.2.2.2.2.2.2.2.2.2.1 s.2.2.2.2.2.2.2.2.2.2.2.2.2) (fun n s hI hk => hs n s.1 s.2.1 s.2.2.1 s.2.2.2.1 s.2.2.2.2.1 s.2.2.2.2.2.1 s.2.2.2.2.2.2.1 s.2.2.2.2.2.2.2.1 s.2.2.2.2.2.2.2.2.1 s.2.2.2.2.2.2.2.2.2.1 s.2.2.2.2.2.2.2.2.2.2.1 s.2.2.2.2.2.2.2.2.2.2.2.1 s.2.2.2.2.2.2.2.2.2.2.2.2.1 s.2.2.2.2.2.2.2.2.2.2.2.2.2 hI (fun b1 b2 b3 b4 b5 b6 b7 b8 b9 b10 b11 b12 b13 b14 h9 hm => hk (b1, b2, b3, b4, b5, b6, b7, b8, b9, b10, b11, b12, b13, b14) h9 hm)) (a1, a2, a3, a4, a5, a6, a7, a8, a9, a10, a11, a12, a13, a14) h
theorem lp15 {A1 A2 A3 A4 A5 A6 A7 A8 A9 A10 A11 A12 A13 A14 A15 : Type} (W : Nat → A1 → A2 → A3 → A4 → A5 → A6 → A7 → A8 → A9 → A10 → A11 → A12 → A13 → A14 → A15 → Prop) (I : A1 → A2 → A3 → A4 → A5 → A6 → A7 → A8 → A9 → A10 → A11 → A12 → A13 → A14 → A15 → Prop) (μ : A1 → A2 → A3 → A4 → A5 → A6 → A7 → A8 → A9 → A10 → A11 → A12 → A13 → A14 → A15 → Nat) (hs : ∀ (n : Nat) (a1 : A1) (a2 : A2) (a3 : A3) (a4 : A4) (a5 : A5) (a6 : A6) (a7 : A7) (a8 : A8) (a9 : A9) (a10 : A10) (a11 : A11) (a12 : A12) (a13 : A13) (a14 : A14) (a15 : A15), I a1 a2 a3 a4 a5 a6 a7 a8 a9 a10 a11 a12 a13 a14 a15 → (∀ (b1 : A1) (b2 : A2) (b3 : A3) (b4 : A4) (b5 : A5) (b6 : A6) (b7 : A7) (b8 : A8) (b9 : A9) (b10 : A10) (b11 : A11) (b12 : A12) (b13 : A13) (b14 : A14) (b15 : A15), I b1 b2 b3 b4 b5 b6 b7 b8 b9 b10 b11 b12 b13 b14 b15 → μ b1 b2 b3 b4 b5 b6 b7 b8 b9 b10 b11 b12 b13 b14 b15 < μ a1 a2 a3 a4 a5 a6 a7 a8 a9 a10 a11 a12 a13 a14 a15 → W n b1 b2 b3 b4 b5 b6 b7 b8 b9 b10 b11 b12 b13 b14 b15) → W (n + 1) a1 a2 a3 a4 a5 a6 a7 a8 a9 a10 a11 a12 a13 a14 a15) (a1 : A1) (a2 : A2) (a3 : A3) (a4 : A4) (a5 : A5) (a6 : A6) (a7 : A7) (a8 : A8) (a9 : A9) (a10 : A10) (a11 : A11) (a12 : A12) (a13 : A13) (a14 : A14) (a15 : A15) (h : I a1 a2 a3 a4 a5 a6 a7 a8 a9 a10 a11 a12 a13 a14 a15) : ∃ n, W n a1 a2 a3 a4 a5 a6 a7 a8 a9 a10 a11 a12 a13 a14 a15 :=
  loop_m (σ := A1 × A2 × A3 × A4 × A5 × A6 × A7 × A8 × A9 × A10 × A11 × A12 × A13 × A14 × A15) (fun n s => W n s.1 s.2.1 s.2.2.1 s.2.2.2.1 s.2.2.2.2.1 s.2.2.2.2.2.1 s.2.2.2.2.2.2.1 s.2.2.2.2.2.2.2.1 s.2.2.2.2.2.2.2.2.1 s.2.2.2.2.2.2.2.2.2.1 s.2.2.2.2.2.2.2.2.2.2.1 s.2.2.2.2.2.2.2.2.2.2.2.1 s.2.2.2.2.2.2.2.2.2.2.2.2.1 s.2.2.2.2.2.2.2.2.2.2.2.2.2.1 s.2.2.2.2.2.2.2.2.2.2.2.2.2.2) (fun s => I s.1 s.2.1 s.2.2.1 s.2.2.2.1 s.2.2.2.2.1 s.2.2.2.2.2.1 s.2.2.2.2.2.2.1 s.2.2.2.2.2.2.2.1 s.2.2.2.2.2.2.2.2.1 s.2.2.2.2.2.2.2.2.2.1 s.2.2.2.2.2.2.2.2.2.2.1 s.2.2.2.2.2.2.2.2.2.2.2.1 s.2.2.2.2.2.2.2.2.2.2.2.2.1 s.2.2.2.2.2.2.2.2.2.2.2.2.2.1 s.2.2.2.2.2.2.2.2.2.2.2.2.2.2) (fun s => μ s.1 s.2.1 s.2.2.1 s.2.2.2.1 s.2.2.2.2.1 s.2.2.2.2.2.1 s.2.2.2.2.2.2.1 s.2.2.2.2.2.2.2.1 s.2.2.2.2.2.2.2.2.1 s.2.2.2.2.2.2.2.2.2.1 s.2.2.2.2.2.2.2.2.2.2.1 s.2.2.2.2.2.2.2.2.2.2.2.1 s.2.2.2.2.2.2.2.2.2.2.2.2.1 s.2.2.2.2.2.2.2.2.2.2.2.2.2.1 s.2.2.2.2.2.2.2.2.2.2.2.2.2.2) (fun n s hI hk => hs n s.1 s.2.1 s.2.2.1 s.2.2.2.1 s.2.2.2.2.1 s.2.2.2.2.2.1 s.2.2.2.2.2.2.1 s.2.2.2.2.2.2.2.1 s.2.2.2.2.2.2.2.2.1 s.2.2.2.2.2.2.2.2.2.1 s.2.2.2.2.2.2.2.2.2.2.1 s.2.2.2.2.2.2.2.2.2.2.2.1 s.2.2.2.2.2.2.2.2.2.2.2.2.1 s.2.2.2.2.2.2.2.2.2.2.2.2.2.1 s.2.2.2.2.2.2.2.2.2.2.2.2.2.2 hI (fun b1 b2 b3 b4 b5 b6 b7 b8 b9 b10 b11 b12 b13 b14 b15 h9 hm => hk (b1, b2, b3, b4, b5, b6, b7, b8, b9, b10, b11, b12, b13, b14, b15) h9 hm)) (a1, a2, a3, a4, a5, a6, a7, a8, a9, a10, a11, a12, a13, a14, a15) h
theorem lp16 {A1 A2 A3 A4 A5 A6 A7 A8 A9 A10 A11 A12 A13 A14 A15 A16 : Type} (W : Nat → A1 → A2 → A3 → A4 → A5 → A6 → A7 → A8 → A9 → A10 → A11 → A12 → A13 → A14 → A15 → A16 → Prop) (I : A1 → A2 → A3 → A4 → A5 → A6 → A7 → A8 → A9 → A10 → A11 → A12 → A13 → A14 → A15 → A16 → Prop) (μ : A1 → A2 → A3 → A4 → A5 → A6 → A7 → A8 → A9 → A10 → A11 → A12 → A13 → A14 → A15 → A16 → Nat) (hs : ∀ (n : Nat) (a1 : A1) (a2 : A2) (a3 : A3) (a4 : A4) (a5 : A5) (a6 : A6) (a7 : A7) (a8 : A8) (a9 : A9) (a10 : A10) (a11 : A11) (a12 : A12) (a13 : A13) (a14 : A14) (a15 : A15) (a16 : A16), I a1 a2 a3 a4 a5 a6 a7 a8 a9 a10 a11 a12 a13 a14 a15 a16 → (∀ (b1 : A1) (b2 : A2) (b3 : A3) (b4 : A4) (b5 : A5) (b6 : A6) (b7 : A7) (b8 : A8) (b9 : A9) (b10 : A10) (b11 : A11) (b12 : A12) (b13 : A13) (b14 : A14) (b15 : A15) (b16 : A16), I b1 b2 b3 b4 b5 b6 b7 b8 b9 b10 b11 b12 b13 b14 b15 b16 → μ b1 b2 b3 b4 b5 b6 b7 b8 b9 b10 b11 b12 b13 b14 b15 b16 < μ a1 a2 a3 a4 a5 a6 a7 a8 a9 a10 a11 a12 a13 a14 a15 a16 → W n b1 b2 b3 b4 b5 b6 b7 b8 b9 b10 b11 b12 b13 b14 b15 b16) → W (n + 1) a1 a2 a3 a4 a5 a6 a7 a8 a9 a10 a11 a12 a13 a14 a15 a16) (a1 : A1) (a2 : A2) (a3 : A3) (a4 : A4) (a5 : A5) (a6 : A6) (a7 : A7) (a8 : A8) (a9 : A9) (a10 : A10) (a11 : A11) (a12 : A12) (a13 : A13) (a14 : A14) (a15 : A15) (a16 : A16) (h : I a1 a2 a3 a4 a5 a6 a7 a8 a9 a10 a11 a12 a13 a14 a15 a16) : ∃ n, W n a1 a2 a3 a4 a5 a6 a7 a8 a9 a10 a11 a12 a13 a14 a15 a16 :=
  loop_m (σ := A1 × A2 × A3 × A4 × A5 × A6 × A7 × A8 × A9 × A10 × A11 × A12 × A13 × A14 × A15 × A16) (fun n s => W n s.1 s.2.1 s.2.2.1 s.2.2.2.1 s.2.2.2.2.1 s.2.2.2.2.2.1 s.2.2.2.2.2.2.1 s.2.2.2.2.2.2.2.1 s.2.2.2.2.2.2.2.2.1 s.2.2.2.2.2.2.2.2.2.1 s.2.2.2.2.2.2.2.2.2.2.1 s.2.2.2.2.2.2.2.2.2.2.2.1 s.2.2.2.2.2.2.2.2.2.2.2.2.1 s.2.2.2.2.2.2.2.2.2.2.2.2.2.1 s.2.2.2.2.2.2.2.2.2.2.2.2.2.2.1 s.2.2.2.2.2.2.2.2.2.2.2.2.2.2.2) (fun s => I s.1 s.2.1 s.2.2.1 s.2.2.2.1 s.2.2.2.2.1 s.2.2.2.2.2.1 s.2.2.2.2.2.2.1 s.2.2.2.2.2.2.2.1 s.2.2.2.2.2.2.2.2.1 s.2.2.2.2.2.2.2.2.2.1 s.2.2.2.2.2.2.2.2.2.2.1 s.2.2.2.2.2.2.2.2.2.2.2.1 s.2.2.2.2.2.2.2.2.2.2.2.2.1 s.2.2.2.2.2.2.2.2.2.2.2.2.2.1 s.2.2.2.2.2.2.2.2.2.2.2.2.2.2.1 s.2.2.2.2.2.2.2.2.2.2.2.2.2.2.2) (fun s => μ s.1 s.2.1 s.2.2.1 s.2.2.2.1 s.2.2.2.2.1 s.2.2.2.2.2.1 s.2.2.2.2.2.2.1 s.2.2.2.2.2.2.2.1 s.2.2.2.2.2.2.2.2.1 s.2.2.2.2.2.2.2.2.2.1 s.2.2.2.2.2.2.2.2.2.2.1 s.2.2.2.2.2.2.2.2.2.2.2.1 s.2.2.2.2.2.2.2.2.2.2.2.2.1 s.2.2.2.2.2.2.2.2.2.2.2.2.2.1 s.2.2.2.2.2.2.2.2.2.2.2.2.2.2.1 s.2.2.2.2.2.2.2.2.2.2.2.2.2.2.2) (fun n s hI hk => hs n s.1 s.2.1 s.2.2.1 s.2.2.2.1 s.2.2.2.2.1 s.2.2.2.2.2.1 s.2.2.2.2.2.2.1 s.2.2.2.2.2.2.2.1 s.2.2.2.2.2.2.2.2.1 s.2.2.2.2.2.2.2.2.2.1 s.2.2.2.2.2.2.2.2.2.2.1 s.2.2.2.2.2.2.2.2.2.2.2.1 s.2.2.2.2.2.2.2.2.2.2.2.2.1 s.2.2.2.2.2.2.2.2.2.2.2.2.2.1 s.2.2.2.2.2.2.2.2.2.2.2.2.2.2.1 s.2.2.2.2.2.2.2.2.2.2.2.2.2.2.2 hI (fun b1 b2 b3 b4 b5 b6 b7 b8 b9 b10 b11 b12 b13 b14 b15 b16 h9 hm => hk (b1, b2, b3, b4, b5, b6, b7, b8, b9, b10, b11, b12, b13, b14, b15, b16) h9 hm)) (a1, a2, a3, a4, a5, a6, a7, a8, a9, a10, a11, a12, a13, a14, a15, a16) h
theorem pk_least (P : Nat → Prop) (h : ∃ k, P k) : ∃ k, P k ∧ ∀ j, j < k → ¬ P j := by
  obtain ⟨k, hk⟩ := h
  induction k using Nat.strongRecOn with
  | ind k ih =>
    by_cases e : ∃ j, j < k ∧ P j
    · obtain ⟨j, hj, pj⟩ := e
      exact ih j hj pj
    · exact ⟨k, hk, fun j hj pj => e ⟨j, hj, pj⟩⟩
theorem rp1 {ρ A1 : Type} (W : Nat → (ρ → Prop) → A1 → Prop) (ok : A1 → Prop) (μ : A1 → Nat) (val : A1 → ρ)
    (hs : ∀ (d : Nat) (post : ρ → Prop) (a1 : A1), ok a1 → post (val a1) → (∀ (post' : ρ → Prop) (b1 : A1), ok b1 → μ b1 < μ a1 → post' (val b1) → W d post' b1) → W (d + 1) post a1) :
    ∀ (d : Nat) (post : ρ → Prop) (a1 : A1), ok a1 → μ a1 < d → post (val a1) → W d post a1 := by
  intro d
  induction d with
  | zero => intro post a1 _ h; omega
  | succ d ih =>
    intro post a1 ho hm hp
    exact hs d post a1 ho hp (fun post' b1 ho' hm' hp' => ih post' b1 ho' (by omega) hp')
theorem rp2 {ρ A1 A2 : Type} (W : Nat → (ρ → Prop) → A1 → A2 → Prop) (ok : A1 → A2 → Prop) (μ : A1 → A2 → Nat) (val : A1 → A2 → ρ)
    (hs : ∀ (d : Nat) (post : ρ → Prop) (a1 : A1) (a2 : A2), ok a1 a2 → post (val a1 a2) → (∀ (post' : ρ → Prop) (b1 : A1) (b2 : A2), ok b1 b2 → μ b1 b2 < μ a1 a2 → post' (val b1 b2) → W d post' b1 b2) → W (d + 1) post a1 a2) :
    ∀ (d : Nat) (post : ρ → Prop) (a1 : A1) (a2 : A2), ok a1 a2 → μ a1 a2 < d → post (val a1 a2) → W d post a1 a2 := by
  intro d
  induction d with
  | zero => intro post a1 a2 _ h; omega
  | succ d ih =>
    intro post a1 a2 ho hm hp
    exact hs d post a1 a2 ho hp (fun post' b1 b2 ho' hm' hp' => ih post' b1 b2 ho' (by omega) hp')
theorem rp3 {ρ A1 A2 A3 : Type} (W : Nat → (ρ → Prop) → A1 → A2 → A3 → Prop) (ok : A1 → A2 → A3 → Prop) (μ : A1 → A2 → A3 → Nat) (val : A1 → A2 → A3 → ρ)
    (hs : ∀ (d : Nat) (post : ρ → Prop) (a1 : A1) (a2 : A2) (a3 : A3), ok a1 a2 a3 → post (val a1 a2 a3) → (∀ (post' : ρ → Prop) (b1 : A1) (b2 : A2) (b3 : A3), ok b1 b2 b3 → μ b1 b2 b3 < μ a1 a2 a3 → post' (val b1 b2 b3) → W d post' b1 b2 b3) → W (d + 1) post a1 a2 a3) :
    ∀ (d : Nat) (post : ρ → Prop) (a1 : A1) (a2 : A2) (a3 : A3), ok a1 a2 a3 → μ a1 a2 a3 < d → post (val a1 a2 a3) → W d post a1 a2 a3 := by
  intro d
  induction d with
  | zero => intro post a1 a2 a3 _ h; omega
  | succ d ih =>
    intro post a1 a2 a3 ho hm hp
    exact hs d post a1 a2 a3 ho hp (fun post' b1 b2 b3 ho' hm' hp' => ih post' b1 b2 b3 ho' (by omega) hp')
theorem rp4 {ρ A1 A2 A3 A4 : Type} (W : Nat → (ρ → Prop) → A1 → A2 → A3 → A4 → Prop) (ok : A1 → A2 → A3 → A4 → Prop) (μ : A1 → A2 → A3 → A4 → Nat) (val : A1 → A2 → A3 → A4 → ρ)
    (hs : ∀ (d : Nat) (post : ρ → Prop) (a1 : A1) (a2 : A2) (a3 : A3) (a4 : A4), ok a1 a2 a3 a4 → post (val a1 a2 a3 a4) → (∀ (post' : ρ → Prop) (b1 : A1) (b2 : A2) (b3 : A3) (b4 : A4), ok b1 b2 b3 b4 → μ b1 b2 b3 b4 < μ a1 a2 a3 a4 → post' (val b1 b2 b3 b4) → W d post' b1 b2 b3 b4) → W (d + 1) post a1 a2 a3 a4) :
    ∀ (d : Nat) (post : ρ → Prop) (a1 : A1) (a2 : A2) (a3 : A3) (a4 : A4), ok a1 a2 a3 a4 → μ a1 a2 a3 a4 < d → post (val a1 a2 a3 a4) → W d post a1 a2 a3 a4 := by
  intro d
  induction d with
  | zero => intro post a1 a2 a3 a4 _ h; omega
  | succ d ih =>
    intro post a1 a2 a3 a4 ho hm hp
    exact hs d post a1 a2 a3 a4 ho hp (fun post' b1 b2 b3 b4 ho' hm' hp' => ih post' b1 b2 b3 b4 ho' (by omega) hp')
theorem rp5 {ρ A1 A2 A3 A4 A5 : Type} (W : Nat → (ρ → Prop) → A1 → A2 → A3 → A4 → A5 → Prop) (ok : A1 → A2 → A3 → A4 → A5 → Prop) (μ : A1 → A2 → A3 → A4 → A5 → Nat) (val : A1 → A2 → A3 → A4 → A5 → ρ)
    (hs : ∀ (d : Nat) (post : ρ → Prop) (a1 : A1) (a2 : A2) (a3 : A3) (a4 : A4) (a5 : A5), ok a1 a2 a3 a4 a5 → post (val a1 a2 a3 a4 a5) → (∀ (post' : ρ → Prop) (b1 : A1) (b2 : A2) (b3 : A3) (b4 : A4) (b5 : A5), ok b1 b2 b3 b4 b5 → μ b1 b2 b3 b4 b5 < μ a1 a2 a3 a4 a5 → post' (val b1 b2 b3 b4 b5) → W d post' b1 b2 b3 b4 b5) → W (d + 1) post a1 a2 a3 a4 a5) :
    ∀ (d : Nat) (post : ρ → Prop) (a1 : A1) (a2 : A2) (a3 : A3) (a4 : A4) (a5 : A5), ok a1 a2 a3 a4 a5 → μ a1 a2 a3 a4 a5 < d → post (val a1 a2 a3 a4 a5) → W d post a1 a2 a3 a4 a5 := by
  intro d
  induction d with
  | zero => intro post a1 a2 a3 a4 a5 _ h; omega
  | succ d ih =>
    intro post a1 a2 a3 a4 a5 ho hm hp
    exact hs d post a1 a2 a3 a4 a5 ho hp (fun post' b1 b2 b3 b4 b5 ho' hm' hp' => ih post' b1 b2 b3 b4 b5 ho' (by omega) hp')
theorem rp6 {ρ A1 A2 A3 A4 A5 A6 : Type} (W : Nat → (ρ → Prop) → A1 → A2 → A3 → A4 → A5 → A6 → Prop) (ok : A1 → A2 → A3 → A4 → A5 → A6 → Prop) (μ : A1 → A2 → A3 → A4 → A5 → A6 → Nat) (val : A1 → A2 → A3 → A4 → A5 → A6 → ρ)
    (hs : ∀ (d : Nat) (post : ρ → Prop) (a1 : A1) (a2 : A2) (a3 : A3) (a4 : A4) (a5 : A5) (a6 : A6), ok a1 a2 a3 a4 a5 a6 → post (val a1 a2 a3 a4 a5 a6) → (∀ (post' : ρ → Prop) (b1 : A1) (b2 : A2) (b3 : A3) (b4 : A4) (b5 : A5) (b6 : A6), ok b1 b2 b3 b4 b5 b6 → μ b1 b2 b3 b4 b5 b6 < μ a1 a2 a3 a4 a5 a6 → post' (val b1 b2 b3 b4 b5 b6) → W d post' b1 b2 b3 b4 b5 b6) → W (d + 1) post a1 a2 a3 a4 a5 a6) :
    ∀ (d : Nat) (post : ρ → Prop) (a1 : A1) (a2 : A2) (a3 : A3) (a4 : A4) (a5 : A5) (a6 : A6), ok a1 a2 a3 a4 a5 a6 → μ a1 a2 a3 a4 a5 a6 < d → post (val a1 a2 a3 a4 a5 a6) → W d post a1 a2 a3 a4 a5 a6 := by
  intro d
  induction d with
  | zero => intro post a1 a2 a3 a4 a5 a6 _ h; omega
  | succ d ih =>
    intro post a1 a2 a3 a4 a5 a6 ho hm hp
    exact hs d post a1 a2 a3 a4 a5 a6 ho hp (fun post' b1 b2 b3 b4 b5 b6 ho' hm' hp' => ih post' b1 b2 b3 b4 b5 b6 ho' (by omega) hp')
theorem rec_p {σ ρ : Type} (W : Nat → (ρ → Prop) → σ → Prop) (ok : σ → Prop) (μ : σ → Nat) (val : σ → ρ)
    (hs : ∀ d s post, ok s → post (val s) → (∀ s' post', ok s' → μ s' < μ s → post' (val s') → W d post' s') → W (d + 1) post s) :
    ∀ d s post, ok s → μ s < d → post (val s) → W d post s := by
  intro d
  induction d with
  | zero => intro s post _ h; omega
  | succ d ih =>
    intro s post ho hm hp
    exact hs d s post ho hp (fun s' post' ho' hm' hp' => ih s' post' ho' (by omega) hp')
theorem rec_q {σ ρ : Type} (W : Nat → (ρ → Prop) → σ → Prop) (ok : σ → Prop) (μ : σ → Nat) (Q : σ → ρ → Prop)
    (hs : ∀ d s post, ok s → (∀ r, Q s r → post r) → (∀ s' post', ok s' → μ s' < μ s → (∀ r, Q s' r → post' r) → W d post' s') → W (d + 1) post s) :
    ∀ d s post, ok s → μ s < d → (∀ r, Q s r → post r) → W d post s := by
  intro d
  induction d with
  | zero => intro s post _ h; omega
  | succ d ih =>
    intro s post ho hm hp
    exact hs d s post ho hp (fun s' post' ho' hm' hp' => ih s' post' ho' (by omega) hp')
def bx_sum (f : Nat → Int32) : Nat → Int32
  | 0 => 0
  | n + 1 => bx_sum f n + f n
theorem ek_u {A : Prop} {B : Nat → Prop} {k N : Nat} (hk : k < N) (h : B k) : (some k = none → A) ∧ (∀ y : Nat, some k = some y → (y < N ∧ B y)) :=
  ⟨fun z => absurd z (Option.some_ne_none k), fun _ e => (by cases e; exact ⟨hk, h⟩)⟩
theorem ek_nu {A : Prop} {B : Nat → Prop} (h : A) : ((none : Option Nat) = none → A) ∧ (∀ y : Nat, (none : Option Nat) = some y → B y) :=
  ⟨fun _ => h, fun _ e => (by cases e)⟩
theorem ek_if {c d A B : Prop} (e : c ↔ d) (f : d → A) (g : ¬ d → B) : (c → A) ∧ (¬ c → B) :=
  ⟨fun z => f (e.mp z), fun z => g (fun y => z (e.mpr y))⟩
theorem ek_v {α : Sort _} {P : α → Prop} {a b : α} (e : a = b) (h : P b) : P a := e ▸ h
theorem co_some {x : Option Nat} {A : Prop} {B : Nat → Prop} (i : Nat) (h : B i) (hx : x = some i := by rfl) : (x = none → A) ∧ (∀ y : Nat, x = some y → B y) := by
  subst hx
  exact ⟨fun e => (nomatch e), fun y e => Option.some.inj e ▸ h⟩
theorem co_none {x : Option Nat} {A : Prop} {B : Nat → Prop} (h : A) (hx : x = none := by rfl) : (x = none → A) ∧ (∀ y : Nat, x = some y → B y) := by
  subst hx
  exact ⟨fun _ => h, fun y e => (nomatch e)⟩
theorem co_any {x : Option Nat} {A : Prop} {B : Nat → Prop} (hn : x = none → A) (hs : ∀ i : Nat, x = some i → B i) : (x = none → A) ∧ (∀ y : Nat, x = some y → B y) := ⟨hn, hs⟩
theorem co_2 {P : Nat → Prop} (h0 : P 0) (h1 : P 1) {i : Nat} (hi : i < 2) : P i :=
  match i, hi with
  | 0, _ => h0
  | 1, _ => h1
theorem co_3 {P : Nat → Prop} (h0 : P 0) (h1 : P 1) (h2 : P 2) {i : Nat} (hi : i < 3) : P i :=
  match i, hi with
  | 0, _ => h0
  | 1, _ => h1
  | 2, _ => h2
theorem co_4 {P : Nat → Prop} (h0 : P 0) (h1 : P 1) (h2 : P 2) (h3 : P 3) {i : Nat} (hi : i < 4) : P i :=
  match i, hi with
  | 0, _ => h0
  | 1, _ => h1
  | 2, _ => h2
  | 3, _ => h3
theorem co_dec {N : Nat} {P : Nat → Prop} [DecidablePred P] (h : (List.range N).all (fun i => decide (P i)) = true) {i : Nat} (hi : i < N) : P i := by
  have := List.all_eq_true.mp h i (List.mem_range.mpr hi)
  exact of_decide_eq_true this
theorem co_tab {α : Type} {l : List α} {d : α} {P : α → Prop} (h : ∀ a, a ∈ l → P a) {i : Nat} (hi : i < l.length) : P (l.getD i d) := by
  rw [List.getD_eq_getElem?_getD, List.getElem?_eq_getElem hi]
  exact h _ (List.getElem_mem hi)
theorem pk_mu {x : Int32} {L : Nat} (h0 : ¬ x < 0) (h : ¬ nI L ≤ x) (hL : L < 2 ^ 31) : ∃ j : Nat, j < L ∧ x = nI j ∧ x + 1 = nI (j + 1) ∧ x.toNatClampNeg = j ∧ L - (x + 1).toNatClampNeg < L - x.toNatClampNeg := by
  obtain ⟨j, hj, rfl⟩ := nI_of h0
  have hl : j < L := Nat.not_le.mp fun q => h (nI_le q hj)
  refine ⟨j, hl, rfl, nI_1 j, nI_clamp hj, ?_⟩
  rw [nI_1, nI_clamp (by omega), nI_clamp hj]
  omega
theorem op_s {α : Type} {r : Option α} {A : Prop} {B : α → Prop} {y : α} (h : r = some y) (b : B y) : (r = none → A) ∧ ∀ z, r = some z → B z :=
  ⟨fun e => (by rw [h] at e; cases e), fun z e => (by rw [h] at e; cases e; exact b)⟩
def l_holds {α : Type} (a : Nat → Option Nat) (LP : List Nat) (p : Nat → α) (c : Nat) (b : Nat → α) : Prop :=
  ∀ j, j < c → ∃ y, a j = some y ∧ y ∈ LP ∧ p y = b j
theorem l_holds_0 {α : Type} {a : Nat → Option Nat} {LP : List Nat} {p b : Nat → α} : l_holds a LP p 0 b := fun j h => absurd h (Nat.not_lt_zero j)
theorem l_in_new (LP : List Nat) (q : Nat) : q ∈ LP ++ [q] := List.mem_append.mpr (Or.inr (List.mem_singleton.mpr rfl))
def l_sum (b : Nat → Int32) : Nat → Int32
  | 0 => 0
  | k + 1 => l_sum b k + b k
theorem sb_shr0 (x : Int32) : x >>> ((0 : Int32) &&& 31) = x := by
  rw [show ((0 : Int32) &&& 31) = 0 by decide]
  simp
theorem sb_shl0 (x : Int32) : x <<< ((0 : Int32) &&& 31) = x := by
  rw [show ((0 : Int32) &&& 31) = 0 by decide]
  simp
theorem sb_cl0 : (0 : Int32).toNatClampNeg = 0 := by decide
theorem sb_m1 {p : Nat} (h : 0 < p) : nI p + (-1) = nI (p - 1) := by
  obtain ⟨q, rfl⟩ : ∃ q, p = q + 1 := ⟨p - 1, by omega⟩
  exact pk_m1 q
def sb_b (c : Nat) : Int32 := (nI c).toInt8.toInt32
theorem sb_byte : ∀ c, c < 256 → sb_b c &&& 255 = nI c ∧ ((nI c).toUInt32 % 65536).toInt32 = nI c ∧ nI c ≤ 255 := by decide +kernel
def sb_Fit (a : Nat → Int32) : Prop := ∀ j, fits .byte (.int (a j)) = true
def sb_Lat (t : Nat → Nat) (n : Nat) (a : Nat → Int32) : Prop := ∀ j, j < n → t j < 256 ∧ a j = sb_b (t j)
theorem sb_fitB (c : Nat) : fits .byte (.int (sb_b c)) = true := pk_fb _
theorem sb_fit0 : sb_Fit (fun _ => 0) := fun _ => by
  show fits .byte (.int 0) = true
  decide
theorem sb_fitU {a : Nat → Int32} {k : Nat} {x : Int32} (h : sb_Fit a) (hx : fits .byte (.int x) = true) : sb_Fit (upd a k x) := by
  intro j
  by_cases e : j = k
  · subst e
    rw [pk_us]
    exact hx
  · rw [pk_un e]
    exact h j
def sb_cat (t : Nat → Nat) (n : Nat) (s : Nat → Nat) : Nat → Nat := fun j => if j < n then t j else s (j - n)
theorem sb_cat_lo {t s : Nat → Nat} {n j : Nat} (h : j < n) : sb_cat t n s j = t j := if_pos h
theorem sb_cat_hi {t s : Nat → Nat} {n j : Nat} : sb_cat t n s (n + j) = s j := by
  show (if n + j < n then t (n + j) else s (n + j - n)) = s j
  rw [if_neg (by omega), Nat.add_sub_cancel_left]
theorem sb_latPut {t s : Nat → Nat} {n w : Nat} {a a' : Nat → Int32} (h : sb_Lat t n a) (hk : ∀ j, j < n → a' j = a j) (hs : ∀ i, i < w → s i < 256 ∧ a' (n + i) = sb_b (s i)) : sb_Lat (sb_cat t n s) (n + w) a' := by
  intro j hj
  by_cases e : j < n
  · rw [sb_cat_lo e, hk j e]
    exact h j e
  · obtain ⟨i, rfl⟩ : ∃ i, j = n + i := ⟨j - n, by omega⟩
    rw [sb_cat_hi]
    exact hs i (by omega)
theorem sb_latKeep {t : Nat → Nat} {n : Nat} {a a' : Nat → Int32} (h : sb_Lat t n a) (hk : ∀ j, j < n → a' j = a j) : sb_Lat t n a' := fun j hj => by
  rw [hk j hj]
  exact h j hj
def sb_cap (q m : Nat) : Nat := if q ≤ m then m else if 2 * m + 2 < q then q else 2 * m + 2
def sb_Room (q m mc ms : Nat) : Prop := q ≤ m ∨ (1 ≤ mc ∧ sb_cap q m ≤ ms ∧ sb_cap q m ≤ 65536)
theorem sb_cap_ge (q m : Nat) : q ≤ sb_cap q m := by
  unfold sb_cap
  split
  · omega
  · split <;> omega
theorem sb_cap_gem (q m : Nat) : m ≤ sb_cap q m := by
  unfold sb_cap
  split
  · omega
  · split <;> omega
theorem sb_cap_le {q m mc ms : Nat} (hm : m ≤ 65536) (hr : sb_Room q m mc ms) : sb_cap q m ≤ 65536 := by
  rcases hr with h | h
  · rw [sb_cap, if_pos h]
    exact hm
  · exact h.2.2
theorem sb_at {P : Int32 → Prop} {x y : Int32} (e : x = y) (h : P y) : P x := e ▸ h
def sb_dg (w : Nat) : Nat := if w < 10 then 1 else if w < 100 then 2 else if w < 1000 then 3 else if w < 10000 then 4 else if w < 100000 then 5 else if w < 1000000 then 6 else if w < 10000000 then 7 else if w < 100000000 then 8 else if w < 1000000000 then 9 else 10
def sb_dec (v : Nat) : Nat → Nat := fun i => 48 + v / 10 ^ (sb_dg v - 1 - i) % 10
theorem sb_dg_in (w : Nat) : 1 ≤ sb_dg w ∧ sb_dg w ≤ 10 := by
  unfold sb_dg
  constructor <;> (repeat' split) <;> omega
theorem sb_dg100 {w : Nat} (h : 100 ≤ w) (hw : w < 2 ^ 31) : sb_dg w = sb_dg (w / 100) + 2 := by
  rw [sb_dg, sb_dg, if_neg (show ¬ w < 10 by omega), if_neg (show ¬ w < 100 by omega)]
  by_cases h3 : w < 1000
  · rw [if_pos h3, if_pos (show w / 100 < 10 by omega)]
  rw [if_neg h3, if_neg (show ¬ w / 100 < 10 by omega)]
  by_cases h4 : w < 10000
  · rw [if_pos h4, if_pos (show w / 100 < 100 by omega)]
  rw [if_neg h4, if_neg (show ¬ w / 100 < 100 by omega)]
  by_cases h5 : w < 100000
  · rw [if_pos h5, if_pos (show w / 100 < 1000 by omega)]
  rw [if_neg h5, if_neg (show ¬ w / 100 < 1000 by omega)]
  by_cases h6 : w < 1000000
  · rw [if_pos h6, if_pos (show w / 100 < 10000 by omega)]
  rw [if_neg h6, if_neg (show ¬ w / 100 < 10000 by omega)]
  by_cases h7 : w < 10000000
  · rw [if_pos h7, if_pos (show w / 100 < 100000 by omega)]
  rw [if_neg h7, if_neg (show ¬ w / 100 < 100000 by omega)]
  by_cases h8 : w < 100000000
  · rw [if_pos h8, if_pos (show w / 100 < 1000000 by omega)]
  rw [if_neg h8, if_neg (show ¬ w / 100 < 1000000 by omega)]
  by_cases h9 : w < 1000000000
  · rw [if_pos h9, if_pos (show w / 100 < 10000000 by omega)]
  rw [if_neg h9, if_neg (show ¬ w / 100 < 10000000 by omega)]
  rw [if_pos (show w / 100 < 100000000 by omega)]
theorem sb_negT {w : Nat} (h : w < 2 ^ 31) : (-nI w).toInt = -(w : Int) := by
  rw [Int32.toInt_neg, nI_toInt h]
  exact Int.bmod_eq_of_le (by omega) (by omega)
theorem sb_nle {a b : Nat} (ha : a < 2 ^ 31) (hb : b < 2 ^ 31) : -nI a ≤ -nI b ↔ b ≤ a := by
  rw [Int32.le_iff_toInt_le, sb_negT ha, sb_negT hb]
  omega
theorem sb_nlt {a b : Nat} (ha : a < 2 ^ 31) (hb : b < 2 ^ 31) : -nI a < -nI b ↔ b < a := by
  rw [Int32.lt_iff_toInt_lt, sb_negT ha, sb_negT hb]
  omega
theorem sb_cmp {A B : Prop} {x : Int32} (v c : Nat) (f : c ≤ v → A) (g : v < c → B) (hv : v < 2 ^ 31) (hx : x = -nI c := by rfl) (hc : c < 2 ^ 31 := by omega) : (-nI v ≤ x → A) ∧ (¬ -nI v ≤ x → B) := by
  subst hx
  rw [sb_nle hv hc]
  exact ⟨f, fun z => g (by omega)⟩
theorem sb_ndiv {w : Nat} (hw : w < 2 ^ 31) : (-nI w) / 100 = -nI (w / 100) := by
  apply Int32.toInt_inj.mp
  have h100 : (100 : Int32).toInt = 100 := by decide
  rw [Int32.toInt_div, sb_negT hw, h100, sb_negT (by omega), Int.neg_tdiv, Int.tdiv_eq_ediv_of_nonneg (by omega), Int.bmod_eq_of_le (by omega) (by omega)]
  omega
theorem sb_nrem {w : Nat} (hw : w < 2 ^ 31) : (-nI (w / 100)) * 100 - (-nI w) = nI (w % 100) := by
  have h := pk_rem (a := w) (d := 100) hw (by decide) (by decide)
  rw [pk_div hw (by decide) (by decide)] at h
  rw [← h]
  show (-nI (w / 100)) * nI 100 - (-nI w) = nI w - nI (w / 100) * nI 100
  rw [Int32.neg_mul, Int32.sub_neg, Int32.add_comm, ← Int32.sub_eq_add_neg]
end
section
/-! rows on bits, shifts and unsigned numbers, to paste: each family out of a closed proof of our own, whole with what it rests on; each by itself clean at Lean in its own claim (generation 39, form 5). Take a family whole -/
/-! ===== Int32 by its bits: bt x i ===== -/
def bt (x : Int32) (i : Nat) : Bool := x.toBitVec.getLsbD i
theorem b_ext {x y : Int32} (h : ∀ i, i < 32 → bt x i = bt y i) : x = y := Int32.toBitVec_inj.mp (BitVec.eq_of_getLsbD_eq (fun i hi => h i hi))
theorem b_or (x y : Int32) (i : Nat) : bt (x ||| y) i = (bt x i || bt y i) := by unfold bt; rw [Int32.toBitVec_or, BitVec.getLsbD_or]
theorem b_and (x y : Int32) (i : Nat) : bt (x &&& y) i = (bt x i && bt y i) := by unfold bt; rw [Int32.toBitVec_and, BitVec.getLsbD_and]
theorem b_xor (x y : Int32) (i : Nat) : bt (x ^^^ y) i = (bt x i ^^ bt y i) := by unfold bt; rw [Int32.toBitVec_xor, BitVec.getLsbD_xor]
theorem b_big {x : Int32} {i : Nat} (h : 32 ≤ i) : bt x i = false := BitVec.getLsbD_of_ge _ _ h
theorem b_255 (i : Nat) : bt 255 i = decide (i < 8) := by
  rcases Nat.lt_or_ge i 32 with h | h
  · exact (by decide +kernel : ∀ i, i < 32 → bt 255 i = decide (i < 8)) i h
  · rw [b_big h, decide_eq_false (by omega)]
theorem b_65535 (i : Nat) : bt 65535 i = decide (i < 16) := by
  rcases Nat.lt_or_ge i 32 with h | h
  · exact (by decide +kernel : ∀ i, i < 32 → bt 65535 i = decide (i < 16)) i h
  · rw [b_big h, decide_eq_false (by omega)]
theorem b_m1 : ∀ i, i < 32 → bt (-1) i = true := by decide +kernel
theorem b_0 (i : Nat) : bt 0 i = false := BitVec.getLsbD_zero
theorem s_l : ∀ n, n < 32 → ((nI n &&& 31).toBitVec.smod 32).toNat = n := by decide +kernel
theorem s_u : ∀ n, n < 32 → (((nI n).toUInt32 &&& Int32.toUInt32 31).toBitVec % 32).toNat = n := by decide +kernel
theorem b_shl (n : Nat) (hn : n < 32) (x : Int32) {i : Nat} (hi : i < 32) : bt (x <<< (nI n &&& 31)) i = (decide (n ≤ i) && bt x (i - n)) := by
  unfold bt
  rw [Int32.toBitVec_shiftLeft]
  show (x.toBitVec <<< ((nI n &&& 31).toBitVec.smod 32).toNat).getLsbD i = _
  rw [s_l n hn, BitVec.getLsbD_shiftLeft]
  rcases Nat.lt_or_ge i n with h | h
  · simp [h, Nat.not_le.mpr h]
  · simp [hi, h, Nat.not_lt.mpr h]
theorem b_ushr (n : Nat) (hn : n < 32) (x : Int32) (i : Nat) : bt ((x.toUInt32 >>> ((nI n).toUInt32 &&& Int32.toUInt32 31)).toInt32) i = bt x (n + i) := by
  show (x.toUInt32 >>> ((nI n).toUInt32 &&& Int32.toUInt32 31)).toBitVec.getLsbD i = x.toUInt32.toBitVec.getLsbD (n + i)
  rw [UInt32.toBitVec_shiftRight]
  show (x.toUInt32.toBitVec >>> (((nI n).toUInt32 &&& Int32.toUInt32 31).toBitVec % 32).toNat).getLsbD i = _
  rw [s_u n hn, BitVec.getLsbD_ushiftRight]
theorem b_sshr (n : Nat) (hn : n < 32) (x : Int32) {i : Nat} (hi : i < 32) : bt (x >>> (nI n &&& 31)) i = if n + i < 32 then bt x (n + i) else bt x 31 := by
  unfold bt
  rw [Int32.toBitVec_shiftRight]
  show (x.toBitVec.sshiftRight ((nI n &&& 31).toBitVec.smod 32).toNat).getLsbD i = _
  rw [s_l n hn, BitVec.getLsbD_sshiftRight, BitVec.msb_eq_getLsbD_last]
  simp [hi]
theorem b_shl8 (x : Int32) {i : Nat} (hi : i < 32) : bt (x <<< ((8 : Int32) &&& 31)) i = (decide (8 ≤ i) && bt x (i - 8)) := b_shl 8 (by omega) x hi
theorem b_shl16 (x : Int32) {i : Nat} (hi : i < 32) : bt (x <<< ((16 : Int32) &&& 31)) i = (decide (16 ≤ i) && bt x (i - 16)) := b_shl 16 (by omega) x hi
theorem b_shl24 (x : Int32) {i : Nat} (hi : i < 32) : bt (x <<< ((24 : Int32) &&& 31)) i = (decide (24 ≤ i) && bt x (i - 24)) := b_shl 24 (by omega) x hi
theorem b_sshr8 (x : Int32) {i : Nat} (hi : i < 32) : bt (x >>> ((8 : Int32) &&& 31)) i = if 8 + i < 32 then bt x (8 + i) else bt x 31 := b_sshr 8 (by omega) x hi
/-! ===== nI under and, xor, >>>, one bit, 65535 ===== -/
theorem nx_and (a b : Nat) : nI a &&& nI b = nI (a &&& b) := by
  apply Int32.toBitVec_inj.1
  show BitVec.ofNat 32 a &&& BitVec.ofNat 32 b = BitVec.ofNat 32 (a &&& b)
  apply BitVec.eq_of_getLsbD_eq
  intro i hi
  simp [hi]
theorem nx_xor (a b : Nat) : nI a ^^^ nI b = nI (a ^^^ b) := by
  apply Int32.toBitVec_inj.1
  show BitVec.ofNat 32 a ^^^ BitVec.ofNat 32 b = BitVec.ofNat 32 (a ^^^ b)
  apply BitVec.eq_of_getLsbD_eq
  intro i hi
  simp [hi]
theorem nx_cnt : ∀ j : Fin 32, (UInt32.ofNat j.val &&& Int32.toUInt32 31).toNat % 32 = j.val := by decide +kernel
theorem nx_ush {k j : Nat} (hk : k < 65536) (hj : j < 32) : ((nI k).toUInt32 >>> ((nI j).toUInt32 &&& Int32.toUInt32 31)).toInt32 = nI (k >>> j) := by
  have hs : k >>> j ≤ k := by
    rw [Nat.shiftRight_eq_div_pow]
    exact Nat.div_le_self _ _
  have e2 : UInt32.ofNat k >>> (UInt32.ofNat j &&& Int32.toUInt32 31) = UInt32.ofNat (k >>> j) := by
    apply UInt32.toNat_inj.1
    have h1 : (UInt32.ofNat k).toNat = k := Nat.mod_eq_of_lt (by omega)
    have h2 : (UInt32.ofNat (k >>> j)).toNat = k >>> j := Nat.mod_eq_of_lt (by omega)
    rw [UInt32.toNat_shiftRight, nx_cnt ⟨j, hj⟩, h1, h2]
  show (UInt32.ofNat k >>> (UInt32.ofNat j &&& Int32.toUInt32 31)).toInt32 = _
  rw [e2]
  rfl
theorem nx_bit {k j : Nat} (hk : k < 65536) (hj : j < 16) : (((nI k).toUInt32 >>> ((nI j).toUInt32 &&& Int32.toUInt32 31)).toInt32 &&& 1) = 0 ↔ k.testBit j = false := by
  rw [nx_ush hk (by omega)]
  show nI (k >>> j) &&& nI 1 = 0 ↔ _
  rw [nx_and, Nat.and_one_is_mod, ← nI_0, nI_eq (by omega) (by omega), Nat.testBit_eq_decide_div_mod_eq, Nat.shiftRight_eq_div_pow, decide_eq_false_iff_not]
  generalize k / 2 ^ j = z
  omega
theorem nx_mod (k : Nat) : nI k &&& 65535 = nI (k % 65536) := by
  show nI k &&& nI 65535 = _
  rw [nx_and, show (65535 : Nat) = 2 ^ 16 - 1 from rfl, Nat.and_two_pow_sub_one_eq_mod]
theorem nx_m16 {k : Nat} (h : k < 65536) : nI k &&& 65535 = nI k := by rw [nx_mod, Nat.mod_eq_of_lt h]
theorem nx_mask (x : Int32) : ∃ k, k < 65536 ∧ x &&& 65535 = nI k := by
  have e : x = nI x.toBitVec.toNat := by
    apply Int32.toBitVec_inj.1
    show x.toBitVec = BitVec.ofNat 32 x.toBitVec.toNat
    simp
  refine ⟨x.toBitVec.toNat % 65536, Nat.mod_lt _ (by omega), ?_⟩
  rw [← nx_mod, ← e]
/-! ===== Int32 as a set of bits: test, set ===== -/
def nf_M (m : Int32) : Nat := 4294967296 - m.toBitVec.toNat
theorem nf_sh : ∀ l, l < 32 → ((1 : Int32) <<< (nI l &&& 31)).toBitVec = BitVec.twoPow 32 l := by decide +kernel
theorem nf_sl : ∀ l, l < 32 → (((nI l).toUInt32 &&& Int32.toUInt32 31).toBitVec % 32).toNat = l := by decide +kernel
theorem nf_tp : ∀ l, l < 32 → BitVec.twoPow 32 l ≠ 0#32 := by decide +kernel
theorem nf_bit (m : Int32) (l : Nat) (hl : l < 32) : ((m.toUInt32 >>> ((nI l).toUInt32 &&& Int32.toUInt32 31)).toInt32 &&& 1) = 0 ↔ (m &&& ((1 : Int32) <<< (nI l &&& 31))) = 0 := by
  have e : ((m.toUInt32 >>> ((nI l).toUInt32 &&& Int32.toUInt32 31)).toInt32).toBitVec = m.toBitVec >>> l := by
    show m.toBitVec >>> (((nI l).toUInt32 &&& Int32.toUInt32 31).toBitVec % 32) = m.toBitVec >>> l
    rw [BitVec.ushiftRight_eq', nf_sl l hl]
  rw [← Int32.toBitVec_inj, ← Int32.toBitVec_inj, Int32.toBitVec_and, Int32.toBitVec_and, nf_sh l hl, e, BitVec.and_twoPow]
  show (m.toBitVec >>> l &&& 1#32) = 0#32 ↔ _ = 0#32
  rw [BitVec.and_one_eq_setWidth_ofBool_getLsbD, BitVec.getLsbD_ushiftRight, Nat.add_zero]
  cases hb : m.toBitVec.getLsbD l
  · exact ⟨fun _ => by simp, fun _ => by decide⟩
  · exact ⟨fun z => absurd z (by decide), fun z => absurd ((if_pos rfl).symm.trans z) (nf_tp l hl)⟩
theorem nf_gr (m k : Int32) (h : m &&& k = 0) (hk : k ≠ 0) : nf_M (m ||| k) < nf_M m := by
  have hm := m.toBitVec.isLt
  have hm' := (m ||| k).toBitVec.isLt
  have h1 : m.toBitVec.toNat ≤ (m ||| k).toBitVec.toNat := by
    rw [Int32.toBitVec_or, BitVec.toNat_or]
    exact Nat.left_le_or
  have h2 : m.toBitVec.toNat ≠ (m ||| k).toBitVec.toNat := by
    intro e
    have e2 : m = m ||| k := Int32.toBitVec_inj.mp (BitVec.eq_of_toNat_eq e)
    apply hk
    apply Int32.toBitVec_inj.mp
    show k.toBitVec = 0#32
    apply BitVec.eq_of_getLsbD_eq
    intro i hi
    have a : m.toBitVec.getLsbD i = (m.toBitVec.getLsbD i || k.toBitVec.getLsbD i) := by rw [← BitVec.getLsbD_or, ← Int32.toBitVec_or, ← e2]
    have b : (m.toBitVec.getLsbD i && k.toBitVec.getLsbD i) = false := by
      rw [← BitVec.getLsbD_and, ← Int32.toBitVec_and, h]
      exact BitVec.getLsbD_zero
    rw [BitVec.getLsbD_zero]
    revert a b
    cases m.toBitVec.getLsbD i <;> cases k.toBitVec.getLsbD i <;> simp
  unfold nf_M
  omega
/-! ===== a byte read unsigned ===== -/
theorem bp_b (x : Int32) : x.toInt8.toInt32 &&& 255 = x &&& 255 := by
  apply Int32.toBitVec_inj.mp
  rw [Int32.toBitVec_and, Int32.toBitVec_and, Int8.toBitVec_toInt32, Int32.toBitVec_toInt8]
  apply BitVec.eq_of_getLsbD_eq
  intro i hi
  rw [BitVec.getLsbD_and, BitVec.getLsbD_and]
  have hm : ∀ i < 32, 8 ≤ i → (255 : Int32).toBitVec.getLsbD i = false := by decide
  rcases Nat.lt_or_ge i 8 with z | z
  · rw [BitVec.getLsbD_signExtend, BitVec.getLsbD_signExtend, if_pos z, if_pos hi]
    simp only [z, hi, decide_true, Bool.true_and]
  · rw [hm i hi z]; simp
/-! ===== the char cast and 65535 ===== -/
theorem em_w (v : Int32) : ∃ w : Nat, w < 65536 ∧ (v.toUInt32 % 65536).toInt32 = nI w ∧ v &&& 65535 = nI w := by
  have hr := lw_u16_r v
  have h0 : (0 : Int32).toInt = 0 := by decide
  obtain ⟨w, h1, h2⟩ := nI_of (x := lw_u16 v) (by rw [Int32.lt_iff_toInt_lt]; omega)
  have h3 : (v.toUInt32 % 65536).toInt32 = nI w := h2
  rw [h2, nI_toInt h1] at hr
  exact ⟨w, by omega, h3, by rw [← lg_i2c_mask, ← lg_i2c_nf, h3]⟩
/-! ===== Int64 as a set of bits: test, set, clear ===== -/
theorem ts_nf {x : Bool} (h : ¬ x = false) : x = true := by cases x <;> first | rfl | exact absurd rfl h
theorem ts_nt {x : Bool} (h : ¬ x = true) : x = false := by cases x <;> first | rfl | exact absurd rfl h
theorem ts_bit {w : Int64} {s : UInt64} {j : Nat} (hj : j < 64) (hs : s.toNat = j) : ((w.toUInt64 >>> s).toInt64 &&& 1) = 0 ↔ w.toBitVec.getLsbD j = false := by
  have e : (w.toUInt64 >>> s).toInt64.toBitVec = w.toBitVec >>> j := by
    apply BitVec.eq_of_toNat_eq
    show (w.toUInt64 >>> s).toNat = _
    rw [UInt64.toNat_shiftRight, hs, Nat.mod_eq_of_lt hj, BitVec.toNat_ushiftRight]
    rfl
  rw [← Int64.toBitVec_inj, Int64.toBitVec_and, e]
  show w.toBitVec >>> j &&& 1#64 = 0#64 ↔ _
  constructor
  · intro h
    have t := congrArg (fun x => x.getLsbD 0) h
    simpa using t
  · intro h
    apply BitVec.eq_of_getLsbD_eq
    intro i hi
    cases i with
    | zero => simp [h]
    | succ i => simp
theorem ts_or {w m : Int64} {j : Nat} (hj : j < 64) (hm : m.toBitVec = BitVec.twoPow 64 j) : (w ||| m) = w ↔ w.toBitVec.getLsbD j = true := by
  rw [← Int64.toBitVec_inj, Int64.toBitVec_or, hm]
  constructor
  · intro h
    have t := congrArg (fun x => x.getLsbD j) h
    simp only [BitVec.getLsbD_or, BitVec.getLsbD_twoPow] at t
    simpa [hj] using t.symm
  · intro h
    apply BitVec.eq_of_getLsbD_eq
    intro i hi
    rw [BitVec.getLsbD_or, BitVec.getLsbD_twoPow]
    by_cases e : j = i
    · subst e; rw [h, Bool.true_or]
    · simp [e]
theorem ts_and {w m : Int64} {j : Nat} (hj : j < 64) (hm : m.toBitVec = BitVec.twoPow 64 j) : (w &&& (m ^^^ (-1))) = w ↔ w.toBitVec.getLsbD j = false := by
  have ha : (-1 : Int64).toBitVec = BitVec.allOnes 64 := by decide
  rw [← Int64.toBitVec_inj, Int64.toBitVec_and, Int64.toBitVec_xor, hm, ha]
  constructor
  · intro h
    have t := congrArg (fun x => x.getLsbD j) h
    simp only [BitVec.getLsbD_and, BitVec.getLsbD_xor, BitVec.getLsbD_twoPow, BitVec.getLsbD_allOnes] at t
    simpa [hj] using t.symm
  · intro h
    apply BitVec.eq_of_getLsbD_eq
    intro i hi
    rw [BitVec.getLsbD_and, BitVec.getLsbD_xor, BitVec.getLsbD_twoPow, BitVec.getLsbD_allOnes]
    by_cases e : j = i
    · subst e; rw [h, Bool.false_and]
    · simp [e, hi]
/-! ===== lN n to 2^64: shifts, and, or, masks, one bit ===== -/
theorem wb_tb (n : Nat) : (lN n).toBitVec = BitVec.ofNat 64 n := rfl
theorem wb_inj {a b : Int64} (h : a.toBitVec = b.toBitVec) : a = b := Int64.toBitVec_inj.mp h
theorem wb_tn {n : Nat} (h : n < 2 ^ 64) : (lN n).toBitVec.toNat = n := by rw [wb_tb, BitVec.toNat_ofNat, Nat.mod_eq_of_lt h]
theorem wb_of (x : Int64) : ∃ n, n < 2 ^ 64 ∧ x = lN n := ⟨x.toBitVec.toNat, x.toBitVec.isLt, wb_inj (by rw [wb_tb]; simp)⟩
theorem wb_of32 (x : Int32) : ∃ n, n < 2 ^ 32 ∧ x = nI n := ⟨x.toBitVec.toNat, x.toBitVec.isLt, Int32.toBitVec_inj.mp (by show _ = BitVec.ofNat 32 _; simp)⟩
theorem wb_c : ∀ k, k < 64 → ((nI k).toInt64 &&& 63) = lN k := by decide +kernel
theorem wb_cu : ∀ k, k < 64 → ((nI k).toInt64.toUInt64 &&& Int64.toUInt64 63) = UInt64.ofNat k := by decide +kernel
theorem wb_sm : ∀ k, k < 64 → (BitVec.ofNat 64 k).smod 64 = BitVec.ofNat 64 k := by decide +kernel
theorem wb_pw {a b : Nat} (h : a ≤ b) : 2 ^ b = 2 ^ a * 2 ^ (b - a) := by rw [← Nat.pow_add]; congr 1; omega
theorem wb_lt2 {a b : Nat} (h : a < b) : 2 ^ a < 2 ^ b := Nat.pow_lt_pow_right (by decide) h
theorem wb_mod (n : Nat) : lN n = lN (n % 2 ^ 64) := wb_inj (by rw [wb_tb, wb_tb]; apply BitVec.eq_of_toNat_eq; rw [BitVec.toNat_ofNat, BitVec.toNat_ofNat, Nat.mod_mod])
theorem wb_shr {n k : Nat} (hn : n < 2 ^ 64) (hk : k < 64) : ((lN n).toUInt64 >>> ((nI k).toInt64.toUInt64 &&& Int64.toUInt64 63)).toInt64 = lN (n / 2 ^ k) := by
  rw [wb_cu k hk]
  apply wb_inj
  apply BitVec.eq_of_toNat_eq
  show ((lN n).toUInt64 >>> UInt64.ofNat k).toNat = (BitVec.ofNat 64 _).toNat
  have h1 : (UInt64.ofNat k).toNat = k := by
    show (BitVec.ofNat 64 k).toNat = k
    rw [BitVec.toNat_ofNat, Nat.mod_eq_of_lt (by omega)]
  have h2 : (lN n).toUInt64.toNat = n := wb_tn hn
  rw [UInt64.toNat_shiftRight, h1, h2, Nat.mod_eq_of_lt hk, Nat.shiftRight_eq_div_pow, BitVec.toNat_ofNat, Nat.mod_eq_of_lt (Nat.lt_of_le_of_lt (Nat.div_le_self _ _) hn)]
theorem wb_shl (n : Nat) {k : Nat} (hk : k < 64) : lN n <<< ((nI k).toInt64 &&& 63) = lN (n * 2 ^ k) := by
  rw [wb_c k hk]
  apply wb_inj
  rw [Int64.toBitVec_shiftLeft, wb_tb, wb_tb, wb_tb, wb_sm k hk]
  apply BitVec.eq_of_toNat_eq
  rw [BitVec.shiftLeft_eq', BitVec.toNat_shiftLeft, BitVec.toNat_ofNat, BitVec.toNat_ofNat, BitVec.toNat_ofNat, Nat.mod_eq_of_lt (show k < 2 ^ 64 by omega), Nat.shiftLeft_eq, Nat.mul_mod, Nat.mod_mod, ← Nat.mul_mod]
theorem wb_and {a b : Nat} (ha : a < 2 ^ 64) (hb : b < 2 ^ 64) : lN a &&& lN b = lN (a &&& b) := by
  apply wb_inj
  rw [Int64.toBitVec_and, wb_tb, wb_tb, wb_tb]
  apply BitVec.eq_of_toNat_eq
  rw [BitVec.toNat_and, BitVec.toNat_ofNat, BitVec.toNat_ofNat, BitVec.toNat_ofNat, Nat.mod_eq_of_lt ha, Nat.mod_eq_of_lt hb, Nat.mod_eq_of_lt (Nat.and_lt_two_pow _ hb)]
theorem wb_or {a b : Nat} (ha : a < 2 ^ 64) (hb : b < 2 ^ 64) : lN a ||| lN b = lN (a ||| b) := by
  apply wb_inj
  rw [Int64.toBitVec_or, wb_tb, wb_tb, wb_tb]
  apply BitVec.eq_of_toNat_eq
  rw [BitVec.toNat_or, BitVec.toNat_ofNat, BitVec.toNat_ofNat, BitVec.toNat_ofNat, Nat.mod_eq_of_lt ha, Nat.mod_eq_of_lt hb, Nat.mod_eq_of_lt (Nat.or_lt_two_pow ha hb)]
theorem wb_mask {n k : Nat} (hn : n < 2 ^ 64) (hk : k < 64) : lN n &&& lN (2 ^ k - 1) = lN (n % 2 ^ k) := by
  rw [wb_and hn (by have := wb_lt2 hk; omega), Nat.and_two_pow_sub_one_eq_mod]
theorem wb_a1 {n : Nat} (hn : n < 2 ^ 64) : lN n &&& 1 = lN (n % 2) := wb_mask (k := 1) hn (by decide)
theorem wb_bit {n k : Nat} (hn : n < 2 ^ 64) (hk : k < 64) : ((lN n).toUInt64 >>> ((nI k).toInt64.toUInt64 &&& Int64.toUInt64 63)).toInt64 &&& 1 = lN (n / 2 ^ k % 2) := by
  rw [wb_shr hn hk, wb_a1 (Nat.lt_of_le_of_lt (Nat.div_le_self _ _) hn)]
theorem wb_xor {q k : Nat} (hk : k < 63) (h : 2 ^ k ≤ q) (h2 : q < 2 ^ (k + 1)) : lN q ^^^ lN (2 ^ k) = lN (q - 2 ^ k) := by
  obtain ⟨r, rfl⟩ : ∃ r, q = 2 ^ k + r := ⟨q - 2 ^ k, by omega⟩
  have hr : r < 2 ^ k := by rw [Nat.pow_succ] at h2; omega
  have hx : (2 ^ k + r) ^^^ 2 ^ k = r := by
    apply Nat.eq_of_testBit_eq
    intro i
    rw [Nat.testBit_xor, Nat.testBit_two_pow]
    rcases Nat.lt_trichotomy i k with h | h | h
    · rw [Nat.testBit_two_pow_add_gt h]
      simp [show ¬ k = i by omega]
    · subst h
      rw [Nat.testBit_two_pow_add_eq]
      simp
    · have a1 : 2 ^ (k + 1) ≤ 2 ^ i := Nat.pow_le_pow_right (by decide) h
      rw [Nat.testBit_lt_two_pow (show 2 ^ k + r < 2 ^ i by omega), Nat.testBit_lt_two_pow (show r < 2 ^ i by omega)]
      simp [show ¬ k = i by omega]
  have b1 := wb_lt2 (show k + 1 < 64 by omega)
  have b2 := wb_lt2 (show k < 64 by omega)
  apply wb_inj
  rw [Int64.toBitVec_xor, wb_tb, wb_tb, wb_tb]
  apply BitVec.eq_of_toNat_eq
  rw [BitVec.toNat_xor, BitVec.toNat_ofNat, BitVec.toNat_ofNat, BitVec.toNat_ofNat, Nat.mod_eq_of_lt (by omega : 2 ^ k + r < 2 ^ 64), Nat.mod_eq_of_lt b2, hx, Nat.add_sub_cancel_left, Nat.mod_eq_of_lt (by omega)]
/-! ===== lN: masks, 'or' of parts that don't overlap is a sum ===== -/
theorem u_tn {n : Nat} (h : n < 2 ^ 64) : (UInt64.ofNat n).toNat = n := Nat.mod_eq_of_lt h
theorem g_and {a b c : Nat} (ha : a < 2 ^ 64) (hb : b < 2 ^ 64) (hc : a &&& b = c) : lN a &&& lN b = lN c := by
  subst hc
  have h : UInt64.ofNat a &&& UInt64.ofNat b = UInt64.ofNat (a &&& b) := UInt64.toNat_inj.mp (by rw [UInt64.toNat_and, u_tn ha, u_tn hb, u_tn (Nat.and_lt_two_pow a hb)])
  have h2 := congrArg UInt64.toInt64 h
  exact h2
theorem g_and1 {a : Nat} (ha : a < 2 ^ 64) : lN a &&& 1 = lN (a % 2) := g_and (b := 1) ha (by decide) (Nat.and_two_pow_sub_one_eq_mod a 1)
theorem g_mask {a s p : Nat} (hp : 2 ^ s = p) (hs : s < 64) (ha : a < 2 ^ 64) : lN a &&& lN (p - 1) = lN (a % p) := by
  subst hp
  have := Nat.pow_lt_pow_right (show 1 < 2 by decide) hs
  exact g_and ha (by omega) (Nat.and_two_pow_sub_one_eq_mod a s)
theorem g_or {k p a b : Nat} (hp : 2 ^ k = p) (ha : a < p) (h : b * p + a < 2 ^ 64) : lN (b * p) ||| lN a = lN (b * p + a) := by
  subst hp
  have h1 : b * 2 ^ k ||| a = b * 2 ^ k + a := by rw [← Nat.shiftLeft_eq, Nat.shiftLeft_add_eq_or_of_lt ha]
  have h3 : UInt64.ofNat (b * 2 ^ k) ||| UInt64.ofNat a = UInt64.ofNat (b * 2 ^ k + a) := UInt64.toNat_inj.mp (by rw [UInt64.toNat_or, u_tn (by omega), u_tn (by omega), u_tn h, h1])
  have h2 := congrArg UInt64.toInt64 h3
  exact h2
theorem g_or' {k p a b : Nat} (hp : 2 ^ k = p) (ha : a < p) (h : a + b * p < 2 ^ 64) : lN a ||| lN (b * p) = lN (a + b * p) := by
  rw [Int64.or_comm, g_or hp ha (by omega), Nat.add_comm]
theorem g_ushr {a k p : Nat} {y : UInt64} (hy : y = UInt64.ofNat k) (hk : k < 64) (hp : 2 ^ k = p) (ha : a < 2 ^ 64) : ((lN a).toUInt64 >>> y).toInt64 = lN (a / p) := by
  subst hy hp
  have h : UInt64.ofNat a >>> UInt64.ofNat k = UInt64.ofNat (a / 2 ^ k) := UInt64.toNat_inj.mp (by rw [UInt64.toNat_shiftRight, u_tn ha, u_tn (by omega), u_tn (Nat.lt_of_le_of_lt (Nat.div_le_self _ _) ha), Nat.mod_eq_of_lt hk, Nat.shiftRight_eq_div_pow])
  have h2 := congrArg UInt64.toInt64 h
  exact h2
theorem g_shl {a k p : Nat} {y : Int64} (hy : y.toBitVec.smod 64 = BitVec.ofNat 64 k) (hk : k < 64) (hp : 2 ^ k = p) (ha : a < 2 ^ 64) : lN a <<< y = lN (a * p) := by
  subst hp
  apply Int64.toBitVec_inj.mp
  rw [Int64.toBitVec_shiftLeft, hy]
  apply BitVec.eq_of_toNat_eq
  have hb : (lN a).toBitVec.toNat = a := Nat.mod_eq_of_lt ha
  have hk' : (BitVec.ofNat 64 k).toNat = k := Nat.mod_eq_of_lt (by omega)
  have h : ((lN a).toBitVec <<< BitVec.ofNat 64 k).toNat = (a * 2 ^ k) % 2 ^ 64 := by simp only [BitVec.shiftLeft_eq', BitVec.toNat_shiftLeft, hb, hk', Nat.shiftLeft_eq]
  exact h
/-! ===== lN to 2^62 under >> and >>> ===== -/
theorem pf_lI {a : Nat} (h : a < 2 ^ 63) : (lN a).toInt = (a : Int) := lg_ofNat_toInt h
theorem pf_shr {a d : Nat} {D : Int64} (hD : (D.toBitVec.smod 64).toNat = d) (h : a < 2 ^ 62) : lN a >>> D = lN (a / 2 ^ d) := by
  have hd : a / 2 ^ d ≤ a := Nat.div_le_self _ _
  apply Int64.toInt_inj.mp
  have e : (lN a >>> D).toInt = (lN a).toInt >>> d := by
    rw [← hD]
    exact BitVec.toInt_sshiftRight ..
  rw [e, Int.shiftRight_eq_div_pow, pf_lI (by omega), pf_lI (by omega)]
  rfl
theorem pf_ushr {a d : Nat} {D : UInt64} (hD : D.toNat % 64 = d) (h : a < 2 ^ 62) : ((lN a).toUInt64 >>> D).toInt64 = lN (a / 2 ^ d) := by
  have hd : a / 2 ^ d ≤ a := Nat.div_le_self _ _
  have e : (lN a).toUInt64 >>> D = UInt64.ofNat (a / 2 ^ d) := UInt64.toNat_inj.mp (by
    rw [UInt64.toNat_shiftRight, hD, Nat.shiftRight_eq_div_pow, UInt64.toNat_ofNat']
    show (UInt64.ofNat a).toNat / 2 ^ d = _
    rw [UInt64.toNat_ofNat', Nat.mod_eq_of_lt (by omega), Nat.mod_eq_of_lt (by omega)])
  rw [e]
  rfl
theorem pf_andw (x : Int64) : ∃ m, m < 2 ^ 32 ∧ x &&& 4294967295 = lN m := ⟨x.toBitVec.toNat % 2 ^ 32, Nat.mod_lt _ (by decide), Int64.toBitVec_inj.mp (BitVec.eq_of_toNat_eq (by
  show (x.toBitVec &&& 4294967295#64).toNat = (BitVec.ofNat 64 (x.toBitVec.toNat % 2 ^ 32)).toNat
  rw [BitVec.toNat_and, show (4294967295#64).toNat = 2 ^ 32 - 1 from by decide, Nat.and_two_pow_sub_one_eq_mod, BitVec.toNat_ofNat]
  omega))⟩
/-! ===== Int64 as an unsigned number: uN x ===== -/
def uN (x : Int64) : Nat := x.toUInt64.toNat
theorem uN_lt (x : Int64) : uN x < 18446744073709551616 := x.toUInt64.toNat_lt
theorem uN_inj {x y : Int64} (h : uN x = uN y) : x = y := congrArg UInt64.toInt64 (UInt64.toNat_inj.mp h)
theorem uN_add (x y : Int64) : uN (x + y) = (uN x + uN y) % 18446744073709551616 := by
  show (x.toUInt64 + y.toUInt64).toNat = _
  exact UInt64.toNat_add _ _
theorem uN_mul (x y : Int64) : uN (x * y) = (uN x * uN y) % 18446744073709551616 := by
  show (x.toUInt64 * y.toUInt64).toNat = _
  exact UInt64.toNat_mul _ _
theorem uN_shl (x : Int64) : uN (x <<< ((1 : Int32).toInt64 &&& 63)) = (2 * uN x) % 18446744073709551616 := by
  have h : (((1 : Int32).toInt64 &&& 63).toBitVec.smod 64).toNat = 1 := by decide
  show (x.toBitVec <<< (((1 : Int32).toInt64 &&& 63).toBitVec.smod 64).toNat).toNat = _
  rw [h, BitVec.toNat_shiftLeft, Nat.shiftLeft_eq, Nat.mul_comm]
  rfl
theorem uN_shr (x : Int64) (s : UInt64) : uN (x.toUInt64 >>> s).toInt64 = uN x / 2 ^ (s.toNat % 64) := by
  show (x.toUInt64 >>> s).toNat = _
  rw [UInt64.toNat_shiftRight, Nat.shiftRight_eq_div_pow]
  rfl
theorem uN_s32 (x : Int64) : uN (x.toUInt64 >>> ((32 : Int32).toInt64.toUInt64 &&& Int64.toUInt64 63)).toInt64 = uN x / 4294967296 := by
  have h : ((32 : Int32).toInt64.toUInt64 &&& Int64.toUInt64 63).toNat % 64 = 32 := by decide
  rw [uN_shr, h]
theorem uN_s63 (x : Int64) : uN (x.toUInt64 >>> ((63 : Int32).toInt64.toUInt64 &&& Int64.toUInt64 63)).toInt64 = uN x / 9223372036854775808 := by
  have h : ((63 : Int32).toInt64.toUInt64 &&& Int64.toUInt64 63).toNat % 64 = 63 := by decide
  rw [uN_shr, h]
theorem uN_lo (x : Int64) : uN (x &&& 4294967295) = uN x % 4294967296 := by
  show (x.toUInt64 &&& Int64.toUInt64 4294967295).toNat = _
  rw [UInt64.toNat_and]
  exact Nat.and_two_pow_sub_one_eq_mod _ 32
theorem uN_bit (x : Int64) : (x &&& 1) = 0 ↔ uN x % 2 = 0 := by
  have h : uN (x &&& 1) = uN x % 2 := by
    show (x.toUInt64 &&& Int64.toUInt64 1).toNat = _
    rw [UInt64.toNat_and]
    exact Nat.and_two_pow_sub_one_eq_mod _ 1
  rw [← h]
  exact ⟨fun z => by rw [z]; rfl, fun z => uN_inj (z.trans rfl)⟩
theorem uN_or {x y : Int64} (hy : uN y < 2) : uN ((x <<< ((1 : Int32).toInt64 &&& 63)) ||| y) = (2 * uN x) % 18446744073709551616 + uN y := by
  have h1 : uN ((x <<< ((1 : Int32).toInt64 &&& 63)) ||| y) = uN (x <<< ((1 : Int32).toInt64 &&& 63)) ||| uN y := UInt64.toNat_or _ _
  have h2 : (2 * uN x) % 18446744073709551616 = 2 ^ 1 * (uN x % 9223372036854775808) := by omega
  rw [h1, uN_shl, h2]
  exact (Nat.two_pow_add_eq_or_of_lt (i := 1) hy _).symm
theorem nat_xor {a : Nat} (h : a < 18446744073709551616) : a ^^^ 2 ^ 63 = (a + 9223372036854775808) % 18446744073709551616 := by
  have h1 : (a ^^^ 2 ^ 63) % 2 ^ 63 = a % 2 ^ 63 := by rw [Nat.xor_mod_two_pow, Nat.mod_self, Nat.xor_zero]
  have h2 : (a ^^^ 2 ^ 63) / 2 ^ 63 = (a / 2 ^ 63) ^^^ 1 := by rw [Nat.xor_div_two_pow, Nat.div_self (Nat.two_pow_pos 63)]
  have h3 : a / 2 ^ 63 = 0 ∨ a / 2 ^ 63 = 1 := by omega
  generalize a ^^^ 2 ^ 63 = t at h1 h2
  rcases h3 with h3 | h3
  · rw [h3] at h2
    have h2 : t / 2 ^ 63 = 1 := h2
    omega
  · rw [h3] at h2
    have h2 : t / 2 ^ 63 = 0 := h2
    omega
theorem uN_xor (x : Int64) : uN (x ^^^ (-9223372036854775808)) = (uN x + 9223372036854775808) % 18446744073709551616 := by
  rw [← nat_xor (uN_lt x)]
  exact UInt64.toNat_xor _ _
theorem uN_int (x : Int64) : x.toInt = if 2 * uN x < 18446744073709551616 then (uN x : Int) else (uN x : Int) - 18446744073709551616 := BitVec.toInt_eq_toNat_cond _
theorem uN_le (x y : Int64) : (x ^^^ (-9223372036854775808)) ≤ (y ^^^ (-9223372036854775808)) ↔ uN x ≤ uN y := by
  have hx := uN_lt x
  have hy := uN_lt y
  rw [Int64.le_iff_toInt_le, uN_int, uN_int, uN_xor, uN_xor]
  omega
theorem uN_sk (x : Int64) {k : Nat} (hk : k < 64) : uN (x.toUInt64 >>> ((nI k).toInt64.toUInt64 &&& Int64.toUInt64 63)).toInt64 = uN x / 2 ^ k := by
  have h : ((nI k).toInt64.toUInt64 &&& Int64.toUInt64 63).toNat % 64 = k := by
    rw [nI_l (by omega), UInt64.toNat_and]
    have e : (lN k).toUInt64.toNat = k % 2 ^ 64 := rfl
    have e2 : (Int64.toUInt64 63).toNat = 2 ^ 6 - 1 := by decide
    rw [e, e2, Nat.and_two_pow_sub_one_eq_mod]
    omega
  rw [uN_shr, h]
/-! ===== unsigned comparison by xor with the least ===== -/
theorem lN_bv (n : Nat) : (lN n).toBitVec = BitVec.ofNat 64 n := rfl
theorem lN_nat {n : Nat} (h : n < 2 ^ 64) : (lN n).toBitVec.toNat = n := by rw [lN_bv, BitVec.toNat_ofNat]; exact Nat.mod_eq_of_lt h
theorem lN_xor (a b : Nat) : lN a ^^^ lN b = lN (a ^^^ b) := by
  apply Int64.toBitVec_inj.mp; rw [Int64.toBitVec_xor, lN_bv, lN_bv, lN_bv]; apply BitVec.eq_of_getLsbD_eq; intro i hi; simp [BitVec.getLsbD_ofNat, Nat.testBit_xor, hi]
theorem lN_ti {m : Nat} (h : m < 2 ^ 64) : (lN m).toInt = if m < 2 ^ 63 then (m : Int) else (m : Int) - 2 ^ 64 := by
  have c := BitVec.toInt_eq_toNat_cond (lN m).toBitVec
  rw [lN_nat h] at c
  show (lN m).toBitVec.toInt = _
  rw [c]
  split <;> split <;> omega
theorem xor63 {x : Nat} (h : x < 2 ^ 63) : x ^^^ 2 ^ 63 = 2 ^ 63 + x := by
  apply Nat.eq_of_testBit_eq
  intro i
  rw [Nat.testBit_xor, Nat.testBit_two_pow]
  rcases Nat.lt_trichotomy i 63 with z | z | z
  · rw [Nat.testBit_two_pow_add_gt z, decide_eq_false (by omega)]; simp
  · subst z; rw [Nat.testBit_two_pow_add_eq]; simp
  · have hp : 2 ^ 64 ≤ 2 ^ i := Nat.pow_le_pow_right (by decide) z
    rw [Nat.testBit_lt_two_pow (show x < 2 ^ i by omega), Nat.testBit_lt_two_pow (show 2 ^ 63 + x < 2 ^ i by omega), decide_eq_false (by omega)]; rfl
theorem xorS {a : Nat} (h : a < 2 ^ 64) : (lN a ^^^ (-9223372036854775808)).toInt = (a : Int) - 2 ^ 63 := by
  rw [show (-9223372036854775808 : Int64) = lN (2 ^ 63) from by decide +kernel, lN_xor]
  rcases Nat.lt_or_ge a (2 ^ 63) with z | z
  · rw [xor63 z, lN_ti (by omega), if_neg (by omega)]; omega
  · obtain ⟨x, rfl⟩ : ∃ x, a = 2 ^ 63 + x := ⟨a - 2 ^ 63, by omega⟩
    rw [← xor63 (by omega), Nat.xor_assoc, Nat.xor_self, Nat.xor_zero, lN_ti (by omega), if_pos (by omega), xor63 (by omega)]; omega
theorem ultL {a b : Nat} (ha : a < 2 ^ 64) (hb : b < 2 ^ 64) : ((lN b ^^^ (-9223372036854775808)) ≤ (lN a ^^^ (-9223372036854775808))) ↔ b ≤ a := by
  rw [Int64.le_iff_toInt_le, xorS ha, xorS hb]; omega
/-! ===== Int64 masks of n low bits ===== -/
theorem cr_bits (W U M : BitVec 64) : ((W &&& U) &&& (U &&& (M ^^^ BitVec.allOnes 64))) = 0#64 ↔ (W &&& U) &&& M = W &&& U := by
  constructor
  · intro h
    apply BitVec.eq_of_getLsbD_eq
    intro i hi
    have e := congrArg (fun x => BitVec.getLsbD x i) h
    simp only [BitVec.getLsbD_and, BitVec.getLsbD_xor, BitVec.getLsbD_allOnes, BitVec.getLsbD_zero, hi, decide_true] at e ⊢
    revert e
    cases W.getLsbD i <;> cases U.getLsbD i <;> cases M.getLsbD i <;> decide
  · intro h
    apply BitVec.eq_of_getLsbD_eq
    intro i hi
    have e := congrArg (fun x => BitVec.getLsbD x i) h
    simp only [BitVec.getLsbD_and, BitVec.getLsbD_xor, BitVec.getLsbD_allOnes, BitVec.getLsbD_zero, hi, decide_true] at e ⊢
    revert e
    cases W.getLsbD i <;> cases U.getLsbD i <;> cases M.getLsbD i <;> decide
theorem cr_mask (w U m : Int64) (n : Nat) (hm : m.toBitVec.toNat = 2 ^ n - 1) : ((w &&& U) &&& (U &&& (m ^^^ (-1)))) = 0 ↔ (w &&& U).toBitVec.toNat < 2 ^ n := by
  have e0 : (-1 : Int64).toBitVec = BitVec.allOnes 64 := by decide
  have z0 : (0 : Int64).toBitVec = 0#64 := by decide
  rw [← Int64.toBitVec_inj, z0, Int64.toBitVec_and, Int64.toBitVec_and, Int64.toBitVec_and, Int64.toBitVec_xor, e0, cr_bits]
  generalize w.toBitVec &&& U.toBitVec = T
  rw [← BitVec.toNat_inj, BitVec.toNat_and, hm, Nat.and_two_pow_sub_one_eq_mod]
  constructor
  · intro h
    have t := Nat.mod_lt T.toNat (Nat.two_pow_pos n)
    rw [h] at t
    exact t
  · exact Nat.mod_eq_of_lt
theorem cr_shr (t : Int64) (x : UInt64) (n : Nat) (hx : x.toNat % 64 = n) : (t.toUInt64 >>> x).toInt64 = 0 ↔ t.toBitVec.toNat < 2 ^ n := by
  rw [← Int64.toBitVec_inj, ← BitVec.toNat_inj]
  show (t.toUInt64 >>> x).toNat = 0 ↔ t.toUInt64.toNat < 2 ^ n
  rw [UInt64.toNat_shiftRight, hx, Nat.shiftRight_eq_div_pow]
  constructor
  · intro h
    have d : t.toUInt64.toNat / 2 ^ n < 1 := by
      rw [h]
      decide
    have e := (Nat.div_lt_iff_lt_mul (Nat.two_pow_pos n)).mp d
    rw [Nat.one_mul] at e
    exact e
  · exact Nat.div_eq_of_lt
theorem cr_amt (s : Int64) : ∃ n, n < 64 ∧ s &&& 63 = lN n ∧ (s.toUInt64 &&& Int64.toUInt64 63).toNat % 64 = n := by
  have e : (s.toUInt64 &&& Int64.toUInt64 63).toNat = s.toUInt64.toNat % 2 ^ 6 := by
    rw [UInt64.toNat_and, show (Int64.toUInt64 63).toNat = 2 ^ 6 - 1 from by decide, Nat.and_two_pow_sub_one_eq_mod]
  refine ⟨s.toUInt64.toNat % 2 ^ 6, by omega, ?_, by omega⟩
  rw [← Int64.toBitVec_inj, ← BitVec.toNat_inj]
  show (s.toUInt64 &&& Int64.toUInt64 63).toNat = (BitVec.ofNat 64 (s.toUInt64.toNat % 2 ^ 6)).toNat
  rw [e, BitVec.toNat_ofNat]
  omega
end
section
/-! own rows on bits: sets of blocks and variables as Int32 -/
theorem fb_v {s : Int32} {k : Nat} (hk : k < 32) : (s >>> (nI k &&& 31)) &&& 1 = if bt s k = true then 1 else 0 := by
  apply b_ext
  intro j hj
  rw [b_and]
  by_cases hj0 : j = 0
  · subst hj0
    rw [b_sshr k hk s (by omega), if_pos (by omega), Nat.add_zero]
    rcases Bool.eq_false_or_eq_true (bt s k) with h | h <;> rw [h] <;> decide
  · have h1 : bt 1 j = false := (by decide +kernel : ∀ j, j < 32 → j ≠ 0 → bt 1 j = false) j hj hj0
    rw [h1, Bool.and_false]
    rcases Bool.eq_false_or_eq_true (bt s k) with h | h
    · rw [h, if_pos rfl, h1]
    · rw [h, if_neg (by decide), b_0]
theorem fb_1 {s : Int32} {k : Nat} {A B : Prop} (hk : k < 32) (f : bt s k = true → A) (g : bt s k = false → B) : (((s >>> (nI k &&& 31)) &&& 1) = 1 → A) ∧ (¬ ((s >>> (nI k &&& 31)) &&& 1) = 1 → B) := by
  rw [fb_v hk]
  rcases Bool.eq_false_or_eq_true (bt s k) with h | h
  · exact ⟨fun _ => f h, fun z => absurd (if_pos h) z⟩
  · refine ⟨fun z => ?_, fun _ => g h⟩
    rw [if_neg (by rw [h]; decide)] at z
    exact absurd z (by decide)
theorem fb_0 {s : Int32} {k : Nat} {A B : Prop} (hk : k < 32) (f : bt s k = false → A) (g : bt s k = true → B) : (((s >>> (nI k &&& 31)) &&& 1) = 0 → A) ∧ (¬ ((s >>> (nI k &&& 31)) &&& 1) = 0 → B) := by
  rw [fb_v hk]
  rcases Bool.eq_false_or_eq_true (bt s k) with h | h
  · refine ⟨fun z => ?_, fun _ => g h⟩
    rw [if_pos h] at z
    exact absurd z (by decide)
  · exact ⟨fun _ => f h, fun z => absurd (if_neg (by rw [h]; decide)) z⟩
theorem fb_one : ∀ k, k < 32 → ∀ j, j < 32 → bt ((1 : Int32) <<< (nI k &&& 31)) j = decide (j = k) := by decide +kernel
theorem fb_or1 (s : Int32) {k j : Nat} (hk : k < 32) (hj : j < 32) : bt (s ||| ((1 : Int32) <<< (nI k &&& 31))) j = (bt s j || decide (j = k)) := by
  rw [b_or, fb_one k hk j hj]
theorem fb_nots (s t : Int32) {j : Nat} (hj : j < 32) : bt (s &&& (t ^^^ (-1))) j = (bt s j && !bt t j) := by
  rw [b_and, b_xor, b_m1 j hj, Bool.xor_true]
theorem fb_not1 (s : Int32) {k j : Nat} (hk : k < 32) (hj : j < 32) : bt (s &&& (((1 : Int32) <<< (nI k &&& 31)) ^^^ (-1))) j = (bt s j && !decide (j = k)) := by
  rw [fb_nots s _ hj, fb_one k hk j hj]
theorem fb_m16 (s : Int32) (j : Nat) : bt (s &&& 65535) j = (bt s j && decide (j < 16)) := by
  rw [b_and, b_65535]
theorem fb_s16 (x : Int32) {j : Nat} (hj : j < 16) : bt (x.toInt16.toInt32) j = bt x j := by
  unfold bt
  rw [Int16.toBitVec_toInt32, Int32.toBitVec_toInt16, BitVec.getLsbD_signExtend, BitVec.getLsbD_signExtend, if_pos hj, if_pos (by omega)]
  simp only [hj, show j < 32 by omega, decide_true, Bool.true_and]
theorem fb_s8 (x : Int32) {j : Nat} (hj : j < 8) : bt (x.toInt8.toInt32) j = bt x j := by
  unfold bt
  rw [Int8.toBitVec_toInt32, Int32.toBitVec_toInt8, BitVec.getLsbD_signExtend, BitVec.getLsbD_signExtend, if_pos hj, if_pos (by omega)]
  simp only [hj, show j < 32 by omega, decide_true, Bool.true_and]
theorem fb_id8 {x : Int32} (h : ∀ j, 7 ≤ j → j < 32 → bt x j = false) : x.toInt8.toInt32 = x := by
  apply b_ext
  intro j hj
  rcases Nat.lt_or_ge j 8 with z | z
  · exact fb_s8 x z
  · rw [h j (by omega) hj]
    have h7 := h 7 (by omega) (by omega)
    unfold bt at h7 ⊢
    rw [Int8.toBitVec_toInt32, Int32.toBitVec_toInt8, BitVec.getLsbD_signExtend, if_neg (by omega), BitVec.msb_eq_getLsbD_last, BitVec.getLsbD_signExtend, if_pos (by omega)]
    simp
    intro _
    exact h7
theorem fb_nI8 : ∀ c, c < 128 → (nI c).toInt8.toInt32 = nI c := by decide +kernel
theorem fb_nI16 {c : Nat} (h : c < 32768) : (nI c).toInt16.toInt32 = nI c := by
  apply b_ext
  intro j hj
  have hb : ∀ j, 15 ≤ j → bt (nI c) j = false := by
    intro j hj
    unfold bt
    rw [BitVec.getLsbD, pk_tn (by omega)]
    exact Nat.testBit_lt_two_pow (Nat.lt_of_lt_of_le h (Nat.le_trans (show (32768 : Nat) ≤ 2 ^ 15 by decide) (Nat.pow_le_pow_right (by decide) hj)))
  rcases Nat.lt_or_ge j 16 with z | z
  · exact fb_s16 _ z
  · rw [hb j (by omega)]
    have h7 := hb 15 (by omega)
    unfold bt at h7 ⊢
    rw [Int16.toBitVec_toInt32, Int32.toBitVec_toInt16, BitVec.getLsbD_signExtend, if_neg (by omega), BitVec.msb_eq_getLsbD_last, BitVec.getLsbD_signExtend, if_pos (by omega)]
    simp
    intro _
    exact h7
theorem fb_vb {c : Nat} (h : c < 128) : vp_nar .byte (nI c).toInt8.toInt32 = nI c := by rw [pk_vb, fb_nI8 c h]
theorem fb_vb' {c : Nat} (h : c < 128) : vp_nar .byte (nI c) = nI c := by rw [vp_nar_byte, fb_nI8 c h]
theorem fb_vs {c : Nat} (h : c < 32768) : vp_nar .short (nI c).toInt16.toInt32 = nI c := by rw [pk_vs, fb_nI16 h]
theorem fb_vs' {c : Nat} (h : c < 32768) : vp_nar .short (nI c) = nI c := by rw [vp_nar_short, fb_nI16 h]
theorem fb_vb0 : vp_nar .byte 0 = 0 := by rw [vp_nar_byte]; decide
theorem fb_vs0 : vp_nar .short 0 = 0 := by rw [vp_nar_short]; decide
theorem fb_vbm : vp_nar .byte (-1) = -1 := by rw [vp_nar_byte]; decide
theorem fb_vsm : vp_nar .short (-1) = -1 := by rw [vp_nar_short]; decide
theorem fb_z {s : Int32} (h : ∀ j, j < 32 → bt s j = false) : s = 0 := b_ext (fun j hj => by rw [h j hj, b_0])
theorem fb_nz {s : Int32} {k : Nat} (h : bt s k = true) : s ≠ 0 := fun e => by rw [e, b_0] at h; exact absurd h (by decide)
theorem fb_ex {s : Int32} (h : s ≠ 0) : ∃ k, k < 32 ∧ bt s k = true := by
  refine Classical.byContradiction (fun z => h (fb_z (fun j hj => ?_)))
  rcases Bool.eq_false_or_eq_true (bt s j) with e | e
  · exact absurd ⟨j, hj, e⟩ z
  · exact e
def fb_16 (s : Int32) : Prop := ∀ j, 16 ≤ j → bt s j = false
theorem fb_16m (s : Int32) : fb_16 (s &&& 65535) := fun j hj => by rw [fb_m16, decide_eq_false (by omega), Bool.and_false]
theorem fb_160 : fb_16 0 := fun j _ => b_0 j
theorem fb_161 : fb_16 1 := fun j hj => by
  rcases Nat.lt_or_ge j 32 with h | h
  · exact (by decide +kernel : ∀ j, j < 32 → 16 ≤ j → bt 1 j = false) j h hj
  · exact b_big h
theorem fb_lt16 {s : Int32} {k : Nat} (h : fb_16 s) (hb : bt s k = true) : k < 16 := by
  rcases Nat.lt_or_ge k 16 with z | z
  · exact z
  · rw [h k z] at hb; exact absurd hb (by decide)
/-! the lowest bit -/
theorem fb_toN (x : Int32) (j : Nat) : bt x j = x.toBitVec.toNat.testBit j := rfl
theorem fb_cl {s : Int32} {k : Nat} (hk : k < 32) (h : bt s k = true) (hl : ∀ j, j < k → bt s j = false) : (∀ j, j < 32 → bt (s &&& (s - 1)) j = (bt s j && !decide (j = k))) ∧ (s &&& (s - 1)).toBitVec.toNat < s.toBitVec.toNat := by
  have ha := s.toBitVec.isLt
  have hne : s.toBitVec.toNat ≠ 0 := by
    intro e
    rw [fb_toN, e, Nat.zero_testBit] at h
    exact absurd h (by decide)
  have es : (s - 1).toBitVec.toNat = s.toBitVec.toNat - 1 := by
    rw [Int32.toBitVec_sub, BitVec.toNat_sub, show (1 : Int32).toBitVec.toNat = 1 from rfl]
    omega
  have hm : s.toBitVec.toNat % 2 ^ (k + 1) = 2 ^ k := by
    apply Nat.eq_of_testBit_eq
    intro i
    rw [Nat.testBit_mod_two_pow, Nat.testBit_two_pow]
    rcases Nat.lt_trichotomy i k with z | z | z
    · rw [← fb_toN, hl i z, Bool.and_false, decide_eq_false (by omega)]
    · rw [z, ← fb_toN, h, decide_eq_true (by omega), decide_eq_true rfl]; rfl
    · rw [decide_eq_false (by omega : ¬ i < k + 1), Bool.false_and, decide_eq_false (by omega)]
  have hd : s.toBitVec.toNat = 2 ^ (k + 1) * (s.toBitVec.toNat / 2 ^ (k + 1)) + 2 ^ k := by
    have := Nat.div_add_mod s.toBitVec.toNat (2 ^ (k + 1))
    rw [hm] at this
    exact this.symm
  have hp : 0 < 2 ^ k := Nat.two_pow_pos k
  have h2 : 2 ^ k < 2 ^ (k + 1) := Nat.pow_lt_pow_right (by decide) (Nat.lt_succ_self k)
  constructor
  · intro j hj
    rw [b_and]
    have e1 : bt (s - 1) j = if j < k + 1 then (2 ^ k - 1).testBit j else (s.toBitVec.toNat / 2 ^ (k + 1)).testBit (j - (k + 1)) := by
      rw [fb_toN, es, ← Nat.testBit_two_pow_mul_add _ (by omega : 2 ^ k - 1 < 2 ^ (k + 1))]
      congr 1
      omega
    have e2 : bt s j = if j < k + 1 then (2 ^ k).testBit j else (s.toBitVec.toNat / 2 ^ (k + 1)).testBit (j - (k + 1)) := by
      rw [fb_toN, ← Nat.testBit_two_pow_mul_add _ h2, ← hd]
    rcases Nat.lt_trichotomy j k with z | z | z
    · rw [hl j z, Bool.false_and, Bool.false_and]
    · rw [e1, if_pos (by omega), Nat.testBit_two_pow_sub_one, decide_eq_false (by omega : ¬ j < k), decide_eq_true z, Bool.and_false, Bool.not_true, Bool.and_false]
    · rw [e1, e2, if_neg (by omega), if_neg (by omega), decide_eq_false (by omega : ¬ j = k), Bool.and_self, Bool.not_false, Bool.and_true]
  · rw [Int32.toBitVec_and, BitVec.toNat_and, es]
    exact Nat.lt_of_le_of_lt Nat.and_le_right (by omega)
theorem fb_low {post : Int32 → Prop} {s : Int32} {k : Nat} (h : bt s k = true) (hk : k < 32) (hl : ∀ j, j < k → bt s j = false) (K : post (nI k)) : wpX_lowest post s := by
  have key : ∀ d i, i + d = k → wX_lowest_2 post s (d + 1) (nI i) := by
    intro d
    induction d with
    | zero =>
      intro i hi
      have e : i = k := by omega
      subst e
      rw [wX_lowest_2]
      exact fb_0 hk (fun z => by rw [h] at z; exact absurd z (by decide)) (fun _ => K)
    | succ d ih =>
      intro i hi
      rw [wX_lowest_2]
      refine fb_0 (by omega) (fun _ => nm_r (nI_1 i) (ih (i + 1) (by omega))) (fun z => ?_)
      rw [hl i (by omega)] at z
      exact absurd z (by decide)
  exact ⟨k + 1, key k 0 (by omega)⟩
theorem fb_step {s : Int32} (hs : s ≠ 0) (h16 : fb_16 s) : ∃ k, k < 16 ∧ bt s k = true ∧ (∀ j, bt (s &&& (s - 1)) j = (bt s j && !decide (j = k))) ∧ (s &&& (s - 1)).toBitVec.toNat < s.toBitVec.toNat ∧ fb_16 (s &&& (s - 1)) ∧ ∀ post : Int32 → Prop, post (nI k) → wpX_lowest post s := by
  obtain ⟨k0, hk0, hb0⟩ := fb_ex hs
  obtain ⟨k, hb, hl⟩ := pk_least (fun k => bt s k = true) ⟨k0, hb0⟩
  have hk := fb_lt16 h16 hb
  have hl' : ∀ j, j < k → bt s j = false := fun j hj => ts_nt (hl j hj)
  obtain ⟨c1, c2⟩ := fb_cl (by omega) hb hl'
  have c3 : ∀ j, bt (s &&& (s - 1)) j = (bt s j && !decide (j = k)) := by
    intro j
    rcases Nat.lt_or_ge j 32 with z | z
    · exact c1 j z
    · rw [b_big z, b_big z, Bool.false_and]
  refine ⟨k, hk, hb, c3, c2, fun j hj => ?_, fun post K => fb_low hb (by omega) hl' K⟩
  rw [c3 j, h16 j hj, Bool.false_and]
/-! Int64 as a set -/
def fl_b (x : Int64) (i : Nat) : Bool := x.toBitVec.getLsbD i
theorem fl_ext {x y : Int64} (h : ∀ i, i < 64 → fl_b x i = fl_b y i) : x = y := Int64.toBitVec_inj.mp (BitVec.eq_of_getLsbD_eq (fun i hi => h i hi))
theorem fl_or (x y : Int64) (i : Nat) : fl_b (x ||| y) i = (fl_b x i || fl_b y i) := by unfold fl_b; rw [Int64.toBitVec_or, BitVec.getLsbD_or]
theorem fl_and (x y : Int64) (i : Nat) : fl_b (x &&& y) i = (fl_b x i && fl_b y i) := by unfold fl_b; rw [Int64.toBitVec_and, BitVec.getLsbD_and]
theorem fl_0 (i : Nat) : fl_b 0 i = false := BitVec.getLsbD_zero
theorem fl_sl : ∀ n, n < 64 → (((nI n).toInt64 &&& 63).toBitVec.smod 64).toNat = n := by decide +kernel
theorem fl_sshr (n : Nat) (hn : n < 64) (x : Int64) {i : Nat} (hi : i < 64) : fl_b (x >>> ((nI n).toInt64 &&& 63)) i = if n + i < 64 then fl_b x (n + i) else fl_b x 63 := by
  unfold fl_b
  rw [Int64.toBitVec_shiftRight]
  show (x.toBitVec.sshiftRight (((nI n).toInt64 &&& 63).toBitVec.smod 64).toNat).getLsbD i = _
  rw [fl_sl n hn, BitVec.getLsbD_sshiftRight, BitVec.msb_eq_getLsbD_last]
  simp [hi]
theorem fl_1b : ∀ j, j < 64 → fl_b 1 j = decide (j = 0) := by decide +kernel
theorem fl_v {s : Int64} {k : Nat} (hk : k < 64) : (s >>> ((nI k).toInt64 &&& 63)) &&& 1 = if fl_b s k = true then 1 else 0 := by
  apply fl_ext
  intro j hj
  rw [fl_and, fl_1b j hj]
  by_cases hj0 : j = 0
  · subst hj0
    rw [fl_sshr k hk s (by omega), if_pos (by omega), Nat.add_zero]
    rcases Bool.eq_false_or_eq_true (fl_b s k) with h | h <;> rw [h] <;> decide
  · rw [decide_eq_false hj0, Bool.and_false]
    rcases Bool.eq_false_or_eq_true (fl_b s k) with h | h
    · rw [h, if_pos rfl, fl_1b j hj, decide_eq_false hj0]
    · rw [h, if_neg (by decide), fl_0]
theorem fl_1 {s : Int64} {k : Nat} {A B : Prop} (hk : k < 64) (f : fl_b s k = true → A) (g : fl_b s k = false → B) : (((s >>> ((nI k).toInt64 &&& 63)) &&& 1) = 1 → A) ∧ (¬ ((s >>> ((nI k).toInt64 &&& 63)) &&& 1) = 1 → B) := by
  rw [fl_v hk]
  rcases Bool.eq_false_or_eq_true (fl_b s k) with h | h
  · exact ⟨fun _ => f h, fun z => absurd (if_pos h) z⟩
  · refine ⟨fun z => ?_, fun _ => g h⟩
    rw [if_neg (by rw [h]; decide)] at z
    exact absurd z (by decide)
theorem fl_one : ∀ k, k < 64 → ∀ j, j < 64 → fl_b ((1 : Int64) <<< ((nI k).toInt64 &&& 63)) j = decide (j = k) := by decide +kernel
theorem fl_or1 (s : Int64) {k j : Nat} (hk : k < 64) (hj : j < 64) : fl_b (s ||| ((1 : Int64) <<< ((nI k).toInt64 &&& 63))) j = (fl_b s j || decide (j = k)) := by
  rw [fl_or, fl_one k hk j hj]
/-! numbers -/
theorem fn_4 (a : Nat) : 4 * nI a = nI (4 * a) := pk_mul 4 a
theorem fn_6 (a : Nat) : 6 * nI a = nI (6 * a) := pk_mul 6 a
theorem fn_2 (a : Nat) : 2 * nI a = nI (2 * a) := pk_mul 2 a
theorem fn_62 (a b : Nat) : 6 * nI a + nI b = nI (6 * a + b) := by rw [fn_6, nI_add]
theorem fn_42 (a b : Nat) : 4 * nI a + nI b = nI (4 * a + b) := by rw [fn_4, nI_add]
theorem fn_22 (a b : Nat) : 2 * nI a + nI b = nI (2 * a + b) := by rw [fn_2, nI_add]
theorem fn_21 (a : Nat) : 2 * nI a + 1 = nI (2 * a + 1) := by rw [fn_2, nI_1]
theorem fn_20 (a : Nat) : 2 * nI a + 0 = nI (2 * a + 0) := by rw [fn_2, Int32.add_zero]; rfl
theorem fn_c {a : Nat} (h : a < 1000) : (nI a).toNatClampNeg = a := nI_clamp (by omega)
theorem fn_m1lt {a : Nat} (h : a < 2 ^ 31) : ¬ nI a < 0 := nI_pos h
theorem fn_m1 : (-1 : Int32) < 0 := by decide
theorem fn_m1' : ¬ (0 : Int32) ≤ -1 := by decide
theorem fn_0le {a : Nat} (h : a < 2 ^ 31) : (0 : Int32) ≤ nI a := nI_pos' h
theorem fn_ne {a : Nat} (h : a < 2 ^ 31) : nI a ≠ -1 := fun e => nI_pos h (by rw [e]; decide)
theorem fn_inj {a b : Nat} (ha : a < 2 ^ 31) (hb : b < 2 ^ 31) (h : nI a = nI b) : a = b := (nI_eq ha hb).mp h
theorem fn_up {f : Nat → Int32} {k j : Nat} {x : Int32} : upd f k x j = if j = k then x else f j := rfl
theorem fn_upL {f : Nat → Int64} {k j : Nat} {x : Int64} : vp_updL f k x j = if j = k then x else f j := rfl
/-! sums -/
def sg_s (f : Nat → Nat) : Nat → Nat
  | 0 => 0
  | n + 1 => sg_s f n + f n
theorem sg_le {f g : Nat → Nat} {n : Nat} (h : ∀ i, i < n → f i ≤ g i) : sg_s f n ≤ sg_s g n := by
  induction n with
  | zero => exact Nat.le_refl _
  | succ n ih =>
    have h1 := ih (fun i hi => h i (by omega))
    have h2 := h n (by omega)
    show sg_s f n + f n ≤ sg_s g n + g n
    omega
theorem sg_eq {f g : Nat → Nat} {n : Nat} (h : ∀ i, i < n → f i = g i) : sg_s f n = sg_s g n :=
  Nat.le_antisymm (sg_le (fun i hi => Nat.le_of_eq (h i hi))) (sg_le (fun i hi => Nat.le_of_eq (h i hi).symm))
theorem sg_up {f g : Nat → Nat} {n k : Nat} (hk : k < n) (h : ∀ i, i < n → i ≠ k → f i = g i) : sg_s f n + g k = sg_s g n + f k := by
  induction n with
  | zero => omega
  | succ n ih =>
    show sg_s f n + f n + g k = sg_s g n + g n + f k
    by_cases e : k = n
    · subst e
      have := sg_eq (f := f) (g := g) (n := k) (fun i hi => h i (by omega) (by omega))
      omega
    · have h1 := ih (by omega) (fun i hi => h i (by omega))
      have h2 := h n (by omega) (fun z => e z.symm)
      omega
theorem sg_b {f : Nat → Nat} {n c : Nat} (h : ∀ i, i < n → f i ≤ c) : sg_s f n ≤ c * n := by
  induction n with
  | zero => exact Nat.zero_le _
  | succ n ih =>
    have h1 := ih (fun i hi => h i (by omega))
    have h2 := h n (by omega)
    show sg_s f n + f n ≤ c * (n + 1)
    rw [Nat.mul_succ]
    omega
theorem sg_0 {f : Nat → Nat} {n : Nat} (h : ∀ i, i < n → f i = 0) : sg_s f n = 0 := by
  have := sg_b (f := f) (n := n) (c := 0) (fun i hi => by rw [h i hi]; exact Nat.le_refl _)
  omega
/-! a truth value as a number -/
noncomputable def b01 (p : Prop) : Nat := @ite Nat p (Classical.propDecidable p) 1 0
theorem b01_t {p : Prop} (h : p) : b01 p = 1 := if_pos h
theorem b01_f {p : Prop} (h : ¬ p) : b01 p = 0 := if_neg h
theorem b01_i {p q : Prop} (h : p ↔ q) : b01 p = b01 q := by rw [propext h]
theorem b01_1 (p : Prop) : b01 p ≤ 1 := by
  by_cases h : p
  · rw [b01_t h]; exact Nat.le_refl _
  · rw [b01_f h]; omega
end
section
/-! the program as numbers: n, k, many, kind, asks, target, op, a, d, b -/
abbrev gr_T : Type := Nat × Nat × (Nat → Nat) × (Nat → Nat) × (Nat → Nat) × (Nat → Nat) × (Nat → Nat) × (Nat → Int32) × (Nat → Nat) × (Nat → Nat)
def gr_n (G : gr_T) : Nat := G.1
def gr_k (G : gr_T) : Nat := G.2.1
def gr_mn (G : gr_T) : Nat → Nat := G.2.2.1
def gr_kd (G : gr_T) : Nat → Nat := G.2.2.2.1
def gr_ak (G : gr_T) : Nat → Nat := G.2.2.2.2.1
def gr_tg (G : gr_T) : Nat → Nat := G.2.2.2.2.2.1
def gr_op (G : gr_T) : Nat → Nat := G.2.2.2.2.2.2.1
def gr_aa (G : gr_T) : Nat → Int32 := G.2.2.2.2.2.2.2.1
def gr_dd (G : gr_T) : Nat → Nat := G.2.2.2.2.2.2.2.2.1
def gr_bb (G : gr_T) : Nat → Nat := G.2.2.2.2.2.2.2.2.2
def gr_av (G : gr_T) (i : Nat) : Nat := (gr_aa G i).toNatClampNeg
def gr_okI (G : gr_T) (i : Nat) : Prop := gr_op G i < 8 ∧ gr_dd G i < 6 ∧ gr_bb G i < 6 ∧ (gr_op G i ≠ 0 → gr_op G i ≠ 7 → gr_aa G i = nI (gr_av G i) ∧ gr_av G i < 6)
def gr_okB (G : gr_T) (x : Nat) : Prop := gr_mn G x ≤ 4 ∧ gr_kd G x < 3 ∧ gr_ak G x < 6 ∧ (∀ j, j < gr_kd G x → 1 ≤ gr_tg G (2 * x + j) ∧ gr_tg G (2 * x + j) < gr_n G) ∧ (∀ i, i < gr_mn G x → gr_okI G (4 * x + i))
def gr_ok (G : gr_T) : Prop := gr_n G ≤ 16 ∧ gr_k G < 4 ∧ ∀ x, x < gr_n G → gr_okB G x
/-- an edge -/
def gr_E (G : gr_T) (x y : Nat) : Prop := x < gr_n G ∧ ∃ j, j < gr_kd G x ∧ gr_tg G (2 * x + j) = y
/-- rows of edges from s to t through P alone -/
def gr_R (G : gr_T) (P : Nat → Prop) (s t : Nat) : Prop := ∀ S : Nat → Prop, (P s → S s) → (∀ a b, S a → gr_E G a b → P b → S b) → S t
section
variable {G : gr_T} {P Q : Nat → Prop} {s t a b x y : Nat}
theorem gr_Rrefl (h : P s) : gr_R G P s s := fun _ h0 _ => h0 h
theorem gr_Rstep (h : gr_R G P s a) (e : gr_E G a b) (p : P b) : gr_R G P s b := fun S h0 hs => hs a b (h S h0 hs) e p
theorem gr_RP (hs : P s → P s) (h : gr_R G P s t) : P t := h (fun y => P y) hs (fun _ _ _ _ pb => pb)
theorem gr_RPs (h : gr_R G P s t) : P s := h (fun _ => P s) (fun z => z) (fun _ _ z _ _ => z)
theorem gr_Rt (h1 : gr_R G P s a) (h2 : gr_R G P a b) : gr_R G P s b := h2 (fun y => gr_R G P s y) (fun _ => h1) (fun _ _ ha e p => gr_Rstep ha e p)
theorem gr_Rm (hPQ : ∀ x, P x → Q x) (h : gr_R G P s t) : gr_R G Q s t := h (fun y => gr_R G Q s y) (fun p => gr_Rrefl (hPQ s p)) (fun _ _ ha e p => gr_Rstep ha e (hPQ _ p))
theorem gr_Rhead (e : gr_E G a b) (pa : P a) (h : gr_R G P b t) : gr_R G P a t := gr_Rt (gr_Rstep (gr_Rrefl pa) e (gr_RPs h)) h
end
/-- met -/
def gr_M (G : gr_T) (x : Nat) : Prop := 0 < gr_n G ∧ gr_R G (fun _ => True) 0 x
/-- dominates -/
def gr_D (G : gr_T) (a b : Nat) : Prop := gr_M G a ∧ gr_M G b ∧ ¬ gr_R G (fun y => y ≠ a) 0 b
/-- sets a variable -/
def gr_st (G : gr_T) (x v : Nat) : Prop := ∃ i, i < gr_mn G x ∧ gr_dd G (4 * x + i) = v
/-- the frontier of u -/
def gr_F (G : gr_T) (u y : Nat) : Prop := (∃ x, gr_D G u x ∧ gr_E G x y) ∧ ¬ (y ≠ u ∧ gr_D G u y)
/-- the merges of v -/
def gr_J (G : gr_T) (v y : Nat) : Prop := ∀ S : Nat → Prop, (∀ x y, (x = 0 ∨ gr_st G x v ∨ S x) → gr_F G x y → S y) → S y
section
variable {G : gr_T} {a b x y p v : Nat}
theorem gr_M0 (h : 0 < gr_n G) : gr_M G 0 := ⟨h, gr_Rrefl trivial⟩
theorem gr_Ms (h : gr_M G a) (e : gr_E G a b) : gr_M G b := ⟨h.1, gr_Rstep h.2 e trivial⟩
theorem gr_Elt (ok : gr_ok G) (e : gr_E G a b) : a < gr_n G ∧ b < gr_n G ∧ 1 ≤ b := by
  obtain ⟨h, j, hj, rfl⟩ := e
  have := (ok.2.2 a h).2.2.2.1 j hj
  exact ⟨h, this.2, this.1⟩
theorem gr_Mlt (ok : gr_ok G) (h : gr_M G x) : x < gr_n G := h.2 (fun y => y < gr_n G) (fun _ => h.1) (fun _ _ _ e _ => (gr_Elt ok e).2.1)
theorem gr_Mind {S : Nat → Prop} (h : gr_M G x) (h0 : S 0) (hs : ∀ a b, gr_M G a → S a → gr_E G a b → S b) : S x :=
  (h.2 (fun y => gr_M G y ∧ S y) (fun _ => ⟨gr_M0 h.1, h0⟩) (fun a b ha e _ => ⟨gr_Ms ha.1 e, hs a b ha.1 ha.2 e⟩)).2
theorem gr_Drefl (h : gr_M G a) : gr_D G a a := ⟨h, h, fun z => gr_RP (P := fun y => y ≠ a) (fun q => q) z rfl⟩
theorem gr_D0 (h : gr_M G b) : gr_D G 0 b := ⟨gr_M0 h.1, h, fun z => gr_RPs z rfl⟩
theorem gr_Dp (h : gr_D G a b) (hne : a ≠ b) (hp : gr_M G p) (e : gr_E G p b) : gr_D G a p := ⟨h.1, hp, fun z => h.2.2 (gr_Rstep z e (fun q => hne q.symm))⟩
theorem gr_Dz (h : gr_D G a 0) : a = 0 := Classical.byContradiction (fun z => h.2.2 (gr_Rrefl (fun q => z q.symm)))
theorem gr_Js (h : x = 0 ∨ gr_st G x v ∨ gr_J G v x) (hf : gr_F G x y) : gr_J G v y := fun S hS => hS x y (h.elim Or.inl (fun z => Or.inr (z.elim Or.inl (fun w => Or.inr (w S hS))))) hf
end
/-! the order -/
def or_ok (G : gr_T) (m : Nat) (ord pl : Nat → Nat) : Prop :=
  m ≤ gr_n G ∧ (0 < gr_n G → 0 < m ∧ ord 0 = 0) ∧ (∀ k, k < m → ord k < gr_n G ∧ pl (ord k) = k) ∧
  (∀ k, k < m → 0 < k → ∃ j, j < k ∧ gr_E G (ord j) (ord k)) ∧ (∀ k, k < m → ∀ y, gr_E G (ord k) y → ∃ j, j < m ∧ ord j = y)
section
variable {G : gr_T} {m : Nat} {ord pl : Nat → Nat} {x k a b : Nat}
theorem or_M (O : or_ok G m ord pl) (ok : gr_ok G) (h : gr_M G x) : pl x < m ∧ ord (pl x) = x := by
  have : ∃ k, k < m ∧ ord k = x := gr_Mind (S := fun x => ∃ k, k < m ∧ ord k = x) h ⟨0, O.2.1 h.1⟩ (fun a b _ ha e => by
    obtain ⟨k, hk, rfl⟩ := ha
    exact O.2.2.2.2 k hk b e)
  obtain ⟨k, hk, rfl⟩ := this
  rw [(O.2.2.1 k hk).2]
  exact ⟨hk, rfl⟩
theorem or_m (O : or_ok G m ord pl) : ∀ k, k < m → gr_M G (ord k) := by
  intro k
  induction k using Nat.strongRecOn with
  | ind k ih =>
    intro hk
    rcases Nat.eq_zero_or_pos k with e | e
    · subst e
      have hn : 0 < gr_n G := Nat.lt_of_lt_of_le hk O.1
      rw [(O.2.1 hn).2]
      exact gr_M0 hn
    · obtain ⟨j, hj, he⟩ := O.2.2.2.1 k hk e
      exact gr_Ms (ih j hj (by omega)) he
theorem or_0 (O : or_ok G m ord pl) (hn : 0 < gr_n G) : pl 0 = 0 := by
  have h := O.2.1 hn
  have := (O.2.2.1 0 h.1).2
  rw [h.2] at this
  exact this
theorem or_inj (O : or_ok G m ord pl) (ok : gr_ok G) (ha : gr_M G a) (hb : gr_M G b) (h : pl a = pl b) : a = b := by
  rw [← (or_M O ok ha).2, ← (or_M O ok hb).2, h]
theorem or_pos (O : or_ok G m ord pl) (ok : gr_ok G) (ha : gr_M G a) (h : a ≠ 0) : 0 < pl a := by
  rcases Nat.eq_zero_or_pos (pl a) with e | e
  · exact absurd (or_inj O ok ha (gr_M0 ha.1) (e.trans (or_0 O ha.1).symm)) h
  · exact e
/-- a block before it, of a smaller place -/
theorem or_pred (O : or_ok G m ord pl) (ok : gr_ok G) (ha : gr_M G a) (h : a ≠ 0) : ∃ p, gr_M G p ∧ gr_E G p a ∧ pl p < pl a := by
  have hp := or_pos O ok ha h
  have hm := or_M O ok ha
  obtain ⟨j, hj, e⟩ := O.2.2.2.1 (pl a) hm.1 hp
  rw [hm.2] at e
  exact ⟨ord j, or_m O j (by omega), e, by rw [(O.2.2.1 j (by omega)).2]; exact hj⟩
end
/-! forward rows of edges -/
def fw_R (G : gr_T) (pl : Nat → Nat) (a b : Nat) : Prop := ∀ S : Nat → Prop, S a → (∀ u w, S u → gr_E G u w → pl u < pl w → S w) → S b
section
variable {G : gr_T} {pl : Nat → Nat} {a b c : Nat}
theorem fw_refl : fw_R G pl a a := fun _ h _ => h
theorem fw_step (h : fw_R G pl a b) (e : gr_E G b c) (l : pl b < pl c) : fw_R G pl a c := fun S ha hs => hs b c (h S ha hs) e l
theorem fw_t (h1 : fw_R G pl a b) (h2 : fw_R G pl b c) : fw_R G pl a c := fun S ha hs => h2 S (h1 S ha hs) hs
theorem fw_M (h : fw_R G pl a b) (ha : gr_M G a) : gr_M G b := h (fun y => gr_M G y) ha (fun _ _ hu e _ => gr_Ms hu e)
theorem fw_le (h : fw_R G pl a b) : pl a ≤ pl b := h (fun y => pl a ≤ pl y) (Nat.le_refl _) (fun _ _ hu _ l => Nat.le_trans hu (Nat.le_of_lt l))
theorem fw_inv (h : fw_R G pl a b) : b = a ∨ ∃ c, fw_R G pl a c ∧ gr_E G c b ∧ pl c < pl b :=
  h (fun y => y = a ∨ ∃ c, fw_R G pl a c ∧ gr_E G c y ∧ pl c < pl y) (Or.inl rfl) (fun u w hu e l => by
    refine Or.inr ⟨u, ?_, e, l⟩
    rcases hu with rfl | ⟨c, hc, ec, lc⟩
    · exact fw_refl
    · exact fw_step hc ec lc)
end
/-! a tree by parents -/
def tr_A (P : Nat → Option Nat) (a x : Nat) : Prop := ∀ S : Nat → Prop, S x → (∀ y p, S y → P y = some p → S p) → S a
section
variable {P : Nat → Option Nat} {a b c x p : Nat}
theorem tr_refl : tr_A P x x := fun _ h _ => h
theorem tr_step (h : P x = some p) (ha : tr_A P a p) : tr_A P a x := fun S hx hs => ha S (hs x p hx h) hs
theorem tr_up (ha : tr_A P a x) (h : P a = some p) : tr_A P p x := fun S hx hs => hs a p (ha S hx hs) h
theorem tr_t (h1 : tr_A P a b) (h2 : tr_A P b c) : tr_A P a c := fun S hc hs => h1 S (h2 S hc hs) hs
theorem tr_inv (h : tr_A P a x) : a = x ∨ ∃ p, P x = some p ∧ tr_A P a p :=
  h (fun y => y = x ∨ ∃ p, P x = some p ∧ tr_A P y p) (Or.inl rfl) (fun y p hy hp => by
    rcases hy with rfl | ⟨q, hq, hA⟩
    · exact Or.inr ⟨p, hp, tr_refl⟩
    · exact Or.inr ⟨q, hq, tr_up hA hp⟩)
theorem tr_lin (ha : tr_A P a x) (hb : tr_A P b x) : tr_A P b a ∨ tr_A P a b :=
  ha (fun y => tr_A P b y ∨ tr_A P y b) (Or.inl hb) (fun y p hy hp => by
    rcases hy with h | h
    · rcases tr_inv h with e | ⟨q, hq, hA⟩
      · subst e
        exact Or.inr (tr_up tr_refl hp)
      · rw [hp] at hq
        cases hq
        exact Or.inl hA
    · exact Or.inr (tr_up h hp))
end
def tr_pr (P : Nat → Option Nat) (x : Nat) : Prop := x = 0 ∨ P x ≠ none
def tr_ok (G : gr_T) (pl : Nat → Nat) (P : Nat → Option Nat) : Prop :=
  P 0 = none ∧ ∀ x p, P x = some p → gr_M G x ∧ gr_M G p ∧ pl p < pl x ∧ tr_pr P p ∧ fw_R G pl p x
section
variable {G : gr_T} {pl : Nat → Nat} {P : Nat → Option Nat} {a b x z : Nat}
theorem tr_pl (h : tr_ok G pl P) (ha : tr_A P a x) : pl a ≤ pl x :=
  ha (fun y => pl y ≤ pl x) (Nat.le_refl _) (fun y p hy hp => Nat.le_trans (Nat.le_of_lt (h.2 y p hp).2.2.1) hy)
theorem tr_plt (h : tr_ok G pl P) (ha : tr_A P a x) (hne : a ≠ x) : pl a < pl x := by
  rcases tr_inv ha with e | ⟨p, hp, hA⟩
  · exact absurd e hne
  · have h1 := tr_pl h hA
    have h2 := (h.2 x p hp).2.2.1
    omega
theorem tr_met (h : tr_ok G pl P) (ha : tr_A P a x) (hx : gr_M G x) : gr_M G a := ha (fun y => gr_M G y) hx (fun y p _ hp => (h.2 y p hp).2.1)
theorem tr_fw (h : tr_ok G pl P) (ha : tr_A P a x) : fw_R G pl a x := ha (fun y => fw_R G pl y x) fw_refl (fun y p hy hp => fw_t (h.2 y p hp).2.2.2.2 hy)
theorem tr_prA (h : tr_ok G pl P) (ha : tr_A P a x) (hx : tr_pr P x) : tr_pr P a := ha (fun y => tr_pr P y) hx (fun y p _ hp => (h.2 y p hp).2.2.2.1)
theorem tr_lt (h : tr_ok G pl P) (ha : tr_A P a x) (hb : tr_A P b x) (hl : pl a ≤ pl b) (hne : a ≠ b) : tr_A P a b := by
  rcases tr_lin ha hb with z | z
  · have := tr_plt h z (fun e => hne e.symm)
    omega
  · exact z
end
/-- P is kept at the places below k in this round -/
def tr_FE (G : gr_T) (ord pl : Nat → Nat) (P : Nat → Option Nat) (k : Nat) : Prop := ∀ j, 0 < j → j < k → ∀ a, gr_E G a (ord j) → gr_M G a → pl a < j → ∀ z, tr_A P z (ord j) → z = ord j ∨ tr_A P z a
def tr_T2 (G : gr_T) (P : Nat → Option Nat) : Prop := ∀ a x, tr_pr P x → gr_D G a x → tr_A P a x
def tr_UB (G : gr_T) (pl : Nat → Nat) (P : Nat → Option Nat) : Prop := ∀ x q, P x = some q → ∀ z, (∀ p, gr_E G p x → gr_M G p → tr_pr P p → tr_A P z p) → pl z ≤ pl q
def tr_I (G : gr_T) (ord pl : Nat → Nat) (P : Nat → Option Nat) (k : Nat) : Prop :=
  tr_ok G pl P ∧ tr_T2 G P ∧ tr_UB G pl P ∧ tr_FE G ord pl P k ∧ ∀ j, 0 < j → j < k → P (ord j) ≠ none
/-- r is where the ways up from all blocks before x meet -/
def tr_N (G : gr_T) (P : Nat → Option Nat) (x r : Nat) : Prop := (∀ p, gr_E G p x → gr_M G p → tr_pr P p → tr_A P r p) ∧ ∀ z, (∀ p, gr_E G p x → gr_M G p → tr_pr P p → tr_A P z p) → tr_A P z r
def tr_u (P : Nat → Option Nat) (x r : Nat) : Nat → Option Nat := fun y => if y = x then some r else P y
theorem tr_us {P : Nat → Option Nat} {x r : Nat} : tr_u P x r x = some r := if_pos rfl
theorem tr_un {P : Nat → Option Nat} {x r y : Nat} (h : y ≠ x) : tr_u P x r y = P y := if_neg h
section
variable {G : gr_T} {m : Nat} {ord pl : Nat → Nat} {P : Nat → Option Nat} {k x r : Nat}
theorem tr_prk (O : or_ok G m ord pl) (ok : gr_ok G) (I : tr_I G ord pl P k) {a : Nat} (ha : gr_M G a) (hl : pl a < k) : tr_pr P a := by
  by_cases e : a = 0
  · exact Or.inl e
  · have h0 := or_pos O ok ha e
    have := I.2.2.2.2 (pl a) h0 hl
    rw [(or_M O ok ha).2] at this
    exact Or.inr this
theorem tr_fe (O : or_ok G m ord pl) (ok : gr_ok G) (I : tr_I G ord pl P k) {q a z : Nat} (hq : gr_M G q) (hf : fw_R G pl q a) (ha : pl a < k) (hz : tr_A P z a) (hzq : pl z ≤ pl q) : tr_A P z q := by
  have := hf (fun w => gr_M G w ∧ pl q ≤ pl w ∧ (pl w < k → tr_A P z w → tr_A P z q)) ⟨hq, Nat.le_refl _, fun _ h => h⟩ (fun u w hu e l => by
    refine ⟨gr_Ms hu.1 e, by omega, fun hw hzw => ?_⟩
    have hMw := gr_Ms hu.1 e
    have e1 := (or_M O ok hMw).2
    have := I.2.2.2.1 (pl w) (by omega) hw u (by rw [e1]; exact e) hu.1 l z (by rw [e1]; exact hzw)
    rw [e1] at this
    rcases this with h | h
    · subst h
      have := hu.2.1
      omega
    · exact hu.2.2 (by omega) h)
  exact this.2.2 ha hz
theorem tr_dp (O : or_ok G m ord pl) (ok : gr_ok G) (I : tr_I G ord pl P k) (hk0 : 0 < k) (hk : k < m) (hN : tr_N G P (ord k) r) : gr_M G r ∧ pl r < k ∧ tr_pr P r ∧ fw_R G pl r (ord k) := by
  obtain ⟨j, hj, e⟩ := O.2.2.2.1 k hk hk0
  have hM := or_m O j (by omega)
  have hpj := (O.2.2.1 j (by omega)).2
  have hpk := (O.2.2.1 k hk).2
  have hpr := tr_prk O ok I hM (by omega)
  have hA := hN.1 _ e hM hpr
  have h1 := tr_pl I.1 hA
  refine ⟨tr_met I.1 hA hM, by omega, tr_prA I.1 hA hpr, fw_step (tr_fw I.1 hA) e (by omega)⟩
/-- where a block has a parent already, the new one is above it -/
theorem tr_mono (O : or_ok G m ord pl) (ok : gr_ok G) (I : tr_I G ord pl P k) (hk : k < m) (hN : tr_N G P (ord k) r) {q : Nat} (hq : P (ord k) = some q) : tr_A P r q := by
  have hpk := (O.2.2.1 k hk).2
  have hx := I.1.2 _ q hq
  have hub := I.2.2.1 _ q hq r hN.1
  rcases fw_inv hx.2.2.2.2 with e | ⟨c, hc, ec, lc⟩
  · rw [← e] at hx
    omega
  · have hMc := fw_M hc hx.2.1
    have hpr := tr_prk O ok I hMc (by omega)
    exact tr_fe O ok I hx.2.1 hc (by omega) (hN.1 c ec hMc hpr) hub
theorem tr_low (hok : tr_ok G pl P) {a y : Nat} (hl : pl y < pl x) (h : tr_A P a y) : tr_A (tr_u P x r) a y :=
  (h (fun w => tr_A (tr_u P x r) w y ∧ pl w < pl x) ⟨tr_refl, hl⟩ (fun w p hw hp => by
    have hp' := (hok.2 w p hp).2.2.1
    have hne : w ≠ x := fun e => by rw [e] at hw; omega
    exact ⟨tr_up hw.1 (by rw [tr_un hne]; exact hp), by omega⟩)).1
theorem tr_shrA {q : Nat} (hq : P x = some q) (hr : tr_A P r q) {a y : Nat} (h : tr_A (tr_u P x r) a y) : tr_A P a y :=
  h (fun w => tr_A P w y) tr_refl (fun w p hw hp => by
    by_cases e : w = x
    · subst e
      rw [tr_us] at hp
      cases hp
      exact tr_t hr (tr_t (tr_step hq tr_refl) hw)
    · rw [tr_un e] at hp
      exact tr_up hw hp)
theorem tr_shrB (hok : tr_ok G pl P) (hx0 : x ≠ 0) (hn : P x = none) {a y : Nat} (hy : y ≠ x) (h : tr_A (tr_u P x r) a y) : tr_A P a y :=
  (h (fun w => tr_A P w y ∧ w ≠ x) ⟨tr_refl, hy⟩ (fun w p hw hp => by
    rw [tr_un hw.2] at hp
    refine ⟨tr_up hw.1 hp, fun e => ?_⟩
    subst e
    rcases (hok.2 w p hp).2.2.2.1 with z | z
    · exact hx0 z
    · exact z hn)).1
theorem tr_upd (O : or_ok G m ord pl) (ok : gr_ok G) (I : tr_I G ord pl P k) (hk0 : 0 < k) (hk : k < m) (hN : tr_N G P (ord k) r) : tr_I G ord pl (tr_u P (ord k) r) (k + 1) := by
  obtain ⟨hMr, hlr, hpr, hfr⟩ := tr_dp O ok I hk0 hk hN
  have hpk := (O.2.2.1 k hk).2
  have hMx := or_m O k hk
  have hn : 0 < gr_n G := hMx.1
  have hx0 : ord k ≠ 0 := fun e => by
    have := or_0 O hn
    rw [e] at hpk
    omega
  have hrx : r ≠ ord k := fun e => by rw [e] at hlr; omega
  have hok := I.1
  have hprm : ∀ y, tr_pr P y → tr_pr (tr_u P (ord k) r) y := by
    intro y hy
    by_cases e : y = ord k
    · subst e
      exact Or.inr (by rw [tr_us]; exact fun z => nomatch z)
    · rcases hy with h | h
      · exact Or.inl h
      · exact Or.inr (by rw [tr_un e]; exact h)
  have hok' : tr_ok G pl (tr_u P (ord k) r) := by
    refine ⟨by rw [tr_un (fun e => hx0 e.symm)]; exact hok.1, fun y p hp => ?_⟩
    by_cases e : y = ord k
    · subst e
      rw [tr_us] at hp
      cases hp
      exact ⟨hMx, hMr, by omega, hprm r hpr, hfr⟩
    · rw [tr_un e] at hp
      have := hok.2 y p hp
      exact ⟨this.1, this.2.1, this.2.2.1, hprm p this.2.2.2.1, this.2.2.2.2⟩
  have shr : ∀ a y, tr_pr P y → tr_A (tr_u P (ord k) r) a y → tr_A P a y := by
    intro a y hy h
    cases hq : P (ord k) with
    | none =>
      have hne : y ≠ ord k := fun e => by
        subst e
        rcases hy with z | z
        · exact hx0 z
        · exact z hq
      exact tr_shrB hok hx0 hq hne h
    | some q => exact tr_shrA hq (tr_mono O ok I hk hN hq) h
  have low : ∀ a y, pl y < k → tr_A P a y → tr_A (tr_u P (ord k) r) a y := fun a y hl h => tr_low hok (by omega) h
  have atx : ∀ a, gr_D G a (ord k) → tr_A (tr_u P (ord k) r) a (ord k) := by
    intro a hD
    by_cases e : a = ord k
    · subst e
      exact tr_refl
    · exact tr_step tr_us (low a r hlr (hN.2 a (fun p ep hMp hp => I.2.1 a p hp (gr_Dp hD e hMp ep))))
  refine ⟨hok', ?_, ?_, ?_, ?_⟩
  · intro a y hy hD
    by_cases e : y = ord k
    · subst e
      exact atx a hD
    · have hy' : tr_pr P y := by
        rcases hy with h | h
        · exact Or.inl h
        · rw [tr_un e] at h
          exact Or.inr h
      have hA := I.2.1 a y hy' hD
      have dec : tr_A (tr_u P (ord k) r) a y ∨ (tr_A (tr_u P (ord k) r) (ord k) y ∧ tr_A P a (ord k)) :=
        hA (fun w => tr_A (tr_u P (ord k) r) w y ∨ (tr_A (tr_u P (ord k) r) (ord k) y ∧ tr_A P w (ord k))) (Or.inl tr_refl) (fun w p hw hp => by
          rcases hw with h | h
          · by_cases ew : w = ord k
            · subst ew
              exact Or.inr ⟨h, tr_step hp tr_refl⟩
            · exact Or.inl (tr_up h (by rw [tr_un ew]; exact hp))
          · exact Or.inr ⟨h.1, tr_up h.2 hp⟩)
      rcases dec with h | ⟨h1, h2⟩
      · exact h
      · by_cases ea : a = ord k
        · subst ea
          exact h1
        · have hla := tr_plt hok h2 ea
          have hDx : gr_D G a (ord k) := by
            refine ⟨hD.1, hMx, fun hR => hD.2.2 ?_⟩
            exact (tr_fw hok' h1 (fun w => gr_R G (fun y => y ≠ a) 0 w ∧ pl (ord k) ≤ pl w) ⟨hR, Nat.le_refl _⟩ (fun u w hu eu l => ⟨gr_Rstep hu.1 eu (fun z => by rw [z] at l; omega), by omega⟩)).1
          exact tr_t (atx a hDx) h1
  · intro y q hq z hz
    by_cases e : y = ord k
    · subst e
      rw [tr_us] at hq
      cases hq
      exact tr_pl hok (hN.2 z (fun p ep hMp hp => shr z p hp (hz p ep hMp (hprm p hp))))
    · rw [tr_un e] at hq
      exact I.2.2.1 y q hq z (fun p ep hMp hp => shr z p hp (hz p ep hMp (hprm p hp)))
  · intro j hj0 hj a ea hMa hla z hz
    have hpj := (O.2.2.1 j (by omega)).2
    rcases Nat.lt_or_ge j k with hjk | hjk
    · have hpo : tr_pr P (ord j) := tr_prk O ok I (or_m O j (by omega)) (by omega)
      rcases I.2.2.2.1 j hj0 hjk a ea hMa hla z (shr z _ hpo hz) with h | h
      · exact Or.inl h
      · exact Or.inr (low z a (by omega) h)
    · have ejk : j = k := by omega
      subst ejk
      rcases tr_inv hz with h | ⟨p, hp, hA⟩
      · exact Or.inl h
      · rw [tr_us] at hp
        cases hp
        exact Or.inr (low z a hla (tr_t (shr z r hpr hA) (hN.1 a ea hMa (tr_prk O ok I hMa hla))))
  · intro j hj0 hj
    by_cases e : ord j = ord k
    · rw [e, tr_us]
      exact fun z => nomatch z
    · have : j ≠ k := fun z => e (by rw [z])
      rw [tr_un e]
      exact I.2.2.2.2 j hj0 (by omega)
/-- what holds when nothing has changed in a round -/
def tr_X (G : gr_T) (ord : Nat → Nat) (P : Nat → Option Nat) (k : Nat) : Prop := ∀ j, 0 < j → j < k → ∃ q, P (ord j) = some q ∧ ∀ p, gr_E G p (ord j) → gr_M G p → tr_pr P p → tr_A P q p
theorem tr_dom (O : or_ok G m ord pl) (ok : gr_ok G) (I : tr_I G ord pl P m) (X : tr_X G ord P m) {a b : Nat} (hb : gr_M G b) : tr_A P a b ↔ gr_D G a b := by
  have hall : ∀ y, gr_M G y → tr_pr P y := fun y hy => tr_prk O ok I hy (or_M O ok hy).1
  constructor
  · intro h
    refine ⟨tr_met I.1 h hb, hb, fun hR => ?_⟩
    have ha0 : (0 : Nat) ≠ a := gr_RPs (P := fun y => y ≠ a) hR
    have := hR (fun t => gr_M G t ∧ ¬ tr_A P a t) (fun _ => ⟨gr_M0 hb.1, fun z => by
      rcases tr_inv z with e | ⟨p, hp, _⟩
      · exact ha0 e.symm
      · rw [I.1.1] at hp
        exact nomatch hp⟩) (fun u w hu e hw => ⟨gr_Ms hu.1 e, fun z => by
      rcases tr_inv z with e' | ⟨q, hq, hA⟩
      · exact hw e'.symm
      · have hMw := gr_Ms hu.1 e
        have hm := or_M O ok hMw
        have hw0 : w ≠ 0 := by
          have := (gr_Elt ok e).2.2
          omega
        obtain ⟨q', hq', hX⟩ := X (pl w) (or_pos O ok hMw hw0) hm.1
        rw [hm.2] at hq' hX
        rw [hq] at hq'
        cases hq'
        exact hu.2 (tr_t hA (hX u e hu.1 (hall u hu.1)))⟩)
    exact this.2 h
  · intro h
    exact I.2.1 a b (hall b hb) h
end
end
section
/-! the final tree: parents are the nearest that dominate -/
def dt_ok (G : gr_T) (m : Nat) (ord pl : Nat → Nat) (P : Nat → Option Nat) : Prop :=
  or_ok G m ord pl ∧ tr_ok G pl P ∧ (∀ a b, gr_M G b → (tr_A P a b ↔ gr_D G a b)) ∧ (∀ x, gr_M G x → x ≠ 0 → ∃ q, P x = some q) ∧ (∀ x, ¬ gr_M G x → P x = none)
section
variable {G : gr_T} {m : Nat} {ord pl : Nat → Nat} {P : Nat → Option Nat} {x y u p q v : Nat}
theorem dt_of (O : or_ok G m ord pl) (ok : gr_ok G) (I : tr_I G ord pl P m) (X : tr_X G ord P m) : dt_ok G m ord pl P := by
  refine ⟨O, I.1, fun a b hb => tr_dom O ok I X hb, fun x hx h0 => ?_, fun x hx => ?_⟩
  · have hm := or_M O ok hx
    obtain ⟨q, hq, _⟩ := X (pl x) (or_pos O ok hx h0) hm.1
    rw [hm.2] at hq
    exact ⟨q, hq⟩
  · cases h : P x with
    | none => rfl
    | some q => exact absurd (I.1.2 x q h).1 hx
/-- strictly dominated: by the parent's ways up -/
theorem dt_s (T : dt_ok G m ord pl P) (hx : gr_M G x) : (x ≠ u ∧ gr_D G u x) ↔ ∃ q, P x = some q ∧ tr_A P u q := by
  constructor
  · rintro ⟨hne, hD⟩
    rcases tr_inv ((T.2.2.1 u x hx).mpr hD) with e | h
    · exact absurd e.symm hne
    · exact h
  · rintro ⟨q, hq, hA⟩
    have h1 := T.2.1.2 x q hq
    have h2 := tr_pl T.2.1 hA
    exact ⟨fun e => by rw [e] at h1; omega, (T.2.2.1 u x hx).mp (tr_step hq hA)⟩
theorem dt_par (T : dt_ok G m ord pl P) (hq : P x = some q) (hp : gr_M G p) (e : gr_E G p x) : tr_A P q p := by
  have h1 := T.2.1.2 x q hq
  have hD : gr_D G q x := (T.2.2.1 q x h1.1).mp (tr_step hq tr_refl)
  exact (T.2.2.1 q p hp).mpr (gr_Dp hD (fun z => by rw [z] at h1; omega) hp e)
theorem dt_F (T : dt_ok G m ord pl P) (ok : gr_ok G) : gr_F G u y ↔ ∃ p, gr_M G p ∧ gr_E G p y ∧ tr_A P u p ∧ ¬ ∃ q, P y = some q ∧ tr_A P u q := by
  constructor
  · rintro ⟨⟨p, hD, e⟩, hn⟩
    have hMy := gr_Ms hD.2.1 e
    exact ⟨p, hD.2.1, e, (T.2.2.1 u p hD.2.1).mpr hD, fun z => hn ((dt_s T hMy).mpr z)⟩
  · rintro ⟨p, hMp, e, hA, hn⟩
    have hMy := gr_Ms hMp e
    exact ⟨⟨p, (T.2.2.1 u p hMp).mp hA, e⟩, fun z => hn ((dt_s T hMy).mp z)⟩
theorem dt_FM (h : gr_F G u y) : gr_M G u ∧ gr_M G y := by
  obtain ⟨⟨p, hD, e⟩, _⟩ := h
  exact ⟨hD.1, gr_Ms hD.2.1 e⟩
theorem dt_JM (h : gr_J G v y) : gr_M G y := h (fun y => gr_M G y) (fun _ _ _ hf => (dt_FM hf).2)
theorem dt_J0 (ok : gr_ok G) (h : gr_J G v y) : y ≠ 0 := by
  refine h (fun y => y ≠ 0) (fun x y _ hf => ?_)
  obtain ⟨⟨p, hD, e⟩, _⟩ := hf
  have := (gr_Elt ok e).2.2
  omega
end
/-! names: at the beginning ni, before an instruction nb -/
def nb_ (G : gr_T) (ni : Nat → Nat → Nat) (x : Nat) : Nat → Nat → Nat
  | 0 => fun v => ni x v
  | i + 1 => fun v => if v = gr_dd G (4 * x + i) then 6 + (4 * x + i) else nb_ G ni x i v
theorem nb_st {G : gr_T} {ni : Nat → Nat → Nat} {x v : Nat} : ∀ i, i ≤ gr_mn G x → ¬ gr_st G x v → nb_ G ni x i v = ni x v := by
  intro i
  induction i with
  | zero => intro _ _; rfl
  | succ i ih =>
    intro hi hn
    have hne : v ≠ gr_dd G (4 * x + i) := fun e => hn ⟨i, by omega, e.symm⟩
    show (if v = gr_dd G (4 * x + i) then 6 + (4 * x + i) else nb_ G ni x i v) = _
    rw [if_neg hne]
    exact ih (by omega) hn
def ne_ (G : gr_T) (ni : Nat → Nat → Nat) (x v : Nat) : Nat := nb_ G ni x (gr_mn G x) v
def nm_ok (G : gr_T) (P : Nat → Option Nat) (ni : Nat → Nat → Nat) : Prop :=
  (∀ v, v < 6 → ni 0 v = v) ∧ ∀ x, gr_M G x → x ≠ 0 → ∀ v, v < 6 → (gr_J G v x → ni x v = 70 + (6 * x + v)) ∧ (¬ gr_J G v x → ∀ q, P x = some q → ni x v = ne_ G ni q v)
section
variable {G : gr_T} {m : Nat} {ord pl : Nat → Nat} {P : Nat → Option Nat} {ni : Nat → Nat → Nat} {x p v : Nat}
/-- without a merge the name is the one that comes by every edge -/
theorem nm_key (T : dt_ok G m ord pl P) (ok : gr_ok G) (N : nm_ok G P ni) (hp : gr_M G p) (e : gr_E G p x) (hv : v < 6) (hJ : ¬ gr_J G v x) : ni x v = ne_ G ni p v := by
  have hx := gr_Ms hp e
  have hx0 : x ≠ 0 := by
    have := (gr_Elt ok e).2.2
    omega
  obtain ⟨q, hq⟩ := T.2.2.2.1 x hx hx0
  rw [(N.2 x hx hx0 v hv).2 hJ q hq]
  have hA := dt_par T hq hp e
  have key := hA (fun w => tr_A P w p ∧ (tr_A P q w → ne_ G ni p v = ne_ G ni w v)) ⟨tr_refl, fun _ => rfl⟩ (fun w c hw hc => by
    refine ⟨tr_up hw.1 hc, fun hqc => ?_⟩
    have hwc := T.2.1.2 w c hc
    have hqc' := tr_pl T.2.1 hqc
    rw [hw.2 (tr_step hc hqc)]
    have hF : gr_F G w x := by
      refine (dt_F T ok).mpr ⟨p, hp, e, hw.1, ?_⟩
      rintro ⟨q', hq', hA'⟩
      rw [hq] at hq'
      cases hq'
      have := tr_pl T.2.1 hA'
      omega
    have hMw := hwc.1
    have hw0 : w ≠ 0 := fun z => by
      rw [z, T.2.1.1] at hc
      exact nomatch hc
    have hst : ¬ gr_st G w v := fun z => hJ (gr_Js (Or.inr (Or.inl z)) hF)
    have hJw : ¬ gr_J G v w := fun z => hJ (gr_Js (Or.inr (Or.inr z)) hF)
    show nb_ G ni w (gr_mn G w) v = _
    rw [nb_st _ (Nat.le_refl _) hst, (N.2 w hMw hw0 v hv).2 hJw c hc])
  exact (key.2 tr_refl).symm
end
/-! living and needed -/
def gr_us (G : gr_T) (i v : Nat) : Prop := (gr_op G i = 1 ∧ gr_av G i = v) ∨ (1 < gr_op G i ∧ gr_op G i < 7 ∧ (gr_av G i = v ∨ gr_bb G i = v))
/-- living before the last d instructions of x -/
def lb_ (G : gr_T) (L N : Nat → Nat → Prop) (x : Nat) : Nat → Nat → Prop
  | 0 => fun v => (∃ y, gr_E G x y ∧ L y v) ∨ (gr_kd G x ≠ 1 ∧ gr_ak G x = v)
  | d + 1 => fun v => (N x (gr_mn G x - (d + 1)) ∧ gr_us G (4 * x + (gr_mn G x - (d + 1))) v) ∨ (lb_ G L N x d v ∧ gr_dd G (4 * x + (gr_mn G x - (d + 1))) ≠ v)
theorem lb_m {G : gr_T} {L N L' N' : Nat → Nat → Prop} {x : Nat} (hL : ∀ y v, gr_E G x y → L y v → L' y v) (hN : ∀ i, N x i → N' x i) : ∀ d v, lb_ G L N x d v → lb_ G L' N' x d v := by
  intro d
  induction d with
  | zero =>
    rintro v (⟨y, e, h⟩ | h)
    · exact Or.inl ⟨y, e, hL y v e h⟩
    · exact Or.inr h
  | succ d ih =>
    rintro v (⟨h, u⟩ | ⟨h, u⟩)
    · exact Or.inl ⟨hN _ h, u⟩
    · exact Or.inr ⟨ih v h, u⟩
def lv_cl (G : gr_T) (L : Nat → Nat → Prop) : Prop := ∀ x, x < gr_n G → ∀ v, v < 6 → lb_ G L (fun _ _ => True) x (gr_mn G x) v → L x v
def gr_lv (G : gr_T) (x v : Nat) : Prop := ∀ L : Nat → Nat → Prop, lv_cl G L → L x v
def nd_cl (G : gr_T) (L N : Nat → Nat → Prop) : Prop := ∀ x, gr_M G x → (∀ v, v < 6 → lb_ G L N x (gr_mn G x) v → L x v) ∧ (∀ i, i < gr_mn G x → lb_ G L N x (gr_mn G x - (i + 1)) (gr_dd G (4 * x + i)) → N x i)
def gr_nd (G : gr_T) (x i : Nat) : Prop := ∀ L N : Nat → Nat → Prop, nd_cl G L N → N x i
/-- names that are needed: the least set with the rules of the names -/
def nn_cl (G : gr_T) (ni : Nat → Nat → Nat) (S : Nat → Prop) : Prop :=
  (∀ x, gr_M G x → gr_kd G x ≠ 1 → S (ne_ G ni x (gr_ak G x))) ∧
  (∀ x i v, gr_M G x → i < gr_mn G x → S (6 + (4 * x + i)) → gr_us G (4 * x + i) v → S (nb_ G ni x i v)) ∧
  (∀ x v p, gr_M G x → v < 6 → S (70 + (6 * x + v)) → gr_M G p → gr_E G p x → S (ne_ G ni p v))
def gr_nn (G : gr_T) (ni : Nat → Nat → Nat) (n : Nat) : Prop := ∀ S : Nat → Prop, nn_cl G ni S → S n
theorem nn_self {G : gr_T} {ni : Nat → Nat → Nat} : nn_cl G ni (gr_nn G ni) :=
  ⟨fun x hx hk S hS => hS.1 x hx hk, fun x i v hx hi h u S hS => hS.2.1 x i v hx hi (h S hS) u, fun x v p hx hv h hp e S hS => hS.2.2 x v p hx hv (h S hS) hp e⟩
section
variable {G : gr_T} {m : Nat} {ord pl : Nat → Nat} {P : Nat → Option Nat} {ni : Nat → Nat → Nat} {x i v : Nat}
theorem us_lt (ok : gr_ok G) (hx : x < gr_n G) (hi : i < gr_mn G x) (h : gr_us G (4 * x + i) v) : v < 6 := by
  have hI := (ok.2.2 x hx).2.2.2.2 i hi
  rcases h with ⟨h1, h2⟩ | ⟨h1, h2, h3 | h3⟩
  · have := (hI.2.2.2 (by omega) (by omega)).2
    omega
  · have := (hI.2.2.2 (by omega) (by omega)).2
    omega
  · have := hI.2.2.1
    omega
/-- names that are needed lie at places that live, for every closed pair -/
def nq_ (G : gr_T) (L N : Nat → Nat → Prop) (n : Nat) : Prop :=
  (∀ x i, gr_M G x → i < gr_mn G x → n = 6 + (4 * x + i) → N x i) ∧ (∀ x v, gr_M G x → v < 6 → n = 70 + (6 * x + v) → L x v)
theorem nq_blk (ok : gr_ok G) {L N : Nat → Nat → Prop} (hc : nd_cl G L N) (hx : gr_M G x) (hb : ∀ v, v < 6 → L x v → nq_ G L N (ni x v)) : ∀ d i, d + i = gr_mn G x → ∀ v, v < 6 → lb_ G L N x d v → nq_ G L N (nb_ G ni x i v) := by
  have hxn := gr_Mlt ok hx
  intro d i
  induction i generalizing d with
  | zero =>
    intro hd v hv h
    have e : d = gr_mn G x := by omega
    subst e
    exact hb v hv ((hc x hx).1 v hv h)
  | succ i ih =>
    intro hd v hv h
    show nq_ G L N (if v = gr_dd G (4 * x + i) then 6 + (4 * x + i) else nb_ G ni x i v)
    have em : gr_mn G x - (d + 1) = i := by omega
    by_cases e : v = gr_dd G (4 * x + i)
    · rw [if_pos e]
      refine ⟨fun x' i' hx' hi' e' => ?_, fun x' v' hx' hv' e' => ?_⟩
      · have h1 := (ok.2.2 x' (gr_Mlt ok hx')).1
        have h2 := (ok.2.2 x hxn).1
        have ex : x' = x := by omega
        subst ex
        have ei : i' = i := by omega
        subst ei
        refine (hc x' hx').2 i' hi' ?_
        rw [← e, show gr_mn G x' - (i' + 1) = d by omega]
        exact h
      · have h1 := ok.1
        have h2 := (ok.2.2 x hxn).1
        omega
    · rw [if_neg e]
      refine ih (d + 1) (by omega) v hv (Or.inr ⟨h, ?_⟩)
      rw [em]
      exact fun z => e z.symm
theorem nq_in (T : dt_ok G m ord pl P) (ok : gr_ok G) (N : nm_ok G P ni) {L Nd : Nat → Nat → Prop} (hc : nd_cl G L Nd) : ∀ k x, pl x = k → gr_M G x → ∀ v, v < 6 → L x v → nq_ G L Nd (ni x v) := by
  intro k
  induction k using Nat.strongRecOn with
  | ind k ih =>
    intro x hk hx v hv hL
    have hxn := gr_Mlt ok hx
    have h16 := ok.1
    by_cases e0 : x = 0
    · subst e0
      rw [N.1 v hv]
      exact ⟨fun _ _ _ _ e => by omega, fun _ _ _ _ e => by omega⟩
    · by_cases hJ : gr_J G v x
      · rw [(N.2 x hx e0 v hv).1 hJ]
        refine ⟨fun x' i' hx' hi' e' => ?_, fun x' v' hx' hv' e' => ?_⟩
        · have h1 := (ok.2.2 x' (gr_Mlt ok hx')).1
          have h2 := gr_Mlt ok hx'
          omega
        · have ex : x' = x := by omega
          have ev : v' = v := by omega
          subst ex
          subst ev
          exact hL
      · obtain ⟨p, hMp, ep, lp⟩ := or_pred T.1 ok hx e0
        rw [nm_key T ok N hMp ep hv hJ]
        exact nq_blk ok hc hMp (fun v hv h => ih (pl p) (by omega) p rfl hMp v hv h) 0 (gr_mn G p) (by omega) v hv (Or.inl ⟨x, ep, hL⟩)
theorem nq_cl (T : dt_ok G m ord pl P) (ok : gr_ok G) (N : nm_ok G P ni) {L Nd : Nat → Nat → Prop} (hc : nd_cl G L Nd) : nn_cl G ni (nq_ G L Nd) := by
  refine ⟨fun x hx hk => ?_, fun x i v hx hi h u => ?_, fun x v p hx hv h hp e => ?_⟩
  · exact nq_blk ok hc hx (fun v hv h => nq_in T ok N hc (pl x) x rfl hx v hv h) 0 (gr_mn G x) (by omega) _ ((ok.2.2 x (gr_Mlt ok hx)).2.2.1) (Or.inr ⟨hk, rfl⟩)
  · have hn := h.1 x i hx hi rfl
    refine nq_blk ok hc hx (fun v hv h => nq_in T ok N hc (pl x) x rfl hx v hv h) (gr_mn G x - i) i (by omega) v (us_lt ok (gr_Mlt ok hx) hi u) ?_
    obtain ⟨d, hd⟩ : ∃ d, gr_mn G x - i = d + 1 := ⟨gr_mn G x - i - 1, by omega⟩
    rw [hd]
    refine Or.inl ?_
    rw [show gr_mn G x - (d + 1) = i by omega]
    exact ⟨hn, u⟩
  · have hL := h.2 x v hx hv rfl
    exact nq_blk ok hc hp (fun v hv h => nq_in T ok N hc (pl p) p rfl hp v hv h) 0 (gr_mn G p) (by omega) v hv (Or.inl ⟨x, e, hL⟩)
/-- the names' least set gives a closed pair -/
theorem nl_blk (T : dt_ok G m ord pl P) (ok : gr_ok G) (N : nm_ok G P ni) {S : Nat → Prop} (hS : nn_cl G ni S) (hx : gr_M G x) : ∀ d i, d + i = gr_mn G x → ∀ v, v < 6 → lb_ G (fun y v => v < 6 ∧ S (ni y v)) (fun y i => i < gr_mn G y ∧ S (6 + (4 * y + i))) x d v → S (nb_ G ni x i v) := by
  intro d
  induction d with
  | zero =>
    intro i hd v hv h
    have ei : i = gr_mn G x := by omega
    subst ei
    rcases h with ⟨y, e, _, h⟩ | ⟨h1, h2⟩
    · by_cases hJ : gr_J G v y
      · have hy := gr_Ms hx e
        have hy0 : y ≠ 0 := by
          have := (gr_Elt ok e).2.2
          omega
        rw [(N.2 y hy hy0 v hv).1 hJ] at h
        exact hS.2.2 y v x hy hv h hx e
      · rw [nm_key T ok N hx e hv hJ] at h
        exact h
    · rw [← h2]
      exact hS.1 x hx h1
  | succ d ih =>
    intro i hd v hv h
    have em : gr_mn G x - (d + 1) = i := by omega
    rcases h with ⟨h1, h2⟩ | ⟨h1, h2⟩
    · rw [em] at h1 h2
      exact hS.2.1 x i v hx h1.1 h1.2 h2
    · have := ih (i + 1) (by omega) v hv h1
      rw [em] at h2
      have hne : v ≠ gr_dd G (4 * x + i) := fun z => h2 z.symm
      have e2 : nb_ G ni x (i + 1) v = nb_ G ni x i v := if_neg hne
      rw [e2] at this
      exact this
theorem nl_cl (T : dt_ok G m ord pl P) (ok : gr_ok G) (N : nm_ok G P ni) {S : Nat → Prop} (hS : nn_cl G ni S) : nd_cl G (fun y v => v < 6 ∧ S (ni y v)) (fun y i => i < gr_mn G y ∧ S (6 + (4 * y + i))) := by
  intro x hx
  refine ⟨fun v hv h => ⟨hv, nl_blk T ok N hS hx _ 0 (by omega) v hv h⟩, fun i hi h => ⟨hi, ?_⟩⟩
  have hI := (ok.2.2 x (gr_Mlt ok hx)).2.2.2.2 i hi
  have := nl_blk T ok N hS hx _ (i + 1) (by omega) _ hI.2.1 h
  have e2 : nb_ G ni x (i + 1) (gr_dd G (4 * x + i)) = 6 + (4 * x + i) := if_pos rfl
  rw [e2] at this
  exact this
/-- needed by names is needed -/
theorem nd_iff (T : dt_ok G m ord pl P) (ok : gr_ok G) (N : nm_ok G P ni) (hx : gr_M G x) (hi : i < gr_mn G x) : gr_nn G ni (6 + (4 * x + i)) ↔ gr_nd G x i := by
  constructor
  · intro h L Nd hc
    exact (h _ (nq_cl T ok N hc)).1 x i hx hi rfl
  · intro h
    exact (h _ _ (nl_cl T ok N nn_self)).2
end
end
section
/-! values: some c a constant, none varies -/
def vl_le (a b : Option Int32) : Prop := b = none ∨ a = b
theorem vl_rf {a : Option Int32} : vl_le a a := Or.inr rfl
theorem vl_tr {a b c : Option Int32} (h1 : vl_le a b) (h2 : vl_le b c) : vl_le a c := by
  rcases h2 with h | h
  · exact Or.inl h
  · subst h; exact h1
theorem vl_an {a b : Option Int32} (h1 : vl_le a b) (h2 : vl_le b a) : a = b := by
  rcases h1 with h | h
  · rcases h2 with h' | h'
    · rw [h, h']
    · exact h'.symm
  · exact h
theorem vl_tp {a : Option Int32} : vl_le a none := Or.inl rfl
def vl_calc (o : Nat) (x y : Int32) : Int32 := if o = 2 then x + y else if o = 3 then x - y else if o = 4 then x * y else if o = 5 then (if y ≤ x then 0 else 1) else (if y = 0 then 0 else x / y)
def vl_2 (f : Int32 → Int32 → Int32) : Option Int32 → Option Int32 → Option Int32
  | some x, some y => some (f x y)
  | some _, none => none
  | none, _ => none
theorem vl_2n (f : Int32 → Int32 → Int32) (a : Option Int32) : vl_2 f a none = none := by cases a <;> rfl
def vl_bin (o : Nat) (a b : Option Int32) : Option Int32 := if o = 4 ∧ (a = some 0 ∨ b = some 0) then some 0 else vl_2 (vl_calc o) a b
theorem vl_binm {o : Nat} {a b a' b' : Option Int32} (ha : vl_le a a') (hb : vl_le b b') : vl_le (vl_bin o a b) (vl_bin o a' b') := by
  unfold vl_bin
  by_cases c : o = 4 ∧ (a' = some 0 ∨ b' = some 0)
  · rw [if_pos c]
    rcases c with ⟨c1, c2 | c2⟩
    · rcases ha with h | h
      · rw [h] at c2; exact nomatch c2
      · rw [if_pos ⟨c1, Or.inl (h.trans c2)⟩]; exact vl_rf
    · rcases hb with h | h
      · rw [h] at c2; exact nomatch c2
      · rw [if_pos ⟨c1, Or.inr (h.trans c2)⟩]; exact vl_rf
  · rw [if_neg c]
    rcases ha with h | h
    · rw [h]; exact vl_tp
    · rcases hb with h' | h'
      · rw [h', vl_2n]; exact vl_tp
      · rw [h, h', if_neg c]; exact vl_rf
def vl_ev (G : gr_T) (i : Nat) (e : Nat → Option Int32) : Option Int32 := if gr_op G i = 7 then none else if gr_op G i = 0 then some (gr_aa G i) else if gr_op G i = 1 then e (gr_av G i) else vl_bin (gr_op G i) (e (gr_av G i)) (e (gr_bb G i))
theorem vl_evm {G : gr_T} {i : Nat} {e e' : Nat → Option Int32} (h8 : gr_op G i < 8) (h : ∀ v, gr_us G i v → vl_le (e v) (e' v)) : vl_le (vl_ev G i e) (vl_ev G i e') := by
  unfold vl_ev
  by_cases h7 : gr_op G i = 7
  · rw [if_pos h7, if_pos h7]; exact vl_rf
  · rw [if_neg h7, if_neg h7]
    by_cases h0 : gr_op G i = 0
    · rw [if_pos h0, if_pos h0]; exact vl_rf
    · rw [if_neg h0, if_neg h0]
      by_cases h1 : gr_op G i = 1
      · rw [if_pos h1, if_pos h1]; exact h _ (Or.inl ⟨h1, rfl⟩)
      · rw [if_neg h1, if_neg h1]
        exact vl_binm (h _ (Or.inr ⟨by omega, by omega, Or.inl rfl⟩)) (h _ (Or.inr ⟨by omega, by omega, Or.inr rfl⟩))
/-- the values before instruction i -/
def vl_e (G : gr_T) (x : Nat) (e : Nat → Option Int32) : Nat → Nat → Option Int32
  | 0 => e
  | i + 1 => fun v => if v = gr_dd G (4 * x + i) then vl_ev G (4 * x + i) (vl_e G x e i) else vl_e G x e i v
theorem vl_em {G : gr_T} (ok : gr_ok G) {x : Nat} (hx : x < gr_n G) {e e' : Nat → Option Int32} (h : ∀ v, v < 6 → vl_le (e v) (e' v)) : ∀ i, i ≤ gr_mn G x → ∀ v, v < 6 → vl_le (vl_e G x e i v) (vl_e G x e' i v) := by
  intro i
  induction i with
  | zero => intro _ v hv; exact h v hv
  | succ i ih =>
    intro hi v hv
    show vl_le (if v = gr_dd G (4 * x + i) then vl_ev G (4 * x + i) (vl_e G x e i) else vl_e G x e i v) (if v = gr_dd G (4 * x + i) then vl_ev G (4 * x + i) (vl_e G x e' i) else vl_e G x e' i v)
    by_cases c : v = gr_dd G (4 * x + i)
    · rw [if_pos c, if_pos c]
      exact vl_evm ((ok.2.2 x hx).2.2.2.2 i (by omega)).1 (fun w hw => ih (by omega) w (us_lt ok hx (by omega) hw))
    · rw [if_neg c, if_neg c]
      exact ih (by omega) v hv
/-- an edge is open -/
def vl_ld (G : gr_T) (x j : Nat) (a : Option Int32) : Prop := j < gr_kd G x ∧ (gr_kd G x = 2 → a = none ∨ ∃ c, a = some c ∧ (c = 0 ↔ j = 1))
theorem vl_ldm {G : gr_T} {x j : Nat} {a a' : Option Int32} (h : vl_le a a') (hl : vl_ld G x j a) : vl_ld G x j a' := by
  refine ⟨hl.1, fun h2 => ?_⟩
  rcases h with e | e
  · exact Or.inl e
  · rw [← e]; exact hl.2 h2
def vl_i (G : gr_T) (v : Nat) : Option Int32 := if v < gr_k G then none else some 0
def vl_cl (G : gr_T) (O : Nat → Prop) (B : Nat → Nat → Option Int32) : Prop :=
  (0 < gr_n G → O 0 ∧ ∀ v, v < 6 → vl_le (vl_i G v) (B 0 v)) ∧ ∀ x, O x → x < gr_n G → ∀ j, vl_ld G x j (vl_e G x (B x) (gr_mn G x) (gr_ak G x)) → O (gr_tg G (2 * x + j)) ∧ ∀ v, v < 6 → vl_le (vl_e G x (B x) (gr_mn G x) v) (B (gr_tg G (2 * x + j)) v)
/-- the least solution -/
def vl_LC (G : gr_T) (O : Nat → Prop) (B : Nat → Nat → Option Int32) : Prop := vl_cl G O B ∧ ∀ O' B', vl_cl G O' B' → ∀ x, O x → O' x ∧ ∀ v, v < 6 → vl_le (B x v) (B' x v)
theorem vl_un {G : gr_T} {O O' : Nat → Prop} {B B' : Nat → Nat → Option Int32} (h : vl_LC G O B) (h' : vl_LC G O' B') (x : Nat) : (O x ↔ O' x) ∧ (O x → ∀ v, v < 6 → B x v = B' x v) := by
  refine ⟨⟨fun z => (h.2 O' B' h'.1 x z).1, fun z => (h'.2 O B h.1 x z).1⟩, fun z v hv => ?_⟩
  have h1 := h.2 O' B' h'.1 x z
  exact vl_an (h1.2 v hv) ((h'.2 O B h.1 x h1.1).2 v hv)
theorem vl_une {G : gr_T} (ok : gr_ok G) {O O' : Nat → Prop} {B B' : Nat → Nat → Option Int32} (h : vl_LC G O B) (h' : vl_LC G O' B') {x : Nat} (hx : O x) (hn : x < gr_n G) {i v : Nat} (hi : i ≤ gr_mn G x) (hv : v < 6) : vl_e G x (B x) i v = vl_e G x (B' x) i v := by
  have hu := (vl_un h h' x).2 hx
  exact vl_an (vl_em ok hn (fun v hv => by rw [hu v hv]; exact vl_rf) i hi v hv) (vl_em ok hn (fun v hv => by rw [hu v hv]; exact vl_rf) i hi v hv)
theorem vl_M {G : gr_T} {O : Nat → Prop} {B : Nat → Nat → Option Int32} (h : vl_LC G O B) {x : Nat} (hx : O x) : gr_M G x := by
  refine (h.2 (fun x => gr_M G x) (fun _ _ => none) ⟨fun hn => ⟨gr_M0 hn, fun _ _ => vl_tp⟩, fun x hx hn j hj => ⟨gr_Ms hx ⟨hn, j, hj.1, rfl⟩, fun _ _ => vl_tp⟩⟩ x hx).1
/-! the component's side: names with a state 0, 1, 2 and a worth -/
def vx_ (st : Nat → Nat) (wo : Nat → Int32) (n : Nat) : Option Int32 := if st n = 2 then none else some (wo n)
/-- what a name is in a closed solution -/
def vl_D (G : gr_T) (B : Nat → Nat → Option Int32) (n : Nat) : Option Int32 := if n < 6 then B 0 n else if n < 70 then vl_e G ((n - 6) / 4) (B ((n - 6) / 4)) ((n - 6) % 4 + 1) (gr_dd G (n - 6)) else B ((n - 70) / 6) ((n - 70) % 6)
section
variable {G : gr_T} {B : Nat → Nat → Option Int32} {ni : Nat → Nat → Nat} {x i v : Nat}
theorem vl_Dv (h : v < 6) : vl_D G B v = B 0 v := if_pos h
theorem vl_Ds (hx : x < 16) (hi : i < 4) : vl_D G B (6 + (4 * x + i)) = vl_ev G (4 * x + i) (vl_e G x (B x) i) := by
  unfold vl_D
  rw [if_neg (by omega), if_pos (by omega), show (6 + (4 * x + i) - 6) / 4 = x by omega, show (6 + (4 * x + i) - 6) % 4 = i by omega, show 6 + (4 * x + i) - 6 = 4 * x + i by omega]
  exact if_pos rfl
theorem vl_Dm (hv : v < 6) : vl_D G B (70 + (6 * x + v)) = B x v := by
  unfold vl_D
  rw [if_neg (by omega), if_neg (by omega), show (70 + (6 * x + v) - 70) / 6 = x by omega, show (70 + (6 * x + v) - 70) % 6 = v by omega]
theorem vl_L1 (ok : gr_ok G) (hx : x < gr_n G) (h : ∀ v, v < 6 → vl_le (vl_D G B (ni x v)) (B x v)) : ∀ i, i ≤ gr_mn G x → ∀ v, v < 6 → vl_le (vl_D G B (nb_ G ni x i v)) (vl_e G x (B x) i v) := by
  have hn := ok.1
  have h4 := (ok.2.2 x hx).1
  intro i
  induction i with
  | zero => intro _ v hv; exact h v hv
  | succ i ih =>
    intro hi v hv
    show vl_le (vl_D G B (if v = gr_dd G (4 * x + i) then 6 + (4 * x + i) else nb_ G ni x i v)) (if v = gr_dd G (4 * x + i) then vl_ev G (4 * x + i) (vl_e G x (B x) i) else vl_e G x (B x) i v)
    by_cases c : v = gr_dd G (4 * x + i)
    · rw [if_pos c, if_pos c, vl_Ds (by omega) (by omega)]
      exact vl_rf
    · rw [if_neg c, if_neg c]
      exact ih (by omega) v hv
/-- an instruction reckoned over names stays below -/
theorem vl_L2 (ok : gr_ok G) (hx : x < gr_n G) (h : ∀ v, v < 6 → vl_le (vl_D G B (ni x v)) (B x v)) (hi : i < gr_mn G x) {e : Nat → Option Int32} (he : ∀ v, gr_us G (4 * x + i) v → vl_le (e v) (vl_D G B (nb_ G ni x i v))) : vl_le (vl_ev G (4 * x + i) e) (vl_D G B (6 + (4 * x + i))) := by
  have hn := ok.1
  have h4 := (ok.2.2 x hx).1
  rw [vl_Ds (by omega) (by omega)]
  exact vl_evm ((ok.2.2 x hx).2.2.2.2 i hi).1 (fun v hv => vl_tr (he v hv) (vl_L1 ok hx h i (by omega) v (us_lt ok hx hi hv)))
end
/-- below every closed solution -/
def vx_low (G : gr_T) (ni : Nat → Nat → Nat) (st : Nat → Nat) (wo : Nat → Int32) (OB OE : Nat → Prop) : Prop :=
  ∀ (O : Nat → Prop) (B : Nat → Nat → Option Int32), vl_cl G O B → (∀ n, n < 166 → st n ≠ 0 → vl_le (vx_ st wo n) (vl_D G B n)) ∧ (∀ x, OB x → O x ∧ ∀ v, v < 6 → vl_le (vl_D G B (ni x v)) (B x v)) ∧ (∀ x j, x < gr_n G → j < 2 → OE (2 * x + j) → vl_ld G x j (vl_e G x (B x) (gr_mn G x) (gr_ak G x)))
/-- nothing is left to do -/
def vx_fix (G : gr_T) (ni : Nat → Nat → Nat) (st : Nat → Nat) (wo : Nat → Int32) (OB OE : Nat → Prop) : Prop :=
  (0 < gr_n G → OB 0 ∧ ∀ v, v < 6 → st v ≠ 0 ∧ vl_le (vl_i G v) (vx_ st wo v)) ∧
  (∀ x, OB x → gr_M G x ∧ (∀ v, v < 6 → st (ni x v) ≠ 0) ∧ (∀ i, i < gr_mn G x → st (6 + (4 * x + i)) ≠ 0 ∧ vl_le (vl_ev G (4 * x + i) (fun v => vx_ st wo (nb_ G ni x i v))) (vx_ st wo (6 + (4 * x + i))))) ∧
  (∀ p j v, OB p → j < gr_kd G p → v < 6 → OE (2 * p + j) → gr_J G v (gr_tg G (2 * p + j)) → vl_le (vx_ st wo (ne_ G ni p v)) (vx_ st wo (70 + (6 * gr_tg G (2 * p + j) + v)))) ∧
  (∀ x j, OB x → vl_ld G x j (vx_ st wo (ne_ G ni x (gr_ak G x))) → OE (2 * x + j) ∧ OB (gr_tg G (2 * x + j)))
section
variable {G : gr_T} {m : Nat} {ord pl : Nat → Nat} {P : Nat → Option Nat} {ni : Nat → Nat → Nat} {st : Nat → Nat} {wo : Nat → Int32} {OB OE : Nat → Prop}
theorem vx_blk (ok : gr_ok G) (F : vx_fix G ni st wo OB OE) {x : Nat} (hx : OB x) : ∀ i, i ≤ gr_mn G x → ∀ v, v < 6 → vl_le (vl_e G x (fun v => vx_ st wo (ni x v)) i v) (vx_ st wo (nb_ G ni x i v)) := by
  have hf := F.2.1 x hx
  have hxn := gr_Mlt ok hf.1
  intro i
  induction i with
  | zero => intro _ v hv; exact vl_rf
  | succ i ih =>
    intro hi v hv
    show vl_le (if v = gr_dd G (4 * x + i) then vl_ev G (4 * x + i) (vl_e G x (fun v => vx_ st wo (ni x v)) i) else vl_e G x (fun v => vx_ st wo (ni x v)) i v) (vx_ st wo (if v = gr_dd G (4 * x + i) then 6 + (4 * x + i) else nb_ G ni x i v))
    by_cases c : v = gr_dd G (4 * x + i)
    · rw [if_pos c, if_pos c]
      exact vl_tr (vl_evm ((ok.2.2 x hxn).2.2.2.2 i (by omega)).1 (fun w hw => ih (by omega) w (us_lt ok hxn (by omega) hw))) (hf.2.2 i (by omega)).2
    · rw [if_neg c, if_neg c]
      exact ih (by omega) v hv
theorem vx_cl (T : dt_ok G m ord pl P) (ok : gr_ok G) (N : nm_ok G P ni) (F : vx_fix G ni st wo OB OE) : vl_cl G OB (fun x v => vx_ st wo (ni x v)) := by
  refine ⟨fun hn => ⟨(F.1 hn).1, fun v hv => ?_⟩, fun x hx hxn j hj => ?_⟩
  · show vl_le (vl_i G v) (vx_ st wo (ni 0 v))
    rw [N.1 v hv]
    exact ((F.1 hn).2 v hv).2
  · have hf := F.2.1 x hx
    have hb := vx_blk ok F hx (gr_mn G x) (Nat.le_refl _)
    have h3 := F.2.2.2 x j hx (vl_ldm (hb _ (ok.2.2 x hxn).2.2.1) hj)
    refine ⟨h3.2, fun v hv => vl_tr (hb v hv) ?_⟩
    have e : gr_E G x (gr_tg G (2 * x + j)) := ⟨hxn, j, hj.1, rfl⟩
    show vl_le (vx_ st wo (ne_ G ni x v)) (vx_ st wo (ni (gr_tg G (2 * x + j)) v))
    by_cases hJ : gr_J G v (gr_tg G (2 * x + j))
    · have hy := gr_Ms hf.1 e
      have hy0 : gr_tg G (2 * x + j) ≠ 0 := by
        have := (gr_Elt ok e).2.2
        omega
      rw [(N.2 _ hy hy0 v hv).1 hJ]
      exact F.2.2.1 x j v hx hj.1 hv h3.1 hJ
    · rw [nm_key T ok N hf.1 e hv hJ]
      exact vl_rf
theorem nb_lt (ok : gr_ok G) {x : Nat} (hx : x < gr_n G) (hni : ∀ v, v < 6 → ni x v < 166) : ∀ i, i ≤ gr_mn G x → ∀ v, v < 6 → nb_ G ni x i v < 166 := by
  have hn := ok.1
  have h4 := (ok.2.2 x hx).1
  intro i
  induction i with
  | zero => intro _ v hv; exact hni v hv
  | succ i ih =>
    intro hi v hv
    show (if v = gr_dd G (4 * x + i) then 6 + (4 * x + i) else nb_ G ni x i v) < 166
    by_cases c : v = gr_dd G (4 * x + i)
    · rw [if_pos c]; omega
    · rw [if_neg c]; exact ih (by omega) v hv
theorem nb_kn {x : Nat} (h1 : ∀ v, v < 6 → st (ni x v) ≠ 0) {I : Nat} (h2 : ∀ i, i < I → st (6 + (4 * x + i)) ≠ 0) : ∀ i, i ≤ I → ∀ v, v < 6 → st (nb_ G ni x i v) ≠ 0 := by
  intro i
  induction i with
  | zero => intro _ v hv; exact h1 v hv
  | succ i ih =>
    intro hi v hv
    show st (if v = gr_dd G (4 * x + i) then 6 + (4 * x + i) else nb_ G ni x i v) ≠ 0
    by_cases c : v = gr_dd G (4 * x + i)
    · rw [if_pos c]; exact h2 i (by omega)
    · rw [if_neg c]; exact ih (by omega) v hv
theorem vx_LC (T : dt_ok G m ord pl P) (ok : gr_ok G) (N : nm_ok G P ni) (hni : ∀ x, gr_M G x → ∀ v, v < 6 → ni x v < 166) (F : vx_fix G ni st wo OB OE) (L : vx_low G ni st wo OB OE) : vl_LC G OB (fun x v => vx_ st wo (ni x v)) := by
  refine ⟨vx_cl T ok N F, fun O B hc x hx => ?_⟩
  have hL := L O B hc
  have hf := F.2.1 x hx
  exact ⟨(hL.2.1 x hx).1, fun v hv => vl_tr (hL.1 _ (hni x hf.1 v hv) (hf.2.1 v hv)) ((hL.2.1 x hx).2 v hv)⟩
theorem vx_end (T : dt_ok G m ord pl P) (ok : gr_ok G) (N : nm_ok G P ni) (hni : ∀ x, gr_M G x → ∀ v, v < 6 → ni x v < 166) (F : vx_fix G ni st wo OB OE) (L : vx_low G ni st wo OB OE) {x : Nat} (hx : OB x) {i v : Nat} (hi : i ≤ gr_mn G x) (hv : v < 6) : vx_ st wo (nb_ G ni x i v) = vl_e G x (fun v => vx_ st wo (ni x v)) i v := by
  have hL := L _ _ (vx_cl T ok N F)
  have hf := F.2.1 x hx
  have hxn := gr_Mlt ok hf.1
  refine vl_an (vl_tr (hL.1 _ (nb_lt ok hxn (hni x hf.1) i hi v hv) (nb_kn hf.2.1 (fun i hi => (hf.2.2 i hi).1) i hi v hv)) (vl_L1 ok hxn (hL.2.1 x hx).2 i hi v hv)) (vx_blk ok F hx i hi v hv)
theorem vx_edge (T : dt_ok G m ord pl P) (ok : gr_ok G) (N : nm_ok G P ni) (F : vx_fix G ni st wo OB OE) (L : vx_low G ni st wo OB OE) (hE : ∀ x j, x < gr_n G → j < 2 → OE (2 * x + j) → OB x) {x j : Nat} (hx : x < gr_n G) (hj : j < 2) : OE (2 * x + j) ↔ OB x ∧ vl_ld G x j (vl_e G x (fun v => vx_ st wo (ni x v)) (gr_mn G x) (gr_ak G x)) := by
  have hL := L _ _ (vx_cl T ok N F)
  constructor
  · intro h
    exact ⟨hE x j hx hj h, hL.2.2 x j hx hj h⟩
  · rintro ⟨hB, hl⟩
    exact (F.2.2.2 x j hB (vl_ldm (vx_blk ok F hB _ (Nat.le_refl _) _ (ok.2.2 x hx).2.2.1) hl)).1
end
end
section
/-! the component's program -/
def xp_ok (G : gr_T) (f_blocks f_given : Int32) (a_op a_d a_b a_many a_kind a_asks a_target a_a : Nat → Int32) : Prop :=
  gr_ok G ∧ f_blocks = nI (gr_n G) ∧ f_given = nI (gr_k G) ∧ (∀ x, x < gr_n G → a_many x = nI (gr_mn G x)) ∧ (∀ x, x < gr_n G → a_kind x = nI (gr_kd G x)) ∧ (∀ x, x < gr_n G → a_asks x = nI (gr_ak G x)) ∧ (∀ x j, x < gr_n G → j < gr_kd G x → a_target (2 * x + j) = nI (gr_tg G (2 * x + j))) ∧ (∀ x i, x < gr_n G → i < gr_mn G x → a_op (4 * x + i) = nI (gr_op G (4 * x + i)) ∧ a_d (4 * x + i) = nI (gr_dd G (4 * x + i)) ∧ a_a (4 * x + i) = gr_aa G (4 * x + i) ∧ a_b (4 * x + i) = nI (gr_bb G (4 * x + i)))
/-- what arrange leaves -/
def xa_ok (G : gr_T) (m : Nat) (ord pl : Nat → Nat) (a_order a_place a_before : Nat → Int32) : Prop :=
  or_ok G m ord pl ∧ (∀ k, k < m → a_order k = nI (ord k)) ∧ (∀ x, gr_M G x → a_place x = nI (pl x)) ∧ (∀ x, x < 16 → ¬ gr_M G x → a_place x = -1) ∧ (∀ t p, t < 16 → p < 16 → (bt (a_before t) p = true ↔ gr_M G p ∧ gr_E G p t)) ∧ m = sg_s (fun x => b01 (gr_M G x)) (gr_n G)
/-! clearing -/
def cl_ (x : Int32) (i : Nat) (f : Nat → Int32) : Nat → Int32 := fun j => if j < i then x else f j
theorem cl_0 {x : Int32} {f : Nat → Int32} : cl_ x 0 f = f := by
  funext j
  exact if_neg (Nat.not_lt_zero j)
theorem cl_s {x : Int32} {i : Nat} {f : Nat → Int32} : upd (cl_ x i f) i x = cl_ x (i + 1) f := by
  funext j
  by_cases e : j = i
  · rw [e, pk_us]; exact (if_pos (Nat.lt_succ_self i)).symm
  · rw [pk_un e]
    by_cases h : j < i
    · exact (if_pos h).trans (if_pos (by omega : j < i + 1)).symm
    · exact (if_neg h).trans (if_neg (by omega : ¬ j < i + 1)).symm
theorem cl_l {x : Int32} {i j : Nat} {f : Nat → Int32} (h : j < i) : cl_ x i f j = x := if_pos h
def cl_L (x : Int64) (i : Nat) (f : Nat → Int64) : Nat → Int64 := fun j => if j < i then x else f j
theorem cl_L0 {x : Int64} {f : Nat → Int64} : cl_L x 0 f = f := by
  funext j
  exact if_neg (Nat.not_lt_zero j)
theorem cl_Ls {x : Int64} {i : Nat} {f : Nat → Int64} : vp_updL (cl_L x i f) i x = cl_L x (i + 1) f := by
  funext j
  by_cases e : j = i
  · rw [e, pk_uLs]; exact (if_pos (Nat.lt_succ_self i)).symm
  · rw [pk_uLn e]
    by_cases h : j < i
    · exact (if_pos h).trans (if_pos (by omega : j < i + 1)).symm
    · exact (if_neg h).trans (if_neg (by omega : ¬ j < i + 1)).symm
theorem cl_Ll {x : Int64} {i j : Nat} {f : Nat → Int64} (h : j < i) : cl_L x i f j = x := if_pos h
/-! a function of numbers changed at one place -/
def un_ (f : Nat → Nat) (k v : Nat) : Nat → Nat := fun j => if j = k then v else f j
theorem un_s {f : Nat → Nat} {k v : Nat} : un_ f k v k = v := if_pos rfl
theorem un_n {f : Nat → Nat} {k v j : Nat} (h : j ≠ k) : un_ f k v j = f j := if_neg h
/-! the walk through the blocks: what holds -/
def ar_1 (G : gr_T) (D e : Nat) (seen : Nat → Prop) : Prop := e ≤ 16 ∧ D + (16 - e) = sg_s (fun x => b01 (seen x)) (gr_n G) ∧ (∀ x, seen x → x < gr_n G) ∧ seen 0
def ar_3 (D : Nat) (stk : Nat → Nat) (seen : Nat → Prop) : Prop := (∀ i, i < D → seen (stk i)) ∧ (∀ i j, i < D → j < D → stk i = stk j → i = j)
def ar_4 (G : gr_T) (D e : Nat) (stk oA nx : Nat → Nat) (seen : Nat → Prop) : Prop := (∀ j, e ≤ j → j < 16 → seen (oA j) ∧ nx (oA j) = gr_kd G (oA j)) ∧ (∀ i j, e ≤ i → i < 16 → e ≤ j → j < 16 → oA i = oA j → i = j) ∧ (∀ i j, i < D → e ≤ j → j < 16 → stk i ≠ oA j)
def ar_5 (D e : Nat) (stk oA : Nat → Nat) (seen : Nat → Prop) : Prop := ∀ x, seen x → (∃ i, i < D ∧ stk i = x) ∨ (∃ j, e ≤ j ∧ j < 16 ∧ oA j = x)
def ar_6 (G : gr_T) (nx : Nat → Nat) (seen : Nat → Prop) : Prop := (∀ x, nx x ≤ gr_kd G x) ∧ (∀ x, ¬ seen x → nx x = 0) ∧ (∀ x j, j < nx x → seen (gr_tg G (2 * x + j)))
def ar_7 (D e : Nat) (stk oA : Nat → Nat) : Prop := (0 < D → stk 0 = 0) ∧ (D = 0 → e < 16 ∧ oA e = 0)
def ar_8 (G : gr_T) (D : Nat) (stk : Nat → Nat) : Prop := ∀ i, i + 1 < D → gr_E G (stk i) (stk (i + 1))
def ar_9 (G : gr_T) (D e : Nat) (stk oA : Nat → Nat) : Prop := ∀ j, e ≤ j → j < 16 → oA j ≠ 0 → ∃ p, gr_E G p (oA j) ∧ ((∃ i, i < D ∧ stk i = p) ∨ ∃ j', e ≤ j' ∧ j' < j ∧ oA j' = p)
def ar_P (G : gr_T) (D e : Nat) (stk oA nx : Nat → Nat) (seen : Nat → Prop) : Prop :=
  ar_1 G D e seen ∧ ar_3 D stk seen ∧ ar_4 G D e stk oA nx seen ∧ ar_5 D e stk oA seen ∧ ar_6 G nx seen ∧ ar_7 D e stk oA ∧ ar_8 G D stk ∧ ar_9 G D e stk oA
section
variable {G : gr_T} {D e : Nat} {stk oA nx : Nat → Nat} {seen : Nat → Prop}
theorem ar_De (ok : gr_ok G) (h : ar_P G D e stk oA nx seen) : D ≤ e ∧ D + (16 - e) ≤ gr_n G := by
  obtain ⟨⟨h1, h2, _⟩, _⟩ := h
  have h3 : sg_s (fun x => b01 (seen x)) (gr_n G) ≤ 1 * gr_n G := sg_b (fun i _ => b01_1 _)
  have h4 := ok.1
  omega
theorem ar_pop (ok : gr_ok G) (h : ar_P G (D + 1) e stk oA nx seen) (hk : nx (stk D) = gr_kd G (stk D)) : ar_P G D (e - 1) stk (un_ oA (e - 1) (stk D)) nx seen := by
  have hDe := ar_De ok h
  obtain ⟨⟨h11, h12, h13, h14⟩, ⟨h31, h32⟩, ⟨h41, h42, h43⟩, h5, h6, ⟨h71, h72⟩, h8, h9⟩ := h
  refine ⟨⟨by omega, by omega, h13, h14⟩, ⟨fun i hi => h31 i (by omega), fun i j hi hj => h32 i j (by omega) (by omega)⟩, ⟨?_, ?_, ?_⟩, ?_, h6, ⟨fun z => h71 (by omega), ?_⟩, fun i hi => h8 i (by omega), ?_⟩
  · intro j hj hj'
    by_cases c : j = e - 1
    · subst c
      rw [un_s]
      exact ⟨h31 D (by omega), hk⟩
    · rw [un_n c]
      exact h41 j (by omega) hj'
  · intro i j hi hi' hj hj' he
    by_cases c : i = e - 1
    · by_cases c' : j = e - 1
      · omega
      · rw [c, un_s, un_n c'] at he
        exact absurd he (h43 D j (by omega) (by omega) hj')
    · by_cases c' : j = e - 1
      · rw [c', un_s, un_n c] at he
        exact absurd he.symm (h43 D i (by omega) (by omega) hi')
      · rw [un_n c, un_n c'] at he
        exact h42 i j (by omega) hi' (by omega) hj' he
  · intro i j hi hj hj' he
    by_cases c : j = e - 1
    · rw [c, un_s] at he
      have := h32 i D (by omega) (by omega) he
      omega
    · rw [un_n c] at he
      exact h43 i j (by omega) (by omega) hj' he
  · intro x hx
    rcases h5 x hx with ⟨i, hi, hs⟩ | ⟨j, hj, hj', hs⟩
    · by_cases c : i = D
      · subst c
        exact Or.inr ⟨e - 1, by omega, by omega, by rw [un_s]; exact hs⟩
      · exact Or.inl ⟨i, by omega, hs⟩
    · exact Or.inr ⟨j, by omega, hj', by rw [un_n (by omega)]; exact hs⟩
  · intro z
    subst z
    refine ⟨by omega, ?_⟩
    rw [un_s]
    exact h71 (by omega)
  · intro j hj hj' hne
    by_cases c : j = e - 1
    · subst c
      rw [un_s] at hne ⊢
      rcases Nat.eq_zero_or_pos D with z | z
      · subst z
        exact absurd (h71 (by omega)) hne
      · have := h8 (D - 1) (by omega)
        rw [show D - 1 + 1 = D by omega] at this
        exact ⟨stk (D - 1), this, Or.inl ⟨D - 1, by omega, rfl⟩⟩
    · rw [un_n c] at hne ⊢
      obtain ⟨p, hp, hq⟩ := h9 j (by omega) hj' hne
      refine ⟨p, hp, ?_⟩
      rcases hq with ⟨i, hi, hs⟩ | ⟨j', hl, hl', hs⟩
      · by_cases c' : i = D
        · subst c'
          exact Or.inr ⟨e - 1, by omega, by omega, by rw [un_s]; exact hs⟩
        · exact Or.inl ⟨i, by omega, hs⟩
      · exact Or.inr ⟨j', by omega, hl', by rw [un_n (by omega)]; exact hs⟩
theorem ar_adv (h : ar_P G (D + 1) e stk oA nx seen) (hk : nx (stk D) < gr_kd G (stk D)) (hs : seen (gr_tg G (2 * stk D + nx (stk D)))) : ar_P G (D + 1) e stk oA (un_ nx (stk D) (nx (stk D) + 1)) seen := by
  obtain ⟨h1, h3, ⟨h41, h42, h43⟩, h5, ⟨h61, h62, h63⟩, h7, h8, h9⟩ := h
  refine ⟨h1, h3, ⟨fun j hj hj' => ?_, h42, h43⟩, h5, ⟨fun x => ?_, fun x hx => ?_, fun x j hj => ?_⟩, h7, h8, h9⟩
  · rw [un_n (fun z => h43 D j (by omega) hj hj' z.symm)]
    exact h41 j hj hj'
  · by_cases c : x = stk D
    · rw [c, un_s]; omega
    · rw [un_n c]; exact h61 x
  · have c : x ≠ stk D := fun z => hx (by rw [z]; exact h3.1 D (by omega))
    rw [un_n c]
    exact h62 x hx
  · by_cases c : x = stk D
    · rw [c, un_s] at hj
      rw [c]
      by_cases c' : j = nx (stk D)
      · rw [c']; exact hs
      · exact h63 (stk D) j (by omega)
    · rw [un_n c] at hj
      exact h63 x j hj
theorem ar_push (ok : gr_ok G) (h : ar_P G (D + 1) e stk oA nx seen) (hk : nx (stk D) < gr_kd G (stk D)) {t : Nat} (et : gr_tg G (2 * stk D + nx (stk D)) = t) (hs : ¬ seen t) : ar_P G (D + 2) e (un_ stk (D + 1) t) oA (un_ nx (stk D) (nx (stk D) + 1)) (fun y => y = t ∨ seen y) := by
  obtain ⟨⟨h11, h12, h13, h14⟩, ⟨h31, h32⟩, ⟨h41, h42, h43⟩, h5, ⟨h61, h62, h63⟩, ⟨h71, h72⟩, h8, h9⟩ := h
  have hkn := h13 _ (h31 D (by omega))
  have htn : t < gr_n G := by
    have := ((ok.2.2 _ hkn).2.2.2.1 _ hk).2
    omega
  have stn : ∀ i, i < D + 1 → un_ stk (D + 1) t i = stk i := fun i hi => un_n (by omega)
  refine ⟨⟨h11, ?_, ?_, Or.inr h14⟩, ⟨?_, ?_⟩, ⟨?_, h42, ?_⟩, ?_, ⟨?_, ?_, ?_⟩, ⟨fun _ => ?_, fun z => absurd z (by omega)⟩, ?_, ?_⟩
  · have := sg_up (f := fun x => b01 (x = t ∨ seen x)) (g := fun x => b01 (seen x)) htn (fun i _ hne => b01_i ⟨fun z => z.elim (fun w => absurd w hne) id, Or.inr⟩)
    rw [b01_f hs, b01_t (Or.inl rfl)] at this
    show D + 2 + (16 - e) = sg_s (fun x => b01 (x = t ∨ seen x)) (gr_n G)
    omega
  · rintro x (c | c)
    · rw [c]; exact htn
    · exact h13 x c
  · intro i hi
    by_cases c : i = D + 1
    · rw [c, un_s]; exact Or.inl rfl
    · rw [un_n c]; exact Or.inr (h31 i (by omega))
  · intro i j hi hj he
    by_cases c : i = D + 1
    · by_cases c' : j = D + 1
      · omega
      · rw [c, un_s, un_n c'] at he
        exact absurd (by rw [he]; exact h31 j (by omega)) hs
    · by_cases c' : j = D + 1
      · rw [c', un_s, un_n c] at he
        exact absurd (by rw [← he]; exact h31 i (by omega)) hs
      · rw [un_n c, un_n c'] at he
        exact h32 i j (by omega) (by omega) he
  · intro j hj hj'
    rw [un_n (fun z => h43 D j (by omega) hj hj' z.symm)]
    exact ⟨Or.inr (h41 j hj hj').1, (h41 j hj hj').2⟩
  · intro i j hi hj hj' he
    by_cases c : i = D + 1
    · rw [c, un_s] at he
      exact hs (by rw [he]; exact (h41 j hj hj').1)
    · rw [un_n c] at he
      exact h43 i j (by omega) hj hj' he
  · rintro x (c | c)
    · exact Or.inl ⟨D + 1, by omega, by rw [un_s]; exact c.symm⟩
    · rcases h5 x c with ⟨i, hi, hx⟩ | hx
      · exact Or.inl ⟨i, by omega, by rw [stn i hi]; exact hx⟩
      · exact Or.inr hx
  · intro x
    by_cases c : x = stk D
    · rw [c, un_s]; omega
    · rw [un_n c]; exact h61 x
  · intro x hx
    have hx' : ¬ seen x := fun z => hx (Or.inr z)
    have c : x ≠ stk D := fun z => hx' (by rw [z]; exact h31 D (by omega))
    rw [un_n c]
    exact h62 x hx'
  · intro x j hj
    by_cases c : x = stk D
    · rw [c, un_s] at hj
      rw [c]
      by_cases c' : j = nx (stk D)
      · rw [c']; exact Or.inl et
      · exact Or.inr (h63 (stk D) j (by omega))
    · rw [un_n c] at hj
      exact Or.inr (h63 x j hj)
  · rw [stn 0 (by omega)]
    exact h71 (by omega)
  · intro i hi
    by_cases c : i = D
    · rw [c, un_s, stn D (by omega)]
      exact ⟨hkn, nx (stk D), hk, et⟩
    · rw [stn i (by omega), stn (i + 1) (by omega)]
      exact h8 i (by omega)
  · intro j hj hj' hne
    obtain ⟨p, hp, hq⟩ := h9 j hj hj' hne
    refine ⟨p, hp, ?_⟩
    rcases hq with ⟨i, hi, hx⟩ | hx
    · exact Or.inl ⟨i, by omega, by rw [stn i hi]; exact hx⟩
    · exact Or.inr hx
theorem ar_mu {k : Nat} (hk : k < gr_n G) (h : nx k < gr_kd G k) : sg_s (fun x => gr_kd G x - un_ nx k (nx k + 1) x) (gr_n G) + 1 = sg_s (fun x => gr_kd G x - nx x) (gr_n G) := by
  have := sg_up (f := fun x => gr_kd G x - un_ nx k (nx k + 1) x) (g := fun x => gr_kd G x - nx x) hk (fun i _ hne => by
    show gr_kd G i - un_ nx k (nx k + 1) i = _
    rw [un_n hne])
  have e : gr_kd G k - un_ nx k (nx k + 1) k = gr_kd G k - (nx k + 1) := by rw [un_s]
  simp only [e] at this
  omega
/-- at the end -/
theorem ar_end (ok : gr_ok G) (h : ar_P G 0 e stk oA nx seen) {pl : Nat → Nat} (hpl : ∀ k, k < 16 - e → pl (oA (e + k)) = k) : or_ok G (16 - e) (fun k => oA (e + k)) pl ∧ (∀ x, seen x ↔ gr_M G x) ∧ 16 - e = sg_s (fun x => b01 (gr_M G x)) (gr_n G) ∧ (∀ p t, (p < gr_n G ∧ ∃ j, j < nx p ∧ gr_tg G (2 * p + j) = t) ↔ (gr_M G p ∧ gr_E G p t)) := by
  have hDe := ar_De ok h
  obtain ⟨⟨h11, h12, h13, h14⟩, ⟨h31, h32⟩, ⟨h41, h42, h43⟩, h5, ⟨h61, h62, h63⟩, ⟨h71, h72⟩, h8, h9⟩ := h
  have h5' : ∀ x, seen x → ∃ j, e ≤ j ∧ j < 16 ∧ oA j = x := by
    intro x hx
    rcases h5 x hx with ⟨i, hi, _⟩ | z
    · omega
    · exact z
  have hO : or_ok G (16 - e) (fun k => oA (e + k)) pl := by
    refine ⟨by omega, fun hn => ⟨by have := (h72 rfl).1; omega, (h72 rfl).2⟩, fun k hk => ⟨h13 _ (h41 (e + k) (by omega) (by omega)).1, hpl k hk⟩, fun k hk hk0 => ?_, fun k hk y hy => ?_⟩
    · have hne : oA (e + k) ≠ 0 := by
        intro z
        have := h42 (e + k) e (by omega) (by omega) (by omega) (h72 rfl).1 (by rw [z, (h72 rfl).2])
        omega
      obtain ⟨p, hp, hq⟩ := h9 (e + k) (by omega) (by omega) hne
      rcases hq with ⟨i, hi, _⟩ | ⟨j', hl, hl', hx⟩
      · omega
      · exact ⟨j' - e, by omega, by show gr_E G (oA (e + (j' - e))) _; rw [show e + (j' - e) = j' by omega, hx]; exact hp⟩
    · obtain ⟨_, j, hj, hx⟩ := hy
      have hkd := (h41 (e + k) (by omega) (by omega)).2
      obtain ⟨i, hi, hi', hx'⟩ := h5' y (by rw [← hx]; exact h63 _ j (by rw [hkd]; exact hj))
      exact ⟨i - e, by omega, by show oA (e + (i - e)) = y; rw [show e + (i - e) = i by omega]; exact hx'⟩
  have hS : ∀ x, seen x ↔ gr_M G x := by
    intro x
    constructor
    · intro hx
      obtain ⟨j, hj, hj', e'⟩ := h5' x hx
      have := or_m hO (j - e) (by omega)
      simp only [show e + (j - e) = j by omega, e'] at this
      exact this
    · intro hx
      obtain ⟨h1, h2⟩ := or_M hO ok hx
      have h2' : oA (e + pl x) = x := h2
      rw [← h2']
      exact (h41 (e + pl x) (by omega) (by omega)).1
  refine ⟨hO, hS, ?_, fun p t => ?_⟩
  · have : (fun x => b01 (gr_M G x)) = (fun x => b01 (seen x)) := by
      funext x
      exact b01_i (hS x).symm
    rw [this]
    omega
  · constructor
    · rintro ⟨hp, j, hj, et⟩
      have hsp : seen p := Classical.byContradiction (fun z => by rw [h62 p z] at hj; omega)
      exact ⟨(hS p).mp hsp, hp, j, Nat.lt_of_lt_of_le hj (h61 p), et⟩
    · rintro ⟨hM, hp, j, hj, et⟩
      obtain ⟨i, hi, hi', hx⟩ := h5' p ((hS p).mpr hM)
      refine ⟨hp, j, ?_, et⟩
      have := (h41 i hi hi').2
      rw [hx] at this
      omega
end
end
section
section
variable {f_blocks f_given f_known f_met f_openEdges f_openBlocks f_first f_last f_openCount f_firstEdge f_lastEdge f_result f_begun f_latest f_inputs : Int32} {a_op a_d a_b a_many a_kind a_asks a_target a_a a_order a_place a_parent a_depths a_living a_needs a_merging a_stack a_next a_before a_frontiers a_in a_out a_nameA a_nameB a_queue a_state a_worth a_usedByExit a_edges a_now : Nat → Int32} {a_usedBySet a_usedByLow a_usedByHigh : Nat → Int64}
variable {post : SX → Prop} {G : gr_T}
theorem xa_192 {e m : Nat} {oA : Nat → Nat} {seen : Nat → Prop} (he : e + m = 16) (hoA : ∀ j, e ≤ j → j < 16 → oA j < 16) (inj : ∀ i j, e ≤ i → i < 16 → e ≤ j → j < 16 → oA i = oA j → i = j) (hs : ∀ j, e ≤ j → j < 16 → seen (oA j))
    (K : ∀ a_order a_place : Nat → Int32, (∀ k, k < m → a_order k = nI (oA (e + k)) ∧ a_place (oA (e + k)) = nI k) → (∀ x, x < 16 → ¬ seen x → a_place x = -1) → post (f_blocks, f_given, f_known, nI m, f_openEdges, f_openBlocks, f_first, f_last, f_openCount, f_firstEdge, f_lastEdge, f_result, f_begun, f_latest, f_inputs, a_op, a_d, a_b, a_many, a_kind, a_asks, a_target, a_a, a_order, a_place, a_parent, a_depths, a_living, a_needs, a_merging, a_stack, a_next, a_before, a_frontiers, a_in, a_out, a_nameA, a_nameB, a_queue, a_state, a_worth, a_usedByExit, a_usedBySet, a_usedByLow, a_usedByHigh, a_edges, a_now)) :
    ∀ n i (a_order a_place : Nat → Int32), m < n + i → i ≤ m → (∀ k, k < i → a_order k = nI (oA (e + k)) ∧ a_place (oA (e + k)) = nI k) → (∀ j, i ≤ j → e ≤ j → j < 16 → a_order j = nI (oA j)) → (∀ x, x < 16 → ¬ seen x → a_place x = -1) → wX_arrange_192 post (nI e) f_blocks f_given f_known (nI m) f_openEdges f_openBlocks f_first f_last f_openCount f_firstEdge f_lastEdge f_result f_begun f_latest f_inputs n (nI i) a_op a_d a_b a_many a_kind a_asks a_target a_a a_order a_place a_parent a_depths a_living a_needs a_merging a_stack a_next a_before a_frontiers a_in a_out a_nameA a_nameB a_queue a_state a_worth a_usedByExit a_usedBySet a_usedByLow a_usedByHigh a_edges a_now := by
  intro n
  induction n with
  | zero => intro i _ _ h1 h2; omega
  | succ n ih =>
    intro i a_order a_place h1 h2 hA hB hC
    rw [wX_arrange_192]
    refine pk_le m i (fun h => ?_) (fun h => ?_)
    · have e' : i = m := by omega
      subst e'
      exact K a_order a_place hA hC
    · have c1 : nI e + nI i = nI (e + i) := nI_add e i
      have c2 : (nI (e + i)).toNatClampNeg = e + i := fn_c (by omega)
      have c3 : (nI i).toNatClampNeg = i := fn_c (by omega)
      have hq := hoA (e + i) (by omega) (by omega)
      have c4 : (nI (oA (e + i))).toNatClampNeg = oA (e + i) := fn_c (by omega)
      rw [c1, c2, c3]
      refine ⟨vp_in_nI (by omega) (by omega), vp_in_nI (by omega) (by omega), nm_r (e' := upd a_order i (nI (oA (e + i)))) (by rw [hB (e + i) (by omega) (by omega) (by omega), fb_vb' (by omega)]) ?_⟩
      rw [pk_us, c4]
      refine ⟨vp_in_nI (by omega) (by omega), vp_in_nI (by omega) (by omega), nm_r (e' := upd a_place (oA (e + i)) (nI i)) (by rw [fb_vb (by omega)]) (nm_r (nI_1 i) (ih (i + 1) _ _ (by omega) (by omega) ?_ ?_ ?_))⟩
      · intro k hk
        by_cases c : k = i
        · rw [c, pk_us, pk_us]; exact ⟨rfl, rfl⟩
        · have hne : oA (e + k) ≠ oA (e + i) := fun z => by
            have := inj (e + k) (e + i) (by omega) (by omega) (by omega) (by omega) z
            omega
          rw [pk_un c, pk_un hne]
          exact hA k (by omega)
      · intro j hj hj' hj2
        rw [pk_un (by omega)]
        exact hB j (by omega) hj' hj2
      · intro x hx hn
        have hne : x ≠ oA (e + i) := fun z => hn (by rw [z]; exact hs (e + i) (by omega) (by omega))
        rw [pk_un hne]
        exact hC x hx hn
/-- the arrays while the blocks are walked -/
def ar_A (G : gr_T) (D e : Nat) (stk oA nx : Nat → Nat) (seen : Nat → Prop) (a_order a_place a_stack a_next a_before : Nat → Int32) : Prop :=
  (∀ i, i < D → a_stack i = nI (stk i)) ∧ (∀ j, e ≤ j → j < 16 → a_order j = nI (oA j)) ∧ (∀ x, x < 16 → a_next x = nI (nx x)) ∧ (∀ x, x < 16 → (seen x → a_place x = 0) ∧ (¬ seen x → a_place x = -1)) ∧ (∀ t p, t < 16 → p < 16 → (bt (a_before t) p = true ↔ p < gr_n G ∧ ∃ j, j < nx p ∧ gr_tg G (2 * p + j) = t))
theorem ar_bef {G : gr_T} {nx : Nat → Nat} {a_before : Nat → Int32} {k t : Nat} (hk : k < gr_n G) (hk' : k < 16) (ht : gr_tg G (2 * k + nx k) = t) (h : ∀ t p, t < 16 → p < 16 → (bt (a_before t) p = true ↔ p < gr_n G ∧ ∃ j, j < nx p ∧ gr_tg G (2 * p + j) = t)) : ∀ t' p, t' < 16 → p < 16 → (bt (upd a_before t (a_before t ||| ((1 : Int32) <<< (nI k &&& 31))).toInt16.toInt32 t') p = true ↔ p < gr_n G ∧ ∃ j, j < un_ nx k (nx k + 1) p ∧ gr_tg G (2 * p + j) = t') := by
  intro t' p ht' hp
  have hold := h t' p ht' hp
  have hb : bt (upd a_before t (a_before t ||| ((1 : Int32) <<< (nI k &&& 31))).toInt16.toInt32 t') p = true ↔ (bt (a_before t') p = true ∨ (t' = t ∧ p = k)) := by
    by_cases c : t' = t
    · subst c
      rw [pk_us, fb_s16 _ hp, fb_or1 _ (by omega) (by omega)]
      simp
    · rw [pk_un c]
      exact ⟨Or.inl, fun z => z.elim id (fun w => absurd w.1 c)⟩
  rw [hb, hold]
  constructor
  · rintro (⟨h1, j, hj, e⟩ | ⟨e1, e2⟩)
    · refine ⟨h1, j, ?_, e⟩
      by_cases c : p = k
      · rw [c, un_s]; rw [c] at hj; omega
      · rw [un_n c]; exact hj
    · subst e2
      exact ⟨hk, nx p, by rw [un_s]; omega, by rw [ht, e1]⟩
  · rintro ⟨h1, j, hj, e⟩
    by_cases c : p = k
    · subst c
      rw [un_s] at hj
      by_cases c' : j = nx p
      · subst c'
        exact Or.inr ⟨by rw [← e, ht], rfl⟩
      · exact Or.inl ⟨h1, j, by omega, e⟩
    · rw [un_n c] at hj
      exact Or.inl ⟨h1, j, hj, e⟩
theorem xa_64 (X : xp_ok G f_blocks f_given a_op a_d a_b a_many a_kind a_asks a_target a_a)
    (K : ∀ (e : Nat) (stk oA nx : Nat → Nat) (seen : Nat → Prop) (a_order a_place a_stack a_next a_before : Nat → Int32), ar_P G 0 e stk oA nx seen → ar_A G 0 e stk oA nx seen a_order a_place a_stack a_next a_before → ∃ n192 : Nat, wX_arrange_192 post (nI e) f_blocks f_given f_known (nI (16 - e)) f_openEdges f_openBlocks f_first f_last f_openCount f_firstEdge f_lastEdge f_result f_begun f_latest f_inputs n192 0 a_op a_d a_b a_many a_kind a_asks a_target a_a a_order a_place a_parent a_depths a_living a_needs a_merging a_stack a_next a_before a_frontiers a_in a_out a_nameA a_nameB a_queue a_state a_worth a_usedByExit a_usedBySet a_usedByLow a_usedByHigh a_edges a_now) :
    ∀ n (D e : Nat) (stk oA nx : Nat → Nat) (seen : Nat → Prop) (a_order a_place a_stack a_next a_before : Nat → Int32), 2 * sg_s (fun x => gr_kd G x - nx x) (gr_n G) + D < n → ar_P G D e stk oA nx seen → ar_A G D e stk oA nx seen a_order a_place a_stack a_next a_before → wX_arrange_64 post f_blocks f_given f_known f_met f_openEdges f_openBlocks f_first f_last f_openCount f_firstEdge f_lastEdge f_result f_begun f_latest f_inputs n (nI D) (nI e) a_op a_d a_b a_many a_kind a_asks a_target a_a a_order a_place a_parent a_depths a_living a_needs a_merging a_stack a_next a_before a_frontiers a_in a_out a_nameA a_nameB a_queue a_state a_worth a_usedByExit a_usedBySet a_usedByLow a_usedByHigh a_edges a_now := by
  have ok := X.1
  have hn16 := ok.1
  intro n
  induction n with
  | zero => intro D e stk oA nx seen _ _ _ _ _ h; omega
  | succ n ih =>
    intro D e stk oA nx seen a_order a_place a_stack a_next a_before hmu hP hA
    rw [wX_arrange_64]
    have hDe := ar_De ok hP
    have he16 := hP.1.1
    rcases Nat.eq_zero_or_pos D with hD | hD
    · subst hD
      exact br_t (by rw [nI_0]; decide) (nm_r (e' := nI (16 - e)) (pk_sub (a := 16) he16) (K e stk oA nx seen a_order a_place a_stack a_next a_before hP hA))
    · obtain ⟨D, rfl⟩ : ∃ d, D = d + 1 := ⟨D - 1, by omega⟩
      refine br_f (nI_nle (by omega) (by omega)) ?_
      obtain ⟨hA1, hA2, hA3, hA4, hA5⟩ := hA
      have hsk := hP.2.1.1 D (by omega)
      have hkn := hP.1.2.2.1 _ hsk
      have c1 : nI (D + 1) - 1 = nI D := nI_pred D
      have c2 : (nI D).toNatClampNeg = D := fn_c (by omega)
      rw [c1, c2]
      refine ⟨vp_in_nI (by omega) (by omega), nm_r (e' := nI (stk D)) (hA1 D (by omega)) ?_⟩
      have c3 : (nI (stk D)).toNatClampNeg = stk D := fn_c (by omega)
      have hin : vp_in (nI (stk D)) 16 := vp_in_nI (by omega) (by omega)
      have hB := ok.2.2 _ hkn
      have hle := hP.2.2.2.2.1.1 (stk D)
      have hnx := hA3 (stk D) (by omega)
      rw [c3, hnx, X.2.2.2.2.1 _ hkn]
      have hkd := hB.2.1
      refine ⟨hin, hin, pk_eq (nx (stk D)) (gr_kd G (stk D)) (fun h => ?_) (fun h => ?_)⟩
      · refine nm_r (pk_m1 D) (nm_r (e' := nI (e - 1)) (sb_m1 (by omega)) ⟨vp_in_nI (by omega) (by omega), nm_r (e' := upd a_order (e - 1) (nI (stk D))) (by rw [fn_c (by omega), fb_vb (by omega)]) ?_⟩)
        refine ih D (e - 1) stk (un_ oA (e - 1) (stk D)) nx seen _ _ _ _ _ (by omega) (ar_pop ok hP h) ⟨fun i hi => hA1 i (by omega), fun j hj hj' => ?_, hA3, hA4, hA5⟩
        by_cases c : j = e - 1
        · rw [c, pk_us, un_s]
        · rw [pk_un c, un_n c]
          exact hA2 j (by omega) hj'
      · have hlt : nx (stk D) < gr_kd G (stk D) := by omega
        have htg := hB.2.2.2.1 _ hlt
        have c4 : 2 * nI (stk D) + nI (nx (stk D)) = nI (2 * stk D + nx (stk D)) := fn_22 _ _
        have c5 : (nI (2 * stk D + nx (stk D))).toNatClampNeg = 2 * stk D + nx (stk D) := fn_c (by omega)
        have c6 : nI (nx (stk D)) + 1 = nI (nx (stk D) + 1) := nI_1 _
        rw [c4, c5, c6, fb_vb (by omega)]
        refine ⟨hin, hin, nm_e ⟨vp_in_nI (by omega) (by omega), nm_r (e' := nI (gr_tg G (2 * stk D + nx (stk D)))) (X.2.2.2.2.2.2.1 _ _ hkn hlt) ?_⟩⟩
        have hmu' := ar_mu hkn hlt
        have hA3' : ∀ x, x < 16 → upd a_next (stk D) (nI (nx (stk D) + 1)) x = nI (un_ nx (stk D) (nx (stk D) + 1) x) := by
          intro x hx
          by_cases c : x = stk D
          · rw [c, pk_us, un_s]
          · rw [pk_un c, un_n c]
            exact hA3 x hx
        have hA5' := ar_bef (k := stk D) hkn (by omega) rfl hA5
        generalize et : gr_tg G (2 * stk D + nx (stk D)) = t at htg hA5' ⊢
        have hti : vp_in (nI t) 16 := vp_in_nI (by omega) (by omega)
        have c7 : (nI t).toNatClampNeg = t := fn_c (by omega)
        rw [c7, pk_vs]
        refine ⟨hti, hti, nm_e ⟨hti, ?_⟩⟩
        by_cases hs : seen t
        · rw [(hA4 t (by omega)).1 hs]
          exact br_f (by decide) (ih (D + 1) e stk oA _ seen _ _ _ _ _ (by omega) (ar_adv hP hlt (by rw [et]; exact hs)) ⟨hA1, hA2, hA3', hA4, hA5'⟩)
        · rw [(hA4 t (by omega)).2 hs]
          have hP' := ar_push ok hP hlt et hs
          have hDe' := ar_De ok hP'
          refine br_t (by decide) ⟨hti, nm_r (e' := upd a_place t 0) (by rw [fb_vb0]) (nm_r (nI_1 (D + 1)) ⟨vp_in_nI (by omega) (by omega), nm_r (e' := upd a_stack (D + 1) (nI t)) (by rw [fn_c (by omega), fb_vb (by omega)]) ?_⟩)⟩
          refine ih (D + 1 + 1) e _ oA _ _ _ _ _ _ _ (by omega) hP' ⟨fun i hi => ?_, hA2, hA3', fun x hx => ?_, hA5'⟩
          · by_cases c : i = D + 1
            · rw [c, pk_us, un_s]
            · rw [pk_un c, un_n c]
              exact hA1 i (by omega)
          · by_cases c : x = t
            · rw [c, pk_us]
              exact ⟨fun _ => rfl, fun z => absurd (Or.inl rfl) z⟩
            · rw [pk_un c]
              exact ⟨fun z => (hA4 x hx).1 (z.elim (fun w => absurd w c) id), fun z => (hA4 x hx).2 (fun w => z (Or.inr w))⟩
theorem xa_2 (K : (f_blocks ≤ 0 → ∃ n64 : Nat, wX_arrange_64 post f_blocks f_given f_known f_met f_openEdges f_openBlocks f_first f_last f_openCount f_firstEdge f_lastEdge f_result f_begun f_latest f_inputs n64 0 16 a_op a_d a_b a_many a_kind a_asks a_target a_a a_order (cl_ (-1) 16 a_place) a_parent a_depths a_living a_needs a_merging a_stack (cl_ 0 16 a_next) (cl_ 0 16 a_before) a_frontiers a_in a_out a_nameA a_nameB a_queue a_state a_worth a_usedByExit a_usedBySet a_usedByLow a_usedByHigh a_edges a_now) ∧ (¬ f_blocks ≤ 0 → ∃ n64 : Nat, wX_arrange_64 post f_blocks f_given f_known f_met f_openEdges f_openBlocks f_first f_last f_openCount f_firstEdge f_lastEdge f_result f_begun f_latest f_inputs n64 (nI 1) 16 a_op a_d a_b a_many a_kind a_asks a_target a_a a_order (upd (cl_ (-1) 16 a_place) 0 0) a_parent a_depths a_living a_needs a_merging (upd a_stack 0 0) (cl_ 0 16 a_next) (cl_ 0 16 a_before) a_frontiers a_in a_out a_nameA a_nameB a_queue a_state a_worth a_usedByExit a_usedBySet a_usedByLow a_usedByHigh a_edges a_now)) :
    ∀ n i, 16 < n + i → i ≤ 16 → wX_arrange_2 post f_blocks f_given f_known f_met f_openEdges f_openBlocks f_first f_last f_openCount f_firstEdge f_lastEdge f_result f_begun f_latest f_inputs n (nI i) a_op a_d a_b a_many a_kind a_asks a_target a_a a_order (cl_ (-1) i a_place) a_parent a_depths a_living a_needs a_merging a_stack (cl_ 0 i a_next) (cl_ 0 i a_before) a_frontiers a_in a_out a_nameA a_nameB a_queue a_state a_worth a_usedByExit a_usedBySet a_usedByLow a_usedByHigh a_edges a_now := by
  intro n
  induction n with
  | zero => intro i h1 h2; omega
  | succ n ih =>
    intro i h1 h2
    rw [wX_arrange_2]
    refine pk_le 16 i (fun h => ?_) (fun h => ?_)
    · have e : i = 16 := by omega
      subst e
      exact ⟨K.1, fun z => nm_r (e' := nI 1) (by decide) (nm_r (e' := upd a_stack 0 0) (by rw [fb_vb0]) (nm_r (e' := upd (cl_ (-1) 16 a_place) 0 0) (by rw [fb_vb0]) (K.2 z)))⟩
    · have c : (nI i).toNatClampNeg = i := fn_c (by omega)
      have hin : vp_in (nI i) 16 := vp_in_nI (by omega) (by omega)
      rw [c, fb_vbm, fb_vb0, fb_vs0]
      exact ⟨hin, nm_r cl_s ⟨hin, nm_r cl_s ⟨hin, nm_r cl_s (nm_r (nI_1 i) (ih (i + 1) (by omega) (by omega)))⟩⟩⟩
theorem xa_arrange (X : xp_ok G f_blocks f_given a_op a_d a_b a_many a_kind a_asks a_target a_a)
    (K : ∀ (m : Nat) (ord pl : Nat → Nat) (a_order a_place a_stack a_next a_before : Nat → Int32), xa_ok G m ord pl a_order a_place a_before → post (f_blocks, f_given, f_known, nI m, f_openEdges, f_openBlocks, f_first, f_last, f_openCount, f_firstEdge, f_lastEdge, f_result, f_begun, f_latest, f_inputs, a_op, a_d, a_b, a_many, a_kind, a_asks, a_target, a_a, a_order, a_place, a_parent, a_depths, a_living, a_needs, a_merging, a_stack, a_next, a_before, a_frontiers, a_in, a_out, a_nameA, a_nameB, a_queue, a_state, a_worth, a_usedByExit, a_usedBySet, a_usedByLow, a_usedByHigh, a_edges, a_now)) : wpX_arrange post (f_blocks, f_given, f_known, f_met, f_openEdges, f_openBlocks, f_first, f_last, f_openCount, f_firstEdge, f_lastEdge, f_result, f_begun, f_latest, f_inputs, a_op, a_d, a_b, a_many, a_kind, a_asks, a_target, a_a, a_order, a_place, a_parent, a_depths, a_living, a_needs, a_merging, a_stack, a_next, a_before, a_frontiers, a_in, a_out, a_nameA, a_nameB, a_queue, a_state, a_worth, a_usedByExit, a_usedBySet, a_usedByLow, a_usedByHigh, a_edges, a_now) := by
  have ok := X.1
  have hn16 := ok.1
  have fin : ∀ (e : Nat) (stk oA nx : Nat → Nat) (seen : Nat → Prop) (a_order a_place a_stack a_next a_before : Nat → Int32), ar_P G 0 e stk oA nx seen → ar_A G 0 e stk oA nx seen a_order a_place a_stack a_next a_before → ∃ n192 : Nat, wX_arrange_192 post (nI e) f_blocks f_given f_known (nI (16 - e)) f_openEdges f_openBlocks f_first f_last f_openCount f_firstEdge f_lastEdge f_result f_begun f_latest f_inputs n192 0 a_op a_d a_b a_many a_kind a_asks a_target a_a a_order a_place a_parent a_depths a_living a_needs a_merging a_stack a_next a_before a_frontiers a_in a_out a_nameA a_nameB a_queue a_state a_worth a_usedByExit a_usedBySet a_usedByLow a_usedByHigh a_edges a_now := by
    intro e stk oA nx seen a_order a_place a_stack a_next a_before hP hA
    have hoA : ∀ j, e ≤ j → j < 16 → oA j < gr_n G := fun j h1 h2 => hP.1.2.2.1 _ (hP.2.2.1.1 j h1 h2).1
    have he16 := hP.1.1
    refine ⟨17, xa_192 (e := e) (m := 16 - e) (oA := oA) (seen := seen) (by omega) (fun j h1 h2 => by have := hoA j h1 h2; omega) hP.2.2.1.2.1 (fun j h1 h2 => (hP.2.2.1.1 j h1 h2).1) ?_ 17 0 a_order a_place (by omega) (by omega) (fun k hk => absurd hk (by omega)) (fun j _ h1 h2 => hA.2.1 j h1 h2) (fun x hx hn => (hA.2.2.2.1 x hx).2 hn)⟩
    intro a_order a_place h1 h2
    obtain ⟨r1, r2, r3, r4⟩ := ar_end ok hP (pl := fun x => (a_place x).toNatClampNeg) (fun k hk => by
      show (a_place (oA (e + k))).toNatClampNeg = k
      rw [(h1 k hk).2]
      exact fn_c (by omega))
    refine K (16 - e) (fun k => oA (e + k)) (fun x => (a_place x).toNatClampNeg) a_order a_place a_stack a_next a_before ⟨r1, fun k hk => (h1 k hk).1, fun x hx => ?_, fun x hx hn => h2 x hx (fun z => hn ((r2 x).mp z)), fun t p ht hp => (hA.2.2.2.2 t p ht hp).trans (r4 p t), r3⟩
    obtain ⟨g1, g2⟩ := or_M r1 ok hx
    have g2' : oA (e + (a_place x).toNatClampNeg) = x := g2
    have := (h1 _ g1).2
    rw [g2'] at this
    exact this
  have e0 := xa_2 (post := post) (f_blocks := f_blocks) (f_given := f_given) (f_known := f_known) (f_met := f_met) (f_openEdges := f_openEdges) (f_openBlocks := f_openBlocks) (f_first := f_first) (f_last := f_last) (f_openCount := f_openCount) (f_firstEdge := f_firstEdge) (f_lastEdge := f_lastEdge) (f_result := f_result) (f_begun := f_begun) (f_latest := f_latest) (f_inputs := f_inputs) (a_op := a_op) (a_d := a_d) (a_b := a_b) (a_many := a_many) (a_kind := a_kind) (a_asks := a_asks) (a_target := a_target) (a_a := a_a) (a_order := a_order) (a_place := a_place) (a_parent := a_parent) (a_depths := a_depths) (a_living := a_living) (a_needs := a_needs) (a_merging := a_merging) (a_stack := a_stack) (a_next := a_next) (a_before := a_before) (a_frontiers := a_frontiers) (a_in := a_in) (a_out := a_out) (a_nameA := a_nameA) (a_nameB := a_nameB) (a_queue := a_queue) (a_state := a_state) (a_worth := a_worth) (a_usedByExit := a_usedByExit) (a_usedBySet := a_usedBySet) (a_usedByLow := a_usedByLow) (a_usedByHigh := a_usedByHigh) (a_edges := a_edges) (a_now := a_now) ?_ 17 0 (by omega) (by omega)
  · rw [cl_0, cl_0, cl_0] at e0
    exact ⟨17, e0⟩
  · refine ⟨fun hb => ?_, fun hb => ?_⟩
    · refine ⟨1, ?_⟩
      rw [wX_arrange_64]
      have hn0 : gr_n G = 0 := by
        rcases Nat.eq_zero_or_pos (gr_n G) with z | z
        · exact z
        · rw [X.2.1] at hb
          exact absurd hb (nI_nle z (by omega))
      refine br_t (by decide) (nm_r (e' := nI 0) (by decide) ⟨1, ?_⟩)
      rw [wX_arrange_192]
      have hnM : ∀ x, ¬ gr_M G x := fun x hx => by have := hx.1; omega
      refine br_t (by decide) (K 0 (fun _ => 0) (fun _ => 0) a_order (cl_ (-1) 16 a_place) a_stack (cl_ 0 16 a_next) (cl_ 0 16 a_before) ⟨⟨by omega, fun z => absurd z (by omega), fun k hk => absurd hk (by omega), fun k hk => absurd hk (by omega), fun k hk => absurd hk (by omega)⟩, fun k hk => absurd hk (by omega), fun x hx => absurd hx (hnM x), fun x hx _ => cl_l hx, fun t p ht hp => ?_, ?_⟩)
      · rw [cl_l ht, b_0]
        exact ⟨fun z => absurd z (by decide), fun z => absurd z.1 (hnM p)⟩
      · rw [hn0]; rfl
    · have hn0 : 0 < gr_n G := by
        rcases Nat.eq_zero_or_pos (gr_n G) with z | z
        · rw [X.2.1, z] at hb
          exact absurd (by decide) hb
        · exact z
      have hs1 : sg_s (fun x => b01 (x = 0)) (gr_n G) = 1 := by
        have := sg_up (f := fun x => b01 (x = 0)) (g := fun _ => 0) hn0 (fun i _ hne => b01_f hne)
        rw [sg_0 (f := fun _ => 0) (fun _ _ => rfl), b01_t rfl] at this
        omega
      refine ⟨_, xa_64 X fin (2 * sg_s (fun x => gr_kd G x - 0) (gr_n G) + 1 + 1) 1 16 (fun _ => 0) (fun _ => 0) (fun _ => 0) (fun x => x = 0) _ _ _ _ _ (by omega) ⟨⟨by omega, by rw [hs1], fun x hx => by omega, rfl⟩, ⟨fun _ _ => rfl, fun i j hi hj _ => by omega⟩, ⟨fun j h1 h2 => absurd h2 (by omega), fun i j h1 h2 => absurd h2 (by omega), fun i j _ h1 h2 => absurd h2 (by omega)⟩, fun x hx => Or.inl ⟨0, by omega, hx.symm⟩, ⟨fun _ => Nat.zero_le _, fun _ _ => rfl, fun x j hj => absurd hj (Nat.not_lt_zero j)⟩, ⟨fun _ => rfl, fun z => absurd z (by omega)⟩, fun i hi => absurd hi (by omega), fun j h1 h2 => absurd h2 (by omega)⟩ ⟨fun i hi => ?_, fun j h1 h2 => absurd h2 (by omega), fun x hx => cl_l hx, fun x hx => ?_, fun t p ht hp => ?_⟩⟩
      · have e : i = 0 := by omega
        rw [e, pk_us]
        rfl
      · by_cases c : x = 0
        · rw [c, pk_us]
          exact ⟨fun _ => rfl, fun z => absurd rfl z⟩
        · rw [pk_un c, cl_l hx]
          exact ⟨fun z => absurd z c, fun _ => rfl⟩
      · rw [cl_l ht, b_0]
        exact ⟨fun z => absurd z (by decide), fun ⟨_, j, hj, _⟩ => absurd hj (Nat.not_lt_zero j)⟩
end
end
section
/-! parents -/
def pe_ (o : Option Nat) : Int32 := match o with
  | none => -1
  | some p => nI p
theorem pe_s {p : Nat} : pe_ (some p) = nI p := rfl
theorem pe_n : pe_ none = -1 := rfl
theorem pe_inj {o : Option Nat} {r : Nat} (hr : r < 16) (ho : ∀ p, o = some p → p < 16) : nI r = pe_ o ↔ o = some r := by
  cases o with
  | none => exact ⟨fun z => absurd z (fn_ne (by omega)), fun z => nomatch z⟩
  | some p =>
    have := ho p rfl
    constructor
    · intro z
      rw [fn_inj (by omega) (by omega) z]
    · intro z
      cases z
      rfl
section
variable {f_blocks f_given f_known f_met f_openEdges f_openBlocks f_first f_last f_openCount f_firstEdge f_lastEdge f_result f_begun f_latest f_inputs : Int32} {a_op a_d a_b a_many a_kind a_asks a_target a_a a_order a_place a_parent a_depths a_living a_needs a_merging a_stack a_next a_before a_frontiers a_in a_out a_nameA a_nameB a_queue a_state a_worth a_usedByExit a_edges a_now : Nat → Int32} {a_usedBySet a_usedByLow a_usedByHigh : Nat → Int64}
variable {G : gr_T} {m : Nat} {ord pl : Nat → Nat} {P : Nat → Option Nat}
theorem xm_5 {post : Int32 → Prop} (ok : gr_ok G) (O : or_ok G m ord pl) (hok : tr_ok G pl P) (hpl : ∀ x, gr_M G x → a_place x = nI (pl x)) (hpa : ∀ x, x < 16 → a_parent x = pe_ (P x)) {p0 q0 : Nat}
    (K : ∀ r, tr_A P r p0 → tr_A P r q0 → (∀ z, tr_A P z p0 → tr_A P z q0 → tr_A P z r) → post (nI r)) :
    ∀ n p q, pl p + pl q < n → gr_M G p → gr_M G q → tr_pr P p → tr_pr P q → tr_A P p p0 → tr_A P q q0 → (∀ z, tr_A P z p0 → tr_A P z q0 → tr_A P z p ∧ tr_A P z q) → wX_meeting_5 post f_blocks f_given f_known f_met f_openEdges f_openBlocks f_first f_last f_openCount f_firstEdge f_lastEdge f_result f_begun f_latest f_inputs a_op a_d a_b a_many a_kind a_asks a_target a_a a_order a_place a_parent a_depths a_living a_needs a_merging a_stack a_next a_before a_frontiers a_in a_out a_nameA a_nameB a_queue a_state a_worth a_usedByExit a_usedBySet a_usedByLow a_usedByHigh a_edges a_now n (nI p) (nI q) := by
  have hn16 := ok.1
  intro n
  induction n with
  | zero => intro p q h; omega
  | succ n ih =>
    intro p q hmu hp hq pp pq hpA hqA hz
    have hpn := gr_Mlt ok hp
    have hqn := gr_Mlt ok hq
    have mp := (or_M O ok hp).1
    have mq := (or_M O ok hq).1
    have hmn := O.1
    rw [wX_meeting_5]
    have cp : (nI p).toNatClampNeg = p := fn_c (by omega)
    have cq : (nI q).toNatClampNeg = q := fn_c (by omega)
    refine pk_eq p q (fun h => ?_) (fun h => ?_)
    · subst h
      exact K p hpA hqA (fun z h1 h2 => (hz z h1 h2).1)
    · rw [cp, cq, hpl p hp, hpl q hq]
      have ip : vp_in (nI p) 16 := vp_in_nI (by omega) (by omega)
      have iq : vp_in (nI q) 16 := vp_in_nI (by omega) (by omega)
      refine ⟨ip, iq, pk_le (pl p) (pl q) (fun hl => ?_) (fun hl => ?_)⟩
      · have hlt : pl p < pl q := by
          rcases Nat.lt_or_ge (pl p) (pl q) with z | z
          · exact z
          · exact absurd (or_inj O ok hp hq (by omega)) h
        have hq0 : q ≠ 0 := fun z => by
          have := or_0 O hq.1
          rw [z] at hlt
          omega
        rcases pq with z | z
        · exact absurd z hq0
        · cases hP : P q with
          | none => exact absurd hP z
          | some c =>
            have ht := hok.2 q c hP
            refine ⟨iq, nm_r (e' := nI c) (by rw [hpa q (by omega), hP]; rfl) ?_⟩
            refine ih p c (by omega) hp ht.2.1 pp ht.2.2.2.1 hpA (tr_up hqA hP) (fun z h1 h2 => ?_)
            have h3 := hz z h1 h2
            refine ⟨h3.1, ?_⟩
            rcases tr_inv h3.2 with e | ⟨c', hc', hA⟩
            · have := tr_pl hok h3.1
              rw [e] at this
              omega
            · rw [hP] at hc'
              cases hc'
              exact hA
      · have hp0 : p ≠ 0 := fun z => by
          have := or_0 O hq.1
          rw [z] at hl
          omega
        rcases pp with z | z
        · exact absurd z hp0
        · cases hP : P p with
          | none => exact absurd hP z
          | some c =>
            have ht := hok.2 p c hP
            refine ⟨ip, nm_r (e' := nI c) (by rw [hpa p (by omega), hP]; rfl) ?_⟩
            refine ih c q (by omega) ht.2.1 hq ht.2.2.2.1 pq (tr_up hpA hP) hqA (fun z h1 h2 => ?_)
            have h3 := hz z h1 h2
            refine ⟨?_, h3.2⟩
            rcases tr_inv h3.1 with e | ⟨c', hc', hA⟩
            · have := tr_pl hok h3.2
              rw [e] at this
              omega
            · rw [hP] at hc'
              cases hc'
              exact hA
theorem xm_meeting {post : Int32 → Prop} (ok : gr_ok G) (O : or_ok G m ord pl) (hok : tr_ok G pl P) (hpl : ∀ x, gr_M G x → a_place x = nI (pl x)) (hpa : ∀ x, x < 16 → a_parent x = pe_ (P x)) {p0 q0 : Nat} (hp : gr_M G p0) (hq : gr_M G q0) (pp : tr_pr P p0) (pq : tr_pr P q0)
    (K : ∀ r, tr_A P r p0 → tr_A P r q0 → (∀ z, tr_A P z p0 → tr_A P z q0 → tr_A P z r) → post (nI r)) : wpX_meeting post (f_blocks, f_given, f_known, f_met, f_openEdges, f_openBlocks, f_first, f_last, f_openCount, f_firstEdge, f_lastEdge, f_result, f_begun, f_latest, f_inputs, a_op, a_d, a_b, a_many, a_kind, a_asks, a_target, a_a, a_order, a_place, a_parent, a_depths, a_living, a_needs, a_merging, a_stack, a_next, a_before, a_frontiers, a_in, a_out, a_nameA, a_nameB, a_queue, a_state, a_worth, a_usedByExit, a_usedBySet, a_usedByLow, a_usedByHigh, a_edges, a_now) (nI p0) (nI q0) := by
  show ∃ n5 : Nat, wX_meeting_5 post f_blocks f_given f_known f_met f_openEdges f_openBlocks f_first f_last f_openCount f_firstEdge f_lastEdge f_result f_begun f_latest f_inputs a_op a_d a_b a_many a_kind a_asks a_target a_a a_order a_place a_parent a_depths a_living a_needs a_merging a_stack a_next a_before a_frontiers a_in a_out a_nameA a_nameB a_queue a_state a_worth a_usedByExit a_usedBySet a_usedByLow a_usedByHigh a_edges a_now n5 (nI p0) (nI q0)
  exact ⟨_, xm_5 ok O hok hpl hpa K _ p0 q0 (Nat.lt_succ_self _) hp hq pp pq tr_refl tr_refl (fun z h1 h2 => ⟨h1, h2⟩)⟩
/-- what is known of the parents before x that were looked at: those not in s -/
def fp_H (G : gr_T) (P : Nat → Option Nat) (x : Nat) (s : Int32) (p : Nat) : Prop := gr_E G p x ∧ gr_M G p ∧ tr_pr P p ∧ bt s p = false
def fp_N (G : gr_T) (P : Nat → Option Nat) (x : Nat) (s : Int32) (nw : Option Nat) : Prop := (nw = none ∧ ∀ p, ¬ fp_H G P x s p) ∨ ∃ r, nw = some r ∧ gr_M G r ∧ tr_pr P r ∧ (∀ p, fp_H G P x s p → tr_A P r p) ∧ (∀ z, (∀ p, fp_H G P x s p → tr_A P z p) → tr_A P z r)
theorem xm_60 {post : SX → Prop} {J23 : Int32 → (Nat → Int32) → (Nat → Int32) → (Nat → Int32) → (Nat → Int32) → (Nat → Int32) → (Nat → Int32) → (Nat → Int32) → (Nat → Int32) → (Nat → Int32) → (Nat → Int32) → (Nat → Int32) → (Nat → Int32) → (Nat → Int32) → (Nat → Int32) → (Nat → Int32) → (Nat → Int32) → (Nat → Int32) → (Nat → Int32) → (Nat → Int32) → (Nat → Int32) → (Nat → Int32) → (Nat → Int32) → (Nat → Int32) → (Nat → Int32) → (Nat → Int32) → (Nat → Int32) → (Nat → Int32) → (Nat → Int64) → (Nat → Int64) → (Nat → Int64) → (Nat → Int32) → (Nat → Int32) → Prop} {J31 : Int32 → Int32 → (Nat → Int32) → (Nat → Int32) → (Nat → Int32) → (Nat → Int32) → (Nat → Int32) → (Nat → Int32) → (Nat → Int32) → (Nat → Int32) → (Nat → Int32) → (Nat → Int32) → (Nat → Int32) → (Nat → Int32) → (Nat → Int32) → (Nat → Int32) → (Nat → Int32) → (Nat → Int32) → (Nat → Int32) → (Nat → Int32) → (Nat → Int32) → (Nat → Int32) → (Nat → Int32) → (Nat → Int32) → (Nat → Int32) → (Nat → Int32) → (Nat → Int32) → (Nat → Int32) → (Nat → Int32) → (Nat → Int64) → (Nat → Int64) → (Nat → Int64) → (Nat → Int32) → (Nat → Int32) → Prop} {x1 : Int32} {k : Nat} (ok : gr_ok G) (O : or_ok G m ord pl) (I : tr_I G ord pl P k) (hk0 : 0 < k) (hk : k < m) (hpl : ∀ x, gr_M G x → a_place x = nI (pl x)) (hpa : ∀ x, x < 16 → a_parent x = pe_ (P x))
    (K1 : ∀ r, tr_N G P (ord k) r → P (ord k) = some r → J31 x1 (nI (k + 1)) a_op a_d a_b a_many a_kind a_asks a_target a_a a_order a_place a_parent a_depths a_living a_needs a_merging a_stack a_next a_before a_frontiers a_in a_out a_nameA a_nameB a_queue a_state a_worth a_usedByExit a_usedBySet a_usedByLow a_usedByHigh a_edges a_now)
    (K2 : ∀ r, tr_N G P (ord k) r → P (ord k) ≠ some r → J31 1 (nI (k + 1)) a_op a_d a_b a_many a_kind a_asks a_target a_a a_order a_place (upd a_parent (ord k) (nI r)) a_depths a_living a_needs a_merging a_stack a_next a_before a_frontiers a_in a_out a_nameA a_nameB a_queue a_state a_worth a_usedByExit a_usedBySet a_usedByLow a_usedByHigh a_edges a_now) :
    ∀ n (s : Int32) (nw : Option Nat), s.toBitVec.toNat < n → fb_16 s → (∀ p, p < 16 → bt s p = true → gr_M G p ∧ gr_E G p (ord k)) → fp_N G P (ord k) s nw → wX_findParents_60 post J23 J31 x1 (nI k) (nI (ord k)) f_blocks f_given f_known f_met f_openEdges f_openBlocks f_first f_last f_openCount f_firstEdge f_lastEdge f_result f_begun f_latest f_inputs a_op a_d a_b a_many a_kind a_asks a_target a_a a_order a_place a_parent a_depths a_living a_needs a_merging a_stack a_next a_before a_frontiers a_in a_out a_nameA a_nameB a_queue a_state a_worth a_usedByExit a_usedBySet a_usedByLow a_usedByHigh a_edges a_now n (pe_ nw) s := by
  have hn16 := ok.1
  have hmn := O.1
  have hok := I.1
  have hxn := (O.2.2.1 k hk).1
  intro n
  induction n with
  | zero => intro s nw h; omega
  | succ n ih =>
    intro s nw hmu h16 hs hN
    rw [wX_findParents_60]
    have cx : (nI (ord k)).toNatClampNeg = ord k := fn_c (by omega)
    by_cases hs0 : s = 0
    · refine br_t hs0 ?_
      rw [cx, hpa _ (by omega)]
      refine ⟨vp_in_nI (by omega) (by omega), ?_⟩
      have hH : ∀ p, fp_H G P (ord k) s p ↔ (gr_E G p (ord k) ∧ gr_M G p ∧ tr_pr P p) := fun p => ⟨fun z => ⟨z.1, z.2.1, z.2.2.1⟩, fun z => ⟨z.1, z.2.1, z.2.2, by rw [hs0, b_0]⟩⟩
      rcases hN with ⟨_, hno⟩ | ⟨r, rfl, hMr, hpr, hr1, hr2⟩
      · obtain ⟨j, hj, e⟩ := O.2.2.2.1 k hk hk0
        have hM := or_m O j (by omega)
        have hpj := (O.2.2.1 j (by omega)).2
        exact absurd ((hH _).mpr ⟨e, hM, tr_prk O ok I hM (by omega)⟩) (hno (ord j))
      · have hNN : tr_N G P (ord k) r := ⟨fun p e hM hp => hr1 p ((hH p).mpr ⟨e, hM, hp⟩), fun z hz => hr2 z (fun p hp => by have := (hH p).mp hp; exact hz p this.1 this.2.1 this.2.2)⟩
        have hrn := gr_Mlt ok hMr
        have hio := pe_inj (o := P (ord k)) (r := r) (by omega) (fun p hp => by have := gr_Mlt ok (hok.2 _ p hp).2.1; omega)
        rw [pe_s]
        by_cases c : P (ord k) = some r
        · exact br_t (hio.mpr c) (nm_r (nI_1 k) (K1 r hNN c))
        · exact br_f (fun z => c (hio.mp z)) ⟨vp_in_nI (by omega) (by omega), nm_r (e' := upd a_parent (ord k) (nI r)) (by rw [fb_vb (by omega)]) (nm_r (nI_1 k) (K2 r hNN c))⟩
    · refine br_f hs0 ?_
      obtain ⟨p, hp16, hbp, hcl, hlt, h16', hlo⟩ := fb_step hs0 h16
      refine hlo _ ?_
      have hpM := hs p hp16 hbp
      have hpn := gr_Mlt ok hpM.1
      have cp : (nI p).toNatClampNeg = p := fn_c (by omega)
      have hs' : ∀ q, q < 16 → bt (s &&& (s - 1)) q = true → gr_M G q ∧ gr_E G q (ord k) := by
        intro q hq hb
        rw [hcl q] at hb
        refine hs q hq ?_
        rcases Bool.eq_false_or_eq_true (bt s q) with z | z
        · exact z
        · rw [z, Bool.false_and] at hb; exact absurd hb (by decide)
      have hHs : ∀ q, fp_H G P (ord k) (s &&& (s - 1)) q ↔ (fp_H G P (ord k) s q ∨ (q = p ∧ tr_pr P p)) := by
        intro q
        constructor
        · rintro ⟨h1, h2, h3, h4⟩
          rw [hcl q] at h4
          by_cases c : q = p
          · exact Or.inr ⟨c, by rw [← c]; exact h3⟩
          · rw [decide_eq_false c, Bool.not_false, Bool.and_true] at h4
            exact Or.inl ⟨h1, h2, h3, h4⟩
        · rintro (⟨h1, h2, h3, h4⟩ | ⟨h1, h2⟩)
          · exact ⟨h1, h2, h3, by rw [hcl q, h4, Bool.false_and]⟩
          · subst h1
            exact ⟨hpM.2, hpM.1, h2, by rw [hcl q, decide_eq_true rfl, Bool.not_true, Bool.and_false]⟩
      have go : tr_pr P p → wX_findParents_90 post J23 J31 (wX_findParents_60 post J23 J31 x1 (nI k) (nI (ord k)) f_blocks f_given f_known f_met f_openEdges f_openBlocks f_first f_last f_openCount f_firstEdge f_lastEdge f_result f_begun f_latest f_inputs a_op a_d a_b a_many a_kind a_asks a_target a_a a_order a_place a_parent a_depths a_living a_needs a_merging a_stack a_next a_before a_frontiers a_in a_out a_nameA a_nameB a_queue a_state a_worth a_usedByExit a_usedBySet a_usedByLow a_usedByHigh a_edges a_now n) x1 (nI k) (nI (ord k)) (pe_ nw) s (nI p) f_blocks f_given f_known f_met f_openEdges f_openBlocks f_first f_last f_openCount f_firstEdge f_lastEdge f_result f_begun f_latest f_inputs a_op a_d a_b a_many a_kind a_asks a_target a_a a_order a_place a_parent a_depths a_living a_needs a_merging a_stack a_next a_before a_frontiers a_in a_out a_nameA a_nameB a_queue a_state a_worth a_usedByExit a_usedBySet a_usedByLow a_usedByHigh a_edges a_now := by
        intro hpp
        rw [wX_findParents_90]
        rcases hN with ⟨rfl, hno⟩ | ⟨r, rfl, hMr, hpr, hr1, hr2⟩
        · refine br_f (by rw [pe_n]; decide) ?_
          rw [wX_findParents_108]
          refine nm_e (ih (s &&& (s - 1)) (some p) (by omega) h16' hs' (Or.inr ⟨p, rfl, hpM.1, hpp, fun q hq => ?_, fun z hz => hz p ((hHs p).mpr (Or.inr ⟨rfl, hpp⟩))⟩))
          rcases (hHs q).mp hq with z | z
          · exact absurd z (hno q)
          · rw [z.1]; exact tr_refl
        · have hrn := gr_Mlt ok hMr
          refine br_t (by rw [pe_s]; exact nI_pos' (by omega)) ?_
          rw [pe_s]
          refine xm_meeting ok O hok hpl hpa hMr hpM.1 hpr hpp (fun r' h1 h2 h3 => ?_)
          rw [wX_findParents_108]
          refine nm_e (ih (s &&& (s - 1)) (some r') (by omega) h16' hs' (Or.inr ⟨r', rfl, tr_met hok h1 hMr, tr_prA hok h1 hpr, fun q hq => ?_, fun z hz => h3 z (hr2 z (fun q hq => hz q ((hHs q).mpr (Or.inl hq)))) (hz p ((hHs p).mpr (Or.inr ⟨rfl, hpp⟩)))⟩))
          rcases (hHs q).mp hq with z | z
          · exact tr_t h1 (hr1 q z)
          · rw [z.1]; exact h2
      refine pk_eq p 0 (fun h => go (Or.inl h)) (fun h => ?_)
      rw [cp, hpa p hp16]
      refine ⟨vp_in_nI (by omega) (by omega), ?_⟩
      cases hP : P p with
      | some c =>
        have hc := gr_Mlt ok (hok.2 p c hP).2.1
        exact br_t (by rw [pe_s]; exact nI_pos' (by omega)) (go (Or.inr (by rw [hP]; exact fun z => nomatch z)))
      | none =>
        have hnp : ¬ tr_pr P p := fun z => z.elim h (fun w => w hP)
        refine br_f (by rw [pe_n]; decide) (nm_e (ih (s &&& (s - 1)) nw (by omega) h16' hs' ?_))
        have hHH : ∀ q, fp_H G P (ord k) (s &&& (s - 1)) q ↔ fp_H G P (ord k) s q := fun q => ⟨fun z => ((hHs q).mp z).elim id (fun w => absurd w.2 hnp), fun z => (hHs q).mpr (Or.inl z)⟩
        rcases hN with ⟨h1, hno⟩ | ⟨r, h1, hMr, hpr, hr1, hr2⟩
        · exact Or.inl ⟨h1, fun q z => hno q ((hHH q).mp z)⟩
        · exact Or.inr ⟨r, h1, hMr, hpr, fun q z => hr1 q ((hHH q).mp z), fun z hz => hr2 z (fun q hq => hz q ((hHH q).mpr hq))⟩
/-! the measure -/
def mo_ (pl : Nat → Nat) (o : Option Nat) : Nat := match o with
  | none => 17
  | some p => pl p
def mu_ (pl : Nat → Nat) (P : Nat → Option Nat) : Nat := sg_s (fun x => mo_ pl (P x)) 16
theorem mu_lt (ok : gr_ok G) (O : or_ok G m ord pl) {k r : Nat} (I : tr_I G ord pl P k) (hk0 : 0 < k) (hk : k < m) (hN : tr_N G P (ord k) r) (hne : P (ord k) ≠ some r) : mu_ pl (tr_u P (ord k) r) < mu_ pl P := by
  have hn16 := ok.1
  have hmn := O.1
  have hxn := (O.2.2.1 k hk).1
  obtain ⟨hMr, hlr, _⟩ := tr_dp O ok I hk0 hk hN
  have h1 := sg_up (f := fun x => mo_ pl (tr_u P (ord k) r x)) (g := fun x => mo_ pl (P x)) (n := 16) (k := ord k) (by omega) (fun i _ hi => by
    show mo_ pl (tr_u P (ord k) r i) = mo_ pl (P i)
    rw [tr_un hi])
  have h2 : mo_ pl (tr_u P (ord k) r (ord k)) = pl r := by rw [tr_us]; rfl
  have h3 : pl r < mo_ pl (P (ord k)) := by
    cases hP : P (ord k) with
    | none => show pl r < 17; omega
    | some q =>
      have hA := tr_mono O ok I hk hN hP
      exact tr_plt I.1 hA (fun z => hne (by rw [hP, z]))
  unfold mu_
  rw [h2] at h1
  omega
theorem tr_Iw {k j : Nat} (I : tr_I G ord pl P k) (h : j ≤ k) : tr_I G ord pl P j := ⟨I.1, I.2.1, I.2.2.1, fun i h0 hi => I.2.2.2.1 i h0 (by omega), fun i h0 hi => I.2.2.2.2 i h0 (by omega)⟩
theorem tr_I1 {k : Nat} (I : tr_I G ord pl P 1) (h : k ≤ 1) : tr_I G ord pl P k := tr_Iw I h
theorem xm_31 {post : SX → Prop} {J23 : Int32 → (Nat → Int32) → (Nat → Int32) → (Nat → Int32) → (Nat → Int32) → (Nat → Int32) → (Nat → Int32) → (Nat → Int32) → (Nat → Int32) → (Nat → Int32) → (Nat → Int32) → (Nat → Int32) → (Nat → Int32) → (Nat → Int32) → (Nat → Int32) → (Nat → Int32) → (Nat → Int32) → (Nat → Int32) → (Nat → Int32) → (Nat → Int32) → (Nat → Int32) → (Nat → Int32) → (Nat → Int32) → (Nat → Int32) → (Nat → Int32) → (Nat → Int32) → (Nat → Int32) → (Nat → Int32) → (Nat → Int64) → (Nat → Int64) → (Nat → Int64) → (Nat → Int32) → (Nat → Int32) → Prop} (ok : gr_ok G) (hX : xa_ok G m ord pl a_order a_place a_before) {M : Nat}
    (K0 : ∀ (P : Nat → Option Nat) (a_parent : Nat → Int32), tr_I G ord pl P m → tr_X G ord P m → (∀ x, x < 16 → a_parent x = pe_ (P x)) → J23 0 a_op a_d a_b a_many a_kind a_asks a_target a_a a_order a_place a_parent a_depths a_living a_needs a_merging a_stack a_next a_before a_frontiers a_in a_out a_nameA a_nameB a_queue a_state a_worth a_usedByExit a_usedBySet a_usedByLow a_usedByHigh a_edges a_now)
    (K1 : ∀ (P : Nat → Option Nat) (a_parent : Nat → Int32), tr_I G ord pl P 1 → mu_ pl P < M → (∀ x, x < 16 → a_parent x = pe_ (P x)) → J23 1 a_op a_d a_b a_many a_kind a_asks a_target a_a a_order a_place a_parent a_depths a_living a_needs a_merging a_stack a_next a_before a_frontiers a_in a_out a_nameA a_nameB a_queue a_state a_worth a_usedByExit a_usedBySet a_usedByLow a_usedByHigh a_edges a_now) :
    ∀ n k (x1 : Int32) (P : Nat → Option Nat) (a_parent : Nat → Int32), m + 1 < n + k → 0 < k → (k ≤ m ∨ k = 1) → tr_I G ord pl P k → (∀ x, x < 16 → a_parent x = pe_ (P x)) → ((x1 = 0 ∧ tr_X G ord P k ∧ mu_ pl P ≤ M) ∨ (x1 = 1 ∧ mu_ pl P < M)) → wX_findParents_31 post J23 f_blocks f_given f_known (nI m) f_openEdges f_openBlocks f_first f_last f_openCount f_firstEdge f_lastEdge f_result f_begun f_latest f_inputs n x1 (nI k) a_op a_d a_b a_many a_kind a_asks a_target a_a a_order a_place a_parent a_depths a_living a_needs a_merging a_stack a_next a_before a_frontiers a_in a_out a_nameA a_nameB a_queue a_state a_worth a_usedByExit a_usedBySet a_usedByLow a_usedByHigh a_edges a_now := by
  have hn16 := ok.1
  have O := hX.1
  have hmn := O.1
  intro n
  induction n with
  | zero => intro k x1 P a_parent h1 h2 h3; omega
  | succ n ih =>
    intro k x1 P a_parent h1 hk0 hk I hpa hx
    rw [wX_findParents_31]
    refine pk_le m k (fun h => ?_) (fun h => ?_)
    · rcases hx with ⟨rfl, hx, _⟩ | ⟨rfl, hx⟩
      · exact K0 P a_parent (tr_Iw I h) (fun j h0 hj => hx j h0 (by omega)) hpa
      · exact K1 P a_parent (tr_Iw I (by omega)) hx hpa
    · have hxn := (O.2.2.1 k h).1
      have c1 : (nI k).toNatClampNeg = k := fn_c (by omega)
      have c2 : (nI (ord k)).toNatClampNeg = ord k := fn_c (by omega)
      rw [c1]
      refine ⟨vp_in_nI (by omega) (by omega), nm_r (e' := nI (ord k)) (hX.2.1 k h) ?_⟩
      rw [c2]
      refine ⟨vp_in_nI (by omega) (by omega), nm_e ⟨(a_before (ord k) &&& 65535).toBitVec.toNat + 1, ?_⟩⟩
      have hbef : ∀ p, p < 16 → bt (a_before (ord k) &&& 65535) p = true → gr_M G p ∧ gr_E G p (ord k) := by
        intro p hp hb
        rw [fb_m16, decide_eq_true hp, Bool.and_true] at hb
        exact (hX.2.2.2.2.1 _ p (by omega) hp).mp hb
      refine xm_60 (k := k) ok O I hk0 h hX.2.2.1 hpa (fun r hN hP => ?_) (fun r hN hP => ?_) _ (a_before (ord k) &&& 65535) none (Nat.lt_succ_self _) (fb_16m _) hbef (Or.inl ⟨rfl, fun p hp => ?_⟩)
      · have hu : tr_u P (ord k) r = P := by
          funext y
          by_cases c : y = ord k
          · rw [c, tr_us, hP]
          · exact tr_un c
        have I' := tr_upd O ok I hk0 h hN
        rw [hu] at I'
        refine ih (k + 1) x1 P a_parent (by omega) (by omega) (by omega) I' hpa ?_
        rcases hx with ⟨h4, h5, h6⟩ | h4
        · refine Or.inl ⟨h4, fun j h0 hj => ?_, h6⟩
          by_cases c : j = k
          · rw [c]
            exact ⟨r, hP, hN.1⟩
          · exact h5 j h0 (by omega)
        · exact Or.inr h4
      · have hmu := mu_lt ok O I hk0 h hN hP
        refine ih (k + 1) 1 (tr_u P (ord k) r) _ (by omega) (by omega) (by omega) (tr_upd O ok I hk0 h hN) (fun x hx => ?_) (Or.inr ⟨rfl, ?_⟩)
        · by_cases c : x = ord k
          · rw [c, pk_us, tr_us]; rfl
          · rw [pk_un c, tr_un c]
            exact hpa x hx
        · rcases hx with ⟨_, _, h6⟩ | ⟨_, h6⟩ <;> omega
      · have hpn := gr_Mlt ok hp.2.1
        have h5 := hp.2.2.2
        rw [fb_m16, decide_eq_true (by omega), Bool.and_true] at h5
        rw [(hX.2.2.2.2.1 (ord k) p (by omega) (by omega)).mpr ⟨hp.2.1, hp.1⟩] at h5
        exact absurd h5 (by decide)
theorem xm_23 {post : SX → Prop} (ok : gr_ok G) (hX : xa_ok G m ord pl a_order a_place a_before)
    (K : ∀ (P : Nat → Option Nat) (a_parent : Nat → Int32), dt_ok G m ord pl P → (∀ x, x < 16 → a_parent x = pe_ (P x)) → post (f_blocks, f_given, f_known, nI m, f_openEdges, f_openBlocks, f_first, f_last, f_openCount, f_firstEdge, f_lastEdge, f_result, f_begun, f_latest, f_inputs, a_op, a_d, a_b, a_many, a_kind, a_asks, a_target, a_a, a_order, a_place, a_parent, a_depths, a_living, a_needs, a_merging, a_stack, a_next, a_before, a_frontiers, a_in, a_out, a_nameA, a_nameB, a_queue, a_state, a_worth, a_usedByExit, a_usedBySet, a_usedByLow, a_usedByHigh, a_edges, a_now)) :
    ∀ n (P : Nat → Option Nat) (a_parent : Nat → Int32), mu_ pl P + 1 < n → tr_I G ord pl P 1 → (∀ x, x < 16 → a_parent x = pe_ (P x)) → wX_findParents_23 post f_blocks f_given f_known (nI m) f_openEdges f_openBlocks f_first f_last f_openCount f_firstEdge f_lastEdge f_result f_begun f_latest f_inputs n 1 a_op a_d a_b a_many a_kind a_asks a_target a_a a_order a_place a_parent a_depths a_living a_needs a_merging a_stack a_next a_before a_frontiers a_in a_out a_nameA a_nameB a_queue a_state a_worth a_usedByExit a_usedBySet a_usedByLow a_usedByHigh a_edges a_now := by
  have hn16 := ok.1
  have O := hX.1
  have hmn := O.1
  intro n
  induction n with
  | zero => intro P a_parent h1; omega
  | succ n ih =>
    intro P a_parent h1 I hpa
    rw [wX_findParents_23]
    refine br_f (by decide) ⟨m + 2, ?_⟩
    refine xm_31 (M := mu_ pl P) ok hX (fun P a_parent I X hpa => ?_) (fun P' a_parent I hl hpa => ih P' a_parent (by omega) I hpa) (m + 2) 1 0 P a_parent (by omega) (by omega) (Or.inr rfl) I hpa (Or.inl ⟨rfl, fun j h0 hj => by omega, Nat.le_refl _⟩)
    obtain ⟨n, rfl⟩ : ∃ d, n = d + 1 := ⟨n - 1, by omega⟩
    rw [wX_findParents_23]
    exact br_t rfl (K P a_parent (dt_of O ok I X) hpa)
theorem xm_2 {post : SX → Prop} (K : ∃ n23 : Nat, wX_findParents_23 post f_blocks f_given f_known f_met f_openEdges f_openBlocks f_first f_last f_openCount f_firstEdge f_lastEdge f_result f_begun f_latest f_inputs n23 1 a_op a_d a_b a_many a_kind a_asks a_target a_a a_order a_place (cl_ (-1) 16 a_parent) a_depths a_living a_needs a_merging a_stack a_next a_before a_frontiers a_in a_out a_nameA a_nameB a_queue a_state a_worth a_usedByExit a_usedBySet a_usedByLow a_usedByHigh a_edges a_now) :
    ∀ n i, 16 < n + i → i ≤ 16 → wX_findParents_2 post f_blocks f_given f_known f_met f_openEdges f_openBlocks f_first f_last f_openCount f_firstEdge f_lastEdge f_result f_begun f_latest f_inputs n (nI i) a_op a_d a_b a_many a_kind a_asks a_target a_a a_order a_place (cl_ (-1) i a_parent) a_depths a_living a_needs a_merging a_stack a_next a_before a_frontiers a_in a_out a_nameA a_nameB a_queue a_state a_worth a_usedByExit a_usedBySet a_usedByLow a_usedByHigh a_edges a_now := by
  intro n
  induction n with
  | zero => intro i h1 h2; omega
  | succ n ih =>
    intro i h1 h2
    rw [wX_findParents_2]
    refine pk_le 16 i (fun h => ?_) (fun h => ?_)
    · have e : i = 16 := by omega
      subst e
      exact K
    · have c : (nI i).toNatClampNeg = i := fn_c (by omega)
      rw [c, fb_vbm]
      exact ⟨vp_in_nI (by omega) (by omega), nm_r cl_s (nm_r (nI_1 i) (ih (i + 1) (by omega) (by omega)))⟩
theorem xm_findParents {post : SX → Prop} (ok : gr_ok G) (hX : xa_ok G m ord pl a_order a_place a_before)
    (K : ∀ (P : Nat → Option Nat) (a_parent : Nat → Int32), dt_ok G m ord pl P → (∀ x, x < 16 → a_parent x = pe_ (P x)) → post (f_blocks, f_given, f_known, nI m, f_openEdges, f_openBlocks, f_first, f_last, f_openCount, f_firstEdge, f_lastEdge, f_result, f_begun, f_latest, f_inputs, a_op, a_d, a_b, a_many, a_kind, a_asks, a_target, a_a, a_order, a_place, a_parent, a_depths, a_living, a_needs, a_merging, a_stack, a_next, a_before, a_frontiers, a_in, a_out, a_nameA, a_nameB, a_queue, a_state, a_worth, a_usedByExit, a_usedBySet, a_usedByLow, a_usedByHigh, a_edges, a_now)) : wpX_findParents post (f_blocks, f_given, f_known, nI m, f_openEdges, f_openBlocks, f_first, f_last, f_openCount, f_firstEdge, f_lastEdge, f_result, f_begun, f_latest, f_inputs, a_op, a_d, a_b, a_many, a_kind, a_asks, a_target, a_a, a_order, a_place, a_parent, a_depths, a_living, a_needs, a_merging, a_stack, a_next, a_before, a_frontiers, a_in, a_out, a_nameA, a_nameB, a_queue, a_state, a_worth, a_usedByExit, a_usedBySet, a_usedByLow, a_usedByHigh, a_edges, a_now) := by
  show ∃ n2 : Nat, wX_findParents_2 post f_blocks f_given f_known (nI m) f_openEdges f_openBlocks f_first f_last f_openCount f_firstEdge f_lastEdge f_result f_begun f_latest f_inputs n2 0 a_op a_d a_b a_many a_kind a_asks a_target a_a a_order a_place a_parent a_depths a_living a_needs a_merging a_stack a_next a_before a_frontiers a_in a_out a_nameA a_nameB a_queue a_state a_worth a_usedByExit a_usedBySet a_usedByLow a_usedByHigh a_edges a_now
  have e0 := xm_2 (post := post) (f_blocks := f_blocks) (f_given := f_given) (f_known := f_known) (f_met := (nI m)) (f_openEdges := f_openEdges) (f_openBlocks := f_openBlocks) (f_first := f_first) (f_last := f_last) (f_openCount := f_openCount) (f_firstEdge := f_firstEdge) (f_lastEdge := f_lastEdge) (f_result := f_result) (f_begun := f_begun) (f_latest := f_latest) (f_inputs := f_inputs) (a_op := a_op) (a_d := a_d) (a_b := a_b) (a_many := a_many) (a_kind := a_kind) (a_asks := a_asks) (a_target := a_target) (a_a := a_a) (a_order := a_order) (a_place := a_place) (a_parent := a_parent) (a_depths := a_depths) (a_living := a_living) (a_needs := a_needs) (a_merging := a_merging) (a_stack := a_stack) (a_next := a_next) (a_before := a_before) (a_frontiers := a_frontiers) (a_in := a_in) (a_out := a_out) (a_nameA := a_nameA) (a_nameB := a_nameB) (a_queue := a_queue) (a_state := a_state) (a_worth := a_worth) (a_usedByExit := a_usedByExit) (a_usedBySet := a_usedBySet) (a_usedByLow := a_usedByLow) (a_usedByHigh := a_usedByHigh) (a_edges := a_edges) (a_now := a_now) ⟨_, xm_23 ok hX K _ (fun _ => none) (cl_ (-1) 16 a_parent) (Nat.lt_succ_self _) ⟨⟨rfl, fun x p h => nomatch h⟩, fun a x hx hD => ?_, (fun x q h => nomatch h), fun j h0 hj => by omega, fun j h0 hj => by omega⟩ (fun x hx => cl_l hx)⟩ 17 0 (by omega) (by omega)
  · rw [cl_0] at e0
    exact ⟨17, e0⟩
  · rcases hx with z | z
    · subst z
      rw [gr_Dz hD]
      exact tr_refl
    · exact absurd rfl z
end
end
section
theorem fb_up16 {a : Nat → Int32} {w x u y : Nat} (hx : x < 16) (hy : y < 16) : bt (upd a w (a w ||| ((1 : Int32) <<< (nI x &&& 31))).toInt16.toInt32 u) y = true ↔ (bt (a u) y = true ∨ (u = w ∧ y = x)) := by
  by_cases c : u = w
  · subst c
    rw [pk_us, fb_s16 _ hy, fb_or1 _ (by omega) (by omega)]
    simp
  · rw [pk_un c]
    exact ⟨Or.inl, fun z => z.elim id (fun w => absurd w.1 c)⟩
section
variable {f_blocks f_given f_known f_met f_openEdges f_openBlocks f_first f_last f_openCount f_firstEdge f_lastEdge f_result f_begun f_latest f_inputs : Int32} {a_op a_d a_b a_many a_kind a_asks a_target a_a a_order a_place a_parent a_depths a_living a_needs a_merging a_stack a_next a_before a_frontiers a_in a_out a_nameA a_nameB a_queue a_state a_worth a_usedByExit a_edges a_now : Nat → Int32} {a_usedBySet a_usedByLow a_usedByHigh : Nat → Int64}
variable {G : gr_T} {m : Nat} {ord pl : Nat → Nat} {P : Nat → Option Nat}
theorem xf_58 {post : SX → Prop} {J23 : Int32 → (Nat → Int32) → (Nat → Int32) → (Nat → Int32) → (Nat → Int32) → (Nat → Int32) → (Nat → Int32) → (Nat → Int32) → (Nat → Int32) → (Nat → Int32) → (Nat → Int32) → (Nat → Int32) → (Nat → Int32) → (Nat → Int32) → (Nat → Int32) → (Nat → Int32) → (Nat → Int32) → (Nat → Int32) → (Nat → Int32) → (Nat → Int32) → (Nat → Int32) → (Nat → Int32) → (Nat → Int32) → (Nat → Int32) → (Nat → Int32) → (Nat → Int32) → (Nat → Int32) → (Nat → Int32) → (Nat → Int64) → (Nat → Int64) → (Nat → Int64) → (Nat → Int32) → (Nat → Int32) → Prop} {J48 : Int32 → (Nat → Int32) → (Nat → Int32) → (Nat → Int32) → (Nat → Int32) → (Nat → Int32) → (Nat → Int32) → (Nat → Int32) → (Nat → Int32) → (Nat → Int32) → (Nat → Int32) → (Nat → Int32) → (Nat → Int32) → (Nat → Int32) → (Nat → Int32) → (Nat → Int32) → (Nat → Int32) → (Nat → Int32) → (Nat → Int32) → (Nat → Int32) → (Nat → Int32) → (Nat → Int32) → (Nat → Int32) → (Nat → Int32) → (Nat → Int32) → (Nat → Int32) → (Nat → Int32) → (Nat → Int32) → (Nat → Int64) → (Nat → Int64) → (Nat → Int64) → (Nat → Int32) → (Nat → Int32) → Prop} {x1 s : Int32} {x q : Nat} (ok : gr_ok G) (T : dt_ok G m ord pl P) (hpa : ∀ x, x < 16 → a_parent x = pe_ (P x)) (hq : P x = some q) :
    ∀ n w (Fr : Nat → Nat → Prop) (a_frontiers : Nat → Int32), pl w < n → gr_M G w → tr_A P q w → (∀ u y, u < 16 → y < 16 → (bt (a_frontiers u) y = true ↔ Fr u y)) →
    (∀ a_frontiers : Nat → Int32, (∀ u y, u < 16 → y < 16 → (bt (a_frontiers u) y = true ↔ (Fr u y ∨ (y = x ∧ tr_A P u w ∧ ¬ tr_A P u q)))) → J48 (s &&& (s - 1)) a_op a_d a_b a_many a_kind a_asks a_target a_a a_order a_place a_parent a_depths a_living a_needs a_merging a_stack a_next a_before a_frontiers a_in a_out a_nameA a_nameB a_queue a_state a_worth a_usedByExit a_usedBySet a_usedByLow a_usedByHigh a_edges a_now) → wX_findFrontiers_58 post J23 J48 x1 (nI x) s f_blocks f_given f_known f_met f_openEdges f_openBlocks f_first f_last f_openCount f_firstEdge f_lastEdge f_result f_begun f_latest f_inputs n (nI w) a_op a_d a_b a_many a_kind a_asks a_target a_a a_order a_place a_parent a_depths a_living a_needs a_merging a_stack a_next a_before a_frontiers a_in a_out a_nameA a_nameB a_queue a_state a_worth a_usedByExit a_usedBySet a_usedByLow a_usedByHigh a_edges a_now := by
  have hn16 := ok.1
  have hxq := T.2.1.2 x q hq
  have hxn := gr_Mlt ok hxq.1
  have hqn := gr_Mlt ok hxq.2.1
  intro n
  induction n with
  | zero => intro w Fr a_frontiers h; omega
  | succ n ih =>
    intro w Fr a_frontiers hmu hw hA hFr K
    have hwn := gr_Mlt ok hw
    rw [wX_findFrontiers_58]
    dsimp only
    have cx : (nI x).toNatClampNeg = x := fn_c (by omega)
    have cw : (nI w).toNatClampNeg = w := fn_c (by omega)
    rw [cx, hpa x (by omega), hq, pe_s]
    refine ⟨vp_in_nI (by omega) (by omega), pk_eq w q (fun h => ?_) (fun h => ?_)⟩
    · subst h
      refine nm_e (K a_frontiers (fun u y hu hy => (hFr u y hu hy).trans ⟨Or.inl, fun z => z.elim id (fun z => absurd z.2.1 z.2.2)⟩))
    · have iw : vp_in (nI w) 16 := vp_in_nI (by omega) (by omega)
      rw [cw, pk_vs]
      rcases tr_inv hA with e | ⟨c, hc, hA'⟩
      · exact absurd e.symm h
      · have hwc := T.2.1.2 w c hc
        refine ⟨iw, iw, nm_e ⟨iw, nm_r (e' := nI c) (by rw [hpa w (by omega), hc]; rfl) ?_⟩⟩
        refine ih c (fun u y => Fr u y ∨ (u = w ∧ y = x)) _ (by omega) hwc.2.1 hA' (fun u y hu hy => ?_) (fun a_frontiers hF => K a_frontiers (fun u y hu hy => (hF u y hu hy).trans ?_))
        · rw [fb_up16 (by omega) hy, hFr u y hu hy]
        · constructor
          · rintro ((z | ⟨z1, z2⟩) | ⟨z1, z2, z3⟩)
            · exact Or.inl z
            · refine Or.inr ⟨z2, by rw [z1]; exact tr_refl, fun z => ?_⟩
              rw [z1] at z
              have := tr_pl T.2.1 z
              have := tr_plt T.2.1 hA (fun z => h z.symm)
              omega
            · exact Or.inr ⟨z1, tr_step hc z2, z3⟩
          · rintro (z | ⟨z1, z2, z3⟩)
            · exact Or.inl (Or.inl z)
            · rcases tr_inv z2 with e | ⟨c', hc', hA2⟩
              · exact Or.inl (Or.inr ⟨e, z1⟩)
              · rw [hc] at hc'
                cases hc'
                exact Or.inr ⟨z1, hA2, z3⟩
theorem xf_48 {post : SX → Prop} {J23 : Int32 → (Nat → Int32) → (Nat → Int32) → (Nat → Int32) → (Nat → Int32) → (Nat → Int32) → (Nat → Int32) → (Nat → Int32) → (Nat → Int32) → (Nat → Int32) → (Nat → Int32) → (Nat → Int32) → (Nat → Int32) → (Nat → Int32) → (Nat → Int32) → (Nat → Int32) → (Nat → Int32) → (Nat → Int32) → (Nat → Int32) → (Nat → Int32) → (Nat → Int32) → (Nat → Int32) → (Nat → Int32) → (Nat → Int32) → (Nat → Int32) → (Nat → Int32) → (Nat → Int32) → (Nat → Int32) → (Nat → Int64) → (Nat → Int64) → (Nat → Int64) → (Nat → Int32) → (Nat → Int32) → Prop} {k x : Nat} (ok : gr_ok G) (T : dt_ok G m ord pl P) (hpa : ∀ x, x < 16 → a_parent x = pe_ (P x)) (hx : gr_M G x) (Fr : Nat → Nat → Prop)
    (K : ∀ a_frontiers : Nat → Int32, (∀ u y, u < 16 → y < 16 → (bt (a_frontiers u) y = true ↔ (Fr u y ∨ (y = x ∧ gr_F G u x)))) → J23 (nI (k + 1)) a_op a_d a_b a_many a_kind a_asks a_target a_a a_order a_place a_parent a_depths a_living a_needs a_merging a_stack a_next a_before a_frontiers a_in a_out a_nameA a_nameB a_queue a_state a_worth a_usedByExit a_usedBySet a_usedByLow a_usedByHigh a_edges a_now) :
    ∀ n (s : Int32) (a_frontiers : Nat → Int32), s.toBitVec.toNat < n → fb_16 s → (∀ p, p < 16 → bt s p = true → gr_M G p ∧ gr_E G p x) →
    (∀ u y, u < 16 → y < 16 → (bt (a_frontiers u) y = true ↔ (Fr u y ∨ (y = x ∧ ∃ p, gr_M G p ∧ gr_E G p x ∧ bt s p = false ∧ tr_A P u p ∧ ¬ ∃ q, P x = some q ∧ tr_A P u q)))) → wX_findFrontiers_48 post J23 (nI k) (nI x) f_blocks f_given f_known f_met f_openEdges f_openBlocks f_first f_last f_openCount f_firstEdge f_lastEdge f_result f_begun f_latest f_inputs n s a_op a_d a_b a_many a_kind a_asks a_target a_a a_order a_place a_parent a_depths a_living a_needs a_merging a_stack a_next a_before a_frontiers a_in a_out a_nameA a_nameB a_queue a_state a_worth a_usedByExit a_usedBySet a_usedByLow a_usedByHigh a_edges a_now := by
  have hn16 := ok.1
  have hxn := gr_Mlt ok hx
  intro n
  induction n with
  | zero => intro s a_frontiers h; omega
  | succ n ih =>
    intro s a_frontiers hmu h16 hs hF
    rw [wX_findFrontiers_48]
    by_cases hs0 : s = 0
    · refine br_t hs0 (nm_r (nI_1 k) (K a_frontiers (fun u y hu hy => (hF u y hu hy).trans ?_)))
      constructor
      · rintro (z | ⟨z, p, h1, h2, h3, h4, h5⟩)
        · exact Or.inl z
        · exact Or.inr ⟨z, (dt_F T ok).mpr ⟨p, h1, h2, h4, h5⟩⟩
      · rintro (z | ⟨z1, z2⟩)
        · exact Or.inl z
        · obtain ⟨p, h1, h2, h4, h5⟩ := (dt_F T ok).mp z2
          exact Or.inr ⟨z1, p, h1, h2, by rw [hs0, b_0], h4, h5⟩
    · refine br_f hs0 ?_
      obtain ⟨p, hp16, hbp, hcl, hlt, h16', hlo⟩ := fb_step hs0 h16
      refine hlo _ ?_
      have hpM := hs p hp16 hbp
      have hx0 : x ≠ 0 := by
        have := (gr_Elt ok hpM.2).2.2
        omega
      obtain ⟨q, hq⟩ := T.2.2.2.1 x hx hx0
      refine ⟨_, xf_58 ok T hpa hq (pl p + 1) p _ a_frontiers (by omega) hpM.1 (dt_par T hq hpM.1 hpM.2) hF (fun a_frontiers hF' => ?_)⟩
      refine ih (s &&& (s - 1)) a_frontiers (by omega) h16' (fun r hr hb => ?_) (fun u y hu hy => (hF' u y hu hy).trans ?_)
      · rw [hcl r] at hb
        refine hs r hr ?_
        rcases Bool.eq_false_or_eq_true (bt s r) with z | z
        · exact z
        · rw [z, Bool.false_and] at hb; exact absurd hb (by decide)
      · constructor
        · rintro ((z | ⟨z, r, h1, h2, h3, h4, h5⟩) | ⟨z1, z2, z3⟩)
          · exact Or.inl z
          · exact Or.inr ⟨z, r, h1, h2, by rw [hcl r, h3, Bool.false_and], h4, h5⟩
          · refine Or.inr ⟨z1, p, hpM.1, hpM.2, by rw [hcl p, decide_eq_true rfl, Bool.not_true, Bool.and_false], z2, ?_⟩
            rintro ⟨q', hq', hA⟩
            rw [hq] at hq'
            cases hq'
            exact z3 hA
        · rintro (z | ⟨z, r, h1, h2, h3, h4, h5⟩)
          · exact Or.inl (Or.inl z)
          · by_cases c : r = p
            · subst c
              exact Or.inr ⟨z, h4, fun w => h5 ⟨q, hq, w⟩⟩
            · rw [hcl r, decide_eq_false c, Bool.not_false, Bool.and_true] at h3
              exact Or.inl (Or.inr ⟨z, r, h1, h2, h3, h4, h5⟩)
theorem xf_23 {post : SX → Prop} (ok : gr_ok G) (hX : xa_ok G m ord pl a_order a_place a_before) (T : dt_ok G m ord pl P) (hpa : ∀ x, x < 16 → a_parent x = pe_ (P x))
    (K : ∀ a_frontiers : Nat → Int32, (∀ u y, u < 16 → y < 16 → (bt (a_frontiers u) y = true ↔ gr_F G u y)) → post (f_blocks, f_given, f_known, nI m, f_openEdges, f_openBlocks, f_first, f_last, f_openCount, f_firstEdge, f_lastEdge, f_result, f_begun, f_latest, f_inputs, a_op, a_d, a_b, a_many, a_kind, a_asks, a_target, a_a, a_order, a_place, a_parent, a_depths, a_living, a_needs, a_merging, a_stack, a_next, a_before, a_frontiers, a_in, a_out, a_nameA, a_nameB, a_queue, a_state, a_worth, a_usedByExit, a_usedBySet, a_usedByLow, a_usedByHigh, a_edges, a_now)) :
    ∀ n k (a_frontiers : Nat → Int32), m < n + k → k ≤ m → (∀ u y, u < 16 → y < 16 → (bt (a_frontiers u) y = true ↔ (gr_F G u y ∧ pl y < k))) → wX_findFrontiers_23 post f_blocks f_given f_known (nI m) f_openEdges f_openBlocks f_first f_last f_openCount f_firstEdge f_lastEdge f_result f_begun f_latest f_inputs n (nI k) a_op a_d a_b a_many a_kind a_asks a_target a_a a_order a_place a_parent a_depths a_living a_needs a_merging a_stack a_next a_before a_frontiers a_in a_out a_nameA a_nameB a_queue a_state a_worth a_usedByExit a_usedBySet a_usedByLow a_usedByHigh a_edges a_now := by
  have hn16 := ok.1
  have O := hX.1
  have hmn := O.1
  intro n
  induction n with
  | zero => intro k a_frontiers h1 h2; omega
  | succ n ih =>
    intro k a_frontiers h1 hk hF
    rw [wX_findFrontiers_23]
    refine pk_le m k (fun h => ?_) (fun h => ?_)
    · refine K a_frontiers (fun u y hu hy => (hF u y hu hy).trans ⟨fun z => z.1, fun z => ⟨z, ?_⟩⟩)
      have := (or_M O ok (dt_FM z).2).1
      omega
    · have hxn := (O.2.2.1 k h).1
      have hpk := (O.2.2.1 k h).2
      have hMx := or_m O k h
      have c1 : (nI k).toNatClampNeg = k := fn_c (by omega)
      have c2 : (nI (ord k)).toNatClampNeg = ord k := fn_c (by omega)
      rw [c1]
      refine ⟨vp_in_nI (by omega) (by omega), nm_r (e' := nI (ord k)) (hX.2.1 k h) ?_⟩
      rw [c2]
      refine ⟨vp_in_nI (by omega) (by omega), nm_e ⟨(a_before (ord k) &&& 65535).toBitVec.toNat + 1, ?_⟩⟩
      refine xf_48 ok T hpa hMx (fun u y => gr_F G u y ∧ pl y < k) (fun a_frontiers hF' => ih (k + 1) a_frontiers (by omega) (by omega) (fun u y hu hy => (hF' u y hu hy).trans ?_)) _ (a_before (ord k) &&& 65535) a_frontiers (Nat.lt_succ_self _) (fb_16m _) (fun p hp hb => ?_) (fun u y hu hy => (hF u y hu hy).trans ?_)
      · constructor
        · rintro (z | ⟨z1, z2⟩)
          · exact ⟨z.1, by omega⟩
          · rw [z1]; exact ⟨z2, by omega⟩
        · rintro ⟨z1, z2⟩
          by_cases c : pl y = k
          · have := (or_M O ok (dt_FM z1).2).2
            rw [c] at this
            exact Or.inr ⟨this.symm, by rw [this]; exact z1⟩
          · exact Or.inl ⟨z1, by omega⟩
      · rw [fb_m16, decide_eq_true hp, Bool.and_true] at hb
        exact (hX.2.2.2.2.1 _ p (by omega) hp).mp hb
      · constructor
        · exact Or.inl
        · rintro (z | ⟨_, p, h1, h2, h3, _⟩)
          · exact z
          · have hpn := gr_Mlt ok h1
            rw [fb_m16, decide_eq_true (by omega), Bool.and_true] at h3
            rw [(hX.2.2.2.2.1 (ord k) p (by omega) (by omega)).mpr ⟨h1, h2⟩] at h3
            exact absurd h3 (by decide)
theorem xf_2 {post : SX → Prop} (K : ∃ n23 : Nat, wX_findFrontiers_23 post f_blocks f_given f_known f_met f_openEdges f_openBlocks f_first f_last f_openCount f_firstEdge f_lastEdge f_result f_begun f_latest f_inputs n23 0 a_op a_d a_b a_many a_kind a_asks a_target a_a a_order a_place a_parent a_depths a_living a_needs a_merging a_stack a_next a_before (cl_ 0 16 a_frontiers) a_in a_out a_nameA a_nameB a_queue a_state a_worth a_usedByExit a_usedBySet a_usedByLow a_usedByHigh a_edges a_now) :
    ∀ n i, 16 < n + i → i ≤ 16 → wX_findFrontiers_2 post f_blocks f_given f_known f_met f_openEdges f_openBlocks f_first f_last f_openCount f_firstEdge f_lastEdge f_result f_begun f_latest f_inputs n (nI i) a_op a_d a_b a_many a_kind a_asks a_target a_a a_order a_place a_parent a_depths a_living a_needs a_merging a_stack a_next a_before (cl_ 0 i a_frontiers) a_in a_out a_nameA a_nameB a_queue a_state a_worth a_usedByExit a_usedBySet a_usedByLow a_usedByHigh a_edges a_now := by
  intro n
  induction n with
  | zero => intro i h1 h2; omega
  | succ n ih =>
    intro i h1 h2
    rw [wX_findFrontiers_2]
    refine pk_le 16 i (fun h => ?_) (fun h => ?_)
    · have e : i = 16 := by omega
      subst e
      exact K
    · have c : (nI i).toNatClampNeg = i := fn_c (by omega)
      rw [c, fb_vs0]
      exact ⟨vp_in_nI (by omega) (by omega), nm_r cl_s (nm_r (nI_1 i) (ih (i + 1) (by omega) (by omega)))⟩
theorem xf_findFrontiers {post : SX → Prop} (ok : gr_ok G) (hX : xa_ok G m ord pl a_order a_place a_before) (T : dt_ok G m ord pl P) (hpa : ∀ x, x < 16 → a_parent x = pe_ (P x))
    (K : ∀ a_frontiers : Nat → Int32, (∀ u y, u < 16 → y < 16 → (bt (a_frontiers u) y = true ↔ gr_F G u y)) → post (f_blocks, f_given, f_known, nI m, f_openEdges, f_openBlocks, f_first, f_last, f_openCount, f_firstEdge, f_lastEdge, f_result, f_begun, f_latest, f_inputs, a_op, a_d, a_b, a_many, a_kind, a_asks, a_target, a_a, a_order, a_place, a_parent, a_depths, a_living, a_needs, a_merging, a_stack, a_next, a_before, a_frontiers, a_in, a_out, a_nameA, a_nameB, a_queue, a_state, a_worth, a_usedByExit, a_usedBySet, a_usedByLow, a_usedByHigh, a_edges, a_now)) : wpX_findFrontiers post (f_blocks, f_given, f_known, nI m, f_openEdges, f_openBlocks, f_first, f_last, f_openCount, f_firstEdge, f_lastEdge, f_result, f_begun, f_latest, f_inputs, a_op, a_d, a_b, a_many, a_kind, a_asks, a_target, a_a, a_order, a_place, a_parent, a_depths, a_living, a_needs, a_merging, a_stack, a_next, a_before, a_frontiers, a_in, a_out, a_nameA, a_nameB, a_queue, a_state, a_worth, a_usedByExit, a_usedBySet, a_usedByLow, a_usedByHigh, a_edges, a_now) := by
  show ∃ n2 : Nat, wX_findFrontiers_2 post f_blocks f_given f_known (nI m) f_openEdges f_openBlocks f_first f_last f_openCount f_firstEdge f_lastEdge f_result f_begun f_latest f_inputs n2 0 a_op a_d a_b a_many a_kind a_asks a_target a_a a_order a_place a_parent a_depths a_living a_needs a_merging a_stack a_next a_before a_frontiers a_in a_out a_nameA a_nameB a_queue a_state a_worth a_usedByExit a_usedBySet a_usedByLow a_usedByHigh a_edges a_now
  have e0 := xf_2 (post := post) (f_blocks := f_blocks) (f_given := f_given) (f_known := f_known) (f_met := (nI m)) (f_openEdges := f_openEdges) (f_openBlocks := f_openBlocks) (f_first := f_first) (f_last := f_last) (f_openCount := f_openCount) (f_firstEdge := f_firstEdge) (f_lastEdge := f_lastEdge) (f_result := f_result) (f_begun := f_begun) (f_latest := f_latest) (f_inputs := f_inputs) (a_op := a_op) (a_d := a_d) (a_b := a_b) (a_many := a_many) (a_kind := a_kind) (a_asks := a_asks) (a_target := a_target) (a_a := a_a) (a_order := a_order) (a_place := a_place) (a_parent := a_parent) (a_depths := a_depths) (a_living := a_living) (a_needs := a_needs) (a_merging := a_merging) (a_stack := a_stack) (a_next := a_next) (a_before := a_before) (a_frontiers := a_frontiers) (a_in := a_in) (a_out := a_out) (a_nameA := a_nameA) (a_nameB := a_nameB) (a_queue := a_queue) (a_state := a_state) (a_worth := a_worth) (a_usedByExit := a_usedByExit) (a_usedBySet := a_usedBySet) (a_usedByLow := a_usedByLow) (a_usedByHigh := a_usedByHigh) (a_edges := a_edges) (a_now := a_now) ⟨m + 1, xf_23 ok hX T hpa K (m + 1) 0 (cl_ 0 16 a_frontiers) (by omega) (by omega) (fun u y hu hy => ?_)⟩ 17 0 (by omega) (by omega)
  · rw [cl_0] at e0
    exact ⟨17, e0⟩
  · rw [cl_l hu, b_0]
    exact ⟨fun z => absurd z (by decide), fun z => absurd z.2 (by omega)⟩
theorem xf_2a {post : Int32 → Prop} {x y : Nat} (ok : gr_ok G) (T : dt_ok G m ord pl P) (hpl : ∀ x, gr_M G x → a_place x = nI (pl x)) (hpa : ∀ x, x < 16 → a_parent x = pe_ (P x)) (hx : gr_M G x) (K1 : tr_A P x y → post 1) (K0 : ¬ tr_A P x y → post 0) :
    ∀ n w, pl w < n → gr_M G w → (tr_A P x y ↔ tr_A P x w) → wX_above_2 post (nI x) f_blocks f_given f_known f_met f_openEdges f_openBlocks f_first f_last f_openCount f_firstEdge f_lastEdge f_result f_begun f_latest f_inputs a_op a_d a_b a_many a_kind a_asks a_target a_a a_order a_place a_parent a_depths a_living a_needs a_merging a_stack a_next a_before a_frontiers a_in a_out a_nameA a_nameB a_queue a_state a_worth a_usedByExit a_usedBySet a_usedByLow a_usedByHigh a_edges a_now n (nI w) := by
  have hn16 := ok.1
  have O := T.1
  have hmn := O.1
  have hxn := gr_Mlt ok hx
  have mx := (or_M O ok hx).1
  intro n
  induction n with
  | zero => intro w h; omega
  | succ n ih =>
    intro w hmu hw hA
    have hwn := gr_Mlt ok hw
    have mw := (or_M O ok hw).1
    rw [wX_above_2]
    dsimp only
    have cx : (nI x).toNatClampNeg = x := fn_c (by omega)
    have cw : (nI w).toNatClampNeg = w := fn_c (by omega)
    have iw : vp_in (nI w) 16 := vp_in_nI (by omega) (by omega)
    rw [cx, cw, hpl x hx, hpl w hw]
    refine ⟨iw, vp_in_nI (by omega) (by omega), pk_le (pl w) (pl x) (fun h => ?_) (fun h => ?_)⟩
    · refine pk_eq w x (fun e => K1 (hA.mpr (by rw [e]; exact tr_refl))) (fun e => K0 (fun z => ?_))
      have := tr_plt T.2.1 (hA.mp z) (fun z => e z.symm)
      omega
    · have hw0 : w ≠ 0 := fun z => by
        have := or_0 O hw.1
        rw [z] at h
        omega
      obtain ⟨c, hc⟩ := T.2.2.2.1 w hw hw0
      have hwc := T.2.1.2 w c hc
      refine ⟨iw, nm_r (e' := nI c) (by rw [hpa w (by omega), hc]; rfl) (ih c (by omega) hwc.2.1 (hA.trans ⟨fun z => ?_, fun z => tr_step hc z⟩))⟩
      rcases tr_inv z with e | ⟨c', hc', hA'⟩
      · rw [e] at h
        omega
      · rw [hc] at hc'
        cases hc'
        exact hA'
theorem xf_above {post : Int32 → Prop} {x y : Nat} (ok : gr_ok G) (T : dt_ok G m ord pl P) (hpl : ∀ x, gr_M G x → a_place x = nI (pl x)) (hpa : ∀ x, x < 16 → a_parent x = pe_ (P x)) (hx : gr_M G x) (hy : gr_M G y) (K1 : gr_D G x y → post 1) (K0 : ¬ gr_D G x y → post 0) : wpX_above post (f_blocks, f_given, f_known, f_met, f_openEdges, f_openBlocks, f_first, f_last, f_openCount, f_firstEdge, f_lastEdge, f_result, f_begun, f_latest, f_inputs, a_op, a_d, a_b, a_many, a_kind, a_asks, a_target, a_a, a_order, a_place, a_parent, a_depths, a_living, a_needs, a_merging, a_stack, a_next, a_before, a_frontiers, a_in, a_out, a_nameA, a_nameB, a_queue, a_state, a_worth, a_usedByExit, a_usedBySet, a_usedByLow, a_usedByHigh, a_edges, a_now) (nI x) (nI y) := by
  show ∃ n2 : Nat, wX_above_2 post (nI x) f_blocks f_given f_known f_met f_openEdges f_openBlocks f_first f_last f_openCount f_firstEdge f_lastEdge f_result f_begun f_latest f_inputs a_op a_d a_b a_many a_kind a_asks a_target a_a a_order a_place a_parent a_depths a_living a_needs a_merging a_stack a_next a_before a_frontiers a_in a_out a_nameA a_nameB a_queue a_state a_worth a_usedByExit a_usedBySet a_usedByLow a_usedByHigh a_edges a_now n2 (nI y)
  have h := T.2.2.1 x y hy
  exact ⟨_, xf_2a ok T hpl hpa hx (fun z => K1 (h.mp z)) (fun z => K0 (fun w => z (h.mpr w))) _ y (Nat.lt_succ_self _) hy Iff.rfl⟩
end
end
section
/-- b lies in the loop with the head h -/
def gr_L (G : gr_T) (h b : Nat) : Prop := gr_M G b ∧ ∃ x, gr_E G x h ∧ gr_D G h x ∧ (b = h ∨ gr_R G (fun y => y ≠ h) b x)
/-- a body: closed under blocks before, but for the head -/
def lp_I (G : gr_T) (h : Nat) (body todo : Int32) : Prop :=
  fb_16 body ∧ fb_16 todo ∧ (∀ p, bt todo p = true → bt body p = true ∧ p ≠ h) ∧ bt body h = true ∧ (∀ b, bt body b = true → gr_L G h b) ∧ (∀ k p, bt body k = true → k ≠ h → bt todo k = false → gr_M G p → gr_E G p k → bt body p = true) ∧ (∀ x, gr_E G x h → gr_D G h x → bt body x = true)
theorem lp_end {G : gr_T} {h b : Nat} {body : Int32} (I : lp_I G h body 0) : bt body b = true ↔ gr_L G h b := by
  refine ⟨I.2.2.2.2.1 b, ?_⟩
  rintro ⟨hMb, x, e, hD, hb⟩
  rcases hb with hb | hR
  · rw [hb]; exact I.2.2.2.1
  · refine Classical.byContradiction (fun hn => ?_)
    have := hR (fun t => gr_M G t ∧ bt body t ≠ true) (fun _ => ⟨hMb, hn⟩) (fun a c ha ec hc => ⟨gr_Ms ha.1 ec, fun z => ha.2 (I.2.2.2.2.2.1 c a z hc (b_0 c) ha.1 ec)⟩)
    exact this.2 (I.2.2.2.2.2.2 x e hD)
theorem lp_step {G : gr_T} {h k : Nat} {body todo bef : Int32} (I : lp_I G h body todo) (hk : k < 16) (hbk : bt todo k = true) (hb16 : fb_16 bef) (hbef : ∀ p, p < 16 → (bt bef p = true ↔ gr_M G p ∧ gr_E G p k)) (ok : gr_ok G) : lp_I G h (body ||| bef) ((todo &&& (((1 : Int32) <<< (nI k &&& 31)) ^^^ (-1))) ||| (bef &&& (body ^^^ (-1)))) := by
  obtain ⟨h1, h2, h3, h4, h5, h6, h7⟩ := I
  have hn16 := ok.1
  have tb : ∀ p, p < 32 → bt ((todo &&& (((1 : Int32) <<< (nI k &&& 31)) ^^^ (-1))) ||| (bef &&& (body ^^^ (-1)))) p = ((bt todo p && !decide (p = k)) || (bt bef p && !bt body p)) := by
    intro p hp
    rw [b_or, fb_not1 _ (by omega) hp, fb_nots _ _ hp]
  have t16 : fb_16 ((todo &&& (((1 : Int32) <<< (nI k &&& 31)) ^^^ (-1))) ||| (bef &&& (body ^^^ (-1)))) := by
    intro p hp
    rcases Nat.lt_or_ge p 32 with z | z
    · rw [tb p z, h2 p hp, hb16 p hp]; rfl
    · exact b_big z
  refine ⟨fun p hp => by rw [b_or, h1 p hp, hb16 p hp]; rfl, t16, fun p hp => ?_, by rw [b_or, h4]; rfl, fun b hb => ?_, fun c p hc hne ht hM he => ?_, fun x e hD => by rw [b_or, h7 x e hD]; rfl⟩
  · have hp16 := fb_lt16 t16 hp
    rw [tb p (by omega)] at hp
    rw [b_or]
    cases hb : bt body p with
    | true =>
      rw [hb] at hp
      cases ht : bt todo p with
      | true => exact ⟨rfl, (h3 p ht).2⟩
      | false => rw [ht] at hp; simp at hp
    | false =>
      cases ht : bt todo p with
      | true => have := (h3 p ht).1; rw [hb] at this; exact absurd this (by decide)
      | false =>
        rw [ht, hb] at hp
        refine ⟨by simpa using hp, fun e => ?_⟩
        rw [e, h4] at hb
        exact absurd hb (by decide)
  · rw [b_or] at hb
    cases hbb : bt body b with
    | true => exact h5 b hbb
    | false =>
      rw [hbb, Bool.false_or] at hb
      have hb16' := fb_lt16 hb16 hb
      obtain ⟨hM, he⟩ := (hbef b hb16').mp hb
      obtain ⟨hkb, hkh⟩ := h3 k hbk
      obtain ⟨_, x, ex, hD, hx⟩ := h5 k hkb
      refine ⟨hM, x, ex, hD, ?_⟩
      by_cases c : b = h
      · exact Or.inl c
      · rcases hx with z | z
        · exact absurd z hkh
        · exact Or.inr (gr_Rhead he c z)
  · rw [b_or] at hc ⊢
    have hp16 : p < 16 := by
      have := gr_Mlt ok hM
      omega
    by_cases ck : c = k
    · subst ck
      rw [(hbef p hp16).mpr ⟨hM, he⟩, Bool.or_true]
    · cases hcb : bt body c with
      | true =>
        have hc16 := fb_lt16 h1 hcb
        rw [tb c (by omega), decide_eq_false ck, hcb] at ht
        have ht' : bt todo c = false := by
          cases z : bt todo c with
          | true => rw [z] at ht; exact absurd ht (by simp)
          | false => rfl
        rw [h6 c p hcb hne ht' hM he]; rfl
      | false =>
        rw [hcb, Bool.false_or] at hc
        have hc16 := fb_lt16 hb16 hc
        rw [tb c (by omega), hcb, hc] at ht
        exact absurd ht (by simp)
noncomputable def lp_mu (body todo : Int32) : Nat := sg_s (fun i => b01 (bt body i = false) + b01 (bt todo i = true)) 16
theorem lp_mulb (body todo : Int32) : lp_mu body todo ≤ 2 * 16 := sg_b (fun i _ => by
  have h1 := b01_1 (bt body i = false)
  have h2 := b01_1 (bt todo i = true)
  omega)
theorem lp_mus {G : gr_T} {h k : Nat} {body todo bef : Int32} (I : lp_I G h body todo) (hk : k < 16) (hbk : bt todo k = true) : lp_mu (body ||| bef) ((todo &&& (((1 : Int32) <<< (nI k &&& 31)) ^^^ (-1))) ||| (bef &&& (body ^^^ (-1)))) < lp_mu body todo := by
  have hkb := (I.2.2.1 k hbk).1
  have h1 := sg_up (f := fun i => b01 (bt (body ||| bef) i = false) + b01 (bt ((todo &&& (((1 : Int32) <<< (nI k &&& 31)) ^^^ (-1))) ||| (bef &&& (body ^^^ (-1)))) i = true)) (g := fun i => b01 (bt body i = false) + b01 (bt todo i = true)) hk (fun i hi hne => by
    show b01 (bt (body ||| bef) i = false) + b01 (bt ((todo &&& (((1 : Int32) <<< (nI k &&& 31)) ^^^ (-1))) ||| (bef &&& (body ^^^ (-1)))) i = true) = b01 (bt body i = false) + b01 (bt todo i = true)
    rw [b_or, b_or, fb_not1 _ (by omega) (by omega), fb_nots _ _ (by omega), decide_eq_false hne]
    cases hb : bt body i with
    | true => cases bt todo i <;> cases bt bef i <;> rfl
    | false =>
      cases ht : bt todo i with
      | true => have := (I.2.2.1 i ht).1; rw [hb] at this; exact absurd this (by decide)
      | false =>
        cases bt bef i
        · rfl
        · rw [b01_f (by decide), b01_t (by decide), b01_t (by decide), b01_f (by decide)])
  have h2 : b01 (bt (body ||| bef) k = false) + b01 (bt ((todo &&& (((1 : Int32) <<< (nI k &&& 31)) ^^^ (-1))) ||| (bef &&& (body ^^^ (-1)))) k = true) = 0 := by
    rw [b_or, b_or, fb_not1 _ (by omega) (by omega), fb_nots _ _ (by omega), hkb, decide_eq_true rfl]
    rw [b01_f (by simp), b01_f (by simp)]
  have h3 : b01 (bt body k = false) + b01 (bt todo k = true) = 1 := by
    rw [hkb, hbk, b01_f (by decide), b01_t rfl]
  unfold lp_mu
  simp only [h2, h3] at h1
  omega
section
variable {f_blocks f_given f_known f_met f_openEdges f_openBlocks f_first f_last f_openCount f_firstEdge f_lastEdge f_result f_begun f_latest f_inputs : Int32} {a_op a_d a_b a_many a_kind a_asks a_target a_a a_order a_place a_parent a_depths a_living a_needs a_merging a_stack a_next a_before a_frontiers a_in a_out a_nameA a_nameB a_queue a_state a_worth a_usedByExit a_edges a_now : Nat → Int32} {a_usedBySet a_usedByLow a_usedByHigh : Nat → Int64}
variable {G : gr_T} {m : Nat} {ord pl : Nat → Nat} {P : Nat → Option Nat} {post : SX → Prop}
theorem xl_120 {h : Nat} {body : Int32} {dp : Nat → Nat} (ok : gr_ok G) (hB : f_blocks = nI (gr_n G)) (hdp : ∀ x, x < gr_n G → dp x < 100) (hb : ∀ x, bt body x = true ↔ gr_L G h x)
    (K : ∀ a_depths : Nat → Int32, (∀ x, x < gr_n G → a_depths x = nI (dp x + b01 (gr_L G h x))) → post (f_blocks, f_given, f_known, f_met, f_openEdges, f_openBlocks, f_first, f_last, f_openCount, f_firstEdge, f_lastEdge, f_result, f_begun, f_latest, f_inputs, a_op, a_d, a_b, a_many, a_kind, a_asks, a_target, a_a, a_order, a_place, a_parent, a_depths, a_living, a_needs, a_merging, a_stack, a_next, a_before, a_frontiers, a_in, a_out, a_nameA, a_nameB, a_queue, a_state, a_worth, a_usedByExit, a_usedBySet, a_usedByLow, a_usedByHigh, a_edges, a_now)) :
    ∀ n i (a_depths : Nat → Int32), gr_n G < n + i → i ≤ gr_n G → (∀ x, x < gr_n G → a_depths x = nI (if x < i then dp x + b01 (gr_L G h x) else dp x)) → wX_findLoop_120 post body f_blocks f_given f_known f_met f_openEdges f_openBlocks f_first f_last f_openCount f_firstEdge f_lastEdge f_result f_begun f_latest f_inputs n (nI i) a_op a_d a_b a_many a_kind a_asks a_target a_a a_order a_place a_parent a_depths a_living a_needs a_merging a_stack a_next a_before a_frontiers a_in a_out a_nameA a_nameB a_queue a_state a_worth a_usedByExit a_usedBySet a_usedByLow a_usedByHigh a_edges a_now := by
  have hn16 := ok.1
  intro n
  induction n with
  | zero => intro i a_depths h1 h2; omega
  | succ n ih =>
    intro i a_depths h1 h2 hA
    rw [wX_findLoop_120]
    refine pk_le (gr_n G) i (fun hc => ?_) (fun hc => ?_) hB
    · exact K a_depths (fun x hx => by rw [hA x hx, if_pos (by omega)])
    · have c : (nI i).toNatClampNeg = i := fn_c (by omega)
      have hi := hdp i hc
      have e : a_depths i + ((body >>> (nI i &&& 31)) &&& 1) = nI (dp i + b01 (gr_L G h i)) := by
        rw [hA i hc, if_neg (by omega), fb_v (by omega)]
        by_cases z : bt body i = true
        · rw [if_pos z, b01_t ((hb i).mp z)]; exact nI_1 _
        · rw [if_neg z, b01_f (fun w => z ((hb i).mpr w))]; exact Int32.add_zero _
      have h01 := b01_1 (gr_L G h i)
      rw [c, e, fb_vb (by omega)]
      refine ⟨vp_in_nI (by omega) (by omega), vp_in_nI (by omega) (by omega), nm_e (nm_r (nI_1 i) (ih (i + 1) _ (by omega) (by omega) (fun x hx => ?_)))⟩
      by_cases cx : x = i
      · rw [cx, pk_us, if_pos (by omega)]
      · rw [pk_un cx, hA x hx]
        by_cases c2 : x < i
        · rw [if_pos c2, if_pos (by omega)]
        · rw [if_neg c2, if_neg (by omega)]
theorem xl_67 {h : Nat} (ok : gr_ok G) (hX : xa_ok G m ord pl a_order a_place a_before)
    (K : ∀ body : Int32, (∀ x, bt body x = true ↔ gr_L G h x) → ∃ n120 : Nat, wX_findLoop_120 post body f_blocks f_given f_known f_met f_openEdges f_openBlocks f_first f_last f_openCount f_firstEdge f_lastEdge f_result f_begun f_latest f_inputs n120 0 a_op a_d a_b a_many a_kind a_asks a_target a_a a_order a_place a_parent a_depths a_living a_needs a_merging a_stack a_next a_before a_frontiers a_in a_out a_nameA a_nameB a_queue a_state a_worth a_usedByExit a_usedBySet a_usedByLow a_usedByHigh a_edges a_now) :
    ∀ n (body todo : Int32), lp_mu body todo < n → lp_I G h body todo → wX_findLoop_67 post f_blocks f_given f_known f_met f_openEdges f_openBlocks f_first f_last f_openCount f_firstEdge f_lastEdge f_result f_begun f_latest f_inputs a_op a_d a_b a_many a_kind a_asks a_target a_a a_order a_place a_parent a_depths a_living a_needs a_merging a_stack a_next a_before a_frontiers a_in a_out a_nameA a_nameB a_queue a_state a_worth a_usedByExit a_usedBySet a_usedByLow a_usedByHigh a_edges a_now n body todo := by
  have hn16 := ok.1
  intro n
  induction n with
  | zero => intro body todo h1; omega
  | succ n ih =>
    intro body todo hmu I
    rw [wX_findLoop_67]
    by_cases h0 : todo = 0
    · subst h0
      exact br_t rfl (K body (fun x => lp_end I))
    · refine br_f h0 ?_
      obtain ⟨k, hk, hbk, _, _, _, hlo⟩ := fb_step h0 I.2.1
      refine hlo _ ?_
      have c : (nI k).toNatClampNeg = k := fn_c (by omega)
      rw [c]
      have ik : vp_in (nI k) 16 := vp_in_nI hk (by omega)
      have hbef : ∀ p, p < 16 → (bt (a_before k &&& 65535) p = true ↔ gr_M G p ∧ gr_E G p k) := by
        intro p hp
        rw [fb_m16, decide_eq_true hp, Bool.and_true]
        exact hX.2.2.2.2.1 k p hk hp
      have hs := lp_step I hk hbk (fb_16m _) hbef ok
      have hm := lp_mus (bef := a_before k &&& 65535) I hk hbk
      exact ⟨ik, nm_e ⟨ik, nm_e (ih _ _ (by omega) hs)⟩⟩
theorem xl_12 {h : Nat} {dp : Nat → Nat} (ok : gr_ok G) (hB : f_blocks = nI (gr_n G)) (hX : xa_ok G m ord pl a_order a_place a_before) (T : dt_ok G m ord pl P) (hpa : ∀ x, x < 16 → a_parent x = pe_ (P x)) (hh : gr_M G h) (hdp : ∀ x, x < gr_n G → a_depths x = nI (dp x) ∧ dp x < 100)
    (K : ∀ a_depths : Nat → Int32, (∀ x, x < gr_n G → a_depths x = nI (dp x + b01 (gr_L G h x))) → post (f_blocks, f_given, f_known, f_met, f_openEdges, f_openBlocks, f_first, f_last, f_openCount, f_firstEdge, f_lastEdge, f_result, f_begun, f_latest, f_inputs, a_op, a_d, a_b, a_many, a_kind, a_asks, a_target, a_a, a_order, a_place, a_parent, a_depths, a_living, a_needs, a_merging, a_stack, a_next, a_before, a_frontiers, a_in, a_out, a_nameA, a_nameB, a_queue, a_state, a_worth, a_usedByExit, a_usedBySet, a_usedByLow, a_usedByHigh, a_edges, a_now)) :
    ∀ n (body s : Int32), s.toBitVec.toNat < n → fb_16 s → (∀ p, p < 16 → bt s p = true → gr_M G p ∧ gr_E G p h) → fb_16 body → (∀ p, p < 16 → (bt body p = true ↔ (gr_E G p h ∧ gr_D G h p ∧ bt s p = false))) → wX_findLoop_12 post (nI h) f_blocks f_given f_known f_met f_openEdges f_openBlocks f_first f_last f_openCount f_firstEdge f_lastEdge f_result f_begun f_latest f_inputs a_op a_d a_b a_many a_kind a_asks a_target a_a a_order a_place a_parent a_depths a_living a_needs a_merging a_stack a_next a_before a_frontiers a_in a_out a_nameA a_nameB a_queue a_state a_worth a_usedByExit a_usedBySet a_usedByLow a_usedByHigh a_edges a_now n body s := by
  have hn16 := ok.1
  have hhn := gr_Mlt ok hh
  intro n
  induction n with
  | zero => intro body s h1; omega
  | succ n ih =>
    intro body s hmu h16 hs hb16 hb
    rw [wX_findLoop_12]
    by_cases hs0 : s = 0
    · refine br_t hs0 ?_
      have hb' : ∀ p, bt body p = true ↔ (gr_E G p h ∧ gr_D G h p) := by
        intro p
        rcases Nat.lt_or_ge p 16 with z | z
        · rw [hb p z, hs0, b_0]
          exact ⟨fun w => ⟨w.1, w.2.1⟩, fun w => ⟨w.1, w.2, rfl⟩⟩
        · rw [hb16 p z]
          exact ⟨fun w => absurd w (by decide), fun w => by have := (gr_Elt ok w.1).1; omega⟩
      by_cases hz : body = 0
      · refine br_t hz (K a_depths (fun x hx => ?_))
        have hn : ¬ gr_L G h x := by
          rintro ⟨_, y, e, hD, _⟩
          have := (hb' y).mpr ⟨e, hD⟩
          rw [hz, b_0] at this
          exact absurd this (by decide)
        rw [(hdp x hx).1, b01_f hn]
        rfl
      · refine br_f hz ?_
        have e1 : ∀ p, p < 32 → bt (body &&& (((1 : Int32) <<< (nI h &&& 31)) ^^^ (-1))) p = (bt body p && !decide (p = h)) := fun p hp => fb_not1 _ (by omega) hp
        have e2 : ∀ p, p < 32 → bt (body ||| ((1 : Int32) <<< (nI h &&& 31))) p = (bt body p || decide (p = h)) := fun p hp => fb_or1 _ (by omega) hp
        have b16 : fb_16 (body ||| ((1 : Int32) <<< (nI h &&& 31))) := by
          intro p hp
          rcases Nat.lt_or_ge p 32 with z | z
          · rw [e2 p z, hb16 p hp, decide_eq_false (by omega)]; rfl
          · exact b_big z
        have t16 : fb_16 (body &&& (((1 : Int32) <<< (nI h &&& 31)) ^^^ (-1))) := by
          intro p hp
          rcases Nat.lt_or_ge p 32 with z | z
          · rw [e1 p z, hb16 p hp]; rfl
          · exact b_big z
        obtain ⟨x0, hx0, hbx0⟩ := fb_ex hz
        have hx0' := (hb' x0).mp hbx0
        refine nm_e (nm_e ⟨33, xl_67 ok hX (h := h) (fun body' hb2 => ⟨17, xl_120 ok hB (fun x hx => (hdp x hx).2) hb2 K 17 0 a_depths (by omega) (by omega) (fun x hx => by rw [if_neg (by omega)]; exact (hdp x hx).1)⟩) 33 _ _ (Nat.lt_succ_of_le (lp_mulb _ _)) ⟨b16, t16, fun p hp => ?_, by rw [e2 h (by omega), decide_eq_true rfl, Bool.or_true], fun b hbb => ?_, fun k p hk hne ht => ?_, fun x e hD => ?_⟩⟩)
        · have hp16 := fb_lt16 t16 hp
          rw [e1 p (by omega)] at hp
          rw [e2 p (by omega)]
          cases hbp : bt body p with
          | true =>
            rw [hbp] at hp
            exact ⟨rfl, by simpa using hp⟩
          | false => rw [hbp] at hp; exact absurd hp (by simp)
        · have hb32 := fb_lt16 b16 hbb
          rw [e2 b (by omega)] at hbb
          by_cases c : b = h
          · exact ⟨by rw [c]; exact hh, x0, hx0'.1, hx0'.2, Or.inl c⟩
          · rw [decide_eq_false c, Bool.or_false] at hbb
            have := (hb' b).mp hbb
            exact ⟨this.2.2.1, b, this.1, this.2, Or.inr (gr_Rrefl c)⟩
        · have hk32 := fb_lt16 b16 hk
          rw [e2 k (by omega), decide_eq_false hne, Bool.or_false] at hk
          rw [e1 k (by omega), hk, decide_eq_false hne] at ht
          exact absurd ht (by decide)
        · have hxn := (gr_Elt ok e).1
          rw [e2 x (by omega), (hb' x).mpr ⟨e, hD⟩]
          rfl
    · refine br_f hs0 ?_
      obtain ⟨p, hp16, hbp, hcl, hlt, h16', hlo⟩ := fb_step hs0 h16
      refine hlo _ ?_
      have hpM := hs p hp16 hbp
      have hs' : ∀ q, q < 16 → bt (s &&& (s - 1)) q = true → gr_M G q ∧ gr_E G q h := by
        intro q hq hb
        rw [hcl q] at hb
        refine hs q hq ?_
        rcases Bool.eq_false_or_eq_true (bt s q) with z | z
        · exact z
        · rw [z, Bool.false_and] at hb; exact absurd hb (by decide)
      refine xf_above ok T hX.2.2.1 hpa hh hpM.1 (fun hD => ?_) (fun hD => ?_)
      · refine br_f (by decide) (nm_e (nm_e (ih _ _ (by omega) h16' hs' (fun q hq => ?_) (fun q hq => ?_))))
        · rcases Nat.lt_or_ge q 32 with z | z
          · rw [fb_or1 _ (by omega) z, hb16 q hq, decide_eq_false (by omega)]; rfl
          · exact b_big z
        · rw [fb_or1 _ (by omega) (by omega), hcl q]
          by_cases c : q = p
          · subst c
            rw [decide_eq_true rfl]
            simp [hpM.2, hD]
          · rw [decide_eq_false c, Bool.or_false, Bool.not_false, Bool.and_true]
            exact hb q hq
      · refine br_t rfl (nm_e (ih _ _ (by omega) h16' hs' hb16 (fun q hq => ?_)))
        rw [hcl q, hb q hq]
        by_cases c : q = p
        · subst c
          exact ⟨fun z => absurd z.2.1 hD, fun z => absurd z.2.1 hD⟩
        · rw [decide_eq_false c, Bool.not_false, Bool.and_true]
theorem xl_findLoop {h : Nat} {dp : Nat → Nat} (ok : gr_ok G) (hB : f_blocks = nI (gr_n G)) (hX : xa_ok G m ord pl a_order a_place a_before) (T : dt_ok G m ord pl P) (hpa : ∀ x, x < 16 → a_parent x = pe_ (P x)) (hh : gr_M G h) (hdp : ∀ x, x < gr_n G → a_depths x = nI (dp x) ∧ dp x < 100)
    (K : ∀ a_depths : Nat → Int32, (∀ x, x < gr_n G → a_depths x = nI (dp x + b01 (gr_L G h x))) → post (f_blocks, f_given, f_known, f_met, f_openEdges, f_openBlocks, f_first, f_last, f_openCount, f_firstEdge, f_lastEdge, f_result, f_begun, f_latest, f_inputs, a_op, a_d, a_b, a_many, a_kind, a_asks, a_target, a_a, a_order, a_place, a_parent, a_depths, a_living, a_needs, a_merging, a_stack, a_next, a_before, a_frontiers, a_in, a_out, a_nameA, a_nameB, a_queue, a_state, a_worth, a_usedByExit, a_usedBySet, a_usedByLow, a_usedByHigh, a_edges, a_now)) : wpX_findLoop post (f_blocks, f_given, f_known, f_met, f_openEdges, f_openBlocks, f_first, f_last, f_openCount, f_firstEdge, f_lastEdge, f_result, f_begun, f_latest, f_inputs, a_op, a_d, a_b, a_many, a_kind, a_asks, a_target, a_a, a_order, a_place, a_parent, a_depths, a_living, a_needs, a_merging, a_stack, a_next, a_before, a_frontiers, a_in, a_out, a_nameA, a_nameB, a_queue, a_state, a_worth, a_usedByExit, a_usedBySet, a_usedByLow, a_usedByHigh, a_edges, a_now) (nI h) := by
  have hn16 := ok.1
  have hhn := gr_Mlt ok hh
  have c : (nI h).toNatClampNeg = h := fn_c (by omega)
  show vp_in (nI h) 16 ∧ (∀ x3_2 : Int32, x3_2 = (a_before (nI h).toNatClampNeg) &&& 65535 → (∃ n12 : Nat, wX_findLoop_12 post (nI h) f_blocks f_given f_known f_met f_openEdges f_openBlocks f_first f_last f_openCount f_firstEdge f_lastEdge f_result f_begun f_latest f_inputs a_op a_d a_b a_many a_kind a_asks a_target a_a a_order a_place a_parent a_depths a_living a_needs a_merging a_stack a_next a_before a_frontiers a_in a_out a_nameA a_nameB a_queue a_state a_worth a_usedByExit a_usedBySet a_usedByLow a_usedByHigh a_edges a_now n12 0 x3_2))
  rw [c]
  have hbef : ∀ p, p < 16 → (bt (a_before h &&& 65535) p = true ↔ gr_M G p ∧ gr_E G p h) := by
    intro p hp
    rw [fb_m16, decide_eq_true hp, Bool.and_true]
    exact hX.2.2.2.2.1 h p (by omega) hp
  refine ⟨vp_in_nI (by omega) (by omega), nm_e ⟨_, xl_12 ok hB hX T hpa hh hdp K _ 0 (a_before h &&& 65535) (Nat.lt_succ_self _) (fb_16m _) (fun p hp hb => (hbef p hp).mp hb) fb_160 (fun p hp => ?_)⟩⟩
  rw [b_0]
  refine ⟨fun z => absurd z (by decide), fun z => ?_⟩
  rw [(hbef p hp).mpr ⟨z.2.1.2.1, z.1⟩] at z
  exact absurd z.2.2 (by decide)
/-- the depths after the heads of the first k places -/
noncomputable def dp_ (G : gr_T) (pl : Nat → Nat) (k x : Nat) : Nat := sg_s (fun h => b01 (gr_L G h x ∧ pl h < k)) (gr_n G)
theorem dp_b (k x : Nat) : dp_ G pl k x ≤ gr_n G := by
  have := sg_b (f := fun h => b01 (gr_L G h x ∧ pl h < k)) (n := gr_n G) (c := 1) (fun i _ => b01_1 _)
  unfold dp_
  omega
theorem gr_LM {h b : Nat} (H : gr_L G h b) : gr_M G h := by
  obtain ⟨_, x, _, hD, _⟩ := H
  exact hD.1
theorem dp_s (ok : gr_ok G) (O : or_ok G m ord pl) {k x : Nat} (hk : k < m) : dp_ G pl (k + 1) x = dp_ G pl k x + b01 (gr_L G (ord k) x) := by
  have h1 := O.2.2.1 k hk
  have := sg_up (f := fun h => b01 (gr_L G h x ∧ pl h < k + 1)) (g := fun h => b01 (gr_L G h x ∧ pl h < k)) h1.1 (fun i _ hne => b01_i ⟨fun z => ⟨z.1, by
    rcases Nat.lt_or_ge (pl i) k with w | w
    · exact w
    · have e : pl i = k := by omega
      have := (or_M O ok (gr_LM z.1)).2
      rw [e] at this
      exact absurd this.symm hne⟩, fun z => ⟨z.1, by omega⟩⟩)
  have e1 : b01 (gr_L G (ord k) x ∧ pl (ord k) < k) = 0 := b01_f (fun z => by omega)
  have e2 : b01 (gr_L G (ord k) x ∧ pl (ord k) < k + 1) = b01 (gr_L G (ord k) x) := b01_i ⟨fun z => z.1, fun z => ⟨z, by omega⟩⟩
  simp only [e1, e2] at this
  unfold dp_
  omega
theorem dp_0 (x : Nat) : dp_ G pl 0 x = 0 := sg_0 (fun _ _ => b01_f (fun z => by omega))
theorem dp_m (ok : gr_ok G) (O : or_ok G m ord pl) (x : Nat) : dp_ G pl m x = sg_s (fun h => b01 (gr_L G h x)) (gr_n G) := sg_eq (fun i _ => b01_i ⟨fun z => z.1, fun z => ⟨z, (or_M O ok (gr_LM z)).1⟩⟩)
end
end
section
/-! living: arrays as sets of variables -/
theorem fn_sub1 (x : Int32) : x + (-1) = x - 1 := (Int32.sub_eq_add_neg x 1).symm
theorem fn_plt {a b : Nat} (h : a ≤ b) (hb : b < 2 ^ 31) : nI a - 1 < nI b := by
  rcases Nat.eq_zero_or_pos a with z | z
  · subst z
    have h1 : nI 0 - 1 < 0 := by decide
    have h2 : (0 : Int32) ≤ nI b := nI_pos' hb
    rw [Int32.lt_iff_toInt_lt] at h1 ⊢
    rw [Int32.le_iff_toInt_le] at h2
    exact Int.lt_of_lt_of_le h1 h2
  · obtain ⟨c, rfl⟩ : ∃ c, a = c + 1 := ⟨a - 1, by omega⟩
    rw [nI_pred]
    exact nI_lt (by omega) hb
def li_S (al : Nat → Int32) (x v : Nat) : Prop := bt (al x) v = true
def lw_cl (G : gr_T) (N L : Nat → Nat → Prop) : Prop := ∀ x, x < gr_n G → ∀ v, v < 6 → lb_ G L N x (gr_mn G x) v → L x v
def gr_lw (G : gr_T) (N : Nat → Nat → Prop) (x v : Nat) : Prop := ∀ L : Nat → Nat → Prop, lw_cl G N L → L x v
def li_F (G : gr_T) (N : Nat → Nat → Prop) (al : Nat → Int32) (x v : Nat) : Prop := v < 6 ∧ lb_ G (li_S al) N x (gr_mn G x) v
def li_I (G : gr_T) (N : Nat → Nat → Prop) (al : Nat → Int32) : Prop := ∀ x, x < gr_n G → ∀ v, bt (al x) v = true → li_F G N al x v ∧ gr_lw G N x v
def li_m (G : gr_T) (al : Nat → Int32) : Nat := sg_s (fun x => sg_s (fun v => if bt (al x) v = false then 1 else 0) 6) (gr_n G)
section
variable {G : gr_T} {N : Nat → Nat → Prop} {al : Nat → Int32} {k : Nat} {s : Int32}
theorem gr_lwc (ok : gr_ok G) : lw_cl G N (gr_lw G N) := by
  intro x hx v hv h L hL
  exact hL x hx v hv (lb_m (fun y w _ hw => hw L hL) (fun _ z => z) _ v h)
theorem li_mo {al' : Nat → Int32} (h : ∀ y v, bt (al y) v = true → bt (al' y) v = true) {x v : Nat} (hf : li_F G N al x v) : li_F G N al' x v := ⟨hf.1, lb_m (fun y w _ hw => h y w hw) (fun _ z => z) _ v hf.2⟩
theorem li_up (ok : gr_ok G) (I : li_I G N al) (hk : k < gr_n G) (hs : ∀ v, bt s v = true ↔ li_F G N al k v) : li_I G N (upd al k s) ∧ (∀ y v, bt (al y) v = true → bt (upd al k s y) v = true ∨ ¬ y < gr_n G) := by
  have hm : ∀ y v, y < gr_n G → bt (al y) v = true → bt (upd al k s y) v = true := by
    intro y v hy h
    by_cases c : y = k
    · subst c
      rw [pk_us]
      exact (hs v).mpr (I y hy v h).1
    · rw [pk_un c]; exact h
  have hF : ∀ x v, x < gr_n G → li_F G N al x v → li_F G N (upd al k s) x v := fun x v hx hf => ⟨hf.1, lb_m (fun y w e hw => hm y w (gr_Elt ok e).2.1 hw) (fun _ z => z) _ v hf.2⟩
  refine ⟨fun x hx v h => ?_, fun y v h => ?_⟩
  · by_cases c : x = k
    · subst c
      rw [pk_us] at h
      have hf := (hs v).mp h
      exact ⟨hF x v hx hf, gr_lwc ok x hx v hf.1 (lb_m (fun y w e hw => (I y (gr_Elt ok e).2.1 w hw).2) (fun _ z => z) _ v hf.2)⟩
    · rw [pk_un c] at h
      exact ⟨hF x v hx (I x hx v h).1, (I x hx v h).2⟩
  · rcases Nat.lt_or_ge y (gr_n G) with z | z
    · exact Or.inl (hm y v z h)
    · exact Or.inr (by omega)
theorem fb_ext6 {s t : Int32} (hs : ∀ v, bt s v = true → v < 6) (ht : ∀ v, bt t v = true → v < 6) (h : ∀ v, v < 6 → (bt s v = true ↔ bt t v = true)) : s = t := by
  apply b_ext
  intro j hj
  rcases Nat.lt_or_ge j 6 with z | z
  · have := h j z
    cases h1 : bt s j <;> cases h2 : bt t j <;> simp [h1, h2] at this ⊢
  · cases h1 : bt s j with
    | true => have := hs j h1; omega
    | false =>
      cases h2 : bt t j with
      | true => have := ht j h2; omega
      | false => rfl
theorem li_mu (I : li_I G N al) (hk : k < gr_n G) (hs : ∀ v, bt s v = true ↔ li_F G N al k v) (hne : s ≠ al k) : li_m G (upd al k s) < li_m G al := by
  have h1 := sg_up (f := fun x => sg_s (fun v => if bt (upd al k s x) v = false then 1 else 0) 6) (g := fun x => sg_s (fun v => if bt (al x) v = false then 1 else 0) 6) hk (fun i _ hi => by
    show sg_s (fun v => if bt (upd al k s i) v = false then 1 else 0) 6 = _
    rw [pk_un hi])
  have hsub : ∀ v, bt (al k) v = true → bt s v = true := fun v h => (hs v).mpr (I k hk v h).1
  obtain ⟨v, hv, h2, h3⟩ : ∃ v, v < 6 ∧ bt s v = true ∧ bt (al k) v = false := by
    refine Classical.byContradiction (fun hn => hne (fb_ext6 (fun v h => ((hs v).mp h).1) (fun v h => (I k hk v h).1.1) (fun v hv => ⟨fun h => ?_, hsub v⟩)))
    cases h4 : bt (al k) v with
    | true => rfl
    | false => exact absurd ⟨v, hv, h, h4⟩ hn
  have h5 : sg_s (fun v => if bt (upd al k s k) v = false then 1 else 0) 6 < sg_s (fun v => if bt (al k) v = false then 1 else 0) 6 := by
    rw [pk_us]
    have e1 := sg_up (f := fun w => if w = v then 0 else if bt (al k) w = false then 1 else 0) (g := fun w => if bt (al k) w = false then 1 else 0) hv (fun i _ hi => if_neg hi)
    simp only [if_pos, h3] at e1
    have e2 : sg_s (fun w => if bt s w = false then 1 else 0) 6 ≤ sg_s (fun w => if w = v then 0 else if bt (al k) w = false then 1 else 0) 6 := sg_le (fun i hi => by
      by_cases c : i = v
      · rw [c, h2, if_neg (by decide), if_pos rfl]; exact Nat.le_refl _
      · rw [if_neg c]
        cases h6 : bt (al k) i with
        | true => rw [hsub i h6]; exact Nat.le_refl _
        | false => rw [if_pos rfl]; split <;> omega)
    omega
  unfold li_m
  omega
theorem li_same : upd al k (al k) = al := by
  funext j
  by_cases c : j = k
  · rw [c, pk_us]
  · exact pk_un c
theorem li_0 : li_I G N (cl_ 0 16 al) → True := fun _ => trivial
theorem li_end (ok : gr_ok G) (I : li_I G N al) (hc : ∀ x, x < gr_n G → ∀ v, li_F G N al x v → bt (al x) v = true) {x v : Nat} (hx : x < gr_n G) : bt (al x) v = true ↔ (v < 6 ∧ gr_lw G N x v) := by
  refine ⟨fun h => ⟨(I x hx v h).1.1, (I x hx v h).2⟩, fun h => ?_⟩
  exact h.2 (li_S al) (fun y hy w hw hb => hc y hy w ⟨hw, hb⟩)
end
section
variable {f_blocks f_given f_known f_met f_openEdges f_openBlocks f_first f_last f_openCount f_firstEdge f_lastEdge f_result f_begun f_latest f_inputs : Int32} {a_op a_d a_b a_many a_kind a_asks a_target a_a a_order a_place a_parent a_depths a_living a_needs a_merging a_stack a_next a_before a_frontiers a_in a_out a_nameA a_nameB a_queue a_state a_worth a_usedByExit a_edges a_now : Nat → Int32} {a_usedBySet a_usedByLow a_usedByHigh : Nat → Int64}
variable {G : gr_T} {post : SX → Prop} {J25 : Int32 → (Nat → Int32) → (Nat → Int32) → (Nat → Int32) → (Nat → Int32) → (Nat → Int32) → (Nat → Int32) → (Nat → Int32) → (Nat → Int32) → (Nat → Int32) → (Nat → Int32) → (Nat → Int32) → (Nat → Int32) → (Nat → Int32) → (Nat → Int32) → (Nat → Int32) → (Nat → Int32) → (Nat → Int32) → (Nat → Int32) → (Nat → Int32) → (Nat → Int32) → (Nat → Int32) → (Nat → Int32) → (Nat → Int32) → (Nat → Int32) → (Nat → Int32) → (Nat → Int32) → (Nat → Int32) → (Nat → Int64) → (Nat → Int64) → (Nat → Int64) → (Nat → Int32) → (Nat → Int32) → Prop} {J38 : Int32 → Int32 → (Nat → Int32) → (Nat → Int32) → (Nat → Int32) → (Nat → Int32) → (Nat → Int32) → (Nat → Int32) → (Nat → Int32) → (Nat → Int32) → (Nat → Int32) → (Nat → Int32) → (Nat → Int32) → (Nat → Int32) → (Nat → Int32) → (Nat → Int32) → (Nat → Int32) → (Nat → Int32) → (Nat → Int32) → (Nat → Int32) → (Nat → Int32) → (Nat → Int32) → (Nat → Int32) → (Nat → Int32) → (Nat → Int32) → (Nat → Int32) → (Nat → Int32) → (Nat → Int32) → (Nat → Int32) → (Nat → Int64) → (Nat → Int64) → (Nat → Int64) → (Nat → Int32) → (Nat → Int32) → Prop} {x1 : Int32} {k : Nat}
theorem xv_uses {post : Int32 → Prop} {x i : Nat} (X : xp_ok G f_blocks f_given a_op a_d a_b a_many a_kind a_asks a_target a_a) (hx : x < gr_n G) (hi : i < gr_mn G x) (K : ∀ u : Int32, (∀ v, bt u v = true ↔ gr_us G (4 * x + i) v) → post u) : wpX_uses post (f_blocks, f_given, f_known, f_met, f_openEdges, f_openBlocks, f_first, f_last, f_openCount, f_firstEdge, f_lastEdge, f_result, f_begun, f_latest, f_inputs, a_op, a_d, a_b, a_many, a_kind, a_asks, a_target, a_a, a_order, a_place, a_parent, a_depths, a_living, a_needs, a_merging, a_stack, a_next, a_before, a_frontiers, a_in, a_out, a_nameA, a_nameB, a_queue, a_state, a_worth, a_usedByExit, a_usedBySet, a_usedByLow, a_usedByHigh, a_edges, a_now) (nI (4 * x + i)) := by
  have ok := X.1
  have hn16 := ok.1
  have h4 := (ok.2.2 x hx).1
  have hI := (ok.2.2 x hx).2.2.2.2 i hi
  have hX := X.2.2.2.2.2.2.2 x i hx hi
  unfold wpX_uses
  have c : (nI (4 * x + i)).toNatClampNeg = 4 * x + i := fn_c (by omega)
  have hin : vp_in (nI (4 * x + i)) 64 := vp_in_nI (by omega) (by omega)
  show vp_in (nI (4 * x + i)) 64 ∧ _
  rw [c, hX.1, hX.2.2.1, hX.2.2.2]
  have h8 := hI.1
  refine ⟨hin, pk_eq (gr_op G (4 * x + i)) 0 (fun h => K 0 (fun v => ?_)) (fun h0 => ⟨hin, pk_eq (gr_op G (4 * x + i)) 7 (fun h => K 0 (fun v => ?_)) (fun h7 => ⟨hin, pk_eq (gr_op G (4 * x + i)) 1 (fun h => ⟨hin, ?_⟩) (fun h1 => ⟨hin, hin, ?_⟩)⟩)⟩)⟩
  · rw [b_0]
    exact ⟨fun z => absurd z (by decide), fun z => by rcases z with ⟨z, _⟩ | ⟨z, _⟩ <;> omega⟩
  · rw [b_0]
    exact ⟨fun z => absurd z (by decide), fun z => by rcases z with ⟨z, _⟩ | ⟨_, z, _⟩ <;> omega⟩
  · have ha := hI.2.2.2 (by omega) (by omega)
    rw [ha.1]
    refine K _ (fun v => ?_)
    rcases Nat.lt_or_ge v 32 with z | z
    · rw [fb_one _ (by omega) v z, decide_eq_true_iff]
      exact ⟨fun e => Or.inl ⟨h, e.symm⟩, fun e => by rcases e with ⟨_, e⟩ | ⟨e, _⟩ <;> omega⟩
    · rw [b_big z]
      exact ⟨fun w => absurd w (by decide), fun w => by have := us_lt ok hx hi w; omega⟩
  · have ha := hI.2.2.2 (by omega) (by omega)
    have hb := hI.2.2.1
    rw [ha.1]
    refine K _ (fun v => ?_)
    rcases Nat.lt_or_ge v 32 with z | z
    · rw [b_or, fb_one _ (by omega) v z, fb_one _ (by omega) v z, Bool.or_eq_true, decide_eq_true_iff, decide_eq_true_iff]
      constructor
      · rintro (e | e)
        · exact Or.inr ⟨by omega, by omega, Or.inl e.symm⟩
        · exact Or.inr ⟨by omega, by omega, Or.inr e.symm⟩
      · rintro (⟨e, _⟩ | ⟨_, _, e | e⟩)
        · omega
        · exact Or.inl e.symm
        · exact Or.inr e.symm
    · rw [b_big z]
      exact ⟨fun w => absurd w (by decide), fun w => by have := us_lt ok hx hi w; omega⟩
theorem xv_118 (X : xp_ok G f_blocks f_given a_op a_d a_b a_many a_kind a_asks a_target a_a) (hk : k < gr_n G)
    (K1 : (∀ v, bt (a_living k) v = true ↔ li_F G (fun _ _ => True) a_living k v) → J38 x1 (nI k - 1) a_op a_d a_b a_many a_kind a_asks a_target a_a a_order a_place a_parent a_depths a_living a_needs a_merging a_stack a_next a_before a_frontiers a_in a_out a_nameA a_nameB a_queue a_state a_worth a_usedByExit a_usedBySet a_usedByLow a_usedByHigh a_edges a_now)
    (K2 : ∀ s : Int32, (∀ v, bt s v = true ↔ li_F G (fun _ _ => True) a_living k v) → s ≠ a_living k → J38 1 (nI k - 1) a_op a_d a_b a_many a_kind a_asks a_target a_a a_order a_place a_parent a_depths (upd a_living k s) a_needs a_merging a_stack a_next a_before a_frontiers a_in a_out a_nameA a_nameB a_queue a_state a_worth a_usedByExit a_usedBySet a_usedByLow a_usedByHigh a_edges a_now) :
    ∀ n i (s : Int32), i < n → i ≤ gr_mn G k → (∀ v, bt s v = true ↔ (v < 6 ∧ lb_ G (li_S a_living) (fun _ _ => True) k (gr_mn G k - i) v)) → wX_findLiving_118 post J25 J38 x1 (nI k) f_blocks f_given f_known f_met f_openEdges f_openBlocks f_first f_last f_openCount f_firstEdge f_lastEdge f_result f_begun f_latest f_inputs a_op a_d a_b a_many a_kind a_asks a_target a_a a_order a_place a_parent a_depths a_living a_needs a_merging a_stack a_next a_before a_frontiers a_in a_out a_nameA a_nameB a_queue a_state a_worth a_usedByExit a_usedBySet a_usedByLow a_usedByHigh a_edges a_now n s (nI (4 * k + i) - 1) := by
  have ok := X.1
  have hn16 := ok.1
  have h4 := (ok.2.2 k hk).1
  have ck : (nI k).toNatClampNeg = k := fn_c (by omega)
  have ik : vp_in (nI k) 16 := vp_in_nI (by omega) (by omega)
  intro n
  induction n with
  | zero => intro i s h; omega
  | succ n ih =>
    intro i s hin hi hs
    rw [wX_findLiving_118]
    dsimp only
    rw [ck, fn_4]
    cases i with
    | zero =>
      refine br_t (fn_plt (by omega) (by omega)) ⟨ik, ?_⟩
      have hs' : ∀ v, bt s v = true ↔ li_F G (fun _ _ => True) a_living k v := hs
      by_cases c : s = a_living k
      · refine br_t c (nm_r (fn_sub1 _) (K1 ?_))
        rw [← c]
        exact hs'
      · refine br_f c ⟨ik, nm_r (e' := upd a_living k s) ?_ (nm_r (fn_sub1 _) (K2 s hs' c))⟩
        rw [pk_vb, fb_id8]
        intro j h1 h2
        cases hb : bt s j with
        | false => rfl
        | true => have := ((hs j).mp hb).1; omega
    | succ i =>
      have e1 : nI (4 * k + (i + 1)) - 1 = nI (4 * k + i) := nI_pred _
      have c2 : (nI (4 * k + i)).toNatClampNeg = 4 * k + i := fn_c (by omega)
      rw [e1, c2]
      refine br_f (nI_nlt (by omega) (by omega)) ⟨vp_in_nI (by omega) (by omega), xv_uses X hk (by omega) (fun u hu => nm_e (nm_r (fn_sub1 _) ?_))⟩
      have hX := X.2.2.2.2.2.2.2 k i hk (by omega)
      have hI := (ok.2.2 k hk).2.2.2.2 i (by omega)
      have hd6 := hI.2.1
      refine ih i _ (by omega) (by omega) (fun v => ?_)
      rw [hX.2.1]
      have em : gr_mn G k - i = (gr_mn G k - (i + 1)) + 1 := by omega
      have em2 : gr_mn G k - (gr_mn G k - (i + 1) + 1) = i := by omega
      rw [em]
      show _ ↔ (v < 6 ∧ ((True ∧ gr_us G (4 * k + (gr_mn G k - (gr_mn G k - (i + 1) + 1))) v) ∨ (lb_ G (li_S a_living) (fun _ _ => True) k (gr_mn G k - (i + 1)) v ∧ gr_dd G (4 * k + (gr_mn G k - (gr_mn G k - (i + 1) + 1))) ≠ v)))
      rw [em2]
      rcases Nat.lt_or_ge v 32 with z | z
      · rw [b_or, fb_not1 _ (by omega) z, Bool.or_eq_true, Bool.and_eq_true, hs v, hu v]
        have e3 : ((!decide (v = gr_dd G (4 * k + i))) = true) ↔ gr_dd G (4 * k + i) ≠ v := by
          rw [Bool.not_eq_true', decide_eq_false_iff_not]
          exact ⟨fun a b => a b.symm, fun a b => a b.symm⟩
        rw [e3]
        constructor
        · rintro (⟨⟨a, b⟩, c⟩ | a)
          · exact ⟨a, Or.inr ⟨b, c⟩⟩
          · exact ⟨us_lt ok hk (by omega) a, Or.inl ⟨trivial, a⟩⟩
        · rintro ⟨a, ⟨_, b⟩ | ⟨b, c⟩⟩
          · exact Or.inr b
          · exact Or.inl ⟨⟨a, b⟩, c⟩
      · rw [b_big z]
        exact ⟨fun w => absurd w (by decide), fun w => by have := w.1; omega⟩
theorem xv_68 (X : xp_ok G f_blocks f_given a_op a_d a_b a_many a_kind a_asks a_target a_a) (hk : k < gr_n G) (h6 : ∀ x, x < gr_n G → ∀ v, bt (a_living x) v = true → v < 6)
    (K1 : (∀ v, bt (a_living k) v = true ↔ li_F G (fun _ _ => True) a_living k v) → J38 x1 (nI k - 1) a_op a_d a_b a_many a_kind a_asks a_target a_a a_order a_place a_parent a_depths a_living a_needs a_merging a_stack a_next a_before a_frontiers a_in a_out a_nameA a_nameB a_queue a_state a_worth a_usedByExit a_usedBySet a_usedByLow a_usedByHigh a_edges a_now)
    (K2 : ∀ s : Int32, (∀ v, bt s v = true ↔ li_F G (fun _ _ => True) a_living k v) → s ≠ a_living k → J38 1 (nI k - 1) a_op a_d a_b a_many a_kind a_asks a_target a_a a_order a_place a_parent a_depths (upd a_living k s) a_needs a_merging a_stack a_next a_before a_frontiers a_in a_out a_nameA a_nameB a_queue a_state a_worth a_usedByExit a_usedBySet a_usedByLow a_usedByHigh a_edges a_now) :
    ∀ n j (s : Int32), gr_kd G k < n + j → j ≤ gr_kd G k → (∀ v, bt s v = true ↔ (v < 6 ∧ ((∃ i, i < j ∧ li_S a_living (gr_tg G (2 * k + i)) v) ∨ (gr_kd G k ≠ 1 ∧ gr_ak G k = v)))) → wX_findLiving_68 post J25 J38 x1 (nI k) f_blocks f_given f_known f_met f_openEdges f_openBlocks f_first f_last f_openCount f_firstEdge f_lastEdge f_result f_begun f_latest f_inputs a_op a_d a_b a_many a_kind a_asks a_target a_a a_order a_place a_parent a_depths a_living a_needs a_merging a_stack a_next a_before a_frontiers a_in a_out a_nameA a_nameB a_queue a_state a_worth a_usedByExit a_usedBySet a_usedByLow a_usedByHigh a_edges a_now n s (nI j) := by
  have ok := X.1
  have hn16 := ok.1
  have hB := ok.2.2 k hk
  have h4 := hB.1
  have hkd := hB.2.1
  have ck : (nI k).toNatClampNeg = k := fn_c (by omega)
  have ik : vp_in (nI k) 16 := vp_in_nI (by omega) (by omega)
  intro n
  induction n with
  | zero => intro j s h1 h2; omega
  | succ n ih =>
    intro j s h1 hj hs
    rw [wX_findLiving_68]
    dsimp only
    rw [ck, X.2.2.2.2.1 k hk, X.2.2.2.1 k hk, fn_42]
    refine ⟨ik, pk_le (gr_kd G k) j (fun h => ?_) (fun h => ?_)⟩
    · refine ⟨ik, nm_e ⟨5, xv_118 X hk K1 K2 5 (gr_mn G k) s (by omega) (by omega) (fun v => (hs v).trans ?_)⟩⟩
      rw [Nat.sub_self]
      show _ ↔ (v < 6 ∧ ((∃ y, gr_E G k y ∧ li_S a_living y v) ∨ (gr_kd G k ≠ 1 ∧ gr_ak G k = v)))
      constructor
      · rintro ⟨a, ⟨i, hi, b⟩ | b⟩
        · exact ⟨a, Or.inl ⟨_, ⟨hk, i, by omega, rfl⟩, b⟩⟩
        · exact ⟨a, Or.inr b⟩
      · rintro ⟨a, ⟨y, ⟨_, i, hi, e⟩, b⟩ | b⟩
        · exact ⟨a, Or.inl ⟨i, by omega, by rw [e]; exact b⟩⟩
        · exact ⟨a, Or.inr b⟩
    · have htg := hB.2.2.2.1 j h
      have c2 : (nI (2 * k + j)).toNatClampNeg = 2 * k + j := fn_c (by omega)
      rw [fn_22, c2, X.2.2.2.2.2.2.1 k j hk h]
      have c3 : (nI (gr_tg G (2 * k + j))).toNatClampNeg = gr_tg G (2 * k + j) := fn_c (by omega)
      rw [c3]
      refine ⟨vp_in_nI (by omega) (by omega), vp_in_nI (by omega) (by omega), nm_e (nm_r (nI_1 j) (ih (j + 1) _ (by omega) (by omega) (fun v => ?_)))⟩
      rw [b_or, Bool.or_eq_true, hs v]
      constructor
      · rintro (⟨a, ⟨i, hi, b⟩ | b⟩ | a)
        · exact ⟨a, Or.inl ⟨i, by omega, b⟩⟩
        · exact ⟨a, Or.inr b⟩
        · exact ⟨h6 _ htg.2 v a, Or.inl ⟨j, by omega, a⟩⟩
      · rintro ⟨a, ⟨i, hi, b⟩ | b⟩
        · by_cases c : i = j
          · subst c
            exact Or.inr b
          · exact Or.inl ⟨a, Or.inl ⟨i, by omega, b⟩⟩
        · exact Or.inl ⟨a, Or.inr b⟩
theorem xv_38 (X : xp_ok G f_blocks f_given a_op a_d a_b a_many a_kind a_asks a_target a_a) {M : Nat}
    (K0 : ∀ a_living : Nat → Int32, li_I G (fun _ _ => True) a_living → (∀ x, x < gr_n G → ∀ v, li_F G (fun _ _ => True) a_living x v → bt (a_living x) v = true) → J25 0 a_op a_d a_b a_many a_kind a_asks a_target a_a a_order a_place a_parent a_depths a_living a_needs a_merging a_stack a_next a_before a_frontiers a_in a_out a_nameA a_nameB a_queue a_state a_worth a_usedByExit a_usedBySet a_usedByLow a_usedByHigh a_edges a_now)
    (K1 : ∀ a_living : Nat → Int32, li_I G (fun _ _ => True) a_living → li_m G a_living < M → J25 1 a_op a_d a_b a_many a_kind a_asks a_target a_a a_order a_place a_parent a_depths a_living a_needs a_merging a_stack a_next a_before a_frontiers a_in a_out a_nameA a_nameB a_queue a_state a_worth a_usedByExit a_usedBySet a_usedByLow a_usedByHigh a_edges a_now) :
    ∀ n k (x1 : Int32) (a_living : Nat → Int32), k < n → k ≤ gr_n G → li_I G (fun _ _ => True) a_living → ((x1 = 0 ∧ (∀ x, k ≤ x → x < gr_n G → ∀ v, li_F G (fun _ _ => True) a_living x v → bt (a_living x) v = true) ∧ li_m G a_living ≤ M) ∨ (x1 = 1 ∧ li_m G a_living < M)) → wX_findLiving_38 post J25 f_blocks f_given f_known f_met f_openEdges f_openBlocks f_first f_last f_openCount f_firstEdge f_lastEdge f_result f_begun f_latest f_inputs n x1 (nI k - 1) a_op a_d a_b a_many a_kind a_asks a_target a_a a_order a_place a_parent a_depths a_living a_needs a_merging a_stack a_next a_before a_frontiers a_in a_out a_nameA a_nameB a_queue a_state a_worth a_usedByExit a_usedBySet a_usedByLow a_usedByHigh a_edges a_now := by
  have ok := X.1
  have hn16 := ok.1
  intro n
  induction n with
  | zero => intro k x1 a_living h; omega
  | succ n ih =>
    intro k x1 a_living hkn hk I hx
    rw [wX_findLiving_38]
    cases k with
    | zero =>
      refine br_t (by decide) ?_
      rcases hx with ⟨rfl, h1, _⟩ | ⟨rfl, h1⟩
      · exact K0 a_living I (fun x hx => h1 x (by omega) hx)
      · exact K1 a_living I h1
    | succ k =>
      have e1 : nI (k + 1) - 1 = nI k := nI_pred _
      have ck : (nI k).toNatClampNeg = k := fn_c (by omega)
      have ik : vp_in (nI k) 16 := vp_in_nI (by omega) (by omega)
      have hB := ok.2.2 k (by omega)
      have hkd := hB.2.1
      have hak := hB.2.2.1
      rw [e1, ck, X.2.2.2.2.1 k (by omega), X.2.2.2.2.2.1 k (by omega)]
      have h6 : ∀ x, x < gr_n G → ∀ v, bt (a_living x) v = true → v < 6 := fun x hx v h => (I x hx v h).1.1
      have k1 : (∀ v, bt (a_living k) v = true ↔ li_F G (fun _ _ => True) a_living k v) → wX_findLiving_38 post J25 f_blocks f_given f_known f_met f_openEdges f_openBlocks f_first f_last f_openCount f_firstEdge f_lastEdge f_result f_begun f_latest f_inputs n x1 (nI k - 1) a_op a_d a_b a_many a_kind a_asks a_target a_a a_order a_place a_parent a_depths a_living a_needs a_merging a_stack a_next a_before a_frontiers a_in a_out a_nameA a_nameB a_queue a_state a_worth a_usedByExit a_usedBySet a_usedByLow a_usedByHigh a_edges a_now := by
        intro hs
        refine ih k x1 a_living (by omega) (by omega) I ?_
        rcases hx with ⟨a, b, c⟩ | a
        · refine Or.inl ⟨a, fun x h1 h2 v hv => ?_, c⟩
          by_cases e : x = k
          · subst e
            exact (hs v).mpr hv
          · exact b x (by omega) h2 v hv
        · exact Or.inr a
      have k2 : ∀ s : Int32, (∀ v, bt s v = true ↔ li_F G (fun _ _ => True) a_living k v) → s ≠ a_living k → wX_findLiving_38 post J25 f_blocks f_given f_known f_met f_openEdges f_openBlocks f_first f_last f_openCount f_firstEdge f_lastEdge f_result f_begun f_latest f_inputs n 1 (nI k - 1) a_op a_d a_b a_many a_kind a_asks a_target a_a a_order a_place a_parent a_depths (upd a_living k s) a_needs a_merging a_stack a_next a_before a_frontiers a_in a_out a_nameA a_nameB a_queue a_state a_worth a_usedByExit a_usedBySet a_usedByLow a_usedByHigh a_edges a_now := by
        intro s hs hne
        have hm := li_mu I (by omega) hs hne
        refine ih k 1 _ (by omega) (by omega) (li_up ok I (by omega) hs).1 (Or.inr ⟨rfl, ?_⟩)
        rcases hx with ⟨_, _, c⟩ | ⟨_, c⟩ <;> omega
      refine br_f (nI_pos (by omega)) ⟨ik, pk_eq (gr_kd G k) 1 (fun h => ⟨4, ?_⟩) (fun h => ⟨ik, nm_e ⟨4, ?_⟩⟩)⟩
      · refine xv_68 X (by omega) h6 k1 k2 4 0 0 (by omega) (by omega) (fun v => ?_)
        rw [b_0]
        exact ⟨fun z => absurd z (by decide), fun ⟨_, z⟩ => by rcases z with ⟨i, hi, _⟩ | ⟨z, _⟩ <;> omega⟩
      · refine xv_68 X (by omega) h6 k1 k2 4 0 _ (by omega) (by omega) (fun v => ?_)
        rcases Nat.lt_or_ge v 32 with z | z
        · rw [fb_one _ (by omega) v z, decide_eq_true_iff]
          constructor
          · intro e
            exact ⟨by omega, Or.inr ⟨h, e.symm⟩⟩
          · rintro ⟨_, ⟨i, hi, _⟩ | ⟨_, e⟩⟩
            · omega
            · exact e.symm
        · rw [b_big z]
          exact ⟨fun w => absurd w (by decide), fun w => by have := w.1; omega⟩
theorem xv_25 (X : xp_ok G f_blocks f_given a_op a_d a_b a_many a_kind a_asks a_target a_a)
    (K : ∀ a_living : Nat → Int32, (∀ x v, x < gr_n G → (bt (a_living x) v = true ↔ (v < 6 ∧ gr_lw G (fun _ _ => True) x v))) → post (f_blocks, f_given, f_known, f_met, f_openEdges, f_openBlocks, f_first, f_last, f_openCount, f_firstEdge, f_lastEdge, f_result, f_begun, f_latest, f_inputs, a_op, a_d, a_b, a_many, a_kind, a_asks, a_target, a_a, a_order, a_place, a_parent, a_depths, a_living, a_needs, a_merging, a_stack, a_next, a_before, a_frontiers, a_in, a_out, a_nameA, a_nameB, a_queue, a_state, a_worth, a_usedByExit, a_usedBySet, a_usedByLow, a_usedByHigh, a_edges, a_now)) :
    ∀ n (a_living : Nat → Int32), li_m G a_living + 1 < n → li_I G (fun _ _ => True) a_living → wX_findLiving_25 post f_blocks f_given f_known f_met f_openEdges f_openBlocks f_first f_last f_openCount f_firstEdge f_lastEdge f_result f_begun f_latest f_inputs n 1 a_op a_d a_b a_many a_kind a_asks a_target a_a a_order a_place a_parent a_depths a_living a_needs a_merging a_stack a_next a_before a_frontiers a_in a_out a_nameA a_nameB a_queue a_state a_worth a_usedByExit a_usedBySet a_usedByLow a_usedByHigh a_edges a_now := by
  have ok := X.1
  have hn16 := ok.1
  intro n
  induction n with
  | zero => intro a_living h1; omega
  | succ n ih =>
    intro a_living h1 I
    rw [wX_findLiving_25]
    refine br_f (by decide) (nm_r (e' := nI (gr_n G) - 1) (by rw [X.2.1]) ⟨gr_n G + 1, ?_⟩)
    refine xv_38 (M := li_m G a_living) X (fun a_living I hc => ?_) (fun a_living' I hl => ih a_living' (by omega) I) (gr_n G + 1) (gr_n G) 0 a_living (by omega) (by omega) I (Or.inl ⟨rfl, fun x h1 h2 => by omega, Nat.le_refl _⟩)
    obtain ⟨n, rfl⟩ : ∃ d, n = d + 1 := ⟨n - 1, by omega⟩
    rw [wX_findLiving_25]
    exact br_t rfl (K a_living (fun x v hx => li_end ok I hc hx))
theorem xv_2 (ok : gr_ok G) (hB : f_blocks = nI (gr_n G)) (K : ∃ n25 : Nat, wX_findLiving_25 post f_blocks f_given f_known f_met f_openEdges f_openBlocks f_first f_last f_openCount f_firstEdge f_lastEdge f_result f_begun f_latest f_inputs n25 1 a_op a_d a_b a_many a_kind a_asks a_target a_a a_order a_place a_parent a_depths (cl_ 0 (gr_n G) a_living) a_needs a_merging a_stack a_next a_before a_frontiers a_in a_out a_nameA a_nameB a_queue a_state a_worth a_usedByExit a_usedBySet a_usedByLow a_usedByHigh a_edges a_now) :
    ∀ n i, gr_n G < n + i → i ≤ gr_n G → wX_findLiving_2 post f_blocks f_given f_known f_met f_openEdges f_openBlocks f_first f_last f_openCount f_firstEdge f_lastEdge f_result f_begun f_latest f_inputs n (nI i) a_op a_d a_b a_many a_kind a_asks a_target a_a a_order a_place a_parent a_depths (cl_ 0 i a_living) a_needs a_merging a_stack a_next a_before a_frontiers a_in a_out a_nameA a_nameB a_queue a_state a_worth a_usedByExit a_usedBySet a_usedByLow a_usedByHigh a_edges a_now := by
  have hn16 := ok.1
  intro n
  induction n with
  | zero => intro i h1 h2; omega
  | succ n ih =>
    intro i h1 h2
    rw [wX_findLiving_2]
    refine pk_le (gr_n G) i (fun h => ?_) (fun h => ?_) hB
    · have e : i = gr_n G := by omega
      subst e
      exact K
    · have c : (nI i).toNatClampNeg = i := fn_c (by omega)
      rw [c, fb_vb0]
      exact ⟨vp_in_nI (by omega) (by omega), nm_r cl_s (nm_r (nI_1 i) (ih (i + 1) (by omega) (by omega)))⟩
theorem xv_findLiving (X : xp_ok G f_blocks f_given a_op a_d a_b a_many a_kind a_asks a_target a_a)
    (K : ∀ a_living : Nat → Int32, (∀ x v, x < gr_n G → (bt (a_living x) v = true ↔ (v < 6 ∧ gr_lw G (fun _ _ => True) x v))) → post (f_blocks, f_given, f_known, f_met, f_openEdges, f_openBlocks, f_first, f_last, f_openCount, f_firstEdge, f_lastEdge, f_result, f_begun, f_latest, f_inputs, a_op, a_d, a_b, a_many, a_kind, a_asks, a_target, a_a, a_order, a_place, a_parent, a_depths, a_living, a_needs, a_merging, a_stack, a_next, a_before, a_frontiers, a_in, a_out, a_nameA, a_nameB, a_queue, a_state, a_worth, a_usedByExit, a_usedBySet, a_usedByLow, a_usedByHigh, a_edges, a_now)) : wpX_findLiving post (f_blocks, f_given, f_known, f_met, f_openEdges, f_openBlocks, f_first, f_last, f_openCount, f_firstEdge, f_lastEdge, f_result, f_begun, f_latest, f_inputs, a_op, a_d, a_b, a_many, a_kind, a_asks, a_target, a_a, a_order, a_place, a_parent, a_depths, a_living, a_needs, a_merging, a_stack, a_next, a_before, a_frontiers, a_in, a_out, a_nameA, a_nameB, a_queue, a_state, a_worth, a_usedByExit, a_usedBySet, a_usedByLow, a_usedByHigh, a_edges, a_now) := by
  have ok := X.1
  have hn16 := ok.1
  show ∃ n2 : Nat, wX_findLiving_2 post f_blocks f_given f_known f_met f_openEdges f_openBlocks f_first f_last f_openCount f_firstEdge f_lastEdge f_result f_begun f_latest f_inputs n2 0 a_op a_d a_b a_many a_kind a_asks a_target a_a a_order a_place a_parent a_depths a_living a_needs a_merging a_stack a_next a_before a_frontiers a_in a_out a_nameA a_nameB a_queue a_state a_worth a_usedByExit a_usedBySet a_usedByLow a_usedByHigh a_edges a_now
  have e0 := xv_2 (post := post) (f_blocks := f_blocks) (f_given := f_given) (f_known := f_known) (f_met := f_met) (f_openEdges := f_openEdges) (f_openBlocks := f_openBlocks) (f_first := f_first) (f_last := f_last) (f_openCount := f_openCount) (f_firstEdge := f_firstEdge) (f_lastEdge := f_lastEdge) (f_result := f_result) (f_begun := f_begun) (f_latest := f_latest) (f_inputs := f_inputs) (a_op := a_op) (a_d := a_d) (a_b := a_b) (a_many := a_many) (a_kind := a_kind) (a_asks := a_asks) (a_target := a_target) (a_a := a_a) (a_order := a_order) (a_place := a_place) (a_parent := a_parent) (a_depths := a_depths) (a_living := a_living) (a_needs := a_needs) (a_merging := a_merging) (a_stack := a_stack) (a_next := a_next) (a_before := a_before) (a_frontiers := a_frontiers) (a_in := a_in) (a_out := a_out) (a_nameA := a_nameA) (a_nameB := a_nameB) (a_queue := a_queue) (a_state := a_state) (a_worth := a_worth) (a_usedByExit := a_usedByExit) (a_usedBySet := a_usedBySet) (a_usedByLow := a_usedByLow) (a_usedByHigh := a_usedByHigh) (a_edges := a_edges) (a_now := a_now) (G := G) ok X.2.1 ⟨_, xv_25 X K _ (cl_ 0 (gr_n G) a_living) (Nat.lt_succ_self _) (fun x hx v h => by rw [cl_l hx, b_0] at h; exact absurd h (by decide))⟩ 17 0 (by omega) (by omega)
  rw [cl_0] at e0
  exact ⟨17, e0⟩
end
end
section
/-! merges -/
def mg_T (G : gr_T) (v x : Nat) : Prop := x = 0 ∨ (gr_M G x ∧ gr_st G x v)
def mg_I (G : gr_T) (v : Nat) (todo done : Int32) : Prop :=
  fb_16 todo ∧ fb_16 done ∧ (∀ x, bt todo x = true → bt done x = false) ∧ (∀ x, bt todo x = true ∨ bt done x = true → mg_T G v x ∨ gr_J G v x) ∧ (∀ x, mg_T G v x → bt todo x = true ∨ bt done x = true) ∧ (∀ x y, bt done x = true → gr_F G x y → bt todo y = true ∨ bt done y = true)
section
variable {G : gr_T} {v x : Nat} {todo done fr : Int32}
theorem mg_end (I : mg_I G v 0 done) (y : Nat) : (∃ x, bt done x = true ∧ gr_F G x y) ↔ gr_J G v y := by
  have h0 : ∀ x, ¬ bt 0 x = true := fun x z => by rw [b_0] at z; exact absurd z (by decide)
  constructor
  · rintro ⟨x, hx, hF⟩
    rcases I.2.2.2.1 x (Or.inr hx) with (z | z) | z
    · exact gr_Js (Or.inl z) hF
    · exact gr_Js (Or.inr (Or.inl z.2)) hF
    · exact gr_Js (Or.inr (Or.inr z)) hF
  · intro h
    refine h (fun y => ∃ x, bt done x = true ∧ gr_F G x y) (fun x y hx hF => ⟨x, ?_, hF⟩)
    rcases hx with z | z | ⟨w, hw, hF'⟩
    · exact (I.2.2.2.2.1 x (Or.inl z)).resolve_left (h0 x)
    · exact (I.2.2.2.2.1 x (Or.inr ⟨(dt_FM hF).1, z⟩)).resolve_left (h0 x)
    · exact (I.2.2.2.2.2 w x hw hF').resolve_left (h0 x)
theorem mg_step (I : mg_I G v todo done) (hx : x < 16) (hb : bt todo x = true) (h16 : fb_16 fr) (hfr : ∀ y, y < 16 → (bt fr y = true ↔ gr_F G x y)) (ok : gr_ok G) : mg_I G v ((todo ||| fr) &&& ((done ||| ((1 : Int32) <<< (nI x &&& 31))) ^^^ (-1))) (done ||| ((1 : Int32) <<< (nI x &&& 31))) := by
  obtain ⟨h1, h2, h3, h4, h5, h6⟩ := I
  have hn16 := ok.1
  have ed : ∀ p, p < 32 → bt (done ||| ((1 : Int32) <<< (nI x &&& 31))) p = (bt done p || decide (p = x)) := fun p hp => fb_or1 _ (by omega) hp
  have et : ∀ p, p < 32 → bt ((todo ||| fr) &&& ((done ||| ((1 : Int32) <<< (nI x &&& 31))) ^^^ (-1))) p = ((bt todo p || bt fr p) && !(bt done p || decide (p = x))) := fun p hp => by rw [fb_nots _ _ hp, b_or, ed p hp]
  have d16 : fb_16 (done ||| ((1 : Int32) <<< (nI x &&& 31))) := by
    intro p hp
    rcases Nat.lt_or_ge p 32 with z | z
    · rw [ed p z, h2 p hp, decide_eq_false (by omega)]; rfl
    · exact b_big z
  have t16 : fb_16 ((todo ||| fr) &&& ((done ||| ((1 : Int32) <<< (nI x &&& 31))) ^^^ (-1))) := by
    intro p hp
    rcases Nat.lt_or_ge p 32 with z | z
    · rw [et p z, h1 p hp, h16 p hp]; rfl
    · exact b_big z
  -- the union of both
  have un : ∀ p, p < 32 → ((bt ((todo ||| fr) &&& ((done ||| ((1 : Int32) <<< (nI x &&& 31))) ^^^ (-1))) p = true ∨ bt (done ||| ((1 : Int32) <<< (nI x &&& 31))) p = true) ↔ (bt todo p = true ∨ bt done p = true ∨ bt fr p = true)) := by
    intro p hp
    rw [et p hp, ed p hp]
    by_cases c : p = x
    · subst c
      rw [hb]
      simp
    · rw [decide_eq_false c]
      cases bt todo p <;> cases bt done p <;> cases bt fr p <;> simp
  have lt : ∀ p, (bt ((todo ||| fr) &&& ((done ||| ((1 : Int32) <<< (nI x &&& 31))) ^^^ (-1))) p = true ∨ bt (done ||| ((1 : Int32) <<< (nI x &&& 31))) p = true) → p < 16 := fun p z => z.elim (fb_lt16 t16) (fb_lt16 d16)
  refine ⟨t16, d16, fun p hp => ?_, fun p hp => ?_, fun p hp => ?_, fun p y hp hF => ?_⟩
  · have hp16 := fb_lt16 t16 hp
    rw [et p (by omega)] at hp
    rw [ed p (by omega)]
    cases z : (bt done p || decide (p = x)) with
    | false => rfl
    | true => rw [z] at hp; simp at hp
  · have hp16 := lt p hp
    rcases (un p (by omega)).mp hp with z | z | z
    · exact h4 p (Or.inl z)
    · exact h4 p (Or.inr z)
    · refine Or.inr ?_
      have hF := (hfr p hp16).mp z
      rcases h4 x (Or.inl hb) with (w | w) | w
      · exact gr_Js (Or.inl w) hF
      · exact gr_Js (Or.inr (Or.inl w.2)) hF
      · exact gr_Js (Or.inr (Or.inr w)) hF
  · have hp16 : p < 16 := (h5 p hp).elim (fb_lt16 h1) (fb_lt16 h2)
    exact (un p (by omega)).mpr ((h5 p hp).elim Or.inl (fun z => Or.inr (Or.inl z)))
  · have hp16 := fb_lt16 d16 hp
    have hy := gr_Mlt ok (dt_FM hF).2
    refine (un y (by omega)).mpr ?_
    rw [ed p (by omega)] at hp
    by_cases c : p = x
    · rw [c] at hF
      exact Or.inr (Or.inr ((hfr y (by omega)).mpr hF))
    · rw [decide_eq_false c, Bool.or_false] at hp
      exact (h6 p y hp hF).elim Or.inl (fun z => Or.inr (Or.inl z))
noncomputable def mg_mu (done : Int32) : Nat := sg_s (fun i => b01 (bt done i = false)) 16
theorem mg_mus (hx : x < 16) (hb : bt done x = false) : mg_mu (done ||| ((1 : Int32) <<< (nI x &&& 31))) < mg_mu done := by
  have h1 := sg_up (f := fun i => b01 (bt (done ||| ((1 : Int32) <<< (nI x &&& 31))) i = false)) (g := fun i => b01 (bt done i = false)) hx (fun i hi hne => by
    show b01 (bt (done ||| ((1 : Int32) <<< (nI x &&& 31))) i = false) = _
    rw [fb_or1 _ (by omega) (by omega), decide_eq_false hne, Bool.or_false])
  have h2 : b01 (bt (done ||| ((1 : Int32) <<< (nI x &&& 31))) x = false) = 0 := b01_f (by rw [fb_or1 _ (by omega) (by omega), decide_eq_true rfl, Bool.or_true]; decide)
  have h3 : b01 (bt done x = false) = 1 := b01_t hb
  simp only [h2, h3] at h1
  unfold mg_mu
  omega
theorem mg_mub : mg_mu done ≤ 1 * 16 := sg_b (fun i _ => b01_1 _)
end
section
variable {f_blocks f_given f_known f_met f_openEdges f_openBlocks f_first f_last f_openCount f_firstEdge f_lastEdge f_result f_begun f_latest f_inputs : Int32} {a_op a_d a_b a_many a_kind a_asks a_target a_a a_order a_place a_parent a_depths a_living a_needs a_merging a_stack a_next a_before a_frontiers a_in a_out a_nameA a_nameB a_queue a_state a_worth a_usedByExit a_edges a_now : Nat → Int32} {a_usedBySet a_usedByLow a_usedByHigh : Nat → Int64}
variable {G : gr_T} {m : Nat} {ord pl : Nat → Nat} {P : Nat → Option Nat} {post : SX → Prop} {J23 : Int32 → (Nat → Int32) → (Nat → Int32) → (Nat → Int32) → (Nat → Int32) → (Nat → Int32) → (Nat → Int32) → (Nat → Int32) → (Nat → Int32) → (Nat → Int32) → (Nat → Int32) → (Nat → Int32) → (Nat → Int32) → (Nat → Int32) → (Nat → Int32) → (Nat → Int32) → (Nat → Int32) → (Nat → Int32) → (Nat → Int32) → (Nat → Int32) → (Nat → Int32) → (Nat → Int32) → (Nat → Int32) → (Nat → Int32) → (Nat → Int32) → (Nat → Int32) → (Nat → Int32) → (Nat → Int32) → (Nat → Int64) → (Nat → Int64) → (Nat → Int64) → (Nat → Int32) → (Nat → Int32) → Prop} {v : Nat}
theorem xg_140 {J107 : Int32 → Int32 → (Nat → Int32) → (Nat → Int32) → (Nat → Int32) → (Nat → Int32) → (Nat → Int32) → (Nat → Int32) → (Nat → Int32) → (Nat → Int32) → (Nat → Int32) → (Nat → Int32) → (Nat → Int32) → (Nat → Int32) → (Nat → Int32) → (Nat → Int32) → (Nat → Int32) → (Nat → Int32) → (Nat → Int32) → (Nat → Int32) → (Nat → Int32) → (Nat → Int32) → (Nat → Int32) → (Nat → Int32) → (Nat → Int32) → (Nat → Int32) → (Nat → Int32) → (Nat → Int32) → (Nat → Int32) → (Nat → Int64) → (Nat → Int64) → (Nat → Int64) → (Nat → Int32) → (Nat → Int32) → Prop} {todo done fr : Int32} (hv : v < 6) (Mg : Nat → Nat → Prop) (hMg : ∀ y j, Mg y j → j < 6)
    (K : ∀ a_merging : Nat → Int32, (∀ y j, y < 16 → (bt (a_merging y) j = true ↔ (Mg y j ∨ (j = v ∧ bt fr y = true)))) → J107 ((todo ||| fr) &&& (done ^^^ (-1))) done a_op a_d a_b a_many a_kind a_asks a_target a_a a_order a_place a_parent a_depths a_living a_needs a_merging a_stack a_next a_before a_frontiers a_in a_out a_nameA a_nameB a_queue a_state a_worth a_usedByExit a_usedBySet a_usedByLow a_usedByHigh a_edges a_now) :
    ∀ n (s : Int32) (a_merging : Nat → Int32), s.toBitVec.toNat < n → fb_16 s → (∀ y, bt s y = true → bt fr y = true) → (∀ y j, y < 16 → (bt (a_merging y) j = true ↔ (Mg y j ∨ (j = v ∧ bt fr y = true ∧ bt s y = false)))) → wX_findMerges_140 post J23 J107 (nI v) todo done fr f_blocks f_given f_known f_met f_openEdges f_openBlocks f_first f_last f_openCount f_firstEdge f_lastEdge f_result f_begun f_latest f_inputs n s a_op a_d a_b a_many a_kind a_asks a_target a_a a_order a_place a_parent a_depths a_living a_needs a_merging a_stack a_next a_before a_frontiers a_in a_out a_nameA a_nameB a_queue a_state a_worth a_usedByExit a_usedBySet a_usedByLow a_usedByHigh a_edges a_now := by
  intro n
  induction n with
  | zero => intro s a_merging h; omega
  | succ n ih =>
    intro s a_merging hmu h16 hs hA
    rw [wX_findMerges_140]
    by_cases hs0 : s = 0
    · refine br_t hs0 (nm_e (K a_merging (fun y j hy => (hA y j hy).trans ?_)))
      rw [hs0, b_0]
      exact ⟨fun z => z.elim Or.inl (fun w => Or.inr ⟨w.1, w.2.1⟩), fun z => z.elim Or.inl (fun w => Or.inr ⟨w.1, w.2, rfl⟩)⟩
    · refine br_f hs0 ?_
      obtain ⟨p, hp16, hbp, hcl, hlt, h16', hlo⟩ := fb_step hs0 h16
      refine hlo _ ?_
      have cp : (nI p).toNatClampNeg = p := fn_c (by omega)
      have ip : vp_in (nI p) 16 := vp_in_nI hp16 (by omega)
      have e8 : (a_merging p ||| ((1 : Int32) <<< (nI v &&& 31))).toInt8.toInt32 = a_merging p ||| ((1 : Int32) <<< (nI v &&& 31)) := by
        apply fb_id8
        intro j h1 h2
        rw [fb_or1 _ (by omega) h2, decide_eq_false (by omega), Bool.or_false]
        cases z : bt (a_merging p) j with
        | false => rfl
        | true =>
          rcases (hA p j hp16).mp z with w | w
          · have := hMg p j w; omega
          · omega
      rw [cp, pk_vb, e8]
      refine ⟨ip, ip, nm_e (nm_e (ih _ _ (by omega) h16' (fun y hy => ?_) (fun y j hy => ?_)))⟩
      · rw [hcl y] at hy
        refine hs y ?_
        cases z : bt s y with
        | true => rfl
        | false => rw [z, Bool.false_and] at hy; exact absurd hy (by decide)
      · rw [hcl y]
        by_cases c : y = p
        · subst c
          rw [pk_us, decide_eq_true rfl, Bool.not_true, Bool.and_false]
          rcases Nat.lt_or_ge j 32 with z | z
          · rw [fb_or1 _ (by omega) z, Bool.or_eq_true, hA y j hy, decide_eq_true_iff, hbp]
            constructor
            · rintro ((w | w) | w)
              · exact Or.inl w
              · exact absurd w.2.2 (by decide)
              · exact Or.inr ⟨w, hs y hbp, rfl⟩
            · rintro (w | w)
              · exact Or.inl (Or.inl w)
              · exact Or.inr w.1
          · rw [b_big z]
            refine ⟨fun w => absurd w (by decide), fun w => ?_⟩
            rcases w with w | w
            · have := hMg y j w; omega
            · omega
        · rw [pk_un c, decide_eq_false c, Bool.not_false, Bool.and_true]
          exact hA y j hy
theorem xg_107 (ok : gr_ok G) (hF : ∀ u y, u < 16 → y < 16 → (bt (a_frontiers u) y = true ↔ gr_F G u y)) (hv : v < 6) (Mg : Nat → Nat → Prop) (hMg : ∀ y j, Mg y j → j < 6)
    (K : ∀ a_merging : Nat → Int32, (∀ y j, y < 16 → (bt (a_merging y) j = true ↔ (Mg y j ∨ (j = v ∧ gr_J G v y)))) → J23 (nI (v + 1)) a_op a_d a_b a_many a_kind a_asks a_target a_a a_order a_place a_parent a_depths a_living a_needs a_merging a_stack a_next a_before a_frontiers a_in a_out a_nameA a_nameB a_queue a_state a_worth a_usedByExit a_usedBySet a_usedByLow a_usedByHigh a_edges a_now) :
    ∀ n (todo done : Int32) (a_merging : Nat → Int32), mg_mu done < n → mg_I G v todo done → (∀ y j, y < 16 → (bt (a_merging y) j = true ↔ (Mg y j ∨ (j = v ∧ ∃ x, bt done x = true ∧ gr_F G x y)))) → wX_findMerges_107 post J23 (nI v) f_blocks f_given f_known f_met f_openEdges f_openBlocks f_first f_last f_openCount f_firstEdge f_lastEdge f_result f_begun f_latest f_inputs n todo done a_op a_d a_b a_many a_kind a_asks a_target a_a a_order a_place a_parent a_depths a_living a_needs a_merging a_stack a_next a_before a_frontiers a_in a_out a_nameA a_nameB a_queue a_state a_worth a_usedByExit a_usedBySet a_usedByLow a_usedByHigh a_edges a_now := by
  have hn16 := ok.1
  intro n
  induction n with
  | zero => intro todo done a_merging h; omega
  | succ n ih =>
    intro todo done a_merging hmu I hA
    rw [wX_findMerges_107]
    by_cases h0 : todo = 0
    · subst h0
      exact br_t rfl (nm_r (nI_1 v) (K a_merging (fun y j hy => by rw [hA y j hy, mg_end I y])))
    · refine br_f h0 ?_
      obtain ⟨x, hx, hbx, _, _, _, hlo⟩ := fb_step h0 I.1
      refine hlo _ ?_
      have c : (nI x).toNatClampNeg = x := fn_c (by omega)
      have hm := mg_mus hx (I.2.2.1 x hbx)
      have hfr : ∀ y, y < 16 → (bt (a_frontiers x &&& 65535) y = true ↔ gr_F G x y) := by
        intro y hy
        rw [fb_m16, decide_eq_true hy, Bool.and_true]
        exact hF x y hx hy
      rw [c]
      refine nm_e ⟨vp_in_nI hx (by omega), nm_e ⟨_, xg_140 hv (fun y j => Mg y j ∨ (j = v ∧ ∃ x, bt done x = true ∧ gr_F G x y)) (fun y j z => z.elim (hMg y j) (fun w => by omega)) (fun a_merging hA' => ih _ _ a_merging (by omega) (mg_step I hx hbx (fb_16m _) hfr ok) (fun y j hy => (hA' y j hy).trans ?_)) _ (a_frontiers x &&& 65535) a_merging (Nat.lt_succ_self _) (fb_16m _) (fun y hy => hy) (fun y j hy => (hA y j hy).trans ?_)⟩⟩
      · constructor
        · rintro ((z | ⟨z, w, hw, hFw⟩) | ⟨z, hb⟩)
          · exact Or.inl z
          · refine Or.inr ⟨z, w, ?_, hFw⟩
            have := fb_lt16 I.2.1 hw
            rw [fb_or1 _ (by omega) (by omega), hw, Bool.true_or]
          · refine Or.inr ⟨z, x, ?_, (hfr y hy).mp hb⟩
            rw [fb_or1 _ (by omega) (by omega), decide_eq_true rfl, Bool.or_true]
        · rintro (z | ⟨z, w, hw, hFw⟩)
          · exact Or.inl (Or.inl z)
          · have hwn := gr_Mlt ok (dt_FM hFw).1
            rw [fb_or1 _ (by omega) (by omega)] at hw
            by_cases cw : w = x
            · rw [cw] at hFw
              exact Or.inr ⟨z, (hfr y hy).mpr hFw⟩
            · rw [decide_eq_false cw, Bool.or_false] at hw
              exact Or.inl (Or.inr ⟨z, w, hw, hFw⟩)
      · exact ⟨Or.inl, fun z => z.elim id (fun w => by rw [w.2.1] at w; exact absurd w.2.2 (by decide))⟩
theorem xg_60 {J36 : Int32 → Int32 → Prop} {x3 : Int32} {k x : Nat} (X : xp_ok G f_blocks f_given a_op a_d a_b a_many a_kind a_asks a_target a_a) (hx : x < gr_n G) (hv : v < 6) (T : Nat → Prop)
    (K : ∀ todo : Int32, fb_16 todo → (∀ y, bt todo y = true ↔ (T y ∨ (y = x ∧ gr_st G x v))) → J36 todo (nI (k + 1))) :
    ∀ n i (todo : Int32), gr_mn G x < n + i → i ≤ gr_mn G x → fb_16 todo → (∀ y, bt todo y = true ↔ (T y ∨ (y = x ∧ ∃ j, j < i ∧ gr_dd G (4 * x + j) = v))) → wX_findMerges_60 post J23 J36 (nI v) x3 (nI k) (nI x) f_blocks f_given f_known f_met f_openEdges f_openBlocks f_first f_last f_openCount f_firstEdge f_lastEdge f_result f_begun f_latest f_inputs a_op a_d a_b a_many a_kind a_asks a_target a_a a_order a_place a_parent a_depths a_living a_needs a_merging a_stack a_next a_before a_frontiers a_in a_out a_nameA a_nameB a_queue a_state a_worth a_usedByExit a_usedBySet a_usedByLow a_usedByHigh a_edges a_now n todo (nI (4 * x + i)) := by
  have ok := X.1
  have hn16 := ok.1
  have h4 := (ok.2.2 x hx).1
  have cx : (nI x).toNatClampNeg = x := fn_c (by omega)
  have ix : vp_in (nI x) 16 := vp_in_nI (by omega) (by omega)
  intro n
  induction n with
  | zero => intro i todo h1 h2; omega
  | succ n ih =>
    intro i todo h1 h2 h16 hT
    rw [wX_findMerges_60]
    dsimp only
    rw [cx, X.2.2.2.1 x hx, fn_42]
    refine ⟨ix, pk_le (4 * x + gr_mn G x) (4 * x + i) (fun h => ?_) (fun h => ?_)⟩
    · have e : i = gr_mn G x := by omega
      subst e
      exact nm_r (nI_1 k) (K todo h16 hT)
    · have ci : (nI (4 * x + i)).toNatClampNeg = 4 * x + i := fn_c (by omega)
      have hI := (ok.2.2 x hx).2.2.2.2 i (by omega)
      have hd := hI.2.1
      rw [ci, (X.2.2.2.2.2.2.2 x i hx (by omega)).2.1]
      refine ⟨vp_in_nI (by omega) (by omega), pk_eq (gr_dd G (4 * x + i)) v (fun e => nm_e (nm_r (nI_1 _) ?_)) (fun e => nm_r (nI_1 _) ?_)⟩
      · refine ih (i + 1) _ (by omega) (by omega) (fun p hp => ?_) (fun y => ?_)
        · rcases Nat.lt_or_ge p 32 with z | z
          · rw [fb_or1 _ (by omega) z, h16 p hp, decide_eq_false (by omega)]; rfl
          · exact b_big z
        · rcases Nat.lt_or_ge y 32 with z | z
          · rw [fb_or1 _ (by omega) z, Bool.or_eq_true, hT y, decide_eq_true_iff]
            constructor
            · rintro ((w | ⟨w, j, hj, ej⟩) | w)
              · exact Or.inl w
              · exact Or.inr ⟨w, j, by omega, ej⟩
              · exact Or.inr ⟨w, i, by omega, e⟩
            · rintro (w | ⟨w, _⟩)
              · exact Or.inl (Or.inl w)
              · exact Or.inr w
          · rw [b_big z]
            refine ⟨fun w => absurd w (by decide), fun w => ?_⟩
            rcases w with w | w
            · have := (hT y).mpr (Or.inl w)
              rw [b_big z] at this
              exact this
            · omega
      · refine ih (i + 1) _ (by omega) (by omega) h16 (fun y => (hT y).trans ?_)
        constructor
        · rintro (w | ⟨w, j, hj, ej⟩)
          · exact Or.inl w
          · exact Or.inr ⟨w, j, by omega, ej⟩
        · rintro (w | ⟨w, j, hj, ej⟩)
          · exact Or.inl w
          · refine Or.inr ⟨w, j, ?_, ej⟩
            by_cases c : j = i
            · rw [c] at ej; exact absurd ej e
            · omega
theorem xg_36 (X : xp_ok G f_blocks f_given a_op a_d a_b a_many a_kind a_asks a_target a_a) (hX : xa_ok G m ord pl a_order a_place a_before) (hv : v < 6)
    (K : ∀ todo : Int32, fb_16 todo → (∀ y, bt todo y = true ↔ mg_T G v y) → ∃ n107 : Nat, wX_findMerges_107 post J23 (nI v) f_blocks f_given f_known (nI m) f_openEdges f_openBlocks f_first f_last f_openCount f_firstEdge f_lastEdge f_result f_begun f_latest f_inputs n107 todo 0 a_op a_d a_b a_many a_kind a_asks a_target a_a a_order a_place a_parent a_depths a_living a_needs a_merging a_stack a_next a_before a_frontiers a_in a_out a_nameA a_nameB a_queue a_state a_worth a_usedByExit a_usedBySet a_usedByLow a_usedByHigh a_edges a_now) :
    ∀ n k (todo : Int32), m < n + k → k ≤ m → fb_16 todo → (∀ y, bt todo y = true ↔ (y = 0 ∨ (gr_M G y ∧ pl y < k ∧ gr_st G y v))) → wX_findMerges_36 post J23 (nI v) 0 f_blocks f_given f_known (nI m) f_openEdges f_openBlocks f_first f_last f_openCount f_firstEdge f_lastEdge f_result f_begun f_latest f_inputs a_op a_d a_b a_many a_kind a_asks a_target a_a a_order a_place a_parent a_depths a_living a_needs a_merging a_stack a_next a_before a_frontiers a_in a_out a_nameA a_nameB a_queue a_state a_worth a_usedByExit a_usedBySet a_usedByLow a_usedByHigh a_edges a_now n todo (nI k) := by
  have ok := X.1
  have hn16 := ok.1
  have O := hX.1
  have hmn := O.1
  intro n
  induction n with
  | zero => intro k todo h1 h2; omega
  | succ n ih =>
    intro k todo h1 hk h16 hT
    rw [wX_findMerges_36]
    refine pk_le m k (fun h => ?_) (fun h => ?_)
    · refine K todo h16 (fun y => (hT y).trans ?_)
      constructor
      · rintro (z | z)
        · exact Or.inl z
        · exact Or.inr ⟨z.1, z.2.2⟩
      · rintro (z | z)
        · exact Or.inl z
        · have := (or_M O ok z.1).1
          exact Or.inr ⟨z.1, by omega, z.2⟩
    · have hxn := (O.2.2.1 k h).1
      have hpk := (O.2.2.1 k h).2
      have hMx := or_m O k h
      have c1 : (nI k).toNatClampNeg = k := fn_c (by omega)
      rw [c1]
      refine ⟨vp_in_nI (by omega) (by omega), nm_r (e' := nI (ord k)) (hX.2.1 k h) (nm_r (e' := nI (4 * ord k + 0)) (by rw [fn_4]; rfl) ⟨5, ?_⟩)⟩
      have h4 := (ok.2.2 _ hxn).1
      refine xg_60 X hxn hv (fun y => y = 0 ∨ (gr_M G y ∧ pl y < k ∧ gr_st G y v)) (fun todo h16 hT' => ih (k + 1) todo (by omega) (by omega) h16 (fun y => (hT' y).trans ?_)) 5 0 todo (by omega) (by omega) h16 (fun y => (hT y).trans ⟨Or.inl, fun z => z.elim id (fun ⟨_, j, hj, _⟩ => by omega)⟩)
      constructor
      · rintro ((z | z) | z)
        · exact Or.inl z
        · exact Or.inr ⟨z.1, by omega, z.2.2⟩
        · rw [z.1]; exact Or.inr ⟨hMx, by omega, z.2⟩
      · rintro (z | z)
        · exact Or.inl (Or.inl z)
        · by_cases c : pl y = k
          · have := (or_M O ok z.1).2
            rw [c] at this
            rw [this]
            exact Or.inr ⟨rfl, z.2.2⟩
          · exact Or.inl (Or.inr ⟨z.1, by omega, z.2.2⟩)
theorem xg_23 (X : xp_ok G f_blocks f_given a_op a_d a_b a_many a_kind a_asks a_target a_a) (hX : xa_ok G m ord pl a_order a_place a_before) (hF : ∀ u y, u < 16 → y < 16 → (bt (a_frontiers u) y = true ↔ gr_F G u y))
    (K : ∀ a_merging : Nat → Int32, (∀ y j, y < 16 → (bt (a_merging y) j = true ↔ (j < 6 ∧ gr_J G j y))) → post (f_blocks, f_given, f_known, nI m, f_openEdges, f_openBlocks, f_first, f_last, f_openCount, f_firstEdge, f_lastEdge, f_result, f_begun, f_latest, f_inputs, a_op, a_d, a_b, a_many, a_kind, a_asks, a_target, a_a, a_order, a_place, a_parent, a_depths, a_living, a_needs, a_merging, a_stack, a_next, a_before, a_frontiers, a_in, a_out, a_nameA, a_nameB, a_queue, a_state, a_worth, a_usedByExit, a_usedBySet, a_usedByLow, a_usedByHigh, a_edges, a_now)) :
    ∀ n v (a_merging : Nat → Int32), 6 < n + v → v ≤ 6 → (∀ y j, y < 16 → (bt (a_merging y) j = true ↔ (j < v ∧ gr_J G j y))) → wX_findMerges_23 post f_blocks f_given f_known (nI m) f_openEdges f_openBlocks f_first f_last f_openCount f_firstEdge f_lastEdge f_result f_begun f_latest f_inputs n (nI v) a_op a_d a_b a_many a_kind a_asks a_target a_a a_order a_place a_parent a_depths a_living a_needs a_merging a_stack a_next a_before a_frontiers a_in a_out a_nameA a_nameB a_queue a_state a_worth a_usedByExit a_usedBySet a_usedByLow a_usedByHigh a_edges a_now := by
  have ok := X.1
  intro n
  induction n with
  | zero => intro v a_merging h1 h2; omega
  | succ n ih =>
    intro v a_merging h1 hv hA
    rw [wX_findMerges_23]
    refine pk_le 6 v (fun h => ?_) (fun h => ?_)
    · have e : v = 6 := by omega
      subst e
      exact K a_merging hA
    · refine ⟨m + 1, xg_36 X hX h (fun todo h16 hT => ⟨17, ?_⟩) (m + 1) 0 1 (by omega) (by omega) fb_161 (fun y => ?_)⟩
      · refine xg_107 ok hF h (fun y j => j < v ∧ gr_J G j y) (fun y j z => by omega) (fun a_merging hA' => ih (v + 1) a_merging (by omega) (by omega) (fun y j hy => (hA' y j hy).trans ?_)) 17 todo 0 a_merging (Nat.lt_succ_of_le (mg_mub)) ⟨h16, fb_160, fun x _ => b_0 x, fun x hx => ?_, fun x hx => Or.inl ((hT x).mpr hx), fun x y hx => ?_⟩ (fun y j hy => (hA y j hy).trans ⟨Or.inl, fun z => z.elim id (fun ⟨_, x, hx, _⟩ => ?_)⟩)
        · constructor
          · rintro (z | z)
            · exact ⟨by omega, z.2⟩
            · rw [z.1]; exact ⟨by omega, z.2⟩
          · rintro ⟨z1, z2⟩
            by_cases c : j = v
            · exact Or.inr ⟨c, by rw [← c]; exact z2⟩
            · exact Or.inl ⟨by omega, z2⟩
        · rcases hx with z | z
          · exact Or.inl ((hT x).mp z)
          · rw [b_0] at z; exact absurd z (by decide)
        · rw [b_0] at hx; exact absurd hx (by decide)
        · rw [b_0] at hx; exact absurd hx (by decide)
      · have e1 : bt 1 y = true ↔ y = 0 := by
          rcases Nat.lt_or_ge y 32 with z | z
          · exact (by decide +kernel : ∀ y, y < 32 → (bt 1 y = true ↔ y = 0)) y z
          · rw [b_big z]
            exact ⟨fun w => absurd w (by decide), fun w => by omega⟩
        rw [e1]
        exact ⟨Or.inl, fun z => z.elim id (fun w => by omega)⟩
theorem xg_2 (K : ∃ n23 : Nat, wX_findMerges_23 post f_blocks f_given f_known f_met f_openEdges f_openBlocks f_first f_last f_openCount f_firstEdge f_lastEdge f_result f_begun f_latest f_inputs n23 0 a_op a_d a_b a_many a_kind a_asks a_target a_a a_order a_place a_parent a_depths a_living a_needs (cl_ 0 16 a_merging) a_stack a_next a_before a_frontiers a_in a_out a_nameA a_nameB a_queue a_state a_worth a_usedByExit a_usedBySet a_usedByLow a_usedByHigh a_edges a_now) :
    ∀ n i, 16 < n + i → i ≤ 16 → wX_findMerges_2 post f_blocks f_given f_known f_met f_openEdges f_openBlocks f_first f_last f_openCount f_firstEdge f_lastEdge f_result f_begun f_latest f_inputs n (nI i) a_op a_d a_b a_many a_kind a_asks a_target a_a a_order a_place a_parent a_depths a_living a_needs (cl_ 0 i a_merging) a_stack a_next a_before a_frontiers a_in a_out a_nameA a_nameB a_queue a_state a_worth a_usedByExit a_usedBySet a_usedByLow a_usedByHigh a_edges a_now := by
  intro n
  induction n with
  | zero => intro i h1 h2; omega
  | succ n ih =>
    intro i h1 h2
    rw [wX_findMerges_2]
    refine pk_le 16 i (fun h => ?_) (fun h => ?_)
    · have e : i = 16 := by omega
      subst e
      exact K
    · have c : (nI i).toNatClampNeg = i := fn_c (by omega)
      rw [c, fb_vb0]
      exact ⟨vp_in_nI (by omega) (by omega), nm_r cl_s (nm_r (nI_1 i) (ih (i + 1) (by omega) (by omega)))⟩
theorem xg_findMerges (X : xp_ok G f_blocks f_given a_op a_d a_b a_many a_kind a_asks a_target a_a) (hX : xa_ok G m ord pl a_order a_place a_before) (hF : ∀ u y, u < 16 → y < 16 → (bt (a_frontiers u) y = true ↔ gr_F G u y))
    (K : ∀ a_merging : Nat → Int32, (∀ y j, y < 16 → (bt (a_merging y) j = true ↔ (j < 6 ∧ gr_J G j y))) → post (f_blocks, f_given, f_known, nI m, f_openEdges, f_openBlocks, f_first, f_last, f_openCount, f_firstEdge, f_lastEdge, f_result, f_begun, f_latest, f_inputs, a_op, a_d, a_b, a_many, a_kind, a_asks, a_target, a_a, a_order, a_place, a_parent, a_depths, a_living, a_needs, a_merging, a_stack, a_next, a_before, a_frontiers, a_in, a_out, a_nameA, a_nameB, a_queue, a_state, a_worth, a_usedByExit, a_usedBySet, a_usedByLow, a_usedByHigh, a_edges, a_now)) : wpX_findMerges post (f_blocks, f_given, f_known, nI m, f_openEdges, f_openBlocks, f_first, f_last, f_openCount, f_firstEdge, f_lastEdge, f_result, f_begun, f_latest, f_inputs, a_op, a_d, a_b, a_many, a_kind, a_asks, a_target, a_a, a_order, a_place, a_parent, a_depths, a_living, a_needs, a_merging, a_stack, a_next, a_before, a_frontiers, a_in, a_out, a_nameA, a_nameB, a_queue, a_state, a_worth, a_usedByExit, a_usedBySet, a_usedByLow, a_usedByHigh, a_edges, a_now) := by
  show ∃ n2 : Nat, wX_findMerges_2 post f_blocks f_given f_known (nI m) f_openEdges f_openBlocks f_first f_last f_openCount f_firstEdge f_lastEdge f_result f_begun f_latest f_inputs n2 0 a_op a_d a_b a_many a_kind a_asks a_target a_a a_order a_place a_parent a_depths a_living a_needs a_merging a_stack a_next a_before a_frontiers a_in a_out a_nameA a_nameB a_queue a_state a_worth a_usedByExit a_usedBySet a_usedByLow a_usedByHigh a_edges a_now
  have e0 := xg_2 (post := post) (f_blocks := f_blocks) (f_given := f_given) (f_known := f_known) (f_met := (nI m)) (f_openEdges := f_openEdges) (f_openBlocks := f_openBlocks) (f_first := f_first) (f_last := f_last) (f_openCount := f_openCount) (f_firstEdge := f_firstEdge) (f_lastEdge := f_lastEdge) (f_result := f_result) (f_begun := f_begun) (f_latest := f_latest) (f_inputs := f_inputs) (a_op := a_op) (a_d := a_d) (a_b := a_b) (a_many := a_many) (a_kind := a_kind) (a_asks := a_asks) (a_target := a_target) (a_a := a_a) (a_order := a_order) (a_place := a_place) (a_parent := a_parent) (a_depths := a_depths) (a_living := a_living) (a_needs := a_needs) (a_merging := a_merging) (a_stack := a_stack) (a_next := a_next) (a_before := a_before) (a_frontiers := a_frontiers) (a_in := a_in) (a_out := a_out) (a_nameA := a_nameA) (a_nameB := a_nameB) (a_queue := a_queue) (a_state := a_state) (a_worth := a_worth) (a_usedByExit := a_usedByExit) (a_usedBySet := a_usedBySet) (a_usedByLow := a_usedByLow) (a_usedByHigh := a_usedByHigh) (a_edges := a_edges) (a_now := a_now) ⟨7, xg_23 X hX hF K 7 0 (cl_ 0 16 a_merging) (by omega) (by omega) (fun y j hy => by rw [cl_l hy, b_0]; exact ⟨fun z => absurd z (by decide), fun z => by omega⟩)⟩ 17 0 (by omega) (by omega)
  rw [cl_0] at e0
  exact ⟨17, e0⟩
end
end
section
/-! names exist -/
theorem nb_cg {G : gr_T} {ni ni' : Nat → Nat → Nat} {x : Nat} (h : ∀ v, ni x v = ni' x v) : ∀ i v, nb_ G ni x i v = nb_ G ni' x i v := by
  intro i
  induction i with
  | zero => intro v; exact h v
  | succ i ih =>
    intro v
    show (if v = gr_dd G (4 * x + i) then 6 + (4 * x + i) else nb_ G ni x i v) = (if v = gr_dd G (4 * x + i) then 6 + (4 * x + i) else nb_ G ni' x i v)
    rw [ih v]
section
variable {G : gr_T} {m : Nat} {ord pl : Nat → Nat} {P : Nat → Option Nat}
noncomputable def ni_x (G : gr_T) (pl : Nat → Nat) (P : Nat → Option Nat) (k : Nat) (ni : Nat → Nat → Nat) (x v : Nat) : Nat :=
  @ite Nat (pl x = k ∧ x ≠ 0) (Classical.propDecidable _) (@ite Nat (gr_J G v x) (Classical.propDecidable _) (70 + (6 * x + v)) (match P x with | some q => ne_ G ni q v | none => 0)) (ni x v)
theorem ni_x1 {k : Nat} {ni : Nat → Nat → Nat} {x v : Nat} (h : ¬ (pl x = k ∧ x ≠ 0)) : ni_x G pl P k ni x v = ni x v := if_neg h
theorem ni_x2 {k : Nat} {ni : Nat → Nat → Nat} {x v : Nat} (h : pl x = k ∧ x ≠ 0) (hJ : gr_J G v x) : ni_x G pl P k ni x v = 70 + (6 * x + v) := (if_pos h).trans (if_pos hJ)
theorem ni_x3 {k : Nat} {ni : Nat → Nat → Nat} {x v q : Nat} (h : pl x = k ∧ x ≠ 0) (hJ : ¬ gr_J G v x) (hq : P x = some q) : ni_x G pl P k ni x v = ne_ G ni q v := by
  refine (if_pos h).trans ((if_neg hJ).trans ?_)
  rw [hq]
theorem nm_ex (T : dt_ok G m ord pl P) : ∀ k, ∃ ni : Nat → Nat → Nat, (∀ v, v < 6 → ni 0 v = v) ∧ ∀ x, gr_M G x → x ≠ 0 → pl x < k → ∀ v, v < 6 → (gr_J G v x → ni x v = 70 + (6 * x + v)) ∧ (¬ gr_J G v x → ∀ q, P x = some q → ni x v = ne_ G ni q v) := by
  intro k
  induction k with
  | zero => exact ⟨fun _ v => v, fun _ _ => rfl, fun x _ _ h => by omega⟩
  | succ k ih =>
    obtain ⟨ni, h0, h1⟩ := ih
    refine ⟨ni_x G pl P k ni, fun v hv => ?_, fun x hx hx0 hl v hv => ?_⟩
    · rw [ni_x1 (fun z => z.2 rfl)]
      exact h0 v hv
    · have hq' : ∀ q, P x = some q → ne_ G (ni_x G pl P k ni) q v = ne_ G ni q v := by
        intro q hq
        have := (T.2.1.2 x q hq).2.2.1
        exact nb_cg (fun w => ni_x1 (fun z => by omega)) _ v
      by_cases c : pl x = k
      · refine ⟨fun hJ => ni_x2 ⟨c, hx0⟩ hJ, fun hJ q hq => ?_⟩
        rw [hq' q hq]
        exact ni_x3 ⟨c, hx0⟩ hJ hq
      · rw [ni_x1 (fun z => c z.1)]
        refine ⟨(h1 x hx hx0 (by omega) v hv).1, fun hJ q hq => ?_⟩
        rw [hq' q hq]
        exact (h1 x hx hx0 (by omega) v hv).2 hJ q hq
theorem nm_exm (T : dt_ok G m ord pl P) (ok : gr_ok G) : ∃ ni : Nat → Nat → Nat, nm_ok G P ni ∧ ∀ x, gr_M G x → ∀ v, v < 6 → ni x v < 166 := by
  obtain ⟨ni, h0, h1⟩ := nm_ex T m
  refine ⟨ni, ⟨h0, fun x hx hx0 v hv => h1 x hx hx0 (or_M T.1 ok hx).1 v hv⟩, ?_⟩
  have hn16 := ok.1
  have key : ∀ k x, pl x = k → gr_M G x → ∀ v, v < 6 → ni x v < 166 := by
    intro k
    induction k using Nat.strongRecOn with
    | ind k ih =>
      intro x hk hx v hv
      have hxn := gr_Mlt ok hx
      by_cases e0 : x = 0
      · subst e0
        rw [h0 v hv]
        omega
      · have h2 := h1 x hx e0 (or_M T.1 ok hx).1 v hv
        by_cases hJ : gr_J G v x
        · rw [h2.1 hJ]
          omega
        · obtain ⟨q, hq⟩ := T.2.2.2.1 x hx e0
          have h3 := T.2.1.2 x q hq
          rw [h2.2 hJ q hq]
          exact nb_lt ok (gr_Mlt ok h3.2.1) (fun v hv => ih (pl q) (by omega) q rfl h3.2.1 v hv) _ (Nat.le_refl _) v hv
  exact fun x hx => key (pl x) x rfl hx
end
/-! names of operands as the arrays hold them -/
def nA_ (G : gr_T) (ni : Nat → Nat → Nat) (x i : Nat) : Int32 := if gr_op G (4 * x + i) = 0 ∨ gr_op G (4 * x + i) = 7 then -1 else nI (nb_ G ni x i (gr_av G (4 * x + i)))
def nB_ (G : gr_T) (ni : Nat → Nat → Nat) (x i : Nat) : Int32 := if gr_op G (4 * x + i) < 2 ∨ gr_op G (4 * x + i) = 7 then -1 else nI (nb_ G ni x i (gr_bb G (4 * x + i)))
def gn_B (G : gr_T) (ni : Nat → Nat → Nat) (x : Nat) (a_in a_out a_nameA a_nameB : Nat → Int32) : Prop :=
  (∀ v, v < 6 → a_in (6 * x + v) = nI (ni x v) ∧ a_out (6 * x + v) = nI (ne_ G ni x v)) ∧ (∀ i, i < gr_mn G x → a_nameA (4 * x + i) = nA_ G ni x i ∧ a_nameB (4 * x + i) = nB_ G ni x i)
section
variable {f_blocks f_given f_known f_met f_openEdges f_openBlocks f_first f_last f_openCount f_firstEdge f_lastEdge f_result f_begun f_latest f_inputs : Int32} {a_op a_d a_b a_many a_kind a_asks a_target a_a a_order a_place a_parent a_depths a_living a_needs a_merging a_stack a_next a_before a_frontiers a_in a_out a_nameA a_nameB a_queue a_state a_worth a_usedByExit a_edges a_now : Nat → Int32} {a_usedBySet a_usedByLow a_usedByHigh : Nat → Int64}
variable {G : gr_T} {m : Nat} {ord pl : Nat → Nat} {P : Nat → Option Nat} {ni : Nat → Nat → Nat} {post : SX → Prop} {J2 : Int32 → (Nat → Int32) → (Nat → Int32) → (Nat → Int32) → (Nat → Int32) → (Nat → Int32) → (Nat → Int32) → (Nat → Int32) → (Nat → Int32) → (Nat → Int32) → (Nat → Int32) → (Nat → Int32) → (Nat → Int32) → (Nat → Int32) → (Nat → Int32) → (Nat → Int32) → (Nat → Int32) → (Nat → Int32) → (Nat → Int32) → (Nat → Int32) → (Nat → Int32) → (Nat → Int32) → (Nat → Int32) → (Nat → Int32) → (Nat → Int32) → (Nat → Int32) → (Nat → Int32) → (Nat → Int32) → (Nat → Int64) → (Nat → Int64) → (Nat → Int64) → (Nat → Int32) → (Nat → Int32) → Prop} {k x : Nat}
theorem xn_120 (X : xp_ok G f_blocks f_given a_op a_d a_b a_many a_kind a_asks a_target a_a) (hx : x < gr_n G) (hlt : ∀ v, v < 6 → ni x v < 166) (Z : (Nat → Int32) → (Nat → Int32) → (Nat → Int32) → Prop)
    (hZ : ∀ (a_out a_nameA a_nameB a_out' a_nameA' a_nameB' : Nat → Int32), Z a_out a_nameA a_nameB → (∀ j, j / 6 ≠ x → a_out' j = a_out j) → (∀ j, j / 4 ≠ x → a_nameA' j = a_nameA j ∧ a_nameB' j = a_nameB j) → Z a_out' a_nameA' a_nameB')
    (hin : ∀ v, v < 6 → a_in (6 * x + v) = nI (ni x v))
    (K : ∀ a_out a_nameA a_nameB : Nat → Int32, Z a_out a_nameA a_nameB → gn_B G ni x a_in a_out a_nameA a_nameB → J2 (nI (k + 1)) a_op a_d a_b a_many a_kind a_asks a_target a_a a_order a_place a_parent a_depths a_living a_needs a_merging a_stack a_next a_before a_frontiers a_in a_out a_nameA a_nameB a_queue a_state a_worth a_usedByExit a_usedBySet a_usedByLow a_usedByHigh a_edges a_now) :
    ∀ n i (a_out a_nameA a_nameB : Nat → Int32), gr_mn G x < n + i → i ≤ gr_mn G x → Z a_out a_nameA a_nameB → (∀ v, v < 6 → a_out (6 * x + v) = nI (nb_ G ni x i v)) → (∀ j, j < i → a_nameA (4 * x + j) = nA_ G ni x j ∧ a_nameB (4 * x + j) = nB_ G ni x j) → wX_giveNames_120 post J2 (nI k) (nI x) (nI (6 * x)) f_blocks f_given f_known f_met f_openEdges f_openBlocks f_first f_last f_openCount f_firstEdge f_lastEdge f_result f_begun f_latest f_inputs n (nI (4 * x + i)) a_op a_d a_b a_many a_kind a_asks a_target a_a a_order a_place a_parent a_depths a_living a_needs a_merging a_stack a_next a_before a_frontiers a_in a_out a_nameA a_nameB a_queue a_state a_worth a_usedByExit a_usedBySet a_usedByLow a_usedByHigh a_edges a_now := by
  have ok := X.1
  have hn16 := ok.1
  have h4 := (ok.2.2 x hx).1
  have cx : (nI x).toNatClampNeg = x := fn_c (by omega)
  have ix : vp_in (nI x) 16 := vp_in_nI (by omega) (by omega)
  intro n
  induction n with
  | zero => intro i a_out a_nameA a_nameB h1 h2; omega
  | succ n ih =>
    intro i a_out a_nameA a_nameB h1 h2 hz hout hnm
    rw [wX_giveNames_120]
    dsimp only
    rw [cx, X.2.2.2.1 x hx, fn_42]
    refine ⟨ix, pk_le (4 * x + gr_mn G x) (4 * x + i) (fun h => ?_) (fun h => ?_)⟩
    · have e : i = gr_mn G x := by omega
      subst e
      exact nm_r (nI_1 k) (K a_out a_nameA a_nameB hz ⟨fun v hv => ⟨hin v hv, hout v hv⟩, hnm⟩)
    · have hi : i < gr_mn G x := by omega
      have ci : (nI (4 * x + i)).toNatClampNeg = 4 * x + i := fn_c (by omega)
      have hI := (ok.2.2 x hx).2.2.2.2 i hi
      have hX := X.2.2.2.2.2.2.2 x i hx hi
      have hop := hI.1
      have hd := hI.2.1
      have ii : vp_in (nI (4 * x + i)) 64 := vp_in_nI (by omega) (by omega)
      have hnlt : ∀ v, v < 6 → nb_ G ni x i v < 166 := nb_lt ok hx hlt i (by omega)
      -- the end of a step
      have k229 : ∀ (a_nameA : Nat → Int32) (z0 : Int32), (∀ j, j < i + 1 → a_nameA (4 * x + j) = nA_ G ni x j) → Z a_out a_nameA a_nameB → vp_nar .short z0 = nB_ G ni x i → wX_giveNames_229 post J2 (wX_giveNames_120 post J2 (nI k) (nI x) (nI (6 * x)) f_blocks f_given f_known f_met f_openEdges f_openBlocks f_first f_last f_openCount f_firstEdge f_lastEdge f_result f_begun f_latest f_inputs n) (nI k) (nI x) (nI (6 * x)) (nI (4 * x + i)) z0 (nI (4 * x + i)) f_blocks f_given f_known f_met f_openEdges f_openBlocks f_first f_last f_openCount f_firstEdge f_lastEdge f_result f_begun f_latest f_inputs a_op a_d a_b a_many a_kind a_asks a_target a_a a_order a_place a_parent a_depths a_living a_needs a_merging a_stack a_next a_before a_frontiers a_in a_out a_nameA a_nameB a_queue a_state a_worth a_usedByExit a_usedBySet a_usedByLow a_usedByHigh a_edges a_now := by
        intro a_nameA z0 hA hz hB
        rw [wX_giveNames_229, ci, hB, hX.2.1, nI_add, fn_c (by omega)]
        refine ⟨ii, nm_e ⟨ii, vp_in_nI (by omega) (by omega), nm_r (e' := upd a_out (6 * x + gr_dd G (4 * x + i)) (nI (6 + (4 * x + i)))) ?_ (nm_r (nI_1 _) ?_)⟩⟩
        · rw [show (6 : Int32) + nI (4 * x + i) = nI (6 + (4 * x + i)) from nI_add 6 _, fb_vs (by omega)]
        · refine ih (i + 1) _ _ _ (by omega) (by omega) (hZ _ _ _ _ _ _ hz (fun j hj => pk_un (fun e => hj (by omega))) (fun j hj => ⟨rfl, pk_un (fun e => hj (by omega))⟩)) (fun v hv => ?_) (fun j hj => ⟨hA j hj, ?_⟩)
          · show _ = nI (if v = gr_dd G (4 * x + i) then 6 + (4 * x + i) else nb_ G ni x i v)
            by_cases c : v = gr_dd G (4 * x + i)
            · rw [if_pos c, c, pk_us]
            · rw [if_neg c, pk_un (by omega)]
              exact hout v hv
          · by_cases c : j = i
            · rw [c, pk_us]
            · rw [pk_un (by omega)]
              exact (hnm j (by omega)).2
      have k181 : ∀ z0 : Int32, vp_nar .short z0 = nA_ G ni x i → wX_giveNames_181 post J2 (wX_giveNames_120 post J2 (nI k) (nI x) (nI (6 * x)) f_blocks f_given f_known f_met f_openEdges f_openBlocks f_first f_last f_openCount f_firstEdge f_lastEdge f_result f_begun f_latest f_inputs n) (nI k) (nI x) (nI (6 * x)) (nI (4 * x + i)) z0 (nI (4 * x + i)) f_blocks f_given f_known f_met f_openEdges f_openBlocks f_first f_last f_openCount f_firstEdge f_lastEdge f_result f_begun f_latest f_inputs a_op a_d a_b a_many a_kind a_asks a_target a_a a_order a_place a_parent a_depths a_living a_needs a_merging a_stack a_next a_before a_frontiers a_in a_out a_nameA a_nameB a_queue a_state a_worth a_usedByExit a_usedBySet a_usedByLow a_usedByHigh a_edges a_now := by
        intro z0 hA
        rw [wX_giveNames_181, ci, hA, hX.1]
        have hA' : ∀ j, j < i + 1 → upd a_nameA (4 * x + i) (nA_ G ni x i) (4 * x + j) = nA_ G ni x j := by
          intro j hj
          by_cases c : j = i
          · rw [c, pk_us]
          · rw [pk_un (by omega)]
            exact (hnm j (by omega)).1
        have hz' : Z a_out (upd a_nameA (4 * x + i) (nA_ G ni x i)) a_nameB := hZ _ _ _ _ _ _ hz (fun j _ => rfl) (fun j hj => ⟨pk_un (fun e => hj (by omega)), rfl⟩)
        refine ⟨ii, nm_e ⟨ii, pk_lt (gr_op G (4 * x + i)) 2 (fun h2 => ?_) (fun h2 => ⟨ii, pk_eq (gr_op G (4 * x + i)) 7 (fun h7 => ?_) (fun h7 => ⟨ii, ?_⟩)⟩)⟩⟩
        · rw [wX_giveNames_211]
          refine k229 _ (-1) hA' hz' ?_
          rw [fb_vsm]
          exact (if_pos (Or.inl h2)).symm
        · rw [wX_giveNames_211]
          refine k229 _ (-1) hA' hz' ?_
          rw [fb_vsm]
          exact (if_pos (Or.inr h7)).symm
        · have hb6 := hI.2.2.1
          rw [hX.2.2.2, nI_add, fn_c (by omega), hout _ hb6]
          refine ⟨vp_in_nI (by omega) (by omega), k229 _ _ hA' hz' ?_⟩
          have := hnlt _ hb6
          rw [fb_vs' (by omega)]
          exact (if_neg (fun z => z.elim (fun w => by omega) h7)).symm
      rw [ci, hX.1]
      refine ⟨ii, pk_eq (gr_op G (4 * x + i)) 0 (fun h0 => ?_) (fun h0 => ⟨ii, pk_eq (gr_op G (4 * x + i)) 7 (fun h7 => ?_) (fun h7 => ⟨ii, ?_⟩)⟩)⟩
      · rw [wX_giveNames_163]
        refine k181 (-1) ?_
        rw [fb_vsm]
        exact (if_pos (Or.inl h0)).symm
      · rw [wX_giveNames_163]
        refine k181 (-1) ?_
        rw [fb_vsm]
        exact (if_pos (Or.inr h7)).symm
      · have ha := hI.2.2.2 h0 h7
        have ha6 := ha.2
        rw [hX.2.2.1, ha.1, nI_add, fn_c (by omega), hout _ ha.2]
        refine ⟨vp_in_nI (by omega) (by omega), k181 _ ?_⟩
        have := hnlt _ ha.2
        rw [fb_vs' (by omega)]
        exact (if_neg (fun z => z.elim h0 h7)).symm
theorem xn_25 (X : xp_ok G f_blocks f_given a_op a_d a_b a_many a_kind a_asks a_target a_a) (T : dt_ok G m ord pl P) (hpa : ∀ x, x < 16 → a_parent x = pe_ (P x)) (hmg : ∀ y j, y < 16 → (bt (a_merging y) j = true ↔ (j < 6 ∧ gr_J G j y))) (N : nm_ok G P ni) (hx : gr_M G x) (hlt : ∀ v, v < 6 → ni x v < 166) (Z : (Nat → Int32) → (Nat → Int32) → (Nat → Int32) → (Nat → Int32) → Prop)
    (hZ : ∀ (a_in a_out a_nameA a_nameB a_in' a_out' a_nameA' a_nameB' : Nat → Int32), Z a_in a_out a_nameA a_nameB → (∀ j, j / 6 ≠ x → a_in' j = a_in j ∧ a_out' j = a_out j) → (∀ j, j / 4 ≠ x → a_nameA' j = a_nameA j ∧ a_nameB' j = a_nameB j) → Z a_in' a_out' a_nameA' a_nameB')
    (hout : ∀ (a_in a_out a_nameA a_nameB : Nat → Int32) (q : Nat), Z a_in a_out a_nameA a_nameB → P x = some q → ∀ v, v < 6 → a_out (6 * q + v) = nI (ne_ G ni q v))
    (K : ∀ a_in a_out a_nameA a_nameB : Nat → Int32, Z a_in a_out a_nameA a_nameB → gn_B G ni x a_in a_out a_nameA a_nameB → J2 (nI (k + 1)) a_op a_d a_b a_many a_kind a_asks a_target a_a a_order a_place a_parent a_depths a_living a_needs a_merging a_stack a_next a_before a_frontiers a_in a_out a_nameA a_nameB a_queue a_state a_worth a_usedByExit a_usedBySet a_usedByLow a_usedByHigh a_edges a_now) :
    ∀ n v (a_in a_out : Nat → Int32), 6 < n + v → v ≤ 6 → Z a_in a_out a_nameA a_nameB → (∀ w, w < v → a_in (6 * x + w) = nI (ni x w) ∧ a_out (6 * x + w) = nI (ni x w)) → wX_giveNames_25 post J2 (nI k) (nI x) (nI (6 * x)) f_blocks f_given f_known f_met f_openEdges f_openBlocks f_first f_last f_openCount f_firstEdge f_lastEdge f_result f_begun f_latest f_inputs n (nI v) a_op a_d a_b a_many a_kind a_asks a_target a_a a_order a_place a_parent a_depths a_living a_needs a_merging a_stack a_next a_before a_frontiers a_in a_out a_nameA a_nameB a_queue a_state a_worth a_usedByExit a_usedBySet a_usedByLow a_usedByHigh a_edges a_now := by
  have ok := X.1
  have hn16 := ok.1
  have hxn := gr_Mlt ok hx
  have h4 := (ok.2.2 x hxn).1
  have cx : (nI x).toNatClampNeg = x := fn_c (by omega)
  have ix : vp_in (nI x) 16 := vp_in_nI (by omega) (by omega)
  intro n
  induction n with
  | zero => intro v a_in a_out h1 h2; omega
  | succ n ih =>
    intro v a_in a_out h1 h2 hz hA
    rw [wX_giveNames_25]
    refine pk_le 6 v (fun h => ?_) (fun h => ?_)
    · have e : v = 6 := by omega
      subst e
      refine nm_r (e' := nI (4 * x + 0)) (by rw [fn_4]; rfl) ⟨5, xn_120 X hxn hlt (fun o a b => Z a_in o a b) (fun o a b o' a' b' hz ho hab => hZ _ _ _ _ _ _ _ _ hz (fun j hj => ⟨rfl, ho j hj⟩) hab) (fun w hw => (hA w hw).1) (fun o a b hz hB => K a_in o a b hz hB) 5 0 a_out a_nameA a_nameB (by omega) (by omega) hz (fun w hw => (hA w hw).2) (fun j hj => by omega)⟩
    · have hv := hlt v h
      have k83 : ∀ z0 : Int32, z0 = nI (ni x v) → wX_giveNames_83 post J2 (wX_giveNames_25 post J2 (nI k) (nI x) (nI (6 * x)) f_blocks f_given f_known f_met f_openEdges f_openBlocks f_first f_last f_openCount f_firstEdge f_lastEdge f_result f_begun f_latest f_inputs n) (nI k) (nI x) (nI (6 * x)) (nI v) z0 f_blocks f_given f_known f_met f_openEdges f_openBlocks f_first f_last f_openCount f_firstEdge f_lastEdge f_result f_begun f_latest f_inputs a_op a_d a_b a_many a_kind a_asks a_target a_a a_order a_place a_parent a_depths a_living a_needs a_merging a_stack a_next a_before a_frontiers a_in a_out a_nameA a_nameB a_queue a_state a_worth a_usedByExit a_usedBySet a_usedByLow a_usedByHigh a_edges a_now := by
        intro z0 ez
        rw [wX_giveNames_83, ez, nI_add, fn_c (by omega), fb_vs (by omega)]
        refine ⟨vp_in_nI (by omega) (by omega), nm_e ⟨vp_in_nI (by omega) (by omega), nm_e (nm_r (nI_1 v) (ih (v + 1) _ _ (by omega) (by omega) (hZ _ _ _ _ _ _ _ _ hz (fun j hj => ⟨pk_un (fun e => hj (by omega)), pk_un (fun e => hj (by omega))⟩) (fun j _ => ⟨rfl, rfl⟩)) (fun w hw => ?_)))⟩⟩
        by_cases c : w = v
        · rw [c, pk_us, pk_us]; exact ⟨rfl, rfl⟩
        · rw [pk_un (by omega), pk_un (by omega)]
          exact hA w (by omega)
      refine pk_eq x 0 (fun e => k83 _ ?_) (fun e => ?_)
      · rw [e, N.1 v h]
      · rw [cx]
        refine ⟨ix, fb_1 (by omega) (fun hb => k83 _ ?_) (fun hb => ⟨ix, ?_⟩)⟩
        · rw [(N.2 x hx e v h).1 ((hmg x v (by omega)).mp hb).2]
          rw [show (70 : Int32) + nI (6 * x) = nI (70 + 6 * x) from nI_add 70 _, nI_add, Nat.add_assoc]
        · obtain ⟨q, hq⟩ := T.2.2.2.1 x hx e
          have hqn := gr_Mlt ok (T.2.1.2 x q hq).2.1
          have hJ : ¬ gr_J G v x := fun z => by
            rw [(hmg x v (by omega)).mpr ⟨h, z⟩] at hb
            exact absurd hb (by decide)
          rw [hpa x (by omega), hq, pe_s, fn_62, fn_c (by omega)]
          refine ⟨vp_in_nI (by omega) (by omega), k83 _ ?_⟩
          rw [hout a_in a_out a_nameA a_nameB q hz hq v h, (N.2 x hx e v h).2 hJ q hq]
theorem xn_2 (X : xp_ok G f_blocks f_given a_op a_d a_b a_many a_kind a_asks a_target a_a) (hX : xa_ok G m ord pl a_order a_place a_before) (T : dt_ok G m ord pl P) (hpa : ∀ x, x < 16 → a_parent x = pe_ (P x)) (hmg : ∀ y j, y < 16 → (bt (a_merging y) j = true ↔ (j < 6 ∧ gr_J G j y))) (N : nm_ok G P ni) (hlt : ∀ x, gr_M G x → ∀ v, v < 6 → ni x v < 166)
    (K : ∀ a_in a_out a_nameA a_nameB : Nat → Int32, (∀ x, gr_M G x → gn_B G ni x a_in a_out a_nameA a_nameB) → post (f_blocks, f_given, f_known, nI m, f_openEdges, f_openBlocks, f_first, f_last, f_openCount, f_firstEdge, f_lastEdge, f_result, f_begun, f_latest, f_inputs, a_op, a_d, a_b, a_many, a_kind, a_asks, a_target, a_a, a_order, a_place, a_parent, a_depths, a_living, a_needs, a_merging, a_stack, a_next, a_before, a_frontiers, a_in, a_out, a_nameA, a_nameB, a_queue, a_state, a_worth, a_usedByExit, a_usedBySet, a_usedByLow, a_usedByHigh, a_edges, a_now)) :
    ∀ n k (a_in a_out a_nameA a_nameB : Nat → Int32), m < n + k → k ≤ m → (∀ x, gr_M G x → pl x < k → gn_B G ni x a_in a_out a_nameA a_nameB) → wX_giveNames_2 post f_blocks f_given f_known (nI m) f_openEdges f_openBlocks f_first f_last f_openCount f_firstEdge f_lastEdge f_result f_begun f_latest f_inputs n (nI k) a_op a_d a_b a_many a_kind a_asks a_target a_a a_order a_place a_parent a_depths a_living a_needs a_merging a_stack a_next a_before a_frontiers a_in a_out a_nameA a_nameB a_queue a_state a_worth a_usedByExit a_usedBySet a_usedByLow a_usedByHigh a_edges a_now := by
  have ok := X.1
  have hn16 := ok.1
  have O := hX.1
  have hmn := O.1
  intro n
  induction n with
  | zero => intro k _ _ _ _ h1 h2; omega
  | succ n ih =>
    intro k a_in a_out a_nameA a_nameB h1 hk hA
    rw [wX_giveNames_2]
    refine pk_le m k (fun h => ?_) (fun h => ?_)
    · exact K a_in a_out a_nameA a_nameB (fun x hx => hA x hx (by have := (or_M O ok hx).1; omega))
    · have hxn := (O.2.2.1 k h).1
      have hpk := (O.2.2.1 k h).2
      have hMx := or_m O k h
      have c1 : (nI k).toNatClampNeg = k := fn_c (by omega)
      rw [c1]
      refine ⟨vp_in_nI (by omega) (by omega), nm_r (e' := nI (ord k)) (hX.2.1 k h) (nm_r (fn_6 _) ⟨7, ?_⟩)⟩
      refine xn_25 X T hpa hmg N hMx (hlt _ hMx) (fun i o a b => ∀ x, gr_M G x → pl x < k → gn_B G ni x i o a b) ?_ ?_ ?_ 7 0 a_in a_out (by omega) (by omega) hA (fun w hw => by omega)
      · intro i o a b i' o' a' b' hz h6 h4 x hx hl
        have hne : x ≠ ord k := fun e => by rw [e] at hl; omega
        have h44 := (ok.2.2 x (gr_Mlt ok hx)).1
        have := hz x hx hl
        refine ⟨fun v hv => ?_, fun j hj => ?_⟩
        · have e := h6 (6 * x + v) (by omega)
          rw [e.1, e.2]
          exact this.1 v hv
        · have e := h4 (4 * x + j) (by omega)
          rw [e.1, e.2]
          exact this.2 j hj
      · intro i o a b q hz hq v hv
        have h3 := T.2.1.2 _ q hq
        exact ((hz q h3.2.1 (by omega)).1 v hv).2
      · intro i o a b hz hB
        refine ih (k + 1) i o a b (by omega) (by omega) (fun x hx hl => ?_)
        by_cases c : pl x = k
        · have := (or_M O ok hx).2
          rw [c] at this
          rw [← this]
          exact hB
        · exact hz x hx (by omega)
theorem xn_giveNames (X : xp_ok G f_blocks f_given a_op a_d a_b a_many a_kind a_asks a_target a_a) (hX : xa_ok G m ord pl a_order a_place a_before) (T : dt_ok G m ord pl P) (hpa : ∀ x, x < 16 → a_parent x = pe_ (P x)) (hmg : ∀ y j, y < 16 → (bt (a_merging y) j = true ↔ (j < 6 ∧ gr_J G j y))) (N : nm_ok G P ni) (hlt : ∀ x, gr_M G x → ∀ v, v < 6 → ni x v < 166)
    (K : ∀ a_in a_out a_nameA a_nameB : Nat → Int32, (∀ x, gr_M G x → gn_B G ni x a_in a_out a_nameA a_nameB) → post (f_blocks, f_given, f_known, nI m, f_openEdges, f_openBlocks, f_first, f_last, f_openCount, f_firstEdge, f_lastEdge, f_result, f_begun, f_latest, f_inputs, a_op, a_d, a_b, a_many, a_kind, a_asks, a_target, a_a, a_order, a_place, a_parent, a_depths, a_living, a_needs, a_merging, a_stack, a_next, a_before, a_frontiers, a_in, a_out, a_nameA, a_nameB, a_queue, a_state, a_worth, a_usedByExit, a_usedBySet, a_usedByLow, a_usedByHigh, a_edges, a_now)) : wpX_giveNames post (f_blocks, f_given, f_known, nI m, f_openEdges, f_openBlocks, f_first, f_last, f_openCount, f_firstEdge, f_lastEdge, f_result, f_begun, f_latest, f_inputs, a_op, a_d, a_b, a_many, a_kind, a_asks, a_target, a_a, a_order, a_place, a_parent, a_depths, a_living, a_needs, a_merging, a_stack, a_next, a_before, a_frontiers, a_in, a_out, a_nameA, a_nameB, a_queue, a_state, a_worth, a_usedByExit, a_usedBySet, a_usedByLow, a_usedByHigh, a_edges, a_now) := by
  show ∃ n2 : Nat, wX_giveNames_2 post f_blocks f_given f_known (nI m) f_openEdges f_openBlocks f_first f_last f_openCount f_firstEdge f_lastEdge f_result f_begun f_latest f_inputs n2 0 a_op a_d a_b a_many a_kind a_asks a_target a_a a_order a_place a_parent a_depths a_living a_needs a_merging a_stack a_next a_before a_frontiers a_in a_out a_nameA a_nameB a_queue a_state a_worth a_usedByExit a_usedBySet a_usedByLow a_usedByHigh a_edges a_now
  exact ⟨m + 1, xn_2 X hX T hpa hmg N hlt K (m + 1) 0 a_in a_out a_nameA a_nameB (by omega) (by omega) (fun x _ h => by omega)⟩
end
end
section
/-! where names are used -/
theorem fl_upd {a : Nat → Int64} {w i0 n i : Nat} (h0 : i0 < 64) (hi : i < 64) : fl_b (vp_updL a w (a w ||| ((1 : Int64) <<< ((nI i0).toInt64 &&& 63))) n) i = true ↔ (fl_b (a n) i = true ∨ (n = w ∧ i = i0)) := by
  by_cases c : n = w
  · subst c
    rw [pk_uLs, fl_or1 _ h0 hi]
    simp
  · rw [pk_uLn c]
    exact ⟨Or.inl, fun z => z.elim id (fun w => absurd w.1 c)⟩
theorem fb_upd {a : Nat → Int32} {w x n y : Nat} (hx : x < 32) (hy : y < 32) : bt (upd a w (a w ||| ((1 : Int32) <<< (nI x &&& 31))) n) y = true ↔ (bt (a n) y = true ∨ (n = w ∧ y = x)) := by
  by_cases c : n = w
  · subst c
    rw [pk_us, fb_or1 _ hx hy]
    simp
  · rw [pk_un c]
    exact ⟨Or.inl, fun z => z.elim id (fun w => absurd w.1 c)⟩
def us_S (G : gr_T) (ni : Nat → Nat → Nat) (n i : Nat) : Prop := ∃ x j, gr_M G x ∧ j < gr_mn G x ∧ i = 4 * x + j ∧ (nA_ G ni x j = nI n ∨ nB_ G ni x j = nI n)
def us_E (G : gr_T) (ni : Nat → Nat → Nat) (n x : Nat) : Prop := gr_M G x ∧ gr_kd G x ≠ 1 ∧ ne_ G ni x (gr_ak G x) = n
def us_M (G : gr_T) (ni : Nat → Nat → Nat) (n y : Nat) : Prop := ∃ x v p, gr_M G x ∧ v < 6 ∧ y = 6 * x + v ∧ gr_J G v x ∧ gr_M G p ∧ gr_E G p x ∧ ne_ G ni p v = n
def um_ (lo hi : Nat → Int64) (n y : Nat) : Bool := if y < 64 then fl_b (lo n) y else fl_b (hi n) (y - 64)
theorem um_lo {lo hi : Nat → Int64} {w y0 n y : Nat} (h0 : y0 < 64) (hy : y < 128) : um_ (vp_updL lo w (lo w ||| ((1 : Int64) <<< ((nI y0).toInt64 &&& 63)))) hi n y = true ↔ (um_ lo hi n y = true ∨ (n = w ∧ y = y0)) := by
  unfold um_
  by_cases c : y < 64
  · rw [if_pos c, if_pos c, fl_upd h0 c]
  · rw [if_neg c, if_neg c]
    exact ⟨Or.inl, fun z => z.elim id (fun w => by omega)⟩
theorem um_hi {lo hi : Nat → Int64} {w y0 n y : Nat} (h0 : 64 ≤ y0) (h1 : y0 < 128) (hy : y < 128) : um_ lo (vp_updL hi w (hi w ||| ((1 : Int64) <<< ((nI (y0 - 64)).toInt64 &&& 63)))) n y = true ↔ (um_ lo hi n y = true ∨ (n = w ∧ y = y0)) := by
  unfold um_
  by_cases c : y < 64
  · rw [if_pos c, if_pos c]
    exact ⟨Or.inl, fun z => z.elim id (fun w => by omega)⟩
  · rw [if_neg c, if_neg c, fl_upd (by omega) (by omega)]
    constructor
    · rintro (z | z)
      · exact Or.inl z
      · exact Or.inr ⟨z.1, by omega⟩
    · rintro (z | z)
      · exact Or.inl z
      · exact Or.inr ⟨z.1, by omega⟩
section
variable {f_blocks f_given f_known f_met f_openEdges f_openBlocks f_first f_last f_openCount f_firstEdge f_lastEdge f_result f_begun f_latest f_inputs : Int32} {a_op a_d a_b a_many a_kind a_asks a_target a_a a_order a_place a_parent a_depths a_living a_needs a_merging a_stack a_next a_before a_frontiers a_in a_out a_nameA a_nameB a_queue a_state a_worth a_usedByExit a_edges a_now : Nat → Int32} {a_usedBySet a_usedByLow a_usedByHigh : Nat → Int64}
variable {G : gr_T} {m : Nat} {ord pl : Nat → Nat} {P : Nat → Option Nat} {ni : Nat → Nat → Nat} {post : SX → Prop} {k x v : Nat}
theorem xu_18 (ok : gr_ok G) (hout : ∀ y, gr_M G y → ∀ v, v < 6 → a_out (6 * y + v) = nI (ne_ G ni y v)) (hne : ∀ y, gr_M G y → ∀ v, v < 6 → ne_ G ni y v < 166) (hx : x < 16) (hv : v < 6) (U : Nat → Nat → Prop)
    (K : ∀ a_usedByLow a_usedByHigh : Nat → Int64, (∀ n y, n < 166 → y < 96 → (um_ a_usedByLow a_usedByHigh n y = true ↔ (U n y ∨ (y = 6 * x + v ∧ ∃ p, gr_M G p ∧ gr_E G p x ∧ ne_ G ni p v = n)))) → post (f_blocks, f_given, f_known, f_met, f_openEdges, f_openBlocks, f_first, f_last, f_openCount, f_firstEdge, f_lastEdge, f_result, f_begun, f_latest, f_inputs, a_op, a_d, a_b, a_many, a_kind, a_asks, a_target, a_a, a_order, a_place, a_parent, a_depths, a_living, a_needs, a_merging, a_stack, a_next, a_before, a_frontiers, a_in, a_out, a_nameA, a_nameB, a_queue, a_state, a_worth, a_usedByExit, a_usedBySet, a_usedByLow, a_usedByHigh, a_edges, a_now)) :
    ∀ n (s : Int32) (a_usedByLow a_usedByHigh : Nat → Int64), s.toBitVec.toNat < n → fb_16 s → (∀ p, p < 16 → bt s p = true → gr_M G p ∧ gr_E G p x) → (∀ n y, n < 166 → y < 96 → (um_ a_usedByLow a_usedByHigh n y = true ↔ (U n y ∨ (y = 6 * x + v ∧ ∃ p, gr_M G p ∧ gr_E G p x ∧ bt s p = false ∧ ne_ G ni p v = n)))) → wX_noteMerge_18 post (nI v) (nI (6 * x + v)) f_blocks f_given f_known f_met f_openEdges f_openBlocks f_first f_last f_openCount f_firstEdge f_lastEdge f_result f_begun f_latest f_inputs n s a_op a_d a_b a_many a_kind a_asks a_target a_a a_order a_place a_parent a_depths a_living a_needs a_merging a_stack a_next a_before a_frontiers a_in a_out a_nameA a_nameB a_queue a_state a_worth a_usedByExit a_usedBySet a_usedByLow a_usedByHigh a_edges a_now := by
  have hn16 := ok.1
  intro n
  induction n with
  | zero => intro s _ _ h; omega
  | succ n ih =>
    intro s a_usedByLow a_usedByHigh hmu h16 hs hA
    rw [wX_noteMerge_18]
    by_cases hs0 : s = 0
    · refine br_t hs0 (K a_usedByLow a_usedByHigh (fun n y hn hy => (hA n y hn hy).trans ?_))
      rw [hs0]
      constructor
      · rintro (z | ⟨z, p, h1, h2, _, h3⟩)
        · exact Or.inl z
        · exact Or.inr ⟨z, p, h1, h2, h3⟩
      · rintro (z | ⟨z, p, h1, h2, h3⟩)
        · exact Or.inl z
        · exact Or.inr ⟨z, p, h1, h2, b_0 p, h3⟩
    · refine br_f hs0 ?_
      obtain ⟨p, hp16, hbp, hcl, hlt, h16', hlo⟩ := fb_step hs0 h16
      refine hlo _ ?_
      have hpM := hs p hp16 hbp
      have hpn := gr_Mlt ok hpM.1
      have hw := hne p hpM.1 v hv
      rw [fn_62, fn_c (by omega), hout p hpM.1 v hv]
      refine ⟨vp_in_nI (by omega) (by omega), nm_e ?_⟩
      have iw : vp_in (nI (ne_ G ni p v)) 166 := vp_in_nI hw (by omega)
      rw [fn_c (a := ne_ G ni p v) (by omega)]
      have hs' : ∀ q, q < 16 → bt (s &&& (s - 1)) q = true → gr_M G q ∧ gr_E G q x := by
        intro q hq hb
        rw [hcl q] at hb
        refine hs q hq ?_
        rcases Bool.eq_false_or_eq_true (bt s q) with z | z
        · exact z
        · rw [z, Bool.false_and] at hb; exact absurd hb (by decide)
      have hnew : ∀ n y, n < 166 → y < 96 → (((U n y ∨ (y = 6 * x + v ∧ ∃ p, gr_M G p ∧ gr_E G p x ∧ bt s p = false ∧ ne_ G ni p v = n)) ∨ (n = ne_ G ni p v ∧ y = 6 * x + v)) ↔ (U n y ∨ (y = 6 * x + v ∧ ∃ p, gr_M G p ∧ gr_E G p x ∧ bt (s &&& (s - 1)) p = false ∧ ne_ G ni p v = n))) := by
        intro n y hn hy
        constructor
        · rintro ((z | ⟨z, q, h1, h2, h3, h4⟩) | z)
          · exact Or.inl z
          · exact Or.inr ⟨z, q, h1, h2, by rw [hcl q, h3, Bool.false_and], h4⟩
          · exact Or.inr ⟨z.2, p, hpM.1, hpM.2, by rw [hcl p, decide_eq_true rfl, Bool.not_true, Bool.and_false], z.1.symm⟩
        · rintro (z | ⟨z, q, h1, h2, h3, h4⟩)
          · exact Or.inl (Or.inl z)
          · by_cases c : q = p
            · rw [c] at h4
              exact Or.inr ⟨h4.symm, z⟩
            · rw [hcl q, decide_eq_false c, Bool.not_false, Bool.and_true] at h3
              exact Or.inl (Or.inr ⟨z, q, h1, h2, h3, h4⟩)
      refine pk_le 64 (6 * x + v) (fun h => ⟨iw, iw, ?_⟩) (fun h => ⟨iw, iw, ?_⟩)
      · rw [show nI (6 * x + v) - 64 = nI (6 * x + v - 64) from pk_sub h]
        refine nm_e (nm_e (ih _ _ _ (by omega) h16' hs' (fun n y hn hy => ?_)))
        rw [um_hi (by omega) (by omega) (by omega), hA n y hn hy]
        exact hnew n y hn hy
      · refine nm_e (nm_e (ih _ _ _ (by omega) h16' hs' (fun n y hn hy => ?_)))
        rw [um_lo (by omega) (by omega), hA n y hn hy]
        exact hnew n y hn hy
theorem xu_noteMerge (ok : gr_ok G) (hX : xa_ok G m ord pl a_order a_place a_before) (hout : ∀ y, gr_M G y → ∀ v, v < 6 → a_out (6 * y + v) = nI (ne_ G ni y v)) (hne : ∀ y, gr_M G y → ∀ v, v < 6 → ne_ G ni y v < 166) (hx : x < 16) (hv : v < 6) (U : Nat → Nat → Prop) (hU : ∀ n y, n < 166 → y < 96 → (um_ a_usedByLow a_usedByHigh n y = true ↔ U n y))
    (K : ∀ a_usedByLow a_usedByHigh : Nat → Int64, (∀ n y, n < 166 → y < 96 → (um_ a_usedByLow a_usedByHigh n y = true ↔ (U n y ∨ (y = 6 * x + v ∧ ∃ p, gr_M G p ∧ gr_E G p x ∧ ne_ G ni p v = n)))) → post (f_blocks, f_given, f_known, f_met, f_openEdges, f_openBlocks, f_first, f_last, f_openCount, f_firstEdge, f_lastEdge, f_result, f_begun, f_latest, f_inputs, a_op, a_d, a_b, a_many, a_kind, a_asks, a_target, a_a, a_order, a_place, a_parent, a_depths, a_living, a_needs, a_merging, a_stack, a_next, a_before, a_frontiers, a_in, a_out, a_nameA, a_nameB, a_queue, a_state, a_worth, a_usedByExit, a_usedBySet, a_usedByLow, a_usedByHigh, a_edges, a_now)) : wpX_noteMerge post (f_blocks, f_given, f_known, f_met, f_openEdges, f_openBlocks, f_first, f_last, f_openCount, f_firstEdge, f_lastEdge, f_result, f_begun, f_latest, f_inputs, a_op, a_d, a_b, a_many, a_kind, a_asks, a_target, a_a, a_order, a_place, a_parent, a_depths, a_living, a_needs, a_merging, a_stack, a_next, a_before, a_frontiers, a_in, a_out, a_nameA, a_nameB, a_queue, a_state, a_worth, a_usedByExit, a_usedBySet, a_usedByLow, a_usedByHigh, a_edges, a_now) (nI x) (nI v) := by
  have hn16 := ok.1
  unfold wpX_noteMerge
  show ∀ x3_1 : Int32, x3_1 = 6 * nI x + nI v → (vp_in (nI x) 16 ∧ (∀ x4_3 : Int32, x4_3 = (a_before (nI x).toNatClampNeg) &&& 65535 → (∃ n18 : Nat, wX_noteMerge_18 post (nI v) x3_1 f_blocks f_given f_known f_met f_openEdges f_openBlocks f_first f_last f_openCount f_firstEdge f_lastEdge f_result f_begun f_latest f_inputs n18 x4_3 a_op a_d a_b a_many a_kind a_asks a_target a_a a_order a_place a_parent a_depths a_living a_needs a_merging a_stack a_next a_before a_frontiers a_in a_out a_nameA a_nameB a_queue a_state a_worth a_usedByExit a_usedBySet a_usedByLow a_usedByHigh a_edges a_now)))
  rw [fn_c (a := x) (by omega)]
  have hbef : ∀ p, p < 16 → (bt (a_before x &&& 65535) p = true ↔ gr_M G p ∧ gr_E G p x) := by
    intro p hp
    rw [fb_m16, decide_eq_true hp, Bool.and_true]
    exact hX.2.2.2.2.1 x p hx hp
  refine nm_r (fn_62 x v) ⟨vp_in_nI hx (by omega), nm_e ⟨_, xu_18 ok hout hne hx hv U K _ (a_before x &&& 65535) a_usedByLow a_usedByHigh (Nat.lt_succ_self _) (fb_16m _) (fun p hp hb => (hbef p hp).mp hb) (fun n y hn hy => (hU n y hn hy).trans ⟨Or.inl, fun z => z.elim id (fun ⟨_, p, h1, h2, h3, _⟩ => ?_)⟩)⟩⟩
  have := gr_Mlt ok h1
  rw [(hbef p (by omega)).mpr ⟨h1, h2⟩] at h3
  exact absurd h3 (by decide)
theorem xu_175 {J45 : Int32 → Int32 → Int32 → Int32 → Int32 → Int32 → Int32 → Int32 → Int32 → Int32 → Int32 → Int32 → Int32 → Int32 → Int32 → Int32 → (Nat → Int32) → (Nat → Int32) → (Nat → Int32) → (Nat → Int32) → (Nat → Int32) → (Nat → Int32) → (Nat → Int32) → (Nat → Int32) → (Nat → Int32) → (Nat → Int32) → (Nat → Int32) → (Nat → Int32) → (Nat → Int32) → (Nat → Int32) → (Nat → Int32) → (Nat → Int32) → (Nat → Int32) → (Nat → Int32) → (Nat → Int32) → (Nat → Int32) → (Nat → Int32) → (Nat → Int32) → (Nat → Int32) → (Nat → Int32) → (Nat → Int32) → (Nat → Int32) → (Nat → Int32) → (Nat → Int64) → (Nat → Int64) → (Nat → Int64) → (Nat → Int32) → (Nat → Int32) → Prop} (ok : gr_ok G) (hX : xa_ok G m ord pl a_order a_place a_before) (hmg : ∀ y j, y < 16 → (bt (a_merging y) j = true ↔ (j < 6 ∧ gr_J G j y))) (hout : ∀ y, gr_M G y → ∀ v, v < 6 → a_out (6 * y + v) = nI (ne_ G ni y v)) (hne : ∀ y, gr_M G y → ∀ v, v < 6 → ne_ G ni y v < 166) (hx : x < 16) (U : Nat → Nat → Prop)
    (K : ∀ a_usedByLow a_usedByHigh : Nat → Int64, (∀ n y, n < 166 → y < 96 → (um_ a_usedByLow a_usedByHigh n y = true ↔ (U n y ∨ ∃ v p, v < 6 ∧ y = 6 * x + v ∧ gr_J G v x ∧ gr_M G p ∧ gr_E G p x ∧ ne_ G ni p v = n))) → J45 (nI (k + 1)) f_blocks f_given f_known f_met f_openEdges f_openBlocks f_first f_last f_openCount f_firstEdge f_lastEdge f_result f_begun f_latest f_inputs a_op a_d a_b a_many a_kind a_asks a_target a_a a_order a_place a_parent a_depths a_living a_needs a_merging a_stack a_next a_before a_frontiers a_in a_out a_nameA a_nameB a_queue a_state a_worth a_usedByExit a_usedBySet a_usedByLow a_usedByHigh a_edges a_now) :
    ∀ n v (a_usedByLow a_usedByHigh : Nat → Int64), 6 < n + v → v ≤ 6 → (∀ n y, n < 166 → y < 96 → (um_ a_usedByLow a_usedByHigh n y = true ↔ (U n y ∨ ∃ w p, w < v ∧ y = 6 * x + w ∧ gr_J G w x ∧ gr_M G p ∧ gr_E G p x ∧ ne_ G ni p w = n))) → wX_findUses_175 post J45 (nI k) (nI x) n (nI v) f_blocks f_given f_known f_met f_openEdges f_openBlocks f_first f_last f_openCount f_firstEdge f_lastEdge f_result f_begun f_latest f_inputs a_op a_d a_b a_many a_kind a_asks a_target a_a a_order a_place a_parent a_depths a_living a_needs a_merging a_stack a_next a_before a_frontiers a_in a_out a_nameA a_nameB a_queue a_state a_worth a_usedByExit a_usedBySet a_usedByLow a_usedByHigh a_edges a_now := by
  intro n
  induction n with
  | zero => intro v _ _ h1 h2; omega
  | succ n ih =>
    intro v a_usedByLow a_usedByHigh h1 h2 hA
    rw [wX_findUses_175]
    refine pk_le 6 v (fun h => ?_) (fun h => ?_)
    · have e : v = 6 := by omega
      subst e
      exact nm_r (nI_1 k) (K a_usedByLow a_usedByHigh hA)
    · rw [fn_c (a := x) (by omega)]
      refine ⟨vp_in_nI hx (by omega), fb_1 (by omega) (fun hb => ?_) (fun hb => ?_)⟩
      · have hJ := ((hmg x v hx).mp hb).2
        refine xu_noteMerge ok hX hout hne hx h _ hA (fun lo hi hA' => ?_)
        refine nm_r (nI_1 v) (ih (v + 1) lo hi (by omega) (by omega) (fun n y hn hy => (hA' n y hn hy).trans ?_))
        constructor
        · rintro ((z | ⟨w, p, hw, z⟩) | ⟨z, p, h5, h6, h7⟩)
          · exact Or.inl z
          · exact Or.inr ⟨w, p, by omega, z⟩
          · exact Or.inr ⟨v, p, by omega, z, hJ, h5, h6, h7⟩
        · rintro (z | ⟨w, p, hw, z, z2, h5, h6, h7⟩)
          · exact Or.inl (Or.inl z)
          · by_cases c : w = v
            · subst c
              exact Or.inr ⟨z, p, h5, h6, h7⟩
            · exact Or.inl (Or.inr ⟨w, p, by omega, z, z2, h5, h6, h7⟩)
      · have hJ : ¬ gr_J G v x := fun z => by
          rw [(hmg x v hx).mpr ⟨h, z⟩] at hb
          exact absurd hb (by decide)
        refine nm_r (nI_1 v) (ih (v + 1) _ _ (by omega) (by omega) (fun n y hn hy => (hA n y hn hy).trans ?_))
        constructor
        · rintro (z | ⟨w, p, hw, z⟩)
          · exact Or.inl z
          · exact Or.inr ⟨w, p, by omega, z⟩
        · rintro (z | ⟨w, p, hw, z, z2, z3⟩)
          · exact Or.inl z
          · refine Or.inr ⟨w, p, ?_, z, z2, z3⟩
            by_cases c : w = v
            · rw [c] at z2; exact absurd z2 hJ
            · omega
/-- the uses by the blocks of the first k places -/
def us_3 (G : gr_T) (ni : Nat → Nat → Nat) (S : Nat → Prop) (a_usedByExit : Nat → Int32) (a_usedBySet a_usedByLow a_usedByHigh : Nat → Int64) : Prop :=
  (∀ n i, n < 166 → i < 64 → (fl_b (a_usedBySet n) i = true ↔ ∃ x j, gr_M G x ∧ S x ∧ j < gr_mn G x ∧ i = 4 * x + j ∧ (nA_ G ni x j = nI n ∨ nB_ G ni x j = nI n))) ∧
  (∀ n x, n < 166 → x < 16 → (bt (a_usedByExit n) x = true ↔ (S x ∧ us_E G ni n x))) ∧
  (∀ n y, n < 166 → y < 96 → (um_ a_usedByLow a_usedByHigh n y = true ↔ ∃ x v p, gr_M G x ∧ S x ∧ v < 6 ∧ y = 6 * x + v ∧ gr_J G v x ∧ gr_M G p ∧ gr_E G p x ∧ ne_ G ni p v = n))
theorem xu_64 {J45 : Int32 → Int32 → Int32 → Int32 → Int32 → Int32 → Int32 → Int32 → Int32 → Int32 → Int32 → Int32 → Int32 → Int32 → Int32 → Int32 → (Nat → Int32) → (Nat → Int32) → (Nat → Int32) → (Nat → Int32) → (Nat → Int32) → (Nat → Int32) → (Nat → Int32) → (Nat → Int32) → (Nat → Int32) → (Nat → Int32) → (Nat → Int32) → (Nat → Int32) → (Nat → Int32) → (Nat → Int32) → (Nat → Int32) → (Nat → Int32) → (Nat → Int32) → (Nat → Int32) → (Nat → Int32) → (Nat → Int32) → (Nat → Int32) → (Nat → Int32) → (Nat → Int32) → (Nat → Int32) → (Nat → Int32) → (Nat → Int32) → (Nat → Int32) → (Nat → Int64) → (Nat → Int64) → (Nat → Int64) → (Nat → Int32) → (Nat → Int32) → Prop} (X : xp_ok G f_blocks f_given a_op a_d a_b a_many a_kind a_asks a_target a_a) (hX : xa_ok G m ord pl a_order a_place a_before) (hmg : ∀ y j, y < 16 → (bt (a_merging y) j = true ↔ (j < 6 ∧ gr_J G j y))) (hN : ∀ x, gr_M G x → gn_B G ni x a_in a_out a_nameA a_nameB) (hlt : ∀ x, gr_M G x → ∀ v, v < 6 → ni x v < 166) (hx : gr_M G x) (S : Nat → Prop) (hS : ¬ S x)
    (K : ∀ (a_usedByExit : Nat → Int32) (a_usedBySet a_usedByLow a_usedByHigh : Nat → Int64), us_3 G ni (fun y => S y ∨ y = x) a_usedByExit a_usedBySet a_usedByLow a_usedByHigh → J45 (nI (k + 1)) f_blocks f_given f_known f_met f_openEdges f_openBlocks f_first f_last f_openCount f_firstEdge f_lastEdge f_result f_begun f_latest f_inputs a_op a_d a_b a_many a_kind a_asks a_target a_a a_order a_place a_parent a_depths a_living a_needs a_merging a_stack a_next a_before a_frontiers a_in a_out a_nameA a_nameB a_queue a_state a_worth a_usedByExit a_usedBySet a_usedByLow a_usedByHigh a_edges a_now) (hE : ∀ n x, n < 166 → x < 16 → (bt (a_usedByExit n) x = true ↔ (S x ∧ us_E G ni n x))) (hM : ∀ n y, n < 166 → y < 96 → (um_ a_usedByLow a_usedByHigh n y = true ↔ ∃ x v p, gr_M G x ∧ S x ∧ v < 6 ∧ y = 6 * x + v ∧ gr_J G v x ∧ gr_M G p ∧ gr_E G p x ∧ ne_ G ni p v = n)) :
    ∀ n i (a_usedBySet : Nat → Int64), gr_mn G x < n + i → i ≤ gr_mn G x → (∀ n q, n < 166 → q < 64 → (fl_b (a_usedBySet n) q = true ↔ ∃ y j, gr_M G y ∧ (S y ∨ (y = x ∧ j < i)) ∧ j < gr_mn G y ∧ q = 4 * y + j ∧ (nA_ G ni y j = nI n ∨ nB_ G ni y j = nI n))) → wX_findUses_64 post J45 (nI k) (nI x) f_blocks f_given f_known f_met f_openEdges f_openBlocks f_first f_last f_openCount f_firstEdge f_lastEdge f_result f_begun f_latest f_inputs n (nI (4 * x + i)) a_op a_d a_b a_many a_kind a_asks a_target a_a a_order a_place a_parent a_depths a_living a_needs a_merging a_stack a_next a_before a_frontiers a_in a_out a_nameA a_nameB a_queue a_state a_worth a_usedByExit a_usedBySet a_usedByLow a_usedByHigh a_edges a_now := by
  have ok := X.1
  have hn16 := ok.1
  have hxn := gr_Mlt ok hx
  have hB := ok.2.2 x hxn
  have h4 := hB.1
  have hak := hB.2.2.1
  have hkd := hB.2.1
  have cx : (nI x).toNatClampNeg = x := fn_c (by omega)
  have ix : vp_in (nI x) 16 := vp_in_nI (by omega) (by omega)
  have hout : ∀ y, gr_M G y → ∀ v, v < 6 → a_out (6 * y + v) = nI (ne_ G ni y v) := fun y hy v hv => ((hN y hy).1 v hv).2
  have hne : ∀ y, gr_M G y → ∀ v, v < 6 → ne_ G ni y v < 166 := fun y hy v hv => nb_lt ok (gr_Mlt ok hy) (hlt y hy) _ (Nat.le_refl _) v hv
  intro n
  induction n with
  | zero => intro i _ h1 h2; omega
  | succ n ih =>
    intro i a_usedBySet h1 h2 hA
    rw [wX_findUses_64]
    dsimp only
    rw [cx, X.2.2.2.1 x hxn, X.2.2.2.2.1 x hxn, X.2.2.2.2.2.1 x hxn, fn_42]
    refine ⟨ix, pk_le (4 * x + gr_mn G x) (4 * x + i) (fun h => ?_) (fun h => ?_)⟩
    · have e : i = gr_mn G x := by omega
      subst e
      have hA' : ∀ n q, n < 166 → q < 64 → (fl_b (a_usedBySet n) q = true ↔ ∃ y j, gr_M G y ∧ (S y ∨ y = x) ∧ j < gr_mn G y ∧ q = 4 * y + j ∧ (nA_ G ni y j = nI n ∨ nB_ G ni y j = nI n)) := by
        intro n q hn hq
        rw [hA n q hn hq]
        constructor
        · rintro ⟨y, j, h5, h6, h7⟩
          exact ⟨y, j, h5, h6.elim Or.inl (fun z => Or.inr z.1), h7⟩
        · rintro ⟨y, j, h5, h6, h7⟩
          refine ⟨y, j, h5, h6.elim Or.inl (fun z => Or.inr ⟨z, ?_⟩), h7⟩
          rw [z] at h7
          exact h7.1
      have hM' : ∀ (lo hi : Nat → Int64), (∀ n y, n < 166 → y < 96 → (um_ lo hi n y = true ↔ ((∃ x v p, gr_M G x ∧ S x ∧ v < 6 ∧ y = 6 * x + v ∧ gr_J G v x ∧ gr_M G p ∧ gr_E G p x ∧ ne_ G ni p v = n) ∨ ∃ v p, v < 6 ∧ y = 6 * x + v ∧ gr_J G v x ∧ gr_M G p ∧ gr_E G p x ∧ ne_ G ni p v = n))) → (∀ n y, n < 166 → y < 96 → (um_ lo hi n y = true ↔ ∃ z v p, gr_M G z ∧ (S z ∨ z = x) ∧ v < 6 ∧ y = 6 * z + v ∧ gr_J G v z ∧ gr_M G p ∧ gr_E G p z ∧ ne_ G ni p v = n)) := by
        intro lo hi h5 n y hn hy
        rw [h5 n y hn hy]
        constructor
        · rintro (⟨z, v, p, h6, h7, h8⟩ | ⟨v, p, h8⟩)
          · exact ⟨z, v, p, h6, Or.inl h7, h8⟩
          · exact ⟨x, v, p, hx, Or.inr rfl, h8⟩
        · rintro ⟨z, v, p, h6, h7 | h7, h8⟩
          · exact Or.inl ⟨z, v, p, h6, h7, h8⟩
          · subst h7
            exact Or.inr ⟨v, p, h8⟩
      refine ⟨ix, pk_eq (gr_kd G x) 1 (fun hk1 => ⟨7, ?_⟩) (fun hk1 => ⟨ix, ?_⟩)⟩
      · refine xu_175 ok hX hmg hout hne (by omega) _ (fun lo hi hU => K a_usedByExit a_usedBySet lo hi ⟨hA', fun n y hn hy => (hE n y hn hy).trans ?_, hM' lo hi hU⟩) 7 0 a_usedByLow a_usedByHigh (by omega) (by omega) (fun n y hn hy => (hM n y hn hy).trans ⟨Or.inl, fun z => z.elim id (fun ⟨_, _, z, _⟩ => by omega)⟩)
        constructor
        · rintro ⟨h5, h6⟩
          exact ⟨Or.inl h5, h6⟩
        · rintro ⟨h5, h6⟩
          refine ⟨h5.resolve_right (fun z => ?_), h6⟩
          rw [z] at h6
          exact h6.2.1 hk1
      · rw [fn_62, fn_c (by omega), hout x hx _ hak]
        have hw := hne x hx _ hak
        have iw : vp_in (nI (ne_ G ni x (gr_ak G x))) 166 := vp_in_nI hw (by omega)
        rw [fn_c (a := ne_ G ni x (gr_ak G x)) (by omega)]
        refine ⟨vp_in_nI (by omega) (by omega), iw, iw, nm_e ⟨7, ?_⟩⟩
        refine xu_175 ok hX hmg hout hne (by omega) _ (fun lo hi hU => K _ a_usedBySet lo hi ⟨hA', fun n y hn hy => ?_, hM' lo hi hU⟩) 7 0 a_usedByLow a_usedByHigh (by omega) (by omega) (fun n y hn hy => (hM n y hn hy).trans ⟨Or.inl, fun z => z.elim id (fun ⟨_, _, z, _⟩ => by omega)⟩)
        rw [fb_upd (by omega) (by omega), hE n y hn hy]
        constructor
        · rintro (⟨h5, h6⟩ | ⟨h5, h6⟩)
          · exact ⟨Or.inl h5, h6⟩
          · rw [h6]
            exact ⟨Or.inr rfl, hx, hk1, h5.symm⟩
        · rintro ⟨h5 | h5, h6⟩
          · exact Or.inl ⟨h5, h6⟩
          · rw [h5] at h6
            exact Or.inr ⟨h6.2.2.symm, h5⟩
    · have hi : i < gr_mn G x := by omega
      have ci : (nI (4 * x + i)).toNatClampNeg = 4 * x + i := fn_c (by omega)
      have ii : vp_in (nI (4 * x + i)) 64 := vp_in_nI (by omega) (by omega)
      have hI := hB.2.2.2.2 i hi
      have hnm := (hN x hx).2 i hi
      have hnlt : ∀ v, v < 6 → nb_ G ni x i v < 166 := nb_lt ok hxn (hlt x hx) i (by omega)
      have hneg : ∀ n : Nat, n < 166 → ¬ (-1 : Int32) = nI n := fun n hn z => fn_ne (by omega) z.symm
      have k104 : ∀ a_usedBySet : Nat → Int64, (∀ n q, n < 166 → q < 64 → (fl_b (a_usedBySet n) q = true ↔ ((∃ y j, gr_M G y ∧ (S y ∨ (y = x ∧ j < i)) ∧ j < gr_mn G y ∧ q = 4 * y + j ∧ (nA_ G ni y j = nI n ∨ nB_ G ni y j = nI n)) ∨ (q = 4 * x + i ∧ nA_ G ni x i = nI n)))) → wX_findUses_104 post J45 (wX_findUses_64 post J45 (nI k) (nI x) f_blocks f_given f_known f_met f_openEdges f_openBlocks f_first f_last f_openCount f_firstEdge f_lastEdge f_result f_begun f_latest f_inputs n) (nI k) (nI x) (nI (4 * x + i)) f_blocks f_given f_known f_met f_openEdges f_openBlocks f_first f_last f_openCount f_firstEdge f_lastEdge f_result f_begun f_latest f_inputs a_op a_d a_b a_many a_kind a_asks a_target a_a a_order a_place a_parent a_depths a_living a_needs a_merging a_stack a_next a_before a_frontiers a_in a_out a_nameA a_nameB a_queue a_state a_worth a_usedByExit a_usedBySet a_usedByLow a_usedByHigh a_edges a_now := by
        intro a_usedBySet hA1
        rw [wX_findUses_104, ci, hnm.2]
        have fin : ∀ (a : Nat → Int64), (∀ n q, n < 166 → q < 64 → (fl_b (a n) q = true ↔ (fl_b (a_usedBySet n) q = true ∨ (q = 4 * x + i ∧ nB_ G ni x i = nI n)))) → (∀ n q, n < 166 → q < 64 → (fl_b (a n) q = true ↔ ∃ y j, gr_M G y ∧ (S y ∨ (y = x ∧ j < i + 1)) ∧ j < gr_mn G y ∧ q = 4 * y + j ∧ (nA_ G ni y j = nI n ∨ nB_ G ni y j = nI n))) := by
          intro a ha n q hn hq
          rw [ha n q hn hq, hA1 n q hn hq]
          constructor
          · rintro ((⟨y, j, h5, h6, h7⟩ | ⟨h5, h6⟩) | ⟨h5, h6⟩)
            · exact ⟨y, j, h5, h6.elim Or.inl (fun z => Or.inr ⟨z.1, by omega⟩), h7⟩
            · exact ⟨x, i, hx, Or.inr ⟨rfl, by omega⟩, hi, h5, Or.inl h6⟩
            · exact ⟨x, i, hx, Or.inr ⟨rfl, by omega⟩, hi, h5, Or.inr h6⟩
          · rintro ⟨y, j, h5, h6 | ⟨h6, h7⟩, h8, h9, h10⟩
            · exact Or.inl (Or.inl ⟨y, j, h5, Or.inl h6, h8, h9, h10⟩)
            · by_cases c : j = i
              · subst c
                subst h6
                exact h10.elim (fun z => Or.inl (Or.inr ⟨h9, z⟩)) (fun z => Or.inr ⟨h9, z⟩)
              · exact Or.inl (Or.inl ⟨y, j, h5, Or.inr ⟨h6, by omega⟩, h8, h9, h10⟩)
        refine ⟨ii, ?_⟩
        by_cases c : gr_op G (4 * x + i) < 2 ∨ gr_op G (4 * x + i) = 7
        · have eB : nB_ G ni x i = -1 := if_pos c
          rw [eB]
          refine br_t (by decide) (nm_r (nI_1 _) (ih (i + 1) _ (by omega) (by omega) (fin _ (fun n q hn hq => ⟨Or.inl, fun z => z.elim id (fun w => ?_)⟩))))
          rw [eB] at w
          exact absurd w.2 (hneg n hn)
        · have eB : nB_ G ni x i = nI (nb_ G ni x i (gr_bb G (4 * x + i))) := if_neg c
          have hw := hnlt _ hI.2.2.1
          rw [eB]
          have iw : vp_in (nI (nb_ G ni x i (gr_bb G (4 * x + i)))) 166 := vp_in_nI hw (by omega)
          rw [fn_c (a := nb_ G ni x i (gr_bb G (4 * x + i))) (by omega)]
          refine br_f (nI_pos (by omega)) ⟨ii, iw, iw, nm_e (nm_r (nI_1 _) (ih (i + 1) _ (by omega) (by omega) (fin _ (fun n q hn hq => ?_))))⟩
          rw [fl_upd (by omega) hq, eB, nI_eq (by omega) (by omega)]
          exact ⟨fun z => z.elim Or.inl (fun w => Or.inr ⟨w.2, w.1.symm⟩), fun z => z.elim Or.inl (fun w => Or.inr ⟨w.2.symm, w.1⟩)⟩
      rw [ci, hnm.1]
      refine ⟨ii, ?_⟩
      by_cases c : gr_op G (4 * x + i) = 0 ∨ gr_op G (4 * x + i) = 7
      · have eA : nA_ G ni x i = -1 := if_pos c
        rw [eA]
        refine br_t (by decide) (k104 _ (fun n q hn hq => (hA n q hn hq).trans ⟨Or.inl, fun z => z.elim id (fun w => ?_)⟩))
        rw [eA] at w
        exact absurd w.2 (hneg n hn)
      · have eA : nA_ G ni x i = nI (nb_ G ni x i (gr_av G (4 * x + i))) := if_neg c
        have ha := hI.2.2.2 (fun z => c (Or.inl z)) (fun z => c (Or.inr z))
        have hw := hnlt _ ha.2
        rw [eA]
        have iw : vp_in (nI (nb_ G ni x i (gr_av G (4 * x + i)))) 166 := vp_in_nI hw (by omega)
        rw [fn_c (a := nb_ G ni x i (gr_av G (4 * x + i))) (by omega)]
        refine br_f (nI_pos (by omega)) ⟨ii, iw, iw, nm_e (k104 _ (fun n q hn hq => ?_))⟩
        rw [fl_upd (by omega) hq, hA n q hn hq, eA, nI_eq (by omega) (by omega)]
        exact ⟨fun z => z.elim Or.inl (fun w => Or.inr ⟨w.2, w.1.symm⟩), fun z => z.elim Or.inl (fun w => Or.inr ⟨w.2.symm, w.1⟩)⟩
theorem xu_45 (X : xp_ok G f_blocks f_given a_op a_d a_b a_many a_kind a_asks a_target a_a) (hX : xa_ok G m ord pl a_order a_place a_before) (hmg : ∀ y j, y < 16 → (bt (a_merging y) j = true ↔ (j < 6 ∧ gr_J G j y))) (hN : ∀ x, gr_M G x → gn_B G ni x a_in a_out a_nameA a_nameB) (hlt : ∀ x, gr_M G x → ∀ v, v < 6 → ni x v < 166)
    (K : ∀ (a_usedByExit : Nat → Int32) (a_usedBySet a_usedByLow a_usedByHigh : Nat → Int64), us_3 G ni (fun _ => True) a_usedByExit a_usedBySet a_usedByLow a_usedByHigh → post (f_blocks, f_given, f_known, nI m, f_openEdges, f_openBlocks, f_first, f_last, f_openCount, f_firstEdge, f_lastEdge, f_result, f_begun, f_latest, f_inputs, a_op, a_d, a_b, a_many, a_kind, a_asks, a_target, a_a, a_order, a_place, a_parent, a_depths, a_living, a_needs, a_merging, a_stack, a_next, a_before, a_frontiers, a_in, a_out, a_nameA, a_nameB, a_queue, a_state, a_worth, a_usedByExit, a_usedBySet, a_usedByLow, a_usedByHigh, a_edges, a_now)) :
    ∀ n k (a_usedByExit : Nat → Int32) (a_usedBySet a_usedByLow a_usedByHigh : Nat → Int64), m < n + k → k ≤ m → us_3 G ni (fun y => pl y < k ∧ gr_M G y) a_usedByExit a_usedBySet a_usedByLow a_usedByHigh → wX_findUses_45 post n (nI k) f_blocks f_given f_known (nI m) f_openEdges f_openBlocks f_first f_last f_openCount f_firstEdge f_lastEdge f_result f_begun f_latest f_inputs a_op a_d a_b a_many a_kind a_asks a_target a_a a_order a_place a_parent a_depths a_living a_needs a_merging a_stack a_next a_before a_frontiers a_in a_out a_nameA a_nameB a_queue a_state a_worth a_usedByExit a_usedBySet a_usedByLow a_usedByHigh a_edges a_now := by
  have ok := X.1
  have hn16 := ok.1
  have O := hX.1
  have hmn := O.1
  intro n
  induction n with
  | zero => intro k _ _ _ _ h1 h2; omega
  | succ n ih =>
    intro k a_usedByExit a_usedBySet a_usedByLow a_usedByHigh h1 hk hU
    rw [wX_findUses_45]
    refine pk_le m k (fun h => ?_) (fun h => ?_)
    · have hall : ∀ y, gr_M G y → pl y < k := fun y hy => by have := (or_M O ok hy).1; omega
      refine K _ _ _ _ ⟨fun n i hn hi => (hU.1 n i hn hi).trans ?_, fun n x hn hx => (hU.2.1 n x hn hx).trans ?_, fun n y hn hy => (hU.2.2 n y hn hy).trans ?_⟩
      · exact ⟨fun ⟨x, j, h5, _, h7⟩ => ⟨x, j, h5, trivial, h7⟩, fun ⟨x, j, h5, _, h7⟩ => ⟨x, j, h5, ⟨hall x h5, h5⟩, h7⟩⟩
      · exact ⟨fun z => ⟨trivial, z.2⟩, fun z => ⟨⟨hall x z.2.1, z.2.1⟩, z.2⟩⟩
      · exact ⟨fun ⟨x, v, p, h5, _, h7⟩ => ⟨x, v, p, h5, trivial, h7⟩, fun ⟨x, v, p, h5, _, h7⟩ => ⟨x, v, p, h5, ⟨hall x h5, h5⟩, h7⟩⟩
    · have hxn := (O.2.2.1 k h).1
      have hpk := (O.2.2.1 k h).2
      have hMx := or_m O k h
      have h4 := (ok.2.2 _ hxn).1
      have c1 : (nI k).toNatClampNeg = k := fn_c (by omega)
      rw [c1]
      refine ⟨vp_in_nI (by omega) (by omega), nm_r (e' := nI (ord k)) (hX.2.1 k h) (nm_r (e' := nI (4 * ord k + 0)) (by rw [fn_4]; rfl) ⟨5, ?_⟩)⟩
      refine xu_64 X hX hmg hN hlt hMx (fun y => pl y < k ∧ gr_M G y) (fun z => by omega) (fun a b c d hU' => ih (k + 1) a b c d (by omega) (by omega) ?_) hU.2.1 hU.2.2 5 0 a_usedBySet (by omega) (by omega) (fun n q hn hq => (hU.1 n q hn hq).trans ?_)
      · have hiff : ∀ y, ((pl y < k ∧ gr_M G y) ∨ y = ord k) ↔ (pl y < k + 1 ∧ gr_M G y) := by
          intro y
          constructor
          · rintro (z | z)
            · exact ⟨by omega, z.2⟩
            · rw [z]; exact ⟨by omega, hMx⟩
          · rintro ⟨z1, z2⟩
            by_cases c : pl y = k
            · have := (or_M O ok z2).2
              rw [c] at this
              exact Or.inr this.symm
            · exact Or.inl ⟨by omega, z2⟩
        have e : (fun y => (pl y < k ∧ gr_M G y) ∨ y = ord k) = (fun y => pl y < k + 1 ∧ gr_M G y) := funext (fun y => propext (hiff y))
        rw [e] at hU'
        exact hU'
      · exact ⟨fun ⟨y, j, h5, h6, h7⟩ => ⟨y, j, h5, Or.inl h6, h7⟩, fun ⟨y, j, h5, h6, h7⟩ => ⟨y, j, h5, h6.resolve_right (fun z => by omega), h7⟩⟩
theorem xu_2 (K : ∃ n45 : Nat, wX_findUses_45 post n45 0 f_blocks f_given f_known f_met f_openEdges f_openBlocks f_first f_last f_openCount f_firstEdge f_lastEdge f_result f_begun f_latest f_inputs a_op a_d a_b a_many a_kind a_asks a_target a_a a_order a_place a_parent a_depths a_living a_needs a_merging a_stack a_next a_before a_frontiers a_in a_out a_nameA a_nameB a_queue a_state a_worth (cl_ 0 166 a_usedByExit) (cl_L 0 166 a_usedBySet) (cl_L 0 166 a_usedByLow) (cl_L 0 166 a_usedByHigh) a_edges a_now) :
    ∀ n i, 166 < n + i → i ≤ 166 → wX_findUses_2 post f_blocks f_given f_known f_met f_openEdges f_openBlocks f_first f_last f_openCount f_firstEdge f_lastEdge f_result f_begun f_latest f_inputs n (nI i) a_op a_d a_b a_many a_kind a_asks a_target a_a a_order a_place a_parent a_depths a_living a_needs a_merging a_stack a_next a_before a_frontiers a_in a_out a_nameA a_nameB a_queue a_state a_worth (cl_ 0 i a_usedByExit) (cl_L 0 i a_usedBySet) (cl_L 0 i a_usedByLow) (cl_L 0 i a_usedByHigh) a_edges a_now := by
  intro n
  induction n with
  | zero => intro i h1 h2; omega
  | succ n ih =>
    intro i h1 h2
    rw [wX_findUses_2]
    refine pk_le 166 i (fun h => ?_) (fun h => ?_)
    · have e : i = 166 := by omega
      subst e
      exact K
    · have c : (nI i).toNatClampNeg = i := fn_c (by omega)
      have hin : vp_in (nI i) 166 := vp_in_nI (by omega) (by omega)
      rw [c]
      exact ⟨hin, nm_r cl_Ls ⟨hin, nm_r cl_Ls ⟨hin, nm_r cl_Ls ⟨hin, nm_r cl_s (nm_r (nI_1 i) (ih (i + 1) (by omega) (by omega)))⟩⟩⟩⟩
theorem xu_findUses (X : xp_ok G f_blocks f_given a_op a_d a_b a_many a_kind a_asks a_target a_a) (hX : xa_ok G m ord pl a_order a_place a_before) (hmg : ∀ y j, y < 16 → (bt (a_merging y) j = true ↔ (j < 6 ∧ gr_J G j y))) (hN : ∀ x, gr_M G x → gn_B G ni x a_in a_out a_nameA a_nameB) (hlt : ∀ x, gr_M G x → ∀ v, v < 6 → ni x v < 166)
    (K : ∀ (a_usedByExit : Nat → Int32) (a_usedBySet a_usedByLow a_usedByHigh : Nat → Int64), us_3 G ni (fun _ => True) a_usedByExit a_usedBySet a_usedByLow a_usedByHigh → post (f_blocks, f_given, f_known, nI m, f_openEdges, f_openBlocks, f_first, f_last, f_openCount, f_firstEdge, f_lastEdge, f_result, f_begun, f_latest, f_inputs, a_op, a_d, a_b, a_many, a_kind, a_asks, a_target, a_a, a_order, a_place, a_parent, a_depths, a_living, a_needs, a_merging, a_stack, a_next, a_before, a_frontiers, a_in, a_out, a_nameA, a_nameB, a_queue, a_state, a_worth, a_usedByExit, a_usedBySet, a_usedByLow, a_usedByHigh, a_edges, a_now)) : wpX_findUses post (f_blocks, f_given, f_known, nI m, f_openEdges, f_openBlocks, f_first, f_last, f_openCount, f_firstEdge, f_lastEdge, f_result, f_begun, f_latest, f_inputs, a_op, a_d, a_b, a_many, a_kind, a_asks, a_target, a_a, a_order, a_place, a_parent, a_depths, a_living, a_needs, a_merging, a_stack, a_next, a_before, a_frontiers, a_in, a_out, a_nameA, a_nameB, a_queue, a_state, a_worth, a_usedByExit, a_usedBySet, a_usedByLow, a_usedByHigh, a_edges, a_now) := by
  show ∃ n2 : Nat, wX_findUses_2 post f_blocks f_given f_known (nI m) f_openEdges f_openBlocks f_first f_last f_openCount f_firstEdge f_lastEdge f_result f_begun f_latest f_inputs n2 0 a_op a_d a_b a_many a_kind a_asks a_target a_a a_order a_place a_parent a_depths a_living a_needs a_merging a_stack a_next a_before a_frontiers a_in a_out a_nameA a_nameB a_queue a_state a_worth a_usedByExit a_usedBySet a_usedByLow a_usedByHigh a_edges a_now
  have e0 := xu_2 (post := post) (f_blocks := f_blocks) (f_given := f_given) (f_known := f_known) (f_met := (nI m)) (f_openEdges := f_openEdges) (f_openBlocks := f_openBlocks) (f_first := f_first) (f_last := f_last) (f_openCount := f_openCount) (f_firstEdge := f_firstEdge) (f_lastEdge := f_lastEdge) (f_result := f_result) (f_begun := f_begun) (f_latest := f_latest) (f_inputs := f_inputs) (a_op := a_op) (a_d := a_d) (a_b := a_b) (a_many := a_many) (a_kind := a_kind) (a_asks := a_asks) (a_target := a_target) (a_a := a_a) (a_order := a_order) (a_place := a_place) (a_parent := a_parent) (a_depths := a_depths) (a_living := a_living) (a_needs := a_needs) (a_merging := a_merging) (a_stack := a_stack) (a_next := a_next) (a_before := a_before) (a_frontiers := a_frontiers) (a_in := a_in) (a_out := a_out) (a_nameA := a_nameA) (a_nameB := a_nameB) (a_queue := a_queue) (a_state := a_state) (a_worth := a_worth) (a_usedByExit := a_usedByExit) (a_usedBySet := a_usedBySet) (a_usedByLow := a_usedByLow) (a_usedByHigh := a_usedByHigh) (a_edges := a_edges) (a_now := a_now) ⟨m + 1, xu_45 X hX hmg hN hlt K (m + 1) 0 _ _ _ _ (by omega) (by omega) ⟨fun n i hn hi => ?_, fun n x hn hx => ?_, fun n y hn hy => ?_⟩⟩ 167 0 (by omega) (by omega)
  · rw [cl_0, cl_L0, cl_L0, cl_L0] at e0
    exact ⟨167, e0⟩
  · rw [cl_Ll hn, fl_0]
    exact ⟨fun z => absurd z (by decide), fun ⟨_, _, _, z, _⟩ => by omega⟩
  · rw [cl_l hn, b_0]
    exact ⟨fun z => absurd z (by decide), fun z => by have := z.1.1; omega⟩
  · unfold um_
    rw [cl_Ll hn, cl_Ll hn, fl_0, fl_0]
    exact ⟨fun z => by simp at z, fun ⟨_, _, _, _, z, _⟩ => by omega⟩
end
end
section
/-! the search for values: names' states, their worth, the queue, the edges' queue, the open edges -/
abbrev vc_T : Type := (Nat → Nat) × (Nat → Int32) × (Nat → Nat) × Nat × (Nat → Nat) × Nat × Int32
def vc_st (c : vc_T) : Nat → Nat := c.1
def vc_wo (c : vc_T) : Nat → Int32 := c.2.1
def vc_qu (c : vc_T) : Nat → Nat := c.2.2.1
def vc_L (c : vc_T) : Nat := c.2.2.2.1
def vc_eq (c : vc_T) : Nat → Nat := c.2.2.2.2.1
def vc_LE (c : vc_T) : Nat := c.2.2.2.2.2.1
def vc_oe (c : vc_T) : Int32 := c.2.2.2.2.2.2
def vc_v (c : vc_T) (n : Nat) : Option Int32 := vx_ (vc_st c) (vc_wo c) n
def vc_pq (F : Nat) (c : vc_T) (n : Nat) : Prop := ∃ j, F ≤ j ∧ j < vc_L c ∧ vc_qu c j = n
def vc_pe (FE : Nat) (c : vc_T) (e : Nat) : Prop := ∃ j, FE ≤ j ∧ j < vc_LE c ∧ vc_eq c j = e
def vc_OE (c : vc_T) (e : Nat) : Prop := bt (vc_oe c) e = true
def vw_ (to : Nat) (w : Int32) : Option Int32 := if to = 2 then none else some w
def vc_K (G : gr_T) (ni : Nat → Nat → Nat) (ob EX : Nat → Prop) (c : vc_T) : Prop := ∀ y, ob y → gr_M G y ∧ (EX y ∨ ((∀ v, v < 6 → vc_st c (ni y v) ≠ 0) ∧ ∀ i, i < gr_mn G y → vc_st c (6 + (4 * y + i)) ≠ 0))
def vc_O (G : gr_T) (FE : Nat) (ob : Nat → Prop) (c : vc_T) : Prop := ∀ p j, p < 16 → j < 2 → vc_OE c (2 * p + j) → ob p ∧ j < gr_kd G p ∧ (ob (gr_tg G (2 * p + j)) ∨ vc_pe FE c (2 * p + j))
def vc_cS (G : gr_T) (ni : Nat → Nat → Nat) (c : vc_T) (y i : Nat) : Prop := vc_st c (6 + (4 * y + i)) ≠ 0 ∧ vl_le (vl_ev G (4 * y + i) (fun v => vc_v c (nb_ G ni y i v))) (vc_v c (6 + (4 * y + i)))
def vc_S (G : gr_T) (ni : Nat → Nat → Nat) (F : Nat) (ob : Nat → Prop) (ES : Nat → Nat → Prop) (c : vc_T) : Prop := ∀ y i, ob y → i < gr_mn G y → vc_cS G ni c y i ∨ (∃ v, gr_us G (4 * y + i) v ∧ vc_pq F c (nb_ G ni y i v)) ∨ ES y i
def vc_cM (G : gr_T) (ni : Nat → Nat → Nat) (c : vc_T) (p j v : Nat) : Prop := vc_st c (70 + (6 * gr_tg G (2 * p + j) + v)) ≠ 0 ∧ vl_le (vc_v c (ne_ G ni p v)) (vc_v c (70 + (6 * gr_tg G (2 * p + j) + v)))
def vc_M (G : gr_T) (ni : Nat → Nat → Nat) (F FE : Nat) (ob : Nat → Prop) (EM : Nat → Nat → Nat → Prop) (c : vc_T) : Prop := ∀ p j v, ob p → j < gr_kd G p → v < 6 → vc_OE c (2 * p + j) → gr_J G v (gr_tg G (2 * p + j)) → vc_cM G ni c p j v ∨ vc_pq F c (ne_ G ni p v) ∨ vc_pe FE c (2 * p + j) ∨ EM p j v
def vc_E (G : gr_T) (ni : Nat → Nat → Nat) (F : Nat) (ob EE : Nat → Prop) (c : vc_T) : Prop := ∀ x j, ob x → vl_ld G x j (vc_v c (ne_ G ni x (gr_ak G x))) → vc_OE c (2 * x + j) ∨ (gr_kd G x ≠ 1 ∧ vc_pq F c (ne_ G ni x (gr_ak G x))) ∨ EE x
def vc_Z (F FE : Nat) (c : vc_T) : Prop := (∀ n, n < 166 → vc_st c n ≤ 2) ∧ vc_L c ≤ sg_s (vc_st c) 166 ∧ F ≤ vc_L c ∧ vc_LE c = sg_s (fun e => b01 (vc_OE c e)) 32 ∧ FE ≤ vc_LE c ∧ ∀ k, k < vc_LE c → vc_OE c (vc_eq c k)
def vc_I (G : gr_T) (ni : Nat → Nat → Nat) (F FE : Nat) (ob EX : Nat → Prop) (ES : Nat → Nat → Prop) (EM : Nat → Nat → Nat → Prop) (EE : Nat → Prop) (c : vc_T) : Prop :=
  vx_low G ni (vc_st c) (vc_wo c) ob (vc_OE c) ∧ vc_K G ni ob EX c ∧ vc_O G FE ob c ∧ vc_S G ni F ob ES c ∧ vc_M G ni F FE ob EM c ∧ vc_E G ni F ob EE c ∧ vc_Z F FE c
/-- from c to c' -/
def vt_ (c c' : vc_T) : Prop := (∀ n, n < 166 → vc_st c n ≠ 0 → vc_st c' n ≠ 0 ∧ vl_le (vc_v c n) (vc_v c' n)) ∧ (∀ e, vc_OE c e → vc_OE c' e)
theorem vt_rf {c : vc_T} : vt_ c c := ⟨fun _ _ h => ⟨h, vl_rf⟩, fun _ h => h⟩
theorem vt_tr {a b c : vc_T} (h1 : vt_ a b) (h2 : vt_ b c) : vt_ a c := ⟨fun n hn h => ⟨(h2.1 n hn (h1.1 n hn h).1).1, vl_tr (h1.1 n hn h).2 (h2.1 n hn (h1.1 n hn h).1).2⟩, fun e h => h2.2 e (h1.2 e h)⟩
section
variable {G : gr_T} {ni : Nat → Nat → Nat} {F FE : Nat} {ob EX : Nat → Prop} {ES : Nat → Nat → Prop} {EM : Nat → Nat → Nat → Prop} {EE : Nat → Prop} {c : vc_T} {n to : Nat} {w : Int32}
/-- exemptions may grow -/
theorem vc_w {EX' : Nat → Prop} {ES' : Nat → Nat → Prop} {EM' : Nat → Nat → Nat → Prop} {EE' : Nat → Prop} (I : vc_I G ni F FE ob EX ES EM EE c) (h1 : ∀ y, EX y → EX' y) (h2 : ∀ y i, ES y i → ES' y i) (h3 : ∀ p j v, EM p j v → EM' p j v) (h4 : ∀ x, EE x → EE' x) : vc_I G ni F FE ob EX' ES' EM' EE' c := by
  obtain ⟨i1, i2, i3, i4, i5, i6, i7⟩ := I
  refine ⟨i1, fun y hy => ⟨(i2 y hy).1, (i2 y hy).2.elim (fun z => Or.inl (h1 y z)) Or.inr⟩, i3, fun y i hy hi => ?_, fun p j v a1 a2 a3 a4 a5 => ?_, fun x j hx hl => ?_, i7⟩
  · rcases i4 y i hy hi with z | z | z
    · exact Or.inl z
    · exact Or.inr (Or.inl z)
    · exact Or.inr (Or.inr (h2 y i z))
  · rcases i5 p j v a1 a2 a3 a4 a5 with z | z | z | z
    · exact Or.inl z
    · exact Or.inr (Or.inl z)
    · exact Or.inr (Or.inr (Or.inl z))
    · exact Or.inr (Or.inr (Or.inr (h3 p j v z)))
  · rcases i6 x j hx hl with z | z | z
    · exact Or.inl z
    · exact Or.inr (Or.inl z)
    · exact Or.inr (Or.inr (h4 x z))
def vc_r (c : vc_T) (n to : Nat) (w : Int32) : vc_T := (un_ (vc_st c) n (if vc_st c n = 1 then 2 else to), upd (vc_wo c) n w, un_ (vc_qu c) (vc_L c) n, vc_L c + 1, vc_eq c, vc_LE c, vc_oe c)
theorem vr_st : vc_st (vc_r c n to w) = un_ (vc_st c) n (if vc_st c n = 1 then 2 else to) := rfl
theorem vr_n {k : Nat} (h : k ≠ n) : vc_v (vc_r c n to w) k = vc_v c k := by
  show (if un_ (vc_st c) n _ k = 2 then none else some (upd (vc_wo c) n w k)) = _
  rw [un_n h, pk_un h]
  rfl
theorem vr_s : vc_v (vc_r c n to w) n = if vc_st c n = 1 then none else vw_ to w := by
  show (if un_ (vc_st c) n (if vc_st c n = 1 then 2 else to) n = 2 then none else some (upd (vc_wo c) n w n)) = _
  rw [un_s, pk_us]
  by_cases h : vc_st c n = 1
  · rw [if_pos h, if_pos h, if_pos rfl]
  · rw [if_neg h, if_neg h]
    rfl
theorem vr_pq (hF : F ≤ vc_L c) {k : Nat} : vc_pq F (vc_r c n to w) k ↔ (vc_pq F c k ∨ k = n) := by
  constructor
  · rintro ⟨j, h1, h2, h3⟩
    have h2' : j < vc_L c + 1 := h2
    have h3' : un_ (vc_qu c) (vc_L c) n j = k := h3
    by_cases e : j = vc_L c
    · rw [e, un_s] at h3'
      exact Or.inr h3'.symm
    · rw [un_n e] at h3'
      exact Or.inl ⟨j, h1, by omega, h3'⟩
  · rintro (⟨j, h1, h2, h3⟩ | h)
    · exact ⟨j, h1, Nat.lt_succ_of_lt h2, (un_n (Nat.ne_of_lt h2)).trans h3⟩
    · exact ⟨vc_L c, hF, Nat.lt_succ_self _, un_s.trans h.symm⟩
theorem vr_up (hz : vc_st c n ≤ 2) (hst : vc_st c n ≠ 2) {k : Nat} (hk : vc_st c k ≠ 0) : vc_st (vc_r c n to w) k ≠ 0 ∧ vl_le (vc_v c k) (vc_v (vc_r c n to w) k) := by
  by_cases e : k = n
  · rw [e] at hk ⊢
    have h : vc_st c n = 1 := by omega
    rw [vr_s, vr_st, un_s, if_pos h, if_pos h]
    exact ⟨by decide, vl_tp⟩
  · rw [vr_n e, vr_st, un_n e]
    exact ⟨hk, vl_rf⟩
theorem vc_rok (ok : gr_ok G) (hlt : ∀ x, gr_M G x → ∀ v, v < 6 → ni x v < 166) (I : vc_I G ni F FE ob EX ES EM EE c) (hn : n < 166) (hto : to = 1 ∨ to = 2) (hst : vc_st c n ≠ 2) (hch : ¬ (vc_st c n = to ∧ vc_wo c n = w)) (hlow : ∀ (O : Nat → Prop) (B : Nat → Nat → Option Int32), vl_cl G O B → vl_le (vw_ to w) (vl_D G B n)) :
    vc_I G ni F FE ob EX ES EM EE (vc_r c n to w) ∧ vt_ c (vc_r c n to w) ∧ vc_st (vc_r c n to w) n ≠ 0 ∧ vl_le (vw_ to w) (vc_v (vc_r c n to w) n) := by
  obtain ⟨i1, i2, i3, i4, i5, i6, i7⟩ := I
  have hn16 := ok.1
  have hz := i7.1 n hn
  have up : ∀ k, vc_st c k ≠ 0 → vc_st (vc_r c n to w) k ≠ 0 ∧ vl_le (vc_v c k) (vc_v (vc_r c n to w) k) := fun k hk => vr_up hz hst hk
  have pq : ∀ k, vc_pq F c k → vc_pq F (vc_r c n to w) k := fun k h => (vr_pq i7.2.2.1).mpr (Or.inl h)
  have pqn : vc_pq F (vc_r c n to w) n := (vr_pq i7.2.2.1).mpr (Or.inr rfl)
  have hsn : vc_st (vc_r c n to w) n = if vc_st c n = 1 then 2 else to := by rw [vr_st, un_s]
  refine ⟨⟨?_, ?_, i3, ?_, ?_, ?_, ?_⟩, ⟨fun k _ hk => up k hk, fun _ h => h⟩, ?_, ?_⟩
  · intro O B hc
    have hL := i1 O B hc
    refine ⟨fun k hk hk0 => ?_, hL.2.1, hL.2.2⟩
    show vl_le (vc_v (vc_r c n to w) k) (vl_D G B k)
    by_cases e : k = n
    · rw [e, vr_s]
      have hw := hlow O B hc
      by_cases h : vc_st c n = 1
      · rw [if_pos h]
        have ho := hL.1 n hn (by omega)
        have ho' : vl_le (some (vc_wo c n)) (vl_D G B n) := by
          have e1 : vx_ (vc_st c) (vc_wo c) n = some (vc_wo c n) := if_neg (by omega)
          rw [e1] at ho
          exact ho
        rcases ho' with z | z
        · rw [z]; exact vl_rf
        · rcases hw with y | y
          · rw [y]; exact vl_rf
          · exfalso
            rw [← z] at y
            rcases hto with t | t
            · rw [t] at y
              have y' : some w = some (vc_wo c n) := y
              exact hch ⟨h.trans t.symm, (Option.some.inj y').symm⟩
            · rw [t] at y
              exact nomatch y
      · rw [if_neg h]
        exact hw
    · rw [vr_n e]
      refine hL.1 k hk ?_
      rw [vr_st, un_n e] at hk0
      exact hk0
  · intro y hy
    refine ⟨(i2 y hy).1, (i2 y hy).2.elim Or.inl (fun z => Or.inr ⟨fun v hv => (up _ (z.1 v hv)).1, fun i hi => (up _ (z.2 i hi)).1⟩)⟩
  · intro y i hy hi
    have hyn := gr_Mlt ok (i2 y hy).1
    rcases i4 y i hy hi with z | ⟨v, hv, z⟩ | z
    · by_cases hu : ∃ v, gr_us G (4 * y + i) v ∧ nb_ G ni y i v = n
      · obtain ⟨v, hv, e⟩ := hu
        exact Or.inr (Or.inl ⟨v, hv, by rw [e]; exact pqn⟩)
      · refine Or.inl ⟨(up _ z.1).1, vl_tr (vl_evm ((ok.2.2 y hyn).2.2.2.2 i hi).1 (fun v hv => ?_)) (vl_tr z.2 (up _ z.1).2)⟩
        show vl_le (vc_v (vc_r c n to w) (nb_ G ni y i v)) (vc_v c (nb_ G ni y i v))
        rw [vr_n (fun e => hu ⟨v, hv, e⟩)]
        exact vl_rf
    · exact Or.inr (Or.inl ⟨v, hv, pq _ z⟩)
    · exact Or.inr (Or.inr z)
  · intro p j v a1 a2 a3 a4 a5
    rcases i5 p j v a1 a2 a3 a4 a5 with z | z | z | z
    · by_cases e : ne_ G ni p v = n
      · exact Or.inr (Or.inl (by rw [e]; exact pqn))
      · refine Or.inl ⟨(up _ z.1).1, ?_⟩
        rw [vr_n e]
        exact vl_tr z.2 (up _ z.1).2
    · exact Or.inr (Or.inl (pq _ z))
    · exact Or.inr (Or.inr (Or.inl z))
    · exact Or.inr (Or.inr (Or.inr z))
  · intro x j hx hl
    by_cases k1 : gr_kd G x = 1
    · have hl' : vl_ld G x j (vc_v c (ne_ G ni x (gr_ak G x))) := ⟨hl.1, fun h2 => by omega⟩
      rcases i6 x j hx hl' with z | z | z
      · exact Or.inl z
      · exact absurd k1 z.1
      · exact Or.inr (Or.inr z)
    · by_cases e : ne_ G ni x (gr_ak G x) = n
      · exact Or.inr (Or.inl ⟨k1, by rw [e]; exact pqn⟩)
      · rw [vr_n e] at hl
        rcases i6 x j hx hl with z | z | z
        · exact Or.inl z
        · exact Or.inr (Or.inl ⟨k1, pq _ z.2⟩)
        · exact Or.inr (Or.inr z)
  · have hs := sg_up (f := vc_st (vc_r c n to w)) (g := vc_st c) hn (fun i _ hi => by rw [vr_st, un_n hi])
    rw [hsn] at hs
    refine ⟨fun k hk => ?_, ?_, Nat.le_succ_of_le i7.2.2.1, i7.2.2.2⟩
    · by_cases e : k = n
      · rw [e, hsn]
        split
        · omega
        · rcases hto with t | t <;> omega
      · rw [vr_st, un_n e]
        exact i7.1 k hk
    · show vc_L c + 1 ≤ _
      have h2 := i7.2.1
      by_cases h : vc_st c n = 1
      · rw [if_pos h] at hs
        omega
      · rw [if_neg h] at hs
        rcases hto with t | t <;> omega
  · rw [hsn]
    split
    · decide
    · rcases hto with t | t <;> omega
  · rw [vr_s]
    split
    · exact vl_tp
    · exact vl_rf
theorem vc_rno (I : vc_I G ni F FE ob EX ES EM EE c) (h : vc_st c n = 2 ∨ (vc_st c n = to ∧ vc_wo c n = w)) (hto : to = 1 ∨ to = 2) : vc_st c n ≠ 0 ∧ vl_le (vw_ to w) (vc_v c n) := by
  rcases h with h | ⟨h1, h2⟩
  · refine ⟨by omega, Or.inl ?_⟩
    exact if_pos h
  · refine ⟨by omega, Or.inr ?_⟩
    show vw_ to w = if vc_st c n = 2 then none else some (vc_wo c n)
    rw [h1, h2]
    rfl
/-- an edge is opened -/
def vc_o (c : vc_T) (e : Nat) : vc_T := (vc_st c, vc_wo c, vc_qu c, vc_L c, un_ (vc_eq c) (vc_LE c) e, vc_LE c + 1, vc_oe c ||| ((1 : Int32) <<< (nI e &&& 31)))
theorem vo_OE {e k : Nat} (he : e < 32) : vc_OE (vc_o c e) k ↔ (vc_OE c k ∨ k = e) := by
  show bt (vc_oe c ||| ((1 : Int32) <<< (nI e &&& 31))) k = true ↔ (bt (vc_oe c) k = true ∨ k = e)
  rcases Nat.lt_or_ge k 32 with z | z
  · rw [fb_or1 _ he z, Bool.or_eq_true, decide_eq_true_iff]
  · rw [b_big z, b_big z]
    exact ⟨fun w => absurd w (by decide), fun w => w.elim (fun y => absurd y (by decide)) (fun y => by omega)⟩
theorem vo_pe {e k : Nat} (hF : FE ≤ vc_LE c) : vc_pe FE (vc_o c e) k ↔ (vc_pe FE c k ∨ k = e) := by
  constructor
  · rintro ⟨j, h1, h2, h3⟩
    have h2' : j < vc_LE c + 1 := h2
    have h3' : un_ (vc_eq c) (vc_LE c) e j = k := h3
    by_cases z : j = vc_LE c
    · rw [z, un_s] at h3'
      exact Or.inr h3'.symm
    · rw [un_n z] at h3'
      exact Or.inl ⟨j, h1, by omega, h3'⟩
  · rintro (⟨j, h1, h2, h3⟩ | h)
    · exact ⟨j, h1, Nat.lt_succ_of_lt h2, (un_n (Nat.ne_of_lt h2)).trans h3⟩
    · exact ⟨vc_LE c, hF, Nat.lt_succ_self _, un_s.trans h.symm⟩
theorem vc_ook (ok : gr_ok G) (I : vc_I G ni F FE ob EX ES EM EE c) {x j : Nat} (hx : ob x) (hj : j < gr_kd G x) (hno : ¬ vc_OE c (2 * x + j)) (hlow : ∀ (O : Nat → Prop) (B : Nat → Nat → Option Int32), vl_cl G O B → vl_ld G x j (vl_e G x (B x) (gr_mn G x) (gr_ak G x))) : vc_I G ni F FE ob EX ES EM EE (vc_o c (2 * x + j)) ∧ vt_ c (vc_o c (2 * x + j)) := by
  obtain ⟨i1, i2, i3, i4, i5, i6, i7⟩ := I
  have hn16 := ok.1
  have hxn := gr_Mlt ok (i2 x hx).1
  have hkd := (ok.2.2 x hxn).2.1
  have he : 2 * x + j < 32 := by omega
  have oe : ∀ k, vc_OE (vc_o c (2 * x + j)) k ↔ (vc_OE c k ∨ k = 2 * x + j) := fun k => vo_OE he
  have pe : ∀ k, vc_pe FE (vc_o c (2 * x + j)) k ↔ (vc_pe FE c k ∨ k = 2 * x + j) := fun k => vo_pe i7.2.2.2.2.1
  refine ⟨⟨?_, i2, ?_, i4, ?_, ?_, ?_⟩, ⟨fun _ _ h => ⟨h, vl_rf⟩, fun k h => (oe k).mpr (Or.inl h)⟩⟩
  · intro O B hc
    have hL := i1 O B hc
    refine ⟨hL.1, hL.2.1, fun y i hy hi h => ?_⟩
    rcases (oe _).mp h with z | z
    · exact hL.2.2 y i hy hi z
    · have e1 : y = x := by omega
      have e2 : i = j := by omega
      rw [e1, e2]
      exact hlow O B hc
  · intro p i hp hi h
    rcases (oe _).mp h with z | z
    · have := i3 p i hp hi z
      exact ⟨this.1, this.2.1, this.2.2.elim Or.inl (fun w => Or.inr ((pe _).mpr (Or.inl w)))⟩
    · have e1 : p = x := by omega
      have e2 : i = j := by omega
      subst e1
      subst e2
      exact ⟨hx, hj, Or.inr ((pe _).mpr (Or.inr rfl))⟩
  · intro p i v a1 a2 a3 a4 a5
    rcases (oe _).mp a4 with z | z
    · rcases i5 p i v a1 a2 a3 z a5 with w | w | w | w
      · exact Or.inl w
      · exact Or.inr (Or.inl w)
      · exact Or.inr (Or.inr (Or.inl ((pe _).mpr (Or.inl w))))
      · exact Or.inr (Or.inr (Or.inr w))
    · exact Or.inr (Or.inr (Or.inl ((pe _).mpr (Or.inr z))))
  · intro y i hy hl
    rcases i6 y i hy hl with z | z | z
    · exact Or.inl ((oe _).mpr (Or.inl z))
    · exact Or.inr (Or.inl z)
    · exact Or.inr (Or.inr z)
  · refine ⟨i7.1, i7.2.1, i7.2.2.1, ?_, Nat.le_succ_of_le i7.2.2.2.2.1, fun k hk => (oe _).mpr ?_⟩
    rotate_left
    · have hk' : k < vc_LE c + 1 := hk
      show vc_OE c (un_ (vc_eq c) (vc_LE c) (2 * x + j) k) ∨ un_ (vc_eq c) (vc_LE c) (2 * x + j) k = 2 * x + j
      by_cases e : k = vc_LE c
      · rw [e, un_s]; exact Or.inr rfl
      · rw [un_n e]; exact Or.inl (i7.2.2.2.2.2 k (by omega))
    have hs := sg_up (f := fun k => b01 (vc_OE (vc_o c (2 * x + j)) k)) (g := fun k => b01 (vc_OE c k)) he (fun i _ hi => b01_i ((oe i).trans ⟨fun z => z.elim id (fun w => absurd w hi), Or.inl⟩))
    rw [b01_f hno, b01_t ((oe _).mpr (Or.inr rfl))] at hs
    show vc_LE c + 1 = _
    have := i7.2.2.2.1
    omega
theorem vc_LE32 (I : vc_I G ni F FE ob EX ES EM EE c) : vc_LE c ≤ 32 := by
  have h1 := I.2.2.2.2.2.2.2.2.2.1
  have h2 : sg_s (fun e => b01 (vc_OE c e)) 32 ≤ 1 * 32 := sg_b (fun i _ => b01_1 _)
  omega
theorem vc_L332 (I : vc_I G ni F FE ob EX ES EM EE c) : vc_L c ≤ 332 := by
  have h1 := I.2.2.2.2.2.2.2.1
  have h2 : sg_s (vc_st c) 166 ≤ 2 * 166 := sg_b (fun i hi => I.2.2.2.2.2.2.1 i hi)
  omega
theorem vc_L331 (I : vc_I G ni F FE ob EX ES EM EE c) (hn : n < 166) (hst : vc_st c n ≠ 2) : vc_L c ≤ 331 := by
  have h1 := I.2.2.2.2.2.2.2.1
  have hz := I.2.2.2.2.2.2.1 n hn
  have hs := sg_up (f := fun k => if k = n then 2 else vc_st c k) (g := vc_st c) hn (fun i _ hi => if_neg hi)
  have h2 : sg_s (fun k => if k = n then 2 else vc_st c k) 166 ≤ 2 * 166 := sg_b (fun i hi => by
    show (if i = n then 2 else vc_st c i) ≤ 2
    split
    · omega
    · exact I.2.2.2.2.2.2.1 i hi)
  simp only [if_pos] at hs
  omega
end
/-- the component's arrays -/
def vc_A (c : vc_T) (f_openEdges f_last f_openCount f_lastEdge : Int32) (a_queue a_state a_worth a_edges : Nat → Int32) : Prop :=
  f_openEdges = vc_oe c ∧ f_last = nI (vc_L c) ∧ f_openCount = nI (vc_LE c) ∧ f_lastEdge = nI (vc_LE c) ∧ (∀ j, j < vc_L c → a_queue j = nI (vc_qu c j) ∧ vc_qu c j < 166) ∧ (∀ n, n < 166 → a_state n = nI (vc_st c n)) ∧ (∀ n, n < 166 → a_worth n = vc_wo c n) ∧ (∀ j, j < vc_LE c → a_edges j = nI (vc_eq c j) ∧ vc_eq c j < 32)
end
section
theorem vc_em {G : gr_T} {ni : Nat → Nat → Nat} {F FE : Nat} {ob EX : Nat → Prop} {ES : Nat → Nat → Prop} {EM : Nat → Nat → Nat → Prop} {EE : Nat → Prop} {c : vc_T} {EM' : Nat → Nat → Nat → Prop} (I : vc_I G ni F FE ob EX ES EM EE c) (h : ∀ p j v, ob p → j < gr_kd G p → v < 6 → vc_OE c (2 * p + j) → gr_J G v (gr_tg G (2 * p + j)) → EM p j v → vc_cM G ni c p j v ∨ vc_pq F c (ne_ G ni p v) ∨ vc_pe FE c (2 * p + j) ∨ EM' p j v) : vc_I G ni F FE ob EX ES EM' EE c := by
  obtain ⟨i1, i2, i3, i4, i5, i6, i7⟩ := I
  refine ⟨i1, i2, i3, i4, fun p j v a1 a2 a3 a4 a5 => ?_, i6, i7⟩
  rcases i5 p j v a1 a2 a3 a4 a5 with z | z | z | z
  · exact Or.inl z
  · exact Or.inr (Or.inl z)
  · exact Or.inr (Or.inr (Or.inl z))
  · exact h p j v a1 a2 a3 a4 a5 z
theorem vc_es {G : gr_T} {ni : Nat → Nat → Nat} {F FE : Nat} {ob EX : Nat → Prop} {ES : Nat → Nat → Prop} {EM : Nat → Nat → Nat → Prop} {EE : Nat → Prop} {c : vc_T} {ES' : Nat → Nat → Prop} (I : vc_I G ni F FE ob EX ES EM EE c) (h : ∀ y i, ob y → i < gr_mn G y → ES y i → vc_cS G ni c y i ∨ (∃ v, gr_us G (4 * y + i) v ∧ vc_pq F c (nb_ G ni y i v)) ∨ ES' y i) : vc_I G ni F FE ob EX ES' EM EE c := by
  obtain ⟨i1, i2, i3, i4, i5, i6, i7⟩ := I
  refine ⟨i1, i2, i3, fun y i hy hi => ?_, i5, i6, i7⟩
  rcases i4 y i hy hi with z | z | z
  · exact Or.inl z
  · exact Or.inr (Or.inl z)
  · exact h y i hy hi z
theorem vc_ee {G : gr_T} {ni : Nat → Nat → Nat} {F FE : Nat} {ob EX : Nat → Prop} {ES : Nat → Nat → Prop} {EM : Nat → Nat → Nat → Prop} {EE : Nat → Prop} {c : vc_T} {EE' : Nat → Prop} (I : vc_I G ni F FE ob EX ES EM EE c) (h : ∀ x j, ob x → vl_ld G x j (vc_v c (ne_ G ni x (gr_ak G x))) → EE x → vc_OE c (2 * x + j) ∨ (gr_kd G x ≠ 1 ∧ vc_pq F c (ne_ G ni x (gr_ak G x))) ∨ EE' x) : vc_I G ni F FE ob EX ES EM EE' c := by
  obtain ⟨i1, i2, i3, i4, i5, i6, i7⟩ := I
  refine ⟨i1, i2, i3, i4, i5, fun x j hx hl => ?_, i7⟩
  rcases i6 x j hx hl with z | z | z
  · exact Or.inl z
  · exact Or.inr (Or.inl z)
  · exact h x j hx hl z
theorem vc_vw {c : vc_T} (n : Nat) : vw_ (vc_st c n) (vc_wo c n) = vc_v c n := rfl
section
variable {f_blocks f_given f_known f_met f_openEdges f_openBlocks f_first f_last f_openCount f_firstEdge f_lastEdge f_result f_begun f_latest f_inputs : Int32} {a_op a_d a_b a_many a_kind a_asks a_target a_a a_order a_place a_parent a_depths a_living a_needs a_merging a_stack a_next a_before a_frontiers a_in a_out a_nameA a_nameB a_queue a_state a_worth a_usedByExit a_edges a_now : Nat → Int32} {a_usedBySet a_usedByLow a_usedByHigh : Nat → Int64}
variable {G : gr_T} {m : Nat} {ord pl : Nat → Nat} {P : Nat → Option Nat} {ni : Nat → Nat → Nat} {post : SX → Prop} {F FE : Nat} {ob EX : Nat → Prop} {ES : Nat → Nat → Prop} {EM : Nat → Nat → Nat → Prop} {EE : Nat → Prop} {c : vc_T}
theorem xs_raise {n to : Nat} {w : Int32} (ok : gr_ok G) (hlt : ∀ x, gr_M G x → ∀ v, v < 6 → ni x v < 166) (A : vc_A c f_openEdges f_last f_openCount f_lastEdge a_queue a_state a_worth a_edges) (I : vc_I G ni F FE ob EX ES EM EE c) (hn : n < 166) (hto : to = 1 ∨ to = 2) (hlow : ∀ (O : Nat → Prop) (B : Nat → Nat → Option Int32), vl_cl G O B → vl_le (vw_ to w) (vl_D G B n))
    (K : ∀ (c' : vc_T) (f_openEdges f_last f_openCount f_lastEdge : Int32) (a_queue a_state a_worth a_edges : Nat → Int32), vc_A c' f_openEdges f_last f_openCount f_lastEdge a_queue a_state a_worth a_edges → vc_I G ni F FE ob EX ES EM EE c' → vt_ c c' → (vc_oe c' = vc_oe c ∧ (∀ k, k ≠ n → vc_v c' k = vc_v c k) ∧ (c' = c ∨ vc_pq F c' n)) → vc_st c' n ≠ 0 → vl_le (vw_ to w) (vc_v c' n) → post (f_blocks, f_given, f_known, f_met, f_openEdges, f_openBlocks, f_first, f_last, f_openCount, f_firstEdge, f_lastEdge, f_result, f_begun, f_latest, f_inputs, a_op, a_d, a_b, a_many, a_kind, a_asks, a_target, a_a, a_order, a_place, a_parent, a_depths, a_living, a_needs, a_merging, a_stack, a_next, a_before, a_frontiers, a_in, a_out, a_nameA, a_nameB, a_queue, a_state, a_worth, a_usedByExit, a_usedBySet, a_usedByLow, a_usedByHigh, a_edges, a_now)) : wpX_raise post (f_blocks, f_given, f_known, f_met, f_openEdges, f_openBlocks, f_first, f_last, f_openCount, f_firstEdge, f_lastEdge, f_result, f_begun, f_latest, f_inputs, a_op, a_d, a_b, a_many, a_kind, a_asks, a_target, a_a, a_order, a_place, a_parent, a_depths, a_living, a_needs, a_merging, a_stack, a_next, a_before, a_frontiers, a_in, a_out, a_nameA, a_nameB, a_queue, a_state, a_worth, a_usedByExit, a_usedBySet, a_usedByLow, a_usedByHigh, a_edges, a_now) (nI n) (nI to) w := by
  obtain ⟨a1, a2, a3, a4, a5, a6, a7, a8⟩ := A
  have A : vc_A c f_openEdges f_last f_openCount f_lastEdge a_queue a_state a_worth a_edges := ⟨a1, a2, a3, a4, a5, a6, a7, a8⟩
  have hz := I.2.2.2.2.2.2.1 n hn
  have cn : (nI n).toNatClampNeg = n := fn_c (by omega)
  have hin : vp_in (nI n) 166 := vp_in_nI hn (by omega)
  have no : (vc_st c n = 2 ∨ (vc_st c n = to ∧ vc_wo c n = w)) → post (f_blocks, f_given, f_known, f_met, f_openEdges, f_openBlocks, f_first, f_last, f_openCount, f_firstEdge, f_lastEdge, f_result, f_begun, f_latest, f_inputs, a_op, a_d, a_b, a_many, a_kind, a_asks, a_target, a_a, a_order, a_place, a_parent, a_depths, a_living, a_needs, a_merging, a_stack, a_next, a_before, a_frontiers, a_in, a_out, a_nameA, a_nameB, a_queue, a_state, a_worth, a_usedByExit, a_usedBySet, a_usedByLow, a_usedByHigh, a_edges, a_now) := fun h => K c _ _ _ _ _ _ _ _ A I vt_rf ⟨rfl, fun _ _ => rfl, Or.inl rfl⟩ (vc_rno I h hto).1 (vc_rno I h hto).2
  have yes : vc_st c n ≠ 2 → ¬ (vc_st c n = to ∧ vc_wo c n = w) → wX_raise_31 post (nI n) (nI to) w f_blocks f_given f_known f_met f_openEdges f_openBlocks f_first f_last f_openCount f_firstEdge f_lastEdge f_result f_begun f_latest f_inputs a_op a_d a_b a_many a_kind a_asks a_target a_a a_order a_place a_parent a_depths a_living a_needs a_merging a_stack a_next a_before a_frontiers a_in a_out a_nameA a_nameB a_queue a_state a_worth a_usedByExit a_usedBySet a_usedByLow a_usedByHigh a_edges a_now := by
    intro h2 hch
    obtain ⟨r1, r2, r3, r4⟩ := vc_rok ok hlt I hn hto h2 hch hlow
    have hL := vc_L331 I hn h2
    have k51 : ∀ z : Nat, z = (if vc_st c n = 1 then 2 else to) → wX_raise_51 post (nI n) w (nI z) (nI n) f_blocks f_given f_known f_met f_openEdges f_openBlocks f_first f_last f_openCount f_firstEdge f_lastEdge f_result f_begun f_latest f_inputs a_op a_d a_b a_many a_kind a_asks a_target a_a a_order a_place a_parent a_depths a_living a_needs a_merging a_stack a_next a_before a_frontiers a_in a_out a_nameA a_nameB a_queue a_state a_worth a_usedByExit a_usedBySet a_usedByLow a_usedByHigh a_edges a_now := by
      intro z ez
      have hz2 : z < 128 := by
        rw [ez]
        split
        · omega
        · rcases hto with t | t <;> omega
      rw [wX_raise_51, cn, fb_vb hz2, a2, nI_1, fb_vs (by omega), fn_c (a := vc_L c) (by omega)]
      refine ⟨hin, nm_e ⟨hin, nm_e (nm_e ⟨vp_in_nI (by omega) (by omega), nm_e ?_⟩)⟩⟩
      refine K (vc_r c n to w) _ _ _ _ _ _ _ _ ⟨a1, rfl, a3, a4, fun j hj => ?_, fun k hk => ?_, fun k hk => ?_, a8⟩ r1 r2 ⟨rfl, fun k hk => vr_n hk, Or.inr ((vr_pq I.2.2.2.2.2.2.2.2.1).mpr (Or.inr rfl))⟩ r3 r4
      · have hj' : j < vc_L c + 1 := hj
        show upd a_queue (vc_L c) (nI n) j = nI (un_ (vc_qu c) (vc_L c) n j) ∧ un_ (vc_qu c) (vc_L c) n j < 166
        by_cases e : j = vc_L c
        · rw [e, pk_us, un_s]; exact ⟨rfl, hn⟩
        · rw [pk_un e, un_n e]; exact a5 j (by omega)
      · show upd a_state n (nI z) k = nI (un_ (vc_st c) n (if vc_st c n = 1 then 2 else to) k)
        by_cases e : k = n
        · rw [e, pk_us, un_s, ez]
        · rw [pk_un e, un_n e]; exact a6 k hk
      · show upd a_worth n w k = upd (vc_wo c) n w k
        by_cases e : k = n
        · rw [e, pk_us, pk_us]
        · rw [pk_un e, pk_un e]; exact a7 k hk
    rw [wX_raise_31, cn, a6 n hn]
    refine ⟨hin, pk_eq (vc_st c n) 1 (fun h => k51 2 (by rw [if_pos h])) (fun h => k51 to (by rw [if_neg h]))⟩
  unfold wpX_raise
  dsimp only
  rw [cn, a6 n hn, a7 n hn]
  have hto2 : to ≤ 2 := by rcases hto with t | t <;> omega
  refine ⟨hin, pk_eq (vc_st c n) 2 (fun h => no (Or.inl h)) (fun h2 => ⟨hin, pk_eq (vc_st c n) to (fun h => ⟨hin, ?_⟩) (fun h => yes h2 (fun z => h z.1))⟩)⟩
  exact br_c (fun z => no (Or.inr ⟨h, z⟩)) (fun z => yes h2 (fun y => z y.2))
/-- what comes by an open edge lies below, in every closed solution -/
theorem vc_lowM (ok : gr_ok G) (hlt : ∀ x, gr_M G x → ∀ v, v < 6 → ni x v < 166) (I : vc_I G ni F FE ob EX ES EM EE c) {p j v : Nat} (hp : ob p) (hj : j < gr_kd G p) (hv : v < 6) (hoe : vc_OE c (2 * p + j)) (hkn : vc_st c (ne_ G ni p v) ≠ 0) : ∀ (O : Nat → Prop) (B : Nat → Nat → Option Int32), vl_cl G O B → vl_le (vc_v c (ne_ G ni p v)) (B (gr_tg G (2 * p + j)) v) := by
  intro O B hc
  have hL := I.1 O B hc
  have hM := (I.2.1 p hp).1
  have hpn := gr_Mlt ok hM
  have hB := ok.2.2 p hpn
  have hkd := hB.2.1
  have h1 := hL.2.1 p hp
  have h2 := hL.2.2 p j hpn (by omega) hoe
  have h3 := (hc.2 p h1.1 hpn j h2).2 v hv
  have h4 := vl_L1 ok hpn h1.2 (gr_mn G p) (Nat.le_refl _) v hv
  have h5 := hL.1 (ne_ G ni p v) (nb_lt ok hpn (hlt p hM) _ (Nat.le_refl _) v hv) hkn
  exact vl_tr h5 (vl_tr h4 h3)
theorem vc_kn (ok : gr_ok G) (I : vc_I G ni F FE ob EX ES EM EE c) {p i v : Nat} (hp : ob p) (hE : ¬ EX p) (hi : i ≤ gr_mn G p) (hv : v < 6) : vc_st c (nb_ G ni p i v) ≠ 0 := by
  have h := (I.2.1 p hp).2.resolve_left hE
  exact nb_kn h.1 h.2 i hi v hv
theorem xs_21 {x v : Nat} (oe0 : Int32) (c0 : vc_T) (X : xp_ok G f_blocks f_given a_op a_d a_b a_many a_kind a_asks a_target a_a) (hX : xa_ok G m ord pl a_order a_place a_before) (T : dt_ok G m ord pl P) (hmg : ∀ y j, y < 16 → (bt (a_merging y) j = true ↔ (j < 6 ∧ gr_J G j y))) (N : nm_ok G P ni) (hlt : ∀ x, gr_M G x → ∀ v, v < 6 → ni x v < 166) (hN : ∀ x, gr_M G x → gn_B G ni x a_in a_out a_nameA a_nameB) (hx : gr_M G x) (hv : v < 6) (hEX : ∀ p j, j < 2 → bt oe0 (2 * p + j) = true → ¬ EX p)
    (K : ∀ (c' : vc_T) (f_openEdges f_last f_openCount f_lastEdge : Int32) (a_queue a_state a_worth a_edges : Nat → Int32), vc_A c' f_openEdges f_last f_openCount f_lastEdge a_queue a_state a_worth a_edges → vc_I G ni F FE ob EX ES (fun p j w => EM p j w ∧ ¬ (gr_tg G (2 * p + j) = x ∧ w = v)) EE c' → vt_ c0 c' → vc_oe c' = oe0 → (∀ p j, ob p → j < gr_kd G p → vc_OE c' (2 * p + j) → gr_tg G (2 * p + j) = x → vc_st c' (70 + (6 * x + v)) ≠ 0) → post (f_blocks, f_given, f_known, f_met, f_openEdges, f_openBlocks, f_first, f_last, f_openCount, f_firstEdge, f_lastEdge, f_result, f_begun, f_latest, f_inputs, a_op, a_d, a_b, a_many, a_kind, a_asks, a_target, a_a, a_order, a_place, a_parent, a_depths, a_living, a_needs, a_merging, a_stack, a_next, a_before, a_frontiers, a_in, a_out, a_nameA, a_nameB, a_queue, a_state, a_worth, a_usedByExit, a_usedBySet, a_usedByLow, a_usedByHigh, a_edges, a_now)) :
    ∀ n (s : Int32) (c : vc_T) (f_openEdges f_last f_openCount f_lastEdge : Int32) (a_queue a_state a_worth a_edges : Nat → Int32), s.toBitVec.toNat < n → fb_16 s → (∀ p, p < 16 → bt s p = true → gr_M G p ∧ gr_E G p x) → vc_A c f_openEdges f_last f_openCount f_lastEdge a_queue a_state a_worth a_edges → vc_I G ni F FE ob EX ES (fun p j w => EM p j w ∧ ¬ (gr_tg G (2 * p + j) = x ∧ w = v ∧ bt s p = false)) EE c → vt_ c0 c → vc_oe c = oe0 → (∀ p j, ob p → j < gr_kd G p → vc_OE c (2 * p + j) → gr_tg G (2 * p + j) = x → bt s p = false → vc_st c (70 + (6 * x + v)) ≠ 0) → wX_merge_21 post (nI x) (nI v) (nI (70 + (6 * x + v))) n s f_blocks f_given f_known f_met f_openEdges f_openBlocks f_first f_last f_openCount f_firstEdge f_lastEdge f_result f_begun f_latest f_inputs a_op a_d a_b a_many a_kind a_asks a_target a_a a_order a_place a_parent a_depths a_living a_needs a_merging a_stack a_next a_before a_frontiers a_in a_out a_nameA a_nameB a_queue a_state a_worth a_usedByExit a_usedBySet a_usedByLow a_usedByHigh a_edges a_now := by
  have ok := X.1
  have hn16 := ok.1
  have hxn := gr_Mlt ok hx
  intro n
  induction n with
  | zero => intro s c _ _ _ _ _ _ _ _ h; omega
  | succ n ih =>
    intro s c f_openEdges f_last f_openCount f_lastEdge a_queue a_state a_worth a_edges hmu h16 hs A I V hoe hk
    rw [wX_merge_21]
    by_cases hs0 : s = 0
    · subst hs0
      refine br_t rfl (K c _ _ _ _ _ _ _ _ A (vc_em I (fun p j w _ _ _ _ _ h => Or.inr (Or.inr (Or.inr ⟨h.1, fun z => h.2 ⟨z.1, z.2, b_0 p⟩⟩)))) V hoe (fun p j h1 h2 h3 h4 => hk p j h1 h2 h3 h4 (b_0 p)))
    · refine br_f hs0 ?_
      obtain ⟨p, hp16, hbp, hcl, hlt', h16', hlo⟩ := fb_step hs0 h16
      refine hlo _ ?_
      have hpM := hs p hp16 hbp
      have hpn := gr_Mlt ok hpM.1
      have hB := ok.2.2 p hpn
      have hkd := hB.2.1
      have hnlt : ne_ G ni p v < 166 := nb_lt ok hpn (hlt p hpM.1) _ (Nat.le_refl _) v hv
      rw [fn_62, fn_c (a := 6 * p + v) (by omega), ((hN p hpM.1).1 v hv).2]
      refine ⟨vp_in_nI (by omega) (by omega), nm_e ?_⟩
      have hs' : ∀ q, q < 16 → bt (s &&& (s - 1)) q = true → gr_M G q ∧ gr_E G q x := by
        intro q hq hb
        rw [hcl q] at hb
        refine hs q hq ?_
        rcases Bool.eq_false_or_eq_true (bt s q) with z | z
        · exact z
        · rw [z, Bool.false_and] at hb; exact absurd hb (by decide)
      have hbs : ∀ q, bt (s &&& (s - 1)) q = false ↔ (bt s q = false ∨ q = p) := by
        intro q
        rw [hcl q]
        by_cases e : q = p
        · rw [decide_eq_true e]; simp [e]
        · rw [decide_eq_false e]; simp [e]
      have iw : vp_in (nI (ne_ G ni p v)) 166 := vp_in_nI hnlt (by omega)
      have cw : (nI (ne_ G ni p v)).toNatClampNeg = ne_ G ni p v := fn_c (by omega)
      -- it does not come
      have k111 : (∀ j, j < 2 → vc_OE c (2 * p + j) → gr_tg G (2 * p + j) ≠ x) → wX_merge_111 post (wX_merge_21 post (nI x) (nI v) (nI (70 + (6 * x + v))) n) (nI x) (nI v) (nI (70 + (6 * x + v))) s (nI (ne_ G ni p v)) f_blocks f_given f_known f_met f_openEdges f_openBlocks f_first f_last f_openCount f_firstEdge f_lastEdge f_result f_begun f_latest f_inputs a_op a_d a_b a_many a_kind a_asks a_target a_a a_order a_place a_parent a_depths a_living a_needs a_merging a_stack a_next a_before a_frontiers a_in a_out a_nameA a_nameB a_queue a_state a_worth a_usedByExit a_usedBySet a_usedByLow a_usedByHigh a_edges a_now := by
        intro hno
        rw [wX_merge_111, wX_merge_112]
        refine br_t rfl (nm_e (ih _ c _ _ _ _ _ _ _ _ (by omega) h16' hs' A (vc_em I (fun q j w a1 a2 a3 a4 a5 h => Or.inr (Or.inr (Or.inr ⟨h.1, fun z => ?_⟩)))) V hoe (fun q j a1 a2 a3 a4 a5 => ?_)))
        · rcases (hbs q).mp z.2.2 with y | y
          · exact h.2 ⟨z.1, z.2.1, y⟩
          · rw [y] at a4 z a2
            exact hno j (by omega) a4 z.1
        · rcases (hbs q).mp a5 with y | y
          · exact hk q j a1 a2 a3 a4 y
          · rw [y] at a3 a4 a2
            exact absurd a4 (hno j (by omega) a3)
      -- it comes
      have k107 : (∃ j, j < 2 ∧ vc_OE c (2 * p + j) ∧ gr_tg G (2 * p + j) = x) → wX_merge_107 post (wX_merge_21 post (nI x) (nI v) (nI (70 + (6 * x + v))) n) (nI x) (nI v) (nI (70 + (6 * x + v))) s (nI (ne_ G ni p v)) f_blocks f_given f_known f_met f_openEdges f_openBlocks f_first f_last f_openCount f_firstEdge f_lastEdge f_result f_begun f_latest f_inputs a_op a_d a_b a_many a_kind a_asks a_target a_a a_order a_place a_parent a_depths a_living a_needs a_merging a_stack a_next a_before a_frontiers a_in a_out a_nameA a_nameB a_queue a_state a_worth a_usedByExit a_usedBySet a_usedByLow a_usedByHigh a_edges a_now := by
        rintro ⟨j, hj, hoj, htg⟩
        have hO := I.2.2.1 p j hp16 hj hoj
        have hkn : vc_st c (ne_ G ni p v) ≠ 0 := vc_kn ok I hO.1 (hEX p j hj (by rw [← hoe]; exact hoj)) (Nat.le_refl _) hv
        have hz := I.2.2.2.2.2.2.1 _ hnlt
        rw [wX_merge_107, wX_merge_112, cw, A.2.2.2.2.2.1 _ hnlt, A.2.2.2.2.2.2.1 _ hnlt]
        refine br_f (by decide) ⟨iw, br_f (nI_ne0 (by omega) (by omega)) ⟨iw, iw, ?_⟩⟩
        refine xs_raise ok hlt A I (by omega) (by omega) (fun O B hc => ?_) (fun c' f_openEdges f_last f_openCount f_lastEdge a_queue a_state a_worth a_edges A' I' V' hU h0 hle => ?_)
        · rw [vc_vw, vl_Dm hv]
          have := vc_lowM ok hlt I hO.1 hO.2.1 hv hoj hkn O B hc
          rw [htg] at this
          exact this
        · rw [vc_vw] at hle
          refine nm_e (ih _ c' _ _ _ _ _ _ _ _ (by omega) h16' hs' A' (vc_em I' (fun q i w a1 a2 a3 a4 a5 h => ?_)) (vt_tr V V') (hU.1.trans hoe) (fun q i a1 a2 a3 a4 a5 => h0))
          by_cases hq : q = p ∧ gr_tg G (2 * q + i) = x ∧ w = v
          · obtain ⟨e1, e2, e3⟩ := hq
            refine Or.inl ⟨?_, ?_⟩
            · rw [e2, e3]; exact h0
            · rw [e1] at e2
              rw [e1, e2, e3]
              by_cases e4 : ne_ G ni p v = 70 + (6 * x + v)
              · rw [e4]; exact vl_rf
              · rw [hU.2.1 _ e4]
                exact hle
          · refine Or.inr (Or.inr (Or.inr ⟨h.1, fun z => ?_⟩))
            rcases (hbs q).mp z.2.2 with y | y
            · exact h.2 ⟨z.1, z.2.1, y⟩
            · exact hq ⟨y, z.1, z.2.1⟩
      have e2p : 2 * nI p = nI (2 * p) := fn_2 p
      have e2p1 : nI (2 * p) + 1 = nI (2 * p + 1) := nI_1 _
      have ao : f_openEdges = vc_oe c := A.1
      have k75 : (vc_OE c (2 * p + 0) → gr_tg G (2 * p + 0) ≠ x) → wX_merge_75 post (wX_merge_21 post (nI x) (nI v) (nI (70 + (6 * x + v))) n) (nI x) (nI v) (nI (70 + (6 * x + v))) s (nI p) (nI (ne_ G ni p v)) f_blocks f_given f_known f_met f_openEdges f_openBlocks f_first f_last f_openCount f_firstEdge f_lastEdge f_result f_begun f_latest f_inputs a_op a_d a_b a_many a_kind a_asks a_target a_a a_order a_place a_parent a_depths a_living a_needs a_merging a_stack a_next a_before a_frontiers a_in a_out a_nameA a_nameB a_queue a_state a_worth a_usedByExit a_usedBySet a_usedByLow a_usedByHigh a_edges a_now := by
        intro h0
        rw [wX_merge_75, e2p, e2p1, fn_c (a := 2 * p + 1) (by omega), ao]
        refine fb_1 (by omega) (fun hb => ?_) (fun hb => ?_)
        · have hO := I.2.2.1 p 1 hp16 (by omega) hb
          have ht := hB.2.2.2.1 1 hO.2.1
          rw [X.2.2.2.2.2.2.1 p 1 hpn hO.2.1]
          refine ⟨vp_in_nI (by omega) (by omega), ?_⟩
          rw [← ao]
          refine pk_eq (gr_tg G (2 * p + 1)) x (fun e => k107 ⟨1, by omega, hb, e⟩) (fun e => k111 (fun j hj hoj => ?_))
          rcases (show j = 0 ∨ j = 1 by omega) with z | z
          · rw [z] at hoj ⊢; exact h0 hoj
          · rw [z]; exact e
        · rw [← ao]
          refine k111 (fun j hj hoj => ?_)
          rcases (show j = 0 ∨ j = 1 by omega) with z | z
          · rw [z] at hoj ⊢; exact h0 hoj
          · rw [z] at hoj
            have hoj' : bt (vc_oe c) (2 * p + 1) = true := hoj
            rw [hb] at hoj'
            exact absurd hoj' (by decide)
      rw [e2p, fn_c (a := 2 * p) (by omega), ao]
      refine fb_1 (by omega) (fun hb => ?_) (fun hb => ?_)
      · have hO := I.2.2.1 p 0 hp16 (by omega) hb
        have ht := hB.2.2.2.1 0 hO.2.1
        have hx0 := X.2.2.2.2.2.2.1 p 0 hpn hO.2.1
        rw [Nat.add_zero] at hx0 ht
        rw [hx0, ← ao]
        refine ⟨vp_in_nI (by omega) (by omega), pk_eq (gr_tg G (2 * p)) x (fun e => k107 ⟨0, by omega, hb, e⟩) (fun e => k75 (fun _ => e))⟩
      · rw [← ao]
        refine k75 (fun z => ?_)
        have z' : bt (vc_oe c) (2 * p) = true := z
        rw [hb] at z'
        exact absurd z' (by decide)
theorem xs_merge {x v : Nat} (X : xp_ok G f_blocks f_given a_op a_d a_b a_many a_kind a_asks a_target a_a) (hX : xa_ok G m ord pl a_order a_place a_before) (T : dt_ok G m ord pl P) (hmg : ∀ y j, y < 16 → (bt (a_merging y) j = true ↔ (j < 6 ∧ gr_J G j y))) (N : nm_ok G P ni) (hlt : ∀ x, gr_M G x → ∀ v, v < 6 → ni x v < 166) (hN : ∀ x, gr_M G x → gn_B G ni x a_in a_out a_nameA a_nameB) (hx : gr_M G x) (hv : v < 6) (hEX : ∀ p j, j < 2 → vc_OE c (2 * p + j) → ¬ EX p) (A : vc_A c f_openEdges f_last f_openCount f_lastEdge a_queue a_state a_worth a_edges) (I : vc_I G ni F FE ob EX ES EM EE c)
    (K : ∀ (c' : vc_T) (f_openEdges f_last f_openCount f_lastEdge : Int32) (a_queue a_state a_worth a_edges : Nat → Int32), vc_A c' f_openEdges f_last f_openCount f_lastEdge a_queue a_state a_worth a_edges → vc_I G ni F FE ob EX ES (fun p j w => EM p j w ∧ ¬ (gr_tg G (2 * p + j) = x ∧ w = v)) EE c' → vt_ c c' → vc_oe c' = vc_oe c → (∀ p j, ob p → j < gr_kd G p → vc_OE c' (2 * p + j) → gr_tg G (2 * p + j) = x → vc_st c' (70 + (6 * x + v)) ≠ 0) → post (f_blocks, f_given, f_known, f_met, f_openEdges, f_openBlocks, f_first, f_last, f_openCount, f_firstEdge, f_lastEdge, f_result, f_begun, f_latest, f_inputs, a_op, a_d, a_b, a_many, a_kind, a_asks, a_target, a_a, a_order, a_place, a_parent, a_depths, a_living, a_needs, a_merging, a_stack, a_next, a_before, a_frontiers, a_in, a_out, a_nameA, a_nameB, a_queue, a_state, a_worth, a_usedByExit, a_usedBySet, a_usedByLow, a_usedByHigh, a_edges, a_now)) : wpX_merge post (f_blocks, f_given, f_known, f_met, f_openEdges, f_openBlocks, f_first, f_last, f_openCount, f_firstEdge, f_lastEdge, f_result, f_begun, f_latest, f_inputs, a_op, a_d, a_b, a_many, a_kind, a_asks, a_target, a_a, a_order, a_place, a_parent, a_depths, a_living, a_needs, a_merging, a_stack, a_next, a_before, a_frontiers, a_in, a_out, a_nameA, a_nameB, a_queue, a_state, a_worth, a_usedByExit, a_usedBySet, a_usedByLow, a_usedByHigh, a_edges, a_now) (nI x) (nI v) := by
  have ok := X.1
  have hn16 := ok.1
  have hxn := gr_Mlt ok hx
  unfold wpX_merge
  dsimp only
  have hbef : ∀ p, p < 16 → (bt (a_before x &&& 65535) p = true ↔ gr_M G p ∧ gr_E G p x) := by
    intro p hp
    rw [fb_m16, decide_eq_true hp, Bool.and_true]
    exact hX.2.2.2.2.1 x p (by omega) hp
  have hall : ∀ p j, ob p → j < gr_kd G p → gr_tg G (2 * p + j) = x → bt (a_before x &&& 65535) p = false → False := by
    intro p j h1 h2 h3 h4
    have hM := (I.2.1 p h1).1
    have hpn := gr_Mlt ok hM
    rw [(hbef p (by omega)).mpr ⟨hM, hpn, j, h2, h3⟩] at h4
    exact absurd h4 (by decide)
  refine nm_r (e' := nI (70 + (6 * x + v))) ?_ ?_
  · rw [fn_6, show (70 : Int32) + nI (6 * x) = nI (70 + 6 * x) from nI_add 70 _, nI_add, Nat.add_assoc]
  · rw [fn_c (a := x) (by omega)]
    refine ⟨vp_in_nI (by omega) (by omega), nm_e ⟨_, xs_21 (EM := EM) (vc_oe c) c X hX T hmg N hlt hN hx hv hEX K _ (a_before x &&& 65535) c _ _ _ _ _ _ _ _ (Nat.lt_succ_self _) (fb_16m _) (fun p hp hb => (hbef p hp).mp hb) A (vc_em I (fun p j w a1 a2 a3 a4 a5 h => Or.inr (Or.inr (Or.inr ⟨h, fun z => hall p j a1 a2 z.1 z.2.2⟩)))) vt_rf rfl (fun p j a1 a2 a3 a4 a5 => absurd a5 (fun z => hall p j a1 a2 a4 z))⟩⟩
theorem xs_2m {x : Nat} {wh : Int32} (c0 : vc_T) (X : xp_ok G f_blocks f_given a_op a_d a_b a_many a_kind a_asks a_target a_a) (hX : xa_ok G m ord pl a_order a_place a_before) (T : dt_ok G m ord pl P) (hmg : ∀ y j, y < 16 → (bt (a_merging y) j = true ↔ (j < 6 ∧ gr_J G j y))) (N : nm_ok G P ni) (hlt : ∀ x, gr_M G x → ∀ v, v < 6 → ni x v < 166) (hN : ∀ x, gr_M G x → gn_B G ni x a_in a_out a_nameA a_nameB) (hx : gr_M G x) (hEX : ∀ p j, j < 2 → vc_OE c0 (2 * p + j) → ¬ EX p)
    (K : ∀ (c' : vc_T) (f_openEdges f_last f_openCount f_lastEdge : Int32) (a_queue a_state a_worth a_edges : Nat → Int32), vc_A c' f_openEdges f_last f_openCount f_lastEdge a_queue a_state a_worth a_edges → vc_I G ni F FE ob EX ES (fun p j w => EM p j w ∧ ¬ (gr_tg G (2 * p + j) = x ∧ bt wh w = true)) EE c' → vt_ c0 c' → vc_oe c' = vc_oe c0 → (∀ p j, ob p → j < gr_kd G p → vc_OE c' (2 * p + j) → gr_tg G (2 * p + j) = x → ∀ w, w < 6 → bt wh w = true → vc_st c' (70 + (6 * x + w)) ≠ 0) → post (f_blocks, f_given, f_known, f_met, f_openEdges, f_openBlocks, f_first, f_last, f_openCount, f_firstEdge, f_lastEdge, f_result, f_begun, f_latest, f_inputs, a_op, a_d, a_b, a_many, a_kind, a_asks, a_target, a_a, a_order, a_place, a_parent, a_depths, a_living, a_needs, a_merging, a_stack, a_next, a_before, a_frontiers, a_in, a_out, a_nameA, a_nameB, a_queue, a_state, a_worth, a_usedByExit, a_usedBySet, a_usedByLow, a_usedByHigh, a_edges, a_now)) :
    ∀ n v (c : vc_T) (f_openEdges f_last f_openCount f_lastEdge : Int32) (a_queue a_state a_worth a_edges : Nat → Int32), 6 < n + v → v ≤ 6 → vc_A c f_openEdges f_last f_openCount f_lastEdge a_queue a_state a_worth a_edges → vc_I G ni F FE ob EX ES (fun p j w => EM p j w ∧ ¬ (gr_tg G (2 * p + j) = x ∧ w < v ∧ bt wh w = true)) EE c → vt_ c0 c → vc_oe c = vc_oe c0 → (∀ p j, ob p → j < gr_kd G p → vc_OE c (2 * p + j) → gr_tg G (2 * p + j) = x → ∀ w, w < v → bt wh w = true → vc_st c (70 + (6 * x + w)) ≠ 0) → wX_mergeAll_2 post (nI x) wh n (nI v) f_blocks f_given f_known f_met f_openEdges f_openBlocks f_first f_last f_openCount f_firstEdge f_lastEdge f_result f_begun f_latest f_inputs a_op a_d a_b a_many a_kind a_asks a_target a_a a_order a_place a_parent a_depths a_living a_needs a_merging a_stack a_next a_before a_frontiers a_in a_out a_nameA a_nameB a_queue a_state a_worth a_usedByExit a_usedBySet a_usedByLow a_usedByHigh a_edges a_now := by
  have ok := X.1
  have hn16 := ok.1
  have hxn := gr_Mlt ok hx
  intro n
  induction n with
  | zero => intro v c _ _ _ _ _ _ _ _ h1 h2; omega
  | succ n ih =>
    intro v c f_openEdges f_last f_openCount f_lastEdge a_queue a_state a_worth a_edges h1 h2 A I V hoe hk
    rw [wX_mergeAll_2]
    refine pk_le 6 v (fun h => ?_) (fun h => ?_)
    · refine K c _ _ _ _ _ _ _ _ A (vc_em I (fun p j w a1 a2 a3 a4 a5 h6 => Or.inr (Or.inr (Or.inr ⟨h6.1, fun z => h6.2 ⟨z.1, by omega, z.2⟩⟩)))) V hoe (fun p j b1 b2 b3 b4 w hw hb => hk p j b1 b2 b3 b4 w (by omega) hb)
    · refine fb_1 (by omega) (fun hb => ?_) (fun hb => ?_)
      · refine xs_merge X hX T hmg N hlt hN hx h (fun p j hj ho => hEX p j hj (by unfold vc_OE at ho ⊢; rw [← hoe]; exact ho)) A I (fun c' f_openEdges f_last f_openCount f_lastEdge a_queue a_state a_worth a_edges A' I' V' hoe' hk' => ?_)
        refine nm_r (nI_1 v) (ih (v + 1) c' _ _ _ _ _ _ _ _ (by omega) (by omega) A' (vc_em I' (fun p j w a1 a2 a3 a4 a5 h6 => Or.inr (Or.inr (Or.inr ⟨h6.1.1, fun z => ?_⟩)))) (vt_tr V V') (hoe'.trans hoe) (fun p j b1 b2 b3 b4 w hw hbw => ?_))
        · by_cases e : w = v
          · exact h6.2 ⟨z.1, e⟩
          · exact h6.1.2 ⟨z.1, by omega, z.2.2⟩
        · by_cases e : w = v
          · rw [e]; exact hk' p j b1 b2 b3 b4
          · have b3' : vc_OE c (2 * p + j) := by unfold vc_OE at b3 ⊢; rw [← hoe']; exact b3
            exact (V'.1 _ (by omega) (hk p j b1 b2 b3' b4 w (by omega) hbw)).1
      · refine nm_r (nI_1 v) (ih (v + 1) c _ _ _ _ _ _ _ _ (by omega) (by omega) A (vc_em I (fun p j w a1 a2 a3 a4 a5 h6 => Or.inr (Or.inr (Or.inr ⟨h6.1, fun z => ?_⟩)))) V hoe (fun p j b1 b2 b3 b4 w hw hbw => ?_))
        · by_cases e : w = v
          · rw [e, hb] at z
            exact absurd z.2.2 (by decide)
          · exact h6.2 ⟨z.1, by omega, z.2.2⟩
        · by_cases e : w = v
          · rw [e, hb] at hbw
            exact absurd hbw (by decide)
          · exact hk p j b1 b2 b3 b4 w (by omega) hbw
theorem xs_mergeAll {x : Nat} {wh : Int32} (X : xp_ok G f_blocks f_given a_op a_d a_b a_many a_kind a_asks a_target a_a) (hX : xa_ok G m ord pl a_order a_place a_before) (T : dt_ok G m ord pl P) (hmg : ∀ y j, y < 16 → (bt (a_merging y) j = true ↔ (j < 6 ∧ gr_J G j y))) (N : nm_ok G P ni) (hlt : ∀ x, gr_M G x → ∀ v, v < 6 → ni x v < 166) (hN : ∀ x, gr_M G x → gn_B G ni x a_in a_out a_nameA a_nameB) (hx : gr_M G x) (hEX : ∀ p j, j < 2 → vc_OE c (2 * p + j) → ¬ EX p) (A : vc_A c f_openEdges f_last f_openCount f_lastEdge a_queue a_state a_worth a_edges) (I : vc_I G ni F FE ob EX ES EM EE c)
    (K : ∀ (c' : vc_T) (f_openEdges f_last f_openCount f_lastEdge : Int32) (a_queue a_state a_worth a_edges : Nat → Int32), vc_A c' f_openEdges f_last f_openCount f_lastEdge a_queue a_state a_worth a_edges → vc_I G ni F FE ob EX ES (fun p j w => EM p j w ∧ ¬ (gr_tg G (2 * p + j) = x ∧ bt wh w = true)) EE c' → vt_ c c' → vc_oe c' = vc_oe c → (∀ p j, ob p → j < gr_kd G p → vc_OE c' (2 * p + j) → gr_tg G (2 * p + j) = x → ∀ w, w < 6 → bt wh w = true → vc_st c' (70 + (6 * x + w)) ≠ 0) → post (f_blocks, f_given, f_known, f_met, f_openEdges, f_openBlocks, f_first, f_last, f_openCount, f_firstEdge, f_lastEdge, f_result, f_begun, f_latest, f_inputs, a_op, a_d, a_b, a_many, a_kind, a_asks, a_target, a_a, a_order, a_place, a_parent, a_depths, a_living, a_needs, a_merging, a_stack, a_next, a_before, a_frontiers, a_in, a_out, a_nameA, a_nameB, a_queue, a_state, a_worth, a_usedByExit, a_usedBySet, a_usedByLow, a_usedByHigh, a_edges, a_now)) : wpX_mergeAll post (f_blocks, f_given, f_known, f_met, f_openEdges, f_openBlocks, f_first, f_last, f_openCount, f_firstEdge, f_lastEdge, f_result, f_begun, f_latest, f_inputs, a_op, a_d, a_b, a_many, a_kind, a_asks, a_target, a_a, a_order, a_place, a_parent, a_depths, a_living, a_needs, a_merging, a_stack, a_next, a_before, a_frontiers, a_in, a_out, a_nameA, a_nameB, a_queue, a_state, a_worth, a_usedByExit, a_usedBySet, a_usedByLow, a_usedByHigh, a_edges, a_now) (nI x) wh := by
  show ∃ n2 : Nat, wX_mergeAll_2 post (nI x) wh n2 0 f_blocks f_given f_known f_met f_openEdges f_openBlocks f_first f_last f_openCount f_firstEdge f_lastEdge f_result f_begun f_latest f_inputs a_op a_d a_b a_many a_kind a_asks a_target a_a a_order a_place a_parent a_depths a_living a_needs a_merging a_stack a_next a_before a_frontiers a_in a_out a_nameA a_nameB a_queue a_state a_worth a_usedByExit a_usedBySet a_usedByLow a_usedByHigh a_edges a_now
  exact ⟨7, xs_2m (EM := EM) c X hX T hmg N hlt hN hx hEX K 7 0 c _ _ _ _ _ _ _ _ (by omega) (by omega) A (vc_em I (fun p j w _ _ _ _ _ h => Or.inr (Or.inr (Or.inr ⟨h, fun z => by omega⟩)))) vt_rf rfl (fun p j _ _ _ _ w hw => by omega)⟩
end
end
section
theorem vl_neg1 (x : Int32) : x / (-1) = -x := by
  apply Int32.toInt_inj.mp
  rw [Int32.toInt_div, show (-1 : Int32).toInt = -1 from by decide, Int.tdiv_neg, Int.tdiv_one, Int32.toInt_neg]
theorem xs_calc {post : Int32 → Prop} {o : Nat} {x y : Int32} (h2 : 2 ≤ o) (h6 : o < 7) (K : post (vl_calc o x y)) : wpX_calculate post (nI o) x y := by
  have ef : ∀ z : Int32, vl_calc o x y = z → post z := fun z e => by rw [← e]; exact K
  unfold wpX_calculate
  refine pk_lt o 2 (fun h => absurd h (by omega)) (fun _ => pk_lt 5 o (fun h => ?_) (fun h => ?_))
  · have e : o = 6 := by omega
    have hc : vl_calc o x y = if y = 0 then 0 else x / y := by rw [e]; rfl
    refine br_c (fun h0 => ef 0 ?_) (fun h0 => br_c (fun h1 => ef _ ?_) (fun h1 => ⟨h0, ef _ ?_⟩))
    · rw [hc, if_pos h0]
    · rw [hc, if_neg h0, h1]; exact vl_neg1 x
    · rw [hc, if_neg h0]
  · refine pk_eq o 2 (fun e => ef _ ?_) (fun e2 => pk_eq o 3 (fun e => ef _ ?_) (fun e3 => pk_eq o 4 (fun e => ef _ ?_) (fun e4 => pk_eq o 5 (fun e => br_c (fun hl => ef _ ?_) (fun hl => ef _ ?_)) (fun e5 => absurd h (by omega)))))
    · rw [e]; rfl
    · rw [e]; rfl
    · rw [e]; rfl
    · rw [e]
      show (if y ≤ x then (0 : Int32) else 1) = 0
      exact if_pos hl
    · rw [e]
      show (if y ≤ x then (0 : Int32) else 1) = 1
      exact if_neg hl
section
variable {f_blocks f_given f_known f_met f_openEdges f_openBlocks f_first f_last f_openCount f_firstEdge f_lastEdge f_result f_begun f_latest f_inputs : Int32} {a_op a_d a_b a_many a_kind a_asks a_target a_a a_order a_place a_parent a_depths a_living a_needs a_merging a_stack a_next a_before a_frontiers a_in a_out a_nameA a_nameB a_queue a_state a_worth a_usedByExit a_edges a_now : Nat → Int32} {a_usedBySet a_usedByLow a_usedByHigh : Nat → Int64}
variable {G : gr_T} {m : Nat} {ord pl : Nat → Nat} {P : Nat → Option Nat} {ni : Nat → Nat → Nat} {post : SX → Prop} {F FE : Nat} {ob EX : Nat → Prop} {ES : Nat → Nat → Prop} {EM : Nat → Nat → Nat → Prop} {EE : Nat → Prop} {c : vc_T}
theorem xs_isZero {post : Int32 → Prop} {n : Nat} (A : vc_A c f_openEdges f_last f_openCount f_lastEdge a_queue a_state a_worth a_edges) (hn : n < 166) (hk : vc_st c n ≠ 0) (hz : vc_st c n ≤ 2) (K1 : vc_v c n = some 0 → post 1) (K0 : vc_v c n ≠ some 0 → post 0) : wpX_isZero post (f_blocks, f_given, f_known, f_met, f_openEdges, f_openBlocks, f_first, f_last, f_openCount, f_firstEdge, f_lastEdge, f_result, f_begun, f_latest, f_inputs, a_op, a_d, a_b, a_many, a_kind, a_asks, a_target, a_a, a_order, a_place, a_parent, a_depths, a_living, a_needs, a_merging, a_stack, a_next, a_before, a_frontiers, a_in, a_out, a_nameA, a_nameB, a_queue, a_state, a_worth, a_usedByExit, a_usedBySet, a_usedByLow, a_usedByHigh, a_edges, a_now) (nI n) := by
  unfold wpX_isZero
  dsimp only
  have hin : vp_in (nI n) 166 := vp_in_nI hn (by omega)
  have hv : vc_v c n = if vc_st c n = 2 then none else some (vc_wo c n) := rfl
  rw [fn_c (a := n) (by omega), A.2.2.2.2.2.1 n hn, A.2.2.2.2.2.2.1 n hn]
  refine ⟨hin, pk_eq (vc_st c n) 1 (fun h => ⟨hin, br_c (fun z => K1 ?_) (fun z => K0 ?_)⟩) (fun h => K0 ?_)⟩
  · rw [hv, if_neg (by omega), z]
  · rw [hv, if_neg (by omega)]
    exact fun y => z (Option.some.inj y)
  · rw [hv, if_pos (by omega)]
    exact fun y => nomatch y
theorem xs_set {x i : Nat} (X : xp_ok G f_blocks f_given a_op a_d a_b a_many a_kind a_asks a_target a_a) (hX : xa_ok G m ord pl a_order a_place a_before) (T : dt_ok G m ord pl P) (hmg : ∀ y j, y < 16 → (bt (a_merging y) j = true ↔ (j < 6 ∧ gr_J G j y))) (N : nm_ok G P ni) (hlt : ∀ x, gr_M G x → ∀ v, v < 6 → ni x v < 166) (hN : ∀ x, gr_M G x → gn_B G ni x a_in a_out a_nameA a_nameB) (hx : gr_M G x) (hi : i < gr_mn G x) (hlw : ∀ (O : Nat → Prop) (B : Nat → Nat → Option Int32), vl_cl G O B → ∀ v, v < 6 → vl_le (vl_D G B (ni x v)) (B x v)) (hkn : ∀ v, gr_us G (4 * x + i) v → vc_st c (nb_ G ni x i v) ≠ 0) (A : vc_A c f_openEdges f_last f_openCount f_lastEdge a_queue a_state a_worth a_edges) (I : vc_I G ni F FE ob EX ES EM EE c)
    (K : ∀ (c' : vc_T) (f_openEdges f_last f_openCount f_lastEdge : Int32) (a_queue a_state a_worth a_edges : Nat → Int32), vc_A c' f_openEdges f_last f_openCount f_lastEdge a_queue a_state a_worth a_edges → vc_I G ni F FE ob EX (fun y j => ES y j ∧ ¬ (y = x ∧ j = i)) EM EE c' → vt_ c c' → vc_oe c' = vc_oe c → vc_st c' (6 + (4 * x + i)) ≠ 0 → post (f_blocks, f_given, f_known, f_met, f_openEdges, f_openBlocks, f_first, f_last, f_openCount, f_firstEdge, f_lastEdge, f_result, f_begun, f_latest, f_inputs, a_op, a_d, a_b, a_many, a_kind, a_asks, a_target, a_a, a_order, a_place, a_parent, a_depths, a_living, a_needs, a_merging, a_stack, a_next, a_before, a_frontiers, a_in, a_out, a_nameA, a_nameB, a_queue, a_state, a_worth, a_usedByExit, a_usedBySet, a_usedByLow, a_usedByHigh, a_edges, a_now)) : wpX_set post (f_blocks, f_given, f_known, f_met, f_openEdges, f_openBlocks, f_first, f_last, f_openCount, f_firstEdge, f_lastEdge, f_result, f_begun, f_latest, f_inputs, a_op, a_d, a_b, a_many, a_kind, a_asks, a_target, a_a, a_order, a_place, a_parent, a_depths, a_living, a_needs, a_merging, a_stack, a_next, a_before, a_frontiers, a_in, a_out, a_nameA, a_nameB, a_queue, a_state, a_worth, a_usedByExit, a_usedBySet, a_usedByLow, a_usedByHigh, a_edges, a_now) (nI (4 * x + i)) := by
  have ok := X.1
  have hn16 := ok.1
  have hxn := gr_Mlt ok hx
  have h4 := (ok.2.2 x hxn).1
  have hI := (ok.2.2 x hxn).2.2.2.2 i hi
  have hXi := X.2.2.2.2.2.2.2 x i hxn hi
  have hnm := (hN x hx).2 i hi
  have hop := hI.1
  have ii : vp_in (nI (4 * x + i)) 64 := vp_in_nI (by omega) (by omega)
  have ci : (nI (4 * x + i)).toNatClampNeg = 4 * x + i := fn_c (by omega)
  have hnlt : ∀ v, v < 6 → nb_ G ni x i v < 166 := nb_lt ok hxn (hlt x hx) i (by omega)
  have fin : ∀ {post' : SX → Prop} (to : Nat) (w : Int32), (to = 1 ∨ to = 2) → vw_ to w = vl_ev G (4 * x + i) (fun v => vc_v c (nb_ G ni x i v)) → (∀ (f_openEdges f_last f_openCount f_lastEdge : Int32) (a_queue a_state a_worth a_edges : Nat → Int32), post (f_blocks, f_given, f_known, f_met, f_openEdges, f_openBlocks, f_first, f_last, f_openCount, f_firstEdge, f_lastEdge, f_result, f_begun, f_latest, f_inputs, a_op, a_d, a_b, a_many, a_kind, a_asks, a_target, a_a, a_order, a_place, a_parent, a_depths, a_living, a_needs, a_merging, a_stack, a_next, a_before, a_frontiers, a_in, a_out, a_nameA, a_nameB, a_queue, a_state, a_worth, a_usedByExit, a_usedBySet, a_usedByLow, a_usedByHigh, a_edges, a_now) → post' (f_blocks, f_given, f_known, f_met, f_openEdges, f_openBlocks, f_first, f_last, f_openCount, f_firstEdge, f_lastEdge, f_result, f_begun, f_latest, f_inputs, a_op, a_d, a_b, a_many, a_kind, a_asks, a_target, a_a, a_order, a_place, a_parent, a_depths, a_living, a_needs, a_merging, a_stack, a_next, a_before, a_frontiers, a_in, a_out, a_nameA, a_nameB, a_queue, a_state, a_worth, a_usedByExit, a_usedBySet, a_usedByLow, a_usedByHigh, a_edges, a_now)) → wpX_raise post' (f_blocks, f_given, f_known, f_met, f_openEdges, f_openBlocks, f_first, f_last, f_openCount, f_firstEdge, f_lastEdge, f_result, f_begun, f_latest, f_inputs, a_op, a_d, a_b, a_many, a_kind, a_asks, a_target, a_a, a_order, a_place, a_parent, a_depths, a_living, a_needs, a_merging, a_stack, a_next, a_before, a_frontiers, a_in, a_out, a_nameA, a_nameB, a_queue, a_state, a_worth, a_usedByExit, a_usedBySet, a_usedByLow, a_usedByHigh, a_edges, a_now) (nI (6 + (4 * x + i))) (nI to) w := by
    intro post' to w hto hw hp
    refine xs_raise ok hlt A I (by omega) hto (fun O B hc => ?_) (fun c' f_openEdges f_last f_openCount f_lastEdge a_queue a_state a_worth a_edges A' I' V' hU h0 hle => hp _ _ _ _ _ _ _ _ (K c' _ _ _ _ _ _ _ _ A' (vc_es I' (fun y j hy hj hE => ?_)) V' hU.1 h0))
    · rw [hw]
      have hL := I.1 O B hc
      exact vl_L2 ok hxn (hlw O B hc) hi (fun v hv => hL.1 _ (hnlt v (us_lt ok hxn hi hv)) (hkn v hv))
    · by_cases e : y = x ∧ j = i
      · obtain ⟨rfl, rfl⟩ := e
        rw [hw] at hle
        by_cases hu : ∃ v, gr_us G (4 * y + j) v ∧ nb_ G ni y j v = 6 + (4 * y + j)
        · rcases hU.2.2 with z | z
          · refine Or.inl ⟨h0, ?_⟩
            rw [z] at hle ⊢
            exact hle
          · obtain ⟨v, hv, ev⟩ := hu
            exact Or.inr (Or.inl ⟨v, hv, by rw [ev]; exact z⟩)
        · refine Or.inl ⟨h0, vl_tr (vl_evm hop (fun v hv => ?_)) hle⟩
          show vl_le (vc_v c' (nb_ G ni y j v)) (vc_v c (nb_ G ni y j v))
          rw [hU.2.1 _ (fun ev => hu ⟨v, hv, ev⟩)]
          exact vl_rf
      · exact Or.inr (Or.inr ⟨hE, e⟩)
  unfold wpX_set
  dsimp only
  rw [ci, hXi.1, hnm.1, hnm.2]
  have e6 : (6 : Int32) + nI (4 * x + i) = nI (6 + (4 * x + i)) := nI_add 6 _
  refine ⟨ii, nm_e ⟨ii, nm_e ⟨ii, nm_e (nm_r e6 ?_)⟩⟩⟩
  refine pk_eq (gr_op G (4 * x + i)) 0 (fun h0 => ?_) (fun h0 => pk_eq (gr_op G (4 * x + i)) 7 (fun h7 => ?_) (fun h7 => ?_))
  · rw [wX_set_38]
    refine br_t (by rw [h0]; rfl) ?_
    rw [wX_set_50]
    refine br_t (by rw [h0]; rfl) ⟨ii, ?_⟩
    rw [wX_set_64, ci, hXi.2.2.1]
    refine fin 1 _ (Or.inl rfl) ?_ (fun _ _ _ _ _ _ _ _ h => h)
    unfold vl_ev
    rw [if_neg (by omega), if_pos h0]
    rfl
  · rw [wX_set_38]
    refine br_f (by rw [h7]; decide) ?_
    rw [wX_set_50]
    refine br_f (by rw [h7]; decide) ?_
    rw [wX_set_64]
    refine fin 2 _ (Or.inr rfl) ?_ (fun _ _ _ _ _ _ _ _ h => h)
    unfold vl_ev
    rw [if_pos h7]
    rfl
  · have ha := hI.2.2.2 h0 h7
    have eA : nA_ G ni x i = nI (nb_ G ni x i (gr_av G (4 * x + i))) := if_neg (fun z => z.elim h0 h7)
    have hA := hnlt _ ha.2
    have iA : vp_in (nI (nb_ G ni x i (gr_av G (4 * x + i)))) 166 := vp_in_nI hA (by omega)
    have cA : (nI (nb_ G ni x i (gr_av G (4 * x + i)))).toNatClampNeg = nb_ G ni x i (gr_av G (4 * x + i)) := fn_c (by omega)
    have zA := I.2.2.2.2.2.2.1 _ hA
    rw [eA]
    refine pk_eq (gr_op G (4 * x + i)) 1 (fun h1 => ?_) (fun h1 => ?_)
    · have kA := hkn _ (Or.inl ⟨h1, rfl⟩)
      rw [cA, A.2.2.2.2.2.1 _ hA, A.2.2.2.2.2.2.1 _ hA]
      refine ⟨iA, iA, fin _ _ (by omega) ?_ (fun _ _ _ _ _ _ _ _ h => h)⟩
      unfold vl_ev
      rw [if_neg h7, if_neg h0, if_pos h1]
      rfl
    · have eB : nB_ G ni x i = nI (nb_ G ni x i (gr_bb G (4 * x + i))) := if_neg (fun z => z.elim (fun w => by omega) h7)
      have hB := hnlt _ hI.2.2.1
      have iB : vp_in (nI (nb_ G ni x i (gr_bb G (4 * x + i)))) 166 := vp_in_nI hB (by omega)
      have cB : (nI (nb_ G ni x i (gr_bb G (4 * x + i)))).toNatClampNeg = nb_ G ni x i (gr_bb G (4 * x + i)) := fn_c (by omega)
      have zB := I.2.2.2.2.2.2.1 _ hB
      have kA := hkn _ (Or.inr ⟨by omega, by omega, Or.inl rfl⟩)
      have kB := hkn _ (Or.inr ⟨by omega, by omega, Or.inr rfl⟩)
      have hev : vl_ev G (4 * x + i) (fun v => vc_v c (nb_ G ni x i v)) = vl_bin (gr_op G (4 * x + i)) (vc_v c (nb_ G ni x i (gr_av G (4 * x + i)))) (vc_v c (nb_ G ni x i (gr_bb G (4 * x + i)))) := by
        unfold vl_ev
        rw [if_neg h7, if_neg h0, if_neg h1]
      have vA : vc_v c (nb_ G ni x i (gr_av G (4 * x + i))) = if vc_st c (nb_ G ni x i (gr_av G (4 * x + i))) = 2 then none else some (vc_wo c (nb_ G ni x i (gr_av G (4 * x + i)))) := rfl
      have vB : vc_v c (nb_ G ni x i (gr_bb G (4 * x + i))) = if vc_st c (nb_ G ni x i (gr_bb G (4 * x + i))) = 2 then none else some (vc_wo c (nb_ G ni x i (gr_bb G (4 * x + i)))) := rfl
      have k129 : ¬ (gr_op G (4 * x + i) = 4 ∧ (vc_v c (nb_ G ni x i (gr_av G (4 * x + i))) = some 0 ∨ vc_v c (nb_ G ni x i (gr_bb G (4 * x + i))) = some 0)) → wX_set_129 post (nI (gr_op G (4 * x + i))) (nI (nb_ G ni x i (gr_av G (4 * x + i)))) (nI (nb_ G ni x i (gr_bb G (4 * x + i)))) (nI (6 + (4 * x + i))) f_blocks f_given f_known f_met f_openEdges f_openBlocks f_first f_last f_openCount f_firstEdge f_lastEdge f_result f_begun f_latest f_inputs a_op a_d a_b a_many a_kind a_asks a_target a_a a_order a_place a_parent a_depths a_living a_needs a_merging a_stack a_next a_before a_frontiers a_in a_out a_nameA a_nameB a_queue a_state a_worth a_usedByExit a_usedBySet a_usedByLow a_usedByHigh a_edges a_now := by
        intro hz
        have hb : vl_ev G (4 * x + i) (fun v => vc_v c (nb_ G ni x i v)) = vl_2 (vl_calc (gr_op G (4 * x + i))) (vc_v c (nb_ G ni x i (gr_av G (4 * x + i)))) (vc_v c (nb_ G ni x i (gr_bb G (4 * x + i)))) := by
          rw [hev]
          exact if_neg hz
        rw [wX_set_129, cA, cB, A.2.2.2.2.2.1 _ hA, A.2.2.2.2.2.2.1 _ hA, A.2.2.2.2.2.1 _ hB, A.2.2.2.2.2.2.1 _ hB]
        refine ⟨iA, pk_eq (vc_st c (nb_ G ni x i (gr_av G (4 * x + i)))) 2 (fun hA2 => ?_) (fun hA2 => ⟨iB, pk_eq (vc_st c (nb_ G ni x i (gr_bb G (4 * x + i)))) 2 (fun hB2 => ?_) (fun hB2 => ⟨iA, iB, ?_⟩)⟩)⟩
        · rw [wX_set_150]
          refine fin 2 0 (Or.inr rfl) ?_ (fun _ _ _ _ _ _ _ _ h => h)
          rw [hb, vA, if_pos hA2]
          rfl
        · rw [wX_set_150]
          refine fin 2 0 (Or.inr rfl) ?_ (fun _ _ _ _ _ _ _ _ h => h)
          rw [hb, vB, if_pos hB2, vl_2n]
          rfl
        · refine xs_calc (by omega) (by omega) ?_
          refine fin 1 _ (Or.inl rfl) ?_ (fun _ _ _ _ _ _ _ _ h => h)
          rw [hb, vA, vB, if_neg hA2, if_neg hB2]
          rfl
      have k118 : (gr_op G (4 * x + i) = 4 ∧ (vc_v c (nb_ G ni x i (gr_av G (4 * x + i))) = some 0 ∨ vc_v c (nb_ G ni x i (gr_bb G (4 * x + i))) = some 0)) → wX_set_118 post (nI (6 + (4 * x + i))) f_blocks f_given f_known f_met f_openEdges f_openBlocks f_first f_last f_openCount f_firstEdge f_lastEdge f_result f_begun f_latest f_inputs a_op a_d a_b a_many a_kind a_asks a_target a_a a_order a_place a_parent a_depths a_living a_needs a_merging a_stack a_next a_before a_frontiers a_in a_out a_nameA a_nameB a_queue a_state a_worth a_usedByExit a_usedBySet a_usedByLow a_usedByHigh a_edges a_now := by
        intro hz
        rw [wX_set_118]
        refine fin 1 0 (Or.inl rfl) ?_ (fun _ _ _ _ _ _ _ _ h => h)
        rw [hev]
        exact (if_pos hz).symm
      rw [eB]
      refine pk_eq (gr_op G (4 * x + i)) 4 (fun h4' => ?_) (fun h4' => k129 (fun z => h4' z.1))
      refine xs_isZero A hA kA zA (fun z => ?_) (fun z => ?_)
      · exact br_f (by decide) (k118 ⟨h4', Or.inl z⟩)
      · refine br_t rfl (xs_isZero A hB kB zB (fun y => ?_) (fun y => ?_))
        · exact br_f (by decide) (k118 ⟨h4', Or.inr y⟩)
        · exact br_t rfl (k129 (fun w => w.2.elim z y))
theorem xs_openEdge {x j : Nat} (ok : gr_ok G) (A : vc_A c f_openEdges f_last f_openCount f_lastEdge a_queue a_state a_worth a_edges) (I : vc_I G ni F FE ob EX ES EM EE c) (hx : ob x) (hj : j < gr_kd G x) (hlow : ∀ (O : Nat → Prop) (B : Nat → Nat → Option Int32), vl_cl G O B → vl_ld G x j (vl_e G x (B x) (gr_mn G x) (gr_ak G x)))
    (K : ∀ (c' : vc_T) (f_openEdges f_last f_openCount f_lastEdge : Int32) (a_queue a_state a_worth a_edges : Nat → Int32), vc_A c' f_openEdges f_last f_openCount f_lastEdge a_queue a_state a_worth a_edges → vc_I G ni F FE ob EX ES EM EE c' → vt_ c c' → vc_OE c' (2 * x + j) → (∀ k, vc_v c' k = vc_v c k) → vc_wo c' = vc_wo c → post (f_blocks, f_given, f_known, f_met, f_openEdges, f_openBlocks, f_first, f_last, f_openCount, f_firstEdge, f_lastEdge, f_result, f_begun, f_latest, f_inputs, a_op, a_d, a_b, a_many, a_kind, a_asks, a_target, a_a, a_order, a_place, a_parent, a_depths, a_living, a_needs, a_merging, a_stack, a_next, a_before, a_frontiers, a_in, a_out, a_nameA, a_nameB, a_queue, a_state, a_worth, a_usedByExit, a_usedBySet, a_usedByLow, a_usedByHigh, a_edges, a_now)) : wpX_openEdge post (f_blocks, f_given, f_known, f_met, f_openEdges, f_openBlocks, f_first, f_last, f_openCount, f_firstEdge, f_lastEdge, f_result, f_begun, f_latest, f_inputs, a_op, a_d, a_b, a_many, a_kind, a_asks, a_target, a_a, a_order, a_place, a_parent, a_depths, a_living, a_needs, a_merging, a_stack, a_next, a_before, a_frontiers, a_in, a_out, a_nameA, a_nameB, a_queue, a_state, a_worth, a_usedByExit, a_usedBySet, a_usedByLow, a_usedByHigh, a_edges, a_now) (nI (2 * x + j)) := by
  have hn16 := ok.1
  have hxn := gr_Mlt ok (I.2.1 x hx).1
  have hkd := (ok.2.2 x hxn).2.1
  unfold wpX_openEdge
  dsimp only
  have A0 := A
  obtain ⟨a1, a2, a3, a4, a5, a6, a7, a8⟩ := A
  have key : (vc_OE c (2 * x + j) → post (f_blocks, f_given, f_known, f_met, f_openEdges, f_openBlocks, f_first, f_last, f_openCount, f_firstEdge, f_lastEdge, f_result, f_begun, f_latest, f_inputs, a_op, a_d, a_b, a_many, a_kind, a_asks, a_target, a_a, a_order, a_place, a_parent, a_depths, a_living, a_needs, a_merging, a_stack, a_next, a_before, a_frontiers, a_in, a_out, a_nameA, a_nameB, a_queue, a_state, a_worth, a_usedByExit, a_usedBySet, a_usedByLow, a_usedByHigh, a_edges, a_now)) ∧ (¬ vc_OE c (2 * x + j) → ∀ f_openEdges_2 : Int32, f_openEdges_2 = f_openEdges ||| ((1 : Int32) <<< (nI (2 * x + j) &&& 31)) → ∀ f_openCount_3 : Int32, f_openCount_3 = f_openCount + 1 → ∀ f_lastEdge_4 : Int32, f_lastEdge_4 = f_lastEdge + 1 → (vp_in f_lastEdge 40 ∧ ∀ a_edges_6 : Nat → Int32, a_edges_6 = upd a_edges f_lastEdge.toNatClampNeg (vp_nar .byte (nI (2 * x + j)).toInt8.toInt32) → post (f_blocks, f_given, f_known, f_met, f_openEdges_2, f_openBlocks, f_first, f_last, f_openCount_3, f_firstEdge, f_lastEdge_4, f_result, f_begun, f_latest, f_inputs, a_op, a_d, a_b, a_many, a_kind, a_asks, a_target, a_a, a_order, a_place, a_parent, a_depths, a_living, a_needs, a_merging, a_stack, a_next, a_before, a_frontiers, a_in, a_out, a_nameA, a_nameB, a_queue, a_state, a_worth, a_usedByExit, a_usedBySet, a_usedByLow, a_usedByHigh, a_edges_6, a_now))) := by
    refine ⟨fun h => K c _ _ _ _ _ _ _ _ A0 I vt_rf h (fun _ => rfl) rfl, fun h => ?_⟩
    obtain ⟨r1, r2⟩ := vc_ook ok I hx hj h hlow
    have hle : vc_LE c ≤ 31 := by
      have h1 := vc_LE32 r1
      have h2 : vc_LE (vc_o c (2 * x + j)) = vc_LE c + 1 := rfl
      omega
    rw [a3, a4, nI_1, fn_c (a := vc_LE c) (by omega), fb_vb (by omega)]
    refine nm_e (nm_e (nm_e ⟨vp_in_nI (by omega) (by omega), nm_e (K (vc_o c (2 * x + j)) _ _ _ _ _ _ _ _ ⟨by rw [a1]; rfl, a2, rfl, rfl, a5, a6, a7, fun k hk => ?_⟩ r1 r2 ((vo_OE (by omega)).mpr (Or.inr rfl)) (fun _ => rfl) rfl)⟩))
    have hk' : k < vc_LE c + 1 := hk
    show upd a_edges (vc_LE c) (nI (2 * x + j)) k = nI (un_ (vc_eq c) (vc_LE c) (2 * x + j) k) ∧ un_ (vc_eq c) (vc_LE c) (2 * x + j) k < 32
    by_cases e : k = vc_LE c
    · rw [e, pk_us, un_s]; exact ⟨rfl, by omega⟩
    · rw [pk_un e, un_n e]; exact a8 k (by omega)
  rw [a1]
  rw [a1] at key
  exact fb_1 (by omega) (fun h => key.1 h) (fun h => key.2 (fun z => by unfold vc_OE at z; rw [h] at z; exact absurd z (by decide)))
theorem xs_leave {x : Nat} (X : xp_ok G f_blocks f_given a_op a_d a_b a_many a_kind a_asks a_target a_a) (hX : xa_ok G m ord pl a_order a_place a_before) (T : dt_ok G m ord pl P) (hmg : ∀ y j, y < 16 → (bt (a_merging y) j = true ↔ (j < 6 ∧ gr_J G j y))) (N : nm_ok G P ni) (hlt : ∀ x, gr_M G x → ∀ v, v < 6 → ni x v < 166) (hN : ∀ x, gr_M G x → gn_B G ni x a_in a_out a_nameA a_nameB) (hx : ob x) (hkn : vc_st c (ne_ G ni x (gr_ak G x)) ≠ 0) (A : vc_A c f_openEdges f_last f_openCount f_lastEdge a_queue a_state a_worth a_edges) (I : vc_I G ni F FE ob EX ES EM EE c)
    (K : ∀ (c' : vc_T) (f_openEdges f_last f_openCount f_lastEdge : Int32) (a_queue a_state a_worth a_edges : Nat → Int32), vc_A c' f_openEdges f_last f_openCount f_lastEdge a_queue a_state a_worth a_edges → vc_I G ni F FE ob EX ES EM (fun y => EE y ∧ y ≠ x) c' → vt_ c c' → post (f_blocks, f_given, f_known, f_met, f_openEdges, f_openBlocks, f_first, f_last, f_openCount, f_firstEdge, f_lastEdge, f_result, f_begun, f_latest, f_inputs, a_op, a_d, a_b, a_many, a_kind, a_asks, a_target, a_a, a_order, a_place, a_parent, a_depths, a_living, a_needs, a_merging, a_stack, a_next, a_before, a_frontiers, a_in, a_out, a_nameA, a_nameB, a_queue, a_state, a_worth, a_usedByExit, a_usedBySet, a_usedByLow, a_usedByHigh, a_edges, a_now)) : wpX_leave post (f_blocks, f_given, f_known, f_met, f_openEdges, f_openBlocks, f_first, f_last, f_openCount, f_firstEdge, f_lastEdge, f_result, f_begun, f_latest, f_inputs, a_op, a_d, a_b, a_many, a_kind, a_asks, a_target, a_a, a_order, a_place, a_parent, a_depths, a_living, a_needs, a_merging, a_stack, a_next, a_before, a_frontiers, a_in, a_out, a_nameA, a_nameB, a_queue, a_state, a_worth, a_usedByExit, a_usedBySet, a_usedByLow, a_usedByHigh, a_edges, a_now) (nI x) := by
  have ok := X.1
  have hn16 := ok.1
  have hMx := (I.2.1 x hx).1
  have hxn := gr_Mlt ok hMx
  have hB := ok.2.2 x hxn
  have hkd := hB.2.1
  have hak := hB.2.2.1
  have ix : vp_in (nI x) 16 := vp_in_nI (by omega) (by omega)
  have cx : (nI x).toNatClampNeg = x := fn_c (by omega)
  have hnlt : ne_ G ni x (gr_ak G x) < 166 := nb_lt ok hxn (hlt x hMx) _ (Nat.le_refl _) _ hak
  have iw : vp_in (nI (ne_ G ni x (gr_ak G x))) 166 := vp_in_nI hnlt (by omega)
  have cw : (nI (ne_ G ni x (gr_ak G x))).toNatClampNeg = ne_ G ni x (gr_ak G x) := fn_c (by omega)
  have hz := I.2.2.2.2.2.2.1 _ hnlt
  have hv : vc_v c (ne_ G ni x (gr_ak G x)) = if vc_st c (ne_ G ni x (gr_ak G x)) = 2 then none else some (vc_wo c (ne_ G ni x (gr_ak G x))) := rfl
  have low : ∀ j, vl_ld G x j (vc_v c (ne_ G ni x (gr_ak G x))) → ∀ (O : Nat → Prop) (B : Nat → Nat → Option Int32), vl_cl G O B → vl_ld G x j (vl_e G x (B x) (gr_mn G x) (gr_ak G x)) := by
    intro j hj O B hc
    have hL := I.1 O B hc
    exact vl_ldm (vl_tr (hL.1 _ hnlt hkn) (vl_L1 ok hxn (hL.2.1 x hx).2 _ (Nat.le_refl _) _ hak)) hj
  -- with no edge left
  have done : ∀ (c' : vc_T) (f_openEdges f_last f_openCount f_lastEdge : Int32) (a_queue a_state a_worth a_edges : Nat → Int32), vc_A c' f_openEdges f_last f_openCount f_lastEdge a_queue a_state a_worth a_edges → vc_I G ni F FE ob EX ES EM EE c' → vt_ c c' → (∀ j, vl_ld G x j (vc_v c' (ne_ G ni x (gr_ak G x))) → vc_OE c' (2 * x + j)) → post (f_blocks, f_given, f_known, f_met, f_openEdges, f_openBlocks, f_first, f_last, f_openCount, f_firstEdge, f_lastEdge, f_result, f_begun, f_latest, f_inputs, a_op, a_d, a_b, a_many, a_kind, a_asks, a_target, a_a, a_order, a_place, a_parent, a_depths, a_living, a_needs, a_merging, a_stack, a_next, a_before, a_frontiers, a_in, a_out, a_nameA, a_nameB, a_queue, a_state, a_worth, a_usedByExit, a_usedBySet, a_usedByLow, a_usedByHigh, a_edges, a_now) := by
    intro c' f_openEdges f_last f_openCount f_lastEdge a_queue a_state a_worth a_edges A' I' V' h
    refine K c' _ _ _ _ _ _ _ _ A' (vc_ee I' (fun y j hy hl hE => ?_)) V'
    by_cases e : y = x
    · rw [e] at hl ⊢
      exact Or.inl (h j hl)
    · exact Or.inr (Or.inr ⟨hE, e⟩)
  -- the second edge
  have k106 : ∀ (c' : vc_T) (f_openEdges f_last f_openCount f_lastEdge : Int32) (a_queue a_state a_worth a_edges : Nat → Int32), vc_A c' f_openEdges f_last f_openCount f_lastEdge a_queue a_state a_worth a_edges → vc_I G ni F FE ob EX ES EM EE c' → vt_ c c' → (∀ k, vc_v c' k = vc_v c k) → gr_kd G x = 2 → vl_ld G x 1 (vc_v c (ne_ G ni x (gr_ak G x))) → (vl_ld G x 0 (vc_v c (ne_ G ni x (gr_ak G x))) → vc_OE c' (2 * x + 0)) → wX_leave_106 post (nI x) f_blocks f_given f_known f_met f_openEdges f_openBlocks f_first f_last f_openCount f_firstEdge f_lastEdge f_result f_begun f_latest f_inputs a_op a_d a_b a_many a_kind a_asks a_target a_a a_order a_place a_parent a_depths a_living a_needs a_merging a_stack a_next a_before a_frontiers a_in a_out a_nameA a_nameB a_queue a_state a_worth a_usedByExit a_usedBySet a_usedByLow a_usedByHigh a_edges a_now := by
    intro c' f_openEdges f_last f_openCount f_lastEdge a_queue a_state a_worth a_edges A' I' V' hvv hk2 h1 h0
    rw [wX_leave_106, fn_21]
    refine xs_openEdge ok A' I' hx (by omega) (low 1 h1) (fun c'' f_openEdges f_last f_openCount f_lastEdge a_queue a_state a_worth a_edges A'' I'' V'' ho hvv' _ => done c'' _ _ _ _ _ _ _ _ A'' I'' (vt_tr V' V'') (fun j hj => ?_))
    have hj2 := hj.1
    rcases (show j = 0 ∨ j = 1 by omega) with z | z
    · rw [z] at hj ⊢
      rw [hvv', hvv] at hj
      exact V''.2 _ (h0 hj)
    · rw [z]; exact ho
  have k83 : ∀ (z0 : Int32) (c' : vc_T) (f_openEdges f_last f_openCount f_lastEdge : Int32) (a_queue a_state a_worth a_edges : Nat → Int32), vc_A c' f_openEdges f_last f_openCount f_lastEdge a_queue a_state a_worth a_edges → vc_I G ni F FE ob EX ES EM EE c' → vt_ c c' → (∀ k, vc_v c' k = vc_v c k) → vc_wo c' (ne_ G ni x (gr_ak G x)) = vc_wo c (ne_ G ni x (gr_ak G x)) → (z0 = 0 → gr_kd G x = 2 → vc_v c (ne_ G ni x (gr_ak G x)) = some (vc_wo c (ne_ G ni x (gr_ak G x)))) → (z0 ≠ 0 → vc_v c (ne_ G ni x (gr_ak G x)) = none) → (vl_ld G x 0 (vc_v c (ne_ G ni x (gr_ak G x))) → vc_OE c' (2 * x + 0)) → wX_leave_83 post (nI x) (nI (ne_ G ni x (gr_ak G x))) z0 f_blocks f_given f_known f_met f_openEdges f_openBlocks f_first f_last f_openCount f_firstEdge f_lastEdge f_result f_begun f_latest f_inputs a_op a_d a_b a_many a_kind a_asks a_target a_a a_order a_place a_parent a_depths a_living a_needs a_merging a_stack a_next a_before a_frontiers a_in a_out a_nameA a_nameB a_queue a_state a_worth a_usedByExit a_usedBySet a_usedByLow a_usedByHigh a_edges a_now := by
    intro z0 c' f_openEdges f_last f_openCount f_lastEdge a_queue a_state a_worth a_edges A' I' V' hvv hwo hz1 hz2 h0
    rw [wX_leave_83, cx, cw, X.2.2.2.2.1 x hxn, A'.2.2.2.2.2.2.1 _ hnlt, hwo]
    refine ⟨ix, pk_eq (gr_kd G x) 2 (fun hk2 => br_c (fun e => ⟨iw, br_c (fun ew => ?_) (fun ew => ?_)⟩) (fun e => ?_)) (fun hk2 => ?_)⟩
    · exact k106 c' _ _ _ _ _ _ _ _ A' I' V' hvv hk2 ⟨by omega, fun _ => Or.inr ⟨_, hz1 e hk2, by simp [ew]⟩⟩ h0
    · refine done c' _ _ _ _ _ _ _ _ A' I' V' (fun j hj => ?_)
      rw [hvv] at hj
      have hj2 := hj.1
      rcases (show j = 0 ∨ j = 1 by omega) with z | z
      · rw [z] at hj ⊢; exact h0 hj
      · exfalso
        rcases hj.2 hk2 with y | ⟨d, y, y2⟩
        · rw [hz1 e hk2] at y; exact nomatch y
        · rw [hz1 e hk2] at y
          cases y
          exact ew (y2.mpr z)
    · exact k106 c' _ _ _ _ _ _ _ _ A' I' V' hvv hk2 ⟨by omega, fun _ => Or.inl (hz2 e)⟩ h0
    · refine done c' _ _ _ _ _ _ _ _ A' I' V' (fun j hj => ?_)
      rw [hvv] at hj
      have hj2 := hj.1
      have e : j = 0 := by omega
      rw [e] at hj ⊢
      exact h0 hj
  have k76 : ∀ z0 : Int32, 0 < gr_kd G x → vl_ld G x 0 (vc_v c (ne_ G ni x (gr_ak G x))) → (z0 = 0 → gr_kd G x = 2 → vc_v c (ne_ G ni x (gr_ak G x)) = some (vc_wo c (ne_ G ni x (gr_ak G x)))) → (z0 ≠ 0 → vc_v c (ne_ G ni x (gr_ak G x)) = none) → wX_leave_76 post (nI x) (nI (ne_ G ni x (gr_ak G x))) z0 f_blocks f_given f_known f_met f_openEdges f_openBlocks f_first f_last f_openCount f_firstEdge f_lastEdge f_result f_begun f_latest f_inputs a_op a_d a_b a_many a_kind a_asks a_target a_a a_order a_place a_parent a_depths a_living a_needs a_merging a_stack a_next a_before a_frontiers a_in a_out a_nameA a_nameB a_queue a_state a_worth a_usedByExit a_usedBySet a_usedByLow a_usedByHigh a_edges a_now := by
    intro z0 hk0 hl hz1 hz2
    rw [wX_leave_76, fn_2]
    refine xs_openEdge (j := 0) ok A I hx hk0 (low 0 hl) (fun c'' f_openEdges f_last f_openCount f_lastEdge a_queue a_state a_worth a_edges A'' I'' V'' ho hvv' hst => k83 z0 c'' _ _ _ _ _ _ _ _ A'' I'' V'' hvv' ?_ hz1 hz2 (fun _ => ho))
    rw [hst]
  have k52 : ∀ z0 : Int32, 0 < gr_kd G x → (z0 = 0 → gr_kd G x = 2 → vc_v c (ne_ G ni x (gr_ak G x)) = some (vc_wo c (ne_ G ni x (gr_ak G x)))) → (z0 ≠ 0 → vc_v c (ne_ G ni x (gr_ak G x)) = none) → wX_leave_52 post (nI x) (nI (ne_ G ni x (gr_ak G x))) z0 f_blocks f_given f_known f_met f_openEdges f_openBlocks f_first f_last f_openCount f_firstEdge f_lastEdge f_result f_begun f_latest f_inputs a_op a_d a_b a_many a_kind a_asks a_target a_a a_order a_place a_parent a_depths a_living a_needs a_merging a_stack a_next a_before a_frontiers a_in a_out a_nameA a_nameB a_queue a_state a_worth a_usedByExit a_usedBySet a_usedByLow a_usedByHigh a_edges a_now := by
    intro z0 hk0 hz1 hz2
    rw [wX_leave_52, cx, cw, X.2.2.2.2.1 x hxn, A.2.2.2.2.2.2.1 _ hnlt]
    refine ⟨ix, pk_eq (gr_kd G x) 1 (fun hk1 => k76 z0 hk0 ⟨hk0, fun h2 => by omega⟩ hz1 hz2) (fun hk1 => br_c (fun e => ⟨iw, br_c (fun ew => ?_) (fun ew => ?_)⟩) (fun e => ?_))⟩
    · refine k83 z0 c _ _ _ _ _ _ _ _ A I vt_rf (fun _ => rfl) rfl hz1 hz2 (fun hl => ?_)
      exfalso
      rcases hl.2 (by omega) with y | ⟨d, y, y2⟩
      · rw [hz1 e (by omega)] at y; exact nomatch y
      · rw [hz1 e (by omega)] at y
        cases y
        have := y2.mp ew
        omega
    · exact k76 z0 hk0 ⟨hk0, fun _ => Or.inr ⟨_, hz1 e (by omega), by simp [ew]⟩⟩ hz1 hz2
    · exact k76 z0 hk0 ⟨hk0, fun _ => Or.inl (hz2 e)⟩ hz1 hz2
  unfold wpX_leave
  dsimp only
  rw [cx, X.2.2.2.2.1 x hxn, X.2.2.2.2.2.1 x hxn, fn_62, fn_c (a := 6 * x + gr_ak G x) (by omega), ((hN x hMx).1 _ hak).2]
  refine ⟨ix, pk_eq (gr_kd G x) 0 (fun h0 => ?_) (fun h0 => ⟨ix, vp_in_nI (by omega) (by omega), nm_e ?_⟩)⟩
  · exact done c _ _ _ _ _ _ _ _ A I vt_rf (fun j hj => by have := hj.1; omega)
  · rw [cw, A.2.2.2.2.2.1 _ hnlt]
    refine ⟨ix, pk_eq (gr_kd G x) 2 (fun h2 => ⟨iw, pk_eq (vc_st c (ne_ G ni x (gr_ak G x))) 2 (fun hs => k52 1 (by omega) (fun e => absurd e (by decide)) (fun _ => by rw [hv, if_pos hs])) (fun hs => ?_)⟩) (fun h2 => ?_)⟩
    · rw [wX_leave_51]
      exact k52 0 (by omega) (fun _ _ => by rw [hv, if_neg hs]) (fun e => absurd rfl e)
    · rw [wX_leave_51]
      exact k52 0 (by omega) (fun _ e => absurd e h2) (fun e => absurd rfl e)
end
end
section
section
variable {f_blocks f_given f_known f_met f_openEdges f_openBlocks f_first f_last f_openCount f_firstEdge f_lastEdge f_result f_begun f_latest f_inputs : Int32} {a_op a_d a_b a_many a_kind a_asks a_target a_a a_order a_place a_parent a_depths a_living a_needs a_merging a_stack a_next a_before a_frontiers a_in a_out a_nameA a_nameB a_queue a_state a_worth a_usedByExit a_edges a_now : Nat → Int32} {a_usedBySet a_usedByLow a_usedByHigh : Nat → Int64}
variable {G : gr_T} {m : Nat} {ord pl : Nat → Nat} {P : Nat → Option Nat} {ni : Nat → Nat → Nat} {post : SX → Prop} {F FE : Nat} {ob : Nat → Prop} {c : vc_T}
theorem vc_ex {EX : Nat → Prop} {ES : Nat → Nat → Prop} {EM : Nat → Nat → Nat → Prop} {EE : Nat → Prop} {EX' : Nat → Prop} (I : vc_I G ni F FE ob EX ES EM EE c) (h : ∀ y, ob y → EX y → EX' y ∨ ((∀ v, v < 6 → vc_st c (ni y v) ≠ 0) ∧ ∀ i, i < gr_mn G y → vc_st c (6 + (4 * y + i)) ≠ 0)) : vc_I G ni F FE ob EX' ES EM EE c :=
  ⟨I.1, fun y hy => ⟨(I.2.1 y hy).1, (I.2.1 y hy).2.elim (fun z => h y hy z) Or.inr⟩, I.2.2⟩
theorem xo_27 {x : Nat} (c0 : vc_T) (X : xp_ok G f_blocks f_given a_op a_d a_b a_many a_kind a_asks a_target a_a) (hX : xa_ok G m ord pl a_order a_place a_before) (T : dt_ok G m ord pl P) (hmg : ∀ y j, y < 16 → (bt (a_merging y) j = true ↔ (j < 6 ∧ gr_J G j y))) (N : nm_ok G P ni) (hlt : ∀ x, gr_M G x → ∀ v, v < 6 → ni x v < 166) (hN : ∀ x, gr_M G x → gn_B G ni x a_in a_out a_nameA a_nameB) (hx : ob x) (hlw : ∀ (O : Nat → Prop) (B : Nat → Nat → Option Int32), vl_cl G O B → ∀ v, v < 6 → vl_le (vl_D G B (ni x v)) (B x v))
    (K : ∀ (c' : vc_T) (f_openEdges f_last f_openCount f_lastEdge : Int32) (a_queue a_state a_worth a_edges : Nat → Int32), vc_A c' f_openEdges f_last f_openCount f_lastEdge a_queue a_state a_worth a_edges → vc_I G ni F FE ob (fun _ => False) (fun _ _ => False) (fun _ _ _ => False) (fun _ => False) c' → vt_ c0 c' → post (f_blocks, f_given, f_known, f_met, f_openEdges, f_openBlocks, f_first, f_last, f_openCount, f_firstEdge, f_lastEdge, f_result, f_begun, f_latest, f_inputs, a_op, a_d, a_b, a_many, a_kind, a_asks, a_target, a_a, a_order, a_place, a_parent, a_depths, a_living, a_needs, a_merging, a_stack, a_next, a_before, a_frontiers, a_in, a_out, a_nameA, a_nameB, a_queue, a_state, a_worth, a_usedByExit, a_usedBySet, a_usedByLow, a_usedByHigh, a_edges, a_now)) :
    ∀ n i (c : vc_T) (f_openEdges f_last f_openCount f_lastEdge : Int32) (a_queue a_state a_worth a_edges : Nat → Int32), gr_mn G x < n + i → i ≤ gr_mn G x → vc_A c f_openEdges f_last f_openCount f_lastEdge a_queue a_state a_worth a_edges → vc_I G ni F FE ob (fun y => y = x) (fun y j => y = x ∧ i ≤ j) (fun _ _ _ => False) (fun y => y = x) c → vt_ c0 c → (∀ v, v < 6 → vc_st c (ni x v) ≠ 0) → (∀ j, j < i → vc_st c (6 + (4 * x + j)) ≠ 0) → wX_open_27 post (nI x) n (nI (4 * x + i)) f_blocks f_given f_known f_met f_openEdges f_openBlocks f_first f_last f_openCount f_firstEdge f_lastEdge f_result f_begun f_latest f_inputs a_op a_d a_b a_many a_kind a_asks a_target a_a a_order a_place a_parent a_depths a_living a_needs a_merging a_stack a_next a_before a_frontiers a_in a_out a_nameA a_nameB a_queue a_state a_worth a_usedByExit a_usedBySet a_usedByLow a_usedByHigh a_edges a_now := by
  have ok := X.1
  have hn16 := ok.1
  intro n
  induction n with
  | zero => intro i c _ _ _ _ _ _ _ _ h1 h2; omega
  | succ n ih =>
    intro i c f_openEdges f_last f_openCount f_lastEdge a_queue a_state a_worth a_edges h1 h2 A I V hk1 hk2
    have hMx := (I.2.1 x hx).1
    have hxn := gr_Mlt ok hMx
    have hB := ok.2.2 x hxn
    have h4 := hB.1
    have hak := hB.2.2.1
    have ix : vp_in (nI x) 16 := vp_in_nI (by omega) (by omega)
    rw [wX_open_27]
    dsimp only
    rw [fn_c (a := x) (by omega), X.2.2.2.1 x hxn, fn_42]
    refine ⟨ix, pk_le (4 * x + gr_mn G x) (4 * x + i) (fun h => ?_) (fun h => ?_)⟩
    · have e : i = gr_mn G x := by omega
      subst e
      have I2 : vc_I G ni F FE ob (fun _ => False) (fun _ _ => False) (fun _ _ _ => False) (fun y => y = x) c := vc_es (vc_ex I (fun y hy e => Or.inr (by rw [e]; exact ⟨hk1, hk2⟩))) (fun y j hy hj hE => by
        have e := hE.1
        rw [e] at hj
        omega)
      refine xs_leave X hX T hmg N hlt hN hx (nb_kn hk1 hk2 _ (Nat.le_refl _) _ hak) A I2 (fun c' f_openEdges f_last f_openCount f_lastEdge a_queue a_state a_worth a_edges A' I' V' => K c' _ _ _ _ _ _ _ _ A' (vc_w I' (fun _ z => z) (fun _ _ z => z) (fun _ _ _ z => z) (fun y z => z.2 z.1)) (vt_tr V V'))
    · have hi : i < gr_mn G x := by omega
      refine xs_set X hX T hmg N hlt hN hMx hi hlw (fun v hv => nb_kn hk1 hk2 _ (Nat.le_refl _) _ (us_lt ok hxn hi hv)) A I (fun c' f_openEdges f_last f_openCount f_lastEdge a_queue a_state a_worth a_edges A' I' V' _ h0 => ?_)
      refine nm_r (nI_1 _) (ih (i + 1) c' _ _ _ _ _ _ _ _ (by omega) (by omega) A' (vc_w I' (fun _ z => z) (fun y j z => ⟨z.1.1, ?_⟩) (fun _ _ _ z => z) (fun _ z => z)) (vt_tr V V') (fun v hv => (V'.1 _ (hlt x hMx v hv) (hk1 v hv)).1) (fun j hj => ?_))
      · have := z.1.2
        rcases Nat.lt_or_ge i j with y1 | y1
        · omega
        · exact absurd ⟨z.1.1, by omega⟩ z.2
      · by_cases e : j = i
        · rw [e]; exact h0
        · exact (V'.1 _ (by omega) (hk2 j (by omega))).1
theorem xo_open {x : Nat} (X : xp_ok G f_blocks f_given a_op a_d a_b a_many a_kind a_asks a_target a_a) (hX : xa_ok G m ord pl a_order a_place a_before) (T : dt_ok G m ord pl P) (hmg : ∀ y j, y < 16 → (bt (a_merging y) j = true ↔ (j < 6 ∧ gr_J G j y))) (N : nm_ok G P ni) (hlt : ∀ x, gr_M G x → ∀ v, v < 6 → ni x v < 166) (hN : ∀ x, gr_M G x → gn_B G ni x a_in a_out a_nameA a_nameB) (hx : ob x) (hno : ∀ j, j < 2 → ¬ vc_OE c (2 * x + j)) (hlw : ∀ (O : Nat → Prop) (B : Nat → Nat → Option Int32), vl_cl G O B → ∀ v, v < 6 → vl_le (vl_D G B (ni x v)) (B x v)) (hkn : ∀ v, v < 6 → (¬ gr_J G v x → vc_st c (ni x v) ≠ 0) ∧ (gr_J G v x → ni x v = 70 + (6 * x + v) ∧ ∃ p j, ob p ∧ j < gr_kd G p ∧ vc_OE c (2 * p + j) ∧ gr_tg G (2 * p + j) = x)) (A : vc_A c f_openEdges f_last f_openCount f_lastEdge a_queue a_state a_worth a_edges) (I : vc_I G ni F FE ob (fun y => y = x) (fun y _ => y = x) (fun p j _ => gr_tg G (2 * p + j) = x) (fun y => y = x) c)
    (K : ∀ (c' : vc_T) (f_openEdges f_last f_openCount f_lastEdge : Int32) (a_queue a_state a_worth a_edges : Nat → Int32), vc_A c' f_openEdges f_last f_openCount f_lastEdge a_queue a_state a_worth a_edges → vc_I G ni F FE ob (fun _ => False) (fun _ _ => False) (fun _ _ _ => False) (fun _ => False) c' → vt_ c c' → post (f_blocks, f_given, f_known, f_met, f_openEdges, f_openBlocks ||| ((1 : Int32) <<< (nI x &&& 31)), f_first, f_last, f_openCount, f_firstEdge, f_lastEdge, f_result, f_begun, f_latest, f_inputs, a_op, a_d, a_b, a_many, a_kind, a_asks, a_target, a_a, a_order, a_place, a_parent, a_depths, a_living, a_needs, a_merging, a_stack, a_next, a_before, a_frontiers, a_in, a_out, a_nameA, a_nameB, a_queue, a_state, a_worth, a_usedByExit, a_usedBySet, a_usedByLow, a_usedByHigh, a_edges, a_now)) : wpX_open post (f_blocks, f_given, f_known, f_met, f_openEdges, f_openBlocks, f_first, f_last, f_openCount, f_firstEdge, f_lastEdge, f_result, f_begun, f_latest, f_inputs, a_op, a_d, a_b, a_many, a_kind, a_asks, a_target, a_a, a_order, a_place, a_parent, a_depths, a_living, a_needs, a_merging, a_stack, a_next, a_before, a_frontiers, a_in, a_out, a_nameA, a_nameB, a_queue, a_state, a_worth, a_usedByExit, a_usedBySet, a_usedByLow, a_usedByHigh, a_edges, a_now) (nI x) := by
  have ok := X.1
  have hn16 := ok.1
  have hMx := (I.2.1 x hx).1
  have hxn := gr_Mlt ok hMx
  have h4 := (ok.2.2 x hxn).1
  unfold wpX_open
  dsimp only
  rw [fn_c (a := x) (by omega)]
  refine nm_e ⟨vp_in_nI (by omega) (by omega), ?_⟩
  refine xs_mergeAll X hX T hmg N hlt hN hMx (fun p j hj ho e => by rw [e] at ho; exact hno j hj ho) A I (fun c' f_openEdges f_last f_openCount f_lastEdge a_queue a_state a_worth a_edges A' I' V' hoe hk' => ?_)
  have I2 : vc_I G ni F FE ob (fun y => y = x) (fun y j => y = x ∧ 0 ≤ j) (fun _ _ _ => False) (fun y => y = x) c' := vc_es (vc_em I' (fun p j w a1 a2 a3 a4 a5 h => by
    exfalso
    refine h.2 ⟨h.1, (hmg x w (by omega)).mpr ⟨a3, ?_⟩⟩
    rw [h.1] at a5
    exact a5)) (fun y j _ _ e => Or.inr (Or.inr ⟨e, Nat.zero_le _⟩))
  refine nm_r (e' := nI (4 * x + 0)) (by rw [fn_4]; rfl) ⟨5, xo_27 c X hX T hmg N hlt hN hx hlw K 5 0 c' _ _ _ _ _ _ _ _ (by omega) (by omega) A' I2 V' (fun v hv => ?_) (fun j hj => by omega)⟩
  by_cases hJ : gr_J G v x
  · obtain ⟨e, p, j, b1, b2, b3, b4⟩ := (hkn v hv).2 hJ
    rw [e]
    exact hk' p j b1 b2 (V'.2 _ b3) b4 v hv ((hmg x v (by omega)).mpr ⟨hv, hJ⟩)
  · exact (V'.1 _ (hlt x hMx v hv) ((hkn v hv).1 hJ)).1
/-! following a name -/
theorem xo_176 {k x : Nat} {J2 : Int32 → Int32 → Int32 → Int32 → Int32 → Int32 → Int32 → Int32 → Int32 → Int32 → Int32 → Int32 → Int32 → Int32 → Int32 → Int32 → (Nat → Int32) → (Nat → Int32) → (Nat → Int32) → (Nat → Int32) → (Nat → Int32) → (Nat → Int32) → (Nat → Int32) → (Nat → Int32) → (Nat → Int32) → (Nat → Int32) → (Nat → Int32) → (Nat → Int32) → (Nat → Int32) → (Nat → Int32) → (Nat → Int32) → (Nat → Int32) → (Nat → Int32) → (Nat → Int32) → (Nat → Int32) → (Nat → Int32) → (Nat → Int32) → (Nat → Int32) → (Nat → Int32) → (Nat → Int32) → (Nat → Int32) → (Nat → Int32) → (Nat → Int32) → (Nat → Int64) → (Nat → Int64) → (Nat → Int64) → (Nat → Int32) → (Nat → Int32) → Prop} (Mm : Nat → Nat → Nat → Prop) (X : xp_ok G f_blocks f_given a_op a_d a_b a_many a_kind a_asks a_target a_a) (hX : xa_ok G m ord pl a_order a_place a_before) (T : dt_ok G m ord pl P) (hmg : ∀ y j, y < 16 → (bt (a_merging y) j = true ↔ (j < 6 ∧ gr_J G j y))) (N : nm_ok G P ni) (hlt : ∀ x, gr_M G x → ∀ v, v < 6 → ni x v < 166) (hN : ∀ x, gr_M G x → gn_B G ni x a_in a_out a_nameA a_nameB) (hU : us_3 G ni (fun _ => True) a_usedByExit a_usedBySet a_usedByLow a_usedByHigh) (hk : k < 166) (hx : ob x) (A : vc_A c f_openEdges f_last f_openCount f_lastEdge a_queue a_state a_worth a_edges) (I : vc_I G ni F FE ob (fun _ => False) (fun y i => x < y ∧ ∃ v, gr_us G (4 * y + i) v ∧ nb_ G ni y i v = k) (fun p j v => x < gr_tg G (2 * p + j) ∧ ne_ G ni p v = k) (fun y => x ≤ y ∧ gr_kd G y ≠ 1 ∧ ne_ G ni y (gr_ak G y) = k) c)
    (K : ∀ (c' : vc_T) (f_openEdges f_last f_openCount f_lastEdge : Int32) (a_queue a_state a_worth a_edges : Nat → Int32), vc_A c' f_openEdges f_last f_openCount f_lastEdge a_queue a_state a_worth a_edges → vc_I G ni F FE ob (fun _ => False) (fun y i => x < y ∧ ∃ v, gr_us G (4 * y + i) v ∧ nb_ G ni y i v = k) (fun p j v => x < gr_tg G (2 * p + j) ∧ ne_ G ni p v = k) (fun y => x < y ∧ gr_kd G y ≠ 1 ∧ ne_ G ni y (gr_ak G y) = k) c' → vt_ c c' → J2 (nI (x + 1)) f_blocks f_given f_known f_met f_openEdges f_openBlocks f_first f_last f_openCount f_firstEdge f_lastEdge f_result f_begun f_latest f_inputs a_op a_d a_b a_many a_kind a_asks a_target a_a a_order a_place a_parent a_depths a_living a_needs a_merging a_stack a_next a_before a_frontiers a_in a_out a_nameA a_nameB a_queue a_state a_worth a_usedByExit a_usedBySet a_usedByLow a_usedByHigh a_edges a_now) : wX_follow_176 post J2 (nI k) (nI x) f_blocks f_given f_known f_met f_openEdges f_openBlocks f_first f_last f_openCount f_firstEdge f_lastEdge f_result f_begun f_latest f_inputs a_op a_d a_b a_many a_kind a_asks a_target a_a a_order a_place a_parent a_depths a_living a_needs a_merging a_stack a_next a_before a_frontiers a_in a_out a_nameA a_nameB a_queue a_state a_worth a_usedByExit a_usedBySet a_usedByLow a_usedByHigh a_edges a_now := by
  have ok := X.1
  have hn16 := ok.1
  have hMx := (I.2.1 x hx).1
  have hxn := gr_Mlt ok hMx
  have hak := (ok.2.2 x hxn).2.2.1
  rw [wX_follow_176, fn_c (a := k) (by omega)]
  refine ⟨vp_in_nI hk (by omega), fb_1 (by omega) (fun hb => ?_) (fun hb => ?_)⟩
  · refine xs_leave X hX T hmg N hlt hN hx (vc_kn ok I hx (fun z => z) (Nat.le_refl _) hak) A I (fun c' f_openEdges f_last f_openCount f_lastEdge a_queue a_state a_worth a_edges A' I' V' => ?_)
    exact nm_r (nI_1 x) (K c' _ _ _ _ _ _ _ _ A' (vc_w I' (fun _ z => z) (fun _ _ z => z) (fun _ _ _ z => z) (fun y z => ⟨by have := z.1.1; have := z.2; omega, z.1.2⟩)) V')
  · refine nm_r (nI_1 x) (K c _ _ _ _ _ _ _ _ A (vc_w I (fun _ z => z) (fun _ _ z => z) (fun _ _ _ z => z) (fun y z => ⟨?_, z.2⟩)) vt_rf)
    rcases Nat.lt_or_ge x y with w | w
    · exact w
    · have e : y = x := by have := z.1; omega
      rw [e] at z
      rw [(hU.2.1 k x hk (by omega)).mpr ⟨trivial, hMx, z.2.1, z.2.2⟩] at hb
      exact absurd hb (by decide)
theorem xo_74 {k x : Nat} {J2 : Int32 → Int32 → Int32 → Int32 → Int32 → Int32 → Int32 → Int32 → Int32 → Int32 → Int32 → Int32 → Int32 → Int32 → Int32 → Int32 → (Nat → Int32) → (Nat → Int32) → (Nat → Int32) → (Nat → Int32) → (Nat → Int32) → (Nat → Int32) → (Nat → Int32) → (Nat → Int32) → (Nat → Int32) → (Nat → Int32) → (Nat → Int32) → (Nat → Int32) → (Nat → Int32) → (Nat → Int32) → (Nat → Int32) → (Nat → Int32) → (Nat → Int32) → (Nat → Int32) → (Nat → Int32) → (Nat → Int32) → (Nat → Int32) → (Nat → Int32) → (Nat → Int32) → (Nat → Int32) → (Nat → Int32) → (Nat → Int32) → (Nat → Int32) → (Nat → Int64) → (Nat → Int64) → (Nat → Int64) → (Nat → Int32) → (Nat → Int32) → Prop} (X : xp_ok G f_blocks f_given a_op a_d a_b a_many a_kind a_asks a_target a_a) (hX : xa_ok G m ord pl a_order a_place a_before) (T : dt_ok G m ord pl P) (hmg : ∀ y j, y < 16 → (bt (a_merging y) j = true ↔ (j < 6 ∧ gr_J G j y))) (N : nm_ok G P ni) (hlt : ∀ x, gr_M G x → ∀ v, v < 6 → ni x v < 166) (hN : ∀ x, gr_M G x → gn_B G ni x a_in a_out a_nameA a_nameB) (hU : us_3 G ni (fun _ => True) a_usedByExit a_usedBySet a_usedByLow a_usedByHigh) (hk : k < 166) (hx : x < 16)
    (K : ∀ wh : Int32, (∀ v, v < 6 → (bt wh v = true ↔ us_M G ni k (6 * x + v))) → (wh = 0 → wX_follow_176 post J2 (nI k) (nI x) f_blocks f_given f_known f_met f_openEdges f_openBlocks f_first f_last f_openCount f_firstEdge f_lastEdge f_result f_begun f_latest f_inputs a_op a_d a_b a_many a_kind a_asks a_target a_a a_order a_place a_parent a_depths a_living a_needs a_merging a_stack a_next a_before a_frontiers a_in a_out a_nameA a_nameB a_queue a_state a_worth a_usedByExit a_usedBySet a_usedByLow a_usedByHigh a_edges a_now) ∧ (¬ wh = 0 → wpX_mergeAll (fun u => match u with | (f_blocks, f_given, f_known, f_met, f_openEdges, f_openBlocks, f_first, f_last, f_openCount, f_firstEdge, f_lastEdge, f_result, f_begun, f_latest, f_inputs, a_op, a_d, a_b, a_many, a_kind, a_asks, a_target, a_a, a_order, a_place, a_parent, a_depths, a_living, a_needs, a_merging, a_stack, a_next, a_before, a_frontiers, a_in, a_out, a_nameA, a_nameB, a_queue, a_state, a_worth, a_usedByExit, a_usedBySet, a_usedByLow, a_usedByHigh, a_edges, a_now) => wX_follow_176 post J2 (nI k) (nI x) f_blocks f_given f_known f_met f_openEdges f_openBlocks f_first f_last f_openCount f_firstEdge f_lastEdge f_result f_begun f_latest f_inputs a_op a_d a_b a_many a_kind a_asks a_target a_a a_order a_place a_parent a_depths a_living a_needs a_merging a_stack a_next a_before a_frontiers a_in a_out a_nameA a_nameB a_queue a_state a_worth a_usedByExit a_usedBySet a_usedByLow a_usedByHigh a_edges a_now) (f_blocks, f_given, f_known, f_met, f_openEdges, f_openBlocks, f_first, f_last, f_openCount, f_firstEdge, f_lastEdge, f_result, f_begun, f_latest, f_inputs, a_op, a_d, a_b, a_many, a_kind, a_asks, a_target, a_a, a_order, a_place, a_parent, a_depths, a_living, a_needs, a_merging, a_stack, a_next, a_before, a_frontiers, a_in, a_out, a_nameA, a_nameB, a_queue, a_state, a_worth, a_usedByExit, a_usedBySet, a_usedByLow, a_usedByHigh, a_edges, a_now) (nI x) wh)) :
    ∀ n v (wh : Int32), 6 < n + v → v ≤ 6 → (∀ w, w < 6 → (bt wh w = true ↔ (w < v ∧ us_M G ni k (6 * x + w)))) → wX_follow_74 post J2 (nI k) (nI x) (nI (6 * x)) f_blocks f_given f_known f_met f_openEdges f_openBlocks f_first f_last f_openCount f_firstEdge f_lastEdge f_result f_begun f_latest f_inputs a_op a_d a_b a_many a_kind a_asks a_target a_a a_order a_place a_parent a_depths a_living a_needs a_merging a_stack a_next a_before a_frontiers a_in a_out a_nameA a_nameB a_queue a_state a_worth a_usedByExit a_usedBySet a_usedByLow a_usedByHigh a_edges a_now n wh (nI v) := by
  have iu : ∀ y, y < 96 → (um_ a_usedByLow a_usedByHigh k y = true ↔ us_M G ni k y) := by
    intro y hy
    rw [hU.2.2 k y hk hy]
    exact ⟨fun ⟨x, v, p, h1, _, h2⟩ => ⟨x, v, p, h1, h2⟩, fun ⟨x, v, p, h1, h2⟩ => ⟨x, v, p, h1, trivial, h2⟩⟩
  have ik : vp_in (nI k) 166 := vp_in_nI hk (by omega)
  intro n
  induction n with
  | zero => intro v wh h1 h2; omega
  | succ n ih =>
    intro v wh h1 h2 hw
    rw [wX_follow_74]
    refine pk_le 6 v (fun h => ?_) (fun h => ?_)
    · exact K wh (fun w hw' => (hw w hw').trans ⟨fun z => z.2, fun z => ⟨by omega, z⟩⟩)
    · have k1 : us_M G ni k (6 * x + v) → wX_follow_142 post J2 (wX_follow_74 post J2 (nI k) (nI x) (nI (6 * x)) f_blocks f_given f_known f_met f_openEdges f_openBlocks f_first f_last f_openCount f_firstEdge f_lastEdge f_result f_begun f_latest f_inputs a_op a_d a_b a_many a_kind a_asks a_target a_a a_order a_place a_parent a_depths a_living a_needs a_merging a_stack a_next a_before a_frontiers a_in a_out a_nameA a_nameB a_queue a_state a_worth a_usedByExit a_usedBySet a_usedByLow a_usedByHigh a_edges a_now n) (nI k) (nI x) (nI (6 * x)) wh (nI v) 1 f_blocks f_given f_known f_met f_openEdges f_openBlocks f_first f_last f_openCount f_firstEdge f_lastEdge f_result f_begun f_latest f_inputs a_op a_d a_b a_many a_kind a_asks a_target a_a a_order a_place a_parent a_depths a_living a_needs a_merging a_stack a_next a_before a_frontiers a_in a_out a_nameA a_nameB a_queue a_state a_worth a_usedByExit a_usedBySet a_usedByLow a_usedByHigh a_edges a_now := by
        intro hu
        rw [wX_follow_142]
        refine br_f (by decide) (nm_e (nm_r (nI_1 v) (ih (v + 1) _ (by omega) (by omega) (fun w hw' => ?_))))
        rw [fb_or1 _ (by omega) (by omega), Bool.or_eq_true, hw w hw', decide_eq_true_iff]
        constructor
        · rintro (z | z)
          · exact ⟨by omega, z.2⟩
          · rw [z]; exact ⟨by omega, hu⟩
        · rintro ⟨z1, z2⟩
          by_cases e : w = v
          · exact Or.inr e
          · exact Or.inl ⟨by omega, z2⟩
      have k0 : ¬ us_M G ni k (6 * x + v) → wX_follow_142 post J2 (wX_follow_74 post J2 (nI k) (nI x) (nI (6 * x)) f_blocks f_given f_known f_met f_openEdges f_openBlocks f_first f_last f_openCount f_firstEdge f_lastEdge f_result f_begun f_latest f_inputs a_op a_d a_b a_many a_kind a_asks a_target a_a a_order a_place a_parent a_depths a_living a_needs a_merging a_stack a_next a_before a_frontiers a_in a_out a_nameA a_nameB a_queue a_state a_worth a_usedByExit a_usedBySet a_usedByLow a_usedByHigh a_edges a_now n) (nI k) (nI x) (nI (6 * x)) wh (nI v) 0 f_blocks f_given f_known f_met f_openEdges f_openBlocks f_first f_last f_openCount f_firstEdge f_lastEdge f_result f_begun f_latest f_inputs a_op a_d a_b a_many a_kind a_asks a_target a_a a_order a_place a_parent a_depths a_living a_needs a_merging a_stack a_next a_before a_frontiers a_in a_out a_nameA a_nameB a_queue a_state a_worth a_usedByExit a_usedBySet a_usedByLow a_usedByHigh a_edges a_now := by
        intro hu
        rw [wX_follow_142]
        refine br_t rfl (nm_r (nI_1 v) (ih (v + 1) _ (by omega) (by omega) (fun w hw' => (hw w hw').trans ?_)))
        constructor
        · rintro ⟨z1, z2⟩
          exact ⟨by omega, z2⟩
        · rintro ⟨z1, z2⟩
          refine ⟨?_, z2⟩
          by_cases e : w = v
          · rw [e] at z2; exact absurd z2 hu
          · omega
      have hi := iu (6 * x + v) (by omega)
      unfold um_ at hi
      rw [nI_add, fn_c (a := k) (by omega)]
      refine pk_le 64 (6 * x + v) (fun h64 => ⟨ik, ?_⟩) (fun h64 => ⟨ik, ?_⟩)
      · rw [show nI (6 * x + v) - 64 = nI (6 * x + v - 64) from pk_sub h64]
        rw [if_neg (by omega)] at hi
        exact fl_1 (by omega) (fun hb => k1 (hi.mp hb)) (fun hb => k0 (fun z => by rw [hi.mpr z] at hb; exact absurd hb (by decide)))
      · rw [if_pos (by omega)] at hi
        exact fl_1 (by omega) (fun hb => k1 (hi.mp hb)) (fun hb => k0 (fun z => by rw [hi.mpr z] at hb; exact absurd hb (by decide)))
theorem xo_28 {k x : Nat} {J2 : Int32 → Int32 → Int32 → Int32 → Int32 → Int32 → Int32 → Int32 → Int32 → Int32 → Int32 → Int32 → Int32 → Int32 → Int32 → Int32 → (Nat → Int32) → (Nat → Int32) → (Nat → Int32) → (Nat → Int32) → (Nat → Int32) → (Nat → Int32) → (Nat → Int32) → (Nat → Int32) → (Nat → Int32) → (Nat → Int32) → (Nat → Int32) → (Nat → Int32) → (Nat → Int32) → (Nat → Int32) → (Nat → Int32) → (Nat → Int32) → (Nat → Int32) → (Nat → Int32) → (Nat → Int32) → (Nat → Int32) → (Nat → Int32) → (Nat → Int32) → (Nat → Int32) → (Nat → Int32) → (Nat → Int32) → (Nat → Int32) → (Nat → Int32) → (Nat → Int64) → (Nat → Int64) → (Nat → Int64) → (Nat → Int32) → (Nat → Int32) → Prop} (c0 : vc_T) (X : xp_ok G f_blocks f_given a_op a_d a_b a_many a_kind a_asks a_target a_a) (hX : xa_ok G m ord pl a_order a_place a_before) (T : dt_ok G m ord pl P) (hmg : ∀ y j, y < 16 → (bt (a_merging y) j = true ↔ (j < 6 ∧ gr_J G j y))) (N : nm_ok G P ni) (hlt : ∀ x, gr_M G x → ∀ v, v < 6 → ni x v < 166) (hN : ∀ x, gr_M G x → gn_B G ni x a_in a_out a_nameA a_nameB) (hU : us_3 G ni (fun _ => True) a_usedByExit a_usedBySet a_usedByLow a_usedByHigh) (hk : k < 166) (hx : ob x)
    (K : ∀ (c' : vc_T) (f_openEdges f_last f_openCount f_lastEdge : Int32) (a_queue a_state a_worth a_edges : Nat → Int32), vc_A c' f_openEdges f_last f_openCount f_lastEdge a_queue a_state a_worth a_edges → vc_I G ni F FE ob (fun _ => False) (fun y i => x < y ∧ ∃ v, gr_us G (4 * y + i) v ∧ nb_ G ni y i v = k) (fun p j v => x < gr_tg G (2 * p + j) ∧ ne_ G ni p v = k) (fun y => x < y ∧ gr_kd G y ≠ 1 ∧ ne_ G ni y (gr_ak G y) = k) c' → vt_ c0 c' → J2 (nI (x + 1)) f_blocks f_given f_known f_met f_openEdges f_openBlocks f_first f_last f_openCount f_firstEdge f_lastEdge f_result f_begun f_latest f_inputs a_op a_d a_b a_many a_kind a_asks a_target a_a a_order a_place a_parent a_depths a_living a_needs a_merging a_stack a_next a_before a_frontiers a_in a_out a_nameA a_nameB a_queue a_state a_worth a_usedByExit a_usedBySet a_usedByLow a_usedByHigh a_edges a_now) :
    ∀ n i (c : vc_T) (f_openEdges f_last f_openCount f_lastEdge : Int32) (a_queue a_state a_worth a_edges : Nat → Int32), 4 < n + i → i ≤ 4 → vc_A c f_openEdges f_last f_openCount f_lastEdge a_queue a_state a_worth a_edges → vc_I G ni F FE ob (fun _ => False) (fun y j => (x < y ∨ (y = x ∧ i ≤ j)) ∧ ∃ v, gr_us G (4 * y + j) v ∧ nb_ G ni y j v = k) (fun p j v => x ≤ gr_tg G (2 * p + j) ∧ ne_ G ni p v = k) (fun y => x ≤ y ∧ gr_kd G y ≠ 1 ∧ ne_ G ni y (gr_ak G y) = k) c → vt_ c0 c → wX_follow_28 post J2 (nI k) (nI x) n (nI (4 * x + i)) f_blocks f_given f_known f_met f_openEdges f_openBlocks f_first f_last f_openCount f_firstEdge f_lastEdge f_result f_begun f_latest f_inputs a_op a_d a_b a_many a_kind a_asks a_target a_a a_order a_place a_parent a_depths a_living a_needs a_merging a_stack a_next a_before a_frontiers a_in a_out a_nameA a_nameB a_queue a_state a_worth a_usedByExit a_usedBySet a_usedByLow a_usedByHigh a_edges a_now := by
  have ok := X.1
  have hn16 := ok.1
  have ik : vp_in (nI k) 166 := vp_in_nI hk (by omega)
  intro n
  induction n with
  | zero => intro i c _ _ _ _ _ _ _ _ h1 h2; omega
  | succ n ih =>
    intro i c f_openEdges f_last f_openCount f_lastEdge a_queue a_state a_worth a_edges h1 h2 A I V
    have hMx := (I.2.1 x hx).1
    have hxn := gr_Mlt ok hMx
    have h4 := (ok.2.2 x hxn).1
    rw [wX_follow_28, fn_4, show nI (4 * x) + 4 = nI (4 * x + 4) from nI_add _ 4, fn_c (a := k) (by omega)]
    refine pk_le (4 * x + 4) (4 * x + i) (fun h => ?_) (fun h => ?_)
    · have e : i = 4 := by omega
      subst e
      have I1 : vc_I G ni F FE ob (fun _ => False) (fun y i => x < y ∧ ∃ v, gr_us G (4 * y + i) v ∧ nb_ G ni y i v = k) (fun p j v => x ≤ gr_tg G (2 * p + j) ∧ ne_ G ni p v = k) (fun y => x ≤ y ∧ gr_kd G y ≠ 1 ∧ ne_ G ni y (gr_ak G y) = k) c := vc_es I (fun y j hy hj hE => by
        rcases hE.1 with z | z
        · exact Or.inr (Or.inr ⟨z, hE.2⟩)
        · rw [z.1] at hj
          omega)
      refine nm_r (fn_6 x) ⟨7, xo_74 X hX T hmg N hlt hN hU hk (by omega) (fun wh hwh => ⟨fun h0 => ?_, fun h0 => ?_⟩) 7 0 0 (by omega) (by omega) (fun w hw => by rw [b_0]; exact ⟨fun z => absurd z (by decide), fun z => by omega⟩)⟩
      · refine xo_176 (fun _ _ _ => False) X hX T hmg N hlt hN hU hk hx A (vc_em I1 (fun p j v a1 a2 a3 a4 a5 hE => ?_)) (fun c' f_openEdges f_last f_openCount f_lastEdge a_queue a_state a_worth a_edges A' I' V' => K c' _ _ _ _ _ _ _ _ A' I' (vt_tr V V'))
        rcases Nat.lt_or_ge x (gr_tg G (2 * p + j)) with z | z
        · exact Or.inr (Or.inr (Or.inr ⟨z, hE.2⟩))
        · exfalso
          have e : gr_tg G (2 * p + j) = x := by have := hE.1; omega
          have hMp := (I.2.1 p a1).1
          have := (hwh v a3).mpr ⟨x, v, p, hMx, a3, rfl, by rw [← e]; exact a5, hMp, ⟨gr_Mlt ok hMp, j, a2, e⟩, hE.2⟩
          rw [h0, b_0] at this
          exact absurd this (by decide)
      · refine xs_mergeAll X hX T hmg N hlt hN hMx (fun _ _ _ _ z => z) A I1 (fun c' f_openEdges f_last f_openCount f_lastEdge a_queue a_state a_worth a_edges A' I' V' _ _ => ?_)
        refine xo_176 (fun _ _ _ => False) X hX T hmg N hlt hN hU hk hx A' (vc_em I' (fun p j v a1 a2 a3 a4 a5 hE => ?_)) (fun c'' f_openEdges f_last f_openCount f_lastEdge a_queue a_state a_worth a_edges A'' I'' V'' => K c'' _ _ _ _ _ _ _ _ A'' I'' (vt_tr V (vt_tr V' V'')))
        rcases Nat.lt_or_ge x (gr_tg G (2 * p + j)) with z | z
        · exact Or.inr (Or.inr (Or.inr ⟨z, hE.1.2⟩))
        · exfalso
          have e : gr_tg G (2 * p + j) = x := by have := hE.1.1; omega
          have hMp := (I.2.1 p a1).1
          exact hE.2 ⟨e, (hwh v a3).mpr ⟨x, v, p, hMx, a3, rfl, by rw [← e]; exact a5, hMp, ⟨gr_Mlt ok hMp, j, a2, e⟩, hE.1.2⟩⟩
    · have hu := hU.1 k (4 * x + i) hk (by omega)
      have next : ∀ (c' : vc_T) (f_openEdges f_last f_openCount f_lastEdge : Int32) (a_queue a_state a_worth a_edges : Nat → Int32), vc_A c' f_openEdges f_last f_openCount f_lastEdge a_queue a_state a_worth a_edges → vc_I G ni F FE ob (fun _ => False) (fun y j => (x < y ∨ (y = x ∧ i + 1 ≤ j)) ∧ ∃ v, gr_us G (4 * y + j) v ∧ nb_ G ni y j v = k) (fun p j v => x ≤ gr_tg G (2 * p + j) ∧ ne_ G ni p v = k) (fun y => x ≤ y ∧ gr_kd G y ≠ 1 ∧ ne_ G ni y (gr_ak G y) = k) c' → vt_ c0 c' → wX_follow_28 post J2 (nI k) (nI x) n (nI (4 * x + i + 1)) f_blocks f_given f_known f_met f_openEdges f_openBlocks f_first f_last f_openCount f_firstEdge f_lastEdge f_result f_begun f_latest f_inputs a_op a_d a_b a_many a_kind a_asks a_target a_a a_order a_place a_parent a_depths a_living a_needs a_merging a_stack a_next a_before a_frontiers a_in a_out a_nameA a_nameB a_queue a_state a_worth a_usedByExit a_usedBySet a_usedByLow a_usedByHigh a_edges a_now := fun c' _ _ _ _ _ _ _ _ A' I' V' => ih (i + 1) c' _ _ _ _ _ _ _ _ (by omega) (by omega) A' I' V'
      refine ⟨ik, fl_1 (by omega) (fun hb => ?_) (fun hb => ?_)⟩
      · obtain ⟨x', i', hx', _, hi', e', _⟩ := hu.mp hb
        have h4' := (ok.2.2 x' (gr_Mlt ok hx')).1
        have ex : x' = x := by omega
        subst ex
        have ei : i' = i := by omega
        subst ei
        refine xs_set X hX T hmg N hlt hN hMx hi' (fun O B hc => ((I.1 O B hc).2.1 x' hx).2) (fun v hv => vc_kn ok I hx (fun z => z) (by omega) (us_lt ok hxn hi' hv)) A I (fun c' f_openEdges f_last f_openCount f_lastEdge a_queue a_state a_worth a_edges A' I' V' _ _ => ?_)
        refine nm_r (nI_1 _) (next c' _ _ _ _ _ _ _ _ A' (vc_w I' (fun _ z => z) (fun y j z => ⟨?_, z.1.2⟩) (fun _ _ _ z => z) (fun _ z => z)) (vt_tr V V'))
        rcases z.1.1 with w | w
        · exact Or.inl w
        · refine Or.inr ⟨w.1, ?_⟩
          rcases Nat.lt_or_ge i' j with y1 | y1
          · omega
          · exact absurd ⟨w.1, by omega⟩ z.2
      · refine nm_r (nI_1 _) (next c _ _ _ _ _ _ _ _ A (vc_es I (fun y j hy hj hE => ?_)) V)
        rcases hE.1 with w | w
        · exact Or.inr (Or.inr ⟨Or.inl w, hE.2⟩)
        · rcases Nat.lt_or_ge i j with y1 | y1
          · exact Or.inr (Or.inr ⟨Or.inr ⟨w.1, by omega⟩, hE.2⟩)
          · exfalso
            have ej : j = i := by omega
            have ey := w.1
            subst ey
            subst ej
            obtain ⟨v, hv, hn⟩ := hE.2
            have : nA_ G ni y j = nI k ∨ nB_ G ni y j = nI k := by
              rcases hv with ⟨o1, o2⟩ | ⟨o1, o2, o3 | o3⟩
              · left
                rw [← hn, ← o2]
                exact if_neg (fun z => by omega)
              · left
                rw [← hn, ← o3]
                exact if_neg (fun z => by omega)
              · right
                rw [← hn, ← o3]
                exact if_neg (fun z => by omega)
            rw [hu.mpr ⟨y, j, hMx, trivial, hj, rfl, this⟩] at hb
            exact absurd hb (by decide)
theorem xo_2 {k : Nat} (c0 : vc_T) (X : xp_ok G f_blocks f_given a_op a_d a_b a_many a_kind a_asks a_target a_a) (hX : xa_ok G m ord pl a_order a_place a_before) (T : dt_ok G m ord pl P) (hmg : ∀ y j, y < 16 → (bt (a_merging y) j = true ↔ (j < 6 ∧ gr_J G j y))) (N : nm_ok G P ni) (hlt : ∀ x, gr_M G x → ∀ v, v < 6 → ni x v < 166) (hN : ∀ x, gr_M G x → gn_B G ni x a_in a_out a_nameA a_nameB) (hU : us_3 G ni (fun _ => True) a_usedByExit a_usedBySet a_usedByLow a_usedByHigh) (hk : k < 166) (hob : ∀ y, y < 16 → (bt f_openBlocks y = true ↔ ob y))
    (K : ∀ (c' : vc_T) (f_openEdges f_last f_openCount f_lastEdge : Int32) (a_queue a_state a_worth a_edges : Nat → Int32), vc_A c' f_openEdges f_last f_openCount f_lastEdge a_queue a_state a_worth a_edges → vc_I G ni F FE ob (fun _ => False) (fun _ _ => False) (fun _ _ _ => False) (fun _ => False) c' → vt_ c0 c' → post (f_blocks, f_given, f_known, f_met, f_openEdges, f_openBlocks, f_first, f_last, f_openCount, f_firstEdge, f_lastEdge, f_result, f_begun, f_latest, f_inputs, a_op, a_d, a_b, a_many, a_kind, a_asks, a_target, a_a, a_order, a_place, a_parent, a_depths, a_living, a_needs, a_merging, a_stack, a_next, a_before, a_frontiers, a_in, a_out, a_nameA, a_nameB, a_queue, a_state, a_worth, a_usedByExit, a_usedBySet, a_usedByLow, a_usedByHigh, a_edges, a_now)) :
    ∀ n x (c : vc_T) (f_openEdges f_last f_openCount f_lastEdge : Int32) (a_queue a_state a_worth a_edges : Nat → Int32), gr_n G < n + x → x ≤ gr_n G → vc_A c f_openEdges f_last f_openCount f_lastEdge a_queue a_state a_worth a_edges → vc_I G ni F FE ob (fun _ => False) (fun y i => x ≤ y ∧ ∃ v, gr_us G (4 * y + i) v ∧ nb_ G ni y i v = k) (fun p j v => x ≤ gr_tg G (2 * p + j) ∧ ne_ G ni p v = k) (fun y => x ≤ y ∧ gr_kd G y ≠ 1 ∧ ne_ G ni y (gr_ak G y) = k) c → vt_ c0 c → wX_follow_2 post (nI k) n (nI x) f_blocks f_given f_known f_met f_openEdges f_openBlocks f_first f_last f_openCount f_firstEdge f_lastEdge f_result f_begun f_latest f_inputs a_op a_d a_b a_many a_kind a_asks a_target a_a a_order a_place a_parent a_depths a_living a_needs a_merging a_stack a_next a_before a_frontiers a_in a_out a_nameA a_nameB a_queue a_state a_worth a_usedByExit a_usedBySet a_usedByLow a_usedByHigh a_edges a_now := by
  have ok := X.1
  have hn16 := ok.1
  intro n
  induction n with
  | zero => intro x c _ _ _ _ _ _ _ _ h1 h2; omega
  | succ n ih =>
    intro x c f_openEdges f_last f_openCount f_lastEdge a_queue a_state a_worth a_edges h1 h2 A I V
    rw [wX_follow_2]
    refine pk_le (gr_n G) x (fun h => ?_) (fun h => ?_) X.2.1
    · refine K c _ _ _ _ _ _ _ _ A (vc_ee (vc_em (vc_es I (fun y i hy _ hE => ?_)) (fun p j v a1 a2 a3 a4 a5 hE => ?_)) (fun y j hy hl hE => ?_)) V
      · have := gr_Mlt ok (I.2.1 y hy).1
        have := hE.1
        omega
      · have := gr_Mlt ok (I.2.1 p a1).1
        have := ((ok.2.2 p this).2.2.2.1 j a2).2
        have := hE.1
        omega
      · have := gr_Mlt ok (I.2.1 y hy).1
        have := hE.1
        omega
    · refine fb_0 (by omega) (fun hb => ?_) (fun hb => ?_)
      · have hnx : ¬ ob x := fun z => by rw [(hob x (by omega)).mpr z] at hb; exact absurd hb (by decide)
        refine nm_r (nI_1 x) (ih (x + 1) c _ _ _ _ _ _ _ _ (by omega) (by omega) A (vc_ee (vc_em (vc_es I (fun y i hy _ hE => ?_)) (fun p j v a1 a2 a3 a4 a5 hE => ?_)) (fun y j hy hl hE => ?_)) V)
        · refine Or.inr (Or.inr ⟨?_, hE.2⟩)
          rcases Nat.lt_or_ge x y with z | z
          · exact z
          · have e : y = x := by have := hE.1; omega
            rw [e] at hy
            exact absurd hy hnx
        · rcases Nat.lt_or_ge x (gr_tg G (2 * p + j)) with z | z
          · exact Or.inr (Or.inr (Or.inr ⟨z, hE.2⟩))
          · have e : gr_tg G (2 * p + j) = x := by have := hE.1; omega
            have hpn := gr_Mlt ok (I.2.1 p a1).1
            have hkd := (ok.2.2 p hpn).2.1
            have := (I.2.2.1 p j (by omega) (by omega) a4).2.2
            rw [e] at this
            exact Or.inr (Or.inr (Or.inl (this.resolve_left hnx)))
        · refine Or.inr (Or.inr ⟨?_, hE.2⟩)
          rcases Nat.lt_or_ge x y with z | z
          · exact z
          · have e : y = x := by have := hE.1; omega
            rw [e] at hy
            exact absurd hy hnx
      · have hx := (hob x (by omega)).mp hb
        refine nm_r (e' := nI (4 * x + 0)) (by rw [fn_4]; rfl) ⟨5, xo_28 c0 X hX T hmg N hlt hN hU hk hx (fun c' f_openEdges f_last f_openCount f_lastEdge a_queue a_state a_worth a_edges A' I' V' => ih (x + 1) c' _ _ _ _ _ _ _ _ (by omega) (by omega) A' I' V') 5 0 c _ _ _ _ _ _ _ _ (by omega) (by omega) A (vc_w I (fun _ z => z) (fun y i z => ⟨?_, z.2⟩) (fun _ _ _ z => z) (fun _ z => z)) V⟩
        rcases Nat.lt_or_ge x y with w | w
        · exact Or.inl w
        · exact Or.inr ⟨by have := z.1; omega, Nat.zero_le _⟩
theorem xo_follow {k : Nat} (X : xp_ok G f_blocks f_given a_op a_d a_b a_many a_kind a_asks a_target a_a) (hX : xa_ok G m ord pl a_order a_place a_before) (T : dt_ok G m ord pl P) (hmg : ∀ y j, y < 16 → (bt (a_merging y) j = true ↔ (j < 6 ∧ gr_J G j y))) (N : nm_ok G P ni) (hlt : ∀ x, gr_M G x → ∀ v, v < 6 → ni x v < 166) (hN : ∀ x, gr_M G x → gn_B G ni x a_in a_out a_nameA a_nameB) (hU : us_3 G ni (fun _ => True) a_usedByExit a_usedBySet a_usedByLow a_usedByHigh) (hk : k < 166) (hob : ∀ y, y < 16 → (bt f_openBlocks y = true ↔ ob y)) (A : vc_A c f_openEdges f_last f_openCount f_lastEdge a_queue a_state a_worth a_edges) (I : vc_I G ni F FE ob (fun _ => False) (fun y i => ∃ v, gr_us G (4 * y + i) v ∧ nb_ G ni y i v = k) (fun p _ v => ne_ G ni p v = k) (fun y => gr_kd G y ≠ 1 ∧ ne_ G ni y (gr_ak G y) = k) c)
    (K : ∀ (c' : vc_T) (f_openEdges f_last f_openCount f_lastEdge : Int32) (a_queue a_state a_worth a_edges : Nat → Int32), vc_A c' f_openEdges f_last f_openCount f_lastEdge a_queue a_state a_worth a_edges → vc_I G ni F FE ob (fun _ => False) (fun _ _ => False) (fun _ _ _ => False) (fun _ => False) c' → vt_ c c' → post (f_blocks, f_given, f_known, f_met, f_openEdges, f_openBlocks, f_first, f_last, f_openCount, f_firstEdge, f_lastEdge, f_result, f_begun, f_latest, f_inputs, a_op, a_d, a_b, a_many, a_kind, a_asks, a_target, a_a, a_order, a_place, a_parent, a_depths, a_living, a_needs, a_merging, a_stack, a_next, a_before, a_frontiers, a_in, a_out, a_nameA, a_nameB, a_queue, a_state, a_worth, a_usedByExit, a_usedBySet, a_usedByLow, a_usedByHigh, a_edges, a_now)) : wpX_follow post (f_blocks, f_given, f_known, f_met, f_openEdges, f_openBlocks, f_first, f_last, f_openCount, f_firstEdge, f_lastEdge, f_result, f_begun, f_latest, f_inputs, a_op, a_d, a_b, a_many, a_kind, a_asks, a_target, a_a, a_order, a_place, a_parent, a_depths, a_living, a_needs, a_merging, a_stack, a_next, a_before, a_frontiers, a_in, a_out, a_nameA, a_nameB, a_queue, a_state, a_worth, a_usedByExit, a_usedBySet, a_usedByLow, a_usedByHigh, a_edges, a_now) (nI k) := by
  have hn16 := X.1.1
  show ∃ n2 : Nat, wX_follow_2 post (nI k) n2 0 f_blocks f_given f_known f_met f_openEdges f_openBlocks f_first f_last f_openCount f_firstEdge f_lastEdge f_result f_begun f_latest f_inputs a_op a_d a_b a_many a_kind a_asks a_target a_a a_order a_place a_parent a_depths a_living a_needs a_merging a_stack a_next a_before a_frontiers a_in a_out a_nameA a_nameB a_queue a_state a_worth a_usedByExit a_usedBySet a_usedByLow a_usedByHigh a_edges a_now
  exact ⟨17, xo_2 c X hX T hmg N hlt hN hU hk hob K 17 0 c _ _ _ _ _ _ _ _ (by omega) (by omega) A (vc_w I (fun _ z => z) (fun y i z => ⟨Nat.zero_le _, z⟩) (fun _ _ _ z => ⟨Nat.zero_le _, z⟩) (fun _ z => ⟨Nat.zero_le _, z⟩)) vt_rf⟩
end
end
section
section
variable {G : gr_T} {m : Nat} {ord pl : Nat → Nat} {P : Nat → Option Nat} {ni : Nat → Nat → Nat} {F FE : Nat} {ob : Nat → Prop} {c : vc_T}
theorem vc_pop (I : vc_I G ni F FE ob (fun _ => False) (fun _ _ => False) (fun _ _ _ => False) (fun _ => False) c) (hF : F < vc_L c) : vc_I G ni (F + 1) FE ob (fun _ => False) (fun y i => ∃ v, gr_us G (4 * y + i) v ∧ nb_ G ni y i v = vc_qu c F) (fun p _ v => ne_ G ni p v = vc_qu c F) (fun y => gr_kd G y ≠ 1 ∧ ne_ G ni y (gr_ak G y) = vc_qu c F) c := by
  have pq : ∀ k, vc_pq F c k → vc_pq (F + 1) c k ∨ k = vc_qu c F := by
    rintro k ⟨j, h1, h2, h3⟩
    by_cases e : j = F
    · rw [e] at h3
      exact Or.inr h3.symm
    · exact Or.inl ⟨j, by omega, h2, h3⟩
  obtain ⟨i1, i2, i3, i4, i5, i6, i7⟩ := I
  refine ⟨i1, i2, i3, fun y i hy hi => ?_, fun p j v a1 a2 a3 a4 a5 => ?_, fun x j hx hl => ?_, ⟨i7.1, i7.2.1, hF, i7.2.2.2⟩⟩
  · rcases i4 y i hy hi with z | ⟨v, hv, z⟩ | z
    · exact Or.inl z
    · rcases pq _ z with w | w
      · exact Or.inr (Or.inl ⟨v, hv, w⟩)
      · exact Or.inr (Or.inr ⟨v, hv, w⟩)
    · exact absurd z id
  · rcases i5 p j v a1 a2 a3 a4 a5 with z | z | z | z
    · exact Or.inl z
    · rcases pq _ z with w | w
      · exact Or.inr (Or.inl w)
      · exact Or.inr (Or.inr (Or.inr w))
    · exact Or.inr (Or.inr (Or.inl z))
    · exact absurd z id
  · rcases i6 x j hx hl with z | z | z
    · exact Or.inl z
    · rcases pq _ z.2 with w | w
      · exact Or.inr (Or.inl ⟨z.1, w⟩)
      · exact Or.inr (Or.inr ⟨z.1, w⟩)
    · exact absurd z id
theorem vc_ppe {k : Nat} (h : vc_pe FE c k) : vc_pe (FE + 1) c k ∨ k = vc_eq c FE := by
  obtain ⟨j, h1, h2, h3⟩ := h
  by_cases e : j = FE
  · rw [e] at h3
    exact Or.inr h3.symm
  · exact Or.inl ⟨j, by omega, h2, h3⟩
theorem vc_popE (I : vc_I G ni F FE ob (fun _ => False) (fun _ _ => False) (fun _ _ _ => False) (fun _ => False) c) (hF : FE < vc_LE c) (ht : ob (gr_tg G (vc_eq c FE))) : vc_I G ni F (FE + 1) ob (fun _ => False) (fun _ _ => False) (fun p j _ => gr_tg G (2 * p + j) = gr_tg G (vc_eq c FE)) (fun _ => False) c := by
  obtain ⟨i1, i2, i3, i4, i5, i6, i7⟩ := I
  refine ⟨i1, i2, fun p j hp hj ho => ?_, i4, fun p j v a1 a2 a3 a4 a5 => ?_, i6, ⟨i7.1, i7.2.1, i7.2.2.1, i7.2.2.2.1, hF, i7.2.2.2.2.2⟩⟩
  · have h := i3 p j hp hj ho
    refine ⟨h.1, h.2.1, ?_⟩
    rcases h.2.2 with z | z
    · exact Or.inl z
    · rcases vc_ppe z with w | w
      · exact Or.inr w
      · rw [w]; exact Or.inl ht
  · rcases i5 p j v a1 a2 a3 a4 a5 with z | z | z | z
    · exact Or.inl z
    · exact Or.inr (Or.inl z)
    · rcases vc_ppe z with w | w
      · exact Or.inr (Or.inr (Or.inl w))
      · exact Or.inr (Or.inr (Or.inr (show gr_tg G (2 * p + j) = gr_tg G (vc_eq c FE) from by rw [w])))
    · exact absurd z id
/-- what comes by an open edge gives the names of a new block -/
theorem vc_lowN (T : dt_ok G m ord pl P) (ok : gr_ok G) (N : nm_ok G P ni) (I : vc_I G ni F FE ob (fun _ => False) (fun _ _ => False) (fun _ _ _ => False) (fun _ => False) c) {p j : Nat} (hp : ob p) (hj : j < gr_kd G p) (hoe : vc_OE c (2 * p + j)) : ∀ (O : Nat → Prop) (B : Nat → Nat → Option Int32), vl_cl G O B → O (gr_tg G (2 * p + j)) ∧ ∀ v, v < 6 → vl_le (vl_D G B (ni (gr_tg G (2 * p + j)) v)) (B (gr_tg G (2 * p + j)) v) := by
  intro O B hc
  have hL := I.1 O B hc
  have hM := (I.2.1 p hp).1
  have hpn := gr_Mlt ok hM
  have hB := ok.2.2 p hpn
  have hkd := hB.2.1
  have htg := hB.2.2.2.1 j hj
  have h1 := hL.2.1 p hp
  have h2 := hL.2.2 p j hpn (by omega) hoe
  have h3 := hc.2 p h1.1 hpn j h2
  have e : gr_E G p (gr_tg G (2 * p + j)) := ⟨hpn, j, hj, rfl⟩
  refine ⟨h3.1, fun v hv => ?_⟩
  by_cases hJ : gr_J G v (gr_tg G (2 * p + j))
  · rw [(N.2 _ (gr_Ms hM e) (by omega) v hv).1 hJ, vl_Dm hv]
    exact vl_rf
  · rw [nm_key T ok N hM e hv hJ]
    exact vl_tr (vl_L1 ok hpn h1.2 (gr_mn G p) (Nat.le_refl _) v hv) (h3.2 v hv)
theorem vc_popN (T : dt_ok G m ord pl P) (ok : gr_ok G) (N : nm_ok G P ni) (I : vc_I G ni F FE ob (fun _ => False) (fun _ _ => False) (fun _ _ _ => False) (fun _ => False) c) (hF : FE < vc_LE c) {p j t : Nat} (hp : ob p) (hj : j < gr_kd G p) (he : vc_eq c FE = 2 * p + j) (ht : gr_tg G (2 * p + j) = t) (hno : ¬ ob t) : vc_I G ni F (FE + 1) (fun y => ob y ∨ y = t) (fun y => y = t) (fun y _ => y = t) (fun p j _ => gr_tg G (2 * p + j) = t) (fun y => y = t) c := by
  have hoe := I.2.2.2.2.2.2.2.2.2.2.2 FE hF
  rw [he] at hoe
  have hMp := (I.2.1 p hp).1
  have hpn := gr_Mlt ok hMp
  have hMt : gr_M G t := gr_Ms hMp ⟨hpn, j, hj, ht⟩
  have hlow := vc_lowN T ok N I hp hj hoe
  rw [ht] at hlow
  have hn16 := ok.1
  have Ic := I
  obtain ⟨i1, i2, i3, i4, i5, i6, i7⟩ := I
  refine ⟨fun O B hc => ⟨(i1 O B hc).1, fun x hx => ?_, (i1 O B hc).2.2⟩, fun y hy => ?_, fun q i hq hi ho => ?_, fun y i hy hi => ?_, fun q i v a1 a2 a3 a4 a5 => ?_, fun x i hx hl => ?_, ⟨i7.1, i7.2.1, i7.2.2.1, i7.2.2.2.1, hF, i7.2.2.2.2.2⟩⟩
  · rcases hx with z | z
    · exact (i1 O B hc).2.1 x z
    · rw [z]; exact hlow O B hc
  · rcases hy with z | z
    · exact ⟨(i2 y z).1, Or.inr ((i2 y z).2.resolve_left id)⟩
    · rw [z]; exact ⟨hMt, Or.inl rfl⟩
  · have h := i3 q i hq hi ho
    refine ⟨Or.inl h.1, h.2.1, ?_⟩
    rcases h.2.2 with z | z
    · exact Or.inl (Or.inl z)
    · rcases vc_ppe z with w | w
      · exact Or.inr w
      · refine Or.inl (Or.inr ?_)
        rw [w, he, ht]
  · rcases hy with z | z
    · rcases i4 y i z hi with w | w | w
      · exact Or.inl w
      · exact Or.inr (Or.inl w)
      · exact absurd w id
    · exact Or.inr (Or.inr z)
  · have hq : ob q := by
      rcases a1 with z | z
      · exact z
      · exfalso
        have hqn : q < 16 := by
          have := gr_Mlt ok hMt
          omega
        have hqk : gr_kd G q < 3 := (ok.2.2 q (by rw [z]; exact gr_Mlt ok hMt)).2.1
        have := (i3 q i hqn (by omega) a4).1
        rw [z] at this
        exact hno this
    rcases i5 q i v hq a2 a3 a4 a5 with z | z | z | z
    · exact Or.inl z
    · exact Or.inr (Or.inl z)
    · rcases vc_ppe z with w | w
      · exact Or.inr (Or.inr (Or.inl w))
      · exact Or.inr (Or.inr (Or.inr (show gr_tg G (2 * q + i) = t from by rw [w, he, ht])))
    · exact absurd z id
  · rcases hx with z | z
    · rcases i6 x i z hl with w | w | w
      · exact Or.inl w
      · exact Or.inr (Or.inl w)
      · exact absurd w id
    · exact Or.inr (Or.inr z)
/-- nothing left to do -/
theorem vc_end (I : vc_I G ni F FE ob (fun _ => False) (fun _ _ => False) (fun _ _ _ => False) (fun _ => False) c) (ok : gr_ok G) (hF : F = vc_L c) (hFE : FE = vc_LE c) (h0 : 0 < gr_n G → ob 0 ∧ ∀ v, v < 6 → vc_st c v ≠ 0 ∧ vl_le (vl_i G v) (vc_v c v)) : vx_fix G ni (vc_st c) (vc_wo c) ob (vc_OE c) ∧ vx_low G ni (vc_st c) (vc_wo c) ob (vc_OE c) ∧ (∀ x j, x < 16 → j < 2 → vc_OE c (2 * x + j) → ob x) := by
  have hn16 := ok.1
  obtain ⟨i1, i2, i3, i4, i5, i6, i7⟩ := I
  have npq : ∀ k, ¬ vc_pq F c k := fun k ⟨j, h1, h2, _⟩ => by omega
  have npe : ∀ k, ¬ vc_pe FE c k := fun k ⟨j, h1, h2, _⟩ => by omega
  refine ⟨⟨h0, fun x hx => ?_, fun p j v a1 a2 a3 a4 a5 => ?_, fun x j hx hl => ?_⟩, i1, fun x j hx hj ho => (i3 x j (by omega) hj ho).1⟩
  · have h := (i2 x hx).2.resolve_left id
    refine ⟨(i2 x hx).1, h.1, fun i hi => ⟨h.2 i hi, ?_⟩⟩
    rcases i4 x i hx hi with z | ⟨v, _, z⟩ | z
    · exact z.2
    · exact absurd z (npq _)
    · exact absurd z id
  · rcases i5 p j v a1 a2 a3 a4 a5 with z | z | z | z
    · exact z.2
    · exact absurd z (npq _)
    · exact absurd z (npe _)
    · exact absurd z id
  · have ho : vc_OE c (2 * x + j) := by
      rcases i6 x j hx hl with z | z | z
      · exact z
      · exact absurd z.2 (npq _)
      · exact absurd z id
    have hxn := gr_Mlt ok (i2 x hx).1
    have hkd := (ok.2.2 x hxn).2.1
    have hj := hl.1
    exact ⟨ho, (i3 x j (by omega) (by omega) ho).2.2.resolve_right (npe _)⟩
end
section
variable {f_blocks f_given f_known f_met f_openEdges f_openBlocks f_first f_last f_openCount f_firstEdge f_lastEdge f_result f_begun f_latest f_inputs : Int32} {a_op a_d a_b a_many a_kind a_asks a_target a_a a_order a_place a_parent a_depths a_living a_needs a_merging a_stack a_next a_before a_frontiers a_in a_out a_nameA a_nameB a_queue a_state a_worth a_usedByExit a_edges a_now : Nat → Int32} {a_usedBySet a_usedByLow a_usedByHigh : Nat → Int64}
variable {G : gr_T} {m : Nat} {ord pl : Nat → Nat} {P : Nat → Option Nat} {ni : Nat → Nat → Nat} {post : SX → Prop}
/-- what the search for values leaves -/
def vr_ok (G : gr_T) (ni : Nat → Nat → Nat) (c : vc_T) (ob : Nat → Prop) : Prop := vx_fix G ni (vc_st c) (vc_wo c) ob (vc_OE c) ∧ vx_low G ni (vc_st c) (vc_wo c) ob (vc_OE c) ∧ (∀ x j, x < 16 → j < 2 → vc_OE c (2 * x + j) → ob x) ∧ vc_Z 0 0 c
theorem xo_103 (X : xp_ok G f_blocks f_given a_op a_d a_b a_many a_kind a_asks a_target a_a) (hX : xa_ok G m ord pl a_order a_place a_before) (T : dt_ok G m ord pl P) (hmg : ∀ y j, y < 16 → (bt (a_merging y) j = true ↔ (j < 6 ∧ gr_J G j y))) (N : nm_ok G P ni) (hlt : ∀ x, gr_M G x → ∀ v, v < 6 → ni x v < 166) (hN : ∀ x, gr_M G x → gn_B G ni x a_in a_out a_nameA a_nameB) (hU : us_3 G ni (fun _ => True) a_usedByExit a_usedBySet a_usedByLow a_usedByHigh)
    (K : ∀ (ob : Nat → Prop) (f_openBlocks f_first f_firstEdge : Int32) (c : vc_T) (f_openEdges f_last f_openCount f_lastEdge : Int32) (a_queue a_state a_worth a_edges : Nat → Int32), vc_A c f_openEdges f_last f_openCount f_lastEdge a_queue a_state a_worth a_edges → (∀ y, y < 16 → (bt f_openBlocks y = true ↔ ob y)) → vr_ok G ni c ob → post (f_blocks, f_given, f_known, f_met, f_openEdges, f_openBlocks, f_first, f_last, f_openCount, f_firstEdge, f_lastEdge, f_result, f_begun, f_latest, f_inputs, a_op, a_d, a_b, a_many, a_kind, a_asks, a_target, a_a, a_order, a_place, a_parent, a_depths, a_living, a_needs, a_merging, a_stack, a_next, a_before, a_frontiers, a_in, a_out, a_nameA, a_nameB, a_queue, a_state, a_worth, a_usedByExit, a_usedBySet, a_usedByLow, a_usedByHigh, a_edges, a_now)) :
    ∀ n F FE (ob : Nat → Prop) (f_openBlocks : Int32) (c : vc_T) (f_openEdges f_last f_openCount f_lastEdge : Int32) (a_queue a_state a_worth a_edges : Nat → Int32), 332 - F + (32 - FE) < n → vc_A c f_openEdges f_last f_openCount f_lastEdge a_queue a_state a_worth a_edges → (∀ y, y < 16 → (bt f_openBlocks y = true ↔ ob y)) → vc_I G ni F FE ob (fun _ => False) (fun _ _ => False) (fun _ _ _ => False) (fun _ => False) c → ob 0 → (∀ v, v < 6 → vc_st c v ≠ 0 ∧ vl_le (vl_i G v) (vc_v c v)) → wX_findValues_103 post n f_blocks f_given f_known f_met f_openEdges f_openBlocks (nI F) f_last f_openCount (nI FE) f_lastEdge f_result f_begun f_latest f_inputs a_op a_d a_b a_many a_kind a_asks a_target a_a a_order a_place a_parent a_depths a_living a_needs a_merging a_stack a_next a_before a_frontiers a_in a_out a_nameA a_nameB a_queue a_state a_worth a_usedByExit a_usedBySet a_usedByLow a_usedByHigh a_edges a_now := by
  have ok := X.1
  have hn16 := ok.1
  intro n
  induction n with
  | zero => intro F FE ob _ c _ _ _ _ _ _ _ _ h; omega
  | succ n ih =>
    intro F FE ob f_openBlocks c f_openEdges f_last f_openCount f_lastEdge a_queue a_state a_worth a_edges hmu A hob I ob0 h0
    have hL := vc_L332 I
    have hLE := vc_LE32 I
    have hFL := I.2.2.2.2.2.2.2.2.1
    have hFLE := I.2.2.2.2.2.2.2.2.2.2.1
    have h0' : ∀ {c' : vc_T}, vt_ c c' → ∀ v, v < 6 → vc_st c' v ≠ 0 ∧ vl_le (vl_i G v) (vc_v c' v) := fun V v hv => ⟨(V.1 v (by omega) (h0 v hv).1).1, vl_tr (h0 v hv).2 (V.1 v (by omega) (h0 v hv).1).2⟩
    have k125 : (F < vc_L c ∨ FE < vc_LE c) → wX_findValues_125 post (wX_findValues_103 post n) f_blocks f_given f_known f_met f_openEdges f_openBlocks (nI F) f_last f_openCount (nI FE) f_lastEdge f_result f_begun f_latest f_inputs a_op a_d a_b a_many a_kind a_asks a_target a_a a_order a_place a_parent a_depths a_living a_needs a_merging a_stack a_next a_before a_frontiers a_in a_out a_nameA a_nameB a_queue a_state a_worth a_usedByExit a_usedBySet a_usedByLow a_usedByHigh a_edges a_now := by
      intro hor
      rw [wX_findValues_125]
      refine pk_le (vc_LE c) FE (fun h => ?_) (fun h => ?_) A.2.2.2.1
      · have hF : F < vc_L c := by omega
        have hq := A.2.2.2.2.1 F hF
        rw [fn_c (a := F) (by omega), hq.1]
        refine nm_r (nI_1 F) ⟨vp_in_nI (by omega) (by omega), ?_⟩
        refine xo_follow X hX T hmg N hlt hN hU hq.2 hob A (vc_pop I hF) (fun c' f_openEdges f_last f_openCount f_lastEdge a_queue a_state a_worth a_edges A' I' V' => ih (F + 1) FE ob f_openBlocks c' _ _ _ _ _ _ _ _ (by omega) A' hob I' ob0 (h0' V'))
      · have he := A.2.2.2.2.2.2.2 FE h
        have hoe := I.2.2.2.2.2.2.2.2.2.2.2 FE h
        obtain ⟨p, j, epj, hp16, hj2⟩ : ∃ p j, vc_eq c FE = 2 * p + j ∧ p < 16 ∧ j < 2 := ⟨vc_eq c FE / 2, vc_eq c FE % 2, by omega, by omega, by omega⟩
        have hO := hoe
        rw [epj] at hO
        have hO' := I.2.2.1 p j hp16 hj2 hO
        have hMp := (I.2.1 p hO'.1).1
        have hpn := gr_Mlt ok hMp
        have htg := (ok.2.2 p hpn).2.2.2.1 j hO'.2.1
        rw [fn_c (a := FE) (by omega), he.1, epj]
        refine nm_r (nI_1 FE) ⟨vp_in_nI (by omega) (by omega), nm_e ?_⟩
        rw [fn_c (a := 2 * p + j) (by omega), X.2.2.2.2.2.2.1 p j hpn hO'.2.1]
        refine ⟨vp_in_nI (by omega) (by omega), nm_e ?_⟩
        have et : gr_tg G (vc_eq c FE) = gr_tg G (2 * p + j) := by rw [epj]
        generalize ht : gr_tg G (2 * p + j) = t at htg et ⊢
        refine fb_0 (by omega) (fun hb => ?_) (fun hb => ?_)
        · have hno : ¬ ob t := fun z => by rw [(hob t (by omega)).mpr z] at hb; exact absurd hb (by decide)
          have I2 := vc_popN T ok N I h hO'.1 hO'.2.1 epj ht hno
          have e : gr_E G p t := ⟨hpn, j, hO'.2.1, ht⟩
          refine xo_open (ob := fun y => ob y ∨ y = t) X hX T hmg N hlt hN (Or.inr rfl) (fun i hi ho => hno (I.2.2.1 t i (by omega) hi ho).1) (fun O B hc => ?_) (fun v hv => ⟨fun hJ => ?_, fun hJ => ⟨(N.2 t (gr_Ms hMp e) (by omega) v hv).1 hJ, p, j, Or.inl hO'.1, hO'.2.1, hO, ht⟩⟩) A I2 (fun c' f_openEdges f_last f_openCount f_lastEdge a_queue a_state a_worth a_edges A' I' V' => ih F (FE + 1) (fun y => ob y ∨ y = t) _ c' _ _ _ _ _ _ _ _ (by omega) A' (fun y hy => ?_) I' (Or.inl ob0) (h0' V'))
          · have := vc_lowN T ok N I hO'.1 hO'.2.1 hO O B hc
            rw [ht] at this
            exact this.2
          · rw [nm_key T ok N hMp e hv hJ]
            exact vc_kn ok I hO'.1 id (Nat.le_refl _) hv
          · rw [fb_or1 _ (by omega) (by omega), Bool.or_eq_true, decide_eq_true_iff, hob y hy]
        · have hyes : ob t := (hob t (by omega)).mp hb
          have I2 := vc_popE I h (by rw [et]; exact hyes)
          rw [et] at I2
          have hMt : gr_M G t := (I.2.1 t hyes).1
          rw [fn_c (a := t) (by omega)]
          refine ⟨vp_in_nI (by omega) (by omega), xs_mergeAll X hX T hmg N hlt hN hMt (fun _ _ _ _ z => z) A I2 (fun c' f_openEdges f_last f_openCount f_lastEdge a_queue a_state a_worth a_edges A' I' V' _ _ => ih F (FE + 1) ob f_openBlocks c' _ _ _ _ _ _ _ _ (by omega) A' hob (vc_em I' (fun q i w a1 a2 a3 a4 a5 hE => ?_)) ob0 (h0' V'))⟩
          exfalso
          refine hE.2 ⟨hE.1, (hmg t w (by omega)).mpr ⟨a3, ?_⟩⟩
          rw [← hE.1]
          exact a5
    rw [wX_findValues_103]
    refine pk_lt F (vc_L c) (fun h => k125 (Or.inl h)) (fun h => ?_) rfl A.2.1
    refine pk_le (vc_LE c) FE (fun h2 => ?_) (fun h2 => k125 (Or.inr h2)) A.2.2.2.1
    obtain ⟨r1, r2, r3⟩ := vc_end I ok (by omega) (by omega) (fun _ => ⟨ob0, h0⟩)
    have hZ := I.2.2.2.2.2.2
    exact K ob f_openBlocks _ _ c _ _ _ _ _ _ _ _ A hob ⟨r1, r2, r3, hZ.1, hZ.2.1, Nat.zero_le _, hZ.2.2.2.1, Nat.zero_le _, hZ.2.2.2.2.2⟩
theorem xo_67 (X : xp_ok G f_blocks f_given a_op a_d a_b a_many a_kind a_asks a_target a_a) (hX : xa_ok G m ord pl a_order a_place a_before) (T : dt_ok G m ord pl P) (hmg : ∀ y j, y < 16 → (bt (a_merging y) j = true ↔ (j < 6 ∧ gr_J G j y))) (N : nm_ok G P ni) (hlt : ∀ x, gr_M G x → ∀ v, v < 6 → ni x v < 166) (hN : ∀ x, gr_M G x → gn_B G ni x a_in a_out a_nameA a_nameB) (hU : us_3 G ni (fun _ => True) a_usedByExit a_usedBySet a_usedByLow a_usedByHigh) (hn0 : 0 < gr_n G)
    (K : ∀ (ob : Nat → Prop) (f_openBlocks f_first f_firstEdge : Int32) (c : vc_T) (f_openEdges f_last f_openCount f_lastEdge : Int32) (a_queue a_state a_worth a_edges : Nat → Int32), vc_A c f_openEdges f_last f_openCount f_lastEdge a_queue a_state a_worth a_edges → (∀ y, y < 16 → (bt f_openBlocks y = true ↔ ob y)) → vr_ok G ni c ob → post (f_blocks, f_given, f_known, f_met, f_openEdges, f_openBlocks, f_first, f_last, f_openCount, f_firstEdge, f_lastEdge, f_result, f_begun, f_latest, f_inputs, a_op, a_d, a_b, a_many, a_kind, a_asks, a_target, a_a, a_order, a_place, a_parent, a_depths, a_living, a_needs, a_merging, a_stack, a_next, a_before, a_frontiers, a_in, a_out, a_nameA, a_nameB, a_queue, a_state, a_worth, a_usedByExit, a_usedBySet, a_usedByLow, a_usedByHigh, a_edges, a_now)) :
    ∀ n v (c : vc_T) (f_openEdges f_last f_openCount f_lastEdge : Int32) (a_queue a_state a_worth a_edges : Nat → Int32), 6 < n + v → v ≤ 6 → vc_A c f_openEdges f_last f_openCount f_lastEdge a_queue a_state a_worth a_edges → vc_I G ni 0 0 (fun _ => False) (fun _ => False) (fun _ _ => False) (fun _ _ _ => False) (fun _ => False) c → vc_oe c = 0 → (∀ w, w < v → vc_st c w ≠ 0 ∧ vl_le (vl_i G w) (vc_v c w)) → wX_findValues_67 post n (nI v) f_blocks f_given f_known f_met f_openEdges 0 0 f_last f_openCount 0 f_lastEdge f_result f_begun f_latest f_inputs a_op a_d a_b a_many a_kind a_asks a_target a_a a_order a_place a_parent a_depths a_living a_needs a_merging a_stack a_next a_before a_frontiers a_in a_out a_nameA a_nameB a_queue a_state a_worth a_usedByExit a_usedBySet a_usedByLow a_usedByHigh a_edges a_now := by
  have ok := X.1
  have hn16 := ok.1
  have hk4 := ok.2.1
  intro n
  induction n with
  | zero => intro v c _ _ _ _ _ _ _ _ h1 h2; omega
  | succ n ih =>
    intro v c f_openEdges f_last f_openCount f_lastEdge a_queue a_state a_worth a_edges h1 h2 A I hoe h0
    rw [wX_findValues_67]
    refine pk_le 6 v (fun h => ?_) (fun h => ?_)
    · have hnoe : ∀ e, ¬ vc_OE c e := fun e z => by
        unfold vc_OE at z
        rw [hoe, b_0] at z
        exact absurd z (by decide)
      have hJ0 : ∀ w, ¬ gr_J G w 0 := fun w z => dt_J0 ok z rfl
      have hlow0 : ∀ (O : Nat → Prop) (B : Nat → Nat → Option Int32), vl_cl G O B → ∀ v, v < 6 → vl_le (vl_D G B (ni 0 v)) (B 0 v) := by
        intro O B hc w hw
        rw [N.1 w hw, vl_Dv hw]
        exact vl_rf
      have I2 : vc_I G ni 0 0 (fun y => y = 0) (fun y => y = 0) (fun y _ => y = 0) (fun p j _ => gr_tg G (2 * p + j) = 0) (fun y => y = 0) c := by
        obtain ⟨i1, i2, i3, i4, i5, i6, i7⟩ := I
        refine ⟨fun O B hc => ⟨(i1 O B hc).1, fun x hx => ?_, (i1 O B hc).2.2⟩, fun y hy => ?_, fun p j _ _ ho => absurd ho (hnoe _), fun y i hy _ => Or.inr (Or.inr hy), fun p j w _ _ _ ho => absurd ho (hnoe _), fun x j hx _ => Or.inr (Or.inr hx), i7⟩
        · rw [hx]
          exact ⟨(hc.1 hn0).1, hlow0 O B hc⟩
        · rw [hy]; exact ⟨gr_M0 hn0, Or.inl rfl⟩
      refine xo_open (x := 0) (ob := fun y => y = 0) X hX T hmg N hlt hN rfl (fun j _ => hnoe _) hlow0 (fun w hw => ⟨fun _ => by rw [N.1 w hw]; exact (h0 w (by omega)).1, fun z => absurd z (hJ0 w)⟩) A I2 (fun c' f_openEdges f_last f_openCount f_lastEdge a_queue a_state a_worth a_edges A' I' V' => ?_)
      refine ⟨365, xo_103 X hX T hmg N hlt hN hU K 365 0 0 (fun y => y = 0) _ c' _ _ _ _ _ _ _ _ (by omega) A' (fun y hy => ?_) I' rfl (fun w hw => ⟨(V'.1 w (by omega) (h0 w (by omega)).1).1, vl_tr (h0 w (by omega)).2 (V'.1 w (by omega) (h0 w (by omega)).1).2⟩)⟩
      rw [fb_or1 _ (by omega) (by omega), b_0, Bool.false_or, decide_eq_true_iff]
    · have step : ∀ to : Nat, (to = 1 ∨ to = 2) → vw_ to 0 = vl_i G v → wX_findValues_88 post (wX_findValues_67 post n) (nI v) (nI to) (nI v) f_blocks f_given f_known f_met f_openEdges 0 0 f_last f_openCount 0 f_lastEdge f_result f_begun f_latest f_inputs a_op a_d a_b a_many a_kind a_asks a_target a_a a_order a_place a_parent a_depths a_living a_needs a_merging a_stack a_next a_before a_frontiers a_in a_out a_nameA a_nameB a_queue a_state a_worth a_usedByExit a_usedBySet a_usedByLow a_usedByHigh a_edges a_now := by
        intro to hto hw
        rw [wX_findValues_88]
        refine xs_raise ok hlt A I (by omega) hto (fun O B hc => ?_) (fun c' f_openEdges f_last f_openCount f_lastEdge a_queue a_state a_worth a_edges A' I' V' hU' hs hle => ?_)
        · rw [hw, vl_Dv h]
          exact (hc.1 hn0).2 v h
        · refine nm_r (nI_1 v) (ih (v + 1) c' _ _ _ _ _ _ _ _ (by omega) (by omega) A' I' (hU'.1.trans hoe) (fun w hw' => ?_))
          by_cases e : w = v
          · rw [e]
            rw [hw] at hle
            exact ⟨hs, hle⟩
          · have := h0 w (by omega)
            exact ⟨(V'.1 w (by omega) this.1).1, vl_tr this.2 (V'.1 w (by omega) this.1).2⟩
      refine pk_le (gr_k G) v (fun hg => step 1 (Or.inl rfl) ?_) (fun hg => step 2 (Or.inr rfl) ?_) X.2.2.1
      · unfold vl_i
        rw [if_neg (by omega)]
        rfl
      · unfold vl_i
        rw [if_pos hg]
        rfl
theorem xo_2c (K : ((f_met = 0 → post (f_blocks, f_given, f_known, f_met, 0, 0, 0, 0, 0, 0, 0, f_result, f_begun, f_latest, f_inputs, a_op, a_d, a_b, a_many, a_kind, a_asks, a_target, a_a, a_order, a_place, a_parent, a_depths, a_living, a_needs, a_merging, a_stack, a_next, a_before, a_frontiers, a_in, a_out, a_nameA, a_nameB, a_queue, cl_ 0 166 a_state, a_worth, a_usedByExit, a_usedBySet, a_usedByLow, a_usedByHigh, a_edges, a_now)) ∧ (¬ f_met = 0 → ∃ n67 : Nat, wX_findValues_67 post n67 0 f_blocks f_given f_known f_met 0 0 0 0 0 0 0 f_result f_begun f_latest f_inputs a_op a_d a_b a_many a_kind a_asks a_target a_a a_order a_place a_parent a_depths a_living a_needs a_merging a_stack a_next a_before a_frontiers a_in a_out a_nameA a_nameB a_queue (cl_ 0 166 a_state) a_worth a_usedByExit a_usedBySet a_usedByLow a_usedByHigh a_edges a_now))) :
    ∀ n i, 166 < n + i → i ≤ 166 → wX_findValues_2 post f_blocks f_given f_known f_met f_openEdges f_openBlocks f_first f_last f_openCount f_firstEdge f_lastEdge f_result f_begun f_latest f_inputs n (nI i) a_op a_d a_b a_many a_kind a_asks a_target a_a a_order a_place a_parent a_depths a_living a_needs a_merging a_stack a_next a_before a_frontiers a_in a_out a_nameA a_nameB a_queue (cl_ 0 i a_state) a_worth a_usedByExit a_usedBySet a_usedByLow a_usedByHigh a_edges a_now := by
  intro n
  induction n with
  | zero => intro i h1 h2; omega
  | succ n ih =>
    intro i h1 h2
    rw [wX_findValues_2]
    refine pk_le 166 i (fun h => ?_) (fun h => ?_)
    · have e : i = 166 := by omega
      subst e
      exact K
    · have c : (nI i).toNatClampNeg = i := fn_c (by omega)
      rw [c, fb_vb0]
      exact ⟨vp_in_nI (by omega) (by omega), nm_r cl_s (nm_r (nI_1 i) (ih (i + 1) (by omega) (by omega)))⟩
theorem xo_findValues (X : xp_ok G f_blocks f_given a_op a_d a_b a_many a_kind a_asks a_target a_a) (hX : xa_ok G m ord pl a_order a_place a_before) (T : dt_ok G m ord pl P) (hmg : ∀ y j, y < 16 → (bt (a_merging y) j = true ↔ (j < 6 ∧ gr_J G j y))) (N : nm_ok G P ni) (hlt : ∀ x, gr_M G x → ∀ v, v < 6 → ni x v < 166) (hN : ∀ x, gr_M G x → gn_B G ni x a_in a_out a_nameA a_nameB) (hU : us_3 G ni (fun _ => True) a_usedByExit a_usedBySet a_usedByLow a_usedByHigh) (hm : f_met = nI m)
    (K : ∀ (ob : Nat → Prop) (f_openBlocks f_first f_firstEdge : Int32) (c : vc_T) (f_openEdges f_last f_openCount f_lastEdge : Int32) (a_queue a_state a_worth a_edges : Nat → Int32), vc_A c f_openEdges f_last f_openCount f_lastEdge a_queue a_state a_worth a_edges → (∀ y, y < 16 → (bt f_openBlocks y = true ↔ ob y)) → vr_ok G ni c ob → post (f_blocks, f_given, f_known, f_met, f_openEdges, f_openBlocks, f_first, f_last, f_openCount, f_firstEdge, f_lastEdge, f_result, f_begun, f_latest, f_inputs, a_op, a_d, a_b, a_many, a_kind, a_asks, a_target, a_a, a_order, a_place, a_parent, a_depths, a_living, a_needs, a_merging, a_stack, a_next, a_before, a_frontiers, a_in, a_out, a_nameA, a_nameB, a_queue, a_state, a_worth, a_usedByExit, a_usedBySet, a_usedByLow, a_usedByHigh, a_edges, a_now)) : wpX_findValues post (f_blocks, f_given, f_known, f_met, f_openEdges, f_openBlocks, f_first, f_last, f_openCount, f_firstEdge, f_lastEdge, f_result, f_begun, f_latest, f_inputs, a_op, a_d, a_b, a_many, a_kind, a_asks, a_target, a_a, a_order, a_place, a_parent, a_depths, a_living, a_needs, a_merging, a_stack, a_next, a_before, a_frontiers, a_in, a_out, a_nameA, a_nameB, a_queue, a_state, a_worth, a_usedByExit, a_usedBySet, a_usedByLow, a_usedByHigh, a_edges, a_now) := by
  have ok := X.1
  have hn16 := ok.1
  have O := hX.1
  have hmn := O.1
  show ∃ n2 : Nat, wX_findValues_2 post f_blocks f_given f_known f_met f_openEdges f_openBlocks f_first f_last f_openCount f_firstEdge f_lastEdge f_result f_begun f_latest f_inputs n2 0 a_op a_d a_b a_many a_kind a_asks a_target a_a a_order a_place a_parent a_depths a_living a_needs a_merging a_stack a_next a_before a_frontiers a_in a_out a_nameA a_nameB a_queue a_state a_worth a_usedByExit a_usedBySet a_usedByLow a_usedByHigh a_edges a_now
  have hnoe : ∀ e, ¬ bt 0 e = true := fun e z => by rw [b_0] at z; exact absurd z (by decide)
  have A0 : vc_A (fun _ => 0, a_worth, fun _ => 0, 0, fun _ => 0, 0, 0) 0 0 0 0 a_queue (cl_ 0 166 a_state) a_worth a_edges := ⟨rfl, rfl, rfl, rfl, fun j hj => absurd hj (Nat.not_lt_zero j), fun n hn => cl_l hn, fun n hn => rfl, fun j hj => absurd hj (Nat.not_lt_zero j)⟩
  have Z0 : vc_Z 0 0 (fun _ => 0, a_worth, fun _ => 0, 0, fun _ => 0, 0, 0) := ⟨fun n _ => Nat.zero_le _, Nat.zero_le _, Nat.le_refl _, (sg_0 (fun i _ => b01_f (hnoe i))).symm, Nat.le_refl _, fun k hk => absurd hk (Nat.not_lt_zero k)⟩
  have L0 : vx_low G ni (fun _ => 0) a_worth (fun _ => False) (fun e => bt 0 e = true) := fun O B hc => ⟨fun n _ h => absurd rfl h, fun x hx => absurd hx id, fun x j _ _ ho => absurd ho (hnoe _)⟩
  have e0 := xo_2c (post := post) (f_blocks := f_blocks) (f_given := f_given) (f_known := f_known) (f_met := f_met) (f_openEdges := f_openEdges) (f_openBlocks := f_openBlocks) (f_first := f_first) (f_last := f_last) (f_openCount := f_openCount) (f_firstEdge := f_firstEdge) (f_lastEdge := f_lastEdge) (f_result := f_result) (f_begun := f_begun) (f_latest := f_latest) (f_inputs := f_inputs) (a_op := a_op) (a_d := a_d) (a_b := a_b) (a_many := a_many) (a_kind := a_kind) (a_asks := a_asks) (a_target := a_target) (a_a := a_a) (a_order := a_order) (a_place := a_place) (a_parent := a_parent) (a_depths := a_depths) (a_living := a_living) (a_needs := a_needs) (a_merging := a_merging) (a_stack := a_stack) (a_next := a_next) (a_before := a_before) (a_frontiers := a_frontiers) (a_in := a_in) (a_out := a_out) (a_nameA := a_nameA) (a_nameB := a_nameB) (a_queue := a_queue) (a_state := a_state) (a_worth := a_worth) (a_usedByExit := a_usedByExit) (a_usedBySet := a_usedBySet) (a_usedByLow := a_usedByLow) (a_usedByHigh := a_usedByHigh) (a_edges := a_edges) (a_now := a_now) ⟨fun h0 => ?_, fun h0 => ⟨7, xo_67 X hX T hmg N hlt hN hU ?_ K 7 0 (fun _ => 0, a_worth, fun _ => 0, 0, fun _ => 0, 0, 0) _ _ _ _ _ _ _ _ (by omega) (by omega) A0 ⟨L0, fun y hy => absurd hy id, fun p j _ _ ho => absurd ho (hnoe _), fun y i hy => absurd hy id, fun p j v hp => absurd hp id, fun x j hx => absurd hx id, Z0⟩ rfl (fun w hw => by omega)⟩⟩ 167 0 (by omega) (by omega)
  · rw [cl_0] at e0
    exact ⟨167, e0⟩
  · have hm0 : m = 0 := fn_inj (by omega) (by omega) (hm.symm.trans h0)
    have hg0 : ¬ 0 < gr_n G := fun z => by have := (O.2.1 z).1; omega
    refine K (fun _ => False) 0 0 0 (fun _ => 0, a_worth, fun _ => 0, 0, fun _ => 0, 0, 0) _ _ _ _ _ _ _ _ A0 (fun y _ => ⟨fun z => hnoe y z, fun z => absurd z id⟩) ⟨⟨fun z => absurd z hg0, fun x hx => absurd hx id, fun p j v hp => absurd hp id, fun x j hx => absurd hx id⟩, L0, fun x j _ _ ho => absurd ho (hnoe _), Z0⟩
  · rcases Nat.eq_zero_or_pos (gr_n G) with z | z
    · exfalso
      have hm0 : m = 0 := by omega
      rw [hm, hm0] at h0
      exact h0 rfl
    · exact z
end
end
section
/-! names that there are -/
def vn_ (G : gr_T) (n : Nat) : Prop := n < 6 ∨ (∃ x i, gr_M G x ∧ i < gr_mn G x ∧ n = 6 + (4 * x + i)) ∨ (∃ x v, gr_M G x ∧ v < 6 ∧ n = 70 + (6 * x + v))
section
variable {G : gr_T} {m : Nat} {ord pl : Nat → Nat} {P : Nat → Option Nat} {ni : Nat → Nat → Nat}
theorem vn_nb {x : Nat} (hx : gr_M G x) (h : ∀ v, v < 6 → vn_ G (ni x v)) : ∀ i, i ≤ gr_mn G x → ∀ v, v < 6 → vn_ G (nb_ G ni x i v) := by
  intro i
  induction i with
  | zero => intro _ v hv; exact h v hv
  | succ i ih =>
    intro hi v hv
    show vn_ G (if v = gr_dd G (4 * x + i) then 6 + (4 * x + i) else nb_ G ni x i v)
    by_cases e : v = gr_dd G (4 * x + i)
    · rw [if_pos e]; exact Or.inr (Or.inl ⟨x, i, hx, by omega, rfl⟩)
    · rw [if_neg e]; exact ih (by omega) v hv
theorem vn_ni (T : dt_ok G m ord pl P) (ok : gr_ok G) (N : nm_ok G P ni) : ∀ k x, pl x = k → gr_M G x → ∀ v, v < 6 → vn_ G (ni x v) := by
  intro k
  induction k using Nat.strongRecOn with
  | ind k ih =>
    intro x hk hx v hv
    by_cases e0 : x = 0
    · subst e0
      rw [N.1 v hv]
      exact Or.inl hv
    · have h2 := N.2 x hx e0 v hv
      by_cases hJ : gr_J G v x
      · rw [h2.1 hJ]
        exact Or.inr (Or.inr ⟨x, v, hx, hv, rfl⟩)
      · obtain ⟨q, hq⟩ := T.2.2.2.1 x hx e0
        have h3 := T.2.1.2 x q hq
        rw [h2.2 hJ q hq]
        exact vn_nb h3.2.1 (fun v hv => ih (pl q) (by omega) q rfl h3.2.1 v hv) _ (Nat.le_refl _) v hv
theorem vn_nn (T : dt_ok G m ord pl P) (ok : gr_ok G) (N : nm_ok G P ni) {n : Nat} (h : gr_nn G ni n) : vn_ G n := by
  refine h (vn_ G) ⟨fun x hx _ => ?_, fun x i v hx hi _ hu => ?_, fun x v p _ hv _ hp _ => ?_⟩
  · exact vn_nb hx (vn_ni T ok N _ x rfl hx) _ (Nat.le_refl _) _ (ok.2.2 x (gr_Mlt ok hx)).2.2.1
  · exact vn_nb hx (vn_ni T ok N _ x rfl hx) _ (by omega) _ (us_lt ok (gr_Mlt ok hx) hi hu)
  · exact vn_nb hp (vn_ni T ok N _ p rfl hp) _ (Nat.le_refl _) _ hv
end
theorem nd_bits : ∀ s, s < 3 → (nI s &&& 4) = 0 ∧ ¬ (nI (s + 4) &&& 4) = 0 ∧ (nI (s + 4) &&& 3).toInt8.toInt32 = nI s ∧ (nI s &&& 3).toInt8.toInt32 = nI s ∧ (nI s ||| 4).toInt8.toInt32 = nI (s + 4) := by decide +kernel
def nd_A (st mk qu : Nat → Nat) (L : Nat) (f_last : Int32) (a_queue a_state : Nat → Int32) : Prop := (∀ n, n < 166 → a_state n = nI (st n + mk n)) ∧ f_last = nI L ∧ ∀ j, j < L → a_queue j = nI (qu j)
def nd_I (G : gr_T) (ni : Nat → Nat → Nat) (mk qu : Nat → Nat) (L : Nat) : Prop := (∀ n, n < 166 → mk n = 0 ∨ mk n = 4) ∧ L = sg_s (fun n => b01 (mk n = 0)) 166 ∧ (∀ j, j < L → qu j < 166) ∧ (∀ n, n < 166 → mk n = 0 → (∃ j, j < L ∧ qu j = n)) ∧ (∀ j, j < L → gr_nn G ni (qu j))
def nd_t (mk qu : Nat → Nat) (L : Nat) (mk' qu' : Nat → Nat) (L' : Nat) : Prop := (∀ n, mk n = 0 → mk' n = 0) ∧ L ≤ L' ∧ (∀ j, j < L → qu' j = qu j)
theorem nd_rf {mk qu : Nat → Nat} {L : Nat} : nd_t mk qu L mk qu L := ⟨fun _ h => h, Nat.le_refl _, fun _ _ => rfl⟩
theorem nd_tr {mk qu mk' qu' mk'' qu'' : Nat → Nat} {L L' L'' : Nat} (h : nd_t mk qu L mk' qu' L') (h' : nd_t mk' qu' L' mk'' qu'' L'') : nd_t mk qu L mk'' qu'' L'' := ⟨fun n z => h'.1 n (h.1 n z), Nat.le_trans h.2.1 h'.2.1, fun j hj => (h'.2.2 j (Nat.lt_of_lt_of_le hj h.2.1)).trans (h.2.2 j hj)⟩
theorem nd_L {G : gr_T} {ni : Nat → Nat → Nat} {mk qu : Nat → Nat} {L : Nat} (I : nd_I G ni mk qu L) : L ≤ 166 := by
  have h1 := I.2.1
  have h2 : sg_s (fun n => b01 (mk n = 0)) 166 ≤ 1 * 166 := sg_b (fun i _ => b01_1 _)
  omega
theorem nd_push {G : gr_T} {ni : Nat → Nat → Nat} {mk qu : Nat → Nat} {L n : Nat} (I : nd_I G ni mk qu L) (hn : n < 166) (hm : mk n = 4) (hnn : gr_nn G ni n) : nd_I G ni (un_ mk n 0) (un_ qu L n) (L + 1) ∧ nd_t mk qu L (un_ mk n 0) (un_ qu L n) (L + 1) := by
  obtain ⟨h1, h2, h3, h4, h5⟩ := I
  refine ⟨⟨fun k hk => ?_, ?_, fun j hj => ?_, fun k hk hz => ?_, fun j hj => ?_⟩, fun k hk => ?_, by omega, fun j hj => un_n (by omega)⟩
  · by_cases e : k = n
    · rw [e, un_s]; exact Or.inl rfl
    · rw [un_n e]; exact h1 k hk
  · have := sg_up (f := fun k => b01 (un_ mk n 0 k = 0)) (g := fun k => b01 (mk k = 0)) hn (fun i _ hi => by
      show b01 (un_ mk n 0 i = 0) = _
      rw [un_n hi])
    have e1 : b01 (un_ mk n 0 n = 0) = 1 := b01_t un_s
    have e2 : b01 (mk n = 0) = 0 := b01_f (by omega)
    simp only [e1, e2] at this
    omega
  · by_cases e : j = L
    · rw [e, un_s]; exact hn
    · rw [un_n e]; exact h3 j (by omega)
  · by_cases e : k = n
    · exact ⟨L, by omega, by rw [un_s, e]⟩
    · rw [un_n e] at hz
      obtain ⟨j, hj, ej⟩ := h4 k hk hz
      exact ⟨j, by omega, by rw [un_n (by omega)]; exact ej⟩
  · by_cases e : j = L
    · rw [e, un_s]; exact hnn
    · rw [un_n e]; exact h5 j (by omega)
  · by_cases e : k = n
    · rw [e, un_s]
    · rw [un_n e]; exact hk
def nd_C (G : gr_T) (ni : Nat → Nat → Nat) (mk : Nat → Nat) (n : Nat) : Prop := (∀ x i v, gr_M G x → i < gr_mn G x → n = 6 + (4 * x + i) → gr_us G (4 * x + i) v → mk (nb_ G ni x i v) = 0) ∧ (∀ x v p, gr_M G x → v < 6 → n = 70 + (6 * x + v) → gr_M G p → gr_E G p x → mk (ne_ G ni p v) = 0)
theorem nd_Cm {G : gr_T} {ni : Nat → Nat → Nat} {mk mk' : Nat → Nat} {n : Nat} (h : ∀ k, mk k = 0 → mk' k = 0) (hc : nd_C G ni mk n) : nd_C G ni mk' n := ⟨fun x i v a b c d => h _ (hc.1 x i v a b c d), fun x v p a b c d e => h _ (hc.2 x v p a b c d e)⟩
section
variable {f_blocks f_given f_known f_met f_openEdges f_openBlocks f_first f_last f_openCount f_firstEdge f_lastEdge f_result f_begun f_latest f_inputs : Int32} {a_op a_d a_b a_many a_kind a_asks a_target a_a a_order a_place a_parent a_depths a_living a_needs a_merging a_stack a_next a_before a_frontiers a_in a_out a_nameA a_nameB a_queue a_state a_worth a_usedByExit a_edges a_now : Nat → Int32} {a_usedBySet a_usedByLow a_usedByHigh : Nat → Int64}
variable {G : gr_T} {m : Nat} {ord pl : Nat → Nat} {P : Nat → Option Nat} {ni : Nat → Nat → Nat} {post : SX → Prop} {st : Nat → Nat}
theorem xd_need {mk qu : Nat → Nat} {L n : Nat} (hst : ∀ n, n < 166 → st n ≤ 2) (A : nd_A st mk qu L f_last a_queue a_state) (I : nd_I G ni mk qu L) (hn : n < 166) (hnn : gr_nn G ni n)
    (K : ∀ (mk' qu' : Nat → Nat) (L' : Nat) (f_last : Int32) (a_queue a_state : Nat → Int32), nd_A st mk' qu' L' f_last a_queue a_state → nd_I G ni mk' qu' L' → nd_t mk qu L mk' qu' L' → mk' n = 0 → post (f_blocks, f_given, f_known, f_met, f_openEdges, f_openBlocks, f_first, f_last, f_openCount, f_firstEdge, f_lastEdge, f_result, f_begun, f_latest, f_inputs, a_op, a_d, a_b, a_many, a_kind, a_asks, a_target, a_a, a_order, a_place, a_parent, a_depths, a_living, a_needs, a_merging, a_stack, a_next, a_before, a_frontiers, a_in, a_out, a_nameA, a_nameB, a_queue, a_state, a_worth, a_usedByExit, a_usedBySet, a_usedByLow, a_usedByHigh, a_edges, a_now)) : wpX_need post (f_blocks, f_given, f_known, f_met, f_openEdges, f_openBlocks, f_first, f_last, f_openCount, f_firstEdge, f_lastEdge, f_result, f_begun, f_latest, f_inputs, a_op, a_d, a_b, a_many, a_kind, a_asks, a_target, a_a, a_order, a_place, a_parent, a_depths, a_living, a_needs, a_merging, a_stack, a_next, a_before, a_frontiers, a_in, a_out, a_nameA, a_nameB, a_queue, a_state, a_worth, a_usedByExit, a_usedBySet, a_usedByLow, a_usedByHigh, a_edges, a_now) (nI n) := by
  have hb := nd_bits (st n) (by have := hst n hn; omega)
  have hin : vp_in (nI n) 166 := vp_in_nI hn (by omega)
  have hL := nd_L I
  unfold wpX_need
  dsimp only
  rw [fn_c (a := n) (by omega), A.1 n hn]
  rcases I.1 n hn with h | h
  · rw [h, Nat.add_zero]
    exact ⟨hin, br_t hb.1 (K mk qu L _ _ _ A I nd_rf h)⟩
  · obtain ⟨p1, p2⟩ := nd_push I hn h hnn
    have hL' := nd_L p1
    rw [h, pk_vb, hb.2.2.1, A.2.1, nI_1, fb_vs (by omega), fn_c (a := L) (by omega)]
    refine ⟨hin, br_f hb.2.1 ⟨hin, hin, nm_e (nm_e ⟨vp_in_nI (by omega) (by omega), nm_e (K _ _ _ _ _ _ ⟨fun k hk => ?_, rfl, fun j hj => ?_⟩ p1 p2 un_s)⟩)⟩⟩
    · by_cases e : k = n
      · rw [e, pk_us, un_s]; rfl
      · rw [pk_un e, un_n e]; exact A.1 k hk
    · by_cases e : j = L
      · rw [e, pk_us, un_s]
      · rw [pk_un e, un_n e]; exact A.2.2 j (by omega)
theorem xd_21 {x v : Nat} (mk0 qu0 : Nat → Nat) (L0 : Nat) (X : xp_ok G f_blocks f_given a_op a_d a_b a_many a_kind a_asks a_target a_a) (hX : xa_ok G m ord pl a_order a_place a_before) (T : dt_ok G m ord pl P) (hmg : ∀ y j, y < 16 → (bt (a_merging y) j = true ↔ (j < 6 ∧ gr_J G j y))) (N : nm_ok G P ni) (hlt : ∀ x, gr_M G x → ∀ v, v < 6 → ni x v < 166) (hN : ∀ x, gr_M G x → gn_B G ni x a_in a_out a_nameA a_nameB) (hst : ∀ n, n < 166 → st n ≤ 2) (hx : gr_M G x) (hv : v < 6) (hnn : gr_nn G ni (70 + (6 * x + v)))
    (K : ∀ (mk' qu' : Nat → Nat) (L' : Nat) (f_last : Int32) (a_queue a_state : Nat → Int32), nd_A st mk' qu' L' f_last a_queue a_state → nd_I G ni mk' qu' L' → nd_t mk0 qu0 L0 mk' qu' L' → (∀ p, gr_M G p → gr_E G p x → mk' (ne_ G ni p v) = 0) → post (f_blocks, f_given, f_known, f_met, f_openEdges, f_openBlocks, f_first, f_last, f_openCount, f_firstEdge, f_lastEdge, f_result, f_begun, f_latest, f_inputs, a_op, a_d, a_b, a_many, a_kind, a_asks, a_target, a_a, a_order, a_place, a_parent, a_depths, a_living, a_needs, a_merging, a_stack, a_next, a_before, a_frontiers, a_in, a_out, a_nameA, a_nameB, a_queue, a_state, a_worth, a_usedByExit, a_usedBySet, a_usedByLow, a_usedByHigh, a_edges, a_now)) :
    ∀ n (s : Int32) (mk qu : Nat → Nat) (L : Nat) (f_last : Int32) (a_queue a_state : Nat → Int32), s.toBitVec.toNat < n → fb_16 s → (∀ p, p < 16 → bt s p = true → gr_M G p ∧ gr_E G p x) → nd_A st mk qu L f_last a_queue a_state → nd_I G ni mk qu L → nd_t mk0 qu0 L0 mk qu L → (∀ p, gr_M G p → gr_E G p x → bt s p = false → mk (ne_ G ni p v) = 0) → wX_needMerge_21 post (nI v) n s f_blocks f_given f_known f_met f_openEdges f_openBlocks f_first f_last f_openCount f_firstEdge f_lastEdge f_result f_begun f_latest f_inputs a_op a_d a_b a_many a_kind a_asks a_target a_a a_order a_place a_parent a_depths a_living a_needs a_merging a_stack a_next a_before a_frontiers a_in a_out a_nameA a_nameB a_queue a_state a_worth a_usedByExit a_usedBySet a_usedByLow a_usedByHigh a_edges a_now := by
  have ok := X.1
  have hn16 := ok.1
  intro n
  induction n with
  | zero => intro s _ _ _ _ _ _ h; omega
  | succ n ih =>
    intro s mk qu L f_last a_queue a_state hmu h16 hs A I V hc
    rw [wX_needMerge_21]
    by_cases hs0 : s = 0
    · subst hs0
      exact br_t rfl (K mk qu L _ _ _ A I V (fun p h1 h2 => hc p h1 h2 (b_0 p)))
    · refine br_f hs0 ?_
      obtain ⟨p, hp16, hbp, hcl, hlt', h16', hlo⟩ := fb_step hs0 h16
      refine hlo _ ?_
      have hpM := hs p hp16 hbp
      have hpn := gr_Mlt ok hpM.1
      have hnlt : ne_ G ni p v < 166 := nb_lt ok hpn (hlt p hpM.1) _ (Nat.le_refl _) v hv
      rw [fn_62, fn_c (a := 6 * p + v) (by omega), ((hN p hpM.1).1 v hv).2]
      refine ⟨vp_in_nI (by omega) (by omega), xd_need hst A I hnlt (nn_self.2.2 x v p hx hv hnn hpM.1 hpM.2) (fun mk' qu' L' f_last a_queue a_state A' I' V' hz => nm_e (ih _ mk' qu' L' _ _ _ (by omega) h16' (fun q hq hb => ?_) A' I' (nd_tr V V') (fun q h1 h2 h3 => ?_)))⟩
      · rw [hcl q] at hb
        refine hs q hq ?_
        rcases Bool.eq_false_or_eq_true (bt s q) with z | z
        · exact z
        · rw [z, Bool.false_and] at hb; exact absurd hb (by decide)
      · by_cases e : q = p
        · rw [e]; exact hz
        · rw [hcl q, decide_eq_false e, Bool.not_false, Bool.and_true] at h3
          exact V'.1 _ (hc q h1 h2 h3)
theorem xd_needMerge {x v : Nat} {mk qu : Nat → Nat} {L : Nat} (X : xp_ok G f_blocks f_given a_op a_d a_b a_many a_kind a_asks a_target a_a) (hX : xa_ok G m ord pl a_order a_place a_before) (T : dt_ok G m ord pl P) (hmg : ∀ y j, y < 16 → (bt (a_merging y) j = true ↔ (j < 6 ∧ gr_J G j y))) (N : nm_ok G P ni) (hlt : ∀ x, gr_M G x → ∀ v, v < 6 → ni x v < 166) (hN : ∀ x, gr_M G x → gn_B G ni x a_in a_out a_nameA a_nameB) (hst : ∀ n, n < 166 → st n ≤ 2) (hx : gr_M G x) (hv : v < 6) (hnn : gr_nn G ni (70 + (6 * x + v))) (A : nd_A st mk qu L f_last a_queue a_state) (I : nd_I G ni mk qu L)
    (K : ∀ (mk' qu' : Nat → Nat) (L' : Nat) (f_last : Int32) (a_queue a_state : Nat → Int32), nd_A st mk' qu' L' f_last a_queue a_state → nd_I G ni mk' qu' L' → nd_t mk qu L mk' qu' L' → (∀ p, gr_M G p → gr_E G p x → mk' (ne_ G ni p v) = 0) → post (f_blocks, f_given, f_known, f_met, f_openEdges, f_openBlocks, f_first, f_last, f_openCount, f_firstEdge, f_lastEdge, f_result, f_begun, f_latest, f_inputs, a_op, a_d, a_b, a_many, a_kind, a_asks, a_target, a_a, a_order, a_place, a_parent, a_depths, a_living, a_needs, a_merging, a_stack, a_next, a_before, a_frontiers, a_in, a_out, a_nameA, a_nameB, a_queue, a_state, a_worth, a_usedByExit, a_usedBySet, a_usedByLow, a_usedByHigh, a_edges, a_now)) : wpX_needMerge post (f_blocks, f_given, f_known, f_met, f_openEdges, f_openBlocks, f_first, f_last, f_openCount, f_firstEdge, f_lastEdge, f_result, f_begun, f_latest, f_inputs, a_op, a_d, a_b, a_many, a_kind, a_asks, a_target, a_a, a_order, a_place, a_parent, a_depths, a_living, a_needs, a_merging, a_stack, a_next, a_before, a_frontiers, a_in, a_out, a_nameA, a_nameB, a_queue, a_state, a_worth, a_usedByExit, a_usedBySet, a_usedByLow, a_usedByHigh, a_edges, a_now) (nI (6 * x + v)) := by
  have ok := X.1
  have hn16 := ok.1
  have hxn := gr_Mlt ok hx
  have e1 : nI (6 * x + v) / 6 = nI x := by
    rw [show (6 : Int32) = nI 6 from rfl, pk_div (by omega) (by omega) (by omega)]
    congr 1
    omega
  have e2 : nI (6 * x + v) - nI (6 * x + v) / 6 * 6 = nI v := by
    rw [show (6 : Int32) = nI 6 from rfl, pk_rem (by omega) (by omega) (by omega)]
    congr 1
    omega
  have hbef : ∀ p, p < 16 → (bt (a_before x &&& 65535) p = true ↔ gr_M G p ∧ gr_E G p x) := by
    intro p hp
    rw [fb_m16, decide_eq_true hp, Bool.and_true]
    exact hX.2.2.2.2.1 x p (by omega) hp
  unfold wpX_needMerge
  dsimp only
  refine ⟨by decide, nm_r e1 ⟨by decide, nm_r e2 ?_⟩⟩
  rw [fn_c (a := x) (by omega)]
  refine ⟨vp_in_nI (by omega) (by omega), nm_e ⟨_, xd_21 mk qu L X hX T hmg N hlt hN hst hx hv hnn K _ (a_before x &&& 65535) mk qu L _ _ _ (Nat.lt_succ_self _) (fb_16m _) (fun p hp hb => (hbef p hp).mp hb) A I nd_rf (fun p h1 h2 h3 => ?_)⟩⟩
  have := gr_Mlt ok h1
  rw [(hbef p (by omega)).mpr ⟨h1, h2⟩] at h3
  exact absurd h3 (by decide)
theorem xd_234 (hst : ∀ n, n < 166 → st n ≤ 2) {mk : Nat → Nat} (hmk : ∀ n, n < 166 → mk n = 0 ∨ mk n = 4)
    (K : ∀ a_state : Nat → Int32, (∀ n, n < 166 → a_state n = nI (st n)) → post (f_blocks, f_given, f_known, f_met, f_openEdges, f_openBlocks, f_first, f_last, f_openCount, f_firstEdge, f_lastEdge, f_result, f_begun, f_latest, f_inputs, a_op, a_d, a_b, a_many, a_kind, a_asks, a_target, a_a, a_order, a_place, a_parent, a_depths, a_living, a_needs, a_merging, a_stack, a_next, a_before, a_frontiers, a_in, a_out, a_nameA, a_nameB, a_queue, a_state, a_worth, a_usedByExit, a_usedBySet, a_usedByLow, a_usedByHigh, a_edges, a_now)) :
    ∀ n i (a_state : Nat → Int32), 166 < n + i → i ≤ 166 → (∀ k, k < 166 → a_state k = nI (if k < i then st k else st k + mk k)) → wX_findNeeded_234 post f_blocks f_given f_known f_met f_openEdges f_openBlocks f_first f_last f_openCount f_firstEdge f_lastEdge f_result f_begun f_latest f_inputs n (nI i) a_op a_d a_b a_many a_kind a_asks a_target a_a a_order a_place a_parent a_depths a_living a_needs a_merging a_stack a_next a_before a_frontiers a_in a_out a_nameA a_nameB a_queue a_state a_worth a_usedByExit a_usedBySet a_usedByLow a_usedByHigh a_edges a_now := by
  intro n
  induction n with
  | zero => intro i _ h1 h2; omega
  | succ n ih =>
    intro i a_state h1 h2 hA
    rw [wX_findNeeded_234]
    refine pk_le 166 i (fun h => ?_) (fun h => ?_)
    · exact K a_state (fun k hk => by rw [hA k hk, if_pos (by omega)])
    · have hin : vp_in (nI i) 166 := vp_in_nI (by omega) (by omega)
      have hb := nd_bits (st i) (by have := hst i h; omega)
      have e : (a_state i &&& 3).toInt8.toInt32 = nI (st i) := by
        rw [hA i h, if_neg (by omega)]
        rcases hmk i h with z | z
        · rw [z, Nat.add_zero]; exact hb.2.2.2.1
        · rw [z]; exact hb.2.2.1
      rw [fn_c (a := i) (by omega), pk_vb, e]
      refine ⟨hin, hin, nm_e (nm_r (nI_1 i) (ih (i + 1) _ (by omega) (by omega) (fun k hk => ?_)))⟩
      by_cases c : k = i
      · rw [c, pk_us, if_pos (by omega)]
      · rw [pk_un c, hA k hk]
        by_cases c2 : k < i
        · rw [if_pos c2, if_pos (by omega)]
        · rw [if_neg c2, if_neg (by omega)]
theorem xd_118 (X : xp_ok G f_blocks f_given a_op a_d a_b a_many a_kind a_asks a_target a_a) (hX : xa_ok G m ord pl a_order a_place a_before) (T : dt_ok G m ord pl P) (hmg : ∀ y j, y < 16 → (bt (a_merging y) j = true ↔ (j < 6 ∧ gr_J G j y))) (N : nm_ok G P ni) (hlt : ∀ x, gr_M G x → ∀ v, v < 6 → ni x v < 166) (hN : ∀ x, gr_M G x → gn_B G ni x a_in a_out a_nameA a_nameB) (hst : ∀ n, n < 166 → st n ≤ 2)
    (K : ∀ (a_needs : Nat → Int32) (f_first f_last : Int32) (a_queue a_state : Nat → Int32), (∀ n, n < 166 → a_state n = nI (st n)) → (∀ x i, gr_M G x → (bt (a_needs x) i = true ↔ (i < gr_mn G x ∧ gr_nd G x i))) → post (f_blocks, f_given, f_known, f_met, f_openEdges, f_openBlocks, f_first, f_last, f_openCount, f_firstEdge, f_lastEdge, f_result, f_begun, f_latest, f_inputs, a_op, a_d, a_b, a_many, a_kind, a_asks, a_target, a_a, a_order, a_place, a_parent, a_depths, a_living, a_needs, a_merging, a_stack, a_next, a_before, a_frontiers, a_in, a_out, a_nameA, a_nameB, a_queue, a_state, a_worth, a_usedByExit, a_usedBySet, a_usedByLow, a_usedByHigh, a_edges, a_now)) :
    ∀ n Fi (a_needs : Nat → Int32) (mk qu : Nat → Nat) (L : Nat) (f_last : Int32) (a_queue a_state : Nat → Int32), 166 - Fi < n → Fi ≤ L → nd_A st mk qu L f_last a_queue a_state → nd_I G ni mk qu L → (∀ x, gr_M G x → gr_kd G x ≠ 1 → mk (ne_ G ni x (gr_ak G x)) = 0) → (∀ j, j < Fi → nd_C G ni mk (qu j)) → (∀ x i, x < 16 → (bt (a_needs x) i = true ↔ (i < 4 ∧ ∃ j, j < Fi ∧ qu j = 6 + (4 * x + i)))) → wX_findNeeded_118 post n f_blocks f_given f_known f_met f_openEdges f_openBlocks (nI Fi) f_last f_openCount f_firstEdge f_lastEdge f_result f_begun f_latest f_inputs a_op a_d a_b a_many a_kind a_asks a_target a_a a_order a_place a_parent a_depths a_living a_needs a_merging a_stack a_next a_before a_frontiers a_in a_out a_nameA a_nameB a_queue a_state a_worth a_usedByExit a_usedBySet a_usedByLow a_usedByHigh a_edges a_now := by
  have ok := X.1
  have hn16 := ok.1
  intro n
  induction n with
  | zero => intro Fi _ _ _ _ _ _ _ h; omega
  | succ n ih =>
    intro Fi a_needs mk qu L f_last a_queue a_state hmu hFi A I hr hc hnd
    have hL := nd_L I
    rw [wX_findNeeded_118]
    refine pk_le L Fi (fun h => ?_) (fun h => ?_) A.2.1
    · have e : Fi = L := by omega
      subst e
      have hcl : nn_cl G ni (fun n => n < 166 ∧ mk n = 0) := by
        have hin : ∀ n, n < 166 ∧ mk n = 0 → nd_C G ni mk n := fun n hz => by
          obtain ⟨j, hj, ej⟩ := I.2.2.2.1 n hz.1 hz.2
          rw [← ej]
          exact hc j hj
        have hlb : ∀ x, gr_M G x → ∀ i, i ≤ gr_mn G x → ∀ v, v < 6 → nb_ G ni x i v < 166 := fun x hx => nb_lt ok (gr_Mlt ok hx) (hlt x hx)
        refine ⟨fun x hx hk => ⟨hlb x hx _ (Nat.le_refl _) _ (ok.2.2 x (gr_Mlt ok hx)).2.2.1, hr x hx hk⟩, fun x i v hx hi hz hu => ⟨hlb x hx i (by omega) v (us_lt ok (gr_Mlt ok hx) hi hu), (hin _ hz).1 x i v hx hi rfl hu⟩, fun x v p hx hv hz hp he => ⟨hlb p hp _ (Nat.le_refl _) v hv, (hin _ hz).2 x v p hx hv rfl hp he⟩⟩
      refine ⟨167, xd_234 hst I.1 (fun a_state hs => K a_needs _ _ _ a_state hs (fun x i hx => ?_)) 167 0 a_state (by omega) (by omega) (fun k hk => by rw [if_neg (by omega)]; exact A.1 k hk)⟩
      have hxn := gr_Mlt ok hx
      have h4 := (ok.2.2 x hxn).1
      rw [hnd x i (by omega)]
      constructor
      · rintro ⟨hi4, j, hj, ej⟩
        have hnn := I.2.2.2.2 j hj
        rw [ej] at hnn
        have hi : i < gr_mn G x := by
          rcases vn_nn T ok N hnn with z | ⟨x', i', z1, z2, z3⟩ | ⟨x', v', z1, z2, z3⟩
          · omega
          · have hx4 := (ok.2.2 x' (gr_Mlt ok z1)).1
            have e1 : x' = x := by omega
            subst e1
            have e2 : i' = i := by omega
            subst e2
            exact z2
          · omega
        exact ⟨hi, (nd_iff T ok N hx hi).mp hnn⟩
      · rintro ⟨hi, hd⟩
        have hz := (nd_iff T ok N hx hi).mpr hd _ hcl
        obtain ⟨j, hj, ej⟩ := I.2.2.2.1 _ hz.1 hz.2
        exact ⟨by omega, j, hj, ej⟩
    · have hq := I.2.2.1 Fi h
      have hnn := I.2.2.2.2 Fi h
      rw [fn_c (a := Fi) (by omega), A.2.2 Fi h]
      refine nm_r (nI_1 Fi) ⟨vp_in_nI (by omega) (by omega), nm_e ?_⟩
      -- the next round
      have next : ∀ (a_needs : Nat → Int32) (mk' qu' : Nat → Nat) (L' : Nat) (f_last : Int32) (a_queue a_state : Nat → Int32), nd_A st mk' qu' L' f_last a_queue a_state → nd_I G ni mk' qu' L' → nd_t mk qu L mk' qu' L' → nd_C G ni mk' (qu Fi) → (∀ x i, x < 16 → (bt (a_needs x) i = true ↔ (i < 4 ∧ ∃ j, j < Fi + 1 ∧ qu j = 6 + (4 * x + i)))) → wX_findNeeded_118 post n f_blocks f_given f_known f_met f_openEdges f_openBlocks (nI (Fi + 1)) f_last f_openCount f_firstEdge f_lastEdge f_result f_begun f_latest f_inputs a_op a_d a_b a_many a_kind a_asks a_target a_a a_order a_place a_parent a_depths a_living a_needs a_merging a_stack a_next a_before a_frontiers a_in a_out a_nameA a_nameB a_queue a_state a_worth a_usedByExit a_usedBySet a_usedByLow a_usedByHigh a_edges a_now := by
        intro a_needs mk' qu' L' f_last a_queue a_state A' I' V' hcc hnd'
        refine ih (Fi + 1) a_needs mk' qu' L' _ _ _ (by omega) (by have := V'.2.1; omega) A' I' (fun x hx hk => V'.1 _ (hr x hx hk)) (fun j hj => ?_) (fun x i hx => (hnd' x i hx).trans ?_)
        · rw [V'.2.2 j (by omega)]
          by_cases e : j = Fi
          · rw [e]; exact hcc
          · exact nd_Cm V'.1 (hc j (by omega))
        · constructor
          · rintro ⟨h1, j, h2, h3⟩
            exact ⟨h1, j, h2, by rw [V'.2.2 j (by omega)]; exact h3⟩
          · rintro ⟨h1, j, h2, h3⟩
            rw [V'.2.2 j (by omega)] at h3
            exact ⟨h1, j, h2, h3⟩
      -- needs as they are, if the name is none of an instruction
      have same : (∀ x i, x < 16 → i < 4 → qu Fi ≠ 6 + (4 * x + i)) → ∀ x i, x < 16 → (bt (a_needs x) i = true ↔ (i < 4 ∧ ∃ j, j < Fi + 1 ∧ qu j = 6 + (4 * x + i))) := by
        intro hno x i hx
        rw [hnd x i hx]
        constructor
        · rintro ⟨h1, j, h2, h3⟩
          exact ⟨h1, j, by omega, h3⟩
        · rintro ⟨h1, j, h2, h3⟩
          refine ⟨h1, j, ?_, h3⟩
          by_cases e : j = Fi
          · rw [e] at h3
            exact absurd h3 (hno x i hx h1)
          · omega
      have hvn := vn_nn T ok N hnn
      refine pk_lt (qu Fi) 70 (fun h70 => ?_) (fun h70 => ?_)
      · refine pk_lt (qu Fi) 6 (fun h6 => ?_) (fun h6 => ?_)
        · exact next a_needs mk qu L _ _ _ A I nd_rf ⟨fun x i v _ _ e => by omega, fun x v p _ _ e => by omega⟩ (same (fun x i _ _ e => by omega))
        · obtain ⟨x, i, hx, hi, eq⟩ : ∃ x i, gr_M G x ∧ i < gr_mn G x ∧ qu Fi = 6 + (4 * x + i) := by
            rcases hvn with z | z | ⟨x', v', z1, z2, z3⟩
            · omega
            · exact z
            · omega
          have hxn := gr_Mlt ok hx
          have h4 := (ok.2.2 x hxn).1
          have hI := (ok.2.2 x hxn).2.2.2.2 i hi
          have hop := hI.1
          have hnm := (hN x hx).2 i hi
          have hnlt : ∀ v, v < 6 → nb_ G ni x i v < 166 := nb_lt ok hxn (hlt x hx) i (by omega)
          have ii : vp_in (nI (4 * x + i)) 64 := vp_in_nI (by omega) (by omega)
          have ix : vp_in (nI x) 16 := vp_in_nI (by omega) (by omega)
          have es : nI (4 * x + i) >>> ((2 : Int32) &&& 31) = nI x := by
            rw [pk_shrN (by omega) _ 2 (by decide)]
            congr 1
            omega
          have ea : nI (4 * x + i) &&& 3 = nI i := by
            rw [pk_andN (by omega) 2 (by decide)]
            congr 1
            omega
          have e8 : (a_needs x ||| ((1 : Int32) <<< (nI i &&& 31))).toInt8.toInt32 = a_needs x ||| ((1 : Int32) <<< (nI i &&& 31)) := by
            apply fb_id8
            intro j h1 h2
            rw [fb_or1 _ (by omega) h2, decide_eq_false (by omega), Bool.or_false]
            cases z : bt (a_needs x) j with
            | false => rfl
            | true => have := ((hnd x j (by omega)).mp z).1; omega
          rw [eq]
          refine nm_r (e' := nI (4 * x + i)) ?_ ?_
          · rw [show nI (6 + (4 * x + i)) - 6 = nI (6 + (4 * x + i) - 6) from pk_sub (b := 6) (by omega)]
            congr 1
            omega
          rw [es, ea, fn_c (a := x) (by omega), fn_c (a := 4 * x + i) (by omega), pk_vb, e8, hnm.1]
          have hnd' : ∀ y j, y < 16 → (bt (upd a_needs x (a_needs x ||| ((1 : Int32) <<< (nI i &&& 31))) y) j = true ↔ (j < 4 ∧ ∃ k, k < Fi + 1 ∧ qu k = 6 + (4 * y + j))) := by
            intro y j hy
            rcases Nat.lt_or_ge j 32 with z | z
            · rw [fb_upd (by omega) z, hnd y j hy]
              constructor
              · rintro (⟨h1, k, h2, h3⟩ | ⟨h1, h2⟩)
                · exact ⟨h1, k, by omega, h3⟩
                · rw [h1, h2]; exact ⟨by omega, Fi, by omega, eq⟩
              · rintro ⟨h1, k, h2, h3⟩
                by_cases e : k = Fi
                · rw [e, eq] at h3
                  exact Or.inr ⟨by omega, by omega⟩
                · exact Or.inl ⟨h1, k, by omega, h3⟩
            · rw [b_big z]
              exact ⟨fun w => absurd w (by decide), fun w => by have := w.1; omega⟩
          -- the second operand
          have k210 : ∀ (mk' qu' : Nat → Nat) (L' : Nat) (f_last : Int32) (a_queue a_state : Nat → Int32), nd_A st mk' qu' L' f_last a_queue a_state → nd_I G ni mk' qu' L' → nd_t mk qu L mk' qu' L' → (∀ v, (gr_op G (4 * x + i) = 1 ∨ (1 < gr_op G (4 * x + i) ∧ gr_op G (4 * x + i) < 7)) → gr_av G (4 * x + i) = v → mk' (nb_ G ni x i v) = 0) → wX_findNeeded_210 post (wX_findNeeded_118 post n) (nI (4 * x + i)) f_blocks f_given f_known f_met f_openEdges f_openBlocks (nI (Fi + 1)) f_last f_openCount f_firstEdge f_lastEdge f_result f_begun f_latest f_inputs a_op a_d a_b a_many a_kind a_asks a_target a_a a_order a_place a_parent a_depths a_living (upd a_needs x (a_needs x ||| ((1 : Int32) <<< (nI i &&& 31)))) a_merging a_stack a_next a_before a_frontiers a_in a_out a_nameA a_nameB a_queue a_state a_worth a_usedByExit a_usedBySet a_usedByLow a_usedByHigh a_edges a_now := by
            intro mk' qu' L' f_last a_queue a_state A' I' V' hAv
            rw [wX_findNeeded_210, fn_c (a := 4 * x + i) (by omega), hnm.2]
            have fin : ∀ (mk'' : Nat → Nat), (∀ n, mk' n = 0 → mk'' n = 0) → ((1 < gr_op G (4 * x + i) ∧ gr_op G (4 * x + i) < 7) → mk'' (nb_ G ni x i (gr_bb G (4 * x + i))) = 0) → nd_C G ni mk'' (qu Fi) := by
              intro mk'' hm hBv
              refine ⟨fun y j v hy hj e hu => ?_, fun y v p hy hv e => by omega⟩
              have hy4 := (ok.2.2 y (gr_Mlt ok hy)).1
              have e1 : y = x := by omega
              subst e1
              have e2 : j = i := by omega
              subst e2
              rcases hu with ⟨u1, u2⟩ | ⟨u1, u2, u3 | u3⟩
              · exact hm _ (hAv v (Or.inl u1) u2)
              · exact hm _ (hAv v (Or.inr ⟨u1, u2⟩) u3)
              · rw [← u3]; exact hBv ⟨u1, u2⟩
            refine ⟨ii, ?_⟩
            by_cases c : gr_op G (4 * x + i) < 2 ∨ gr_op G (4 * x + i) = 7
            · have eB : nB_ G ni x i = -1 := if_pos c
              rw [eB]
              exact br_t (by decide) (next _ mk' qu' L' _ _ _ A' I' V' (fin mk' (fun _ z => z) (fun z => by omega)) hnd')
            · have eB : nB_ G ni x i = nI (nb_ G ni x i (gr_bb G (4 * x + i))) := if_neg c
              have hw := hnlt _ hI.2.2.1
              rw [eB]
              refine br_f (nI_pos (by omega)) ⟨ii, xd_need hst A' I' hw ?_ (fun mk'' qu'' L'' f_last a_queue a_state A'' I'' V'' hz => next _ mk'' qu'' L'' _ _ _ A'' I'' (nd_tr V' V'') (fin mk'' V''.1 (fun _ => hz)) hnd')⟩
              rw [eq] at hnn
              exact nn_self.2.1 x i _ hx hi hnn (Or.inr ⟨by omega, by omega, Or.inr rfl⟩)
          refine ⟨ix, ix, nm_e ⟨ii, ?_⟩⟩
          by_cases c : gr_op G (4 * x + i) = 0 ∨ gr_op G (4 * x + i) = 7
          · have eA : nA_ G ni x i = -1 := if_pos c
            rw [eA]
            exact br_t (by decide) (k210 mk qu L _ _ _ A I nd_rf (fun v z => by omega))
          · have eA : nA_ G ni x i = nI (nb_ G ni x i (gr_av G (4 * x + i))) := if_neg c
            have ha := hI.2.2.2 (fun z => c (Or.inl z)) (fun z => c (Or.inr z))
            have hw := hnlt _ ha.2
            rw [eA]
            refine br_f (nI_pos (by omega)) ⟨ii, xd_need hst A I hw ?_ (fun mk' qu' L' f_last a_queue a_state A' I' V' hz => k210 mk' qu' L' _ _ _ A' I' V' (fun v _ ev => by rw [← ev]; exact hz))⟩
            rw [eq] at hnn
            refine nn_self.2.1 x i _ hx hi hnn ?_
            by_cases c1 : gr_op G (4 * x + i) = 1
            · exact Or.inl ⟨c1, rfl⟩
            · exact Or.inr ⟨by omega, by omega, Or.inl rfl⟩
      · obtain ⟨x, v, hx, hv, eq⟩ : ∃ x v, gr_M G x ∧ v < 6 ∧ qu Fi = 70 + (6 * x + v) := by
          rcases hvn with z | ⟨x', i', z1, z2, z3⟩ | z
          · omega
          · have hx4 := (ok.2.2 x' (gr_Mlt ok z1)).1
            have := gr_Mlt ok z1
            omega
          · exact z
        have hxn := gr_Mlt ok hx
        have e7 : nI (qu Fi) - 70 = nI (6 * x + v) := by
          rw [eq, show nI (70 + (6 * x + v)) - 70 = nI (70 + (6 * x + v) - 70) from pk_sub (b := 70) (by omega)]
          congr 1
          omega
        rw [e7]
        refine xd_needMerge X hX T hmg N hlt hN hst hx hv (by rw [← eq]; exact hnn) A I (fun mk' qu' L' f_last a_queue a_state A' I' V' hz => next a_needs mk' qu' L' _ _ _ A' I' V' ⟨fun y i w hy hi e => ?_, fun y w p hy hw e hp he => ?_⟩ (same (fun y i hy hi e => by omega)))
        · have hy4 := (ok.2.2 y (gr_Mlt ok hy)).1
          have := gr_Mlt ok hy
          omega
        · have e1 : y = x := by omega
          have e2 : w = v := by omega
          rw [e1] at he
          rw [e2]
          exact hz p hp he
theorem xd_54 (X : xp_ok G f_blocks f_given a_op a_d a_b a_many a_kind a_asks a_target a_a) (hX : xa_ok G m ord pl a_order a_place a_before) (T : dt_ok G m ord pl P) (hmg : ∀ y j, y < 16 → (bt (a_merging y) j = true ↔ (j < 6 ∧ gr_J G j y))) (N : nm_ok G P ni) (hlt : ∀ x, gr_M G x → ∀ v, v < 6 → ni x v < 166) (hN : ∀ x, gr_M G x → gn_B G ni x a_in a_out a_nameA a_nameB) (hst : ∀ n, n < 166 → st n ≤ 2) (hnd : ∀ x, x < 16 → a_needs x = 0)
    (K : ∀ (a_needs : Nat → Int32) (f_first f_last : Int32) (a_queue a_state : Nat → Int32), (∀ n, n < 166 → a_state n = nI (st n)) → (∀ x i, gr_M G x → (bt (a_needs x) i = true ↔ (i < gr_mn G x ∧ gr_nd G x i))) → post (f_blocks, f_given, f_known, nI m, f_openEdges, f_openBlocks, f_first, f_last, f_openCount, f_firstEdge, f_lastEdge, f_result, f_begun, f_latest, f_inputs, a_op, a_d, a_b, a_many, a_kind, a_asks, a_target, a_a, a_order, a_place, a_parent, a_depths, a_living, a_needs, a_merging, a_stack, a_next, a_before, a_frontiers, a_in, a_out, a_nameA, a_nameB, a_queue, a_state, a_worth, a_usedByExit, a_usedBySet, a_usedByLow, a_usedByHigh, a_edges, a_now)) :
    ∀ n k (mk qu : Nat → Nat) (L : Nat) (f_last : Int32) (a_queue a_state : Nat → Int32), m < n + k → k ≤ m → nd_A st mk qu L f_last a_queue a_state → nd_I G ni mk qu L → (∀ x, gr_M G x → pl x < k → gr_kd G x ≠ 1 → mk (ne_ G ni x (gr_ak G x)) = 0) → wX_findNeeded_54 post n (nI k) f_blocks f_given f_known (nI m) f_openEdges f_openBlocks f_first f_last f_openCount f_firstEdge f_lastEdge f_result f_begun f_latest f_inputs a_op a_d a_b a_many a_kind a_asks a_target a_a a_order a_place a_parent a_depths a_living a_needs a_merging a_stack a_next a_before a_frontiers a_in a_out a_nameA a_nameB a_queue a_state a_worth a_usedByExit a_usedBySet a_usedByLow a_usedByHigh a_edges a_now := by
  have ok := X.1
  have hn16 := ok.1
  have O := hX.1
  have hmn := O.1
  intro n
  induction n with
  | zero => intro k _ _ _ _ _ _ h1 h2; omega
  | succ n ih =>
    intro k mk qu L f_last a_queue a_state h1 hk A I hr
    rw [wX_findNeeded_54]
    refine pk_le m k (fun h => ?_) (fun h => ?_)
    · refine ⟨167, xd_118 X hX T hmg N hlt hN hst K 167 0 a_needs mk qu L _ _ _ (by omega) (by omega) A I (fun x hx hk1 => hr x hx (by have := (or_M O ok hx).1; omega) hk1) (fun j hj => by omega) (fun x i hx => ?_)⟩
      rw [hnd x hx, b_0]
      exact ⟨fun z => absurd z (by decide), fun ⟨_, j, hj, _⟩ => by omega⟩
    · have hxn := (O.2.2.1 k h).1
      have hpk := (O.2.2.1 k h).2
      have hMx := or_m O k h
      have hB := ok.2.2 _ hxn
      have hkd := hB.2.1
      have hak := hB.2.2.1
      have ik : vp_in (nI k) 16 := vp_in_nI (by omega) (by omega)
      have ix : vp_in (nI (ord k)) 16 := vp_in_nI (by omega) (by omega)
      have split : ∀ mk' : Nat → Nat, (∀ n, mk n = 0 → mk' n = 0) → (gr_kd G (ord k) ≠ 1 → mk' (ne_ G ni (ord k) (gr_ak G (ord k))) = 0) → ∀ x, gr_M G x → pl x < k + 1 → gr_kd G x ≠ 1 → mk' (ne_ G ni x (gr_ak G x)) = 0 := by
        intro mk' hm hz x hx hl hk1
        by_cases c : pl x = k
        · have := (or_M O ok hx).2
          rw [c] at this
          rw [← this] at hk1 ⊢
          exact hz hk1
        · exact hm _ (hr x hx (by omega) hk1)
      rw [fn_c (a := k) (by omega), hX.2.1 k h, fn_c (a := ord k) (by omega), X.2.2.2.2.1 _ hxn, X.2.2.2.2.2.1 _ hxn, fn_62, fn_c (a := 6 * ord k + gr_ak G (ord k)) (by omega), ((hN _ hMx).1 _ hak).2]
      refine ⟨ik, ix, pk_eq (gr_kd G (ord k)) 1 (fun hk1 => nm_r (nI_1 k) (ih (k + 1) mk qu L _ _ _ (by omega) (by omega) A I (split mk (fun _ z => z) (fun z => absurd hk1 z)))) (fun hk1 => ⟨ik, ik, ix, vp_in_nI (by omega) (by omega), ?_⟩)⟩
      exact xd_need hst A I (nb_lt ok hxn (hlt _ hMx) _ (Nat.le_refl _) _ hak) (nn_self.1 _ hMx hk1) (fun mk' qu' L' f_last a_queue a_state A' I' V' hz => nm_r (nI_1 k) (ih (k + 1) mk' qu' L' _ _ _ (by omega) (by omega) A' I' (split mk' V'.1 (fun _ => hz))))
theorem xd_33 (K : ∃ n54 : Nat, wX_findNeeded_54 post n54 0 f_blocks f_given f_known f_met f_openEdges f_openBlocks f_first f_last f_openCount f_firstEdge f_lastEdge f_result f_begun f_latest f_inputs a_op a_d a_b a_many a_kind a_asks a_target a_a a_order a_place a_parent a_depths a_living (cl_ 0 16 a_needs) a_merging a_stack a_next a_before a_frontiers a_in a_out a_nameA a_nameB a_queue a_state a_worth a_usedByExit a_usedBySet a_usedByLow a_usedByHigh a_edges a_now) :
    ∀ n i, 16 < n + i → i ≤ 16 → wX_findNeeded_33 post f_blocks f_given f_known f_met f_openEdges f_openBlocks f_first f_last f_openCount f_firstEdge f_lastEdge f_result f_begun f_latest f_inputs n (nI i) a_op a_d a_b a_many a_kind a_asks a_target a_a a_order a_place a_parent a_depths a_living (cl_ 0 i a_needs) a_merging a_stack a_next a_before a_frontiers a_in a_out a_nameA a_nameB a_queue a_state a_worth a_usedByExit a_usedBySet a_usedByLow a_usedByHigh a_edges a_now := by
  intro n
  induction n with
  | zero => intro i h1 h2; omega
  | succ n ih =>
    intro i h1 h2
    rw [wX_findNeeded_33]
    refine pk_le 16 i (fun h => ?_) (fun h => ?_)
    · have e : i = 16 := by omega
      subst e
      exact K
    · have c : (nI i).toNatClampNeg = i := fn_c (by omega)
      rw [c, fb_vb0]
      exact ⟨vp_in_nI (by omega) (by omega), nm_r cl_s (nm_r (nI_1 i) (ih (i + 1) (by omega) (by omega)))⟩
theorem xd_2 (hst : ∀ n, n < 166 → st n ≤ 2) (K : ∀ a_state : Nat → Int32, (∀ n, n < 166 → a_state n = nI (st n + 4)) → ∃ n33 : Nat, wX_findNeeded_33 post f_blocks f_given f_known f_met f_openEdges f_openBlocks f_first 0 f_openCount f_firstEdge f_lastEdge f_result f_begun f_latest f_inputs n33 0 a_op a_d a_b a_many a_kind a_asks a_target a_a a_order a_place a_parent a_depths a_living a_needs a_merging a_stack a_next a_before a_frontiers a_in a_out a_nameA a_nameB a_queue a_state a_worth a_usedByExit a_usedBySet a_usedByLow a_usedByHigh a_edges a_now) :
    ∀ n i (a_state : Nat → Int32), 166 < n + i → i ≤ 166 → (∀ k, k < 166 → a_state k = nI (if k < i then st k + 4 else st k)) → wX_findNeeded_2 post f_blocks f_given f_known f_met f_openEdges f_openBlocks f_first f_last f_openCount f_firstEdge f_lastEdge f_result f_begun f_latest f_inputs n (nI i) a_op a_d a_b a_many a_kind a_asks a_target a_a a_order a_place a_parent a_depths a_living a_needs a_merging a_stack a_next a_before a_frontiers a_in a_out a_nameA a_nameB a_queue a_state a_worth a_usedByExit a_usedBySet a_usedByLow a_usedByHigh a_edges a_now := by
  intro n
  induction n with
  | zero => intro i _ h1 h2; omega
  | succ n ih =>
    intro i a_state h1 h2 hA
    rw [wX_findNeeded_2]
    refine pk_le 166 i (fun h => ?_) (fun h => ?_)
    · exact K a_state (fun k hk => by rw [hA k hk, if_pos (by omega)])
    · have hin : vp_in (nI i) 166 := vp_in_nI (by omega) (by omega)
      have hb := nd_bits (st i) (by have := hst i h; omega)
      have e : (a_state i ||| 4).toInt8.toInt32 = nI (st i + 4) := by
        rw [hA i h, if_neg (by omega)]
        exact hb.2.2.2.2
      rw [fn_c (a := i) (by omega), pk_vb, e]
      refine ⟨hin, hin, nm_e (nm_r (nI_1 i) (ih (i + 1) _ (by omega) (by omega) (fun k hk => ?_)))⟩
      by_cases c : k = i
      · rw [c, pk_us, if_pos (by omega)]
      · rw [pk_un c, hA k hk]
        by_cases c2 : k < i
        · rw [if_pos c2, if_pos (by omega)]
        · rw [if_neg c2, if_neg (by omega)]
theorem xd_findNeeded (X : xp_ok G f_blocks f_given a_op a_d a_b a_many a_kind a_asks a_target a_a) (hX : xa_ok G m ord pl a_order a_place a_before) (T : dt_ok G m ord pl P) (hmg : ∀ y j, y < 16 → (bt (a_merging y) j = true ↔ (j < 6 ∧ gr_J G j y))) (N : nm_ok G P ni) (hlt : ∀ x, gr_M G x → ∀ v, v < 6 → ni x v < 166) (hN : ∀ x, gr_M G x → gn_B G ni x a_in a_out a_nameA a_nameB) (hst : ∀ n, n < 166 → st n ≤ 2) (hs : ∀ n, n < 166 → a_state n = nI (st n))
    (K : ∀ (a_needs : Nat → Int32) (f_first f_last : Int32) (a_queue a_state : Nat → Int32), (∀ n, n < 166 → a_state n = nI (st n)) → (∀ x i, gr_M G x → (bt (a_needs x) i = true ↔ (i < gr_mn G x ∧ gr_nd G x i))) → post (f_blocks, f_given, f_known, nI m, f_openEdges, f_openBlocks, f_first, f_last, f_openCount, f_firstEdge, f_lastEdge, f_result, f_begun, f_latest, f_inputs, a_op, a_d, a_b, a_many, a_kind, a_asks, a_target, a_a, a_order, a_place, a_parent, a_depths, a_living, a_needs, a_merging, a_stack, a_next, a_before, a_frontiers, a_in, a_out, a_nameA, a_nameB, a_queue, a_state, a_worth, a_usedByExit, a_usedBySet, a_usedByLow, a_usedByHigh, a_edges, a_now)) : wpX_findNeeded post (f_blocks, f_given, f_known, nI m, f_openEdges, f_openBlocks, f_first, f_last, f_openCount, f_firstEdge, f_lastEdge, f_result, f_begun, f_latest, f_inputs, a_op, a_d, a_b, a_many, a_kind, a_asks, a_target, a_a, a_order, a_place, a_parent, a_depths, a_living, a_needs, a_merging, a_stack, a_next, a_before, a_frontiers, a_in, a_out, a_nameA, a_nameB, a_queue, a_state, a_worth, a_usedByExit, a_usedBySet, a_usedByLow, a_usedByHigh, a_edges, a_now) := by
  show ∃ n2 : Nat, wX_findNeeded_2 post f_blocks f_given f_known (nI m) f_openEdges f_openBlocks f_first f_last f_openCount f_firstEdge f_lastEdge f_result f_begun f_latest f_inputs n2 0 a_op a_d a_b a_many a_kind a_asks a_target a_a a_order a_place a_parent a_depths a_living a_needs a_merging a_stack a_next a_before a_frontiers a_in a_out a_nameA a_nameB a_queue a_state a_worth a_usedByExit a_usedBySet a_usedByLow a_usedByHigh a_edges a_now
  refine ⟨167, xd_2 hst (fun a_state hs4 => ⟨17, ?_⟩) 167 0 a_state (by omega) (by omega) (fun k hk => by rw [if_neg (by omega)]; exact hs k hk)⟩
  have e0 := xd_33 (post := post) (f_blocks := f_blocks) (f_given := f_given) (f_known := f_known) (f_met := (nI m)) (f_openEdges := f_openEdges) (f_openBlocks := f_openBlocks) (f_first := f_first) (f_last := 0) (f_openCount := f_openCount) (f_firstEdge := f_firstEdge) (f_lastEdge := f_lastEdge) (f_result := f_result) (f_begun := f_begun) (f_latest := f_latest) (f_inputs := f_inputs) (a_op := a_op) (a_d := a_d) (a_b := a_b) (a_many := a_many) (a_kind := a_kind) (a_asks := a_asks) (a_target := a_target) (a_a := a_a) (a_order := a_order) (a_place := a_place) (a_parent := a_parent) (a_depths := a_depths) (a_living := a_living) (a_needs := a_needs) (a_merging := a_merging) (a_stack := a_stack) (a_next := a_next) (a_before := a_before) (a_frontiers := a_frontiers) (a_in := a_in) (a_out := a_out) (a_nameA := a_nameA) (a_nameB := a_nameB) (a_queue := a_queue) (a_state := a_state) (a_worth := a_worth) (a_usedByExit := a_usedByExit) (a_usedBySet := a_usedBySet) (a_usedByLow := a_usedByLow) (a_usedByHigh := a_usedByHigh) (a_edges := a_edges) (a_now := a_now) ⟨m + 1, xd_54 (st := st) X hX T hmg N hlt hN hst (fun x hx => cl_l hx) K (m + 1) 0 (fun _ => 4) (fun _ => 0) 0 _ _ _ (by omega) (by omega) ⟨hs4, rfl, fun j hj => by omega⟩ ⟨fun _ _ => Or.inr rfl, (sg_0 (fun i _ => b01_f (show ¬ (4 : Nat) = 0 by decide))).symm, fun j hj => by omega, fun n hn hz => absurd hz (show ¬ (4 : Nat) = 0 by decide), fun j hj => by omega⟩ (fun x hx hl => by omega)⟩ 17 0 (by omega) (by omega)
  rw [cl_0] at e0
  exact e0
end
end
section
/-- all that the component knows, once it has worked -/
def xk_ok (G : gr_T) (f_met f_openBlocks f_openCount : Int32) (a_order a_place a_parent a_depths a_living a_needs a_merging a_frontiers a_in a_out a_state a_worth : Nat → Int32) : Prop :=
  ∃ (m : Nat) (ord pl : Nat → Nat) (P : Nat → Option Nat) (ni : Nat → Nat → Nat) (c : vc_T) (ob : Nat → Prop), f_met = nI m ∧ (∀ k, k < m → a_order k = nI (ord k)) ∧ (∀ x, gr_M G x → a_place x = nI (pl x)) ∧ (∀ x, x < 16 → ¬ gr_M G x → a_place x = -1) ∧ m = sg_s (fun x => b01 (gr_M G x)) (gr_n G) ∧
    dt_ok G m ord pl P ∧ (∀ x, x < 16 → a_parent x = pe_ (P x)) ∧ (∀ u y, u < 16 → y < 16 → (bt (a_frontiers u) y = true ↔ gr_F G u y)) ∧
    (∀ x, x < gr_n G → a_depths x = nI (sg_s (fun h => b01 (gr_L G h x)) (gr_n G))) ∧ (∀ x v, x < gr_n G → (bt (a_living x) v = true ↔ (v < 6 ∧ gr_lw G (fun _ _ => True) x v))) ∧ (∀ y j, y < 16 → (bt (a_merging y) j = true ↔ (j < 6 ∧ gr_J G j y))) ∧
    nm_ok G P ni ∧ (∀ x, gr_M G x → ∀ v, v < 6 → ni x v < 166) ∧ (∀ x, gr_M G x → ∀ v, v < 6 → a_in (6 * x + v) = nI (ni x v) ∧ a_out (6 * x + v) = nI (ne_ G ni x v)) ∧
    (∀ n, n < 166 → a_state n = nI (vc_st c n)) ∧ (∀ n, n < 166 → a_worth n = vc_wo c n) ∧ (∀ y, y < 16 → (bt f_openBlocks y = true ↔ ob y)) ∧ vr_ok G ni c ob ∧ f_openCount = nI (vc_LE c) ∧
    (∀ x i, gr_M G x → (bt (a_needs x) i = true ↔ (i < gr_mn G x ∧ gr_nd G x i)))
section
variable {f_blocks f_given f_known f_met f_openEdges f_openBlocks f_first f_last f_openCount f_firstEdge f_lastEdge f_result f_begun f_latest f_inputs : Int32} {a_op a_d a_b a_many a_kind a_asks a_target a_a a_order a_place a_parent a_depths a_living a_needs a_merging a_stack a_next a_before a_frontiers a_in a_out a_nameA a_nameB a_queue a_state a_worth a_usedByExit a_edges a_now : Nat → Int32} {a_usedBySet a_usedByLow a_usedByHigh : Nat → Int64}
variable {G : gr_T} {m : Nat} {ord pl : Nat → Nat} {P : Nat → Option Nat} {ni : Nat → Nat → Nat} {post : SX → Prop}
theorem xw_50 (X : xp_ok G f_blocks f_given a_op a_d a_b a_many a_kind a_asks a_target a_a) (hX : xa_ok G m ord pl a_order a_place a_before) (T : dt_ok G m ord pl P) (hpa : ∀ x, x < 16 → a_parent x = pe_ (P x)) (hF : ∀ u y, u < 16 → y < 16 → (bt (a_frontiers u) y = true ↔ gr_F G u y))
    (K : ∀ (f_openEdges f_openBlocks f_first f_last f_openCount f_firstEdge f_lastEdge : Int32) (a_depths a_living a_needs a_merging a_in a_out a_nameA a_nameB a_queue a_state a_worth a_usedByExit : Nat → Int32) (a_usedBySet a_usedByLow a_usedByHigh : Nat → Int64) (a_edges : Nat → Int32), xk_ok G (nI m) f_openBlocks f_openCount a_order a_place a_parent a_depths a_living a_needs a_merging a_frontiers a_in a_out a_state a_worth → post (f_blocks, f_given, f_known, nI m, f_openEdges, f_openBlocks, f_first, f_last, f_openCount, f_firstEdge, f_lastEdge, f_result, f_begun, f_latest, f_inputs, a_op, a_d, a_b, a_many, a_kind, a_asks, a_target, a_a, a_order, a_place, a_parent, a_depths, a_living, a_needs, a_merging, a_stack, a_next, a_before, a_frontiers, a_in, a_out, a_nameA, a_nameB, a_queue, a_state, a_worth, a_usedByExit, a_usedBySet, a_usedByLow, a_usedByHigh, a_edges, a_now)) :
    ∀ n k (a_depths : Nat → Int32), m < n + k → k ≤ m → (∀ x, x < gr_n G → a_depths x = nI (dp_ G pl k x)) → wX_work_50 post n (nI k) f_blocks f_given f_known (nI m) f_openEdges f_openBlocks f_first f_last f_openCount f_firstEdge f_lastEdge f_result f_begun f_latest f_inputs a_op a_d a_b a_many a_kind a_asks a_target a_a a_order a_place a_parent a_depths a_living a_needs a_merging a_stack a_next a_before a_frontiers a_in a_out a_nameA a_nameB a_queue a_state a_worth a_usedByExit a_usedBySet a_usedByLow a_usedByHigh a_edges a_now := by
  have ok := X.1
  have hn16 := ok.1
  have O := hX.1
  have hmn := O.1
  intro n
  induction n with
  | zero => intro k _ h1 h2; omega
  | succ n ih =>
    intro k a_depths h1 hk hd
    rw [wX_work_50]
    refine pk_le m k (fun h => ?_) (fun h => ?_)
    · have e : k = m := by omega
      subst e
      refine xv_findLiving X (fun a_living hlv => ?_)
      refine xg_findMerges X hX hF (fun a_merging hmg => ?_)
      obtain ⟨ni, N, hlt⟩ := nm_exm T ok
      refine xn_giveNames X hX T hpa hmg N hlt (fun a_in a_out a_nameA a_nameB hN => ?_)
      refine xu_findUses X hX hmg hN hlt (fun a_usedByExit a_usedBySet a_usedByLow a_usedByHigh hU => ?_)
      refine xo_findValues X hX T hmg N hlt hN hU rfl (fun ob f_openBlocks f_first f_firstEdge c f_openEdges f_last f_openCount f_lastEdge a_queue a_state a_worth a_edges A hob hR => ?_)
      refine xd_findNeeded (st := vc_st c) X hX T hmg N hlt hN hR.2.2.2.1 A.2.2.2.2.2.1 (fun a_needs f_first f_last a_queue a_state hs hnd => ?_)
      exact K _ _ _ _ _ _ _ _ _ _ _ _ _ _ _ _ _ _ _ _ _ _ _ ⟨k, ord, pl, P, ni, c, ob, rfl, hX.2.1, hX.2.2.1, hX.2.2.2.1, hX.2.2.2.2.2, T, hpa, hF, fun x hx => by rw [hd x hx, dp_m ok O], hlv, hmg, N, hlt, fun x hx v hv => (hN x hx).1 v hv, hs, A.2.2.2.2.2.2.1, hob, hR, A.2.2.1, hnd⟩
    · have hxn := (O.2.2.1 k h).1
      have hMx := or_m O k h
      rw [fn_c (a := k) (by omega), hX.2.1 k h]
      refine ⟨vp_in_nI (by omega) (by omega), xl_findLoop ok X.2.1 hX T hpa hMx (dp := dp_ G pl k) (fun x hx => ⟨hd x hx, by have := dp_b (G := G) (pl := pl) k x; omega⟩) (fun a_depths hd' => nm_r (nI_1 k) (ih (k + 1) a_depths (by omega) (by omega) (fun x hx => by rw [hd' x hx, dp_s ok O h])))⟩
theorem xw_27 (ok : gr_ok G) (hB : f_blocks = nI (gr_n G)) (K : ∃ n50 : Nat, wX_work_50 post n50 0 f_blocks f_given f_known f_met f_openEdges f_openBlocks f_first f_last f_openCount f_firstEdge f_lastEdge f_result f_begun f_latest f_inputs a_op a_d a_b a_many a_kind a_asks a_target a_a a_order a_place a_parent (cl_ 0 (gr_n G) a_depths) a_living a_needs a_merging a_stack a_next a_before a_frontiers a_in a_out a_nameA a_nameB a_queue a_state a_worth a_usedByExit a_usedBySet a_usedByLow a_usedByHigh a_edges a_now) :
    ∀ n i, gr_n G < n + i → i ≤ gr_n G → wX_work_27 post f_blocks f_given f_known f_met f_openEdges f_openBlocks f_first f_last f_openCount f_firstEdge f_lastEdge f_result f_begun f_latest f_inputs n (nI i) a_op a_d a_b a_many a_kind a_asks a_target a_a a_order a_place a_parent (cl_ 0 i a_depths) a_living a_needs a_merging a_stack a_next a_before a_frontiers a_in a_out a_nameA a_nameB a_queue a_state a_worth a_usedByExit a_usedBySet a_usedByLow a_usedByHigh a_edges a_now := by
  have hn16 := ok.1
  intro n
  induction n with
  | zero => intro i h1 h2; omega
  | succ n ih =>
    intro i h1 h2
    rw [wX_work_27]
    refine pk_le (gr_n G) i (fun h => ?_) (fun h => ?_) hB
    · have e : i = gr_n G := by omega
      subst e
      exact K
    · have c : (nI i).toNatClampNeg = i := fn_c (by omega)
      rw [c, fb_vb0]
      exact ⟨vp_in_nI (by omega) (by omega), nm_r cl_s (nm_r (nI_1 i) (ih (i + 1) (by omega) (by omega)))⟩
theorem xw_27' (X : xp_ok G f_blocks f_given a_op a_d a_b a_many a_kind a_asks a_target a_a) (hX : xa_ok G m ord pl a_order a_place a_before) (T : dt_ok G m ord pl P) (hpa : ∀ x, x < 16 → a_parent x = pe_ (P x)) (hF : ∀ u y, u < 16 → y < 16 → (bt (a_frontiers u) y = true ↔ gr_F G u y))
    (K : ∀ (f_openEdges f_openBlocks f_first f_last f_openCount f_firstEdge f_lastEdge : Int32) (a_depths a_living a_needs a_merging a_in a_out a_nameA a_nameB a_queue a_state a_worth a_usedByExit : Nat → Int32) (a_usedBySet a_usedByLow a_usedByHigh : Nat → Int64) (a_edges : Nat → Int32), xk_ok G (nI m) f_openBlocks f_openCount a_order a_place a_parent a_depths a_living a_needs a_merging a_frontiers a_in a_out a_state a_worth → post (f_blocks, f_given, f_known, nI m, f_openEdges, f_openBlocks, f_first, f_last, f_openCount, f_firstEdge, f_lastEdge, f_result, f_begun, f_latest, f_inputs, a_op, a_d, a_b, a_many, a_kind, a_asks, a_target, a_a, a_order, a_place, a_parent, a_depths, a_living, a_needs, a_merging, a_stack, a_next, a_before, a_frontiers, a_in, a_out, a_nameA, a_nameB, a_queue, a_state, a_worth, a_usedByExit, a_usedBySet, a_usedByLow, a_usedByHigh, a_edges, a_now)) : ∃ n27 : Nat, wX_work_27 post f_blocks f_given f_known (nI m) f_openEdges f_openBlocks f_first f_last f_openCount f_firstEdge f_lastEdge f_result f_begun f_latest f_inputs n27 0 a_op a_d a_b a_many a_kind a_asks a_target a_a a_order a_place a_parent a_depths a_living a_needs a_merging a_stack a_next a_before a_frontiers a_in a_out a_nameA a_nameB a_queue a_state a_worth a_usedByExit a_usedBySet a_usedByLow a_usedByHigh a_edges a_now := by
  have ok := X.1
  have hn16 := ok.1
  have e0 := xw_27 (post := post) (f_blocks := f_blocks) (f_given := f_given) (f_known := f_known) (f_met := (nI m)) (f_openEdges := f_openEdges) (f_openBlocks := f_openBlocks) (f_first := f_first) (f_last := f_last) (f_openCount := f_openCount) (f_firstEdge := f_firstEdge) (f_lastEdge := f_lastEdge) (f_result := f_result) (f_begun := f_begun) (f_latest := f_latest) (f_inputs := f_inputs) (a_op := a_op) (a_d := a_d) (a_b := a_b) (a_many := a_many) (a_kind := a_kind) (a_asks := a_asks) (a_target := a_target) (a_a := a_a) (a_order := a_order) (a_place := a_place) (a_parent := a_parent) (a_depths := a_depths) (a_living := a_living) (a_needs := a_needs) (a_merging := a_merging) (a_stack := a_stack) (a_next := a_next) (a_before := a_before) (a_frontiers := a_frontiers) (a_in := a_in) (a_out := a_out) (a_nameA := a_nameA) (a_nameB := a_nameB) (a_queue := a_queue) (a_state := a_state) (a_worth := a_worth) (a_usedByExit := a_usedByExit) (a_usedBySet := a_usedBySet) (a_usedByLow := a_usedByLow) (a_usedByHigh := a_usedByHigh) (a_edges := a_edges) (a_now := a_now) (G := G) ok X.2.1 ⟨m + 1, xw_50 X hX T hpa hF K (m + 1) 0 (cl_ 0 (gr_n G) a_depths) (by omega) (by omega) (fun x hx => by rw [cl_l hx, dp_0]; rfl)⟩ 17 0 (by omega) (by omega)
  rw [cl_0] at e0
  exact ⟨17, e0⟩
theorem xw_work (X : xp_ok G f_blocks f_given a_op a_d a_b a_many a_kind a_asks a_target a_a) (hk : f_known = 0 ∨ (f_known ≠ 0 ∧ xk_ok G f_met f_openBlocks f_openCount a_order a_place a_parent a_depths a_living a_needs a_merging a_frontiers a_in a_out a_state a_worth))
    (K : ∀ (f_known f_met f_openEdges f_openBlocks f_first f_last f_openCount f_firstEdge f_lastEdge : Int32) (a_order a_place a_parent a_depths a_living a_needs a_merging a_stack a_next a_before a_frontiers a_in a_out a_nameA a_nameB a_queue a_state a_worth a_usedByExit : Nat → Int32) (a_usedBySet a_usedByLow a_usedByHigh : Nat → Int64) (a_edges : Nat → Int32), f_known ≠ 0 → xk_ok G f_met f_openBlocks f_openCount a_order a_place a_parent a_depths a_living a_needs a_merging a_frontiers a_in a_out a_state a_worth → post (f_blocks, f_given, f_known, f_met, f_openEdges, f_openBlocks, f_first, f_last, f_openCount, f_firstEdge, f_lastEdge, f_result, f_begun, f_latest, f_inputs, a_op, a_d, a_b, a_many, a_kind, a_asks, a_target, a_a, a_order, a_place, a_parent, a_depths, a_living, a_needs, a_merging, a_stack, a_next, a_before, a_frontiers, a_in, a_out, a_nameA, a_nameB, a_queue, a_state, a_worth, a_usedByExit, a_usedBySet, a_usedByLow, a_usedByHigh, a_edges, a_now)) : wpX_work post (f_blocks, f_given, f_known, f_met, f_openEdges, f_openBlocks, f_first, f_last, f_openCount, f_firstEdge, f_lastEdge, f_result, f_begun, f_latest, f_inputs, a_op, a_d, a_b, a_many, a_kind, a_asks, a_target, a_a, a_order, a_place, a_parent, a_depths, a_living, a_needs, a_merging, a_stack, a_next, a_before, a_frontiers, a_in, a_out, a_nameA, a_nameB, a_queue, a_state, a_worth, a_usedByExit, a_usedBySet, a_usedByLow, a_usedByHigh, a_edges, a_now) := by
  have ok := X.1
  unfold wpX_work
  rcases hk with h | ⟨h, hk⟩
  · refine br_t h ?_
    refine xa_arrange X (fun m ord pl a_order a_place a_stack a_next a_before hX => ?_)
    refine xm_findParents ok hX (fun P a_parent T hpa => ?_)
    refine xf_findFrontiers ok hX T hpa (fun a_frontiers hF => ?_)
    exact xw_27' X hX T hpa hF (fun f_openEdges f_openBlocks f_first f_last f_openCount f_firstEdge f_lastEdge a_depths a_living a_needs a_merging a_in a_out a_nameA a_nameB a_queue a_state a_worth a_usedByExit a_usedBySet a_usedByLow a_usedByHigh a_edges hk => K 1 (nI m) _ _ _ _ _ _ _ _ _ _ _ _ _ _ _ _ _ _ _ _ _ _ _ _ _ _ _ _ _ _ (by decide) hk)
  · exact br_f h (K f_known _ _ _ _ _ _ _ _ _ _ _ _ _ _ _ _ _ _ _ _ _ _ _ _ _ _ _ _ _ _ _ h hk)
end
end
section
/-! the reference's program -/
def yp_ok (G : gr_T) (f_n f_k : Int32) (a_many a_op a_d a_a a_b a_kind a_used a_first a_second : Nat → Int32) : Prop :=
  gr_ok G ∧ f_n = nI (gr_n G) ∧ f_k = nI (gr_k G) ∧ (∀ x, x < gr_n G → a_many x = nI (gr_mn G x)) ∧ (∀ x, x < gr_n G → a_kind x = nI (gr_kd G x)) ∧ (∀ x, x < gr_n G → (gr_kd G x = 1 → a_used x = -1) ∧ (gr_kd G x ≠ 1 → a_used x = nI (gr_ak G x))) ∧ (∀ x, x < gr_n G → (0 < gr_kd G x → a_first x = nI (gr_tg G (2 * x + 0))) ∧ (1 < gr_kd G x → a_second x = nI (gr_tg G (2 * x + 1)))) ∧ (∀ x i, x < gr_n G → i < gr_mn G x → a_op (4 * x + i) = nI (gr_op G (4 * x + i)) ∧ a_d (4 * x + i) = nI (gr_dd G (4 * x + i)) ∧ a_a (4 * x + i) = gr_aa G (4 * x + i) ∧ (1 < gr_op G (4 * x + i) → gr_op G (4 * x + i) < 7 → a_b (4 * x + i) = nI (gr_bb G (4 * x + i))))
section
variable {f_n f_k f_met f_result f_begun f_last : Int32} {a_many a_op a_d a_a a_b a_kind a_used a_first a_second a_living a_needed a_rules a_edges a_open a_variable : Nat → Int32} {a_begin a_now : Nat → Int64}
variable {G : gr_T}
theorem yn_next {post : Int32 → Prop} {x : Nat} (Y : yp_ok G f_n f_k a_many a_op a_d a_a a_b a_kind a_used a_first a_second) (hx : x < gr_n G) (K : ∀ s : Int32, (∀ y, bt s y = true ↔ gr_E G x y) → post s) : wpY_next post (f_n, f_k, f_met, f_result, f_begun, f_last, a_many, a_op, a_d, a_a, a_b, a_kind, a_used, a_first, a_second, a_living, a_needed, a_rules, a_edges, a_begin, a_now, a_open, a_variable) (nI x) := by
  have ok := Y.1
  have hn16 := ok.1
  have hB := ok.2.2 x hx
  have hkd := hB.2.1
  have ix : vp_in (nI x) 16 := vp_in_nI (by omega) (by omega)
  unfold wpY_next
  dsimp only
  rw [fn_c (a := x) (by omega), Y.2.2.2.2.1 x hx]
  have big : ∀ {y}, 32 ≤ y → ¬ gr_E G x y := fun hy e => by have := (gr_Elt ok e).2.1; omega
  refine ⟨ix, pk_eq (gr_kd G x) 0 (fun h => K 0 (fun y => ?_)) (fun h0 => ⟨ix, pk_eq (gr_kd G x) 1 (fun h => ⟨ix, ?_⟩) (fun h1 => ⟨ix, ix, ?_⟩)⟩)⟩
  · rw [b_0]
    exact ⟨fun z => absurd z (by decide), fun ⟨_, j, hj, _⟩ => by omega⟩
  · have ht := hB.2.2.2.1 0 (by omega)
    rw [(Y.2.2.2.2.2.2.1 x hx).1 (by omega)]
    refine K _ (fun y => ?_)
    rcases Nat.lt_or_ge y 32 with z | z
    · rw [fb_one _ (by omega) y z, decide_eq_true_iff]
      constructor
      · intro e
        exact ⟨hx, 0, by omega, e.symm⟩
      · rintro ⟨_, j, hj, e⟩
        have ej : j = 0 := by omega
        rw [ej] at e
        exact e.symm
    · rw [b_big z]
      exact ⟨fun w => absurd w (by decide), fun w => absurd w (big z)⟩
  · have ht := hB.2.2.2.1 0 (by omega)
    have ht1 := hB.2.2.2.1 1 (by omega)
    rw [(Y.2.2.2.2.2.2.1 x hx).1 (by omega), (Y.2.2.2.2.2.2.1 x hx).2 (by omega)]
    refine K _ (fun y => ?_)
    rcases Nat.lt_or_ge y 32 with z | z
    · rw [b_or, fb_one _ (by omega) y z, fb_one _ (by omega) y z, Bool.or_eq_true, decide_eq_true_iff, decide_eq_true_iff]
      constructor
      · rintro (e | e)
        · exact ⟨hx, 0, by omega, e.symm⟩
        · exact ⟨hx, 1, by omega, e.symm⟩
      · rintro ⟨_, j, hj, e⟩
        rcases (show j = 0 ∨ j = 1 by omega) with w | w
        · rw [w] at e; exact Or.inl e.symm
        · rw [w] at e; exact Or.inr e.symm
    · rw [b_big z]
      exact ⟨fun w => absurd w (by decide), fun w => absurd w (big z)⟩
/-- which blocks may be come to: x2 the one to be left out, or below 0 -/
def yc_w (x2 : Int32) (Pp : Nat → Prop) : Prop := (x2 < 0 ∧ ∀ y, Pp y) ∨ (∃ w, w < 16 ∧ x2 = nI w ∧ ∀ y, Pp y ↔ y ≠ w)
theorem yc_31 {post : Int32 → Prop} {J19 : Int32 → Int32 → Prop} {x2 bf : Int32} {Pp : Nat → Prop} (Y : yp_ok G f_n f_k a_many a_op a_d a_a a_b a_kind a_used a_first a_second) (hw : yc_w x2 Pp) (h16 : fb_16 bf)
    (K : ∀ s : Int32, fb_16 s → (∀ y, bt s y = true ↔ ((bt bf y = true ∨ ∃ a, bt bf a = true ∧ gr_E G a y) ∧ Pp y)) → J19 s bf) :
    ∀ n i (s : Int32), gr_n G < n + i → i ≤ gr_n G → fb_16 s → (∀ y, bt s y = true ↔ (bt bf y = true ∨ ∃ a, a < i ∧ bt bf a = true ∧ gr_E G a y)) → wY_come_31 post J19 x2 bf f_n f_k f_met f_result f_begun f_last a_many a_op a_d a_a a_b a_kind a_used a_first a_second a_living a_needed a_rules a_edges a_begin a_now a_open a_variable n s (nI i) := by
  have ok := Y.1
  have hn16 := ok.1
  intro n
  induction n with
  | zero => intro i s h1 h2; omega
  | succ n ih =>
    intro i s h1 h2 hs16 hs
    rw [wY_come_31]
    refine pk_le (gr_n G) i (fun h => ?_) (fun h => ?_) Y.2.1
    · have hs' : ∀ y, bt s y = true ↔ (bt bf y = true ∨ ∃ a, bt bf a = true ∧ gr_E G a y) := by
        intro y
        rw [hs y]
        constructor
        · rintro (z | ⟨a, _, z⟩)
          · exact Or.inl z
          · exact Or.inr ⟨a, z⟩
        · rintro (z | ⟨a, z1, z2⟩)
          · exact Or.inl z
          · exact Or.inr ⟨a, by have := z2.1; omega, z1, z2⟩
      rcases hw with ⟨w1, w2⟩ | ⟨w, w1, w2, w3⟩
      · exact br_t w1 (K s hs16 (fun y => (hs' y).trans ⟨fun z => ⟨z, w2 y⟩, fun z => z.1⟩))
      · subst w2
        refine br_f (nI_pos (by omega)) (nm_e (K _ (fun y hy => ?_) (fun y => ?_)))
        · rcases Nat.lt_or_ge y 32 with z | z
          · rw [fb_not1 _ (by omega) z, hs16 y hy, Bool.false_and]
          · exact b_big z
        · rcases Nat.lt_or_ge y 32 with z | z
          · rw [fb_not1 _ (by omega) z, Bool.and_eq_true, hs' y, w3 y, Bool.not_eq_true', decide_eq_false_iff_not]
          · rw [b_big z]
            refine ⟨fun q => absurd q (by decide), fun q => ?_⟩
            have := (hs' y).mpr q.1
            rw [b_big z] at this
            exact this
    · have ci := fn_c (a := i) (by omega)
      refine fb_0 (by omega) (fun hb => ?_) (fun hb => ?_)
      · refine nm_r (nI_1 i) (ih (i + 1) s (by omega) (by omega) hs16 (fun y => (hs y).trans ?_))
        constructor
        · rintro (z | ⟨a, z1, z2⟩)
          · exact Or.inl z
          · exact Or.inr ⟨a, by omega, z2⟩
        · rintro (z | ⟨a, z1, z2⟩)
          · exact Or.inl z
          · refine Or.inr ⟨a, ?_, z2⟩
            by_cases e : a = i
            · rw [e, hb] at z2; exact absurd z2.1 (by decide)
            · omega
      · refine yn_next Y h (fun r hr => nm_e (nm_r (nI_1 i) (ih (i + 1) _ (by omega) (by omega) (fun y hy => ?_) (fun y => ?_))))
        · rw [b_or, hs16 y hy, Bool.false_or]
          cases z : bt r y with
          | false => rfl
          | true => have := (gr_Elt ok ((hr y).mp z)).2.1; omega
        · rw [b_or, Bool.or_eq_true, hs y, hr y]
          constructor
          · rintro ((z | ⟨a, z1, z2⟩) | z)
            · exact Or.inl z
            · exact Or.inr ⟨a, by omega, z2⟩
            · exact Or.inr ⟨i, by omega, hb, z⟩
          · rintro (z | ⟨a, z1, z2⟩)
            · exact Or.inl (Or.inl z)
            · by_cases e : a = i
              · rw [e] at z2; exact Or.inr z2.2
              · exact Or.inl (Or.inr ⟨a, by omega, z2⟩)
noncomputable def yc_mu (s : Int32) : Nat := sg_s (fun i => b01 (bt s i = false)) 16
theorem yc_mus {s t : Int32} (h : ∀ y, bt s y = true → bt t y = true) (hs : fb_16 s) (ht : fb_16 t) (hne : t ≠ s) : yc_mu t < yc_mu s := by
  obtain ⟨k, hk, h1, h2⟩ : ∃ k, k < 16 ∧ bt t k = true ∧ bt s k = false := by
    refine Classical.byContradiction (fun hn => hne (b_ext (fun j hj => ?_)))
    cases z : bt s j with
    | true => exact h j z
    | false =>
      cases z2 : bt t j with
      | false => rfl
      | true => exact absurd ⟨j, fb_lt16 ht z2, z2, z⟩ hn
  have e1 := sg_up (f := fun w => if w = k then 0 else b01 (bt s w = false)) (g := fun w => b01 (bt s w = false)) hk (fun i _ hi => if_neg hi)
  have e2 : sg_s (fun i => b01 (bt t i = false)) 16 ≤ sg_s (fun w => if w = k then 0 else b01 (bt s w = false)) 16 := sg_le (fun i _ => by
    by_cases c : i = k
    · rw [if_pos c, c, b01_f (by rw [h1]; decide)]; exact Nat.le_refl _
    · rw [if_neg c]
      cases z : bt s i with
      | true => rw [h i z]; exact Nat.le_refl _
      | false => rw [b01_t rfl]; exact b01_1 _)
  have e3 : b01 (bt s k = false) = 1 := b01_t h2
  simp only [if_pos, e3] at e1
  unfold yc_mu
  omega
theorem yc_19 {post : Int32 → Prop} {x2 fr : Int32} {Pp : Nat → Prop} (Y : yp_ok G f_n f_k a_many a_op a_d a_a a_b a_kind a_used a_first a_second) (hw : yc_w x2 Pp)
    (K : ∀ r : Int32, fb_16 r → (∀ y, bt r y = true ↔ ∃ s, bt fr s = true ∧ gr_R G Pp s y) → post r) :
    ∀ n (s bf : Int32), yc_mu bf < n → fb_16 s → fb_16 bf → (∀ y, bt s y = true → ∃ a, bt fr a = true ∧ gr_R G Pp a y) → (∀ a, bt fr a = true → Pp a → bt s a = true) → (∀ a, bt bf a = true → bt s a = true) → (∀ a b, bt bf a = true → gr_E G a b → Pp b → bt s b = true) → wY_come_19 post x2 f_n f_k f_met f_result f_begun f_last a_many a_op a_d a_a a_b a_kind a_used a_first a_second a_living a_needed a_rules a_edges a_begin a_now a_open a_variable n s bf := by
  intro n
  induction n with
  | zero => intro s bf h; omega
  | succ n ih =>
    intro s bf hmu h16 hb16 hs1 hs2 hs3 hs4
    rw [wY_come_19]
    by_cases e : s = bf
    · refine br_t e (K s h16 (fun y => ⟨hs1 y, ?_⟩))
      rintro ⟨a, ha, hR⟩
      refine hR (fun t => bt s t = true) (fun p => hs2 a ha p) (fun u w hu he hp => hs4 u w ?_ he hp)
      rw [← e]
      exact hu
    · have hlt := yc_mus hs3 hb16 h16 e
      refine br_f e ⟨17, yc_31 Y hw h16 (fun s' h16' hs' => ih s' s (by omega) h16' h16 (fun y hy => ?_) (fun a ha hp => (hs' a).mpr ⟨Or.inl (hs2 a ha hp), hp⟩) (fun a ha => (hs' a).mpr ⟨Or.inl ha, ?_⟩) (fun a b ha he hp => (hs' b).mpr ⟨Or.inr ⟨a, ha, he⟩, hp⟩)) 17 0 s (by have := Y.1.1; omega) (by omega) h16 (fun y => ⟨Or.inl, fun z => z.elim id (fun ⟨a, h, _⟩ => by omega)⟩)⟩
      · obtain ⟨h1, h2⟩ := (hs' y).mp hy
        rcases h1 with z | ⟨a, z1, z2⟩
        · exact hs1 y z
        · obtain ⟨b, hb, hR⟩ := hs1 a z1
          exact ⟨b, hb, gr_Rstep hR z2 h2⟩
      · obtain ⟨b, hb, hR⟩ := hs1 a ha
        exact gr_RP (fun z => z) hR
theorem yc_come {post : Int32 → Prop} {x2 fr : Int32} {Pp : Nat → Prop} (Y : yp_ok G f_n f_k a_many a_op a_d a_a a_b a_kind a_used a_first a_second) (hw : yc_w x2 Pp) (h16 : fb_16 fr)
    (K : ∀ r : Int32, fb_16 r → (∀ y, bt r y = true ↔ ∃ s, bt fr s = true ∧ gr_R G Pp s y) → post r) : wpY_come post (f_n, f_k, f_met, f_result, f_begun, f_last, a_many, a_op, a_d, a_a, a_b, a_kind, a_used, a_first, a_second, a_living, a_needed, a_rules, a_edges, a_begin, a_now, a_open, a_variable) fr x2 := by
  have fuel : yc_mu 0 < 17 := by
    have : yc_mu 0 ≤ 1 * 16 := sg_b (fun i _ => b01_1 _)
    omega
  have z0 : ∀ a, ¬ bt 0 a = true := fun a h => by rw [b_0] at h; exact absurd h (by decide)
  unfold wpY_come
  dsimp only
  have hw0 := hw
  rcases hw with ⟨w1, w2⟩ | ⟨w, w1, w2, w3⟩
  · refine br_f (Int32.not_le.mpr w1) ⟨17, yc_19 Y hw0 K 17 fr 0 fuel h16 fb_160 (fun y hy => ⟨y, hy, gr_Rrefl (w2 y)⟩) (fun a ha _ => ha) (fun a ha => absurd ha (z0 a)) (fun a b ha => absurd ha (z0 a))⟩
  · subst w2
    have e1 : ∀ y, bt (fr &&& (((1 : Int32) <<< (nI w &&& 31)) ^^^ (-1))) y = true ↔ (bt fr y = true ∧ Pp y) := by
      intro y
      rcases Nat.lt_or_ge y 32 with z | z
      · rw [fb_not1 _ (by omega) z, Bool.and_eq_true, w3 y, Bool.not_eq_true', decide_eq_false_iff_not]
      · rw [b_big z, b_big z]
        exact ⟨fun q => absurd q (by decide), fun q => absurd q.1 (by decide)⟩
    refine br_t (nI_pos' (by omega)) (nm_e ⟨17, yc_19 Y hw0 K 17 _ 0 fuel (fun y hy => ?_) fb_160 (fun y hy => ⟨y, ((e1 y).mp hy).1, gr_Rrefl ((e1 y).mp hy).2⟩) (fun a ha hp => (e1 a).mpr ⟨ha, hp⟩) (fun a ha => absurd ha (z0 a)) (fun a b ha => absurd ha (z0 a))⟩)
    cases z : bt (fr &&& (((1 : Int32) <<< (nI w &&& 31)) ^^^ (-1))) y with
    | false => rfl
    | true =>
      have := ((e1 y).mp z).1
      rw [h16 y hy] at this
      exact absurd this (by decide)
theorem b_1 (y : Nat) : bt 1 y = true ↔ y = 0 := by
  rcases Nat.lt_or_ge y 32 with z | z
  · exact (by decide +kernel : ∀ y, y < 32 → (bt 1 y = true ↔ y = 0)) y z
  · rw [b_big z]
    exact ⟨fun w => absurd w (by decide), fun w => by omega⟩
/-- what look leaves -/
def yl_ok (G : gr_T) (f_met : Int32) (a_rules : Nat → Int32) : Prop := fb_16 f_met ∧ (∀ y, bt f_met y = true ↔ gr_M G y) ∧ (∀ x, x < gr_n G → ∀ y, bt (a_rules x) y = true ↔ gr_D G x y)
theorem yl_23 {post : SY → Prop} (Y : yp_ok G f_n f_k a_many a_op a_d a_a a_b a_kind a_used a_first a_second) (h16 : fb_16 f_met) (hm : ∀ y, bt f_met y = true ↔ gr_M G y) (K : ∀ a_rules : Nat → Int32, yl_ok G f_met a_rules → post (f_n, f_k, f_met, f_result, f_begun, f_last, a_many, a_op, a_d, a_a, a_b, a_kind, a_used, a_first, a_second, a_living, a_needed, a_rules, a_edges, a_begin, a_now, a_open, a_variable)) :
    ∀ n i (a_rules : Nat → Int32), gr_n G < n + i → i ≤ gr_n G → (∀ x, x < i → ∀ y, bt (a_rules x) y = true ↔ gr_D G x y) → wY_look_23 post f_n f_k f_met f_result f_begun f_last n (nI i) a_many a_op a_d a_a a_b a_kind a_used a_first a_second a_living a_needed a_rules a_edges a_begin a_now a_open a_variable := by
  have ok := Y.1
  have hn16 := ok.1
  intro n
  induction n with
  | zero => intro i _ h1 h2; omega
  | succ n ih =>
    intro i a_rules h1 h2 hr
    rw [wY_look_23]
    refine pk_le (gr_n G) i (fun h => ?_) (fun h => ?_) Y.2.1
    · exact K a_rules ⟨h16, hm, fun x hx => hr x (by omega)⟩
    · have ii : vp_in (nI i) 16 := vp_in_nI (by omega) (by omega)
      have hn0 : 0 < gr_n G := by omega
      refine yc_come Y (Pp := fun y => y ≠ i) (Or.inr ⟨i, by omega, rfl, fun y => Iff.rfl⟩) fb_161 (fun r hr16 hrr => ?_)
      rw [fn_c (a := i) (by omega)]
      refine fb_0 (by omega) (fun hb => ?_) (fun hb => ?_)
      · have hnM : ¬ gr_M G i := fun z => by rw [(hm i).mpr z] at hb; exact absurd hb (by decide)
        refine ⟨ii, nm_e (nm_r (nI_1 i) (ih (i + 1) _ (by omega) (by omega) (fun x hx y => ?_)))⟩
        by_cases e : x = i
        · rw [e, pk_us, b_0]
          exact ⟨fun z => absurd z (by decide), fun z => absurd z.1 hnM⟩
        · rw [pk_un e]; exact hr x (by omega) y
      · have hM := (hm i).mp hb
        refine ⟨ii, nm_e (nm_r (nI_1 i) (ih (i + 1) _ (by omega) (by omega) (fun x hx y => ?_)))⟩
        by_cases e : x = i
        · rw [e, pk_us]
          rcases Nat.lt_or_ge y 32 with z | z
          · rw [fb_nots _ _ z, Bool.and_eq_true, hm y, Bool.not_eq_true']
            constructor
            · rintro ⟨q1, q2⟩
              refine ⟨hM, q1, fun hR => ?_⟩
              rw [(hrr y).mpr ⟨0, (b_1 0).mpr rfl, hR⟩] at q2
              exact absurd q2 (by decide)
            · rintro ⟨_, q1, q2⟩
              refine ⟨q1, ?_⟩
              cases q : bt r y with
              | false => rfl
              | true =>
                obtain ⟨s, hs, hR⟩ := (hrr y).mp q
                rw [(b_1 s).mp hs] at hR
                exact absurd hR q2
          · rw [b_big z]
            exact ⟨fun q => absurd q (by decide), fun q => by have := gr_Mlt ok q.2.1; omega⟩
        · rw [pk_un e]; exact hr x (by omega) y
theorem yl_look {post : SY → Prop} (Y : yp_ok G f_n f_k a_many a_op a_d a_a a_b a_kind a_used a_first a_second) (K : ∀ (f_met : Int32) (a_rules : Nat → Int32), yl_ok G f_met a_rules → post (f_n, f_k, f_met, f_result, f_begun, f_last, a_many, a_op, a_d, a_a, a_b, a_kind, a_used, a_first, a_second, a_living, a_needed, a_rules, a_edges, a_begin, a_now, a_open, a_variable)) : wpY_look post (f_n, f_k, f_met, f_result, f_begun, f_last, a_many, a_op, a_d, a_a, a_b, a_kind, a_used, a_first, a_second, a_living, a_needed, a_rules, a_edges, a_begin, a_now, a_open, a_variable) := by
  have ok := Y.1
  have hn16 := ok.1
  unfold wpY_look
  dsimp only
  refine pk_eq (gr_n G) 0 (fun h => ?_) (fun h => ?_) Y.2.1
  · refine ⟨1, yl_23 Y fb_160 (fun y => ?_) (fun a_rules h => K 0 a_rules h) 1 0 a_rules (by omega) (by omega) (fun x hx => by omega)⟩
    rw [b_0]
    exact ⟨fun z => absurd z (by decide), fun z => by have := z.1; omega⟩
  · refine yc_come Y (Pp := fun _ => True) (Or.inl ⟨by decide, fun _ => trivial⟩) fb_161 (fun r hr16 hrr => ⟨17, yl_23 Y hr16 (fun y => ?_) (fun a_rules h => K r a_rules h) 17 0 a_rules (by omega) (by omega) (fun x hx => by omega)⟩)
    rw [hrr y]
    constructor
    · rintro ⟨s, hs, hR⟩
      rw [(b_1 s).mp hs] at hR
      exact ⟨by omega, hR⟩
    · rintro ⟨_, hR⟩
      exact ⟨0, (b_1 0).mpr rfl, hR⟩
theorem yo_out {post : Int32 → Prop} {x L : Int32} {n : Nat} (hL : L = nI n) (hn : n < 2 ^ 31) (K1 : (∀ j, j < n → x ≠ nI j) → post 1) (K0 : ∀ j, j < n → x = nI j → post 0) : wpY_out post x L := by
  unfold wpY_out
  subst hL
  refine br_c (fun h => K1 (fun j hj e => ?_)) (fun h => ?_)
  · rw [e] at h; exact absurd h (nI_pos (by omega))
  · obtain ⟨j, hj, rfl⟩ := nI_of h
    refine pk_lt j n (fun h2 => K0 j h2 rfl) (fun h2 => K1 (fun i hi e => ?_))
    have := fn_inj hj (by omega) e
    omega
theorem yo_among {post : Int32 → Prop} {x L : Int32} {n : Nat} (hL : L = nI n) (hn : n < 2 ^ 31) (K0 : (∀ j, j < n → x ≠ nI j) → post 0) (K1 : ∀ j, j < n → x = nI j → post 1) : wpX_among post x L := by
  unfold wpX_among
  subst hL
  refine br_c (fun h => K0 (fun j hj e => ?_)) (fun h => ?_)
  · rw [e] at h; exact absurd h (nI_pos (by omega))
  · obtain ⟨j, hj, rfl⟩ := nI_of h
    refine pk_le n j (fun h2 => K0 (fun i hi e => ?_)) (fun h2 => K1 j h2 rfl)
    have := fn_inj hj (by omega) e
    omega
/-- raw numbers: a dominates b -/
def yi_D (G : gr_T) (a b : Int32) : Prop := ∃ i j, i < gr_n G ∧ j < gr_n G ∧ a = nI i ∧ b = nI j ∧ gr_D G i j
theorem yi_n (ok : gr_ok G) {i j : Nat} (hi : i < gr_n G) (hj : j < gr_n G) : yi_D G (nI i) (nI j) ↔ gr_D G i j := by
  have hn16 := ok.1
  constructor
  · rintro ⟨i', j', h1, h2, e1, e2, hD⟩
    rw [fn_inj (by omega) (by omega) e1, fn_inj (by omega) (by omega) e2]
    exact hD
  · intro h
    exact ⟨i, j, hi, hj, rfl, rfl, h⟩
theorem yi_is {post : Int32 → Prop} {a b : Int32} (Y : yp_ok G f_n f_k a_many a_op a_d a_a a_b a_kind a_used a_first a_second) (hl : yl_ok G f_met a_rules) (K0 : ¬ yi_D G a b → post 0) (K1 : yi_D G a b → post 1) : wpY_is post (f_n, f_k, f_met, f_result, f_begun, f_last, a_many, a_op, a_d, a_a, a_b, a_kind, a_used, a_first, a_second, a_living, a_needed, a_rules, a_edges, a_begin, a_now, a_open, a_variable) a b := by
  have ok := Y.1
  have hn16 := ok.1
  unfold wpY_is
  dsimp only
  refine yo_out Y.2.1 (by omega) (fun h => ?_) (fun i hi ei => ?_)
  · exact br_f (by decide) (K0 (fun ⟨i, j, h1, _, e, _⟩ => h i h1 e))
  · refine br_t rfl (yo_out Y.2.1 (by omega) (fun h => ?_) (fun j hj ej => ?_))
    · exact br_f (by decide) (K0 (fun ⟨i, j, _, h1, _, e, _⟩ => h j h1 e))
    · subst ei
      subst ej
      refine br_t rfl ⟨vp_in_nI (by omega) (by omega), ?_⟩
      rw [fn_c (a := i) (by omega)]
      refine fb_0 (by omega) (fun hb => K0 (fun z => ?_)) (fun hb => K1 ((yi_n ok hi hj).mpr ((hl.2.2 i hi j).mp hb)))
      rw [(hl.2.2 i hi j).mpr ((yi_n ok hi hj).mp z)] at hb
      exact absurd hb (by decide)
end
end
section
section
variable {f_n f_k f_met f_result f_begun f_last : Int32} {a_many a_op a_d a_a a_b a_kind a_used a_first a_second a_living a_needed a_rules a_edges a_open a_variable : Nat → Int32} {a_begin a_now : Nat → Int64}
variable {G : gr_T}
/-- x is the nearest of those that strictly dominate b -/
def ip_ (G : gr_T) (b : Int32) (x : Nat) : Prop := nI x ≠ b ∧ yi_D G (nI x) b ∧ ∀ y, y < gr_n G → nI y ≠ b → yi_D G (nI y) b → yi_D G (nI y) (nI x)
theorem yq_37 {post : Int32 → SY → Prop} {J6 : Int32 → Prop} {b : Int32} {x : Nat} (Y : yp_ok G f_n f_k a_many a_op a_d a_a a_b a_kind a_used a_first a_second) (hl : yl_ok G f_met a_rules) (hx : x < gr_n G) (K1 : ip_ G b x → post (nI x) (f_n, f_k, f_met, f_result, f_begun, f_last, a_many, a_op, a_d, a_a, a_b, a_kind, a_used, a_first, a_second, a_living, a_needed, a_rules, a_edges, a_begin, a_now, a_open, a_variable)) (K0 : ¬ ip_ G b x → J6 (nI (x + 1))) :
    ∀ n y (fl : Int32), gr_n G < n + y → y ≤ gr_n G → ((fl = 0 ∧ ¬ ip_ G b x) ∨ (fl = 1 ∧ nI x ≠ b ∧ yi_D G (nI x) b ∧ ∀ z, z < y → nI z ≠ b → yi_D G (nI z) b → yi_D G (nI z) (nI x))) → wY_parent_37 post J6 b (nI x) f_n f_k f_met f_result f_begun f_last a_many a_op a_d a_a a_b a_kind a_used a_first a_second a_living a_needed a_rules a_edges a_begin a_now a_open a_variable n fl (nI y) := by
  have ok := Y.1
  have hn16 := ok.1
  have k80 : ∀ fl : Int32, ((fl = 0 ∧ ¬ ip_ G b x) ∨ (fl = 1 ∧ ip_ G b x)) → wY_parent_80 post J6 b (nI x) fl f_n f_k f_met f_result f_begun f_last a_many a_op a_d a_a a_b a_kind a_used a_first a_second a_living a_needed a_rules a_edges a_begin a_now a_open a_variable := by
    intro fl h
    rw [wY_parent_80]
    rcases h with ⟨e, h⟩ | ⟨e, h⟩
    · exact br_t e (nm_r (nI_1 x) (K0 h))
    · exact br_f (by rw [e]; decide) (K1 h)
  intro n
  induction n with
  | zero => intro y fl h1 h2; omega
  | succ n ih =>
    intro y fl h1 h2 hf
    rw [wY_parent_37]
    refine pk_le (gr_n G) y (fun h => ?_) (fun h => ?_) Y.2.1
    · refine k80 fl (hf.elim Or.inl (fun z => Or.inr ⟨z.1, z.2.1, z.2.2.1, fun w hw => z.2.2.2 w (by omega)⟩))
    · rcases hf with ⟨e, hf⟩ | ⟨e, f1, f2, f3⟩
      · exact br_t e (k80 fl (Or.inl ⟨e, hf⟩))
      · refine br_f (by rw [e]; decide) (br_c (fun hy => ?_) (fun hy => ?_))
        · refine nm_r (nI_1 y) (ih (y + 1) fl (by omega) (by omega) (Or.inr ⟨e, f1, f2, fun z hz h3 h4 => ?_⟩))
          by_cases ez : z = y
          · rw [ez] at h3; exact absurd hy h3
          · exact f3 z (by omega) h3 h4
        · refine yi_is Y hl (fun hD => ?_) (fun hD => ?_)
          · refine br_t rfl (nm_r (nI_1 y) (ih (y + 1) fl (by omega) (by omega) (Or.inr ⟨e, f1, f2, fun z hz h3 h4 => ?_⟩)))
            by_cases ez : z = y
            · rw [ez] at h4; exact absurd h4 hD
            · exact f3 z (by omega) h3 h4
          · refine br_f (by decide) (yi_is Y hl (fun hE => ?_) (fun hE => ?_))
            · exact nm_r (nI_1 y) (ih (y + 1) 0 (by omega) (by omega) (Or.inl ⟨rfl, fun z => hE (z.2.2 y h hy hD)⟩))
            · refine nm_r (nI_1 y) (ih (y + 1) 1 (by omega) (by omega) (Or.inr ⟨rfl, f1, f2, fun z hz h3 h4 => ?_⟩))
              by_cases ez : z = y
              · rw [ez]; exact hE
              · exact f3 z (by omega) h3 h4
theorem yq_6 {post : Int32 → SY → Prop} {b : Int32} (Y : yp_ok G f_n f_k a_many a_op a_d a_a a_b a_kind a_used a_first a_second) (hl : yl_ok G f_met a_rules) (K1 : ∀ x, x < gr_n G → ip_ G b x → post (nI x) (f_n, f_k, f_met, f_result, f_begun, f_last, a_many, a_op, a_d, a_a, a_b, a_kind, a_used, a_first, a_second, a_living, a_needed, a_rules, a_edges, a_begin, a_now, a_open, a_variable)) (K0 : (∀ x, x < gr_n G → ¬ ip_ G b x) → post (-1) (f_n, f_k, f_met, f_result, f_begun, f_last, a_many, a_op, a_d, a_a, a_b, a_kind, a_used, a_first, a_second, a_living, a_needed, a_rules, a_edges, a_begin, a_now, a_open, a_variable)) :
    ∀ n x, gr_n G < n + x → x ≤ gr_n G → (∀ z, z < x → ¬ ip_ G b z) → wY_parent_6 post b f_n f_k f_met f_result f_begun f_last a_many a_op a_d a_a a_b a_kind a_used a_first a_second a_living a_needed a_rules a_edges a_begin a_now a_open a_variable n (nI x) := by
  have ok := Y.1
  have hn16 := ok.1
  intro n
  induction n with
  | zero => intro x h1 h2; omega
  | succ n ih =>
    intro x h1 h2 hz
    rw [wY_parent_6]
    refine pk_le (gr_n G) x (fun h => K0 (fun z hz' => hz z (by omega))) (fun h => ?_) Y.2.1
    have go : ∀ fl : Int32, ((fl = 0 ∧ ¬ ip_ G b x) ∨ (fl = 1 ∧ nI x ≠ b ∧ yi_D G (nI x) b)) → ∃ n37 : Nat, wY_parent_37 post (wY_parent_6 post b f_n f_k f_met f_result f_begun f_last a_many a_op a_d a_a a_b a_kind a_used a_first a_second a_living a_needed a_rules a_edges a_begin a_now a_open a_variable n) b (nI x) f_n f_k f_met f_result f_begun f_last a_many a_op a_d a_a a_b a_kind a_used a_first a_second a_living a_needed a_rules a_edges a_begin a_now a_open a_variable n37 fl 0 := by
      intro fl hf
      refine ⟨17, yq_37 Y hl h (K1 x h) (fun hn => ih (x + 1) (by omega) (by omega) (fun z hz' => ?_)) 17 0 fl (by omega) (by omega) (hf.elim Or.inl (fun z => Or.inr ⟨z.1, z.2.1, z.2.2, fun w hw => by omega⟩))⟩
      by_cases e : z = x
      · rw [e]; exact hn
      · exact hz z (by omega)
    refine br_c (fun e => go 0 (Or.inl ⟨rfl, fun z => z.1 e⟩)) (fun e => yi_is Y hl (fun hD => ?_) (fun hD => ?_))
    · exact br_t rfl (go 0 (Or.inl ⟨rfl, fun z => hD z.2.1⟩))
    · exact br_f (by decide) (go 1 (Or.inr ⟨rfl, e, hD⟩))
theorem yq_parent {post : Int32 → SY → Prop} {b : Int32} (Y : yp_ok G f_n f_k a_many a_op a_d a_a a_b a_kind a_used a_first a_second) (K1 : ∀ (f_met : Int32) (a_rules : Nat → Int32) (x : Nat), x < gr_n G → ip_ G b x → post (nI x) (f_n, f_k, f_met, f_result, f_begun, f_last, a_many, a_op, a_d, a_a, a_b, a_kind, a_used, a_first, a_second, a_living, a_needed, a_rules, a_edges, a_begin, a_now, a_open, a_variable)) (K0 : ∀ (f_met : Int32) (a_rules : Nat → Int32), (∀ x, x < gr_n G → ¬ ip_ G b x) → post (-1) (f_n, f_k, f_met, f_result, f_begun, f_last, a_many, a_op, a_d, a_a, a_b, a_kind, a_used, a_first, a_second, a_living, a_needed, a_rules, a_edges, a_begin, a_now, a_open, a_variable)) : wpY_parent post (f_n, f_k, f_met, f_result, f_begun, f_last, a_many, a_op, a_d, a_a, a_b, a_kind, a_used, a_first, a_second, a_living, a_needed, a_rules, a_edges, a_begin, a_now, a_open, a_variable) b := by
  have hn16 := Y.1.1
  unfold wpY_parent
  exact yl_look Y (fun f_met a_rules hl => ⟨17, yq_6 Y hl (fun x hx h => K1 f_met a_rules x hx h) (fun h => K0 f_met a_rules h) 17 0 (by omega) (by omega) (fun z hz => by omega)⟩)
/-- the frontier of a raw number -/
def yf_ (G : gr_T) (b : Int32) (y : Nat) : Prop := ∃ j, j < gr_n G ∧ b = nI j ∧ gr_F G j y
theorem ye_37 {post : Int32 → Prop} {b : Int32} (Y : yp_ok G f_n f_k a_many a_op a_d a_a a_b a_kind a_used a_first a_second) (hl : yl_ok G f_met a_rules) (S : Nat → Prop) (K : ∀ s : Int32, (∀ y, bt s y = true ↔ (S y ∧ ¬ (y < gr_n G ∧ nI y ≠ b ∧ yi_D G b (nI y)))) → post s) :
    ∀ n i (s : Int32), gr_n G < n + i → i ≤ gr_n G → (∀ y, bt s y = true ↔ (S y ∧ ¬ (y < i ∧ nI y ≠ b ∧ yi_D G b (nI y)))) → wY_edge_37 post b f_n f_k f_met f_result f_begun f_last a_many a_op a_d a_a a_b a_kind a_used a_first a_second a_living a_needed a_rules a_edges a_begin a_now a_open a_variable n s (nI i) := by
  have hn16 := Y.1.1
  intro n
  induction n with
  | zero => intro i s h1 h2; omega
  | succ n ih =>
    intro i s h1 h2 hs
    rw [wY_edge_37]
    have skip : ¬ (nI i ≠ b ∧ yi_D G b (nI i)) → ∀ y, bt s y = true ↔ (S y ∧ ¬ (y < i + 1 ∧ nI y ≠ b ∧ yi_D G b (nI y))) := by
      intro hno y
      rw [hs y]
      refine ⟨fun z => ⟨z.1, fun w => ?_⟩, fun z => ⟨z.1, fun w => z.2 ⟨by omega, w.2⟩⟩⟩
      by_cases e : y = i
      · rw [e] at w; exact hno w.2
      · exact z.2 ⟨by omega, w.2⟩
    refine pk_le (gr_n G) i (fun h => ?_) (fun h => ?_) Y.2.1
    · have e : i = gr_n G := by omega
      subst e
      exact K s hs
    · refine br_c (fun e => ?_) (fun e => yi_is Y hl (fun hD => ?_) (fun hD => ?_))
      · exact nm_r (nI_1 i) (ih (i + 1) s (by omega) (by omega) (skip (fun z => z.1 e)))
      · exact br_t rfl (nm_r (nI_1 i) (ih (i + 1) s (by omega) (by omega) (skip (fun z => hD z.2))))
      · refine br_f (by decide) (nm_e (nm_r (nI_1 i) (ih (i + 1) _ (by omega) (by omega) (fun y => ?_))))
        rcases Nat.lt_or_ge y 32 with z | z
        · rw [fb_not1 _ (by omega) z, Bool.and_eq_true, hs y, Bool.not_eq_true', decide_eq_false_iff_not]
          constructor
          · rintro ⟨⟨q1, q2⟩, q3⟩
            exact ⟨q1, fun w => q2 ⟨by omega, w.2⟩⟩
          · rintro ⟨q1, q2⟩
            refine ⟨⟨q1, fun w => q2 ⟨by omega, w.2⟩⟩, fun e' => q2 ⟨by omega, ?_⟩⟩
            rw [e']
            exact ⟨e, hD⟩
        · rw [b_big z]
          refine ⟨fun w => absurd w (by decide), fun w => ?_⟩
          have := (hs y).mpr ⟨w.1, fun q => by omega⟩
          rw [b_big z] at this
          exact this
theorem ye_4 {post : Int32 → Prop} {b : Int32} (Y : yp_ok G f_n f_k a_many a_op a_d a_a a_b a_kind a_used a_first a_second) (hl : yl_ok G f_met a_rules) (K : ∀ s : Int32, (∀ y, bt s y = true ↔ yf_ G b y) → post s) :
    ∀ n i (s : Int32), gr_n G < n + i → i ≤ gr_n G → (∀ y, bt s y = true ↔ ∃ x, x < i ∧ yi_D G b (nI x) ∧ gr_E G x y) → wY_edge_4 post b f_n f_k f_met f_result f_begun f_last a_many a_op a_d a_a a_b a_kind a_used a_first a_second a_living a_needed a_rules a_edges a_begin a_now a_open a_variable n s (nI i) := by
  have ok := Y.1
  have hn16 := ok.1
  intro n
  induction n with
  | zero => intro i s h1 h2; omega
  | succ n ih =>
    intro i s h1 h2 hs
    rw [wY_edge_4]
    refine pk_le (gr_n G) i (fun h => ?_) (fun h => ?_) Y.2.1
    · refine ⟨17, ye_37 Y hl (fun y => ∃ x, x < i ∧ yi_D G b (nI x) ∧ gr_E G x y) (fun s hs' => K s (fun y => (hs' y).trans ?_)) 17 0 s (by omega) (by omega) (fun y => (hs y).trans ⟨fun z => ⟨z, fun w => by omega⟩, fun z => z.1⟩)⟩
      constructor
      · rintro ⟨⟨x, hx, ⟨j, x', hj, hx', e1, e2, hD⟩, he⟩, hn⟩
        have ex : x = x' := fn_inj (by omega) (by omega) e2
        subst ex
        refine ⟨j, hj, e1, ⟨x, hD, he⟩, fun z => hn ⟨(gr_Elt ok he).2.1, ?_, ?_⟩⟩
        · intro w
          rw [e1] at w
          have hy := (gr_Elt ok he).2.1
          exact z.1 (fn_inj (by omega) (by omega) w)
        · rw [e1]
          exact (yi_n ok hj (gr_Elt ok he).2.1).mpr z.2
      · rintro ⟨j, hj, e1, ⟨x, hD, he⟩, hn⟩
        have hxn := (gr_Elt ok he).1
        refine ⟨⟨x, by omega, by rw [e1]; exact (yi_n ok hj hxn).mpr hD, he⟩, fun z => hn ⟨fun w => z.2.1 (by rw [w, e1]), ?_⟩⟩
        have := z.2.2
        rw [e1] at this
        exact (yi_n ok hj z.1).mp this
    · refine yi_is Y hl (fun hD => ?_) (fun hD => ?_)
      · refine br_t rfl (nm_r (nI_1 i) (ih (i + 1) s (by omega) (by omega) (fun y => (hs y).trans ?_)))
        constructor
        · rintro ⟨x, hx, z⟩
          exact ⟨x, by omega, z⟩
        · rintro ⟨x, hx, z⟩
          refine ⟨x, ?_, z⟩
          by_cases e : x = i
          · rw [e] at z; exact absurd z.1 hD
          · omega
      · refine br_f (by decide) (yn_next Y h (fun r hr => nm_e (nm_r (nI_1 i) (ih (i + 1) _ (by omega) (by omega) (fun y => ?_)))))
        rw [b_or, Bool.or_eq_true, hs y, hr y]
        constructor
        · rintro (⟨x, hx, z⟩ | z)
          · exact ⟨x, by omega, z⟩
          · exact ⟨i, by omega, hD, z⟩
        · rintro ⟨x, hx, z⟩
          by_cases e : x = i
          · rw [e] at z; exact Or.inr z.2
          · exact Or.inl ⟨x, by omega, z⟩
theorem ye_edge {post : Int32 → Prop} {b : Int32} (Y : yp_ok G f_n f_k a_many a_op a_d a_a a_b a_kind a_used a_first a_second) (hl : yl_ok G f_met a_rules) (K : ∀ s : Int32, (∀ y, bt s y = true ↔ yf_ G b y) → post s) : wpY_edge post (f_n, f_k, f_met, f_result, f_begun, f_last, a_many, a_op, a_d, a_a, a_b, a_kind, a_used, a_first, a_second, a_living, a_needed, a_rules, a_edges, a_begin, a_now, a_open, a_variable) b := by
  have hn16 := Y.1.1
  show ∃ n4 : Nat, wY_edge_4 post b f_n f_k f_met f_result f_begun f_last a_many a_op a_d a_a a_b a_kind a_used a_first a_second a_living a_needed a_rules a_edges a_begin a_now a_open a_variable n4 0 0
  exact ⟨17, ye_4 Y hl K 17 0 0 (by omega) (by omega) (fun y => by rw [b_0]; exact ⟨fun z => absurd z (by decide), fun ⟨x, hx, _⟩ => by omega⟩)⟩
theorem ye_frontier {post : Int32 → SY → Prop} {b : Int32} (Y : yp_ok G f_n f_k a_many a_op a_d a_a a_b a_kind a_used a_first a_second) (K : ∀ (f_met : Int32) (a_rules : Nat → Int32) (s : Int32), (∀ y, bt s y = true ↔ yf_ G b y) → post s (f_n, f_k, f_met, f_result, f_begun, f_last, a_many, a_op, a_d, a_a, a_b, a_kind, a_used, a_first, a_second, a_living, a_needed, a_rules, a_edges, a_begin, a_now, a_open, a_variable)) : wpY_frontier post (f_n, f_k, f_met, f_result, f_begun, f_last, a_many, a_op, a_d, a_a, a_b, a_kind, a_used, a_first, a_second, a_living, a_needed, a_rules, a_edges, a_begin, a_now, a_open, a_variable) b := by
  unfold wpY_frontier
  exact yl_look Y (fun f_met a_rules hl => ye_edge Y hl (fun s hs => K f_met a_rules s hs))
theorem yd_dominates {post : Int32 → SY → Prop} {a b : Int32} (Y : yp_ok G f_n f_k a_many a_op a_d a_a a_b a_kind a_used a_first a_second) (K0 : ∀ (f_met : Int32) (a_rules : Nat → Int32), ¬ yi_D G a b → post 0 (f_n, f_k, f_met, f_result, f_begun, f_last, a_many, a_op, a_d, a_a, a_b, a_kind, a_used, a_first, a_second, a_living, a_needed, a_rules, a_edges, a_begin, a_now, a_open, a_variable)) (K1 : ∀ (f_met : Int32) (a_rules : Nat → Int32), yi_D G a b → post 1 (f_n, f_k, f_met, f_result, f_begun, f_last, a_many, a_op, a_d, a_a, a_b, a_kind, a_used, a_first, a_second, a_living, a_needed, a_rules, a_edges, a_begin, a_now, a_open, a_variable)) : wpY_dominates post (f_n, f_k, f_met, f_result, f_begun, f_last, a_many, a_op, a_d, a_a, a_b, a_kind, a_used, a_first, a_second, a_living, a_needed, a_rules, a_edges, a_begin, a_now, a_open, a_variable) a b := by
  unfold wpY_dominates
  exact yl_look Y (fun f_met a_rules hl => yi_is Y hl (fun h => ⟨rfl, K0 f_met a_rules h⟩) (fun h => ⟨rfl, K1 f_met a_rules h⟩))
theorem ys_4 {post : Int32 → Prop} {x v : Nat} (Y : yp_ok G f_n f_k a_many a_op a_d a_a a_b a_kind a_used a_first a_second) (hx : x < gr_n G) (hv : v < 6) (K1 : gr_st G x v → post 1) (K0 : ¬ gr_st G x v → post 0) :
    ∀ n i, gr_mn G x < n + i → i ≤ gr_mn G x → (∀ j, j < i → gr_dd G (4 * x + j) ≠ v) → wY_sets_4 post (nI x) (nI v) f_n f_k f_met f_result f_begun f_last a_many a_op a_d a_a a_b a_kind a_used a_first a_second a_living a_needed a_rules a_edges a_begin a_now a_open a_variable n (nI (4 * x + i)) := by
  have ok := Y.1
  have hn16 := ok.1
  have h4 := (ok.2.2 x hx).1
  intro n
  induction n with
  | zero => intro i h1 h2; omega
  | succ n ih =>
    intro i h1 h2 hno
    rw [wY_sets_4]
    dsimp only
    rw [fn_c (a := x) (by omega), Y.2.2.2.1 x hx, fn_42]
    refine ⟨vp_in_nI (by omega) (by omega), pk_le (4 * x + gr_mn G x) (4 * x + i) (fun h => K0 (fun ⟨j, hj, e⟩ => hno j (by omega) e)) (fun h => ?_)⟩
    have hi : i < gr_mn G x := by omega
    have hd := ((ok.2.2 x hx).2.2.2.2 i hi).2.1
    rw [fn_c (a := 4 * x + i) (by omega), (Y.2.2.2.2.2.2.2 x i hx hi).2.1]
    refine ⟨vp_in_nI (by omega) (by omega), pk_eq (gr_dd G (4 * x + i)) v (fun e => K1 ⟨i, hi, e⟩) (fun e => nm_r (nI_1 _) (ih (i + 1) (by omega) (by omega) (fun j hj => ?_)))⟩
    by_cases c : j = i
    · rw [c]; exact e
    · exact hno j (by omega)
theorem ys_sets {post : Int32 → Prop} {x v : Nat} (Y : yp_ok G f_n f_k a_many a_op a_d a_a a_b a_kind a_used a_first a_second) (hx : x < gr_n G) (hv : v < 6) (K1 : gr_st G x v → post 1) (K0 : ¬ gr_st G x v → post 0) : wpY_sets post (f_n, f_k, f_met, f_result, f_begun, f_last, a_many, a_op, a_d, a_a, a_b, a_kind, a_used, a_first, a_second, a_living, a_needed, a_rules, a_edges, a_begin, a_now, a_open, a_variable) (nI x) (nI v) := by
  have hn16 := Y.1.1
  have h4 := (Y.1.2.2 x hx).1
  unfold wpY_sets
  exact nm_r (e' := nI (4 * x + 0)) (by rw [fn_4]; rfl) ⟨5, ys_4 Y hx hv K1 K0 5 0 (by omega) (by omega) (fun j hj => by omega)⟩
/-! merges -/
theorem yg_119 {post : Int32 → SY → Prop} {J48 J105 : Int32 → Int32 → Prop} {x1 x2 x3 bf : Int32} (Y : yp_ok G f_n f_k a_many a_op a_d a_a a_b a_kind a_used a_first a_second) (hE : ∀ x, x < gr_n G → ∀ y, bt (a_edges x) y = true ↔ gr_F G x y) (K : ∀ s : Int32, (∀ y, bt s y = true ↔ (bt bf y = true ∨ ∃ x, bt bf x = true ∧ gr_F G x y)) → J105 s bf) :
    ∀ n i (s : Int32), gr_n G < n + i → i ≤ gr_n G → (∀ y, bt s y = true ↔ (bt bf y = true ∨ ∃ x, x < i ∧ bt bf x = true ∧ gr_F G x y)) → wY_merges_119 post J48 J105 x1 x2 x3 bf f_n f_k f_met f_result f_begun f_last a_many a_op a_d a_a a_b a_kind a_used a_first a_second a_living a_needed a_rules a_edges a_begin a_now a_open a_variable n s (nI i) := by
  have ok := Y.1
  have hn16 := ok.1
  intro n
  induction n with
  | zero => intro i s h1 h2; omega
  | succ n ih =>
    intro i s h1 h2 hs
    rw [wY_merges_119]
    refine pk_le (gr_n G) i (fun h => K s (fun y => (hs y).trans ?_)) (fun h => ?_) Y.2.1
    · constructor
      · rintro (z | ⟨x, _, z⟩)
        · exact Or.inl z
        · exact Or.inr ⟨x, z⟩
      · rintro (z | ⟨x, z1, z2⟩)
        · exact Or.inl z
        · have := gr_Mlt ok (dt_FM z2).1
          exact Or.inr ⟨x, by omega, z1, z2⟩
    · refine fb_0 (by omega) (fun hb => ?_) (fun hb => ?_)
      · refine nm_r (nI_1 i) (ih (i + 1) s (by omega) (by omega) (fun y => (hs y).trans ?_))
        constructor
        · rintro (z | ⟨x, hx, z⟩)
          · exact Or.inl z
          · exact Or.inr ⟨x, by omega, z⟩
        · rintro (z | ⟨x, hx, z⟩)
          · exact Or.inl z
          · refine Or.inr ⟨x, ?_, z⟩
            by_cases e : x = i
            · rw [e, hb] at z; exact absurd z.1 (by decide)
            · omega
      · rw [fn_c (a := i) (by omega)]
        refine ⟨vp_in_nI (by omega) (by omega), nm_e (nm_r (nI_1 i) (ih (i + 1) _ (by omega) (by omega) (fun y => ?_)))⟩
        rw [b_or, Bool.or_eq_true, hs y, hE i h y]
        constructor
        · rintro ((z | ⟨x, hx, z⟩) | z)
          · exact Or.inl z
          · exact Or.inr ⟨x, by omega, z⟩
          · exact Or.inr ⟨i, by omega, hb, z⟩
        · rintro (z | ⟨x, hx, z⟩)
          · exact Or.inl (Or.inl z)
          · by_cases e : x = i
            · rw [e] at z; exact Or.inr z.2
            · exact Or.inl (Or.inr ⟨x, by omega, z⟩)
theorem yg_105 {post : Int32 → SY → Prop} {J48 : Int32 → Int32 → Prop} {x2 : Int32} {b v : Nat} (Y : yp_ok G f_n f_k a_many a_op a_d a_a a_b a_kind a_used a_first a_second) (hE : ∀ x, x < gr_n G → ∀ y, bt (a_edges x) y = true ↔ gr_F G x y) (hb : b < gr_n G) (K0 : ¬ gr_J G v b → J48 x2 (nI (v + 1))) (K1 : gr_J G v b → J48 (x2 ||| ((1 : Int32) <<< (nI v &&& 31))) (nI (v + 1))) :
    ∀ n (s bf : Int32), yc_mu bf < n → fb_16 s → fb_16 bf → (∀ y, bt s y = true → gr_J G v y) → (∀ x y, (x = 0 ∨ gr_st G x v) → gr_F G x y → bt s y = true) → (∀ y, bt bf y = true → bt s y = true) → (∀ x y, bt bf x = true → gr_F G x y → bt s y = true) → wY_merges_105 post J48 (nI b) x2 (nI v) f_n f_k f_met f_result f_begun f_last a_many a_op a_d a_a a_b a_kind a_used a_first a_second a_living a_needed a_rules a_edges a_begin a_now a_open a_variable n s bf := by
  have ok := Y.1
  have hn16 := ok.1
  intro n
  induction n with
  | zero => intro s bf h; omega
  | succ n ih =>
    intro s bf hmu h16 hb16 h1 h2 h3 h4
    rw [wY_merges_105]
    by_cases e : s = bf
    · have hJ : ∀ y, bt s y = true ↔ gr_J G v y := by
        intro y
        refine ⟨h1 y, fun hJ => hJ (fun y => bt s y = true) (fun x y hx hF => ?_)⟩
        rcases hx with z | z | z
        · exact h2 x y (Or.inl z) hF
        · exact h2 x y (Or.inr z) hF
        · exact h4 x y (by rw [← e]; exact z) hF
      refine br_t e (fb_0 (by omega) (fun z => nm_r (nI_1 v) (K0 (fun w => ?_))) (fun z => nm_e (nm_r (nI_1 v) (K1 ((hJ b).mp z)))))
      rw [(hJ b).mpr w] at z
      exact absurd z (by decide)
    · have hlt := yc_mus h3 hb16 h16 e
      refine br_f e ⟨17, yg_119 Y hE (fun s' hs' => ih s' s (by omega) (fun y hy => ?_) h16 (fun y hy => ?_) (fun x y hx hF => (hs' y).mpr (Or.inl (h2 x y hx hF))) (fun y hy => (hs' y).mpr (Or.inl hy)) (fun x y hx hF => (hs' y).mpr (Or.inr ⟨x, hx, hF⟩))) 17 0 s (by omega) (by omega) (fun y => ⟨Or.inl, fun z => z.elim id (fun ⟨x, hx, _⟩ => by omega)⟩)⟩
      · cases z : bt s' y with
        | false => rfl
        | true =>
          rcases (hs' y).mp z with w | ⟨x, _, w⟩
          · rw [h16 y hy] at w; exact absurd w (by decide)
          · have := gr_Mlt ok (dt_FM w).2; omega
      · rcases (hs' y).mp hy with w | ⟨x, w1, w2⟩
        · exact h1 y w
        · exact gr_Js (Or.inr (Or.inr (h1 x w1))) w2
theorem yg_65 {post : Int32 → SY → Prop} {J48 : Int32 → Int32 → Prop} {x2 : Int32} {b v : Nat} (Y : yp_ok G f_n f_k a_many a_op a_d a_a a_b a_kind a_used a_first a_second) (hE : ∀ x, x < gr_n G → ∀ y, bt (a_edges x) y = true ↔ gr_F G x y) (hb : b < gr_n G) (hv : v < 6) (K0 : ¬ gr_J G v b → J48 x2 (nI (v + 1))) (K1 : gr_J G v b → J48 (x2 ||| ((1 : Int32) <<< (nI v &&& 31))) (nI (v + 1))) :
    ∀ n i (s : Int32), gr_n G < n + i → i ≤ gr_n G → (∀ y, bt s y = true ↔ ∃ x, (x = 0 ∨ (x < i ∧ gr_st G x v)) ∧ gr_F G x y) → wY_merges_65 post J48 (nI b) x2 (nI v) f_n f_k f_met f_result f_begun f_last a_many a_op a_d a_a a_b a_kind a_used a_first a_second a_living a_needed a_rules a_edges a_begin a_now a_open a_variable n s (nI i) := by
  have ok := Y.1
  have hn16 := ok.1
  intro n
  induction n with
  | zero => intro i s h1 h2; omega
  | succ n ih =>
    intro i s h1 h2 hs
    rw [wY_merges_65]
    refine pk_le (gr_n G) i (fun h => ?_) (fun h => ?_) Y.2.1
    · have fuel : yc_mu 0 < 17 := by
        have : yc_mu 0 ≤ 1 * 16 := sg_b (fun i _ => b01_1 _)
        omega
      refine ⟨17, yg_105 Y hE hb K0 K1 17 s 0 fuel (fun y hy => ?_) fb_160 (fun y hy => ?_) (fun x y hx hF => (hs y).mpr ⟨x, ?_, hF⟩) (fun y hy => by rw [b_0] at hy; exact absurd hy (by decide)) (fun x y hx => by rw [b_0] at hx; exact absurd hx (by decide))⟩
      · cases z : bt s y with
        | false => rfl
        | true =>
          obtain ⟨x, _, w⟩ := (hs y).mp z
          have := gr_Mlt ok (dt_FM w).2
          omega
      · obtain ⟨x, hx, w⟩ := (hs y).mp hy
        exact gr_Js (hx.elim Or.inl (fun q => Or.inr (Or.inl q.2))) w
      · have := gr_Mlt ok (dt_FM hF).1
        exact hx.elim Or.inl (fun q => Or.inr ⟨by omega, q⟩)
    · refine ys_sets Y h hv (fun hst => ?_) (fun hst => ?_)
      · rw [fn_c (a := i) (by omega)]
        refine br_f (by decide) ⟨vp_in_nI (by omega) (by omega), nm_e (nm_r (nI_1 i) (ih (i + 1) _ (by omega) (by omega) (fun y => ?_)))⟩
        rw [b_or, Bool.or_eq_true, hs y, hE i h y]
        constructor
        · rintro (⟨x, hx, z⟩ | z)
          · exact ⟨x, hx.elim Or.inl (fun q => Or.inr ⟨by omega, q.2⟩), z⟩
          · exact ⟨i, Or.inr ⟨by omega, hst⟩, z⟩
        · rintro ⟨x, hx, z⟩
          rcases hx with q | q
          · exact Or.inl ⟨x, Or.inl q, z⟩
          · by_cases e : x = i
            · rw [e] at z; exact Or.inr z
            · exact Or.inl ⟨x, Or.inr ⟨by omega, q.2⟩, z⟩
      · refine br_t rfl (nm_r (nI_1 i) (ih (i + 1) s (by omega) (by omega) (fun y => (hs y).trans ?_)))
        constructor
        · rintro ⟨x, hx, z⟩
          exact ⟨x, hx.elim Or.inl (fun q => Or.inr ⟨by omega, q.2⟩), z⟩
        · rintro ⟨x, hx, z⟩
          refine ⟨x, hx.elim Or.inl (fun q => Or.inr ⟨?_, q.2⟩), z⟩
          by_cases e : x = i
          · rw [e] at q; exact absurd q.2 hst
          · omega
theorem yg_48 {post : Int32 → SY → Prop} {b : Nat} (Y : yp_ok G f_n f_k a_many a_op a_d a_a a_b a_kind a_used a_first a_second) (hE : ∀ x, x < gr_n G → ∀ y, bt (a_edges x) y = true ↔ gr_F G x y) (hb : b < gr_n G) (K : ∀ s : Int32, (∀ j, bt s j = true ↔ (j < 6 ∧ gr_J G j b)) → post s (f_n, f_k, f_met, f_result, f_begun, f_last, a_many, a_op, a_d, a_a, a_b, a_kind, a_used, a_first, a_second, a_living, a_needed, a_rules, a_edges, a_begin, a_now, a_open, a_variable)) :
    ∀ n v (s : Int32), 6 < n + v → v ≤ 6 → (∀ j, bt s j = true ↔ (j < v ∧ gr_J G j b)) → wY_merges_48 post (nI b) f_n f_k f_met f_result f_begun f_last a_many a_op a_d a_a a_b a_kind a_used a_first a_second a_living a_needed a_rules a_edges a_begin a_now a_open a_variable n s (nI v) := by
  have ok := Y.1
  have hn16 := ok.1
  intro n
  induction n with
  | zero => intro v s h1 h2; omega
  | succ n ih =>
    intro v s h1 h2 hs
    rw [wY_merges_48]
    refine pk_le 6 v (fun h => ?_) (fun h => ?_)
    · have e : v = 6 := by omega
      subst e
      exact K s hs
    · refine nm_e ⟨17, yg_65 Y hE hb h (fun hJ => ih (v + 1) s (by omega) (by omega) (fun j => (hs j).trans ?_)) (fun hJ => ih (v + 1) _ (by omega) (by omega) (fun j => ?_)) 17 0 _ (by omega) (by omega) (fun y => (hE 0 (by omega) y).trans ?_)⟩
      · constructor
        · rintro ⟨z1, z2⟩
          exact ⟨by omega, z2⟩
        · rintro ⟨z1, z2⟩
          refine ⟨?_, z2⟩
          by_cases e : j = v
          · rw [e] at z2; exact absurd z2 hJ
          · omega
      · rcases Nat.lt_or_ge j 32 with z | z
        · rw [fb_or1 _ (by omega) z, Bool.or_eq_true, hs j, decide_eq_true_iff]
          constructor
          · rintro (⟨z1, z2⟩ | z1)
            · exact ⟨by omega, z2⟩
            · rw [z1]; exact ⟨by omega, hJ⟩
          · rintro ⟨z1, z2⟩
            by_cases e : j = v
            · exact Or.inr e
            · exact Or.inl ⟨by omega, z2⟩
        · rw [b_big z]
          exact ⟨fun w => absurd w (by decide), fun w => by omega⟩
      · constructor
        · intro z
          exact ⟨0, Or.inl rfl, z⟩
        · rintro ⟨x, hx, z⟩
          rcases hx with q | q
          · rw [q] at z; exact z
          · omega
theorem yg_19 {post : Int32 → SY → Prop} {b : Nat} (Y : yp_ok G f_n f_k a_many a_op a_d a_a a_b a_kind a_used a_first a_second) (hl : yl_ok G f_met a_rules) (hb : b < gr_n G) (K : ∀ (a_edges : Nat → Int32) (s : Int32), (∀ j, bt s j = true ↔ (j < 6 ∧ gr_J G j b)) → post s (f_n, f_k, f_met, f_result, f_begun, f_last, a_many, a_op, a_d, a_a, a_b, a_kind, a_used, a_first, a_second, a_living, a_needed, a_rules, a_edges, a_begin, a_now, a_open, a_variable)) :
    ∀ n i (a_edges : Nat → Int32), gr_n G < n + i → i ≤ gr_n G → (∀ x, x < i → ∀ y, bt (a_edges x) y = true ↔ gr_F G x y) → wY_merges_19 post (nI b) f_n f_k f_met f_result f_begun f_last n (nI i) a_many a_op a_d a_a a_b a_kind a_used a_first a_second a_living a_needed a_rules a_edges a_begin a_now a_open a_variable := by
  have ok := Y.1
  have hn16 := ok.1
  intro n
  induction n with
  | zero => intro i _ h1 h2; omega
  | succ n ih =>
    intro i a_edges h1 h2 hE
    rw [wY_merges_19]
    refine pk_le (gr_n G) i (fun h => ?_) (fun h => ?_) Y.2.1
    · exact ⟨7, yg_48 Y (fun x hx => hE x (by omega)) hb (fun s hs => K a_edges s hs) 7 0 0 (by omega) (by omega) (fun j => by rw [b_0]; exact ⟨fun z => absurd z (by decide), fun z => by omega⟩)⟩
    · refine ye_edge Y hl (fun s hs => ?_)
      rw [fn_c (a := i) (by omega)]
      refine ⟨vp_in_nI (by omega) (by omega), nm_e (nm_r (nI_1 i) (ih (i + 1) _ (by omega) (by omega) (fun x hx y => ?_)))⟩
      by_cases e : x = i
      · rw [e, pk_us, hs y]
        constructor
        · rintro ⟨j, hj, ej, hF⟩
          rw [fn_inj (by omega) (by omega) ej]
          exact hF
        · intro hF
          exact ⟨i, h, rfl, hF⟩
      · rw [pk_un e]; exact hE x (by omega) y
theorem yg_merges {post : Int32 → SY → Prop} {b : Int32} (Y : yp_ok G f_n f_k a_many a_op a_d a_a a_b a_kind a_used a_first a_second) (K0 : (∀ j, j < gr_n G → b ≠ nI j) → post 0 (f_n, f_k, f_met, f_result, f_begun, f_last, a_many, a_op, a_d, a_a, a_b, a_kind, a_used, a_first, a_second, a_living, a_needed, a_rules, a_edges, a_begin, a_now, a_open, a_variable)) (K : ∀ (f_met : Int32) (a_rules a_edges : Nat → Int32) (s : Int32) (j : Nat), j < gr_n G → b = nI j → (∀ v, bt s v = true ↔ (v < 6 ∧ gr_J G v j)) → post s (f_n, f_k, f_met, f_result, f_begun, f_last, a_many, a_op, a_d, a_a, a_b, a_kind, a_used, a_first, a_second, a_living, a_needed, a_rules, a_edges, a_begin, a_now, a_open, a_variable)) : wpY_merges post (f_n, f_k, f_met, f_result, f_begun, f_last, a_many, a_op, a_d, a_a, a_b, a_kind, a_used, a_first, a_second, a_living, a_needed, a_rules, a_edges, a_begin, a_now, a_open, a_variable) b := by
  have hn16 := Y.1.1
  unfold wpY_merges
  dsimp only
  refine yo_out Y.2.1 (by omega) (fun h => br_f (by decide) (K0 h)) (fun j hj e => br_t rfl ?_)
  subst e
  exact yl_look Y (fun f_met a_rules hl => ⟨17, yg_19 Y hl hj (fun a_edges s hs => K f_met a_rules a_edges s j hj rfl hs) 17 0 a_edges (by omega) (by omega) (fun x hx => by omega)⟩)
/-! depth -/
theorem yh_35 {post : Int32 → SY → Prop} {J21 : Int32 → Int32 → Prop} {b h d : Nat} (Y : yp_ok G f_n f_k a_many a_op a_d a_a a_b a_kind a_used a_first a_second) (hl : yl_ok G f_met a_rules) (hb : b < gr_n G) (hh : h < gr_n G) (hd : d ≤ 16) (K : J21 (nI (d + b01 (gr_L G h b))) (nI (h + 1))) :
    ∀ n i (s : Int32), gr_n G < n + i → i ≤ gr_n G → (∀ x, bt s x = true ↔ (x < i ∧ gr_E G x h ∧ gr_D G h x)) → wY_depth_35 post J21 (nI b) (nI d) (nI h) f_n f_k f_met f_result f_begun f_last a_many a_op a_d a_a a_b a_kind a_used a_first a_second a_living a_needed a_rules a_edges a_begin a_now a_open a_variable n s (nI i) := by
  have ok := Y.1
  have hn16 := ok.1
  have k0 : ¬ gr_L G h b → J21 (nI d) (nI (h + 1)) := fun z => by rw [b01_f z] at K; exact K
  have k1 : gr_L G h b → J21 (nI (d + 1)) (nI (h + 1)) := fun z => by rw [b01_t z] at K; exact K
  intro n
  induction n with
  | zero => intro i s h1 h2; omega
  | succ n ih =>
    intro i s h1 h2 hs
    rw [wY_depth_35]
    refine pk_le (gr_n G) i (fun hc => ?_) (fun hc => ?_) Y.2.1
    · have hs' : ∀ x, bt s x = true ↔ (gr_E G x h ∧ gr_D G h x) := fun x => (hs x).trans ⟨fun z => z.2, fun z => ⟨by have := z.1.1; omega, z⟩⟩
      refine br_c (fun e => nm_r (nI_1 h) (k0 (fun z => ?_))) (fun e => fb_0 (by omega) (fun hm => nm_r (nI_1 h) (k0 (fun z => ?_))) (fun hm => ?_))
      · obtain ⟨_, x, he, hD, _⟩ := z
        have := (hs' x).mpr ⟨he, hD⟩
        rw [e, b_0] at this
        exact absurd this (by decide)
      · rw [(hl.2.1 b).mpr z.1] at hm
        exact absurd hm (by decide)
      · have hM := (hl.2.1 b).mp hm
        have k129 : gr_L G h b → wY_depth_129 post J21 (nI b) (nI d) (nI h) f_n f_k f_met f_result f_begun f_last a_many a_op a_d a_a a_b a_kind a_used a_first a_second a_living a_needed a_rules a_edges a_begin a_now a_open a_variable := by
          intro z
          rw [wY_depth_129, wY_depth_134]
          exact br_f (by decide) (nm_r (nI_1 d) (nm_r (nI_1 h) (k1 z)))
        obtain ⟨x0, hx0, hbx0⟩ := fb_ex e
        have hx0' := (hs' x0).mp hbx0
        refine pk_eq b h (fun ebh => k129 ⟨hM, x0, hx0'.1, hx0'.2, Or.inl ebh⟩) (fun ebh => ?_)
        refine yc_come Y (Pp := fun y => y ≠ h) (Or.inr ⟨h, by omega, rfl, fun y => Iff.rfl⟩) (fun y hy => ?_) (fun r hr16 hrr => ?_)
        · rcases Nat.lt_or_ge y 32 with z | z
          · rw [fb_one _ (by omega) y z, decide_eq_false (by omega)]
          · exact b_big z
        · have hrr' : ∀ y, bt r y = true ↔ gr_R G (fun y => y ≠ h) b y := by
            intro y
            rw [hrr y]
            constructor
            · rintro ⟨q, hq, hR⟩
              have : q = b := by
                rcases Nat.lt_or_ge q 32 with z | z
                · rw [fb_one _ (by omega) q z, decide_eq_true_iff] at hq; exact hq
                · rw [b_big z] at hq; exact absurd hq (by decide)
              rw [this] at hR
              exact hR
            · intro hR
              exact ⟨b, by rw [fb_one _ (by omega) b (by omega), decide_eq_true rfl], hR⟩
          refine br_c (fun e2 => fb_0 (by omega) (fun hbb => ?_) (fun hbb => ?_)) (fun e2 => ?_)
          · rw [wY_depth_134]
            refine br_t rfl (nm_r (nI_1 h) (k0 (fun z => ?_)))
            obtain ⟨_, x, he, hD, hx⟩ := z
            rcases hx with w | w
            · exact ebh w
            · have h5 := (hs' x).mpr ⟨he, hD⟩
              have h6 := (hrr' x).mpr w
              have : bt (r &&& s) x = true := by rw [b_and, h5, h6]; rfl
              rw [e2, b_0] at this
              exact absurd this (by decide)
          · have h5 := (hs' b).mp hbb
            exact k129 ⟨hM, b, h5.1, h5.2, Or.inr (gr_Rrefl ebh)⟩
          · obtain ⟨x, _, hx⟩ := fb_ex e2
            rw [b_and, Bool.and_eq_true] at hx
            have h5 := (hs' x).mp hx.2
            exact k129 ⟨hM, x, h5.1, h5.2, Or.inr ((hrr' x).mp hx.1)⟩
    · refine yn_next Y hc (fun r hr => ?_)
      have skip : ¬ (gr_E G i h ∧ gr_D G h i) → ∀ x, bt s x = true ↔ (x < i + 1 ∧ gr_E G x h ∧ gr_D G h x) := by
        intro hno x
        rw [hs x]
        refine ⟨fun z => ⟨by omega, z.2⟩, fun z => ⟨?_, z.2⟩⟩
        by_cases e : x = i
        · rw [e] at z; exact absurd z.2 hno
        · omega
      refine fb_0 (by omega) (fun hb0 => ?_) (fun hb1 => ?_)
      · refine nm_r (nI_1 i) (ih (i + 1) s (by omega) (by omega) (skip (fun z => ?_)))
        rw [(hr h).mpr z.1] at hb0
        exact absurd hb0 (by decide)
      · have hE := (hr h).mp hb1
        refine yi_is Y hl (fun hD => ?_) (fun hD => ?_)
        · exact br_t rfl (nm_r (nI_1 i) (ih (i + 1) s (by omega) (by omega) (skip (fun z => hD ((yi_n ok hh hc).mpr z.2)))))
        · have hD' := (yi_n ok hh hc).mp hD
          refine br_f (by decide) (nm_e (nm_r (nI_1 i) (ih (i + 1) _ (by omega) (by omega) (fun x => ?_))))
          rcases Nat.lt_or_ge x 32 with z | z
          · rw [fb_or1 _ (by omega) z, Bool.or_eq_true, hs x, decide_eq_true_iff]
            constructor
            · rintro (w | w)
              · exact ⟨by omega, w.2⟩
              · rw [w]; exact ⟨by omega, hE, hD'⟩
            · rintro ⟨w1, w2⟩
              by_cases e : x = i
              · exact Or.inr e
              · exact Or.inl ⟨by omega, w2⟩
          · rw [b_big z]
            exact ⟨fun w => absurd w (by decide), fun w => by omega⟩
theorem yh_21 {post : Int32 → SY → Prop} {b : Nat} (Y : yp_ok G f_n f_k a_many a_op a_d a_a a_b a_kind a_used a_first a_second) (hl : yl_ok G f_met a_rules) (hb : b < gr_n G) (K : post (nI (sg_s (fun h => b01 (gr_L G h b)) (gr_n G))) (f_n, f_k, f_met, f_result, f_begun, f_last, a_many, a_op, a_d, a_a, a_b, a_kind, a_used, a_first, a_second, a_living, a_needed, a_rules, a_edges, a_begin, a_now, a_open, a_variable)) :
    ∀ n h, gr_n G < n + h → h ≤ gr_n G → wY_depth_21 post (nI b) f_n f_k f_met f_result f_begun f_last a_many a_op a_d a_a a_b a_kind a_used a_first a_second a_living a_needed a_rules a_edges a_begin a_now a_open a_variable n (nI (sg_s (fun h => b01 (gr_L G h b)) h)) (nI h) := by
  have hn16 := Y.1.1
  intro n
  induction n with
  | zero => intro h h1 h2; omega
  | succ n ih =>
    intro h h1 h2
    rw [wY_depth_21]
    refine pk_le (gr_n G) h (fun hc => ?_) (fun hc => ?_) Y.2.1
    · have e : h = gr_n G := by omega
      rw [e]
      exact K
    · have hb16 : sg_s (fun h => b01 (gr_L G h b)) h ≤ 1 * h := sg_b (fun i _ => b01_1 _)
      exact ⟨17, yh_35 Y hl hb hc (by omega) (ih (h + 1) (by omega) (by omega)) 17 0 0 (by omega) (by omega) (fun x => by rw [b_0]; exact ⟨fun z => absurd z (by decide), fun z => by omega⟩)⟩
theorem yh_depth {post : Int32 → SY → Prop} {b : Int32} (Y : yp_ok G f_n f_k a_many a_op a_d a_a a_b a_kind a_used a_first a_second) (K0 : (∀ j, j < gr_n G → b ≠ nI j) → post (-1) (f_n, f_k, f_met, f_result, f_begun, f_last, a_many, a_op, a_d, a_a, a_b, a_kind, a_used, a_first, a_second, a_living, a_needed, a_rules, a_edges, a_begin, a_now, a_open, a_variable)) (K : ∀ (f_met : Int32) (a_rules : Nat → Int32) (j : Nat), j < gr_n G → b = nI j → post (nI (sg_s (fun h => b01 (gr_L G h j)) (gr_n G))) (f_n, f_k, f_met, f_result, f_begun, f_last, a_many, a_op, a_d, a_a, a_b, a_kind, a_used, a_first, a_second, a_living, a_needed, a_rules, a_edges, a_begin, a_now, a_open, a_variable)) : wpY_depth post (f_n, f_k, f_met, f_result, f_begun, f_last, a_many, a_op, a_d, a_a, a_b, a_kind, a_used, a_first, a_second, a_living, a_needed, a_rules, a_edges, a_begin, a_now, a_open, a_variable) b := by
  have hn16 := Y.1.1
  unfold wpY_depth
  dsimp only
  refine yo_out Y.2.1 (by omega) (fun h => br_f (by decide) (K0 h)) (fun j hj e => br_t rfl ?_)
  subst e
  exact yl_look Y (fun f_met a_rules hl => ⟨17, yh_21 Y hl hj (K f_met a_rules j hj rfl) 17 0 (by omega) (by omega)⟩)
end
end
section
theorem li_mu2 {G : gr_T} {al : Nat → Int32} {k : Nat} {s : Int32} (hk : k < gr_n G) (hsub : ∀ v, bt (al k) v = true → bt s v = true) (hs6 : ∀ v, bt s v = true → v < 6) (ha6 : ∀ v, bt (al k) v = true → v < 6) (hne : s ≠ al k) : li_m G (upd al k s) < li_m G al := by
  have h1 := sg_up (f := fun x => sg_s (fun v => if bt (upd al k s x) v = false then 1 else 0) 6) (g := fun x => sg_s (fun v => if bt (al x) v = false then 1 else 0) 6) hk (fun i _ hi => by
    show sg_s (fun v => if bt (upd al k s i) v = false then 1 else 0) 6 = _
    rw [pk_un hi])
  obtain ⟨v, hv, h2, h3⟩ : ∃ v, v < 6 ∧ bt s v = true ∧ bt (al k) v = false := by
    refine Classical.byContradiction (fun hn => hne (fb_ext6 hs6 ha6 (fun v hv => ⟨fun h => ?_, hsub v⟩)))
    cases h4 : bt (al k) v with
    | true => rfl
    | false => exact absurd ⟨v, hv, h, h4⟩ hn
  have h5 : sg_s (fun v => if bt (upd al k s k) v = false then 1 else 0) 6 < sg_s (fun v => if bt (al k) v = false then 1 else 0) 6 := by
    rw [pk_us]
    have e1 := sg_up (f := fun w => if w = v then 0 else if bt (al k) w = false then 1 else 0) (g := fun w => if bt (al k) w = false then 1 else 0) hv (fun i _ hi => if_neg hi)
    simp only [if_pos, h3] at e1
    have e2 : sg_s (fun w => if bt s w = false then 1 else 0) 6 ≤ sg_s (fun w => if w = v then 0 else if bt (al k) w = false then 1 else 0) 6 := sg_le (fun i hi => by
      by_cases c : i = v
      · rw [c, h2, if_neg (by decide), if_pos rfl]; exact Nat.le_refl _
      · rw [if_neg c]
        cases h6 : bt (al k) i with
        | true => rw [hsub i h6]; exact Nat.le_refl _
        | false => rw [if_pos rfl]; split <;> omega)
    omega
  unfold li_m
  omega
theorem lb_c {G : gr_T} {L N N' : Nat → Nat → Prop} {x : Nat} (hN : ∀ i, i < gr_mn G x → (N x i ↔ N' x i)) : ∀ d, d ≤ gr_mn G x → ∀ v, lb_ G L N x d v ↔ lb_ G L N' x d v := by
  intro d
  induction d with
  | zero => intro _ v; exact Iff.rfl
  | succ d ih =>
    intro hd v
    show ((N x (gr_mn G x - (d + 1)) ∧ gr_us G (4 * x + (gr_mn G x - (d + 1))) v) ∨ (lb_ G L N x d v ∧ gr_dd G (4 * x + (gr_mn G x - (d + 1))) ≠ v)) ↔ ((N' x (gr_mn G x - (d + 1)) ∧ gr_us G (4 * x + (gr_mn G x - (d + 1))) v) ∨ (lb_ G L N' x d v ∧ gr_dd G (4 * x + (gr_mn G x - (d + 1))) ≠ v))
    rw [hN _ (by omega), ih (by omega) v]
section
variable {f_n f_k f_met f_result f_begun f_last : Int32} {a_many a_op a_d a_a a_b a_kind a_used a_first a_second a_living a_needed a_rules a_edges a_open a_variable : Nat → Int32} {a_begin a_now : Nat → Int64}
variable {G : gr_T}
theorem yu_uses {post : Int32 → Prop} {x i v : Nat} (Y : yp_ok G f_n f_k a_many a_op a_d a_a a_b a_kind a_used a_first a_second) (hx : x < gr_n G) (hi : i < gr_mn G x) (hv : v < 6) (K1 : gr_us G (4 * x + i) v → post 1) (K0 : ¬ gr_us G (4 * x + i) v → post 0) : wpY_uses post (f_n, f_k, f_met, f_result, f_begun, f_last, a_many, a_op, a_d, a_a, a_b, a_kind, a_used, a_first, a_second, a_living, a_needed, a_rules, a_edges, a_begin, a_now, a_open, a_variable) (nI (4 * x + i)) (nI v) := by
  have ok := Y.1
  have hn16 := ok.1
  have h4 := (ok.2.2 x hx).1
  have hI := (ok.2.2 x hx).2.2.2.2 i hi
  have hY := Y.2.2.2.2.2.2.2 x i hx hi
  have hop := hI.1
  have ii : vp_in (nI (4 * x + i)) 64 := vp_in_nI (by omega) (by omega)
  unfold wpY_uses
  dsimp only
  rw [fn_c (a := 4 * x + i) (by omega), hY.1, hY.2.2.1]
  refine ⟨ii, pk_eq (gr_op G (4 * x + i)) 1 (fun h1 => ⟨ii, ?_⟩) (fun h1 => ⟨ii, pk_le (gr_op G (4 * x + i)) 1 (fun h => K0 (fun z => ?_)) (fun h => ⟨ii, pk_le 7 (gr_op G (4 * x + i)) (fun h7 => K0 (fun z => ?_)) (fun h7 => ⟨ii, ?_⟩)⟩)⟩)⟩
  · have ha := hI.2.2.2 (by omega) (by omega)
    have ha2 := ha.2
    rw [ha.1]
    exact pk_eq (gr_av G (4 * x + i)) v (fun e => K1 (Or.inl ⟨h1, e⟩)) (fun e => K0 (fun z => by rcases z with ⟨_, z⟩ | ⟨z, _⟩ <;> omega))
  · rcases z with ⟨z, _⟩ | ⟨z, _⟩ <;> omega
  · rcases z with ⟨z, _⟩ | ⟨_, z, _⟩ <;> omega
  · have ha := hI.2.2.2 (by omega) (by omega)
    have ha2 := ha.2
    have hb := hI.2.2.1
    rw [ha.1, hY.2.2.2 (by omega) (by omega)]
    refine pk_eq (gr_av G (4 * x + i)) v (fun e => K1 (Or.inr ⟨by omega, by omega, Or.inl e⟩)) (fun e => ⟨ii, pk_eq (gr_bb G (4 * x + i)) v (fun e2 => K1 (Or.inr ⟨by omega, by omega, Or.inr e2⟩)) (fun e2 => K0 (fun z => ?_))⟩)
    rcases z with ⟨z, _⟩ | ⟨_, _, z | z⟩ <;> omega
theorem yb_136 {post : Int32 → Prop} {J78 : Int32 → Int32 → Prop} {x1 x2 x3 ct : Int32} {x i : Nat} (Y : yp_ok G f_n f_k a_many a_op a_d a_a a_b a_kind a_used a_first a_second) (hx : x < gr_n G) (hi : i < gr_mn G x) (S : Nat → Prop) (hS : ∀ v, S v → v < 6) (Cn : Prop) (hct : (ct = 0 ∧ ¬ Cn) ∨ (ct = 1 ∧ Cn)) (K : ∀ s : Int32, (∀ v, bt s v = true ↔ (S v ∨ (Cn ∧ gr_us G (4 * x + i) v))) → J78 s (nI i - 1)) :
    ∀ n v (s : Int32), 6 < n + v → v ≤ 6 → (∀ w, bt s w = true ↔ (S w ∨ (w < v ∧ Cn ∧ gr_us G (4 * x + i) w))) → wY_before_136 post J78 x1 x2 x3 (nI i) (nI (4 * x + i)) ct f_n f_k f_met f_result f_begun f_last a_many a_op a_d a_a a_b a_kind a_used a_first a_second a_living a_needed a_rules a_edges a_begin a_now a_open a_variable n s (nI v) := by
  have ok := Y.1
  intro n
  induction n with
  | zero => intro v s h1 h2; omega
  | succ n ih =>
    intro v s h1 h2 hs
    rw [wY_before_136]
    refine pk_le 6 v (fun h => ?_) (fun h => ?_)
    · refine nm_r (fn_sub1 _) (K s (fun w => (hs w).trans ?_))
      constructor
      · rintro (z | z)
        · exact Or.inl z
        · exact Or.inr z.2
      · rintro (z | z)
        · exact Or.inl z
        · have := us_lt ok hx hi z.2
          exact Or.inr ⟨by omega, z⟩
    · rcases hct with ⟨e, hc⟩ | ⟨e, hc⟩
      · refine br_t e (nm_r (fn_sub1 _) (K s (fun w => (hs w).trans ?_)))
        exact ⟨fun z => z.elim Or.inl (fun q => absurd q.2.1 hc), fun z => z.elim Or.inl (fun q => absurd q.1 hc)⟩
      · refine br_f (by rw [e]; decide) (yu_uses Y hx hi h (fun hu => ?_) (fun hu => ?_))
        · refine br_f (by decide) (nm_e (nm_r (nI_1 v) (ih (v + 1) _ (by omega) (by omega) (fun w => ?_))))
          rcases Nat.lt_or_ge w 32 with z | z
          · rw [fb_or1 _ (by omega) z, Bool.or_eq_true, hs w, decide_eq_true_iff]
            constructor
            · rintro ((q | q) | q)
              · exact Or.inl q
              · exact Or.inr ⟨by omega, q.2⟩
              · rw [q]; exact Or.inr ⟨by omega, hc, hu⟩
            · rintro (q | q)
              · exact Or.inl (Or.inl q)
              · by_cases ew : w = v
                · exact Or.inr ew
                · exact Or.inl (Or.inr ⟨by omega, q.2⟩)
          · rw [b_big z]
            exact ⟨fun q => absurd q (by decide), fun q => q.elim (fun q => by have := hS w q; omega) (fun q => by omega)⟩
        · refine br_t rfl (nm_r (nI_1 v) (ih (v + 1) s (by omega) (by omega) (fun w => (hs w).trans ?_)))
          constructor
          · rintro (q | q)
            · exact Or.inl q
            · exact Or.inr ⟨by omega, q.2⟩
          · rintro (q | q)
            · exact Or.inl q
            · refine Or.inr ⟨?_, q.2⟩
              by_cases ew : w = v
              · rw [ew] at q; exact absurd q.2.2 hu
              · omega
theorem yb_78 {post : Int32 → Prop} {x3 : Int32} {x pc : Nat} {Nn : Nat → Nat → Prop} (Y : yp_ok G f_n f_k a_many a_op a_d a_a a_b a_kind a_used a_first a_second) (hx : x < gr_n G) (hpc : pc ≤ gr_mn G x) (hNn : ∀ i, i < gr_mn G x → ((x3 ≠ 0 ∨ bt (a_needed x) i = true) ↔ Nn x i))
    (K : ∀ s : Int32, (∀ v, bt s v = true ↔ (v < 6 ∧ lb_ G (li_S a_living) Nn x (gr_mn G x - pc) v)) → post s) :
    ∀ n i (s : Int32), i < n + pc → pc ≤ i → i ≤ gr_mn G x → (∀ v, bt s v = true ↔ (v < 6 ∧ lb_ G (li_S a_living) Nn x (gr_mn G x - i) v)) → wY_before_78 post (nI x) (nI pc) x3 f_n f_k f_met f_result f_begun f_last a_many a_op a_d a_a a_b a_kind a_used a_first a_second a_living a_needed a_rules a_edges a_begin a_now a_open a_variable n s (nI i - 1) := by
  have ok := Y.1
  have hn16 := ok.1
  have h4 := (ok.2.2 x hx).1
  have ix : vp_in (nI x) 16 := vp_in_nI (by omega) (by omega)
  intro n
  induction n with
  | zero => intro i s h1 h2; omega
  | succ n ih =>
    intro i s h1 h2 h3 hs
    rw [wY_before_78]
    by_cases e : i = pc
    · subst e
      exact br_t (fn_plt (by omega) (by omega)) (K s hs)
    · obtain ⟨j, rfl⟩ : ∃ j, i = j + 1 := ⟨i - 1, by omega⟩
      have hj : j < gr_mn G x := by omega
      have hd := ((ok.2.2 x hx).2.2.2.2 j hj).2.1
      rw [nI_pred]
      refine br_f (nI_nlt (by omega) (by omega)) (nm_r (fn_42 x j) ?_)
      rw [fn_c (a := 4 * x + j) (by omega), (Y.2.2.2.2.2.2.2 x j hx hj).2.1, fn_c (a := x) (by omega)]
      refine ⟨vp_in_nI (by omega) (by omega), nm_e ?_⟩
      have em : gr_mn G x - j = (gr_mn G x - (j + 1)) + 1 := by omega
      have em2 : gr_mn G x - (gr_mn G x - (j + 1) + 1) = j := by omega
      have go : ∀ ct : Int32, ((ct = 0 ∧ ¬ Nn x j) ∨ (ct = 1 ∧ Nn x j)) → ∃ n136 : Nat, wY_before_136 post (wY_before_78 post (nI x) (nI pc) x3 f_n f_k f_met f_result f_begun f_last a_many a_op a_d a_a a_b a_kind a_used a_first a_second a_living a_needed a_rules a_edges a_begin a_now a_open a_variable n) (nI x) (nI pc) x3 (nI j) (nI (4 * x + j)) ct f_n f_k f_met f_result f_begun f_last a_many a_op a_d a_a a_b a_kind a_used a_first a_second a_living a_needed a_rules a_edges a_begin a_now a_open a_variable n136 (s &&& (((1 : Int32) <<< (nI (gr_dd G (4 * x + j)) &&& 31)) ^^^ (-1))) 0 := by
        intro ct hct
        refine ⟨7, yb_136 Y hx hj (fun v => (v < 6 ∧ lb_ G (li_S a_living) Nn x (gr_mn G x - (j + 1)) v) ∧ gr_dd G (4 * x + j) ≠ v) (fun v z => z.1.1) (Nn x j) hct (fun s' hs' => ih j s' (by omega) (by omega) (by omega) (fun v => (hs' v).trans ?_)) 7 0 _ (by omega) (by omega) (fun w => ?_)⟩
        · rw [em]
          show _ ↔ (v < 6 ∧ ((Nn x (gr_mn G x - (gr_mn G x - (j + 1) + 1)) ∧ gr_us G (4 * x + (gr_mn G x - (gr_mn G x - (j + 1) + 1))) v) ∨ (lb_ G (li_S a_living) Nn x (gr_mn G x - (j + 1)) v ∧ gr_dd G (4 * x + (gr_mn G x - (gr_mn G x - (j + 1) + 1))) ≠ v)))
          rw [em2]
          constructor
          · rintro (⟨⟨q1, q2⟩, q3⟩ | q)
            · exact ⟨q1, Or.inr ⟨q2, q3⟩⟩
            · exact ⟨us_lt ok hx hj q.2, Or.inl q⟩
          · rintro ⟨q1, q2 | q2⟩
            · exact Or.inr q2
            · exact Or.inl ⟨⟨q1, q2.1⟩, q2.2⟩
        · rcases Nat.lt_or_ge w 32 with z | z
          · rw [fb_not1 _ (by omega) z, Bool.and_eq_true, hs w, Bool.not_eq_true', decide_eq_false_iff_not]
            constructor
            · rintro ⟨q1, q2⟩
              exact Or.inl ⟨q1, fun q => q2 q.symm⟩
            · rintro (q | q)
              · exact ⟨q.1, fun q' => q.2 q'.symm⟩
              · omega
          · rw [b_big z]
            exact ⟨fun q => absurd q (by decide), fun q => q.elim (fun q => by have := q.1.1; omega) (fun q => by omega)⟩
      refine br_c (fun e3 => ⟨ix, fb_0 (by omega) (fun hb => go 0 (Or.inl ⟨rfl, fun z => ?_⟩)) (fun hb => go 1 (Or.inr ⟨rfl, (hNn j hj).mp (Or.inr hb)⟩))⟩) (fun e3 => go 1 (Or.inr ⟨rfl, (hNn j hj).mp (Or.inl e3)⟩))
      rcases (hNn j hj).mpr z with q | q
      · exact q e3
      · rw [q] at hb; exact absurd hb (by decide)
theorem yb_6 {post : Int32 → Prop} {x3 : Int32} {x pc : Nat} {Nn : Nat → Nat → Prop} (Y : yp_ok G f_n f_k a_many a_op a_d a_a a_b a_kind a_used a_first a_second) (hx : x < gr_n G) (hpc : pc ≤ gr_mn G x) (hNn : ∀ i, i < gr_mn G x → ((x3 ≠ 0 ∨ bt (a_needed x) i = true) ↔ Nn x i)) (h6 : ∀ y, y < gr_n G → ∀ v, bt (a_living y) v = true → v < 6)
    (K : ∀ s : Int32, (∀ v, bt s v = true ↔ (v < 6 ∧ lb_ G (li_S a_living) Nn x (gr_mn G x - pc) v)) → post s) :
    ∀ n i (s : Int32), gr_n G < n + i → i ≤ gr_n G → (∀ v, bt s v = true ↔ ∃ y, y < i ∧ gr_E G x y ∧ bt (a_living y) v = true) → wY_before_6 post (nI x) (nI pc) x3 f_n f_k f_met f_result f_begun f_last a_many a_op a_d a_a a_b a_kind a_used a_first a_second a_living a_needed a_rules a_edges a_begin a_now a_open a_variable n s (nI i) := by
  have ok := Y.1
  have hn16 := ok.1
  have hB := ok.2.2 x hx
  have h4 := hB.1
  have hak := hB.2.2.1
  have hkd := hB.2.1
  have ix : vp_in (nI x) 16 := vp_in_nI (by omega) (by omega)
  intro n
  induction n with
  | zero => intro i s h1 h2; omega
  | succ n ih =>
    intro i s h1 h2 hs
    rw [wY_before_6]
    refine pk_le (gr_n G) i (fun h => ?_) (fun h => ?_) Y.2.1
    · have hs' : ∀ v, bt s v = true ↔ (v < 6 ∧ ∃ y, gr_E G x y ∧ li_S a_living y v) := by
        intro v
        rw [hs v]
        constructor
        · rintro ⟨y, q1, q2, q3⟩
          exact ⟨h6 y (by omega) v q3, y, q2, q3⟩
        · rintro ⟨_, y, q2, q3⟩
          exact ⟨y, by have := (gr_Elt ok q2).2.1; omega, q2, q3⟩
      rw [fn_c (a := x) (by omega), Y.2.2.2.1 x hx]
      have hU := Y.2.2.2.2.2.1 x hx
      refine ⟨ix, ?_⟩
      by_cases k1 : gr_kd G x = 1
      · rw [hU.1 k1]
        refine br_t (by decide) ⟨ix, nm_e ⟨5, yb_78 Y hx hpc hNn K 5 (gr_mn G x) s (by omega) hpc (by omega) (fun v => (hs' v).trans ?_)⟩⟩
        rw [Nat.sub_self]
        show _ ↔ (v < 6 ∧ ((∃ y, gr_E G x y ∧ li_S a_living y v) ∨ (gr_kd G x ≠ 1 ∧ gr_ak G x = v)))
        exact ⟨fun z => ⟨z.1, Or.inl z.2⟩, fun z => ⟨z.1, z.2.elim id (fun q => absurd k1 q.1)⟩⟩
      · rw [hU.2 k1]
        refine br_f (nI_pos (by omega)) ⟨ix, nm_e ⟨ix, nm_e ⟨5, yb_78 Y hx hpc hNn K 5 (gr_mn G x) _ (by omega) hpc (by omega) (fun v => ?_)⟩⟩⟩
        rw [Nat.sub_self]
        show _ ↔ (v < 6 ∧ ((∃ y, gr_E G x y ∧ li_S a_living y v) ∨ (gr_kd G x ≠ 1 ∧ gr_ak G x = v)))
        rcases Nat.lt_or_ge v 32 with z | z
        · rw [fb_or1 _ (by omega) z, Bool.or_eq_true, hs' v, decide_eq_true_iff]
          constructor
          · rintro (q | q)
            · exact ⟨q.1, Or.inl q.2⟩
            · exact ⟨by omega, Or.inr ⟨k1, q.symm⟩⟩
          · rintro ⟨q1, q2 | q2⟩
            · exact Or.inl ⟨q1, q2⟩
            · exact Or.inr q2.2.symm
        · rw [b_big z]
          exact ⟨fun q => absurd q (by decide), fun q => by have := q.1; omega⟩
    · refine yn_next Y hx (fun r hr => fb_0 (by omega) (fun hb => ?_) (fun hb => ?_))
      · refine nm_r (nI_1 i) (ih (i + 1) s (by omega) (by omega) (fun v => (hs v).trans ?_))
        constructor
        · rintro ⟨y, q1, q2⟩
          exact ⟨y, by omega, q2⟩
        · rintro ⟨y, q1, q2⟩
          refine ⟨y, ?_, q2⟩
          by_cases e : y = i
          · rw [e] at q2
            rw [(hr i).mpr q2.1] at hb
            exact absurd hb (by decide)
          · omega
      · have hE := (hr i).mp hb
        rw [fn_c (a := i) (by omega)]
        refine ⟨vp_in_nI (by omega) (by omega), nm_e (nm_r (nI_1 i) (ih (i + 1) _ (by omega) (by omega) (fun v => ?_)))⟩
        rw [b_or, Bool.or_eq_true, hs v]
        constructor
        · rintro (⟨y, q1, q2⟩ | q)
          · exact ⟨y, by omega, q2⟩
          · exact ⟨i, by omega, hE, q⟩
        · rintro ⟨y, q1, q2⟩
          by_cases e : y = i
          · rw [e] at q2; exact Or.inr q2.2
          · exact Or.inl ⟨y, by omega, q2⟩
theorem yb_before {post : Int32 → Prop} {x3 : Int32} {x pc : Nat} {Nn : Nat → Nat → Prop} (Y : yp_ok G f_n f_k a_many a_op a_d a_a a_b a_kind a_used a_first a_second) (hx : x < gr_n G) (hpc : pc ≤ gr_mn G x) (hNn : ∀ i, i < gr_mn G x → ((x3 ≠ 0 ∨ bt (a_needed x) i = true) ↔ Nn x i)) (h6 : ∀ y, y < gr_n G → ∀ v, bt (a_living y) v = true → v < 6)
    (K : ∀ s : Int32, (∀ v, bt s v = true ↔ (v < 6 ∧ lb_ G (li_S a_living) Nn x (gr_mn G x - pc) v)) → post s) : wpY_before post (f_n, f_k, f_met, f_result, f_begun, f_last, a_many, a_op, a_d, a_a, a_b, a_kind, a_used, a_first, a_second, a_living, a_needed, a_rules, a_edges, a_begin, a_now, a_open, a_variable) (nI x) (nI pc) x3 := by
  have hn16 := Y.1.1
  show ∃ n6 : Nat, wY_before_6 post (nI x) (nI pc) x3 f_n f_k f_met f_result f_begun f_last a_many a_op a_d a_a a_b a_kind a_used a_first a_second a_living a_needed a_rules a_edges a_begin a_now a_open a_variable n6 0 0
  exact ⟨17, yb_6 Y hx hpc hNn h6 K 17 0 0 (by omega) (by omega) (fun v => by rw [b_0]; exact ⟨fun z => absurd z (by decide), fun ⟨y, q, _⟩ => by omega⟩)⟩
theorem yv_31 {post : SY → Prop} {J23 : Int32 → (Nat → Int32) → (Nat → Int32) → (Nat → Int32) → (Nat → Int32) → (Nat → Int32) → (Nat → Int32) → (Nat → Int32) → (Nat → Int32) → (Nat → Int32) → (Nat → Int32) → (Nat → Int32) → (Nat → Int32) → (Nat → Int32) → (Nat → Int64) → (Nat → Int64) → (Nat → Int32) → (Nat → Int32) → Prop} {x3 : Int32} {Nn : Nat → Nat → Prop} (Y : yp_ok G f_n f_k a_many a_op a_d a_a a_b a_kind a_used a_first a_second) (hNn : ∀ x i, x < gr_n G → i < gr_mn G x → ((x3 ≠ 0 ∨ bt (a_needed x) i = true) ↔ Nn x i)) {M : Nat}
    (K0 : ∀ a_living : Nat → Int32, li_I G Nn a_living → (∀ x, x < gr_n G → ∀ v, li_F G Nn a_living x v → bt (a_living x) v = true) → J23 0 a_many a_op a_d a_a a_b a_kind a_used a_first a_second a_living a_needed a_rules a_edges a_begin a_now a_open a_variable)
    (K1 : ∀ a_living : Nat → Int32, li_I G Nn a_living → li_m G a_living < M → J23 1 a_many a_op a_d a_a a_b a_kind a_used a_first a_second a_living a_needed a_rules a_edges a_begin a_now a_open a_variable) :
    ∀ n x (fl : Int32) (a_living : Nat → Int32), gr_n G < n + x → x ≤ gr_n G → li_I G Nn a_living → ((fl = 0 ∧ (∀ y, y < x → ∀ v, li_F G Nn a_living y v → bt (a_living y) v = true) ∧ li_m G a_living ≤ M) ∨ (fl = 1 ∧ li_m G a_living < M)) → wY_live_31 post J23 x3 f_n f_k f_met f_result f_begun f_last n fl (nI x) a_many a_op a_d a_a a_b a_kind a_used a_first a_second a_living a_needed a_rules a_edges a_begin a_now a_open a_variable := by
  have ok := Y.1
  have hn16 := ok.1
  intro n
  induction n with
  | zero => intro x fl a_living h1 h2; omega
  | succ n ih =>
    intro x fl a_living h1 h2 I hf
    rw [wY_live_31]
    refine pk_le (gr_n G) x (fun h => ?_) (fun h => ?_) Y.2.1
    · rcases hf with ⟨rfl, q1, _⟩ | ⟨rfl, q⟩
      · exact K0 a_living I (fun y hy => q1 y (by omega))
      · exact K1 a_living I q
    · refine yb_before (pc := 0) Y h (by omega) (fun i hi => hNn x i h hi) (fun y hy v hv => (I y hy v hv).1.1) (fun s hs => ?_)
      have hs' : ∀ v, bt s v = true ↔ li_F G Nn a_living x v := hs
      rw [fn_c (a := x) (by omega)]
      have ix : vp_in (nI x) 16 := vp_in_nI (by omega) (by omega)
      refine ⟨ix, ?_⟩
      by_cases e : s = a_living x
      · refine br_t e ⟨ix, nm_r (e' := a_living) (by rw [e]; exact li_same) (nm_r (nI_1 x) (ih (x + 1) fl a_living (by omega) (by omega) I ?_))⟩
        rcases hf with ⟨q0, q1, q2⟩ | q
        · refine Or.inl ⟨q0, fun y hy v hv => ?_, q2⟩
          by_cases ey : y = x
          · rw [ey] at hv ⊢
            rw [← e]
            exact (hs' v).mpr hv
          · exact q1 y (by omega) v hv
        · exact Or.inr q
      · have hm := li_mu I h hs' e
        refine br_f e ⟨ix, nm_e (nm_r (nI_1 x) (ih (x + 1) 1 _ (by omega) (by omega) (li_up ok I h hs').1 (Or.inr ⟨rfl, ?_⟩)))⟩
        rcases hf with ⟨_, _, q⟩ | ⟨_, q⟩ <;> omega
theorem yv_23 {post : SY → Prop} {x3 : Int32} {Nn : Nat → Nat → Prop} (Y : yp_ok G f_n f_k a_many a_op a_d a_a a_b a_kind a_used a_first a_second) (hNn : ∀ x i, x < gr_n G → i < gr_mn G x → ((x3 ≠ 0 ∨ bt (a_needed x) i = true) ↔ Nn x i))
    (K : ∀ a_living : Nat → Int32, (∀ x v, x < gr_n G → (bt (a_living x) v = true ↔ (v < 6 ∧ gr_lw G Nn x v))) → post (f_n, f_k, f_met, f_result, f_begun, f_last, a_many, a_op, a_d, a_a, a_b, a_kind, a_used, a_first, a_second, a_living, a_needed, a_rules, a_edges, a_begin, a_now, a_open, a_variable)) :
    ∀ n (a_living : Nat → Int32), li_m G a_living + 1 < n → li_I G Nn a_living → wY_live_23 post x3 f_n f_k f_met f_result f_begun f_last n 1 a_many a_op a_d a_a a_b a_kind a_used a_first a_second a_living a_needed a_rules a_edges a_begin a_now a_open a_variable := by
  have ok := Y.1
  have hn16 := ok.1
  intro n
  induction n with
  | zero => intro a_living h; omega
  | succ n ih =>
    intro a_living h1 I
    rw [wY_live_23]
    refine br_f (by decide) ⟨gr_n G + 1, ?_⟩
    refine yv_31 (M := li_m G a_living) Y hNn (fun a_living I hc => ?_) (fun a_living' I hl => ih a_living' (by omega) I) (gr_n G + 1) 0 0 a_living (by omega) (by omega) I (Or.inl ⟨rfl, fun y hy => by omega, Nat.le_refl _⟩)
    obtain ⟨n, rfl⟩ : ∃ d, n = d + 1 := ⟨n - 1, by omega⟩
    rw [wY_live_23]
    exact br_t rfl (K a_living (fun x v hx => li_end ok I hc hx))
theorem yv_2 {post : SY → Prop} {x3 : Int32} (K : ∃ n23 : Nat, wY_live_23 post x3 f_n f_k f_met f_result f_begun f_last n23 1 a_many a_op a_d a_a a_b a_kind a_used a_first a_second (cl_ 0 16 a_living) a_needed a_rules a_edges a_begin a_now a_open a_variable) :
    ∀ n i, 16 < n + i → i ≤ 16 → wY_live_2 post x3 f_n f_k f_met f_result f_begun f_last n (nI i) a_many a_op a_d a_a a_b a_kind a_used a_first a_second (cl_ 0 i a_living) a_needed a_rules a_edges a_begin a_now a_open a_variable := by
  intro n
  induction n with
  | zero => intro i h1 h2; omega
  | succ n ih =>
    intro i h1 h2
    rw [wY_live_2]
    refine pk_le 16 i (fun h => ?_) (fun h => ?_)
    · have e : i = 16 := by omega
      subst e
      exact K
    · have c : (nI i).toNatClampNeg = i := fn_c (by omega)
      rw [c]
      exact ⟨vp_in_nI (by omega) (by omega), nm_r cl_s (nm_r (nI_1 i) (ih (i + 1) (by omega) (by omega)))⟩
theorem yv_live {post : SY → Prop} {x3 : Int32} {Nn : Nat → Nat → Prop} (Y : yp_ok G f_n f_k a_many a_op a_d a_a a_b a_kind a_used a_first a_second) (hNn : ∀ x i, x < gr_n G → i < gr_mn G x → ((x3 ≠ 0 ∨ bt (a_needed x) i = true) ↔ Nn x i))
    (K : ∀ a_living : Nat → Int32, (∀ x v, x < gr_n G → (bt (a_living x) v = true ↔ (v < 6 ∧ gr_lw G Nn x v))) → post (f_n, f_k, f_met, f_result, f_begun, f_last, a_many, a_op, a_d, a_a, a_b, a_kind, a_used, a_first, a_second, a_living, a_needed, a_rules, a_edges, a_begin, a_now, a_open, a_variable)) : wpY_live post (f_n, f_k, f_met, f_result, f_begun, f_last, a_many, a_op, a_d, a_a, a_b, a_kind, a_used, a_first, a_second, a_living, a_needed, a_rules, a_edges, a_begin, a_now, a_open, a_variable) x3 := by
  have hn16 := Y.1.1
  show ∃ n2 : Nat, wY_live_2 post x3 f_n f_k f_met f_result f_begun f_last n2 0 a_many a_op a_d a_a a_b a_kind a_used a_first a_second a_living a_needed a_rules a_edges a_begin a_now a_open a_variable
  have e0 := yv_2 (post := post) (f_n := f_n) (f_k := f_k) (f_met := f_met) (f_result := f_result) (f_begun := f_begun) (f_last := f_last) (a_many := a_many) (a_op := a_op) (a_d := a_d) (a_a := a_a) (a_b := a_b) (a_kind := a_kind) (a_used := a_used) (a_first := a_first) (a_second := a_second) (a_living := a_living) (a_needed := a_needed) (a_rules := a_rules) (a_edges := a_edges) (a_begin := a_begin) (a_now := a_now) (a_open := a_open) (a_variable := a_variable) (x3 := x3) ⟨_, yv_23 Y hNn K _ (cl_ 0 16 a_living) (Nat.lt_succ_self _) (fun x hx v h => by rw [cl_l (by omega), b_0] at h; exact absurd h (by decide))⟩ 17 0 (by omega) (by omega)
  rw [cl_0] at e0
  exact ⟨17, e0⟩
theorem yv_lives {post : Int32 → SY → Prop} {b : Int32} (Y : yp_ok G f_n f_k a_many a_op a_d a_a a_b a_kind a_used a_first a_second) (K0 : (∀ j, j < gr_n G → b ≠ nI j) → post (-1) (f_n, f_k, f_met, f_result, f_begun, f_last, a_many, a_op, a_d, a_a, a_b, a_kind, a_used, a_first, a_second, a_living, a_needed, a_rules, a_edges, a_begin, a_now, a_open, a_variable)) (K : ∀ (a_living : Nat → Int32) (s : Int32) (j : Nat), j < gr_n G → b = nI j → (∀ v, bt s v = true ↔ (v < 6 ∧ gr_lw G (fun _ _ => True) j v)) → post s (f_n, f_k, f_met, f_result, f_begun, f_last, a_many, a_op, a_d, a_a, a_b, a_kind, a_used, a_first, a_second, a_living, a_needed, a_rules, a_edges, a_begin, a_now, a_open, a_variable)) : wpY_lives post (f_n, f_k, f_met, f_result, f_begun, f_last, a_many, a_op, a_d, a_a, a_b, a_kind, a_used, a_first, a_second, a_living, a_needed, a_rules, a_edges, a_begin, a_now, a_open, a_variable) b := by
  have hn16 := Y.1.1
  unfold wpY_lives
  dsimp only
  refine yo_out Y.2.1 (by omega) (fun h => br_f (by decide) (K0 h)) (fun j hj e => br_t rfl ?_)
  subst e
  refine yv_live (Nn := fun _ _ => True) Y (fun x i _ _ => ⟨fun _ => trivial, fun _ => Or.inl (by decide)⟩) (fun a_living hl => ?_)
  refine ⟨vp_in_nI (by omega) (by omega), ?_⟩
  rw [fn_c (a := j) (by omega)]
  exact K a_living (a_living j) j hj rfl (fun v => hl j v hj)
end
/-! needed -/
def yn_N (an : Nat → Int32) (x i : Nat) : Prop := bt (an x) i = true
/-- what a round makes of an -/
def yn_F (G : gr_T) (an : Nat → Int32) (x i : Nat) : Prop := gr_M G x ∧ i < gr_mn G x ∧ lb_ G (gr_lw G (yn_N an)) (yn_N an) x (gr_mn G x - (i + 1)) (gr_dd G (4 * x + i))
def yn_I (G : gr_T) (an : Nat → Int32) : Prop := ∀ x, x < gr_n G → ∀ i, bt (an x) i = true → yn_F G an x i ∧ gr_nd G x i
section
variable {G : gr_T} {an an' : Nat → Int32}
theorem lw_mo (ok : gr_ok G) {N N' : Nat → Nat → Prop} (h : ∀ x i, x < gr_n G → N x i → N' x i) {x v : Nat} (hl : gr_lw G N x v) : gr_lw G N' x v := by
  intro L hL
  exact hl L (fun x hx v hv hb => hL x hx v hv (lb_m (fun _ _ _ z => z) (fun i z => h x i hx z) _ v hb))
theorem yn_mo (ok : gr_ok G) (h : ∀ x i, x < gr_n G → bt (an x) i = true → bt (an' x) i = true) {x i : Nat} (hF : yn_F G an x i) : yn_F G an' x i := by
  have hx := gr_Mlt ok hF.1
  refine ⟨hF.1, hF.2.1, lb_m (fun y v e z => lw_mo ok h z) (fun i z => h x i hx z) _ _ hF.2.2⟩
theorem yn_sd (ok : gr_ok G) (I : yn_I G an) {x i : Nat} (hF : yn_F G an x i) : gr_nd G x i := by
  intro L N hc
  have hN : ∀ y i, y < gr_n G → yn_N an y i → N y i := fun y i hy z => (I y hy i z).2 L N hc
  have hL : ∀ y v, gr_lw G (yn_N an) y v → gr_M G y → L y v := fun y v z => z (fun y v => gr_M G y → L y v) (fun y hy v hv hb hM => (hc y hM).1 v hv (lb_m (fun w v e z => z (gr_Ms hM e)) (fun i z => hN y i hy z) _ v hb))
  have hx := gr_Mlt ok hF.1
  exact (hc x hF.1).2 i hF.2.1 (lb_m (fun y v e z => hL y v z (gr_Ms hF.1 e)) (fun i z => hN x i hx z) _ _ hF.2.2)
theorem yn_end (ok : gr_ok G) (I : yn_I G an) (hc : ∀ x, x < gr_n G → ∀ i, yn_F G an x i → bt (an x) i = true) {x i : Nat} (hx : x < gr_n G) : bt (an x) i = true ↔ (gr_M G x ∧ i < gr_mn G x ∧ gr_nd G x i) := by
  constructor
  · intro h
    have := I x hx i h
    exact ⟨this.1.1, this.1.2.1, this.2⟩
  · rintro ⟨hM, hi, hd⟩
    exact hd (gr_lw G (yn_N an)) (yn_N an) (fun y hy => ⟨fun v hv hb => gr_lwc ok y (gr_Mlt ok hy) v hv hb, fun i hi hb => hc y (gr_Mlt ok hy) i ⟨hy, hi, hb⟩⟩)
end
section
variable {f_n f_k f_met f_result f_begun f_last : Int32} {a_many a_op a_d a_a a_b a_kind a_used a_first a_second a_living a_needed a_rules a_edges a_open a_variable : Nat → Int32} {a_begin a_now : Nat → Int64}
variable {G : gr_T}
theorem yw_54 {post : Int32 → SY → Prop} {J27 : Int32 → Int32 → Int32 → Int32 → Int32 → Int32 → Int32 → (Nat → Int32) → (Nat → Int32) → (Nat → Int32) → (Nat → Int32) → (Nat → Int32) → (Nat → Int32) → (Nat → Int32) → (Nat → Int32) → (Nat → Int32) → (Nat → Int32) → (Nat → Int32) → (Nat → Int32) → (Nat → Int32) → (Nat → Int64) → (Nat → Int64) → (Nat → Int32) → (Nat → Int32) → Prop} {J40 : Int32 → Int32 → (Nat → Int32) → (Nat → Int32) → (Nat → Int32) → (Nat → Int32) → (Nat → Int32) → (Nat → Int32) → (Nat → Int32) → (Nat → Int32) → (Nat → Int32) → (Nat → Int32) → (Nat → Int32) → (Nat → Int32) → (Nat → Int32) → (Nat → Int64) → (Nat → Int64) → (Nat → Int32) → (Nat → Int32) → Prop} {x1 x2 : Int32} {x : Nat} {an : Nat → Int32} (Y : yp_ok G f_n f_k a_many a_op a_d a_a a_b a_kind a_used a_first a_second) (hl : yl_ok G f_met a_rules) (hx : x < gr_n G) (hlv : ∀ x v, x < gr_n G → (bt (a_living x) v = true ↔ (v < 6 ∧ gr_lw G (yn_N an) x v))) (han : a_needed x = an x)
    (K : ∀ s : Int32, (∀ i, bt s i = true ↔ yn_F G an x i) → (s = an x → J40 x2 (nI (x + 1)) a_many a_op a_d a_a a_b a_kind a_used a_first a_second a_living (upd a_needed x (an x ||| s)) a_rules a_edges a_begin a_now a_open a_variable) ∧ (s ≠ an x → J40 1 (nI (x + 1)) a_many a_op a_d a_a a_b a_kind a_used a_first a_second a_living (upd a_needed x (an x ||| s)) a_rules a_edges a_begin a_now a_open a_variable)) :
    ∀ n i (s : Int32), gr_mn G x < n + i → i ≤ gr_mn G x → (∀ j, bt s j = true ↔ (j < i ∧ yn_F G an x j)) → wY_needed_54 post J27 J40 x1 x2 (nI x) f_n f_k f_met f_result f_begun f_last a_many a_op a_d a_a a_b a_kind a_used a_first a_second a_living a_needed a_rules a_edges a_begin a_now a_open a_variable n s (nI i) := by
  have ok := Y.1
  have hn16 := ok.1
  have h4 := (ok.2.2 x hx).1
  have ix : vp_in (nI x) 16 := vp_in_nI (by omega) (by omega)
  have cx := fn_c (a := x) (by omega)
  intro n
  induction n with
  | zero => intro i s h1 h2; omega
  | succ n ih =>
    intro i s h1 h2 hs
    rw [wY_needed_54]
    dsimp only
    rw [cx, Y.2.2.2.1 x hx]
    refine ⟨ix, pk_le (gr_mn G x) i (fun h => ⟨ix, ?_⟩) (fun h => ?_)⟩
    · have hs' : ∀ j, bt s j = true ↔ yn_F G an x j := fun j => (hs j).trans ⟨fun z => z.2, fun z => ⟨by have := z.2.1; omega, z⟩⟩
      have k := K s hs'
      rw [han]
      refine br_c (fun e => ?_) (fun e => ?_)
      · rw [wY_needed_135, cx, han]
        exact ⟨ix, ix, nm_e (nm_r (nI_1 x) (k.1 e))⟩
      · rw [wY_needed_135, cx, han]
        exact ⟨ix, ix, nm_e (nm_r (nI_1 x) (k.2 e))⟩
    · have hd := ((ok.2.2 x hx).2.2.2.2 i h).2.1
      rw [nI_1]
      refine yb_before (Nn := yn_N an) Y hx (by omega) (fun j hj => ⟨fun z => z.elim (fun q => absurd rfl q) (fun q => by unfold yn_N; rw [← han]; exact q), fun z => Or.inr (by rw [han]; exact z)⟩) (fun y hy v hv => ((hlv y v hy).mp hv).1) (fun r hr => ?_)
      have hlb : bt r (gr_dd G (4 * x + i)) = true ↔ lb_ G (gr_lw G (yn_N an)) (yn_N an) x (gr_mn G x - (i + 1)) (gr_dd G (4 * x + i)) := by
        rw [hr]
        constructor
        · rintro ⟨_, q⟩
          exact lb_m (fun y v e z => ((hlv y v (gr_Elt ok e).2.1).mp z).2) (fun _ z => z) _ _ q
        · intro q
          refine ⟨hd, ?_⟩
          have key : ∀ d v, v < 6 → d ≤ gr_mn G x → lb_ G (gr_lw G (yn_N an)) (yn_N an) x d v → lb_ G (li_S a_living) (yn_N an) x d v := by
            intro d
            induction d with
            | zero =>
              rintro v hv _ (⟨y, e, z⟩ | z)
              · exact Or.inl ⟨y, e, (hlv y v (gr_Elt ok e).2.1).mpr ⟨hv, z⟩⟩
              · exact Or.inr z
            | succ d ihd =>
              rintro v hv hdm (z | z)
              · exact Or.inl z
              · exact Or.inr ⟨ihd v hv (by omega) z.1, z.2⟩
          exact key _ _ hd (by omega) q
      rw [fn_42, fn_c (a := 4 * x + i) (by omega), (Y.2.2.2.2.2.2.2 x i hx h).2.1]
      have skip : ¬ yn_F G an x i → wY_needed_54 post J27 J40 x1 x2 (nI x) f_n f_k f_met f_result f_begun f_last a_many a_op a_d a_a a_b a_kind a_used a_first a_second a_living a_needed a_rules a_edges a_begin a_now a_open a_variable n s (nI (i + 1)) := fun hno => ih (i + 1) s (by omega) (by omega) (fun j => (hs j).trans ⟨fun z => ⟨by omega, z.2⟩, fun z => ⟨by
        by_cases e : j = i
        · rw [e] at z; exact absurd z.2 hno
        · omega, z.2⟩⟩)
      refine ⟨vp_in_nI (by omega) (by omega), fb_0 (by omega) (fun hb => nm_e (skip (fun z => ?_))) (fun hb => fb_0 (by omega) (fun hm => nm_e (skip (fun z => ?_))) (fun hm => ?_))⟩
      · rw [hlb.mpr z.2.2] at hb
        exact absurd hb (by decide)
      · rw [(hl.2.1 x).mpr z.1] at hm
        exact absurd hm (by decide)
      · have hF : yn_F G an x i := ⟨(hl.2.1 x).mp hm, h, hlb.mp hb⟩
        refine nm_e (nm_e (ih (i + 1) _ (by omega) (by omega) (fun j => ?_)))
        rcases Nat.lt_or_ge j 32 with z | z
        · rw [fb_or1 _ (by omega) z, Bool.or_eq_true, hs j, decide_eq_true_iff]
          constructor
          · rintro (q | q)
            · exact ⟨by omega, q.2⟩
            · rw [q]; exact ⟨by omega, hF⟩
          · rintro ⟨q1, q2⟩
            by_cases e : j = i
            · exact Or.inr e
            · exact Or.inl ⟨by omega, q2⟩
        · rw [b_big z]
          exact ⟨fun w => absurd w (by decide), fun w => by have := w.1; omega⟩
theorem yw_40 {post : Int32 → SY → Prop} {J27 : Int32 → Int32 → Int32 → Int32 → Int32 → Int32 → Int32 → (Nat → Int32) → (Nat → Int32) → (Nat → Int32) → (Nat → Int32) → (Nat → Int32) → (Nat → Int32) → (Nat → Int32) → (Nat → Int32) → (Nat → Int32) → (Nat → Int32) → (Nat → Int32) → (Nat → Int32) → (Nat → Int32) → (Nat → Int64) → (Nat → Int64) → (Nat → Int32) → (Nat → Int32) → Prop} {x1 : Int32} {an : Nat → Int32} (Y : yp_ok G f_n f_k a_many a_op a_d a_a a_b a_kind a_used a_first a_second) (hl : yl_ok G f_met a_rules) (hlv : ∀ x v, x < gr_n G → (bt (a_living x) v = true ↔ (v < 6 ∧ gr_lw G (yn_N an) x v))) (hI : yn_I G an)
    (K0 : ∀ a_needed : Nat → Int32, (∀ x, x < gr_n G → a_needed x = an x) → (∀ x, x < gr_n G → ∀ i, yn_F G an x i → bt (an x) i = true) → J27 0 f_n f_k f_met f_result f_begun f_last a_many a_op a_d a_a a_b a_kind a_used a_first a_second a_living a_needed a_rules a_edges a_begin a_now a_open a_variable)
    (K1 : ∀ a_needed : Nat → Int32, (∀ x i, x < gr_n G → (bt (a_needed x) i = true ↔ yn_F G an x i)) → li_m G a_needed < li_m G an → J27 1 f_n f_k f_met f_result f_begun f_last a_many a_op a_d a_a a_b a_kind a_used a_first a_second a_living a_needed a_rules a_edges a_begin a_now a_open a_variable) :
    ∀ n x (fl : Int32) (a_needed : Nat → Int32), gr_n G < n + x → x ≤ gr_n G → (∀ y, x ≤ y → y < gr_n G → a_needed y = an y) → (∀ y i, y < x → (bt (a_needed y) i = true ↔ yn_F G an y i)) → ((fl = 0 ∧ (∀ y, y < x → a_needed y = an y) ∧ li_m G a_needed ≤ li_m G an) ∨ (fl = 1 ∧ li_m G a_needed < li_m G an)) → wY_needed_40 post J27 x1 f_n f_k f_met f_result f_begun f_last n fl (nI x) a_many a_op a_d a_a a_b a_kind a_used a_first a_second a_living a_needed a_rules a_edges a_begin a_now a_open a_variable := by
  have ok := Y.1
  have hn16 := ok.1
  intro n
  induction n with
  | zero => intro x fl a_needed h1 h2; omega
  | succ n ih =>
    intro x fl a_needed h1 h2 ha hb hf
    rw [wY_needed_40]
    refine pk_le (gr_n G) x (fun h => ?_) (fun h => ?_) Y.2.1
    · rcases hf with ⟨rfl, q1, _⟩ | ⟨rfl, q⟩
      · refine K0 a_needed (fun y hy => q1 y (by omega)) (fun y hy i hF => ?_)
        rw [← q1 y (by omega)]
        exact (hb y i (by omega)).mpr hF
      · exact K1 a_needed (fun y i hy => hb y i (by omega)) q
    · refine ⟨5, yw_54 Y hl h hlv (ha x (Nat.le_refl _) h) (fun s hs => ?_) 5 0 0 (by have := (ok.2.2 x h).1; omega) (by omega) (fun j => by rw [b_0]; exact ⟨fun z => absurd z (by decide), fun z => by omega⟩)⟩
      have hor : an x ||| s = s := by
        apply b_ext
        intro j hj
        rw [b_or]
        cases z : bt (an x) j with
        | false => rw [Bool.false_or]
        | true => rw [(hs j).mpr (hI x h j z).1]; rfl
      rw [hor]
      have hx4 := (ok.2.2 x h).1
      have hex := ha x (Nat.le_refl _) h
      have nb : ∀ y i, y < x + 1 → (bt (upd a_needed x s y) i = true ↔ yn_F G an y i) := by
        intro y i hy
        by_cases e : y = x
        · rw [e, pk_us]; exact hs i
        · rw [pk_un e]; exact hb y i (by omega)
      have na : ∀ y, x + 1 ≤ y → y < gr_n G → upd a_needed x s y = an y := fun y h3 h4 => by rw [pk_un (by omega)]; exact ha y (by omega) h4
      refine ⟨fun e => ih (x + 1) fl _ (by omega) (by omega) na nb ?_, fun e => ih (x + 1) 1 _ (by omega) (by omega) na nb (Or.inr ⟨rfl, ?_⟩)⟩
      · have eu : upd a_needed x s = a_needed := by
          rw [e, ← hex]
          exact li_same
        rw [eu]
        rcases hf with ⟨q0, q1, q2⟩ | q
        · refine Or.inl ⟨q0, fun y hy => ?_, q2⟩
          by_cases ey : y = x
          · rw [ey]; exact hex
          · exact q1 y (by omega)
        · exact Or.inr q
      · have hm := li_mu2 (al := a_needed) (s := s) h (fun v z => by rw [hex] at z; exact (hs v).mpr (hI x h v z).1) (fun v z => by have := ((hs v).mp z).2.1; omega) (fun v z => by rw [hex] at z; have := (hI x h v z).1.2.1; omega) (by rw [hex]; exact e)
        rcases hf with ⟨_, _, q⟩ | ⟨_, q⟩ <;> omega
theorem yw_27 {post : Int32 → SY → Prop} {b : Int32} (Y : yp_ok G f_n f_k a_many a_op a_d a_a a_b a_kind a_used a_first a_second) (hl : yl_ok G f_met a_rules) (K0 : ∀ (a_living a_needed : Nat → Int32), (∀ j, j < gr_n G → b ≠ nI j) → post 0 (f_n, f_k, f_met, f_result, f_begun, f_last, a_many, a_op, a_d, a_a, a_b, a_kind, a_used, a_first, a_second, a_living, a_needed, a_rules, a_edges, a_begin, a_now, a_open, a_variable)) (K : ∀ (a_living a_needed : Nat → Int32) (s : Int32) (j : Nat), j < gr_n G → b = nI j → (∀ i, bt s i = true ↔ (gr_M G j ∧ i < gr_mn G j ∧ gr_nd G j i)) → post s (f_n, f_k, f_met, f_result, f_begun, f_last, a_many, a_op, a_d, a_a, a_b, a_kind, a_used, a_first, a_second, a_living, a_needed, a_rules, a_edges, a_begin, a_now, a_open, a_variable)) :
    ∀ n (a_living a_needed : Nat → Int32), li_m G a_needed + 1 < n → yn_I G a_needed → wY_needed_27 post b n 1 f_n f_k f_met f_result f_begun f_last a_many a_op a_d a_a a_b a_kind a_used a_first a_second a_living a_needed a_rules a_edges a_begin a_now a_open a_variable := by
  have ok := Y.1
  have hn16 := ok.1
  intro n
  induction n with
  | zero => intro a_living a_needed h; omega
  | succ n ih =>
    intro a_living a_needed hmu hI
    rw [wY_needed_27]
    refine br_f (by decide) ?_
    refine yv_live (Nn := yn_N a_needed) Y (fun x i _ _ => ⟨fun z => z.elim (fun q => absurd rfl q) id, fun z => Or.inr z⟩) (fun a_living hlv => ⟨gr_n G + 1, ?_⟩)
    refine yw_40 (an := a_needed) Y hl hlv hI (fun a_needed' he hc => ?_) (fun a_needed' he hm => ih a_living a_needed' (by omega) ?_) (gr_n G + 1) 0 0 a_needed (by omega) (by omega) (fun y _ _ => rfl) (fun y i hy => by omega) (Or.inl ⟨rfl, fun y hy => rfl, Nat.le_refl _⟩)
    · obtain ⟨n, rfl⟩ : ∃ d, n = d + 1 := ⟨n - 1, by omega⟩
      rw [wY_needed_27]
      refine br_t rfl (yo_out Y.2.1 (by omega) (fun h => br_f (by decide) (K0 a_living a_needed' h)) (fun j hj e => br_t rfl ?_))
      rw [e, fn_c (a := j) (by omega)]
      refine ⟨vp_in_nI (by omega) (by omega), K a_living a_needed' (a_needed' j) j hj e (fun i => ?_)⟩
      rw [he j hj]
      exact yn_end ok hI hc hj
    · intro x hx i hb
      have hF := (he x i hx).mp hb
      exact ⟨yn_mo ok (fun y j hy z => (he y j hy).mpr (hI y hy j z).1) hF, yn_sd ok hI hF⟩
theorem yw_6 {post : Int32 → SY → Prop} {b : Int32} (K : ∃ n27 : Nat, wY_needed_27 post b n27 1 f_n f_k f_met f_result f_begun f_last a_many a_op a_d a_a a_b a_kind a_used a_first a_second a_living (cl_ 0 16 a_needed) a_rules a_edges a_begin a_now a_open a_variable) :
    ∀ n i, 16 < n + i → i ≤ 16 → wY_needed_6 post b f_n f_k f_met f_result f_begun f_last n (nI i) a_many a_op a_d a_a a_b a_kind a_used a_first a_second a_living (cl_ 0 i a_needed) a_rules a_edges a_begin a_now a_open a_variable := by
  intro n
  induction n with
  | zero => intro i h1 h2; omega
  | succ n ih =>
    intro i h1 h2
    rw [wY_needed_6]
    refine pk_le 16 i (fun h => ?_) (fun h => ?_)
    · have e : i = 16 := by omega
      subst e
      exact K
    · have c : (nI i).toNatClampNeg = i := fn_c (by omega)
      rw [c]
      exact ⟨vp_in_nI (by omega) (by omega), nm_r cl_s (nm_r (nI_1 i) (ih (i + 1) (by omega) (by omega)))⟩
theorem yw_needed {post : Int32 → SY → Prop} {b : Int32} (Y : yp_ok G f_n f_k a_many a_op a_d a_a a_b a_kind a_used a_first a_second) (K0 : ∀ (f_met : Int32) (a_rules a_living a_needed : Nat → Int32), (∀ j, j < gr_n G → b ≠ nI j) → post 0 (f_n, f_k, f_met, f_result, f_begun, f_last, a_many, a_op, a_d, a_a, a_b, a_kind, a_used, a_first, a_second, a_living, a_needed, a_rules, a_edges, a_begin, a_now, a_open, a_variable)) (K : ∀ (f_met : Int32) (a_rules a_living a_needed : Nat → Int32) (s : Int32) (j : Nat), j < gr_n G → b = nI j → (∀ i, bt s i = true ↔ (gr_M G j ∧ i < gr_mn G j ∧ gr_nd G j i)) → post s (f_n, f_k, f_met, f_result, f_begun, f_last, a_many, a_op, a_d, a_a, a_b, a_kind, a_used, a_first, a_second, a_living, a_needed, a_rules, a_edges, a_begin, a_now, a_open, a_variable)) : wpY_needed post (f_n, f_k, f_met, f_result, f_begun, f_last, a_many, a_op, a_d, a_a, a_b, a_kind, a_used, a_first, a_second, a_living, a_needed, a_rules, a_edges, a_begin, a_now, a_open, a_variable) b := by
  have hn16 := Y.1.1
  unfold wpY_needed
  refine yl_look Y (fun f_met a_rules hl => ?_)
  have e0 := yw_6 (post := post) (b := b) (f_n := f_n) (f_k := f_k) (f_met := f_met) (f_result := f_result) (f_begun := f_begun) (f_last := f_last) (a_many := a_many) (a_op := a_op) (a_d := a_d) (a_a := a_a) (a_b := a_b) (a_kind := a_kind) (a_used := a_used) (a_first := a_first) (a_second := a_second) (a_living := a_living) (a_needed := a_needed) (a_rules := a_rules) (a_edges := a_edges) (a_begin := a_begin) (a_now := a_now) (a_open := a_open) (a_variable := a_variable) ⟨_, yw_27 Y hl (K0 f_met a_rules) (K f_met a_rules) _ a_living (cl_ 0 16 a_needed) (Nat.lt_succ_self _) (fun x hx i h => by rw [cl_l (by omega), b_0] at h; exact absurd h (by decide))⟩ 17 0 (by omega) (by omega)
  rw [cl_0] at e0
  exact ⟨17, e0⟩
end
end
section
/-! values as the reference holds them -/
def vL_ (o : Option Int32) : Int64 := match o with
  | none => 10000000001
  | some c => c.toInt64
theorem vL_10 : (10000000000 : Int64).toInt = 10000000000 := by decide
theorem vL_11 : (10000000001 : Int64).toInt = 10000000001 := by decide
theorem vL_ne (o : Option Int32) : vL_ o ≠ 10000000000 := by
  intro h
  have h1 := congrArg Int64.toInt h
  cases o with
  | none =>
    have h2 : (10000000001 : Int64).toInt = (10000000000 : Int64).toInt := h1
    rw [vL_10, vL_11] at h2
    omega
  | some c =>
    have h2 : c.toInt64.toInt = (10000000000 : Int64).toInt := h1
    rw [Int32.toInt_toInt64, vL_10] at h2
    have := c.toInt_lt
    omega
theorem vL_v (o : Option Int32) : vL_ o = 10000000001 ↔ o = none := by
  constructor
  · intro h
    cases o with
    | none => rfl
    | some c =>
      have h2 : c.toInt64.toInt = (10000000001 : Int64).toInt := congrArg Int64.toInt h
      rw [Int32.toInt_toInt64, vL_11] at h2
      have := c.toInt_lt
      omega
  · intro h
    rw [h]
    rfl
theorem vL_s (c : Int32) : vL_ (some c) = c.toInt64 := rfl
theorem vL_inj {a b : Option Int32} (h : vL_ a = vL_ b) : a = b := by
  cases a with
  | none => exact ((vL_v b).mp h.symm).symm
  | some c =>
    cases b with
    | none => exact (vL_v _).mp h
    | some d =>
      have h2 : c.toInt64.toInt32 = d.toInt64.toInt32 := congrArg Int64.toInt32 h
      rw [Int32.toInt32_toInt64, Int32.toInt32_toInt64] at h2
      rw [h2]
theorem vL_0 (o : Option Int32) : vL_ o = 0 ↔ o = some 0 := by
  have e : vL_ (some 0) = 0 := by decide
  constructor
  · intro h
    exact vL_inj (h.trans e.symm)
  · intro h
    rw [h]
    exact e
def vl_j (a b : Option Int32) : Option Int32 := if a = b then a else none
theorem vj_le {a b : Option Int32} : vl_j a b = a ↔ vl_le b a := by
  unfold vl_j
  by_cases h : a = b
  · rw [if_pos h, h]
    exact ⟨fun _ => vl_rf, fun _ => rfl⟩
  · rw [if_neg h]
    exact ⟨fun z => Or.inl z.symm, fun z => z.elim Eq.symm (fun w => absurd w.symm h)⟩
theorem vj_ub {a b c : Option Int32} (h1 : vl_le a c) (h2 : vl_le b c) : vl_le (vl_j a b) c := by
  unfold vl_j
  by_cases h : a = b
  · rw [if_pos h]; exact h1
  · rw [if_neg h]
    rcases h1 with z | z
    · exact Or.inl z
    · rcases h2 with w | w
      · exact Or.inl w
      · exact absurd (z.trans w.symm) h
theorem vj_1 {a b : Option Int32} : vl_le a (vl_j a b) := by
  unfold vl_j
  by_cases h : a = b
  · rw [if_pos h]; exact vl_rf
  · rw [if_neg h]; exact vl_tp
theorem vj_2 {a b : Option Int32} : vl_le b (vl_j a b) := by
  unfold vl_j
  by_cases h : a = b
  · rw [if_pos h, h]; exact vl_rf
  · rw [if_neg h]; exact vl_tp
theorem yj_joined {post : Int64 → Prop} {a b : Option Int32} (K : post (vL_ (vl_j a b))) : wpY_joined post (vL_ a) (vL_ b) := by
  unfold wpY_joined
  refine br_f (vL_ne a) (br_f (vL_ne b) (br_c (fun h => ?_) (fun h => ?_)))
  · rw [show vl_j a b = a from if_pos (vL_inj h)] at K
    exact K
  · rw [show vl_j a b = none from if_neg (fun z => h (by rw [z]))] at K
    exact K
theorem yj_new {post : Int64 → Prop} {b : Int64} (K : post b) : wpY_joined post 10000000000 b := by
  unfold wpY_joined
  exact br_t rfl K
theorem yr_calc {post : Int32 → Prop} {o : Nat} {x y : Int32} (h2 : 2 ≤ o) (h6 : o < 7) (K : post (vl_calc o x y)) : wpY_reckoned post (nI o) x y := by
  have ef : ∀ z : Int32, vl_calc o x y = z → post z := fun z e => by rw [← e]; exact K
  unfold wpY_reckoned
  refine pk_lt o 1 (fun h => absurd h (by omega)) (fun _ => pk_lt 5 o (fun h => ?_) (fun h => ?_))
  · have e : o = 6 := by omega
    have hc : vl_calc o x y = if y = 0 then 0 else x / y := by rw [e]; rfl
    refine br_c (fun h0 => ef 0 ?_) (fun h0 => ⟨h0, ef _ ?_⟩)
    · rw [hc, if_pos h0]
    · rw [hc, if_neg h0]
  · refine pk_eq o 1 (fun e => absurd e (by omega)) (fun _ => pk_eq o 2 (fun e => ef _ ?_) (fun e2 => pk_eq o 3 (fun e => ef _ ?_) (fun e3 => pk_eq o 4 (fun e => ef _ ?_) (fun e4 => pk_eq o 5 (fun e => br_c (fun hl => ef _ ?_) (fun hl => ef _ ?_)) (fun e5 => absurd h (by omega))))))
    · rw [e]; rfl
    · rw [e]; rfl
    · rw [e]; rfl
    · rw [e]
      show (if y ≤ x then (0 : Int32) else 1) = 0
      exact if_pos hl
    · rw [e]
      show (if y ≤ x then (0 : Int32) else 1) = 1
      exact if_neg hl
theorem yr_1 {post : Int32 → Prop} {x y : Int32} (K : post x) : wpY_reckoned post (nI 1) x y := by
  unfold wpY_reckoned
  exact br_f (by decide) (br_f (by decide) (br_t (by decide) K))
section
variable {f_n f_k f_met f_result f_begun f_last : Int32} {a_many a_op a_d a_a a_b a_kind a_used a_first a_second a_living a_needed a_rules a_edges a_open a_variable : Nat → Int32} {a_begin a_now : Nat → Int64}
variable {G : gr_T}
theorem yt_set {post : Int64 → Prop} {x i : Nat} {e : Nat → Option Int32} (Y : yp_ok G f_n f_k a_many a_op a_d a_a a_b a_kind a_used a_first a_second) (hx : x < gr_n G) (hi : i < gr_mn G x) (hnow : ∀ v, v < 6 → a_now v = vL_ (e v)) (K : post (vL_ (vl_ev G (4 * x + i) e))) : wpY_set post (f_n, f_k, f_met, f_result, f_begun, f_last, a_many, a_op, a_d, a_a, a_b, a_kind, a_used, a_first, a_second, a_living, a_needed, a_rules, a_edges, a_begin, a_now, a_open, a_variable) (nI (4 * x + i)) := by
  have ok := Y.1
  have hn16 := ok.1
  have h4 := (ok.2.2 x hx).1
  have hI := (ok.2.2 x hx).2.2.2.2 i hi
  have hY := Y.2.2.2.2.2.2.2 x i hx hi
  have hop := hI.1
  have ii : vp_in (nI (4 * x + i)) 64 := vp_in_nI (by omega) (by omega)
  have ci := fn_c (a := 4 * x + i) (by omega)
  have k96 : ∀ a b : Option Int32, (gr_op G (4 * x + i) = 1 → b = a) → 1 ≤ gr_op G (4 * x + i) → gr_op G (4 * x + i) < 7 → post (vL_ (if gr_op G (4 * x + i) = 1 then a else vl_2 (vl_calc (gr_op G (4 * x + i))) a b)) → wY_set_96 post (nI (4 * x + i)) (vL_ a) (vL_ b) f_n f_k f_met f_result f_begun f_last a_many a_op a_d a_a a_b a_kind a_used a_first a_second a_living a_needed a_rules a_edges a_begin a_now a_open a_variable := by
    intro a b hab h1 h7 K
    rw [wY_set_96, ci, hY.1]
    cases a with
    | none =>
      refine br_t rfl ?_
      by_cases c : gr_op G (4 * x + i) = 1
      · rw [if_pos c] at K; exact K
      · rw [if_neg c] at K; exact K
    | some p =>
      refine br_f (fun z => by have := (vL_v _).mp z; exact nomatch this) ?_
      cases b with
      | none =>
        refine br_t rfl ?_
        by_cases c : gr_op G (4 * x + i) = 1
        · have := hab c
          exact nomatch this
        · rw [if_neg c] at K; exact K
      | some q =>
        refine br_f (fun z => by have := (vL_v _).mp z; exact nomatch this) ⟨ii, ?_⟩
        rw [vL_s, vL_s, Int32.toInt32_toInt64, Int32.toInt32_toInt64]
        by_cases c : gr_op G (4 * x + i) = 1
        · rw [if_pos c] at K
          rw [c]
          exact yr_1 K
        · rw [if_neg c] at K
          exact yr_calc (by omega) (by omega) K
  have k69 : ∀ a b : Option Int32, (gr_op G (4 * x + i) = 1 → b = a) → 1 ≤ gr_op G (4 * x + i) → gr_op G (4 * x + i) < 7 → post (vL_ (if gr_op G (4 * x + i) = 1 then a else vl_bin (gr_op G (4 * x + i)) a b)) → wY_set_69 post (nI (4 * x + i)) (vL_ a) (vL_ b) f_n f_k f_met f_result f_begun f_last a_many a_op a_d a_a a_b a_kind a_used a_first a_second a_living a_needed a_rules a_edges a_begin a_now a_open a_variable := by
    intro a b hab h1 h7 K
    rw [wY_set_69, ci, hY.1]
    refine ⟨ii, pk_eq (gr_op G (4 * x + i)) 4 (fun h => ?_) (fun h => k96 a b hab h1 h7 ?_)⟩
    · rw [if_neg (by omega)] at K
      have z0 : vL_ (some 0) = 0 := (vL_0 _).mpr rfl
      refine br_c (fun za => ?_) (fun za => br_c (fun zb => ?_) (fun zb => k96 a b hab h1 h7 ?_))
      · rw [show vl_bin (gr_op G (4 * x + i)) a b = some 0 from if_pos ⟨h, Or.inl ((vL_0 a).mp za)⟩, z0] at K
        exact K
      · rw [show vl_bin (gr_op G (4 * x + i)) a b = some 0 from if_pos ⟨h, Or.inr ((vL_0 b).mp zb)⟩, z0] at K
        exact K
      · rw [if_neg (by omega)]
        rw [show vl_bin (gr_op G (4 * x + i)) a b = vl_2 (vl_calc (gr_op G (4 * x + i))) a b from if_neg (fun z => z.2.elim (fun w => za ((vL_0 a).mpr w)) (fun w => zb ((vL_0 b).mpr w)))] at K
        exact K
    · by_cases c : gr_op G (4 * x + i) = 1
      · rw [if_pos c] at K ⊢; exact K
      · rw [if_neg c] at K ⊢
        rw [show vl_bin (gr_op G (4 * x + i)) a b = vl_2 (vl_calc (gr_op G (4 * x + i))) a b from if_neg (fun z => h z.1)] at K
        exact K
  unfold wpY_set
  dsimp only
  rw [ci, hY.1, hY.2.2.1]
  unfold vl_ev at K
  refine ⟨ii, pk_eq (gr_op G (4 * x + i)) 7 (fun h => ?_) (fun h7 => ⟨ii, pk_eq (gr_op G (4 * x + i)) 0 (fun h => ⟨ii, ?_⟩) (fun h0 => ⟨ii, ?_⟩)⟩)⟩
  · rw [if_pos h] at K; exact K
  · rw [if_neg h7, if_pos h] at K; exact K
  · have ha := hI.2.2.2 h0 h7
    have ha6 := ha.2
    rw [if_neg h7, if_neg h0] at K
    rw [ha.1, fn_c (a := gr_av G (4 * x + i)) (by omega), hnow _ ha.2]
    refine ⟨vp_in_nI (by omega) (by omega), nm_e ⟨ii, pk_eq (gr_op G (4 * x + i)) 1 (fun h1 => ?_) (fun h1 => ⟨ii, ?_⟩)⟩⟩
    · refine k69 _ _ (fun _ => rfl) (by omega) (by omega) ?_
      rw [if_pos h1] at K ⊢
      exact K
    · have hb6 := hI.2.2.1
      rw [hY.2.2.2 (by omega) (by omega), fn_c (a := gr_bb G (4 * x + i)) (by omega), hnow _ hb6]
      refine ⟨vp_in_nI (by omega) (by omega), k69 _ _ (fun z => absurd z h1) (by omega) (by omega) ?_⟩
      rw [if_neg h1] at K ⊢
      exact K
theorem yg_35 {post : SY → Prop} {x : Nat} {e : Nat → Option Int32} (Y : yp_ok G f_n f_k a_many a_op a_d a_a a_b a_kind a_used a_first a_second) (hx : x < gr_n G) (K : ∀ a_now : Nat → Int64, (∀ v, v < 6 → a_now v = vL_ (vl_e G x e (gr_mn G x) v)) → post (f_n, f_k, f_met, f_result, f_begun, f_last, a_many, a_op, a_d, a_a, a_b, a_kind, a_used, a_first, a_second, a_living, a_needed, a_rules, a_edges, a_begin, a_now, a_open, a_variable)) :
    ∀ n i (a_now : Nat → Int64), gr_mn G x < n + i → i ≤ gr_mn G x → (∀ v, v < 6 → a_now v = vL_ (vl_e G x e i v)) → wY_go_35 post (nI x) f_n f_k f_met f_result f_begun f_last n (nI (4 * x + i)) a_many a_op a_d a_a a_b a_kind a_used a_first a_second a_living a_needed a_rules a_edges a_begin a_now a_open a_variable := by
  have ok := Y.1
  have hn16 := ok.1
  have h4 := (ok.2.2 x hx).1
  intro n
  induction n with
  | zero => intro i _ h1 h2; omega
  | succ n ih =>
    intro i a_now h1 h2 hnow
    rw [wY_go_35]
    dsimp only
    rw [fn_c (a := x) (by omega), Y.2.2.2.1 x hx, fn_42]
    refine ⟨vp_in_nI (by omega) (by omega), pk_le (4 * x + gr_mn G x) (4 * x + i) (fun h => ?_) (fun h => ?_)⟩
    · have ei : i = gr_mn G x := by omega
      subst ei
      exact K a_now hnow
    · have hi : i < gr_mn G x := by omega
      have hd := ((ok.2.2 x hx).2.2.2.2 i hi).2.1
      refine yt_set Y hx hi hnow ?_
      rw [fn_c (a := 4 * x + i) (by omega), (Y.2.2.2.2.2.2.2 x i hx hi).2.1, fn_c (a := gr_dd G (4 * x + i)) (by omega)]
      refine ⟨vp_in_nI (by omega) (by omega), vp_in_nI (by omega) (by omega), nm_e (nm_r (nI_1 _) (ih (i + 1) _ (by omega) (by omega) (fun v hv => ?_)))⟩
      show _ = vL_ (if v = gr_dd G (4 * x + i) then vl_ev G (4 * x + i) (vl_e G x e i) else vl_e G x e i v)
      by_cases c : v = gr_dd G (4 * x + i)
      · rw [if_pos c, c, pk_uLs]
      · rw [if_neg c, pk_uLn c]; exact hnow v hv
theorem yg_2 {post : SY → Prop} {x : Nat} {e : Nat → Option Int32} (Y : yp_ok G f_n f_k a_many a_op a_d a_a a_b a_kind a_used a_first a_second) (hx : x < gr_n G) (hb : ∀ v, v < 6 → a_begin (6 * x + v) = vL_ (e v)) (K : ∀ a_now : Nat → Int64, (∀ v, v < 6 → a_now v = vL_ (vl_e G x e (gr_mn G x) v)) → post (f_n, f_k, f_met, f_result, f_begun, f_last, a_many, a_op, a_d, a_a, a_b, a_kind, a_used, a_first, a_second, a_living, a_needed, a_rules, a_edges, a_begin, a_now, a_open, a_variable)) :
    ∀ n v (a_now : Nat → Int64), 6 < n + v → v ≤ 6 → (∀ w, w < v → a_now w = vL_ (e w)) → wY_go_2 post (nI x) f_n f_k f_met f_result f_begun f_last n (nI v) a_many a_op a_d a_a a_b a_kind a_used a_first a_second a_living a_needed a_rules a_edges a_begin a_now a_open a_variable := by
  have ok := Y.1
  have hn16 := ok.1
  have h4 := (ok.2.2 x hx).1
  intro n
  induction n with
  | zero => intro v _ h1 h2; omega
  | succ n ih =>
    intro v a_now h1 h2 hnow
    rw [wY_go_2]
    refine pk_le 6 v (fun h => ?_) (fun h => ?_)
    · exact nm_r (e' := nI (4 * x + 0)) (by rw [fn_4]; rfl) ⟨5, yg_35 Y hx K 5 0 a_now (by omega) (by omega) (fun w hw => hnow w (by omega))⟩
    · rw [fn_62, fn_c (a := 6 * x + v) (by omega), fn_c (a := v) (by omega), hb v h]
      refine ⟨vp_in_nI (by omega) (by omega), vp_in_nI (by omega) (by omega), nm_e (nm_r (nI_1 v) (ih (v + 1) _ (by omega) (by omega) (fun w hw => ?_)))⟩
      by_cases c : w = v
      · rw [c, pk_uLs]
      · rw [pk_uLn c]; exact hnow w (by omega)
theorem yg_go {post : SY → Prop} {x : Nat} {e : Nat → Option Int32} (Y : yp_ok G f_n f_k a_many a_op a_d a_a a_b a_kind a_used a_first a_second) (hx : x < gr_n G) (hb : ∀ v, v < 6 → a_begin (6 * x + v) = vL_ (e v)) (K : ∀ a_now : Nat → Int64, (∀ v, v < 6 → a_now v = vL_ (vl_e G x e (gr_mn G x) v)) → post (f_n, f_k, f_met, f_result, f_begun, f_last, a_many, a_op, a_d, a_a, a_b, a_kind, a_used, a_first, a_second, a_living, a_needed, a_rules, a_edges, a_begin, a_now, a_open, a_variable)) : wpY_go post (f_n, f_k, f_met, f_result, f_begun, f_last, a_many, a_op, a_d, a_a, a_b, a_kind, a_used, a_first, a_second, a_living, a_needed, a_rules, a_edges, a_begin, a_now, a_open, a_variable) (nI x) := by
  show ∃ n2 : Nat, wY_go_2 post (nI x) f_n f_k f_met f_result f_begun f_last n2 0 a_many a_op a_d a_a a_b a_kind a_used a_first a_second a_living a_needed a_rules a_edges a_begin a_now a_open a_variable
  exact ⟨7, yg_2 Y hx hb K 7 0 a_now (by omega) (by omega) (fun w hw => by omega)⟩
theorem yl_leads {post : Int32 → Prop} {x j : Nat} {e : Nat → Option Int32} (Y : yp_ok G f_n f_k a_many a_op a_d a_a a_b a_kind a_used a_first a_second) (hx : x < gr_n G) (hj : j < 2) (hnow : ∀ v, v < 6 → a_now v = vL_ (e v)) (K1 : vl_ld G x j (e (gr_ak G x)) → post 1) (K0 : ¬ vl_ld G x j (e (gr_ak G x)) → post 0) : wpY_leads post (f_n, f_k, f_met, f_result, f_begun, f_last, a_many, a_op, a_d, a_a, a_b, a_kind, a_used, a_first, a_second, a_living, a_needed, a_rules, a_edges, a_begin, a_now, a_open, a_variable) (nI x) (nI j) := by
  have ok := Y.1
  have hn16 := ok.1
  have hB := ok.2.2 x hx
  have hkd := hB.2.1
  have hak := hB.2.2.1
  have ix : vp_in (nI x) 16 := vp_in_nI (by omega) (by omega)
  have cx := fn_c (a := x) (by omega)
  have k80 : ∀ z : Nat, z < 2 → (z = j → post 1) → (z ≠ j → post 0) → wY_leads_80 post (nI j) (nI z) f_n f_k f_met f_result f_begun f_last a_many a_op a_d a_a a_b a_kind a_used a_first a_second a_living a_needed a_rules a_edges a_begin a_now a_open a_variable := by
    intro z hz h1 h0
    rw [wY_leads_80]
    exact pk_eq z j h1 h0
  have k25 : j < gr_kd G x → wY_leads_25 post (nI x) (nI j) f_n f_k f_met f_result f_begun f_last a_many a_op a_d a_a a_b a_kind a_used a_first a_second a_living a_needed a_rules a_edges a_begin a_now a_open a_variable := by
    intro hjk
    rw [wY_leads_25, cx, Y.2.2.2.2.1 x hx]
    refine ⟨ix, pk_eq (gr_kd G x) 1 (fun h1 => ?_) (fun h1 => ⟨ix, ?_⟩)⟩
    · rw [wY_leads_50, cx, Y.2.2.2.2.1 x hx]
      exact ⟨ix, br_t (by rw [h1]; rfl) (K1 ⟨hjk, fun h2 => by omega⟩)⟩
    · rw [(Y.2.2.2.2.2.1 x hx).2 h1, fn_c (a := gr_ak G x) (by omega), hnow _ hak]
      refine ⟨vp_in_nI (by omega) (by omega), ?_⟩
      rw [wY_leads_50, cx, Y.2.2.2.2.1 x hx]
      refine ⟨ix, pk_eq (gr_kd G x) 1 (fun h => absurd h h1) (fun _ => br_c (fun hv => K1 ⟨hjk, fun _ => Or.inl ((vL_v _).mp hv)⟩) (fun hv => ?_))⟩
      cases he : e (gr_ak G x) with
      | none => rw [he] at hv; exact absurd rfl hv
      | some c =>
        rw [he] at K1 K0
        refine br_c (fun h0 => ?_) (fun h0 => ?_)
        · have hc : c = 0 := Option.some.inj ((vL_0 _).mp h0)
          exact k80 1 (by omega) (fun ej => K1 ⟨hjk, fun _ => Or.inr ⟨c, rfl, ⟨fun _ => ej.symm, fun _ => hc⟩⟩⟩) (fun ej => K0 (fun z => by
            rcases z.2 (by omega) with w | ⟨d, w1, w2⟩
            · exact nomatch w
            · cases w1
              exact ej (w2.mp hc).symm))
        · have hc : c ≠ 0 := fun z => h0 ((vL_0 _).mpr (by rw [z]))
          exact k80 0 (by omega) (fun ej => K1 ⟨hjk, fun _ => Or.inr ⟨c, rfl, ⟨fun z => absurd z hc, fun z => by omega⟩⟩⟩) (fun ej => K0 (fun z => by
            rcases z.2 (by omega) with w | ⟨d, w1, w2⟩
            · exact nomatch w
            · cases w1
              exact hc (w2.mpr (by omega))))
  unfold wpY_leads
  dsimp only
  rw [cx, Y.2.2.2.2.1 x hx]
  refine ⟨ix, pk_eq (gr_kd G x) 0 (fun h0 => K0 (fun z => by have := z.1; omega)) (fun h0 => pk_eq j 0 (fun hj0 => k25 (by omega)) (fun hj0 => ⟨ix, pk_eq (gr_kd G x) 1 (fun h1 => K0 (fun z => by have := z.1; omega)) (fun h1 => k25 (by omega))⟩))⟩
end
/-! the state of the search: open blocks, values at their beginnings -/
def yr_A (O : Nat → Prop) (B : Nat → Nat → Option Int32) (a_begin : Nat → Int64) (a_open : Nat → Int32) : Prop := ∀ y, y < 16 → (O y → a_open y = 1 ∧ ∀ v, v < 6 → a_begin (6 * y + v) = vL_ (B y v)) ∧ (¬ O y → a_open y = 0 ∧ ∀ v, v < 6 → a_begin (6 * y + v) = 10000000000)
noncomputable def yr_B (O : Nat → Prop) (B : Nat → Nat → Option Int32) (y : Nat) (e : Nat → Option Int32) : Nat → Nat → Option Int32 := fun z v => if z = y ∧ v < 6 then @ite _ (O y) (Classical.propDecidable _) (vl_j (B y v) (e v)) (e v) else B z v
theorem yr_B1 {O : Nat → Prop} {B : Nat → Nat → Option Int32} {y : Nat} {e : Nat → Option Int32} {v : Nat} (hv : v < 6) (h : O y) : yr_B O B y e y v = vl_j (B y v) (e v) := (if_pos ⟨rfl, hv⟩).trans (if_pos h)
theorem yr_B0 {O : Nat → Prop} {B : Nat → Nat → Option Int32} {y : Nat} {e : Nat → Option Int32} {v : Nat} (hv : v < 6) (h : ¬ O y) : yr_B O B y e y v = e v := (if_pos ⟨rfl, hv⟩).trans (if_neg h)
theorem yr_Bn {O : Nat → Prop} {B : Nat → Nat → Option Int32} {y z : Nat} {e : Nat → Option Int32} {v : Nat} (h : z ≠ y) : yr_B O B y e z v = B z v := if_neg (fun w => h w.1)
noncomputable def yr_m (G : gr_T) (O : Nat → Prop) (B : Nat → Nat → Option Int32) : Nat := sg_s (fun x => sg_s (fun v => 2 * b01 (¬ O x) + b01 (O x ∧ B x v ≠ none)) 6) (gr_n G)
def yr_ch (O : Nat → Prop) (B : Nat → Nat → Option Int32) (y : Nat) (e : Nat → Option Int32) : Prop := ¬ O y ∨ ∃ v, v < 6 ∧ vl_j (B y v) (e v) ≠ B y v
section
variable {G : gr_T} {O : Nat → Prop} {B : Nat → Nat → Option Int32} {y : Nat} {e : Nat → Option Int32}
theorem yr_ms (hy : y < gr_n G) (hc : yr_ch O B y e) : yr_m G (fun z => O z ∨ z = y) (yr_B O B y e) < yr_m G O B := by
  have h1 := sg_up (f := fun x => sg_s (fun v => 2 * b01 (¬ (O x ∨ x = y)) + b01 ((O x ∨ x = y) ∧ yr_B O B y e x v ≠ none)) 6) (g := fun x => sg_s (fun v => 2 * b01 (¬ O x) + b01 (O x ∧ B x v ≠ none)) 6) hy (fun i _ hi => sg_eq (fun v _ => by
    show 2 * b01 (¬ (O i ∨ i = y)) + b01 ((O i ∨ i = y) ∧ yr_B O B y e i v ≠ none) = 2 * b01 (¬ O i) + b01 (O i ∧ B i v ≠ none)
    rw [yr_Bn hi, b01_i (p := ¬ (O i ∨ i = y)) (q := ¬ O i) ⟨fun z w => z (Or.inl w), fun z w => w.elim z hi⟩, b01_i (p := (O i ∨ i = y) ∧ B i v ≠ none) (q := O i ∧ B i v ≠ none) ⟨fun z => ⟨z.1.elim id (fun w => absurd w hi), z.2⟩, fun z => ⟨Or.inl z.1, z.2⟩⟩]))
  have h2 : sg_s (fun v => 2 * b01 (¬ (O y ∨ y = y)) + b01 ((O y ∨ y = y) ∧ yr_B O B y e y v ≠ none)) 6 < sg_s (fun v => 2 * b01 (¬ O y) + b01 (O y ∧ B y v ≠ none)) 6 := by
    have e0 : b01 (¬ (O y ∨ y = y)) = 0 := b01_f (fun z => z (Or.inr rfl))
    by_cases ho : O y
    · have e1 : b01 (¬ O y) = 0 := b01_f (fun z => z ho)
      rcases hc with z | ⟨v, hv, hne⟩
      · exact absurd ho z
      · have hBv : B y v ≠ none := fun z => by
          rw [z] at hne
          exact hne (vj_le.mpr vl_tp)
        have hj : vl_j (B y v) (e v) = none := by
          unfold vl_j at hne ⊢
          by_cases q : B y v = e v
          · rw [if_pos q] at hne; exact absurd rfl hne
          · rw [if_neg q]
        have e3 := sg_up (f := fun w => if w = v then 0 else 2 * b01 (¬ O y) + b01 (O y ∧ B y w ≠ none)) (g := fun w => 2 * b01 (¬ O y) + b01 (O y ∧ B y w ≠ none)) hv (fun i _ hi => if_neg hi)
        have e4 : sg_s (fun v => 2 * b01 (¬ (O y ∨ y = y)) + b01 ((O y ∨ y = y) ∧ yr_B O B y e y v ≠ none)) 6 ≤ sg_s (fun w => if w = v then 0 else 2 * b01 (¬ O y) + b01 (O y ∧ B y w ≠ none)) 6 := sg_le (fun i hi => by
          show 2 * b01 (¬ (O y ∨ y = y)) + b01 ((O y ∨ y = y) ∧ yr_B O B y e y i ≠ none) ≤ if i = v then 0 else 2 * b01 (¬ O y) + b01 (O y ∧ B y i ≠ none)
          rw [e0, yr_B1 hi ho]
          by_cases c : i = v
          · rw [if_pos c, c, hj, b01_f (fun z => z.2 rfl)]; exact Nat.le_refl _
          · rw [if_neg c]
            by_cases q : B y i = none
            · rw [q, show vl_j none (e i) = none from vj_le.mpr vl_tp, b01_f (fun z => z.2 rfl)]; exact Nat.zero_le _
            · rw [b01_t (p := O y ∧ B y i ≠ none) ⟨ho, q⟩]
              have := b01_1 ((O y ∨ y = y) ∧ vl_j (B y i) (e i) ≠ none)
              omega)
        have e5 : 2 * b01 (¬ O y) + b01 (O y ∧ B y v ≠ none) = 1 := by rw [e1, b01_t ⟨ho, hBv⟩]
        simp only [if_pos, e5] at e3
        omega
    · have e1 : b01 (¬ O y) = 1 := b01_t ho
      have e2 : sg_s (fun v => 2 * b01 (¬ (O y ∨ y = y)) + b01 ((O y ∨ y = y) ∧ yr_B O B y e y v ≠ none)) 6 ≤ 1 * 6 := sg_b (fun i _ => by
        show 2 * b01 (¬ (O y ∨ y = y)) + b01 ((O y ∨ y = y) ∧ yr_B O B y e y i ≠ none) ≤ 1
        have := b01_1 ((O y ∨ y = y) ∧ yr_B O B y e y i ≠ none)
        omega)
      have e3 : sg_s (fun _ => 2) 6 ≤ sg_s (fun v => 2 * b01 (¬ O y) + b01 (O y ∧ B y v ≠ none)) 6 := sg_le (fun i _ => by
        show 2 ≤ 2 * b01 (¬ O y) + b01 (O y ∧ B y i ≠ none)
        omega)
      have e4 : sg_s (fun _ => 2) 6 = 12 := rfl
      omega
  show sg_s (fun x => sg_s (fun v => 2 * b01 (¬ (O x ∨ x = y)) + b01 ((O x ∨ x = y) ∧ yr_B O B y e x v ≠ none)) 6) (gr_n G) < sg_s (fun x => sg_s (fun v => 2 * b01 (¬ O x) + b01 (O x ∧ B x v ≠ none)) 6) (gr_n G)
  omega
theorem yr_same (hc : ¬ yr_ch O B y e) : (fun z => O z ∨ z = y) = O ∧ yr_B O B y e = B := by
  have ho : O y := Classical.byContradiction (fun z => hc (Or.inl z))
  refine ⟨funext (fun z => propext ⟨fun w => w.elim id (fun q => by rw [q]; exact ho), Or.inl⟩), ?_⟩
  funext z v
  by_cases h : z = y
  · by_cases hv : v < 6
    · rw [h, yr_B1 hv ho]
      exact Classical.byContradiction (fun w => hc (Or.inr ⟨v, hv, w⟩))
    · exact if_neg (fun w => hv w.2)
  · exact yr_Bn h
/-- below every closed solution -/
def yr_lo (G : gr_T) (O : Nat → Prop) (B : Nat → Nat → Option Int32) : Prop := ∀ O' B', vl_cl G O' B' → ∀ x, O x → O' x ∧ ∀ v, v < 6 → vl_le (B x v) (B' x v)
theorem yr_lw (hL : yr_lo G O B) (hy : ∀ O' B', vl_cl G O' B' → O' y ∧ ∀ v, v < 6 → vl_le (e v) (B' y v)) : yr_lo G (fun z => O z ∨ z = y) (yr_B O B y e) := by
  intro O' B' hc x hx
  have h1 := hy O' B' hc
  by_cases h : x = y
  · subst h
    refine ⟨h1.1, fun v hv => ?_⟩
    by_cases ho : O x
    · rw [yr_B1 hv ho]
      exact vj_ub ((hL O' B' hc x ho).2 v hv) (h1.2 v hv)
    · rw [yr_B0 hv ho]
      exact h1.2 v hv
  · have ho : O x := hx.resolve_right h
    refine ⟨(hL O' B' hc x ho).1, fun v hv => ?_⟩
    rw [yr_Bn h]
    exact (hL O' B' hc x ho).2 v hv
end
section
variable {f_n f_k f_met f_result f_begun f_last : Int32} {a_many a_op a_d a_a a_b a_kind a_used a_first a_second a_living a_needed a_rules a_edges a_open a_variable : Nat → Int32} {a_begin a_now : Nat → Int64}
variable {G : gr_T}
theorem yw_24 {post : Int32 → SY → Prop} {O : Nat → Prop} {B : Nat → Nat → Option Int32} {y : Nat} {e : Nat → Option Int32} (hy : y < 16) (hnow : ∀ v, v < 6 → a_now v = vL_ (e v)) (hA : ∀ z, z < 16 → z ≠ y → (O z → a_open z = 1) ∧ (¬ O z → a_open z = 0)) (ho1 : a_open y = 1)
    (K : ∀ (fl : Int32) (a_begin : Nat → Int64), yr_A (fun z => O z ∨ z = y) (yr_B O B y e) a_begin a_open → ((fl = 0 ∧ ¬ yr_ch O B y e) ∨ (fl = 1 ∧ yr_ch O B y e)) → post fl (f_n, f_k, f_met, f_result, f_begun, f_last, a_many, a_op, a_d, a_a, a_b, a_kind, a_used, a_first, a_second, a_living, a_needed, a_rules, a_edges, a_begin, a_now, a_open, a_variable)) :
    ∀ n v (fl : Int32) (a_begin : Nat → Int64), 6 < n + v → v ≤ 6 → (∀ z, z < 16 → z ≠ y → (O z → ∀ w, w < 6 → a_begin (6 * z + w) = vL_ (B z w)) ∧ (¬ O z → ∀ w, w < 6 → a_begin (6 * z + w) = 10000000000)) → (∀ w, w < v → a_begin (6 * y + w) = vL_ (yr_B O B y e y w)) → (∀ w, v ≤ w → w < 6 → (O y → a_begin (6 * y + w) = vL_ (B y w)) ∧ (¬ O y → a_begin (6 * y + w) = 10000000000)) → ((fl = 0 ∧ O y ∧ ∀ w, w < v → vl_j (B y w) (e w) = B y w) ∨ (fl = 1 ∧ yr_ch O B y e)) → wY_widened_24 post (nI y) f_n f_k f_met f_result f_begun f_last n fl (nI v) a_many a_op a_d a_a a_b a_kind a_used a_first a_second a_living a_needed a_rules a_edges a_begin a_now a_open a_variable := by
  intro n
  induction n with
  | zero => intro v fl _ h1 h2; omega
  | succ n ih =>
    intro v fl a_begin h1 h2 ha hb hc hf
    rw [wY_widened_24]
    refine pk_le 6 v (fun h => ?_) (fun h => ?_)
    · have hv6 : v = 6 := by omega
      subst hv6
      have hfin : (fl = 0 ∧ ¬ yr_ch O B y e) ∨ (fl = 1 ∧ yr_ch O B y e) := hf.elim (fun z => Or.inl ⟨z.1, fun w => w.elim (fun q => q z.2.1) (fun ⟨u, hu, q⟩ => q (z.2.2 u hu))⟩) Or.inr
      refine ⟨?_, K fl a_begin (fun z hz => ?_) hfin⟩
      · rcases hf with z | z
        · rw [z.1]; rfl
        · rw [z.1]; rfl
      · by_cases ez : z = y
        · subst ez
          exact ⟨fun _ => ⟨ho1, hb⟩, fun w => absurd (Or.inr rfl) w⟩
        · refine ⟨fun w => ⟨(hA z hz ez).1 (w.resolve_right ez), fun u hu => ?_⟩, fun w => ⟨(hA z hz ez).2 (fun q => w (Or.inl q)), (ha z hz ez).2 (fun q => w (Or.inl q))⟩⟩
          rw [yr_Bn ez]
          exact (ha z hz ez).1 (w.resolve_right ez) u hu
    · have iyv : vp_in (nI (6 * y + v)) 96 := vp_in_nI (by omega) (by omega)
      have cyv := fn_c (a := 6 * y + v) (by omega)
      rw [fn_62, cyv, fn_c (a := v) (by omega), hnow v h]
      have k71 : ∀ (fl' : Int32) (nv : Option Int32), yr_B O B y e y v = nv → ((fl' = 0 ∧ O y ∧ ∀ w, w < v + 1 → vl_j (B y w) (e w) = B y w) ∨ (fl' = 1 ∧ yr_ch O B y e)) → wY_widened_71 post (wY_widened_24 post (nI y) f_n f_k f_met f_result f_begun f_last n) (nI y) fl' (nI v) (vL_ nv) f_n f_k f_met f_result f_begun f_last a_many a_op a_d a_a a_b a_kind a_used a_first a_second a_living a_needed a_rules a_edges a_begin a_now a_open a_variable := by
        intro fl' nv hnv hf'
        rw [wY_widened_71, fn_62, cyv]
        refine ⟨iyv, nm_e (nm_r (nI_1 v) (ih (v + 1) fl' _ (by omega) (by omega) (fun z hz ez => ⟨fun w u hu => ?_, fun w u hu => ?_⟩) (fun w hw => ?_) (fun w hw hw6 => ?_) hf'))⟩
        · rw [pk_uLn (by omega)]; exact (ha z hz ez).1 w u hu
        · rw [pk_uLn (by omega)]; exact (ha z hz ez).2 w u hu
        · by_cases ew : w = v
          · rw [ew, pk_uLs, hnv]
          · rw [pk_uLn (by omega)]; exact hb w (by omega)
        · rw [pk_uLn (by omega)]; exact hc w (by omega) hw6
      by_cases ho : O y
      · rw [(hc v (Nat.le_refl _) h).1 ho]
        refine ⟨iyv, vp_in_nI (by omega) (by omega), yj_joined ⟨iyv, br_c (fun hq => ?_) (fun hq => ?_)⟩⟩
        · have hj := vL_inj hq
          refine k71 fl _ (yr_B1 h ho) (hf.elim (fun z => Or.inl ⟨z.1, ho, fun w hw => ?_⟩) Or.inr)
          by_cases ew : w = v
          · rw [ew]; exact hj
          · exact z.2.2 w (by omega)
        · exact k71 1 _ (yr_B1 h ho) (Or.inr ⟨rfl, Or.inr ⟨v, h, fun z => hq (by rw [z])⟩⟩)
      · rw [(hc v (Nat.le_refl _) h).2 ho]
        refine ⟨iyv, vp_in_nI (by omega) (by omega), yj_new ⟨iyv, br_c (fun hq => absurd hq (vL_ne _)) (fun hq => k71 1 _ (yr_B0 h ho) (Or.inr ⟨rfl, Or.inl ho⟩))⟩⟩
theorem yw_widened {post : Int32 → SY → Prop} {O : Nat → Prop} {B : Nat → Nat → Option Int32} {y : Nat} {e : Nat → Option Int32} (hy : y < 16) (hnow : ∀ v, v < 6 → a_now v = vL_ (e v)) (hA : yr_A O B a_begin a_open)
    (K : ∀ (fl : Int32) (a_begin : Nat → Int64) (a_open : Nat → Int32), yr_A (fun z => O z ∨ z = y) (yr_B O B y e) a_begin a_open → ((fl = 0 ∧ ¬ yr_ch O B y e) ∨ (fl = 1 ∧ yr_ch O B y e)) → post fl (f_n, f_k, f_met, f_result, f_begun, f_last, a_many, a_op, a_d, a_a, a_b, a_kind, a_used, a_first, a_second, a_living, a_needed, a_rules, a_edges, a_begin, a_now, a_open, a_variable)) : wpY_widened post (f_n, f_k, f_met, f_result, f_begun, f_last, a_many, a_op, a_d, a_a, a_b, a_kind, a_used, a_first, a_second, a_living, a_needed, a_rules, a_edges, a_begin, a_now, a_open, a_variable) (nI y) := by
  have iy : vp_in (nI y) 16 := vp_in_nI hy (by omega)
  have cy := fn_c (a := y) (by omega)
  have vb1 : vp_nar .boolean 1 = 1 := rfl
  have k14 : ∀ fl : Int32, ((fl = 0 ∧ O y) ∨ (fl = 1 ∧ ¬ O y)) → wY_widened_14 post (nI y) fl f_n f_k f_met f_result f_begun f_last a_many a_op a_d a_a a_b a_kind a_used a_first a_second a_living a_needed a_rules a_edges a_begin a_now a_open a_variable := by
    intro fl hf
    rw [wY_widened_14, cy, vb1]
    refine ⟨iy, nm_e ⟨7, yw_24 (O := O) (B := B) (e := e) hy hnow (fun z hz ez => ?_) pk_us (fun fl' a_begin hA' hf' => K fl' a_begin _ hA' hf') 7 0 fl a_begin (by omega) (by omega) (fun z hz ez => ⟨fun w => ((hA z hz).1 w).2, fun w => ((hA z hz).2 w).2⟩) (fun w hw => by omega) (fun w _ hw => ⟨fun z => ((hA y hy).1 z).2 w hw, fun z => ((hA y hy).2 z).2 w hw⟩) (hf.elim (fun z => Or.inl ⟨z.1, z.2, fun w hw => by omega⟩) (fun z => Or.inr ⟨z.1, Or.inl z.2⟩))⟩⟩
    rw [pk_un ez]
    exact ⟨fun w => ((hA z hz).1 w).1, fun w => ((hA z hz).2 w).1⟩
  unfold wpY_widened
  dsimp only
  rw [cy]
  refine ⟨iy, ?_⟩
  by_cases ho : O y
  · rw [((hA y hy).1 ho).1]
    exact br_f (by decide) (k14 0 (Or.inl ⟨rfl, ho⟩))
  · rw [((hA y hy).2 ho).1]
    exact br_t rfl (k14 1 (Or.inr ⟨rfl, ho⟩))
end
end
section
def yr_cl (G : gr_T) (O : Nat → Prop) (B : Nat → Nat → Option Int32) (y : Nat) : Prop := ∀ j, vl_ld G y j (vl_e G y (B y) (gr_mn G y) (gr_ak G y)) → O (gr_tg G (2 * y + j)) ∧ ∀ v, v < 6 → vl_le (vl_e G y (B y) (gr_mn G y) v) (B (gr_tg G (2 * y + j)) v)
def yz_I (G : gr_T) (O : Nat → Prop) (B : Nat → Nat → Option Int32) : Prop := (∀ y, O y → y < gr_n G) ∧ yr_lo G O B ∧ (0 < gr_n G → O 0 ∧ ∀ v, v < 6 → vl_le (vl_i G v) (B 0 v))
section
variable {G : gr_T} {O : Nat → Prop} {B : Nat → Nat → Option Int32}
theorem yz_w (I : yz_I G O B) {y : Nat} {e : Nat → Option Int32} (hy : y < gr_n G) (hy1 : 1 ≤ y) (hl : ∀ O' B', vl_cl G O' B' → O' y ∧ ∀ v, v < 6 → vl_le (e v) (B' y v)) : yz_I G (fun z => O z ∨ z = y) (yr_B O B y e) := by
  refine ⟨fun z hz => hz.elim (I.1 z) (fun w => by rw [w]; exact hy), yr_lw I.2.1 hl, fun h0 => ⟨Or.inl (I.2.2 h0).1, fun v hv => ?_⟩⟩
  rw [yr_Bn (by omega)]
  exact (I.2.2 h0).2 v hv
theorem yz_LC (I : yz_I G O B) (hc : ∀ y, y < gr_n G → O y → yr_cl G O B y) : vl_LC G O B := ⟨⟨I.2.2, fun x hx hxn j hj => hc x hxn hx j hj⟩, I.2.1⟩
theorem yz_low (ok : gr_ok G) (I : yz_I G O B) {x j : Nat} (hx : O x) (hj : vl_ld G x j (vl_e G x (B x) (gr_mn G x) (gr_ak G x))) : ∀ O' B', vl_cl G O' B' → O' (gr_tg G (2 * x + j)) ∧ ∀ v, v < 6 → vl_le (vl_e G x (B x) (gr_mn G x) v) (B' (gr_tg G (2 * x + j)) v) := by
  intro O' B' hc
  have hxn := I.1 x hx
  have h1 := I.2.1 O' B' hc x hx
  have h2 := vl_em ok hxn h1.2 (gr_mn G x) (Nat.le_refl _)
  have h3 := hc.2 x h1.1 hxn j (vl_ldm (h2 _ (ok.2.2 x hxn).2.2.1) hj)
  exact ⟨h3.1, fun v hv => vl_tr (h2 v hv) (h3.2 v hv)⟩
end
section
variable {f_n f_k f_met f_result f_begun f_last : Int32} {a_many a_op a_d a_a a_b a_kind a_used a_first a_second a_living a_needed a_rules a_edges a_open a_variable : Nat → Int32} {a_begin a_now : Nat → Int64}
variable {G : gr_T}
theorem yz_114 {post : SY → Prop} {J106 : Int32 → Int32 → Int32 → Int32 → Int32 → Int32 → Int32 → (Nat → Int32) → (Nat → Int32) → (Nat → Int32) → (Nat → Int32) → (Nat → Int32) → (Nat → Int32) → (Nat → Int32) → (Nat → Int32) → (Nat → Int32) → (Nat → Int32) → (Nat → Int32) → (Nat → Int32) → (Nat → Int32) → (Nat → Int64) → (Nat → Int64) → (Nat → Int32) → (Nat → Int32) → Prop} (Y : yp_ok G f_n f_k a_many a_op a_d a_a a_b a_kind a_used a_first a_second) {M : Nat}
    (K0 : ∀ (O : Nat → Prop) (B : Nat → Nat → Option Int32) (a_begin a_now : Nat → Int64) (a_open : Nat → Int32), yr_A O B a_begin a_open → vl_LC G O B → J106 0 f_n f_k f_met f_result f_begun f_last a_many a_op a_d a_a a_b a_kind a_used a_first a_second a_living a_needed a_rules a_edges a_begin a_now a_open a_variable)
    (K1 : ∀ (O : Nat → Prop) (B : Nat → Nat → Option Int32) (a_begin a_now : Nat → Int64) (a_open : Nat → Int32), yr_A O B a_begin a_open → yz_I G O B → yr_m G O B < M → J106 1 f_n f_k f_met f_result f_begun f_last a_many a_op a_d a_a a_b a_kind a_used a_first a_second a_living a_needed a_rules a_edges a_begin a_now a_open a_variable) :
    ∀ n x (fl : Int32) (O : Nat → Prop) (B : Nat → Nat → Option Int32) (a_begin a_now : Nat → Int64) (a_open : Nat → Int32), gr_n G < n + x → x ≤ gr_n G → yr_A O B a_begin a_open → yz_I G O B → ((fl = 0 ∧ (∀ y, y < x → O y → yr_cl G O B y) ∧ yr_m G O B ≤ M) ∨ (fl = 1 ∧ yr_m G O B < M)) → wY_solve_114 post J106 n fl (nI x) f_n f_k f_met f_result f_begun f_last a_many a_op a_d a_a a_b a_kind a_used a_first a_second a_living a_needed a_rules a_edges a_begin a_now a_open a_variable := by
  have ok := Y.1
  have hn16 := ok.1
  intro n
  induction n with
  | zero => intro x fl O B _ _ _ h1 h2; omega
  | succ n ih =>
    intro x fl O B a_begin a_now a_open h1 h2 hA I hf
    rw [wY_solve_114]
    refine pk_le (gr_n G) x (fun h => ?_) (fun h => ?_) Y.2.1
    · rcases hf with ⟨rfl, q1, _⟩ | ⟨rfl, q⟩
      · exact K0 O B _ _ _ hA (yz_LC I (fun y hy ho => q1 y (by omega) ho))
      · exact K1 O B _ _ _ hA I q
    · have ix : vp_in (nI x) 16 := vp_in_nI (by omega) (by omega)
      have cx := fn_c (a := x) (by omega)
      have hB := ok.2.2 x h
      have hkd := hB.2.1
      have hak := hB.2.2.1
      rw [cx]
      by_cases ho : O x
      · rw [((hA x (by omega)).1 ho).1]
        refine ⟨ix, br_f (by decide) ?_⟩
        refine yg_go Y h ((hA x (by omega)).1 ho).2 (fun a_now hnow => ?_)
        -- the second edge
        have k163 : ∀ (fl : Int32) (O1 : Nat → Prop) (B1 : Nat → Nat → Option Int32) (a_begin : Nat → Int64) (a_open : Nat → Int32), yr_A O1 B1 a_begin a_open → yz_I G O1 B1 → ((fl = 0 ∧ O1 = O ∧ B1 = B ∧ (∀ y, y < x → O y → yr_cl G O B y) ∧ (vl_ld G x 0 (vl_e G x (B x) (gr_mn G x) (gr_ak G x)) → O (gr_tg G (2 * x + 0)) ∧ ∀ v, v < 6 → vl_le (vl_e G x (B x) (gr_mn G x) v) (B (gr_tg G (2 * x + 0)) v)) ∧ yr_m G O B ≤ M) ∨ (fl = 1 ∧ yr_m G O1 B1 < M)) → wY_solve_163 post J106 (wY_solve_114 post J106 n) fl (nI x) f_n f_k f_met f_result f_begun f_last a_many a_op a_d a_a a_b a_kind a_used a_first a_second a_living a_needed a_rules a_edges a_begin a_now a_open a_variable := by
          intro fl O1 B1 a_begin a_open hA1 I1 hf1
          rw [wY_solve_163]
          refine yl_leads (j := 1) Y h (by omega) hnow (fun hl => ?_) (fun hl => ?_)
          · refine br_f (by decide) ⟨ix, ?_⟩
            have htg := hB.2.2.2.1 1 hl.1
            have hkd2 := hl.1
            rw [cx, (Y.2.2.2.2.2.2.1 x h).2 (by omega)]
            refine yw_widened (y := gr_tg G (2 * x + 1)) (by omega) hnow hA1 (fun r a_begin a_open hA2 hr => ?_)
            have I2 := yz_w I1 htg.2 htg.1 (yz_low ok I ho hl)
            rcases hr with ⟨rfl, hr⟩ | ⟨rfl, hr⟩
            · obtain ⟨s1, s2⟩ := yr_same hr
              rw [s1, s2] at hA2 I2
              refine br_t rfl (nm_r (nI_1 x) (ih (x + 1) fl O1 B1 _ _ _ (by omega) (by omega) hA2 I2 ?_))
              rcases hf1 with ⟨q0, q1, q2, q3, q4, q5⟩ | q
              · subst q1
                subst q2
                refine Or.inl ⟨q0, fun y hy hoy => ?_, q5⟩
                by_cases ey : y = x
                · subst ey
                  intro j hj
                  rcases (show j = 0 ∨ j = 1 by have := hj.1; omega) with z | z
                  · rw [z] at hj ⊢; exact q4 hj
                  · rw [z]
                    have hch : ∀ v, v < 6 → vl_j (B1 (gr_tg G (2 * y + 1)) v) (vl_e G y (B1 y) (gr_mn G y) v) = B1 (gr_tg G (2 * y + 1)) v := fun v hv => Classical.byContradiction (fun w => hr (Or.inr ⟨v, hv, w⟩))
                    exact ⟨Classical.byContradiction (fun w => hr (Or.inl w)), fun v hv => vj_le.mp (hch v hv)⟩
                · exact q3 y (by omega) hoy
              · exact Or.inr q
            · have hm := yr_ms htg.2 hr
              refine br_f (by decide) (nm_r (nI_1 x) (ih (x + 1) 1 _ _ _ _ _ (by omega) (by omega) hA2 I2 (Or.inr ⟨rfl, ?_⟩)))
              rcases hf1 with ⟨_, q1, q2, _, _, q5⟩ | ⟨_, q⟩
              · rw [q1, q2] at hm ⊢
                omega
              · omega
          · refine br_t rfl (nm_r (nI_1 x) (ih (x + 1) fl O1 B1 _ _ _ (by omega) (by omega) hA1 I1 ?_))
            rcases hf1 with ⟨q0, q1, q2, q3, q4, q5⟩ | q
            · subst q1
              subst q2
              refine Or.inl ⟨q0, fun y hy hoy => ?_, q5⟩
              by_cases ey : y = x
              · subst ey
                intro j hj
                rcases (show j = 0 ∨ j = 1 by have := hj.1; omega) with z | z
                · rw [z] at hj ⊢; exact q4 hj
                · rw [z] at hj; exact absurd hj hl
              · exact q3 y (by omega) hoy
            · exact Or.inr q
        refine yl_leads (j := 0) Y h (by omega) hnow (fun hl => ?_) (fun hl => ?_)
        · refine br_f (by decide) ⟨ix, ?_⟩
          have htg := hB.2.2.2.1 0 hl.1
          rw [(Y.2.2.2.2.2.2.1 x h).1 hl.1]
          refine yw_widened (y := gr_tg G (2 * x + 0)) (by omega) hnow hA (fun r a_begin a_open hA2 hr => ?_)
          have I2 := yz_w I htg.2 htg.1 (yz_low ok I ho hl)
          rcases hr with ⟨rfl, hr⟩ | ⟨rfl, hr⟩
          · obtain ⟨s1, s2⟩ := yr_same hr
            rw [s1, s2] at hA2 I2
            refine br_t rfl (k163 fl O B _ _ hA2 I2 ?_)
            rcases hf with ⟨q0, q1, q2⟩ | q
            · have hch : ∀ v, v < 6 → vl_j (B (gr_tg G (2 * x + 0)) v) (vl_e G x (B x) (gr_mn G x) v) = B (gr_tg G (2 * x + 0)) v := fun v hv => Classical.byContradiction (fun w => hr (Or.inr ⟨v, hv, w⟩))
              exact Or.inl ⟨q0, rfl, rfl, q1, fun _ => ⟨Classical.byContradiction (fun w => hr (Or.inl w)), fun v hv => vj_le.mp (hch v hv)⟩, q2⟩
            · exact Or.inr q
          · have hm := yr_ms htg.2 hr
            refine br_f (by decide) (k163 1 _ _ _ _ hA2 I2 (Or.inr ⟨rfl, ?_⟩))
            rcases hf with ⟨_, _, q⟩ | ⟨_, q⟩ <;> omega
        · refine br_t rfl (k163 fl O B _ _ hA I ?_)
          rcases hf with ⟨q0, q1, q2⟩ | q
          · exact Or.inl ⟨q0, rfl, rfl, q1, fun z => absurd z hl, q2⟩
          · exact Or.inr q
      · rw [((hA x (by omega)).2 ho).1]
        refine ⟨ix, br_t rfl (nm_r (nI_1 x) (ih (x + 1) fl O B _ _ _ (by omega) (by omega) hA I ?_))⟩
        rcases hf with ⟨q0, q1, q2⟩ | q
        · refine Or.inl ⟨q0, fun y hy hoy => ?_, q2⟩
          by_cases ey : y = x
          · rw [ey] at hoy; exact absurd hoy ho
          · exact q1 y (by omega) hoy
        · exact Or.inr q
theorem yz_106 {post : SY → Prop} (Y : yp_ok G f_n f_k a_many a_op a_d a_a a_b a_kind a_used a_first a_second)
    (K : ∀ (O : Nat → Prop) (B : Nat → Nat → Option Int32) (a_begin a_now : Nat → Int64) (a_open : Nat → Int32), yr_A O B a_begin a_open → vl_LC G O B → post (f_n, f_k, f_met, f_result, f_begun, f_last, a_many, a_op, a_d, a_a, a_b, a_kind, a_used, a_first, a_second, a_living, a_needed, a_rules, a_edges, a_begin, a_now, a_open, a_variable)) :
    ∀ n (O : Nat → Prop) (B : Nat → Nat → Option Int32) (a_begin a_now : Nat → Int64) (a_open : Nat → Int32), yr_m G O B + 1 < n → yr_A O B a_begin a_open → yz_I G O B → wY_solve_106 post n 1 f_n f_k f_met f_result f_begun f_last a_many a_op a_d a_a a_b a_kind a_used a_first a_second a_living a_needed a_rules a_edges a_begin a_now a_open a_variable := by
  intro n
  induction n with
  | zero => intro O B _ _ _ h; omega
  | succ n ih =>
    intro O B a_begin a_now a_open hmu hA I
    rw [wY_solve_106]
    refine br_f (by decide) ⟨gr_n G + 1, ?_⟩
    refine yz_114 (M := yr_m G O B) Y (fun O B a_begin a_now a_open hA hL => ?_) (fun O' B' a_begin a_now a_open hA' I' hl => ih O' B' _ _ _ (by omega) hA' I') (gr_n G + 1) 0 0 O B _ _ _ (by omega) (by omega) hA I (Or.inl ⟨rfl, fun y hy => by omega, Nat.le_refl _⟩)
    obtain ⟨n, rfl⟩ : ∃ d, n = d + 1 := ⟨n - 1, by omega⟩
    rw [wY_solve_106]
    exact br_t rfl (K O B _ _ _ hA hL)
theorem yz_86 {post : SY → Prop} (Y : yp_ok G f_n f_k a_many a_op a_d a_a a_b a_kind a_used a_first a_second) (hb : ∀ y, y < 16 → ∀ v, v < 6 → a_begin (6 * y + v) = if y = 0 ∧ 0 < gr_n G then vL_ (vl_i G v) else 10000000000) (ho : ∀ y, y < 16 → a_open y = 0)
    (K : ∀ (O : Nat → Prop) (B : Nat → Nat → Option Int32) (a_begin a_now : Nat → Int64) (a_open : Nat → Int32), yr_A O B a_begin a_open → vl_LC G O B → post (f_n, f_k, f_met, f_result, f_begun, f_last, a_many, a_op, a_d, a_a, a_b, a_kind, a_used, a_first, a_second, a_living, a_needed, a_rules, a_edges, a_begin, a_now, a_open, a_variable)) : wY_solve_86 post f_n f_k f_met f_result f_begun f_last a_many a_op a_d a_a a_b a_kind a_used a_first a_second a_living a_needed a_rules a_edges a_begin a_now a_open a_variable := by
  have ok := Y.1
  have hn16 := ok.1
  rw [wY_solve_86]
  refine pk_le (gr_n G) 0 (fun h => ?_) (fun h => ?_) Y.2.1
  · refine nm_r (e' := upd a_open 0 0) rfl ⟨_, yz_106 Y K _ (fun _ => False) (fun _ _ => none) _ _ _ (Nat.lt_succ_self _) (fun y hy => ⟨fun z => absurd z id, fun _ => ⟨?_, fun v hv => ?_⟩⟩) ⟨fun y z => absurd z id, fun O' B' _ x z => absurd z id, fun z => absurd z (by omega)⟩⟩
    · by_cases e : y = 0
      · rw [e, pk_us]
      · rw [pk_un e]; exact ho y hy
    · rw [hb y hy v hv, if_neg (fun z => by omega)]
  · refine nm_r (e' := upd a_open 0 1) rfl ⟨_, yz_106 Y K _ (fun y => y = 0) (fun _ v => vl_i G v) _ _ _ (Nat.lt_succ_self _) (fun y hy => ⟨fun z => ⟨?_, fun v hv => ?_⟩, fun z => ⟨?_, fun v hv => ?_⟩⟩) ⟨fun y z => by rw [z]; exact h, fun O' B' hc x z => ?_, fun _ => ⟨rfl, fun v hv => vl_rf⟩⟩⟩
    · rw [z, pk_us]
    · rw [hb y hy v hv, if_pos ⟨z, h⟩]
    · rw [pk_un z]; exact ho y hy
    · rw [hb y hy v hv, if_neg (fun w => z w.1)]
    · rw [z]; exact hc.1 h
theorem yz_46 {post : SY → Prop} (Y : yp_ok G f_n f_k a_many a_op a_d a_a a_b a_kind a_used a_first a_second) (ho : ∀ y, y < 16 → a_open y = 0)
    (K : ∀ (O : Nat → Prop) (B : Nat → Nat → Option Int32) (a_begin a_now : Nat → Int64) (a_open : Nat → Int32), yr_A O B a_begin a_open → vl_LC G O B → post (f_n, f_k, f_met, f_result, f_begun, f_last, a_many, a_op, a_d, a_a, a_b, a_kind, a_used, a_first, a_second, a_living, a_needed, a_rules, a_edges, a_begin, a_now, a_open, a_variable)) :
    ∀ n v (a_begin : Nat → Int64), 6 < n + v → v ≤ 6 → (∀ y, y < 16 → ∀ w, w < 6 → a_begin (6 * y + w) = if y = 0 ∧ 0 < gr_n G ∧ w < v then vL_ (vl_i G w) else 10000000000) → wY_solve_46 post f_n f_k f_met f_result f_begun f_last n (nI v) a_many a_op a_d a_a a_b a_kind a_used a_first a_second a_living a_needed a_rules a_edges a_begin a_now a_open a_variable := by
  have ok := Y.1
  have hn16 := ok.1
  have hk4 := ok.2.1
  intro n
  induction n with
  | zero => intro v _ h1 h2; omega
  | succ n ih =>
    intro v a_begin h1 h2 hb
    rw [wY_solve_46]
    refine pk_le 6 v (fun h => ?_) (fun h => ?_)
    · refine yz_86 Y (fun y hy w hw => ?_) ho K
      rw [hb y hy w hw]
      by_cases c : y = 0 ∧ 0 < gr_n G
      · rw [if_pos ⟨c.1, c.2, by omega⟩, if_pos c]
      · rw [if_neg (fun z => c ⟨z.1, z.2.1⟩), if_neg c]
    · refine pk_le (gr_n G) 0 (fun h0 => ?_) (fun h0 => ?_) Y.2.1
      · refine yz_86 Y (fun y hy w hw => ?_) ho K
        rw [hb y hy w hw, if_neg (fun z => by omega), if_neg (fun z => by omega)]
      · have step : ∀ z : Int64, z = vL_ (vl_i G v) → wY_solve_46 post f_n f_k f_met f_result f_begun f_last n (nI (v + 1)) a_many a_op a_d a_a a_b a_kind a_used a_first a_second a_living a_needed a_rules a_edges (vp_updL a_begin v z) a_now a_open a_variable := by
          intro z hz
          refine ih (v + 1) _ (by omega) (by omega) (fun y hy w hw => ?_)
          by_cases c : 6 * y + w = v
          · have e1 : y = 0 := by omega
            have e2 : w = v := by omega
            rw [c, pk_uLs, if_pos ⟨e1, h0, by omega⟩, e2, hz]
          · rw [pk_uLn c, hb y hy w hw]
            by_cases c2 : y = 0 ∧ 0 < gr_n G ∧ w < v
            · rw [if_pos c2, if_pos ⟨c2.1, c2.2.1, by omega⟩]
            · rw [if_neg c2, if_neg (fun q => c2 ⟨q.1, q.2.1, by omega⟩)]
        have iv : vp_in (nI v) 96 := vp_in_nI (by omega) (by omega)
        rw [fn_c (a := v) (by omega)]
        refine pk_le (gr_k G) v (fun hg => ⟨iv, nm_e (nm_r (nI_1 v) (step _ ?_))⟩) (fun hg => ⟨iv, nm_e (nm_r (nI_1 v) (step _ ?_))⟩) Y.2.2.1
        · unfold vl_i
          rw [if_neg (by omega)]
          exact ((vL_0 _).mpr rfl).symm
        · unfold vl_i
          rw [if_pos hg]
          rfl
theorem yz_25 {post : SY → Prop} (K : ∃ n46 : Nat, wY_solve_46 post f_n f_k f_met f_result f_begun f_last n46 0 a_many a_op a_d a_a a_b a_kind a_used a_first a_second a_living a_needed a_rules a_edges a_begin a_now (cl_ 0 16 a_open) a_variable) :
    ∀ n i, 16 < n + i → i ≤ 16 → wY_solve_25 post f_n f_k f_met f_result f_begun f_last n (nI i) a_many a_op a_d a_a a_b a_kind a_used a_first a_second a_living a_needed a_rules a_edges a_begin a_now (cl_ 0 i a_open) a_variable := by
  intro n
  induction n with
  | zero => intro i h1 h2; omega
  | succ n ih =>
    intro i h1 h2
    rw [wY_solve_25]
    refine pk_le 16 i (fun h => ?_) (fun h => ?_)
    · have e : i = 16 := by omega
      subst e
      exact K
    · have c : (nI i).toNatClampNeg = i := fn_c (by omega)
      have vb0 : vp_nar .boolean 0 = 0 := rfl
      rw [c, vb0]
      exact ⟨vp_in_nI (by omega) (by omega), nm_r cl_s (nm_r (nI_1 i) (ih (i + 1) (by omega) (by omega)))⟩
theorem yz_2 {post : SY → Prop} (K : ∃ n25 : Nat, wY_solve_25 post f_n f_k f_met f_result f_begun f_last n25 0 a_many a_op a_d a_a a_b a_kind a_used a_first a_second a_living a_needed a_rules a_edges (cl_L 10000000000 96 a_begin) a_now a_open a_variable) :
    ∀ n i, 96 < n + i → i ≤ 96 → wY_solve_2 post f_n f_k f_met f_result f_begun f_last n (nI i) a_many a_op a_d a_a a_b a_kind a_used a_first a_second a_living a_needed a_rules a_edges (cl_L 10000000000 i a_begin) a_now a_open a_variable := by
  intro n
  induction n with
  | zero => intro i h1 h2; omega
  | succ n ih =>
    intro i h1 h2
    rw [wY_solve_2]
    refine pk_le 96 i (fun h => ?_) (fun h => ?_)
    · have e : i = 96 := by omega
      subst e
      exact K
    · have c : (nI i).toNatClampNeg = i := fn_c (by omega)
      rw [c]
      exact ⟨vp_in_nI (by omega) (by omega), nm_r cl_Ls (nm_r (nI_1 i) (ih (i + 1) (by omega) (by omega)))⟩
theorem yz_solve {post : SY → Prop} (Y : yp_ok G f_n f_k a_many a_op a_d a_a a_b a_kind a_used a_first a_second)
    (K : ∀ (O : Nat → Prop) (B : Nat → Nat → Option Int32) (a_begin a_now : Nat → Int64) (a_open : Nat → Int32), yr_A O B a_begin a_open → vl_LC G O B → post (f_n, f_k, f_met, f_result, f_begun, f_last, a_many, a_op, a_d, a_a, a_b, a_kind, a_used, a_first, a_second, a_living, a_needed, a_rules, a_edges, a_begin, a_now, a_open, a_variable)) : wpY_solve post (f_n, f_k, f_met, f_result, f_begun, f_last, a_many, a_op, a_d, a_a, a_b, a_kind, a_used, a_first, a_second, a_living, a_needed, a_rules, a_edges, a_begin, a_now, a_open, a_variable) := by
  show ∃ n2 : Nat, wY_solve_2 post f_n f_k f_met f_result f_begun f_last n2 0 a_many a_op a_d a_a a_b a_kind a_used a_first a_second a_living a_needed a_rules a_edges a_begin a_now a_open a_variable
  have e1 := yz_25 (post := post) (f_n := f_n) (f_k := f_k) (f_met := f_met) (f_result := f_result) (f_begun := f_begun) (f_last := f_last) (a_many := a_many) (a_op := a_op) (a_d := a_d) (a_a := a_a) (a_b := a_b) (a_kind := a_kind) (a_used := a_used) (a_first := a_first) (a_second := a_second) (a_living := a_living) (a_needed := a_needed) (a_rules := a_rules) (a_edges := a_edges) (a_begin := (cl_L 10000000000 96 a_begin)) (a_now := a_now) (a_open := a_open) (a_variable := a_variable) ⟨7, yz_46 Y (fun y hy => cl_l hy) K 7 0 (cl_L 10000000000 96 a_begin) (by omega) (by omega) (fun y hy w hw => by rw [cl_Ll (by omega), if_neg (fun z => by omega)])⟩ 17 0 (by omega) (by omega)
  rw [cl_0] at e1
  have e0 := yz_2 (post := post) (f_n := f_n) (f_k := f_k) (f_met := f_met) (f_result := f_result) (f_begun := f_begun) (f_last := f_last) (a_many := a_many) (a_op := a_op) (a_d := a_d) (a_a := a_a) (a_b := a_b) (a_kind := a_kind) (a_used := a_used) (a_first := a_first) (a_second := a_second) (a_living := a_living) (a_needed := a_needed) (a_rules := a_rules) (a_edges := a_edges) (a_begin := a_begin) (a_now := a_now) (a_open := a_open) (a_variable := a_variable) ⟨17, e1⟩ 97 0 (by omega) (by omega)
  rw [cl_L0] at e0
  exact ⟨97, e0⟩
theorem yz_value {post : Int64 → SY → Prop} {b v fl : Int32} (Y : yp_ok G f_n f_k a_many a_op a_d a_a a_b a_kind a_used a_first a_second) (hfl : fl = 0 ∨ fl = 1)
    (K0 : ((∀ j, j < gr_n G → b ≠ nI j) ∨ (∀ w, w < 6 → v ≠ nI w)) → post 10000000000 (f_n, f_k, f_met, f_result, f_begun, f_last, a_many, a_op, a_d, a_a, a_b, a_kind, a_used, a_first, a_second, a_living, a_needed, a_rules, a_edges, a_begin, a_now, a_open, a_variable))
    (K : ∀ (O : Nat → Prop) (B : Nat → Nat → Option Int32) (a_begin a_now : Nat → Int64) (a_open : Nat → Int32) (j w : Nat) (r : Int64), vl_LC G O B → j < gr_n G → w < 6 → b = nI j → v = nI w → ((¬ O j ∧ r = 10000000000) ∨ (O j ∧ fl = 0 ∧ r = vL_ (B j w)) ∨ (O j ∧ fl ≠ 0 ∧ r = vL_ (vl_e G j (B j) (gr_mn G j) w))) → post r (f_n, f_k, f_met, f_result, f_begun, f_last, a_many, a_op, a_d, a_a, a_b, a_kind, a_used, a_first, a_second, a_living, a_needed, a_rules, a_edges, a_begin, a_now, a_open, a_variable)) : wpY_value post (f_n, f_k, f_met, f_result, f_begun, f_last, a_many, a_op, a_d, a_a, a_b, a_kind, a_used, a_first, a_second, a_living, a_needed, a_rules, a_edges, a_begin, a_now, a_open, a_variable) b v fl := by
  have ok := Y.1
  have hn16 := ok.1
  unfold wpY_value
  dsimp only
  refine yo_out Y.2.1 (by omega) (fun h => br_f (by decide) (K0 (Or.inl h))) (fun j hj e => br_t rfl (yo_out (n := 6) rfl (by omega) (fun h => br_f (by decide) (K0 (Or.inr h))) (fun w hw e2 => br_t rfl ?_)))
  subst e
  subst e2
  refine yz_solve Y (fun O B a_begin a_now a_open hA hL => ?_)
  dsimp only
  refine ⟨vp_in_nI (by omega) (by omega), ?_⟩
  rw [fn_c (a := j) (by omega)]
  by_cases ho : O j
  · have hj' := (hA j (by omega)).1 ho
    rw [hj'.1]
    refine br_f (by decide) (br_c (fun e => ⟨by rw [fn_62]; exact vp_in_nI (by omega) (by omega), ?_⟩) (fun e => yg_go Y hj hj'.2 (fun a_now hnow => ⟨vp_in_nI hw (by omega), ?_⟩)))
    · rw [fn_62, fn_c (a := 6 * j + w) (by omega), hj'.2 w hw]
      exact K O B _ _ _ j w _ hL hj hw rfl rfl (Or.inr (Or.inl ⟨ho, e, rfl⟩))
    · dsimp only
      rw [fn_c (a := w) (by omega), hnow w hw]
      exact K O B _ _ _ j w _ hL hj hw rfl rfl (Or.inr (Or.inr ⟨ho, e, rfl⟩))
  · rw [((hA j (by omega)).2 ho).1]
    exact br_t rfl (K O B _ _ _ j w _ hL hj hw rfl rfl (Or.inl ⟨ho, rfl⟩))
/-! counts -/
noncomputable def ct_ (G : gr_T) (O : Nat → Prop) (B : Nat → Nat → Option Int32) (w x : Nat) : Nat := if w = 0 then b01 (gr_M G x) else if w = 1 then b01 (O x) else if w = 2 then b01 (gr_M G x) * gr_kd G x else b01 (O x ∧ vl_ld G x 0 (vl_e G x (B x) (gr_mn G x) (gr_ak G x))) + b01 (O x ∧ vl_ld G x 1 (vl_e G x (B x) (gr_mn G x) (gr_ak G x)))
theorem yc_22 {post : Int32 → SY → Prop} {O : Nat → Prop} {B : Nat → Nat → Option Int32} {w : Nat} (Y : yp_ok G f_n f_k a_many a_op a_d a_a a_b a_kind a_used a_first a_second) (hl : yl_ok G f_met a_rules) (hA : yr_A O B a_begin a_open) (hw : w < 4)
    (K : ∀ a_now : Nat → Int64, post (nI (sg_s (ct_ G O B w) (gr_n G))) (f_n, f_k, f_met, f_result, f_begun, f_last, a_many, a_op, a_d, a_a, a_b, a_kind, a_used, a_first, a_second, a_living, a_needed, a_rules, a_edges, a_begin, a_now, a_open, a_variable)) :
    ∀ n x (a_now : Nat → Int64), gr_n G < n + x → x ≤ gr_n G → wY_count_22 post (nI w) n (nI (sg_s (ct_ G O B w) x)) (nI x) f_n f_k f_met f_result f_begun f_last a_many a_op a_d a_a a_b a_kind a_used a_first a_second a_living a_needed a_rules a_edges a_begin a_now a_open a_variable := by
  have ok := Y.1
  have hn16 := ok.1
  intro n
  induction n with
  | zero => intro x _ h1 h2; omega
  | succ n ih =>
    intro x a_now h1 h2
    rw [wY_count_22]
    refine pk_le (gr_n G) x (fun h => ?_) (fun h => ?_) Y.2.1
    · have e : x = gr_n G := by omega
      rw [e]
      exact K a_now
    · have ix : vp_in (nI x) 16 := vp_in_nI (by omega) (by omega)
      have cx := fn_c (a := x) (by omega)
      have hB := ok.2.2 x h
      have hkd := hB.2.1
      have hak := hB.2.2.1
      rw [cx, Y.2.2.2.2.1 x h]
      refine ⟨ix, nm_e ⟨ix, ?_⟩⟩
      have k112 : ∀ (a_now : Nat → Int64) (ways z0 : Nat), ways = b01 (O x ∧ vl_ld G x 0 (vl_e G x (B x) (gr_mn G x) (gr_ak G x))) + b01 (O x ∧ vl_ld G x 1 (vl_e G x (B x) (gr_mn G x) (gr_ak G x))) → ((z0 = 0 ∧ ¬ gr_M G x) ∨ (z0 = 1 ∧ gr_M G x)) → wY_count_112 post (wY_count_22 post (nI w) n) (nI w) (nI (sg_s (ct_ G O B w) x)) (nI x) (nI (gr_kd G x)) (nI ways) (nI z0) f_n f_k f_met f_result f_begun f_last a_many a_op a_d a_a a_b a_kind a_used a_first a_second a_living a_needed a_rules a_edges a_begin a_now a_open a_variable := by
        intro a_now ways z0 hways hz
        have fin : ∀ t : Nat, t = ct_ G O B w x → wY_count_22 post (nI w) n (nI (sg_s (ct_ G O B w) x + t)) (nI (x + 1)) f_n f_k f_met f_result f_begun f_last a_many a_op a_d a_a a_b a_kind a_used a_first a_second a_living a_needed a_rules a_edges a_begin a_now a_open a_variable := by
          intro t ht
          have := ih (x + 1) a_now (by omega) (by omega)
          rw [show sg_s (ct_ G O B w) (x + 1) = sg_s (ct_ G O B w) x + ct_ G O B w x from rfl] at this
          rw [ht]
          exact this
        have e0 : nI (sg_s (ct_ G O B w) x) + 0 = nI (sg_s (ct_ G O B w) x + 0) := Int32.add_zero _
        rw [wY_count_112, cx]
        have hzz : z0 < 2 := by omega
        refine pk_eq w 0 (fun w0 => pk_eq z0 0 (fun e => nm_r e0 (nm_r (nI_1 x) (fin 0 ?_))) (fun e => nm_r (nI_1 _) (nm_r (nI_1 x) (fin 1 ?_)))) (fun w0 => pk_eq w 1 (fun w1 => ⟨ix, ?_⟩) (fun w1 => pk_eq w 2 (fun w2 => pk_eq z0 0 (fun e => nm_r e0 (nm_r (nI_1 x) (fin 0 ?_))) (fun e => nm_r (nI_add _ _) (nm_r (nI_1 x) (fin _ ?_)))) (fun w2 => nm_r (nI_add _ _) (nm_r (nI_1 x) (fin _ ?_)))))
        · unfold ct_
          rw [if_pos w0, b01_f (hz.elim (fun z => z.2) (fun z => by omega))]
        · unfold ct_
          rw [if_pos w0, b01_t (hz.elim (fun z => by omega) (fun z => z.2))]
        · by_cases ho : O x
          · rw [((hA x (by omega)).1 ho).1]
            refine br_f (by decide) (nm_r (nI_1 _) (nm_r (nI_1 x) (fin 1 ?_)))
            unfold ct_
            rw [if_neg w0, if_pos w1, b01_t ho]
          · rw [((hA x (by omega)).2 ho).1]
            refine br_t rfl (nm_r e0 (nm_r (nI_1 x) (fin 0 ?_)))
            unfold ct_
            rw [if_neg w0, if_pos w1, b01_f ho]
        · unfold ct_
          rw [if_neg w0, if_neg w1, if_pos w2, b01_f (hz.elim (fun z => z.2) (fun z => by omega)), Nat.zero_mul]
        · unfold ct_
          rw [if_neg w0, if_neg w1, if_pos w2, b01_t (hz.elim (fun z => by omega) (fun z => z.2)), Nat.one_mul]
        · unfold ct_
          rw [if_neg w0, if_neg w1, if_neg w2, hways]
      have k94 : ∀ (a_now : Nat → Int64) (ways : Nat), ways = b01 (O x ∧ vl_ld G x 0 (vl_e G x (B x) (gr_mn G x) (gr_ak G x))) + b01 (O x ∧ vl_ld G x 1 (vl_e G x (B x) (gr_mn G x) (gr_ak G x))) → wY_count_94 post (wY_count_22 post (nI w) n) (nI w) (nI (sg_s (ct_ G O B w) x)) (nI x) (nI (gr_kd G x)) (nI ways) f_n f_k f_met f_result f_begun f_last a_many a_op a_d a_a a_b a_kind a_used a_first a_second a_living a_needed a_rules a_edges a_begin a_now a_open a_variable := by
        intro a_now ways hways
        rw [wY_count_94]
        refine fb_0 (by omega) (fun hb => k112 a_now ways 0 hways (Or.inl ⟨rfl, fun z => ?_⟩)) (fun hb => k112 a_now ways 1 hways (Or.inr ⟨rfl, (hl.2.1 x).mp hb⟩))
        rw [(hl.2.1 x).mpr z] at hb
        exact absurd hb (by decide)
      by_cases ho : O x
      · have hx' := (hA x (by omega)).1 ho
        rw [hx'.1]
        refine br_f (by decide) (yg_go Y h hx'.2 (fun a_now hnow => ?_))
        dsimp only
        rw [wY_count_52, cx, hx'.1]
        have k79 : ∀ z : Nat, z = b01 (O x ∧ vl_ld G x 0 (vl_e G x (B x) (gr_mn G x) (gr_ak G x))) → wY_count_79 post (wY_count_22 post (nI w) n) (nI w) (nI (sg_s (ct_ G O B w) x)) (nI x) (nI (gr_kd G x)) (nI z) f_n f_k f_met f_result f_begun f_last a_many a_op a_d a_a a_b a_kind a_used a_first a_second a_living a_needed a_rules a_edges a_begin a_now a_open a_variable := by
          intro z hz
          rw [wY_count_79]
          refine yl_leads (j := 1) Y h (by omega) hnow (fun hl1 => br_f (by decide) ?_) (fun hl1 => br_t rfl ?_)
          · rw [wY_count_93, nI_1]
            exact k94 a_now (z + 1) (by rw [hz, b01_t (p := O x ∧ vl_ld G x 1 (vl_e G x (B x) (gr_mn G x) (gr_ak G x))) ⟨ho, hl1⟩])
          · rw [wY_count_93, Int32.add_zero]
            exact k94 a_now z (by rw [hz, b01_f (p := O x ∧ vl_ld G x 1 (vl_e G x (B x) (gr_mn G x) (gr_ak G x))) (fun q => hl1 q.2)]; rfl)
        refine ⟨ix, br_f (by decide) (yl_leads (j := 0) Y h (by omega) hnow (fun hl0 => br_f (by decide) (k79 1 ?_)) (fun hl0 => br_t rfl (k79 0 ?_)))⟩
        · rw [b01_t ⟨ho, hl0⟩]
        · rw [b01_f (fun q => hl0 q.2)]
      · have hx' := (hA x (by omega)).2 ho
        rw [hx'.1]
        refine br_t rfl ?_
        rw [wY_count_52, cx, hx'.1]
        refine ⟨ix, br_t rfl (k94 a_now 0 ?_)⟩
        rw [b01_f (fun q => ho q.1), b01_f (fun q => ho q.1)]
theorem yc_count {post : Int32 → SY → Prop} {b : Int32} (Y : yp_ok G f_n f_k a_many a_op a_d a_a a_b a_kind a_used a_first a_second) (K0 : (∀ w, w < 4 → b ≠ nI w) → post (-1) (f_n, f_k, f_met, f_result, f_begun, f_last, a_many, a_op, a_d, a_a, a_b, a_kind, a_used, a_first, a_second, a_living, a_needed, a_rules, a_edges, a_begin, a_now, a_open, a_variable))
    (K : ∀ (O : Nat → Prop) (B : Nat → Nat → Option Int32) (f_met : Int32) (a_rules : Nat → Int32) (a_begin a_now : Nat → Int64) (a_open : Nat → Int32) (w : Nat), vl_LC G O B → w < 4 → b = nI w → post (nI (sg_s (ct_ G O B w) (gr_n G))) (f_n, f_k, f_met, f_result, f_begun, f_last, a_many, a_op, a_d, a_a, a_b, a_kind, a_used, a_first, a_second, a_living, a_needed, a_rules, a_edges, a_begin, a_now, a_open, a_variable)) : wpY_count post (f_n, f_k, f_met, f_result, f_begun, f_last, a_many, a_op, a_d, a_a, a_b, a_kind, a_used, a_first, a_second, a_living, a_needed, a_rules, a_edges, a_begin, a_now, a_open, a_variable) b := by
  have hn16 := Y.1.1
  unfold wpY_count
  dsimp only
  refine yo_out (n := 4) rfl (by omega) (fun h => br_f (by decide) (K0 h)) (fun w hw e => br_t rfl ?_)
  subst e
  refine yz_solve Y (fun O B a_begin a_now a_open hA hL => ?_)
  refine yl_look Y (fun f_met a_rules hl => ⟨17, yc_22 Y hl hA hw (fun a_now => K O B _ _ _ a_now _ w hL hw rfl) 17 0 a_now (by omega) (by omega)⟩)
end
end
section
/-! runs -/
def rn_v (G : gr_T) (a b : Int32) (i : Nat) (e : Nat → Int32) (ip : Int32) : Int32 := if gr_op G i = 0 then gr_aa G i else if gr_op G i = 7 then a + ip * b else if gr_op G i = 1 then e (gr_av G i) else vl_calc (gr_op G i) (e (gr_av G i)) (e (gr_bb G i))
def rn_ip (G : gr_T) (i : Nat) (ip : Int32) : Int32 := if gr_op G i = 7 then ip + 1 else ip
def rn_s (G : gr_T) (a b : Int32) (x : Nat) (e : Nat → Int32) (ip : Int32) : Nat → (Nat → Int32) × Int32
  | 0 => (e, ip)
  | i + 1 => (upd (rn_s G a b x e ip i).1 (gr_dd G (4 * x + i)) (rn_v G a b (4 * x + i) (rn_s G a b x e ip i).1 (rn_s G a b x e ip i).2), rn_ip G (4 * x + i) (rn_s G a b x e ip i).2)
def rn_n (G : gr_T) (x : Nat) (e : Nat → Int32) : Nat := if gr_kd G x = 2 ∧ e (gr_ak G x) = 0 then gr_tg G (2 * x + 1) else gr_tg G (2 * x + 0)
def rn_r (G : gr_T) (a b : Int32) : Nat → Nat → (Nat → Int32) → Int32 → Nat → Nat → Int32 × Int32 × Nat × Nat
  | 0 => fun _ _ _ bg lt => (1, 0, bg, lt)
  | r + 1 => fun x e ip bg _ => if gr_kd G x = 0 then (0, (rn_s G a b x e ip (gr_mn G x)).1 (gr_ak G x), bg + 1, x) else rn_r G a b r (rn_n G x (rn_s G a b x e ip (gr_mn G x)).1) (rn_s G a b x e ip (gr_mn G x)).1 (rn_s G a b x e ip (gr_mn G x)).2 (bg + 1) x
def rn_0 (G : gr_T) (a b c : Int32) (v : Nat) : Int32 := if v < gr_k G then (if v = 0 then a else if v = 1 then b else c) else 0
theorem rn_nlt {G : gr_T} (ok : gr_ok G) {x : Nat} (hx : x < gr_n G) (hk : gr_kd G x ≠ 0) (e : Nat → Int32) : rn_n G x e < gr_n G := by
  have hB := ok.2.2 x hx
  unfold rn_n
  by_cases h : gr_kd G x = 2 ∧ e (gr_ak G x) = 0
  · rw [if_pos h]; exact (hB.2.2.2.1 1 (by omega)).2
  · rw [if_neg h]; exact (hB.2.2.2.1 0 (by omega)).2
theorem rn_up {f g : Nat → Int32} {d : Nat} {z : Int32} (h : ∀ v, v < 6 → f v = g v) : ∀ v, v < 6 → upd f d z v = upd g d z v := by
  intro v hv
  by_cases c : v = d
  · rw [c, pk_us, pk_us]
  · rw [pk_un c, pk_un c]; exact h v hv
section
variable {f_blocks f_given f_known f_met f_openEdges f_openBlocks f_first f_last f_openCount f_firstEdge f_lastEdge f_result f_begun f_latest f_inputs : Int32} {a_op a_d a_b a_many a_kind a_asks a_target a_a a_order a_place a_parent a_depths a_living a_needs a_merging a_stack a_next a_before a_frontiers a_in a_out a_nameA a_nameB a_queue a_state a_worth a_usedByExit a_edges a_now : Nat → Int32} {a_usedBySet a_usedByLow a_usedByHigh : Nat → Int64}
variable {G : gr_T} {a b : Int32}
theorem xr_carry {post : SX → Prop} {x i : Nat} {e : Nat → Int32} (X : xp_ok G f_blocks f_given a_op a_d a_b a_many a_kind a_asks a_target a_a) (hx : x < gr_n G) (hi : i < gr_mn G x) (hnow : ∀ v, v < 6 → a_now v = e v)
    (K : ∀ a_now : Nat → Int32, (∀ v, v < 6 → a_now v = upd e (gr_dd G (4 * x + i)) (rn_v G a b (4 * x + i) e f_inputs) v) → post (f_blocks, f_given, f_known, f_met, f_openEdges, f_openBlocks, f_first, f_last, f_openCount, f_firstEdge, f_lastEdge, f_result, f_begun, f_latest, rn_ip G (4 * x + i) f_inputs, a_op, a_d, a_b, a_many, a_kind, a_asks, a_target, a_a, a_order, a_place, a_parent, a_depths, a_living, a_needs, a_merging, a_stack, a_next, a_before, a_frontiers, a_in, a_out, a_nameA, a_nameB, a_queue, a_state, a_worth, a_usedByExit, a_usedBySet, a_usedByLow, a_usedByHigh, a_edges, a_now)) : wpX_carryOut post (f_blocks, f_given, f_known, f_met, f_openEdges, f_openBlocks, f_first, f_last, f_openCount, f_firstEdge, f_lastEdge, f_result, f_begun, f_latest, f_inputs, a_op, a_d, a_b, a_many, a_kind, a_asks, a_target, a_a, a_order, a_place, a_parent, a_depths, a_living, a_needs, a_merging, a_stack, a_next, a_before, a_frontiers, a_in, a_out, a_nameA, a_nameB, a_queue, a_state, a_worth, a_usedByExit, a_usedBySet, a_usedByLow, a_usedByHigh, a_edges, a_now) (nI (4 * x + i)) a b := by
  have ok := X.1
  have hn16 := ok.1
  have h4 := (ok.2.2 x hx).1
  have hI := (ok.2.2 x hx).2.2.2.2 i hi
  have hXi := X.2.2.2.2.2.2.2 x i hx hi
  have hop := hI.1
  have hd := hI.2.1
  have ii : vp_in (nI (4 * x + i)) 64 := vp_in_nI (by omega) (by omega)
  have id : vp_in (nI (gr_dd G (4 * x + i))) 6 := vp_in_nI (by omega) (by omega)
  have cd := fn_c (a := gr_dd G (4 * x + i)) (by omega)
  have fin : ∀ (z ip : Int32), rn_v G a b (4 * x + i) e f_inputs = z → rn_ip G (4 * x + i) f_inputs = ip → post (f_blocks, f_given, f_known, f_met, f_openEdges, f_openBlocks, f_first, f_last, f_openCount, f_firstEdge, f_lastEdge, f_result, f_begun, f_latest, ip, a_op, a_d, a_b, a_many, a_kind, a_asks, a_target, a_a, a_order, a_place, a_parent, a_depths, a_living, a_needs, a_merging, a_stack, a_next, a_before, a_frontiers, a_in, a_out, a_nameA, a_nameB, a_queue, a_state, a_worth, a_usedByExit, a_usedBySet, a_usedByLow, a_usedByHigh, a_edges, upd a_now (gr_dd G (4 * x + i)) z) := by
    intro z ip hz hip
    rw [← hip]
    exact K _ (fun v hv => by rw [hz]; exact rn_up hnow v hv)
  have ip0 : gr_op G (4 * x + i) ≠ 7 → rn_ip G (4 * x + i) f_inputs = f_inputs := fun h => if_neg h
  unfold wpX_carryOut
  dsimp only
  rw [fn_c (a := 4 * x + i) (by omega), hXi.1, hXi.2.1, hXi.2.2.1, cd]
  refine ⟨ii, nm_e (pk_eq (gr_op G (4 * x + i)) 0 (fun h0 => ⟨ii, ii, id, nm_e (fin _ _ ?_ (ip0 (by omega)))⟩) (fun h0 => pk_eq (gr_op G (4 * x + i)) 7 (fun h7 => ⟨ii, nm_e ⟨id, nm_e (fin _ _ ?_ ?_)⟩⟩) (fun h7 => ?_)))⟩
  · unfold rn_v
    rw [if_pos h0]
  · unfold rn_v
    rw [if_neg h0, if_pos h7]
  · exact if_pos h7
  · have ha := hI.2.2.2 h0 h7
    have ha6 := ha.2
    rw [ha.1, fn_c (a := gr_av G (4 * x + i)) (by omega), hnow _ ha.2]
    have ia : vp_in (nI (gr_av G (4 * x + i))) 6 := vp_in_nI (by omega) (by omega)
    refine pk_eq (gr_op G (4 * x + i)) 1 (fun h1 => ⟨ii, ii, ia, id, nm_e (fin _ _ ?_ (ip0 h7))⟩) (fun h1 => ⟨ii, ii, ia, ii, ?_⟩)
    · unfold rn_v
      rw [if_neg h0, if_neg h7, if_pos h1]
    · have hb6 := hI.2.2.1
      rw [hXi.2.2.2, fn_c (a := gr_bb G (4 * x + i)) (by omega), hnow _ hb6]
      refine ⟨vp_in_nI (by omega) (by omega), xs_calc (by omega) (by omega) ⟨id, nm_e (fin _ _ ?_ (ip0 h7))⟩⟩
      unfold rn_v
      rw [if_neg h0, if_neg h7, if_neg h1]
theorem xr_139 {post : Int32 → SX → Prop} {J107 : Int32 → Int32 → Int32 → Int32 → Int32 → Int32 → Int32 → Int32 → Int32 → Int32 → Int32 → Int32 → Int32 → Int32 → Int32 → Int32 → (Nat → Int32) → (Nat → Int32) → (Nat → Int32) → (Nat → Int32) → (Nat → Int32) → (Nat → Int32) → (Nat → Int32) → (Nat → Int32) → (Nat → Int32) → (Nat → Int32) → (Nat → Int32) → (Nat → Int32) → (Nat → Int32) → (Nat → Int32) → (Nat → Int32) → (Nat → Int32) → (Nat → Int32) → (Nat → Int32) → (Nat → Int32) → (Nat → Int32) → (Nat → Int32) → (Nat → Int32) → (Nat → Int32) → (Nat → Int32) → (Nat → Int32) → (Nat → Int32) → (Nat → Int32) → (Nat → Int64) → (Nat → Int64) → (Nat → Int64) → (Nat → Int32) → (Nat → Int32) → Prop} {x : Nat} {e : Nat → Int32} {ip : Int32} (X : xp_ok G f_blocks f_given a_op a_d a_b a_many a_kind a_asks a_target a_a) (hx : x < gr_n G)
    (K0 : gr_kd G x = 0 → ∀ (f_inputs : Int32) (a_now : Nat → Int32), post 0 (f_blocks, f_given, f_known, f_met, f_openEdges, f_openBlocks, f_first, f_last, f_openCount, f_firstEdge, f_lastEdge, (rn_s G a b x e ip (gr_mn G x)).1 (gr_ak G x), f_begun, f_latest, f_inputs, a_op, a_d, a_b, a_many, a_kind, a_asks, a_target, a_a, a_order, a_place, a_parent, a_depths, a_living, a_needs, a_merging, a_stack, a_next, a_before, a_frontiers, a_in, a_out, a_nameA, a_nameB, a_queue, a_state, a_worth, a_usedByExit, a_usedBySet, a_usedByLow, a_usedByHigh, a_edges, a_now))
    (K1 : gr_kd G x ≠ 0 → ∀ (a_now : Nat → Int32), (∀ v, v < 6 → a_now v = (rn_s G a b x e ip (gr_mn G x)).1 v) → J107 (nI (rn_n G x (rn_s G a b x e ip (gr_mn G x)).1)) f_blocks f_given f_known f_met f_openEdges f_openBlocks f_first f_last f_openCount f_firstEdge f_lastEdge f_result f_begun f_latest ((rn_s G a b x e ip (gr_mn G x)).2) a_op a_d a_b a_many a_kind a_asks a_target a_a a_order a_place a_parent a_depths a_living a_needs a_merging a_stack a_next a_before a_frontiers a_in a_out a_nameA a_nameB a_queue a_state a_worth a_usedByExit a_usedBySet a_usedByLow a_usedByHigh a_edges a_now) :
    ∀ n i (a_now : Nat → Int32), gr_mn G x < n + i → i ≤ gr_mn G x → (∀ v, v < 6 → a_now v = (rn_s G a b x e ip i).1 v) → wX_run_139 post J107 a b (nI x) n (nI (4 * x + i)) f_blocks f_given f_known f_met f_openEdges f_openBlocks f_first f_last f_openCount f_firstEdge f_lastEdge f_result f_begun f_latest ((rn_s G a b x e ip i).2) a_op a_d a_b a_many a_kind a_asks a_target a_a a_order a_place a_parent a_depths a_living a_needs a_merging a_stack a_next a_before a_frontiers a_in a_out a_nameA a_nameB a_queue a_state a_worth a_usedByExit a_usedBySet a_usedByLow a_usedByHigh a_edges a_now := by
  have ok := X.1
  have hn16 := ok.1
  have hB := ok.2.2 x hx
  have h4 := hB.1
  have hkd := hB.2.1
  have hak := hB.2.2.1
  have ix : vp_in (nI x) 16 := vp_in_nI (by omega) (by omega)
  have cx := fn_c (a := x) (by omega)
  intro n
  induction n with
  | zero => intro i _ h1 h2; omega
  | succ n ih =>
    intro i a_now h1 h2 hnow
    rw [wX_run_139]
    dsimp only
    rw [cx, X.2.2.2.1 x hx, fn_42]
    refine ⟨ix, pk_le (4 * x + gr_mn G x) (4 * x + i) (fun h => ?_) (fun h => ?_)⟩
    · have ei : i = gr_mn G x := by omega
      subst ei
      rw [X.2.2.2.2.2.1 x hx, X.2.2.2.2.1 x hx, fn_c (a := gr_ak G x) (by omega), hnow _ hak]
      refine ⟨ix, vp_in_nI hak (by omega), nm_e ⟨ix, pk_eq (gr_kd G x) 0 (fun h0 => K0 h0 _ _) (fun h0 => ⟨ix, pk_eq (gr_kd G x) 2 (fun h2 => br_c (fun hz => ?_) (fun hz => ?_)) (fun h2 => ?_)⟩)⟩⟩
      · have htg := hB.2.2.2.1 1 (by omega)
        rw [fn_21, fn_c (a := 2 * x + 1) (by omega)]
        refine ⟨vp_in_nI (by omega) (by omega), nm_r (X.2.2.2.2.2.2.1 x 1 hx (by omega)) ?_⟩
        have := K1 h0 a_now hnow
        rw [show rn_n G x (rn_s G a b x e ip (gr_mn G x)).1 = gr_tg G (2 * x + 1) from if_pos ⟨h2, hz⟩] at this
        exact this
      · rw [fn_20, fn_c (a := 2 * x + 0) (by omega)]
        refine ⟨vp_in_nI (by omega) (by omega), nm_r (X.2.2.2.2.2.2.1 x 0 hx (by omega)) ?_⟩
        have := K1 h0 a_now hnow
        rw [show rn_n G x (rn_s G a b x e ip (gr_mn G x)).1 = gr_tg G (2 * x + 0) from if_neg (fun z => hz z.2)] at this
        exact this
      · rw [fn_20, fn_c (a := 2 * x + 0) (by omega)]
        refine ⟨vp_in_nI (by omega) (by omega), nm_r (X.2.2.2.2.2.2.1 x 0 hx (by omega)) ?_⟩
        have := K1 h0 a_now hnow
        rw [show rn_n G x (rn_s G a b x e ip (gr_mn G x)).1 = gr_tg G (2 * x + 0) from if_neg (fun z => h2 z.1)] at this
        exact this
    · have hi : i < gr_mn G x := by omega
      exact xr_carry X hx hi hnow (fun a_now hnow' => nm_r (nI_1 _) (ih (i + 1) a_now (by omega) (by omega) hnow'))
theorem xr_107 {post : Int32 → SX → Prop} (X : xp_ok G f_blocks f_given a_op a_d a_b a_many a_kind a_asks a_target a_a) :
    ∀ n r x (e : Nat → Int32) (ip la : Int32) (bg lt : Nat) (a_now : Nat → Int32), r < n → bg + r = 200 → x < gr_n G → (r = 0 → la = nI lt) → (∀ v, v < 6 → a_now v = e v) → (∀ (f_inputs : Int32) (a_now : Nat → Int32), post (rn_r G a b r x e ip bg lt).1 (f_blocks, f_given, f_known, f_met, f_openEdges, f_openBlocks, f_first, f_last, f_openCount, f_firstEdge, f_lastEdge, (rn_r G a b r x e ip bg lt).2.1, nI (rn_r G a b r x e ip bg lt).2.2.1, nI (rn_r G a b r x e ip bg lt).2.2.2, f_inputs, a_op, a_d, a_b, a_many, a_kind, a_asks, a_target, a_a, a_order, a_place, a_parent, a_depths, a_living, a_needs, a_merging, a_stack, a_next, a_before, a_frontiers, a_in, a_out, a_nameA, a_nameB, a_queue, a_state, a_worth, a_usedByExit, a_usedBySet, a_usedByLow, a_usedByHigh, a_edges, a_now)) → wX_run_107 post a b n (nI x) f_blocks f_given f_known f_met f_openEdges f_openBlocks f_first f_last f_openCount f_firstEdge f_lastEdge 0 (nI bg) la ip a_op a_d a_b a_many a_kind a_asks a_target a_a a_order a_place a_parent a_depths a_living a_needs a_merging a_stack a_next a_before a_frontiers a_in a_out a_nameA a_nameB a_queue a_state a_worth a_usedByExit a_usedBySet a_usedByLow a_usedByHigh a_edges a_now := by
  have ok := X.1
  have hn16 := ok.1
  intro n
  induction n with
  | zero => intro r x e ip la bg lt _ h; omega
  | succ n ih =>
    intro r x e ip la bg lt a_now hr hb hx hl hnow K
    rw [wX_run_107]
    have h4 := (ok.2.2 x hx).1
    cases r with
    | zero =>
      have eb : bg = 200 := by omega
      subst eb
      rw [hl rfl]
      exact br_t (by decide) (K _ _)
    | succ r =>
      refine br_f (nI_ge (b := 200) (by omega) (by omega)) (nm_r (nI_1 bg) (nm_r (e' := nI (4 * x + 0)) (by rw [fn_4]; rfl) ⟨5, xr_139 (e := e) (ip := ip) X hx (fun h0 f_inputs a_now => ?_) (fun h0 a_now hnow' => ih r _ _ _ (nI x) (bg + 1) x a_now (by omega) (by omega) (rn_nlt ok hx h0 _) (fun _ => rfl) hnow' (fun f_inputs a_now => ?_)) 5 0 a_now (by omega) (by omega) hnow⟩))
      · have := K f_inputs a_now
        rw [show rn_r G a b (r + 1) x e ip bg lt = (0, (rn_s G a b x e ip (gr_mn G x)).1 (gr_ak G x), bg + 1, x) from if_pos h0] at this
        exact this
      · have := K f_inputs a_now
        rw [show rn_r G a b (r + 1) x e ip bg lt = rn_r G a b r (rn_n G x (rn_s G a b x e ip (gr_mn G x)).1) (rn_s G a b x e ip (gr_mn G x)).1 (rn_s G a b x e ip (gr_mn G x)).2 (bg + 1) x from if_neg h0] at this
        exact this
theorem xr_68 {post : Int32 → SX → Prop} {e : Nat → Int32} (he : ∀ v, 3 ≤ v → e v = 0) (K : ∀ a_now : Nat → Int32, (∀ v, v < 6 → a_now v = e v) → ∃ n107 : Nat, wX_run_107 post a b n107 0 f_blocks f_given f_known f_met f_openEdges f_openBlocks f_first f_last f_openCount f_firstEdge f_lastEdge 0 0 f_latest 0 a_op a_d a_b a_many a_kind a_asks a_target a_a a_order a_place a_parent a_depths a_living a_needs a_merging a_stack a_next a_before a_frontiers a_in a_out a_nameA a_nameB a_queue a_state a_worth a_usedByExit a_usedBySet a_usedByLow a_usedByHigh a_edges a_now) :
    ∀ n i (a_now : Nat → Int32), 6 < n + i → 3 ≤ i → i ≤ 6 → (∀ v, v < i → a_now v = e v) → wX_run_68 post a b f_blocks f_given f_known f_met f_openEdges f_openBlocks f_first f_last f_openCount f_firstEdge f_lastEdge f_result f_begun f_latest f_inputs n (nI i) a_op a_d a_b a_many a_kind a_asks a_target a_a a_order a_place a_parent a_depths a_living a_needs a_merging a_stack a_next a_before a_frontiers a_in a_out a_nameA a_nameB a_queue a_state a_worth a_usedByExit a_usedBySet a_usedByLow a_usedByHigh a_edges a_now := by
  intro n
  induction n with
  | zero => intro i _ h1 h2; omega
  | succ n ih =>
    intro i a_now h1 h2 h3 hnow
    rw [wX_run_68]
    refine pk_le 6 i (fun h => ?_) (fun h => ?_)
    · exact K a_now (fun v hv => hnow v (by omega))
    · rw [fn_c (a := i) (by omega)]
      refine ⟨vp_in_nI (by omega) (by omega), nm_e (nm_r (nI_1 i) (ih (i + 1) _ (by omega) (by omega) (by omega) (fun v hv => ?_)))⟩
      by_cases c : v = i
      · rw [c, pk_us, he i h2]
      · rw [pk_un c]; exact hnow v (by omega)
theorem xr_run {post : Int32 → SX → Prop} {c : Int32} (X : xp_ok G f_blocks f_given a_op a_d a_b a_many a_kind a_asks a_target a_a) (K0 : gr_n G = 0 → post (-1) (f_blocks, f_given, f_known, f_met, f_openEdges, f_openBlocks, f_first, f_last, f_openCount, f_firstEdge, f_lastEdge, f_result, f_begun, f_latest, f_inputs, a_op, a_d, a_b, a_many, a_kind, a_asks, a_target, a_a, a_order, a_place, a_parent, a_depths, a_living, a_needs, a_merging, a_stack, a_next, a_before, a_frontiers, a_in, a_out, a_nameA, a_nameB, a_queue, a_state, a_worth, a_usedByExit, a_usedBySet, a_usedByLow, a_usedByHigh, a_edges, a_now))
    (K : ∀ (f_inputs : Int32) (a_now : Nat → Int32), 0 < gr_n G → post (rn_r G a b 200 0 (rn_0 G a b c) 0 0 0).1 (f_blocks, f_given, f_known, f_met, f_openEdges, f_openBlocks, f_first, f_last, f_openCount, f_firstEdge, f_lastEdge, (rn_r G a b 200 0 (rn_0 G a b c) 0 0 0).2.1, nI (rn_r G a b 200 0 (rn_0 G a b c) 0 0 0).2.2.1, nI (rn_r G a b 200 0 (rn_0 G a b c) 0 0 0).2.2.2, f_inputs, a_op, a_d, a_b, a_many, a_kind, a_asks, a_target, a_a, a_order, a_place, a_parent, a_depths, a_living, a_needs, a_merging, a_stack, a_next, a_before, a_frontiers, a_in, a_out, a_nameA, a_nameB, a_queue, a_state, a_worth, a_usedByExit, a_usedBySet, a_usedByLow, a_usedByHigh, a_edges, a_now)) : wpX_run post (f_blocks, f_given, f_known, f_met, f_openEdges, f_openBlocks, f_first, f_last, f_openCount, f_firstEdge, f_lastEdge, f_result, f_begun, f_latest, f_inputs, a_op, a_d, a_b, a_many, a_kind, a_asks, a_target, a_a, a_order, a_place, a_parent, a_depths, a_living, a_needs, a_merging, a_stack, a_next, a_before, a_frontiers, a_in, a_out, a_nameA, a_nameB, a_queue, a_state, a_worth, a_usedByExit, a_usedBySet, a_usedByLow, a_usedByHigh, a_edges, a_now) a b c := by
  have ok := X.1
  have hn16 := ok.1
  have hk4 := ok.2.1
  unfold wpX_run
  dsimp only
  refine pk_eq (gr_n G) 0 K0 (fun hn => ?_) X.2.1
  have e3 : ∀ v, 3 ≤ v → rn_0 G a b c v = 0 := fun v hv => if_neg (by omega)
  have fin : ∀ (z0 z1 z2 : Int32), z0 = rn_0 G a b c 0 → z1 = rn_0 G a b c 1 → z2 = rn_0 G a b c 2 → ∃ n68 : Nat, wX_run_68 post a b f_blocks f_given f_known f_met f_openEdges f_openBlocks f_first f_last f_openCount f_firstEdge f_lastEdge f_result f_begun f_latest f_inputs n68 3 a_op a_d a_b a_many a_kind a_asks a_target a_a a_order a_place a_parent a_depths a_living a_needs a_merging a_stack a_next a_before a_frontiers a_in a_out a_nameA a_nameB a_queue a_state a_worth a_usedByExit a_usedBySet a_usedByLow a_usedByHigh a_edges (upd (upd (upd a_now 0 z0) 1 z1) 2 z2) := by
    intro z0 z1 z2 h0 h1 h2
    refine ⟨5, xr_68 (e := rn_0 G a b c) e3 (fun a_now hnow => ⟨201, ?_⟩) 5 3 _ (by omega) (by omega) (by omega) (fun v hv => ?_)⟩
    · exact xr_107 X 201 200 0 (rn_0 G a b c) 0 f_latest 0 0 a_now (by omega) (by omega) (by omega) (fun z => absurd z (by omega)) hnow (fun f_inputs a_now => K f_inputs a_now (by omega))
    · rcases (show v = 0 ∨ v = 1 ∨ v = 2 by omega) with z | z | z
      · rw [z, pk_un (by omega), pk_un (by omega), pk_us]; exact h0
      · rw [z, pk_un (by omega), pk_us]; exact h1
      · rw [z, pk_us]; exact h2
  have r0 : ∀ v, v < 3 → (gr_k G ≤ v → rn_0 G a b c v = 0) := fun v _ h => if_neg (by omega)
  have k45 : ∀ (z0 z1 : Int32), z0 = rn_0 G a b c 0 → z1 = rn_0 G a b c 1 → wX_run_45 post a b c z1 1 f_blocks f_given f_known f_met f_openEdges f_openBlocks f_first f_last f_openCount f_firstEdge f_lastEdge f_result f_begun f_latest f_inputs a_op a_d a_b a_many a_kind a_asks a_target a_a a_order a_place a_parent a_depths a_living a_needs a_merging a_stack a_next a_before a_frontiers a_in a_out a_nameA a_nameB a_queue a_state a_worth a_usedByExit a_usedBySet a_usedByLow a_usedByHigh a_edges (upd a_now 0 z0) := by
    intro z0 z1 h0 h1
    rw [wX_run_45]
    refine ⟨vp_in_nI (n := 1) (by omega) (by omega), nm_r (e' := upd (upd a_now 0 z0) 1 z1) rfl ?_⟩
    refine pk_le (gr_k G) 2 (fun h => nm_e (fin z0 z1 0 h0 h1 (r0 2 (by omega) h).symm)) (fun h => nm_e (fin z0 z1 c h0 h1 ?_)) X.2.2.1
    exact (if_pos h).symm
  have k26 : ∀ z0 : Int32, z0 = rn_0 G a b c 0 → wX_run_26 post a b c z0 0 f_blocks f_given f_known f_met f_openEdges f_openBlocks f_first f_last f_openCount f_firstEdge f_lastEdge f_result f_begun f_latest f_inputs a_op a_d a_b a_many a_kind a_asks a_target a_a a_order a_place a_parent a_depths a_living a_needs a_merging a_stack a_next a_before a_frontiers a_in a_out a_nameA a_nameB a_queue a_state a_worth a_usedByExit a_usedBySet a_usedByLow a_usedByHigh a_edges a_now := by
    intro z0 h0
    rw [wX_run_26]
    refine ⟨vp_in_nI (n := 0) (by omega) (by omega), nm_r (e' := upd a_now 0 z0) rfl ?_⟩
    refine pk_le (gr_k G) 1 (fun h => k45 z0 0 h0 (r0 1 (by omega) h).symm) (fun h => k45 z0 b h0 ?_) X.2.2.1
    exact (if_pos h).symm
  refine pk_le (gr_k G) 0 (fun h => k26 0 (r0 0 (by omega) h).symm) (fun h => k26 a ?_) X.2.2.1
  exact (if_pos h).symm
end
end
section
section
variable {f_n f_k f_met f_result f_begun f_last : Int32} {a_many a_op a_d a_a a_b a_kind a_used a_first a_second a_living a_needed a_rules a_edges a_open a_variable : Nat → Int32} {a_begin a_now : Nat → Int64}
variable {G : gr_T} {a b : Int32}
theorem zr_118 {post : Int32 → SY → Prop} {J81 : Int32 → Int32 → Int32 → Int32 → Int32 → (Nat → Int32) → (Nat → Int32) → (Nat → Int32) → (Nat → Int32) → (Nat → Int32) → (Nat → Int32) → (Nat → Int32) → (Nat → Int32) → (Nat → Int32) → (Nat → Int32) → (Nat → Int32) → (Nat → Int32) → (Nat → Int32) → (Nat → Int64) → (Nat → Int64) → (Nat → Int32) → (Nat → Int32) → Prop} {x : Nat} {e : Nat → Int32} {ip : Int32} (Y : yp_ok G f_n f_k a_many a_op a_d a_a a_b a_kind a_used a_first a_second) (hx : x < gr_n G)
    (K0 : gr_kd G x = 0 → ∀ (x4 : Int32) (a_variable : Nat → Int32), J81 x4 (-1) ((rn_s G a b x e ip (gr_mn G x)).1 (gr_ak G x)) f_begun f_last a_many a_op a_d a_a a_b a_kind a_used a_first a_second a_living a_needed a_rules a_edges a_begin a_now a_open a_variable)
    (K1 : gr_kd G x ≠ 0 → ∀ (a_variable : Nat → Int32), (∀ v, v < 6 → a_variable v = (rn_s G a b x e ip (gr_mn G x)).1 v) → J81 (rn_s G a b x e ip (gr_mn G x)).2 (nI (rn_n G x (rn_s G a b x e ip (gr_mn G x)).1)) f_result f_begun f_last a_many a_op a_d a_a a_b a_kind a_used a_first a_second a_living a_needed a_rules a_edges a_begin a_now a_open a_variable) :
    ∀ n i (a_variable : Nat → Int32), gr_mn G x < n + i → i ≤ gr_mn G x → (∀ v, v < 6 → a_variable v = (rn_s G a b x e ip i).1 v) → wY_run_118 post J81 a b (nI x) f_n f_k f_met f_result f_begun f_last n (rn_s G a b x e ip i).2 (nI (4 * x + i)) a_many a_op a_d a_a a_b a_kind a_used a_first a_second a_living a_needed a_rules a_edges a_begin a_now a_open a_variable := by
  have ok := Y.1
  have hn16 := ok.1
  have hB := ok.2.2 x hx
  have h4 := hB.1
  have hkd := hB.2.1
  have hak := hB.2.2.1
  have ix : vp_in (nI x) 16 := vp_in_nI (by omega) (by omega)
  have cx := fn_c (a := x) (by omega)
  intro n
  induction n with
  | zero => intro i _ h1 h2; omega
  | succ n ih =>
    intro i a_variable h1 h2 hv
    rw [wY_run_118]
    dsimp only
    rw [cx, Y.2.2.2.1 x hx, fn_42]
    refine ⟨ix, pk_le (4 * x + gr_mn G x) (4 * x + i) (fun h => ?_) (fun h => ?_)⟩
    · have ei : i = gr_mn G x := by omega
      subst ei
      rw [Y.2.2.2.2.1 x hx]
      have hU := Y.2.2.2.2.2.1 x hx
      have hT := Y.2.2.2.2.2.2.1 x hx
      refine ⟨ix, pk_eq (gr_kd G x) 0 (fun h0 => ⟨ix, ?_⟩) (fun h0 => ⟨ix, pk_eq (gr_kd G x) 1 (fun h1 => ⟨ix, nm_r (hT.1 (by omega)) ?_⟩) (fun h1 => ⟨ix, ?_⟩)⟩)⟩
      · rw [hU.2 (by omega), fn_c (a := gr_ak G x) (by omega), hv _ hak]
        exact ⟨vp_in_nI hak (by omega), nm_e (K0 h0 _ _)⟩
      · have := K1 h0 a_variable hv
        rw [show rn_n G x (rn_s G a b x e ip (gr_mn G x)).1 = gr_tg G (2 * x + 0) from if_neg (fun z => by omega)] at this
        exact this
      · rw [hU.2 h1, fn_c (a := gr_ak G x) (by omega), hv _ hak]
        refine ⟨vp_in_nI hak (by omega), br_c (fun hz => ⟨ix, nm_r (hT.2 (by omega)) ?_⟩) (fun hz => ⟨ix, nm_r (hT.1 (by omega)) ?_⟩)⟩
        · have := K1 h0 a_variable hv
          rw [show rn_n G x (rn_s G a b x e ip (gr_mn G x)).1 = gr_tg G (2 * x + 1) from if_pos ⟨by omega, hz⟩] at this
          exact this
        · have := K1 h0 a_variable hv
          rw [show rn_n G x (rn_s G a b x e ip (gr_mn G x)).1 = gr_tg G (2 * x + 0) from if_neg (fun z => hz z.2)] at this
          exact this
    · have hi : i < gr_mn G x := by omega
      have hI := hB.2.2.2.2 i hi
      have hY := Y.2.2.2.2.2.2.2 x i hx hi
      have hop := hI.1
      have hd := hI.2.1
      have ii : vp_in (nI (4 * x + i)) 64 := vp_in_nI (by omega) (by omega)
      have ci := fn_c (a := 4 * x + i) (by omega)
      have k274 : ∀ (x4 z : Int32), rn_v G a b (4 * x + i) (rn_s G a b x e ip i).1 (rn_s G a b x e ip i).2 = z → rn_ip G (4 * x + i) (rn_s G a b x e ip i).2 = x4 → wY_run_274 post J81 (wY_run_118 post J81 a b (nI x) f_n f_k f_met f_result f_begun f_last n) a b x4 (nI x) (nI (4 * x + i)) z f_n f_k f_met f_result f_begun f_last a_many a_op a_d a_a a_b a_kind a_used a_first a_second a_living a_needed a_rules a_edges a_begin a_now a_open a_variable := by
        intro x4 z hz h4'
        rw [wY_run_274, ci, hY.2.1, fn_c (a := gr_dd G (4 * x + i)) (by omega)]
        refine ⟨ii, vp_in_nI (by omega) (by omega), nm_e (nm_r (nI_1 _) ?_)⟩
        rw [← h4', ← hz]
        exact ih (i + 1) _ (by omega) (by omega) (rn_up hv)
      have k214 : ∀ (p q : Int32), (gr_op G (4 * x + i) = 1 → p = (rn_s G a b x e ip i).1 (gr_av G (4 * x + i))) → (1 < gr_op G (4 * x + i) → gr_op G (4 * x + i) < 7 → p = (rn_s G a b x e ip i).1 (gr_av G (4 * x + i)) ∧ q = (rn_s G a b x e ip i).1 (gr_bb G (4 * x + i))) → wY_run_214 post J81 (wY_run_118 post J81 a b (nI x) f_n f_k f_met f_result f_begun f_last n) a b (rn_s G a b x e ip i).2 (nI x) (nI (4 * x + i)) p q f_n f_k f_met f_result f_begun f_last a_many a_op a_d a_a a_b a_kind a_used a_first a_second a_living a_needed a_rules a_edges a_begin a_now a_open a_variable := by
        intro p q hp1 hp2
        rw [wY_run_214, ci, hY.1, hY.2.2.1]
        refine ⟨ii, pk_eq (gr_op G (4 * x + i)) 0 (fun h0 => ⟨ii, k274 _ _ ?_ ?_⟩) (fun h0 => ⟨ii, pk_eq (gr_op G (4 * x + i)) 7 (fun h7 => nm_e (k274 _ _ ?_ ?_)) (fun h7 => ⟨ii, ?_⟩)⟩)⟩
        · unfold rn_v
          rw [if_pos h0]
        · exact if_neg (by omega)
        · unfold rn_v
          rw [if_neg h0, if_pos h7]
        · exact if_pos h7
        · by_cases h1 : gr_op G (4 * x + i) = 1
          · rw [h1]
            refine yr_1 (k274 _ _ ?_ (if_neg h7))
            unfold rn_v
            rw [if_neg h0, if_neg h7, if_pos h1, hp1 h1]
          · refine yr_calc (by omega) (by omega) (k274 _ _ ?_ (if_neg h7))
            unfold rn_v
            have := hp2 (by omega) (by omega)
            rw [if_neg h0, if_neg h7, if_neg h1, this.1, this.2]
      have k173 : ∀ p : Int32, (gr_op G (4 * x + i) ≠ 0 → gr_op G (4 * x + i) ≠ 7 → p = (rn_s G a b x e ip i).1 (gr_av G (4 * x + i))) → wY_run_173 post J81 (wY_run_118 post J81 a b (nI x) f_n f_k f_met f_result f_begun f_last n) a b (rn_s G a b x e ip i).2 (nI x) (nI (4 * x + i)) p f_n f_k f_met f_result f_begun f_last a_many a_op a_d a_a a_b a_kind a_used a_first a_second a_living a_needed a_rules a_edges a_begin a_now a_open a_variable := by
        intro p hp
        rw [wY_run_173, ci, hY.1]
        refine ⟨ii, pk_le (gr_op G (4 * x + i)) 1 (fun h1 => ?_) (fun h1 => ⟨ii, pk_le 7 (gr_op G (4 * x + i)) (fun h7 => ?_) (fun h7 => ⟨ii, ?_⟩)⟩)⟩
        · rw [wY_run_213]
          exact k214 p 0 (fun z => hp (by omega) (by omega)) (fun z => by omega)
        · rw [wY_run_213]
          exact k214 p 0 (fun z => by omega) (fun z z2 => by omega)
        · have hb6 := hI.2.2.1
          rw [hY.2.2.2 h1 h7, fn_c (a := gr_bb G (4 * x + i)) (by omega), hv _ hb6]
          exact ⟨vp_in_nI (by omega) (by omega), k214 p _ (fun z => by omega) (fun _ _ => ⟨hp (by omega) (by omega), rfl⟩)⟩
      rw [ci, hY.1]
      refine ⟨ii, pk_eq (gr_op G (4 * x + i)) 0 (fun h0 => ?_) (fun h0 => ⟨ii, pk_eq (gr_op G (4 * x + i)) 7 (fun h7 => ?_) (fun h7 => ⟨ii, ?_⟩)⟩)⟩
      · rw [wY_run_157]
        exact k173 0 (fun z => absurd h0 z)
      · rw [wY_run_157]
        exact k173 0 (fun _ z => absurd h7 z)
      · have ha := hI.2.2.2 h0 h7
        have ha6 := ha.2
        rw [hY.2.2.1, ha.1, fn_c (a := gr_av G (4 * x + i)) (by omega), hv _ ha.2]
        exact ⟨vp_in_nI (by omega) (by omega), k173 _ (fun _ _ => rfl)⟩
theorem zr_81 {post : Int32 → SY → Prop} (Y : yp_ok G f_n f_k a_many a_op a_d a_a a_b a_kind a_used a_first a_second) :
    ∀ n r x (e : Nat → Int32) (ip la : Int32) (bg lt : Nat) (a_variable : Nat → Int32), r + 1 < n → bg + r = 200 → x < gr_n G → (r = 0 → la = nI lt) → (∀ v, v < 6 → a_variable v = e v) → (∀ (a_variable : Nat → Int32), post (rn_r G a b r x e ip bg lt).1 (f_n, f_k, f_met, (rn_r G a b r x e ip bg lt).2.1, nI (rn_r G a b r x e ip bg lt).2.2.1, nI (rn_r G a b r x e ip bg lt).2.2.2, a_many, a_op, a_d, a_a, a_b, a_kind, a_used, a_first, a_second, a_living, a_needed, a_rules, a_edges, a_begin, a_now, a_open, a_variable)) → wY_run_81 post a b f_n f_k f_met n ip (nI x) 0 (nI bg) la a_many a_op a_d a_a a_b a_kind a_used a_first a_second a_living a_needed a_rules a_edges a_begin a_now a_open a_variable := by
  have ok := Y.1
  have hn16 := ok.1
  intro n
  induction n with
  | zero => intro r x e ip la bg lt _ h; omega
  | succ n ih =>
    intro r x e ip la bg lt a_variable hr hb hx hl hv K
    rw [wY_run_81]
    have h4 := (ok.2.2 x hx).1
    refine br_f (nI_pos (by omega)) ?_
    cases r with
    | zero =>
      have eb : bg = 200 := by omega
      subst eb
      rw [hl rfl]
      refine br_t (by decide) ?_
      rw [wY_run_376]
      exact br_f (nI_pos (by omega)) (K _)
    | succ r =>
      refine br_f (nI_ge (b := 200) (by omega) (by omega)) (nm_r (nI_1 bg) (nm_r (e' := nI (4 * x + 0)) (by rw [fn_4]; rfl) ⟨5, zr_118 (e := e) (ip := ip) Y hx (fun h0 x4 a_variable => ?_) (fun h0 a_variable hv' => ih r _ _ _ (nI x) (bg + 1) x a_variable (by omega) (by omega) (rn_nlt ok hx h0 _) (fun _ => rfl) hv' (fun a_variable => ?_)) 5 0 a_variable (by omega) (by omega) hv⟩))
      · obtain ⟨n, rfl⟩ : ∃ d, n = d + 1 := ⟨n - 1, by omega⟩
        rw [wY_run_81]
        refine br_t (by decide) ?_
        rw [wY_run_376]
        refine br_t (by decide) ?_
        have := K a_variable
        rw [show rn_r G a b (r + 1) x e ip bg lt = (0, (rn_s G a b x e ip (gr_mn G x)).1 (gr_ak G x), bg + 1, x) from if_pos h0] at this
        exact this
      · have := K a_variable
        rw [show rn_r G a b (r + 1) x e ip bg lt = rn_r G a b r (rn_n G x (rn_s G a b x e ip (gr_mn G x)).1) (rn_s G a b x e ip (gr_mn G x)).1 (rn_s G a b x e ip (gr_mn G x)).2 (bg + 1) x from if_neg h0] at this
        exact this
theorem zr_12 {post : Int32 → SY → Prop} {c : Int32} (Y : yp_ok G f_n f_k a_many a_op a_d a_a a_b a_kind a_used a_first a_second) (K : ∀ a_variable : Nat → Int32, (∀ v, v < 6 → a_variable v = rn_0 G a b c v) → ∃ n81 : Nat, wY_run_81 post a b f_n f_k f_met n81 0 0 0 0 f_last a_many a_op a_d a_a a_b a_kind a_used a_first a_second a_living a_needed a_rules a_edges a_begin a_now a_open a_variable) :
    ∀ n i (a_variable : Nat → Int32), 6 < n + i → i ≤ 6 → (∀ v, v < i → a_variable v = rn_0 G a b c v) → wY_run_12 post a b c f_n f_k f_met f_result f_begun f_last n (nI i) a_many a_op a_d a_a a_b a_kind a_used a_first a_second a_living a_needed a_rules a_edges a_begin a_now a_open a_variable := by
  have hk4 := Y.1.2.1
  intro n
  induction n with
  | zero => intro i _ h1 h2; omega
  | succ n ih =>
    intro i a_variable h1 h2 hv
    rw [wY_run_12]
    refine pk_le 6 i (fun h => ?_) (fun h => ?_)
    · exact K a_variable (fun v hv' => hv v (by omega))
    · have ii : vp_in (nI i) 6 := vp_in_nI h (by omega)
      have step : ∀ z : Int32, z = rn_0 G a b c i → wY_run_12 post a b c f_n f_k f_met f_result f_begun f_last n (nI (i + 1)) a_many a_op a_d a_a a_b a_kind a_used a_first a_second a_living a_needed a_rules a_edges a_begin a_now a_open (upd a_variable i z) := by
        intro z hz
        refine ih (i + 1) _ (by omega) (by omega) (fun v hv' => ?_)
        by_cases e : v = i
        · rw [e, pk_us, hz]
        · rw [pk_un e]; exact hv v (by omega)
      rw [fn_c (a := i) (by omega)]
      refine pk_lt i (gr_k G) (fun hk => pk_eq i 0 (fun e0 => ⟨ii, nm_e (nm_r (nI_1 i) (step _ ?_))⟩) (fun e0 => pk_eq i 1 (fun e1 => ⟨ii, nm_e (nm_r (nI_1 i) (step _ ?_))⟩) (fun e1 => ⟨ii, nm_e (nm_r (nI_1 i) (step _ ?_))⟩))) (fun hk => ⟨ii, nm_e (nm_r (nI_1 i) (step _ ?_))⟩) rfl Y.2.2.1
      · unfold rn_0
        rw [if_pos hk, if_pos e0]
      · unfold rn_0
        rw [if_pos hk, if_neg e0, if_pos e1]
      · unfold rn_0
        rw [if_pos hk, if_neg e0, if_neg e1]
      · unfold rn_0
        rw [if_neg (by omega)]
theorem zr_run {post : Int32 → SY → Prop} {c : Int32} (Y : yp_ok G f_n f_k a_many a_op a_d a_a a_b a_kind a_used a_first a_second) (K0 : gr_n G = 0 → post (-1) (f_n, f_k, f_met, f_result, f_begun, f_last, a_many, a_op, a_d, a_a, a_b, a_kind, a_used, a_first, a_second, a_living, a_needed, a_rules, a_edges, a_begin, a_now, a_open, a_variable))
    (K : ∀ (a_variable : Nat → Int32), 0 < gr_n G → post (rn_r G a b 200 0 (rn_0 G a b c) 0 0 0).1 (f_n, f_k, f_met, (rn_r G a b 200 0 (rn_0 G a b c) 0 0 0).2.1, nI (rn_r G a b 200 0 (rn_0 G a b c) 0 0 0).2.2.1, nI (rn_r G a b 200 0 (rn_0 G a b c) 0 0 0).2.2.2, a_many, a_op, a_d, a_a, a_b, a_kind, a_used, a_first, a_second, a_living, a_needed, a_rules, a_edges, a_begin, a_now, a_open, a_variable)) : wpY_run post (f_n, f_k, f_met, f_result, f_begun, f_last, a_many, a_op, a_d, a_a, a_b, a_kind, a_used, a_first, a_second, a_living, a_needed, a_rules, a_edges, a_begin, a_now, a_open, a_variable) a b c := by
  have ok := Y.1
  have hn16 := ok.1
  unfold wpY_run
  dsimp only
  refine pk_eq (gr_n G) 0 K0 (fun hn => ⟨7, ?_⟩) Y.2.1
  refine zr_12 Y (fun a_variable hv => ⟨202, zr_81 Y 202 200 0 (rn_0 G a b c) 0 f_last 0 0 a_variable (by omega) (by omega) (by omega) (fun z => absurd z (by omega)) hv (fun a_variable => K a_variable (by omega))⟩) 7 0 a_variable (by omega) (by omega) (fun v hv => by omega)
end
end
section
/-- one program; what the component knows of it, if it knows; the same last run -/
def i_Rel (_ : Nat) (u : SX) (v : SY) : Prop := ∃ G : gr_T, xp_ok G u.1 u.2.1 u.2.2.2.2.2.2.2.2.2.2.2.2.2.2.2.1 u.2.2.2.2.2.2.2.2.2.2.2.2.2.2.2.2.1 u.2.2.2.2.2.2.2.2.2.2.2.2.2.2.2.2.2.1 u.2.2.2.2.2.2.2.2.2.2.2.2.2.2.2.2.2.2.1 u.2.2.2.2.2.2.2.2.2.2.2.2.2.2.2.2.2.2.2.1 u.2.2.2.2.2.2.2.2.2.2.2.2.2.2.2.2.2.2.2.2.1 u.2.2.2.2.2.2.2.2.2.2.2.2.2.2.2.2.2.2.2.2.2.1 u.2.2.2.2.2.2.2.2.2.2.2.2.2.2.2.2.2.2.2.2.2.2.1 ∧ (u.2.2.1 = 0 ∨ (u.2.2.1 ≠ 0 ∧ xk_ok G u.2.2.2.1 u.2.2.2.2.2.1 u.2.2.2.2.2.2.2.2.1 u.2.2.2.2.2.2.2.2.2.2.2.2.2.2.2.2.2.2.2.2.2.2.2.1 u.2.2.2.2.2.2.2.2.2.2.2.2.2.2.2.2.2.2.2.2.2.2.2.2.1 u.2.2.2.2.2.2.2.2.2.2.2.2.2.2.2.2.2.2.2.2.2.2.2.2.2.1 u.2.2.2.2.2.2.2.2.2.2.2.2.2.2.2.2.2.2.2.2.2.2.2.2.2.2.1 u.2.2.2.2.2.2.2.2.2.2.2.2.2.2.2.2.2.2.2.2.2.2.2.2.2.2.2.1 u.2.2.2.2.2.2.2.2.2.2.2.2.2.2.2.2.2.2.2.2.2.2.2.2.2.2.2.2.1 u.2.2.2.2.2.2.2.2.2.2.2.2.2.2.2.2.2.2.2.2.2.2.2.2.2.2.2.2.2.1 u.2.2.2.2.2.2.2.2.2.2.2.2.2.2.2.2.2.2.2.2.2.2.2.2.2.2.2.2.2.2.2.2.2.1 u.2.2.2.2.2.2.2.2.2.2.2.2.2.2.2.2.2.2.2.2.2.2.2.2.2.2.2.2.2.2.2.2.2.2.1 u.2.2.2.2.2.2.2.2.2.2.2.2.2.2.2.2.2.2.2.2.2.2.2.2.2.2.2.2.2.2.2.2.2.2.2.1 u.2.2.2.2.2.2.2.2.2.2.2.2.2.2.2.2.2.2.2.2.2.2.2.2.2.2.2.2.2.2.2.2.2.2.2.2.2.2.2.1 u.2.2.2.2.2.2.2.2.2.2.2.2.2.2.2.2.2.2.2.2.2.2.2.2.2.2.2.2.2.2.2.2.2.2.2.2.2.2.2.2.1)) ∧ yp_ok G v.1 v.2.1 v.2.2.2.2.2.2.1 v.2.2.2.2.2.2.2.1 v.2.2.2.2.2.2.2.2.1 v.2.2.2.2.2.2.2.2.2.1 v.2.2.2.2.2.2.2.2.2.2.1 v.2.2.2.2.2.2.2.2.2.2.2.1 v.2.2.2.2.2.2.2.2.2.2.2.2.1 v.2.2.2.2.2.2.2.2.2.2.2.2.2.1 v.2.2.2.2.2.2.2.2.2.2.2.2.2.2.1 ∧ v.2.2.2.1 = u.2.2.2.2.2.2.2.2.2.2.2.1 ∧ v.2.2.2.2.1 = u.2.2.2.2.2.2.2.2.2.2.2.2.1 ∧ v.2.2.2.2.2.1 = u.2.2.2.2.2.2.2.2.2.2.2.2.2.1
theorem i_up {k : Nat} {u : SX} {v : SY} (h : i_Rel k u v) : i_Rel (k + 6) u v := h
section
variable {f_blocks f_given f_known f_met f_openEdges f_openBlocks f_first f_last f_openCount f_firstEdge f_lastEdge f_result f_begun f_latest f_inputs : Int32} {a_op a_d a_b a_many a_kind a_asks a_target a_a a_order a_place a_parent a_depths a_living a_needs a_merging a_stack a_next a_before a_frontiers a_in a_out a_nameA a_nameB a_queue a_state a_worth a_usedByExit a_edges a_now : Nat → Int32} {a_usedBySet a_usedByLow a_usedByHigh : Nat → Int64}
variable {f_n' f_k' f_met' f_result' f_begun' f_last' : Int32} {a_many' a_op' a_d' a_a' a_b' a_kind' a_used' a_first' a_second' a_living' a_needed' a_rules' a_edges' a_open' a_variable' : Nat → Int32} {a_begin' a_now' : Nat → Int64}
theorem rl_in {k : Nat} {G : gr_T} (hX : xp_ok G f_blocks f_given a_op a_d a_b a_many a_kind a_asks a_target a_a) (hk : f_known = 0 ∨ (f_known ≠ 0 ∧ xk_ok G f_met f_openBlocks f_openCount a_order a_place a_parent a_depths a_living a_needs a_merging a_frontiers a_in a_out a_state a_worth)) (hY : yp_ok G f_n' f_k' a_many' a_op' a_d' a_a' a_b' a_kind' a_used' a_first' a_second') (h1 : f_result' = f_result) (h2 : f_begun' = f_begun) (h3 : f_last' = f_latest) : i_Rel k (f_blocks, f_given, f_known, f_met, f_openEdges, f_openBlocks, f_first, f_last, f_openCount, f_firstEdge, f_lastEdge, f_result, f_begun, f_latest, f_inputs, a_op, a_d, a_b, a_many, a_kind, a_asks, a_target, a_a, a_order, a_place, a_parent, a_depths, a_living, a_needs, a_merging, a_stack, a_next, a_before, a_frontiers, a_in, a_out, a_nameA, a_nameB, a_queue, a_state, a_worth, a_usedByExit, a_usedBySet, a_usedByLow, a_usedByHigh, a_edges, a_now) (f_n', f_k', f_met', f_result', f_begun', f_last', a_many', a_op', a_d', a_a', a_b', a_kind', a_used', a_first', a_second', a_living', a_needed', a_rules', a_edges', a_begin', a_now', a_open', a_variable') := ⟨G, hX, hk, hY, h1, h2, h3⟩
end
theorem rl_el {k : Nat} {u : SX} {v : SY} {Q : SX → SY → Prop} (h : ∀ (G : gr_T) (f_blocks f_given f_known f_met f_openEdges f_openBlocks f_first f_last f_openCount f_firstEdge f_lastEdge f_result f_begun f_latest f_inputs : Int32) (a_op a_d a_b a_many a_kind a_asks a_target a_a a_order a_place a_parent a_depths a_living a_needs a_merging a_stack a_next a_before a_frontiers a_in a_out a_nameA a_nameB a_queue a_state a_worth a_usedByExit : Nat → Int32) (a_usedBySet a_usedByLow a_usedByHigh : Nat → Int64) (a_edges a_now : Nat → Int32) (f_n' f_k' f_met' f_result' f_begun' f_last' : Int32) (a_many' a_op' a_d' a_a' a_b' a_kind' a_used' a_first' a_second' a_living' a_needed' a_rules' a_edges' : Nat → Int32) (a_begin' a_now' : Nat → Int64) (a_open' a_variable' : Nat → Int32), xp_ok G f_blocks f_given a_op a_d a_b a_many a_kind a_asks a_target a_a → (f_known = 0 ∨ (f_known ≠ 0 ∧ xk_ok G f_met f_openBlocks f_openCount a_order a_place a_parent a_depths a_living a_needs a_merging a_frontiers a_in a_out a_state a_worth)) → yp_ok G f_n' f_k' a_many' a_op' a_d' a_a' a_b' a_kind' a_used' a_first' a_second' → f_result' = f_result → f_begun' = f_begun → f_last' = f_latest → Q (f_blocks, f_given, f_known, f_met, f_openEdges, f_openBlocks, f_first, f_last, f_openCount, f_firstEdge, f_lastEdge, f_result, f_begun, f_latest, f_inputs, a_op, a_d, a_b, a_many, a_kind, a_asks, a_target, a_a, a_order, a_place, a_parent, a_depths, a_living, a_needs, a_merging, a_stack, a_next, a_before, a_frontiers, a_in, a_out, a_nameA, a_nameB, a_queue, a_state, a_worth, a_usedByExit, a_usedBySet, a_usedByLow, a_usedByHigh, a_edges, a_now) (f_n', f_k', f_met', f_result', f_begun', f_last', a_many', a_op', a_d', a_a', a_b', a_kind', a_used', a_first', a_second', a_living', a_needed', a_rules', a_edges', a_begin', a_now', a_open', a_variable')) (I : i_Rel k u v) : Q u v := by
  obtain ⟨G, h1, h2, h3, h4, h5, h6⟩ := I
  exact h G u.1 u.2.1 u.2.2.1 u.2.2.2.1 u.2.2.2.2.1 u.2.2.2.2.2.1 u.2.2.2.2.2.2.1 u.2.2.2.2.2.2.2.1 u.2.2.2.2.2.2.2.2.1 u.2.2.2.2.2.2.2.2.2.1 u.2.2.2.2.2.2.2.2.2.2.1 u.2.2.2.2.2.2.2.2.2.2.2.1 u.2.2.2.2.2.2.2.2.2.2.2.2.1 u.2.2.2.2.2.2.2.2.2.2.2.2.2.1 u.2.2.2.2.2.2.2.2.2.2.2.2.2.2.1 u.2.2.2.2.2.2.2.2.2.2.2.2.2.2.2.1 u.2.2.2.2.2.2.2.2.2.2.2.2.2.2.2.2.1 u.2.2.2.2.2.2.2.2.2.2.2.2.2.2.2.2.2.1 u.2.2.2.2.2.2.2.2.2.2.2.2.2.2.2.2.2.2.1 u.2.2.2.2.2.2.2.2.2.2.2.2.2.2.2.2.2.2.2.1 u.2.2.2.2.2.2.2.2.2.2.2.2.2.2.2.2.2.2.2.2.1 u.2.2.2.2.2.2.2.2.2.2.2.2.2.2.2.2.2.2.2.2.2.1 u.2.2.2.2.2.2.2.2.2.2.2.2.2.2.2.2.2.2.2.2.2.2.1 u.2.2.2.2.2.2.2.2.2.2.2.2.2.2.2.2.2.2.2.2.2.2.2.1 u.2.2.2.2.2.2.2.2.2.2.2.2.2.2.2.2.2.2.2.2.2.2.2.2.1 u.2.2.2.2.2.2.2.2.2.2.2.2.2.2.2.2.2.2.2.2.2.2.2.2.2.1 u.2.2.2.2.2.2.2.2.2.2.2.2.2.2.2.2.2.2.2.2.2.2.2.2.2.2.1 u.2.2.2.2.2.2.2.2.2.2.2.2.2.2.2.2.2.2.2.2.2.2.2.2.2.2.2.1 u.2.2.2.2.2.2.2.2.2.2.2.2.2.2.2.2.2.2.2.2.2.2.2.2.2.2.2.2.1 u.2.2.2.2.2.2.2.2.2.2.2.2.2.2.2.2.2.2.2.2.2.2.2.2.2.2.2.2.2.1 u.2.2.2.2.2.2.2.2.2.2.2.2.2.2.2.2.2.2.2.2.2.2.2.2.2.2.2.2.2.2.1 u.2.2.2.2.2.2.2.2.2.2.2.2.2.2.2.2.2.2.2.2.2.2.2.2.2.2.2.2.2.2.2.1 u.2.2.2.2.2.2.2.2.2.2.2.2.2.2.2.2.2.2.2.2.2.2.2.2.2.2.2.2.2.2.2.2.1 u.2.2.2.2.2.2.2.2.2.2.2.2.2.2.2.2.2.2.2.2.2.2.2.2.2.2.2.2.2.2.2.2.2.1 u.2.2.2.2.2.2.2.2.2.2.2.2.2.2.2.2.2.2.2.2.2.2.2.2.2.2.2.2.2.2.2.2.2.2.1 u.2.2.2.2.2.2.2.2.2.2.2.2.2.2.2.2.2.2.2.2.2.2.2.2.2.2.2.2.2.2.2.2.2.2.2.1 u.2.2.2.2.2.2.2.2.2.2.2.2.2.2.2.2.2.2.2.2.2.2.2.2.2.2.2.2.2.2.2.2.2.2.2.2.1 u.2.2.2.2.2.2.2.2.2.2.2.2.2.2.2.2.2.2.2.2.2.2.2.2.2.2.2.2.2.2.2.2.2.2.2.2.2.1 u.2.2.2.2.2.2.2.2.2.2.2.2.2.2.2.2.2.2.2.2.2.2.2.2.2.2.2.2.2.2.2.2.2.2.2.2.2.2.1 u.2.2.2.2.2.2.2.2.2.2.2.2.2.2.2.2.2.2.2.2.2.2.2.2.2.2.2.2.2.2.2.2.2.2.2.2.2.2.2.1 u.2.2.2.2.2.2.2.2.2.2.2.2.2.2.2.2.2.2.2.2.2.2.2.2.2.2.2.2.2.2.2.2.2.2.2.2.2.2.2.2.1 u.2.2.2.2.2.2.2.2.2.2.2.2.2.2.2.2.2.2.2.2.2.2.2.2.2.2.2.2.2.2.2.2.2.2.2.2.2.2.2.2.2.1 u.2.2.2.2.2.2.2.2.2.2.2.2.2.2.2.2.2.2.2.2.2.2.2.2.2.2.2.2.2.2.2.2.2.2.2.2.2.2.2.2.2.2.1 u.2.2.2.2.2.2.2.2.2.2.2.2.2.2.2.2.2.2.2.2.2.2.2.2.2.2.2.2.2.2.2.2.2.2.2.2.2.2.2.2.2.2.2.1 u.2.2.2.2.2.2.2.2.2.2.2.2.2.2.2.2.2.2.2.2.2.2.2.2.2.2.2.2.2.2.2.2.2.2.2.2.2.2.2.2.2.2.2.2.1 u.2.2.2.2.2.2.2.2.2.2.2.2.2.2.2.2.2.2.2.2.2.2.2.2.2.2.2.2.2.2.2.2.2.2.2.2.2.2.2.2.2.2.2.2.2.1 u.2.2.2.2.2.2.2.2.2.2.2.2.2.2.2.2.2.2.2.2.2.2.2.2.2.2.2.2.2.2.2.2.2.2.2.2.2.2.2.2.2.2.2.2.2.2 v.1 v.2.1 v.2.2.1 v.2.2.2.1 v.2.2.2.2.1 v.2.2.2.2.2.1 v.2.2.2.2.2.2.1 v.2.2.2.2.2.2.2.1 v.2.2.2.2.2.2.2.2.1 v.2.2.2.2.2.2.2.2.2.1 v.2.2.2.2.2.2.2.2.2.2.1 v.2.2.2.2.2.2.2.2.2.2.2.1 v.2.2.2.2.2.2.2.2.2.2.2.2.1 v.2.2.2.2.2.2.2.2.2.2.2.2.2.1 v.2.2.2.2.2.2.2.2.2.2.2.2.2.2.1 v.2.2.2.2.2.2.2.2.2.2.2.2.2.2.2.1 v.2.2.2.2.2.2.2.2.2.2.2.2.2.2.2.2.1 v.2.2.2.2.2.2.2.2.2.2.2.2.2.2.2.2.2.1 v.2.2.2.2.2.2.2.2.2.2.2.2.2.2.2.2.2.2.1 v.2.2.2.2.2.2.2.2.2.2.2.2.2.2.2.2.2.2.2.1 v.2.2.2.2.2.2.2.2.2.2.2.2.2.2.2.2.2.2.2.2.1 v.2.2.2.2.2.2.2.2.2.2.2.2.2.2.2.2.2.2.2.2.2.1 v.2.2.2.2.2.2.2.2.2.2.2.2.2.2.2.2.2.2.2.2.2.2 h1 h2 h3 h4 h5 h6
section
variable {f_blocks f_given f_known f_met f_openEdges f_openBlocks f_first f_last f_openCount f_firstEdge f_lastEdge f_result f_begun f_latest f_inputs : Int32} {a_op a_d a_b a_many a_kind a_asks a_target a_a a_order a_place a_parent a_depths a_living a_needs a_merging a_stack a_next a_before a_frontiers a_in a_out a_nameA a_nameB a_queue a_state a_worth a_usedByExit a_edges a_now : Nat → Int32} {a_usedBySet a_usedByLow a_usedByHigh : Nat → Int64}
variable {G : gr_T}
theorem xq_isMet {post : Int32 → SX → Prop} {b : Int32} (X : xp_ok G f_blocks f_given a_op a_d a_b a_many a_kind a_asks a_target a_a) (hk : f_known = 0 ∨ (f_known ≠ 0 ∧ xk_ok G f_met f_openBlocks f_openCount a_order a_place a_parent a_depths a_living a_needs a_merging a_frontiers a_in a_out a_state a_worth))
    (K0 : ∀ (f_known f_met f_openEdges f_openBlocks f_first f_last f_openCount f_firstEdge f_lastEdge : Int32) (a_order a_place a_parent a_depths a_living a_needs a_merging a_stack a_next a_before a_frontiers a_in a_out a_nameA a_nameB a_queue a_state a_worth a_usedByExit : Nat → Int32) (a_usedBySet a_usedByLow a_usedByHigh : Nat → Int64) (a_edges : Nat → Int32), f_known ≠ 0 → xk_ok G f_met f_openBlocks f_openCount a_order a_place a_parent a_depths a_living a_needs a_merging a_frontiers a_in a_out a_state a_worth → (∀ j, j < gr_n G → b = nI j → ¬ gr_M G j) → post 0 (f_blocks, f_given, f_known, f_met, f_openEdges, f_openBlocks, f_first, f_last, f_openCount, f_firstEdge, f_lastEdge, f_result, f_begun, f_latest, f_inputs, a_op, a_d, a_b, a_many, a_kind, a_asks, a_target, a_a, a_order, a_place, a_parent, a_depths, a_living, a_needs, a_merging, a_stack, a_next, a_before, a_frontiers, a_in, a_out, a_nameA, a_nameB, a_queue, a_state, a_worth, a_usedByExit, a_usedBySet, a_usedByLow, a_usedByHigh, a_edges, a_now))
    (K1 : ∀ (f_known f_met f_openEdges f_openBlocks f_first f_last f_openCount f_firstEdge f_lastEdge : Int32) (a_order a_place a_parent a_depths a_living a_needs a_merging a_stack a_next a_before a_frontiers a_in a_out a_nameA a_nameB a_queue a_state a_worth a_usedByExit : Nat → Int32) (a_usedBySet a_usedByLow a_usedByHigh : Nat → Int64) (a_edges : Nat → Int32) (j : Nat), f_known ≠ 0 → xk_ok G f_met f_openBlocks f_openCount a_order a_place a_parent a_depths a_living a_needs a_merging a_frontiers a_in a_out a_state a_worth → j < gr_n G → b = nI j → gr_M G j → post 1 (f_blocks, f_given, f_known, f_met, f_openEdges, f_openBlocks, f_first, f_last, f_openCount, f_firstEdge, f_lastEdge, f_result, f_begun, f_latest, f_inputs, a_op, a_d, a_b, a_many, a_kind, a_asks, a_target, a_a, a_order, a_place, a_parent, a_depths, a_living, a_needs, a_merging, a_stack, a_next, a_before, a_frontiers, a_in, a_out, a_nameA, a_nameB, a_queue, a_state, a_worth, a_usedByExit, a_usedBySet, a_usedByLow, a_usedByHigh, a_edges, a_now)) : wpX_isMet post (f_blocks, f_given, f_known, f_met, f_openEdges, f_openBlocks, f_first, f_last, f_openCount, f_firstEdge, f_lastEdge, f_result, f_begun, f_latest, f_inputs, a_op, a_d, a_b, a_many, a_kind, a_asks, a_target, a_a, a_order, a_place, a_parent, a_depths, a_living, a_needs, a_merging, a_stack, a_next, a_before, a_frontiers, a_in, a_out, a_nameA, a_nameB, a_queue, a_state, a_worth, a_usedByExit, a_usedBySet, a_usedByLow, a_usedByHigh, a_edges, a_now) b := by
  have ok := X.1
  have hn16 := ok.1
  unfold wpX_isMet
  refine xw_work X hk (fun f_known f_met f_openEdges f_openBlocks f_first f_last f_openCount f_firstEdge f_lastEdge a_order a_place a_parent a_depths a_living a_needs a_merging a_stack a_next a_before a_frontiers a_in a_out a_nameA a_nameB a_queue a_state a_worth a_usedByExit a_usedBySet a_usedByLow a_usedByHigh a_edges hkn hxk => ?_)
  dsimp only
  refine yo_among X.2.1 (by omega) (fun h => br_t rfl (K0 f_known f_met f_openEdges f_openBlocks f_first f_last f_openCount f_firstEdge f_lastEdge a_order a_place a_parent a_depths a_living a_needs a_merging a_stack a_next a_before a_frontiers a_in a_out a_nameA a_nameB a_queue a_state a_worth a_usedByExit a_usedBySet a_usedByLow a_usedByHigh a_edges hkn hxk (fun j hj e => absurd e (h j hj)))) (fun j hj e => br_f (by decide) ?_)
  subst e
  obtain ⟨m, ord, pl, P, ni, c, ob, h1, h2, h3, h4, h5⟩ := id hxk
  refine ⟨vp_in_nI (by omega) (by omega), ?_⟩
  rw [fn_c (a := j) (by omega)]
  by_cases hM : gr_M G j
  · have hpl := (or_M h5.2.1.1 ok hM).1
    have hmn := h5.2.1.1.1
    rw [h3 j hM]
    exact br_f (nI_pos (by omega)) (K1 f_known f_met f_openEdges f_openBlocks f_first f_last f_openCount f_firstEdge f_lastEdge a_order a_place a_parent a_depths a_living a_needs a_merging a_stack a_next a_before a_frontiers a_in a_out a_nameA a_nameB a_queue a_state a_worth a_usedByExit a_usedBySet a_usedByLow a_usedByHigh a_edges j hkn hxk hj rfl hM)
  · rw [h4 j (by omega) hM]
    refine br_t (by decide) (K0 f_known f_met f_openEdges f_openBlocks f_first f_last f_openCount f_firstEdge f_lastEdge a_order a_place a_parent a_depths a_living a_needs a_merging a_stack a_next a_before a_frontiers a_in a_out a_nameA a_nameB a_queue a_state a_worth a_usedByExit a_usedBySet a_usedByLow a_usedByHigh a_edges hkn hxk (fun i hi e => ?_))
    rw [← fn_inj (by omega) (by omega) e]
    exact hM
end
theorem fb_eq {s t : Int32} (h : ∀ y, y < 32 → (bt s y = true ↔ bt t y = true)) : s = t := by
  apply b_ext
  intro j hj
  have := h j hj
  cases h1 : bt s j <;> cases h2 : bt t j <;> simp [h1, h2] at this ⊢
section
variable {G : gr_T} {m : Nat} {ord pl : Nat → Nat} {P : Nat → Option Nat}
/-- the parent is the nearest -/
theorem pq_1 (ok : gr_ok G) (T : dt_ok G m ord pl P) {j x : Nat} (hj : gr_M G j) (hx : x < gr_n G) (h : ip_ G (nI j) x) : P j = some x := by
  have hn16 := ok.1
  have hjn := gr_Mlt ok hj
  obtain ⟨h1, h2, h3⟩ := h
  have hD := (yi_n ok hx hjn).mp h2
  have hne : j ≠ x := fun e => h1 (by rw [e])
  obtain ⟨q, hq, hA⟩ := (dt_s T hj).mp ⟨hne, hD⟩
  have hqM := (T.2.1.2 j q hq).2.1
  have hqn := gr_Mlt ok hqM
  have hqD : j ≠ q ∧ gr_D G q j := (dt_s T hj).mpr ⟨q, hq, tr_refl⟩
  have h4 := (yi_n ok hqn hx).mp (h3 q hqn (fun e => hqD.1 (fn_inj (by omega) (by omega) e).symm) ((yi_n ok hqn hjn).mpr hqD.2))
  have h5 := (T.2.2.1 q x hD.1).mpr h4
  by_cases e : x = q
  · rw [hq, e]
  · have h6 := tr_plt T.2.1 hA e
    have h7 := tr_pl T.2.1 h5
    omega
theorem pq_2 (ok : gr_ok G) (T : dt_ok G m ord pl P) {j q : Nat} (hj : gr_M G j) (hq : P j = some q) : q < gr_n G ∧ ip_ G (nI j) q := by
  have hn16 := ok.1
  have hjn := gr_Mlt ok hj
  have hqM := (T.2.1.2 j q hq).2.1
  have hqn := gr_Mlt ok hqM
  have hqD : j ≠ q ∧ gr_D G q j := (dt_s T hj).mpr ⟨q, hq, tr_refl⟩
  refine ⟨hqn, fun e => hqD.1 (fn_inj (by omega) (by omega) e).symm, (yi_n ok hqn hjn).mpr hqD.2, fun y hy h1 h2 => ?_⟩
  have hD := (yi_n ok hy hjn).mp h2
  obtain ⟨q', hq', hA⟩ := (dt_s T hj).mp ⟨fun e => h1 (by rw [e]), hD⟩
  rw [hq] at hq'
  cases hq'
  exact (yi_n ok hy hqn).mpr ((T.2.2.1 y q hqM).mp hA)
/-- sums by places are sums by blocks -/
theorem sg_ord (ok : gr_ok G) (O : or_ok G m ord pl) (f : Nat → Nat) {k : Nat} (hk : k < m) : sg_s (fun x => b01 (gr_M G x ∧ pl x < k + 1) * f x) (gr_n G) = sg_s (fun x => b01 (gr_M G x ∧ pl x < k) * f x) (gr_n G) + f (ord k) := by
  have h1 := O.2.2.1 k hk
  have hM := or_m O k hk
  have := sg_up (f := fun x => b01 (gr_M G x ∧ pl x < k + 1) * f x) (g := fun x => b01 (gr_M G x ∧ pl x < k) * f x) h1.1 (fun i _ hne => by
    show b01 (gr_M G i ∧ pl i < k + 1) * f i = b01 (gr_M G i ∧ pl i < k) * f i
    rw [b01_i (p := gr_M G i ∧ pl i < k + 1) (q := gr_M G i ∧ pl i < k) ⟨fun z => ⟨z.1, by
      rcases Nat.lt_or_ge (pl i) k with w | w
      · exact w
      · have e : pl i = k := by omega
        have := (or_M O ok z.1).2
        rw [e] at this
        exact absurd this.symm hne⟩, fun z => ⟨z.1, by omega⟩⟩])
  have e1 : b01 (gr_M G (ord k) ∧ pl (ord k) < k) = 0 := b01_f (fun z => by omega)
  have e2 : b01 (gr_M G (ord k) ∧ pl (ord k) < k + 1) = 1 := b01_t ⟨hM, by omega⟩
  simp only [e1, e2] at this
  omega
theorem sg_pair (f : Nat → Nat) : ∀ n, sg_s f (2 * n) = sg_s (fun x => f (2 * x) + f (2 * x + 1)) n := by
  intro n
  induction n with
  | zero => rfl
  | succ n ih =>
    show sg_s f (2 * n + 1 + 1) = _
    show sg_s f (2 * n) + f (2 * n) + f (2 * n + 1) = sg_s (fun x => f (2 * x) + f (2 * x + 1)) n + (f (2 * n) + f (2 * n + 1))
    omega
theorem sg_cut {f : Nat → Nat} {n : Nat} : ∀ k, (∀ i, n ≤ i → f i = 0) → n ≤ k → sg_s f k = sg_s f n := by
  intro k
  induction k with
  | zero => intro _ h; rw [show n = 0 by omega]
  | succ k ih =>
    intro h0 h
    by_cases e : n = k + 1
    · rw [e]
    · show sg_s f k + f k = _
      rw [ih h0 (by omega), h0 k (by omega)]
      rfl
end
section
variable {f_blocks f_given f_known f_met f_openEdges f_openBlocks f_first f_last f_openCount f_firstEdge f_lastEdge f_result f_begun f_latest f_inputs : Int32} {a_op a_d a_b a_many a_kind a_asks a_target a_a a_order a_place a_parent a_depths a_living a_needs a_merging a_stack a_next a_before a_frontiers a_in a_out a_nameA a_nameB a_queue a_state a_worth a_usedByExit a_edges a_now : Nat → Int32} {a_usedBySet a_usedByLow a_usedByHigh : Nat → Int64}
variable {G : gr_T} {m : Nat} {ord pl : Nat → Nat}
theorem xc_43 {post : Int32 → SX → Prop} {ob : Nat → Prop} (ok : gr_ok G) (hB : f_blocks = nI (gr_n G)) (hob : ∀ y, y < 16 → (bt f_openBlocks y = true ↔ ob y)) (K : post (nI (sg_s (fun x => b01 (ob x)) (gr_n G))) (f_blocks, f_given, f_known, f_met, f_openEdges, f_openBlocks, f_first, f_last, f_openCount, f_firstEdge, f_lastEdge, f_result, f_begun, f_latest, f_inputs, a_op, a_d, a_b, a_many, a_kind, a_asks, a_target, a_a, a_order, a_place, a_parent, a_depths, a_living, a_needs, a_merging, a_stack, a_next, a_before, a_frontiers, a_in, a_out, a_nameA, a_nameB, a_queue, a_state, a_worth, a_usedByExit, a_usedBySet, a_usedByLow, a_usedByHigh, a_edges, a_now)) :
    ∀ n x, gr_n G < n + x → x ≤ gr_n G → wX_count_43 post f_blocks f_given f_known f_met f_openEdges f_openBlocks f_first f_last f_openCount f_firstEdge f_lastEdge f_result f_begun f_latest f_inputs a_op a_d a_b a_many a_kind a_asks a_target a_a a_order a_place a_parent a_depths a_living a_needs a_merging a_stack a_next a_before a_frontiers a_in a_out a_nameA a_nameB a_queue a_state a_worth a_usedByExit a_usedBySet a_usedByLow a_usedByHigh a_edges a_now n (nI (sg_s (fun x => b01 (ob x)) x)) (nI x) := by
  have hn16 := ok.1
  intro n
  induction n with
  | zero => intro x h1 h2; omega
  | succ n ih =>
    intro x h1 h2
    rw [wX_count_43]
    refine pk_le (gr_n G) x (fun h => ?_) (fun h => ?_) hB
    · have e : x = gr_n G := by omega
      rw [e]
      exact K
    · refine nm_r (e' := nI (sg_s (fun x => b01 (ob x)) (x + 1))) ?_ (nm_r (nI_1 x) (ih (x + 1) (by omega) (by omega)))
      show _ = nI (sg_s (fun x => b01 (ob x)) x + b01 (ob x))
      rw [fb_v (by omega)]
      by_cases z : ob x
      · rw [if_pos ((hob x (by omega)).mpr z), b01_t z]; exact nI_1 _
      · rw [if_neg (fun w => z ((hob x (by omega)).mp w)), b01_f z]; exact Int32.add_zero _
theorem xc_72 {post : Int32 → SX → Prop} (X : xp_ok G f_blocks f_given a_op a_d a_b a_many a_kind a_asks a_target a_a) (O : or_ok G m ord pl) (hm : f_met = nI m) (hor : ∀ k, k < m → a_order k = nI (ord k)) (K : post (nI (sg_s (fun x => b01 (gr_M G x ∧ pl x < m) * gr_kd G x) (gr_n G))) (f_blocks, f_given, f_known, f_met, f_openEdges, f_openBlocks, f_first, f_last, f_openCount, f_firstEdge, f_lastEdge, f_result, f_begun, f_latest, f_inputs, a_op, a_d, a_b, a_many, a_kind, a_asks, a_target, a_a, a_order, a_place, a_parent, a_depths, a_living, a_needs, a_merging, a_stack, a_next, a_before, a_frontiers, a_in, a_out, a_nameA, a_nameB, a_queue, a_state, a_worth, a_usedByExit, a_usedBySet, a_usedByLow, a_usedByHigh, a_edges, a_now)) :
    ∀ n k, m < n + k → k ≤ m → wX_count_72 post f_blocks f_given f_known f_met f_openEdges f_openBlocks f_first f_last f_openCount f_firstEdge f_lastEdge f_result f_begun f_latest f_inputs a_op a_d a_b a_many a_kind a_asks a_target a_a a_order a_place a_parent a_depths a_living a_needs a_merging a_stack a_next a_before a_frontiers a_in a_out a_nameA a_nameB a_queue a_state a_worth a_usedByExit a_usedBySet a_usedByLow a_usedByHigh a_edges a_now n (nI (sg_s (fun x => b01 (gr_M G x ∧ pl x < k) * gr_kd G x) (gr_n G))) (nI k) := by
  have ok := X.1
  have hn16 := ok.1
  have hmn := O.1
  intro n
  induction n with
  | zero => intro k h1 h2; omega
  | succ n ih =>
    intro k h1 h2
    rw [wX_count_72]
    refine pk_le m k (fun h => ?_) (fun h => ?_) hm
    · have e : k = m := by omega
      rw [e]
      exact K
    · have hxn := (O.2.2.1 k h).1
      rw [fn_c (a := k) (by omega), hor k h, fn_c (a := ord k) (by omega), X.2.2.2.2.1 _ hxn, nI_add]
      refine ⟨vp_in_nI (by omega) (by omega), vp_in_nI (by omega) (by omega), nm_e (nm_r (nI_1 k) ?_)⟩
      rw [← sg_ord ok O (gr_kd G) h]
      exact ih (k + 1) (by omega) (by omega)
end
end
section
theorem i_vc_parent {k : Nat} {u : SX} {v : SY} (I : i_Rel k u v) (hk : k + 6 ≤ 3072) (v1 : Int32) : wpX_parent (fun r u' => wpY_parent (fun r' v' => r' = r ∧ i_Rel (k + 6) u' v') v v1) u v1 := by
  refine rl_el (Q := fun u v => wpX_parent (fun r u' => wpY_parent (fun r' v' => r' = r ∧ i_Rel (k + 6) u' v') v v1) u v1) ?_ I
  intro G f_blocks f_given f_known f_met f_openEdges f_openBlocks f_first f_last f_openCount f_firstEdge f_lastEdge f_result f_begun f_latest f_inputs a_op a_d a_b a_many a_kind a_asks a_target a_a a_order a_place a_parent a_depths a_living a_needs a_merging a_stack a_next a_before a_frontiers a_in a_out a_nameA a_nameB a_queue a_state a_worth a_usedByExit a_usedBySet a_usedByLow a_usedByHigh a_edges a_now f_n' f_k' f_met' f_result' f_begun' f_last' a_many' a_op' a_d' a_a' a_b' a_kind' a_used' a_first' a_second' a_living' a_needed' a_rules' a_edges' a_begin' a_now' a_open' a_variable' X hkn Y e1 e2 e3
  have ok := X.1
  have hn16 := ok.1
  unfold wpX_parent
  refine xq_isMet X hkn (fun f_known f_met f_openEdges f_openBlocks f_first f_last f_openCount f_firstEdge f_lastEdge a_order a_place a_parent a_depths a_living a_needs a_merging a_stack a_next a_before a_frontiers a_in a_out a_nameA a_nameB a_queue a_state a_worth a_usedByExit a_usedBySet a_usedByLow a_usedByHigh a_edges hf hxk hno => ?_) (fun f_known f_met f_openEdges f_openBlocks f_first f_last f_openCount f_firstEdge f_lastEdge a_order a_place a_parent a_depths a_living a_needs a_merging a_stack a_next a_before a_frontiers a_in a_out a_nameA a_nameB a_queue a_state a_worth a_usedByExit a_usedBySet a_usedByLow a_usedByHigh a_edges j hf hxk hj ej hM => ?_)
  · dsimp only
    refine br_t rfl (yq_parent Y (fun f_met' a_rules' x hx hip => ?_) (fun f_met' a_rules' _ => ⟨rfl, rl_in X (Or.inr ⟨hf, hxk⟩) Y e1 e2 e3⟩))
    obtain ⟨i, j, _, hj, _, ej, hD⟩ := hip.2.1
    exact absurd hD.2.1 (hno j hj ej)
  · subst ej
    obtain ⟨m, ord, pl, P, ni, c, ob, q1, q2, q3, q4, q5, T, q7, q8, q9, q10, q11, N, hlt, q14, q15, q16, q17, R, q19, q20⟩ := id hxk
    dsimp only
    rw [fn_c (a := j) (by omega), q7 j (by omega)]
    refine br_f (by decide) ⟨vp_in_nI (by omega) (by omega), yq_parent Y (fun f_met' a_rules' x hx hip => ⟨?_, rl_in X (Or.inr ⟨hf, hxk⟩) Y e1 e2 e3⟩) (fun f_met' a_rules' hno => ⟨?_, rl_in X (Or.inr ⟨hf, hxk⟩) Y e1 e2 e3⟩)⟩
    · rw [pq_1 ok T hM hx hip]; rfl
    · cases hP : P j with
      | none => rfl
      | some q => exact absurd (pq_2 ok T hM hP).2 (hno q (pq_2 ok T hM hP).1)
theorem i_vc_dominates {k : Nat} {u : SX} {v : SY} (I : i_Rel k u v) (hk : k + 6 ≤ 3072) (v1 : Int32) (v2 : Int32) : wpX_dominates (fun r u' => wpY_dominates (fun r' v' => r' = r ∧ i_Rel (k + 6) u' v') v v1 v2) u v1 v2 := by
  refine rl_el (Q := fun u v => wpX_dominates (fun r u' => wpY_dominates (fun r' v' => r' = r ∧ i_Rel (k + 6) u' v') v v1 v2) u v1 v2) ?_ I
  intro G f_blocks f_given f_known f_met f_openEdges f_openBlocks f_first f_last f_openCount f_firstEdge f_lastEdge f_result f_begun f_latest f_inputs a_op a_d a_b a_many a_kind a_asks a_target a_a a_order a_place a_parent a_depths a_living a_needs a_merging a_stack a_next a_before a_frontiers a_in a_out a_nameA a_nameB a_queue a_state a_worth a_usedByExit a_usedBySet a_usedByLow a_usedByHigh a_edges a_now f_n' f_k' f_met' f_result' f_begun' f_last' a_many' a_op' a_d' a_a' a_b' a_kind' a_used' a_first' a_second' a_living' a_needed' a_rules' a_edges' a_begin' a_now' a_open' a_variable' X hkn Y e1 e2 e3
  have ok := X.1
  have hn16 := ok.1
  unfold wpX_dominates
  refine xq_isMet X hkn (fun f_known f_met f_openEdges f_openBlocks f_first f_last f_openCount f_firstEdge f_lastEdge a_order a_place a_parent a_depths a_living a_needs a_merging a_stack a_next a_before a_frontiers a_in a_out a_nameA a_nameB a_queue a_state a_worth a_usedByExit a_usedBySet a_usedByLow a_usedByHigh a_edges hf hxk hno => ?_) (fun f_known f_met f_openEdges f_openBlocks f_first f_last f_openCount f_firstEdge f_lastEdge a_order a_place a_parent a_depths a_living a_needs a_merging a_stack a_next a_before a_frontiers a_in a_out a_nameA a_nameB a_queue a_state a_worth a_usedByExit a_usedBySet a_usedByLow a_usedByHigh a_edges i hf hxk hi ei hMi => ?_)
  · dsimp only
    refine br_t rfl (yd_dominates Y (fun f_met' a_rules' _ => ⟨rfl, rl_in X (Or.inr ⟨hf, hxk⟩) Y e1 e2 e3⟩) (fun f_met' a_rules' hD => ?_))
    obtain ⟨i, j, hi, hj, ei, ej, hD⟩ := hD
    exact absurd hD.1 (hno i hi ei)
  · dsimp only
    refine br_f (by decide) (xq_isMet X (Or.inr ⟨hf, hxk⟩) (fun f_known f_met f_openEdges f_openBlocks f_first f_last f_openCount f_firstEdge f_lastEdge a_order a_place a_parent a_depths a_living a_needs a_merging a_stack a_next a_before a_frontiers a_in a_out a_nameA a_nameB a_queue a_state a_worth a_usedByExit a_usedBySet a_usedByLow a_usedByHigh a_edges hf hxk hno => ?_) (fun f_known f_met f_openEdges f_openBlocks f_first f_last f_openCount f_firstEdge f_lastEdge a_order a_place a_parent a_depths a_living a_needs a_merging a_stack a_next a_before a_frontiers a_in a_out a_nameA a_nameB a_queue a_state a_worth a_usedByExit a_usedBySet a_usedByLow a_usedByHigh a_edges j hf hxk hj ej hMj => ?_))
    · dsimp only
      refine br_t rfl (yd_dominates Y (fun f_met' a_rules' _ => ⟨rfl, rl_in X (Or.inr ⟨hf, hxk⟩) Y e1 e2 e3⟩) (fun f_met' a_rules' hD => ?_))
      obtain ⟨i, j, hi, hj, ei, ej, hD⟩ := hD
      exact absurd hD.2.1 (hno j hj ej)
    · subst ei
      subst ej
      obtain ⟨m, ord, pl, P, ni, c, ob, q1, q2, q3, q4, q5, T, q7, q8, q9, q10, q11, N, hlt, q14, q15, q16, q17, R, q19, q20⟩ := id hxk
      dsimp only
      refine br_f (by decide) (xf_above ok T q3 q7 hMi hMj (fun hD => ?_) (fun hD => ?_))
      · refine br_f (by decide) (yd_dominates Y (fun f_met' a_rules' hn => absurd ((yi_n ok hi hj).mpr hD) hn) (fun f_met' a_rules' _ => ⟨rfl, rl_in X (Or.inr ⟨hf, hxk⟩) Y e1 e2 e3⟩))
      · refine br_t rfl (yd_dominates Y (fun f_met' a_rules' _ => ⟨rfl, rl_in X (Or.inr ⟨hf, hxk⟩) Y e1 e2 e3⟩) (fun f_met' a_rules' hn => absurd ((yi_n ok hi hj).mp hn) hD))
theorem i_vc_frontier {k : Nat} {u : SX} {v : SY} (I : i_Rel k u v) (hk : k + 6 ≤ 3072) (v1 : Int32) : wpX_frontier (fun r u' => wpY_frontier (fun r' v' => r' = r ∧ i_Rel (k + 6) u' v') v v1) u v1 := by
  refine rl_el (Q := fun u v => wpX_frontier (fun r u' => wpY_frontier (fun r' v' => r' = r ∧ i_Rel (k + 6) u' v') v v1) u v1) ?_ I
  intro G f_blocks f_given f_known f_met f_openEdges f_openBlocks f_first f_last f_openCount f_firstEdge f_lastEdge f_result f_begun f_latest f_inputs a_op a_d a_b a_many a_kind a_asks a_target a_a a_order a_place a_parent a_depths a_living a_needs a_merging a_stack a_next a_before a_frontiers a_in a_out a_nameA a_nameB a_queue a_state a_worth a_usedByExit a_usedBySet a_usedByLow a_usedByHigh a_edges a_now f_n' f_k' f_met' f_result' f_begun' f_last' a_many' a_op' a_d' a_a' a_b' a_kind' a_used' a_first' a_second' a_living' a_needed' a_rules' a_edges' a_begin' a_now' a_open' a_variable' X hkn Y e1 e2 e3
  have ok := X.1
  have hn16 := ok.1
  unfold wpX_frontier
  refine xq_isMet X hkn (fun f_known f_met f_openEdges f_openBlocks f_first f_last f_openCount f_firstEdge f_lastEdge a_order a_place a_parent a_depths a_living a_needs a_merging a_stack a_next a_before a_frontiers a_in a_out a_nameA a_nameB a_queue a_state a_worth a_usedByExit a_usedBySet a_usedByLow a_usedByHigh a_edges hf hxk hno => ?_) (fun f_known f_met f_openEdges f_openBlocks f_first f_last f_openCount f_firstEdge f_lastEdge a_order a_place a_parent a_depths a_living a_needs a_merging a_stack a_next a_before a_frontiers a_in a_out a_nameA a_nameB a_queue a_state a_worth a_usedByExit a_usedBySet a_usedByLow a_usedByHigh a_edges j hf hxk hj ej hM => ?_)
  · dsimp only
    refine br_t rfl (ye_frontier Y (fun f_met' a_rules' s hs => ⟨?_, rl_in X (Or.inr ⟨hf, hxk⟩) Y e1 e2 e3⟩))
    refine fb_z (fun y _ => ?_)
    cases z : bt s y with
    | false => rfl
    | true =>
      obtain ⟨j, hj, ej, hF⟩ := (hs y).mp z
      exact absurd (dt_FM hF).1 (hno j hj ej)
  · subst ej
    obtain ⟨m, ord, pl, P, ni, c, ob, q1, q2, q3, q4, q5, T, q7, q8, q9, q10, q11, N, hlt, q14, q15, q16, q17, R, q19, q20⟩ := id hxk
    dsimp only
    rw [fn_c (a := j) (by omega)]
    refine br_f (by decide) ⟨vp_in_nI (by omega) (by omega), ye_frontier Y (fun f_met' a_rules' s hs => ⟨?_, rl_in X (Or.inr ⟨hf, hxk⟩) Y e1 e2 e3⟩)⟩
    refine fb_eq (fun y hy => ?_)
    rw [hs y, fb_m16, Bool.and_eq_true, decide_eq_true_iff]
    constructor
    · rintro ⟨i, hi, ei, hF⟩
      have hy16 := gr_Mlt ok (dt_FM hF).2
      rw [← fn_inj (by omega) (by omega) ei] at hF
      exact ⟨(q8 j y (by omega) (by omega)).mpr hF, by omega⟩
    · rintro ⟨h1, h2⟩
      exact ⟨j, hj, rfl, (q8 j y (by omega) h2).mp h1⟩
theorem i_vc_merges {k : Nat} {u : SX} {v : SY} (I : i_Rel k u v) (hk : k + 6 ≤ 3072) (v1 : Int32) : wpX_merges (fun r u' => wpY_merges (fun r' v' => r' = r ∧ i_Rel (k + 6) u' v') v v1) u v1 := by
  refine rl_el (Q := fun u v => wpX_merges (fun r u' => wpY_merges (fun r' v' => r' = r ∧ i_Rel (k + 6) u' v') v v1) u v1) ?_ I
  intro G f_blocks f_given f_known f_met f_openEdges f_openBlocks f_first f_last f_openCount f_firstEdge f_lastEdge f_result f_begun f_latest f_inputs a_op a_d a_b a_many a_kind a_asks a_target a_a a_order a_place a_parent a_depths a_living a_needs a_merging a_stack a_next a_before a_frontiers a_in a_out a_nameA a_nameB a_queue a_state a_worth a_usedByExit a_usedBySet a_usedByLow a_usedByHigh a_edges a_now f_n' f_k' f_met' f_result' f_begun' f_last' a_many' a_op' a_d' a_a' a_b' a_kind' a_used' a_first' a_second' a_living' a_needed' a_rules' a_edges' a_begin' a_now' a_open' a_variable' X hkn Y e1 e2 e3
  have ok := X.1
  have hn16 := ok.1
  unfold wpX_merges
  refine xq_isMet X hkn (fun f_known f_met f_openEdges f_openBlocks f_first f_last f_openCount f_firstEdge f_lastEdge a_order a_place a_parent a_depths a_living a_needs a_merging a_stack a_next a_before a_frontiers a_in a_out a_nameA a_nameB a_queue a_state a_worth a_usedByExit a_usedBySet a_usedByLow a_usedByHigh a_edges hf hxk hno => ?_) (fun f_known f_met f_openEdges f_openBlocks f_first f_last f_openCount f_firstEdge f_lastEdge a_order a_place a_parent a_depths a_living a_needs a_merging a_stack a_next a_before a_frontiers a_in a_out a_nameA a_nameB a_queue a_state a_worth a_usedByExit a_usedBySet a_usedByLow a_usedByHigh a_edges j hf hxk hj ej hM => ?_)
  · dsimp only
    refine br_t rfl (yg_merges Y (fun _ => ⟨rfl, rl_in X (Or.inr ⟨hf, hxk⟩) Y e1 e2 e3⟩) (fun f_met' a_rules' a_edges' s j hj ej hs => ⟨?_, rl_in X (Or.inr ⟨hf, hxk⟩) Y e1 e2 e3⟩))
    refine fb_z (fun y _ => ?_)
    cases z : bt s y with
    | false => rfl
    | true => exact absurd (dt_JM ((hs y).mp z).2) (hno j hj ej)
  · subst ej
    obtain ⟨m, ord, pl, P, ni, c, ob, q1, q2, q3, q4, q5, T, q7, q8, q9, q10, q11, N, hlt, q14, q15, q16, q17, R, q19, q20⟩ := id hxk
    dsimp only
    rw [fn_c (a := j) (by omega)]
    refine br_f (by decide) ⟨vp_in_nI (by omega) (by omega), yg_merges Y (fun h => absurd rfl (h j hj)) (fun f_met' a_rules' a_edges' s i hi ei hs => ⟨?_, rl_in X (Or.inr ⟨hf, hxk⟩) Y e1 e2 e3⟩)⟩
    have eij := fn_inj (by omega) (by omega) ei
    subst eij
    exact fb_eq (fun y hy => (hs y).trans (q11 j y (by omega)).symm)
theorem i_vc_depth {k : Nat} {u : SX} {v : SY} (I : i_Rel k u v) (hk : k + 6 ≤ 3072) (v1 : Int32) : wpX_depth (fun r u' => wpY_depth (fun r' v' => r' = r ∧ i_Rel (k + 6) u' v') v v1) u v1 := by
  refine rl_el (Q := fun u v => wpX_depth (fun r u' => wpY_depth (fun r' v' => r' = r ∧ i_Rel (k + 6) u' v') v v1) u v1) ?_ I
  intro G f_blocks f_given f_known f_met f_openEdges f_openBlocks f_first f_last f_openCount f_firstEdge f_lastEdge f_result f_begun f_latest f_inputs a_op a_d a_b a_many a_kind a_asks a_target a_a a_order a_place a_parent a_depths a_living a_needs a_merging a_stack a_next a_before a_frontiers a_in a_out a_nameA a_nameB a_queue a_state a_worth a_usedByExit a_usedBySet a_usedByLow a_usedByHigh a_edges a_now f_n' f_k' f_met' f_result' f_begun' f_last' a_many' a_op' a_d' a_a' a_b' a_kind' a_used' a_first' a_second' a_living' a_needed' a_rules' a_edges' a_begin' a_now' a_open' a_variable' X hkn Y e1 e2 e3
  have ok := X.1
  have hn16 := ok.1
  unfold wpX_depth
  dsimp only
  refine yo_among X.2.1 (by omega) (fun h => br_t rfl (yh_depth Y (fun _ => ⟨rfl, rl_in X hkn Y e1 e2 e3⟩) (fun f_met' a_rules' j hj ej => absurd ej (h j hj)))) (fun i hi ei => br_f (by decide) ?_)
  subst ei
  refine xq_isMet X hkn (fun f_known f_met f_openEdges f_openBlocks f_first f_last f_openCount f_firstEdge f_lastEdge a_order a_place a_parent a_depths a_living a_needs a_merging a_stack a_next a_before a_frontiers a_in a_out a_nameA a_nameB a_queue a_state a_worth a_usedByExit a_usedBySet a_usedByLow a_usedByHigh a_edges hf hxk hno => ?_) (fun f_known f_met f_openEdges f_openBlocks f_first f_last f_openCount f_firstEdge f_lastEdge a_order a_place a_parent a_depths a_living a_needs a_merging a_stack a_next a_before a_frontiers a_in a_out a_nameA a_nameB a_queue a_state a_worth a_usedByExit a_usedBySet a_usedByLow a_usedByHigh a_edges j hf hxk hj ej hM => ?_)
  · dsimp only
    refine br_t rfl (yh_depth Y (fun h => absurd rfl (h i hi)) (fun f_met' a_rules' j hj ej => ⟨?_, rl_in X (Or.inr ⟨hf, hxk⟩) Y e1 e2 e3⟩))
    rw [sg_0 (fun h _ => b01_f (fun z => hno j hj ej z.1))]
    rfl
  · obtain ⟨m, ord, pl, P, ni, c, ob, q1, q2, q3, q4, q5, T, q7, q8, q9, q10, q11, N, hlt, q14, q15, q16, q17, R, q19, q20⟩ := id hxk
    dsimp only
    rw [fn_c (a := i) (by omega), q9 i hi]
    refine br_f (by decide) ⟨vp_in_nI (by omega) (by omega), yh_depth Y (fun h => absurd rfl (h i hi)) (fun f_met' a_rules' j hj ej => ⟨?_, rl_in X (Or.inr ⟨hf, hxk⟩) Y e1 e2 e3⟩)⟩
    rw [fn_inj (by omega) (by omega) ej]
theorem i_vc_lives {k : Nat} {u : SX} {v : SY} (I : i_Rel k u v) (hk : k + 6 ≤ 3072) (v1 : Int32) : wpX_lives (fun r u' => wpY_lives (fun r' v' => r' = r ∧ i_Rel (k + 6) u' v') v v1) u v1 := by
  refine rl_el (Q := fun u v => wpX_lives (fun r u' => wpY_lives (fun r' v' => r' = r ∧ i_Rel (k + 6) u' v') v v1) u v1) ?_ I
  intro G f_blocks f_given f_known f_met f_openEdges f_openBlocks f_first f_last f_openCount f_firstEdge f_lastEdge f_result f_begun f_latest f_inputs a_op a_d a_b a_many a_kind a_asks a_target a_a a_order a_place a_parent a_depths a_living a_needs a_merging a_stack a_next a_before a_frontiers a_in a_out a_nameA a_nameB a_queue a_state a_worth a_usedByExit a_usedBySet a_usedByLow a_usedByHigh a_edges a_now f_n' f_k' f_met' f_result' f_begun' f_last' a_many' a_op' a_d' a_a' a_b' a_kind' a_used' a_first' a_second' a_living' a_needed' a_rules' a_edges' a_begin' a_now' a_open' a_variable' X hkn Y e1 e2 e3
  have ok := X.1
  have hn16 := ok.1
  unfold wpX_lives
  refine xw_work X hkn (fun f_known f_met f_openEdges f_openBlocks f_first f_last f_openCount f_firstEdge f_lastEdge a_order a_place a_parent a_depths a_living a_needs a_merging a_stack a_next a_before a_frontiers a_in a_out a_nameA a_nameB a_queue a_state a_worth a_usedByExit a_usedBySet a_usedByLow a_usedByHigh a_edges hf hxk => ?_)
  dsimp only
  refine yo_among X.2.1 (by omega) (fun h => br_t rfl (yv_lives Y (fun _ => ⟨rfl, rl_in X (Or.inr ⟨hf, hxk⟩) Y e1 e2 e3⟩) (fun a_living' s j hj ej => absurd ej (h j hj)))) (fun i hi ei => br_f (by decide) ?_)
  subst ei
  obtain ⟨m, ord, pl, P, ni, c, ob, q1, q2, q3, q4, q5, T, q7, q8, q9, q10, q11, N, hlt, q14, q15, q16, q17, R, q19, q20⟩ := id hxk
  rw [fn_c (a := i) (by omega)]
  refine ⟨vp_in_nI (by omega) (by omega), yv_lives Y (fun h => absurd rfl (h i hi)) (fun a_living' s j hj ej hs => ⟨?_, rl_in X (Or.inr ⟨hf, hxk⟩) Y e1 e2 e3⟩)⟩
  have eij := fn_inj (by omega) (by omega) ej
  subst eij
  exact fb_eq (fun y hy => (hs y).trans (q10 i y hi).symm)
theorem i_vc_needed {k : Nat} {u : SX} {v : SY} (I : i_Rel k u v) (hk : k + 6 ≤ 3072) (v1 : Int32) : wpX_needed (fun r u' => wpY_needed (fun r' v' => r' = r ∧ i_Rel (k + 6) u' v') v v1) u v1 := by
  refine rl_el (Q := fun u v => wpX_needed (fun r u' => wpY_needed (fun r' v' => r' = r ∧ i_Rel (k + 6) u' v') v v1) u v1) ?_ I
  intro G f_blocks f_given f_known f_met f_openEdges f_openBlocks f_first f_last f_openCount f_firstEdge f_lastEdge f_result f_begun f_latest f_inputs a_op a_d a_b a_many a_kind a_asks a_target a_a a_order a_place a_parent a_depths a_living a_needs a_merging a_stack a_next a_before a_frontiers a_in a_out a_nameA a_nameB a_queue a_state a_worth a_usedByExit a_usedBySet a_usedByLow a_usedByHigh a_edges a_now f_n' f_k' f_met' f_result' f_begun' f_last' a_many' a_op' a_d' a_a' a_b' a_kind' a_used' a_first' a_second' a_living' a_needed' a_rules' a_edges' a_begin' a_now' a_open' a_variable' X hkn Y e1 e2 e3
  have ok := X.1
  have hn16 := ok.1
  unfold wpX_needed
  refine xq_isMet X hkn (fun f_known f_met f_openEdges f_openBlocks f_first f_last f_openCount f_firstEdge f_lastEdge a_order a_place a_parent a_depths a_living a_needs a_merging a_stack a_next a_before a_frontiers a_in a_out a_nameA a_nameB a_queue a_state a_worth a_usedByExit a_usedBySet a_usedByLow a_usedByHigh a_edges hf hxk hno => ?_) (fun f_known f_met f_openEdges f_openBlocks f_first f_last f_openCount f_firstEdge f_lastEdge a_order a_place a_parent a_depths a_living a_needs a_merging a_stack a_next a_before a_frontiers a_in a_out a_nameA a_nameB a_queue a_state a_worth a_usedByExit a_usedBySet a_usedByLow a_usedByHigh a_edges j hf hxk hj ej hM => ?_)
  · dsimp only
    refine br_t rfl (yw_needed Y (fun f_met' a_rules' a_living' a_needed' _ => ⟨rfl, rl_in X (Or.inr ⟨hf, hxk⟩) Y e1 e2 e3⟩) (fun f_met' a_rules' a_living' a_needed' s j hj ej hs => ⟨?_, rl_in X (Or.inr ⟨hf, hxk⟩) Y e1 e2 e3⟩))
    refine fb_z (fun y _ => ?_)
    cases z : bt s y with
    | false => rfl
    | true => exact absurd ((hs y).mp z).1 (hno j hj ej)
  · subst ej
    obtain ⟨m, ord, pl, P, ni, c, ob, q1, q2, q3, q4, q5, T, q7, q8, q9, q10, q11, N, hlt, q14, q15, q16, q17, R, q19, q20⟩ := id hxk
    dsimp only
    rw [fn_c (a := j) (by omega)]
    refine br_f (by decide) ⟨vp_in_nI (by omega) (by omega), yw_needed Y (fun f_met' a_rules' a_living' a_needed' h => absurd rfl (h j hj)) (fun f_met' a_rules' a_living' a_needed' s i hi ei hs => ⟨?_, rl_in X (Or.inr ⟨hf, hxk⟩) Y e1 e2 e3⟩)⟩
    have eij := fn_inj (by omega) (by omega) ei
    subst eij
    exact fb_eq (fun y hy => (hs y).trans ⟨fun z => (q20 j y hM).mpr z.2, fun z => ⟨hM, (q20 j y hM).mp z⟩⟩)
theorem i_vc_value {k : Nat} {u : SX} {v : SY} (I : i_Rel k u v) (hk : k + 6 ≤ 3072) (v1 : Int32) (v2 : Int32) (v3 : Int32) : wpX_value (fun r u' => wpY_value (fun r' v' => r' = r ∧ i_Rel (k + 6) u' v') v v1 v2 (lw_bz v3)) u v1 v2 (lw_bz v3) := by
  refine rl_el (Q := fun u v => wpX_value (fun r u' => wpY_value (fun r' v' => r' = r ∧ i_Rel (k + 6) u' v') v v1 v2 (lw_bz v3)) u v1 v2 (lw_bz v3)) ?_ I
  intro G f_blocks f_given f_known f_met f_openEdges f_openBlocks f_first f_last f_openCount f_firstEdge f_lastEdge f_result f_begun f_latest f_inputs a_op a_d a_b a_many a_kind a_asks a_target a_a a_order a_place a_parent a_depths a_living a_needs a_merging a_stack a_next a_before a_frontiers a_in a_out a_nameA a_nameB a_queue a_state a_worth a_usedByExit a_usedBySet a_usedByLow a_usedByHigh a_edges a_now f_n' f_k' f_met' f_result' f_begun' f_last' a_many' a_op' a_d' a_a' a_b' a_kind' a_used' a_first' a_second' a_living' a_needed' a_rules' a_edges' a_begin' a_now' a_open' a_variable' X hkn Y e1 e2 e3
  have ok := X.1
  have hn16 := ok.1
  have hfl := lw_bz_01 v3
  generalize lw_bz v3 = fl at hfl ⊢
  unfold wpX_value
  refine xq_isMet X hkn (fun f_known f_met f_openEdges f_openBlocks f_first f_last f_openCount f_firstEdge f_lastEdge a_order a_place a_parent a_depths a_living a_needs a_merging a_stack a_next a_before a_frontiers a_in a_out a_nameA a_nameB a_queue a_state a_worth a_usedByExit a_usedBySet a_usedByLow a_usedByHigh a_edges hf hxk hno => ?_) (fun f_known f_met f_openEdges f_openBlocks f_first f_last f_openCount f_firstEdge f_lastEdge a_order a_place a_parent a_depths a_living a_needs a_merging a_stack a_next a_before a_frontiers a_in a_out a_nameA a_nameB a_queue a_state a_worth a_usedByExit a_usedBySet a_usedByLow a_usedByHigh a_edges j hf hxk hj ej hM => ?_)
  · dsimp only
    refine br_t rfl (yz_value Y hfl (fun _ => ⟨rfl, rl_in X (Or.inr ⟨hf, hxk⟩) Y e1 e2 e3⟩) (fun O B a_begin' a_now' a_open' j w r hL hj hw ej ew hr => ⟨?_, rl_in X (Or.inr ⟨hf, hxk⟩) Y e1 e2 e3⟩))
    rcases hr with z | z | z
    · exact z.2
    · exact absurd (vl_M hL z.1) (hno j hj ej)
    · exact absurd (vl_M hL z.1) (hno j hj ej)
  · subst ej
    obtain ⟨m, ord, pl, P, ni, c, ob, q1, q2, q3, q4, q5, T, q7, q8, q9, q10, q11, N, hlt, q14, q15, q16, q17, R, q19, q20⟩ := id hxk
    have LX := vx_LC T ok N hlt R.1 R.2.1
    dsimp only
    refine br_f (by decide) (yo_among (n := 6) rfl (by omega) (fun h => br_t rfl (yz_value Y hfl (fun _ => ⟨rfl, rl_in X (Or.inr ⟨hf, hxk⟩) Y e1 e2 e3⟩) (fun O B a_begin' a_now' a_open' j w r hL hj hw ej ew hr => absurd ew (h w hw)))) (fun w hw ew => br_f (by decide) ?_))
    subst ew
    refine fb_0 (by omega) (fun hb => ?_) (fun hb => ?_)
    · have hno : ¬ ob j := fun z => by rw [(q17 j (by omega)).mpr z] at hb; exact absurd hb (by decide)
      refine yz_value Y hfl (fun _ => ⟨rfl, rl_in X (Or.inr ⟨hf, hxk⟩) Y e1 e2 e3⟩) (fun O B a_begin' a_now' a_open' i w' r hL hi hw' ei ew' hr => ⟨?_, rl_in X (Or.inr ⟨hf, hxk⟩) Y e1 e2 e3⟩)
      have eij := fn_inj (by omega) (by omega) ei
      subst eij
      have hu := (vl_un LX hL j).1
      rcases hr with z | z | z
      · exact z.2
      · exact absurd (hu.mpr z.1) hno
      · exact absurd (hu.mpr z.1) hno
    · have hob := (q17 j (by omega)).mp hb
      have key : ∀ (n : Nat) (val : Option Int32), n < 166 → vx_ (vc_st c) (vc_wo c) n = val → (∀ (O : Nat → Prop) (B : Nat → Nat → Option Int32), vl_LC G O B → O j ∧ (fl = 0 → val = B j w) ∧ (fl ≠ 0 → val = vl_e G j (B j) (gr_mn G j) w)) → wX_value_61 (fun r u' => wpY_value (fun r' v' => r' = r ∧ i_Rel (k + 6) u' v') (f_n', f_k', f_met', f_result', f_begun', f_last', a_many', a_op', a_d', a_a', a_b', a_kind', a_used', a_first', a_second', a_living', a_needed', a_rules', a_edges', a_begin', a_now', a_open', a_variable') (nI j) (nI w) fl) (nI n) f_blocks f_given f_known f_met f_openEdges f_openBlocks f_first f_last f_openCount f_firstEdge f_lastEdge f_result f_begun f_latest f_inputs a_op a_d a_b a_many a_kind a_asks a_target a_a a_order a_place a_parent a_depths a_living a_needs a_merging a_stack a_next a_before a_frontiers a_in a_out a_nameA a_nameB a_queue a_state a_worth a_usedByExit a_usedBySet a_usedByLow a_usedByHigh a_edges a_now := by
        intro n val hn hval hB
        have hin : vp_in (nI n) 166 := vp_in_nI hn (by omega)
        have fin : ∀ r0 : Int64, r0 = vL_ val → wpY_value (fun r' v' => r' = r0 ∧ i_Rel (k + 6) (f_blocks, f_given, f_known, f_met, f_openEdges, f_openBlocks, f_first, f_last, f_openCount, f_firstEdge, f_lastEdge, f_result, f_begun, f_latest, f_inputs, a_op, a_d, a_b, a_many, a_kind, a_asks, a_target, a_a, a_order, a_place, a_parent, a_depths, a_living, a_needs, a_merging, a_stack, a_next, a_before, a_frontiers, a_in, a_out, a_nameA, a_nameB, a_queue, a_state, a_worth, a_usedByExit, a_usedBySet, a_usedByLow, a_usedByHigh, a_edges, a_now) v') (f_n', f_k', f_met', f_result', f_begun', f_last', a_many', a_op', a_d', a_a', a_b', a_kind', a_used', a_first', a_second', a_living', a_needed', a_rules', a_edges', a_begin', a_now', a_open', a_variable') (nI j) (nI w) fl := by
          intro r0 hr0
          refine yz_value Y hfl (fun h => h.elim (fun h => absurd rfl (h j hj)) (fun h => absurd rfl (h w hw))) (fun O B a_begin' a_now' a_open' i w' r hL hi hw' ei ew' hr => ⟨?_, rl_in X (Or.inr ⟨hf, hxk⟩) Y e1 e2 e3⟩)
          have eij := fn_inj (by omega) (by omega) ei
          subst eij
          have eww := fn_inj (by omega) (by omega) ew'
          subst eww
          have h3 := hB O B hL
          rcases hr with z | z | z
          · exact absurd h3.1 z.1
          · rw [z.2.2, hr0, h3.2.1 z.2.1]
          · rw [z.2.2, hr0, h3.2.2 z.2.1]
        have hst := R.2.2.2.1 n hn
        rw [wX_value_61, fn_c (a := n) (by omega), q15 n hn, q16 n hn]
        refine ⟨hin, pk_eq (vc_st c n) 2 (fun h2 => fin _ ?_) (fun h2 => ⟨hin, fin _ ?_⟩)⟩
        · rw [← hval]
          unfold vx_
          rw [if_pos h2]
          rfl
        · rw [← hval]
          unfold vx_
          rw [if_neg h2]
          rfl
      have hnlt := hlt j hM
      rw [fn_62, fn_c (a := 6 * j + w) (by omega), (q14 j hM w hw).1, (q14 j hM w hw).2]
      have ijw : vp_in (nI (6 * j + w)) 96 := vp_in_nI (by omega) (by omega)
      refine br_c (fun e => ⟨ijw, key (ni j w) _ (hnlt w hw) rfl (fun O B hL => ?_)⟩) (fun e => ⟨ijw, key (ne_ G ni j w) _ (nb_lt ok hj hnlt _ (Nat.le_refl _) w hw) rfl (fun O B hL => ?_)⟩)
      · have hu := vl_un LX hL j
        exact ⟨hu.1.mp hob, fun _ => hu.2 hob w hw, fun z => absurd e z⟩
      · have hu := vl_un LX hL j
        refine ⟨hu.1.mp hob, fun z => absurd z e, fun _ => ?_⟩
        have h1 := vx_end T ok N hlt R.1 R.2.1 hob (Nat.le_refl _) hw
        have h2 := vl_une ok LX hL hob hj (i := gr_mn G j) (Nat.le_refl _) hw
        exact h1.trans h2
theorem i_vc_count {k : Nat} {u : SX} {v : SY} (I : i_Rel k u v) (hk : k + 6 ≤ 3072) (v1 : Int32) : wpX_count (fun r u' => wpY_count (fun r' v' => r' = r ∧ i_Rel (k + 6) u' v') v v1) u v1 := by
  refine rl_el (Q := fun u v => wpX_count (fun r u' => wpY_count (fun r' v' => r' = r ∧ i_Rel (k + 6) u' v') v v1) u v1) ?_ I
  intro G f_blocks f_given f_known f_met f_openEdges f_openBlocks f_first f_last f_openCount f_firstEdge f_lastEdge f_result f_begun f_latest f_inputs a_op a_d a_b a_many a_kind a_asks a_target a_a a_order a_place a_parent a_depths a_living a_needs a_merging a_stack a_next a_before a_frontiers a_in a_out a_nameA a_nameB a_queue a_state a_worth a_usedByExit a_usedBySet a_usedByLow a_usedByHigh a_edges a_now f_n' f_k' f_met' f_result' f_begun' f_last' a_many' a_op' a_d' a_a' a_b' a_kind' a_used' a_first' a_second' a_living' a_needed' a_rules' a_edges' a_begin' a_now' a_open' a_variable' X hkn Y e1 e2 e3
  have ok := X.1
  have hn16 := ok.1
  unfold wpX_count
  refine xw_work X hkn (fun f_known f_met f_openEdges f_openBlocks f_first f_last f_openCount f_firstEdge f_lastEdge a_order a_place a_parent a_depths a_living a_needs a_merging a_stack a_next a_before a_frontiers a_in a_out a_nameA a_nameB a_queue a_state a_worth a_usedByExit a_usedBySet a_usedByLow a_usedByHigh a_edges hf hxk => ?_)
  dsimp only
  obtain ⟨m, ord, pl, P, ni, c, ob, q1, q2, q3, q4, q5, T, q7, q8, q9, q10, q11, N, hlt, q14, q15, q16, q17, R, q19, q20⟩ := id hxk
  have LX := vx_LC T ok N hlt R.1 R.2.1
  have hmn := T.1.1
  -- out of range
  have bad : (∀ w, w < 4 → v1 ≠ nI w) → wpY_count (fun r' v' => r' = -1 ∧ i_Rel (k + 6) (f_blocks, f_given, f_known, f_met, f_openEdges, f_openBlocks, f_first, f_last, f_openCount, f_firstEdge, f_lastEdge, f_result, f_begun, f_latest, f_inputs, a_op, a_d, a_b, a_many, a_kind, a_asks, a_target, a_a, a_order, a_place, a_parent, a_depths, a_living, a_needs, a_merging, a_stack, a_next, a_before, a_frontiers, a_in, a_out, a_nameA, a_nameB, a_queue, a_state, a_worth, a_usedByExit, a_usedBySet, a_usedByLow, a_usedByHigh, a_edges, a_now) v') (f_n', f_k', f_met', f_result', f_begun', f_last', a_many', a_op', a_d', a_a', a_b', a_kind', a_used', a_first', a_second', a_living', a_needed', a_rules', a_edges', a_begin', a_now', a_open', a_variable') v1 := fun h => yc_count Y (fun _ => ⟨rfl, rl_in X (Or.inr ⟨hf, hxk⟩) Y e1 e2 e3⟩) (fun O B f_met' a_rules' a_begin' a_now' a_open' w hL hw ew => absurd ew (h w hw))
  have good : ∀ (w : Nat) (r : Int32), w < 4 → v1 = nI w → (∀ (O : Nat → Prop) (B : Nat → Nat → Option Int32), vl_LC G O B → nI (sg_s (ct_ G O B w) (gr_n G)) = r) → wpY_count (fun r' v' => r' = r ∧ i_Rel (k + 6) (f_blocks, f_given, f_known, f_met, f_openEdges, f_openBlocks, f_first, f_last, f_openCount, f_firstEdge, f_lastEdge, f_result, f_begun, f_latest, f_inputs, a_op, a_d, a_b, a_many, a_kind, a_asks, a_target, a_a, a_order, a_place, a_parent, a_depths, a_living, a_needs, a_merging, a_stack, a_next, a_before, a_frontiers, a_in, a_out, a_nameA, a_nameB, a_queue, a_state, a_worth, a_usedByExit, a_usedBySet, a_usedByLow, a_usedByHigh, a_edges, a_now) v') (f_n', f_k', f_met', f_result', f_begun', f_last', a_many', a_op', a_d', a_a', a_b', a_kind', a_used', a_first', a_second', a_living', a_needed', a_rules', a_edges', a_begin', a_now', a_open', a_variable') v1 := by
    intro w r hw ew h
    refine yc_count Y (fun h' => absurd ew (h' w hw)) (fun O B f_met' a_rules' a_begin' a_now' a_open' w' hL hw' ew' => ⟨?_, rl_in X (Or.inr ⟨hf, hxk⟩) Y e1 e2 e3⟩)
    rw [ew] at ew'
    rw [← fn_inj (by omega) (by omega) ew']
    exact h O B hL
  refine br_c (fun h => bad (fun w hw e => ?_)) (fun h => ?_)
  · rw [e] at h; exact absurd h (nI_pos (by omega))
  obtain ⟨w, hw31, ew⟩ := nI_of h
  subst ew
  refine pk_lt 3 w (fun h3 => bad (fun i hi e => ?_)) (fun h3 => ?_)
  · have := fn_inj hw31 (by omega) e
    omega
  refine pk_eq w 0 (fun w0 => good w _ (by omega) rfl (fun O B hL => ?_)) (fun w0 => pk_eq w 1 (fun w1 => ⟨17, ?_⟩) (fun w1 => pk_eq w 2 (fun w2 => ⟨m + 1, ?_⟩) (fun w2 => pk_eq w 3 (fun w3 => good w _ (by omega) rfl (fun O B hL => ?_)) (fun w3 => absurd h3 (by omega)))))
  · rw [q1, q5]
    congr 1
    refine sg_eq (fun i _ => ?_)
    unfold ct_
    rw [if_pos w0]
  · refine xc_43 ok X.2.1 q17 (good w _ (by omega) rfl (fun O B hL => ?_)) 17 0 (by omega) (by omega)
    congr 1
    refine sg_eq (fun i _ => ?_)
    unfold ct_
    rw [if_neg w0, if_pos w1]
    exact b01_i (vl_un LX hL i).1.symm
  · have e0 := xc_72 X T.1 q1 q2 (post := fun r u' => wpY_count (fun r' v' => r' = r ∧ i_Rel (k + 6) u' v') (f_n', f_k', f_met', f_result', f_begun', f_last', a_many', a_op', a_d', a_a', a_b', a_kind', a_used', a_first', a_second', a_living', a_needed', a_rules', a_edges', a_begin', a_now', a_open', a_variable') (nI w)) (f_blocks := f_blocks) (f_given := f_given) (f_known := f_known) (f_met := f_met) (f_openEdges := f_openEdges) (f_openBlocks := f_openBlocks) (f_first := f_first) (f_last := f_last) (f_openCount := f_openCount) (f_firstEdge := f_firstEdge) (f_lastEdge := f_lastEdge) (f_result := f_result) (f_begun := f_begun) (f_latest := f_latest) (f_inputs := f_inputs) (a_op := a_op) (a_d := a_d) (a_b := a_b) (a_many := a_many) (a_kind := a_kind) (a_asks := a_asks) (a_target := a_target) (a_a := a_a) (a_order := a_order) (a_place := a_place) (a_parent := a_parent) (a_depths := a_depths) (a_living := a_living) (a_needs := a_needs) (a_merging := a_merging) (a_stack := a_stack) (a_next := a_next) (a_before := a_before) (a_frontiers := a_frontiers) (a_in := a_in) (a_out := a_out) (a_nameA := a_nameA) (a_nameB := a_nameB) (a_queue := a_queue) (a_state := a_state) (a_worth := a_worth) (a_usedByExit := a_usedByExit) (a_usedBySet := a_usedBySet) (a_usedByLow := a_usedByLow) (a_usedByHigh := a_usedByHigh) (a_edges := a_edges) (a_now := a_now) (good w _ (by omega) rfl (fun O B hL => ?_)) (m + 1) 0 (by omega) (by omega)
    · rw [sg_0 (fun i _ => by
        show b01 (gr_M G i ∧ pl i < 0) * gr_kd G i = 0
        rw [b01_f (fun z => by omega), Nat.zero_mul])] at e0
      exact e0
    · congr 1
      refine sg_eq (fun i _ => ?_)
      unfold ct_
      rw [if_neg w0, if_neg w1, if_pos w2]
      congr 1
      exact b01_i ⟨fun z => ⟨z, (or_M T.1 ok z).1⟩, fun z => z.1⟩
  · rw [q19, R.2.2.2.2.2.2.1]
    congr 1
    have e32 : sg_s (fun e => b01 (vc_OE c e)) 32 = sg_s (fun x => b01 (vc_OE c (2 * x)) + b01 (vc_OE c (2 * x + 1))) 16 := sg_pair (fun e => b01 (vc_OE c e)) 16
    have hobn : ∀ x, ob x → x < gr_n G := fun x hx => gr_Mlt ok (R.1.2.1 x hx).1
    have hE : ∀ x j, x < 16 → j < 2 → vc_OE c (2 * x + j) → ob x := R.2.2.1
    have hcut : sg_s (fun x => if x < 16 then b01 (vc_OE c (2 * x)) + b01 (vc_OE c (2 * x + 1)) else 0) 16 = sg_s (fun x => if x < 16 then b01 (vc_OE c (2 * x)) + b01 (vc_OE c (2 * x + 1)) else 0) (gr_n G) := by
      refine sg_cut 16 (fun i hi => ?_) hn16
      by_cases h16 : i < 16
      · rw [if_pos h16, b01_f (fun z => by have := hobn i (hE i 0 h16 (by omega) z); omega), b01_f (fun z => by have := hobn i (hE i 1 h16 (by omega) z); omega)]
      · rw [if_neg h16]
    have e16 : sg_s (fun x => b01 (vc_OE c (2 * x)) + b01 (vc_OE c (2 * x + 1))) 16 = sg_s (fun x => if x < 16 then b01 (vc_OE c (2 * x)) + b01 (vc_OE c (2 * x + 1)) else 0) 16 := sg_eq (fun i hi => by
      show b01 (vc_OE c (2 * i)) + b01 (vc_OE c (2 * i + 1)) = if i < 16 then b01 (vc_OE c (2 * i)) + b01 (vc_OE c (2 * i + 1)) else 0
      rw [if_pos hi])
    rw [e32, e16, hcut]
    refine sg_eq (fun i hi => ?_)
    show ct_ G O B w i = if i < 16 then b01 (vc_OE c (2 * i)) + b01 (vc_OE c (2 * i + 1)) else 0
    unfold ct_
    rw [if_neg w0, if_neg w1, if_neg w2, if_pos (by omega)]
    have hak := (ok.2.2 i hi).2.2.1
    have hu := vl_un LX hL i
    have edge : ∀ j, j < 2 → (vc_OE c (2 * i + j) ↔ (O i ∧ vl_ld G i j (vl_e G i (B i) (gr_mn G i) (gr_ak G i)))) := by
      intro j hj
      have h1 := vx_edge T ok N R.1 R.2.1 (fun x j hx hj ho => hE x j (by omega) hj ho) hi hj
      rw [h1]
      constructor
      · rintro ⟨z1, z2⟩
        have h2 := vl_une ok LX hL z1 hi (i := gr_mn G i) (Nat.le_refl _) hak
        exact ⟨hu.1.mp z1, by rw [← h2]; exact z2⟩
      · rintro ⟨z1, z2⟩
        have z1' := hu.1.mpr z1
        have h2 := vl_une ok LX hL z1' hi (i := gr_mn G i) (Nat.le_refl _) hak
        exact ⟨z1', by rw [h2]; exact z2⟩
    rw [b01_i (edge 0 (by omega)).symm, b01_i (edge 1 (by omega)).symm]
    rfl
theorem i_vc_run {k : Nat} {u : SX} {v : SY} (I : i_Rel k u v) (hk : k + 6 ≤ 3072) (v1 : Int32) (v2 : Int32) (v3 : Int32) : wpX_run (fun r u' => wpY_run (fun r' v' => r' = r ∧ i_Rel (k + 6) u' v') v v1 v2 v3) u v1 v2 v3 := by
  refine rl_el (Q := fun u v => wpX_run (fun r u' => wpY_run (fun r' v' => r' = r ∧ i_Rel (k + 6) u' v') v v1 v2 v3) u v1 v2 v3) ?_ I
  intro G f_blocks f_given f_known f_met f_openEdges f_openBlocks f_first f_last f_openCount f_firstEdge f_lastEdge f_result f_begun f_latest f_inputs a_op a_d a_b a_many a_kind a_asks a_target a_a a_order a_place a_parent a_depths a_living a_needs a_merging a_stack a_next a_before a_frontiers a_in a_out a_nameA a_nameB a_queue a_state a_worth a_usedByExit a_usedBySet a_usedByLow a_usedByHigh a_edges a_now f_n' f_k' f_met' f_result' f_begun' f_last' a_many' a_op' a_d' a_a' a_b' a_kind' a_used' a_first' a_second' a_living' a_needed' a_rules' a_edges' a_begin' a_now' a_open' a_variable' X hkn Y e1 e2 e3
  refine xr_run X (fun h => zr_run Y (fun _ => ⟨rfl, rl_in X hkn Y e1 e2 e3⟩) (fun a_variable' h' => by omega)) (fun f_inputs a_now h => zr_run Y (fun h' => by omega) (fun a_variable' _ => ⟨rfl, rl_in X hkn Y rfl rfl rfl⟩))
theorem i_vc_last {k : Nat} {u : SX} {v : SY} (I : i_Rel k u v) (hk : k + 6 ≤ 3072) (v1 : Int32) : wpX_last (fun r => wpY_last (fun r' => r' = r ∧ i_Rel (k + 6) u v) v v1) u v1 := by
  refine rl_el (Q := fun u v => wpX_last (fun r => wpY_last (fun r' => r' = r ∧ i_Rel (k + 6) u v) v v1) u v1) ?_ I
  intro G f_blocks f_given f_known f_met f_openEdges f_openBlocks f_first f_last f_openCount f_firstEdge f_lastEdge f_result f_begun f_latest f_inputs a_op a_d a_b a_many a_kind a_asks a_target a_a a_order a_place a_parent a_depths a_living a_needs a_merging a_stack a_next a_before a_frontiers a_in a_out a_nameA a_nameB a_queue a_state a_worth a_usedByExit a_usedBySet a_usedByLow a_usedByHigh a_edges a_now f_n' f_k' f_met' f_result' f_begun' f_last' a_many' a_op' a_d' a_a' a_b' a_kind' a_used' a_first' a_second' a_living' a_needed' a_rules' a_edges' a_begin' a_now' a_open' a_variable' X hkn Y e1 e2 e3
  have hR : i_Rel (k + 6) (f_blocks, f_given, f_known, f_met, f_openEdges, f_openBlocks, f_first, f_last, f_openCount, f_firstEdge, f_lastEdge, f_result, f_begun, f_latest, f_inputs, a_op, a_d, a_b, a_many, a_kind, a_asks, a_target, a_a, a_order, a_place, a_parent, a_depths, a_living, a_needs, a_merging, a_stack, a_next, a_before, a_frontiers, a_in, a_out, a_nameA, a_nameB, a_queue, a_state, a_worth, a_usedByExit, a_usedBySet, a_usedByLow, a_usedByHigh, a_edges, a_now) (f_n', f_k', f_met', f_result', f_begun', f_last', a_many', a_op', a_d', a_a', a_b', a_kind', a_used', a_first', a_second', a_living', a_needed', a_rules', a_edges', a_begin', a_now', a_open', a_variable') := rl_in X hkn Y e1 e2 e3
  unfold wpX_last wpY_last
  dsimp only
  refine br_c (fun h0 => br_t h0 ⟨e1, hR⟩) (fun h0 => br_c (fun h1 => br_f h0 (br_t h1 ⟨e2, hR⟩)) (fun h1 => br_c (fun h2 => br_f h0 (br_f h1 (br_t h2 ⟨e3, hR⟩))) (fun h2 => br_f h0 (br_f h1 (br_f h2 ⟨rfl, hR⟩)))))
end
section
/-! the program is changed -/
theorem i_vc0 : wpX_init (fun u => wpY_init (fun v => i_Rel 0 u v)) := by
  unfold wpX_init wpY_init
  have h0 : ∀ x, ¬ x < gr_n (0, 0, fun _ => 0, fun _ => 0, fun _ => 0, fun _ => 0, fun _ => 0, fun _ => 0, fun _ => 0, fun _ => 0) := fun x => Nat.not_lt_zero x
  exact rl_in (G := (0, 0, fun _ => 0, fun _ => 0, fun _ => 0, fun _ => 0, fun _ => 0, fun _ => 0, fun _ => 0, fun _ => 0)) ⟨⟨by decide, by decide, fun x hx => absurd hx (h0 x)⟩, rfl, rfl, fun x hx => absurd hx (h0 x), fun x hx => absurd hx (h0 x), fun x hx => absurd hx (h0 x), fun x j hx => absurd hx (h0 x), fun x i hx => absurd hx (h0 x)⟩ (Or.inl rfl) ⟨⟨by decide, by decide, fun x hx => absurd hx (h0 x)⟩, rfl, rfl, fun x hx => absurd hx (h0 x), fun x hx => absurd hx (h0 x), fun x hx => absurd hx (h0 x), fun x hx => absurd hx (h0 x), fun x i hx => absurd hx (h0 x)⟩ rfl rfl rfl
theorem i_vc_clear {k : Nat} {u : SX} {v : SY} (I : i_Rel k u v) (hk : k + 6 ≤ 3072) : wpX_clear (fun r u' => wpY_clear (fun r' v' => r' = r ∧ i_Rel (k + 6) u' v') v) u := by
  refine rl_el (Q := fun u v => wpX_clear (fun r u' => wpY_clear (fun r' v' => r' = r ∧ i_Rel (k + 6) u' v') v) u) ?_ I
  intro G f_blocks f_given f_known f_met f_openEdges f_openBlocks f_first f_last f_openCount f_firstEdge f_lastEdge f_result f_begun f_latest f_inputs a_op a_d a_b a_many a_kind a_asks a_target a_a a_order a_place a_parent a_depths a_living a_needs a_merging a_stack a_next a_before a_frontiers a_in a_out a_nameA a_nameB a_queue a_state a_worth a_usedByExit a_usedBySet a_usedByLow a_usedByHigh a_edges a_now f_n' f_k' f_met' f_result' f_begun' f_last' a_many' a_op' a_d' a_a' a_b' a_kind' a_used' a_first' a_second' a_living' a_needed' a_rules' a_edges' a_begin' a_now' a_open' a_variable' X hkn Y e1 e2 e3
  have h0 : ∀ x, ¬ x < gr_n (0, 0, gr_mn G, gr_kd G, gr_ak G, gr_tg G, gr_op G, gr_aa G, gr_dd G, gr_bb G) := fun x => Nat.not_lt_zero x
  unfold wpX_clear wpY_clear
  refine ⟨Y.2.1.trans X.2.1.symm, rl_in (G := (0, 0, gr_mn G, gr_kd G, gr_ak G, gr_tg G, gr_op G, gr_aa G, gr_dd G, gr_bb G)) ⟨⟨Nat.zero_le _, show (0 : Nat) < 4 by decide, fun x hx => absurd hx (h0 x)⟩, rfl, rfl, fun x hx => absurd hx (h0 x), fun x hx => absurd hx (h0 x), fun x hx => absurd hx (h0 x), fun x j hx => absurd hx (h0 x), fun x i hx => absurd hx (h0 x)⟩ (Or.inl rfl) ⟨⟨Nat.zero_le _, show (0 : Nat) < 4 by decide, fun x hx => absurd hx (h0 x)⟩, rfl, rfl, fun x hx => absurd hx (h0 x), fun x hx => absurd hx (h0 x), fun x hx => absurd hx (h0 x), fun x hx => absurd hx (h0 x), fun x i hx => absurd hx (h0 x)⟩ e1 e2 e3⟩
theorem i_vc_parameters {k : Nat} {u : SX} {v : SY} (I : i_Rel k u v) (hk : k + 6 ≤ 3072) (v1 : Int32) : wpX_parameters (fun r u' => wpY_parameters (fun r' v' => r' = r ∧ i_Rel (k + 6) u' v') v v1) u v1 := by
  refine rl_el (Q := fun u v => wpX_parameters (fun r u' => wpY_parameters (fun r' v' => r' = r ∧ i_Rel (k + 6) u' v') v v1) u v1) ?_ I
  intro G f_blocks f_given f_known f_met f_openEdges f_openBlocks f_first f_last f_openCount f_firstEdge f_lastEdge f_result f_begun f_latest f_inputs a_op a_d a_b a_many a_kind a_asks a_target a_a a_order a_place a_parent a_depths a_living a_needs a_merging a_stack a_next a_before a_frontiers a_in a_out a_nameA a_nameB a_queue a_state a_worth a_usedByExit a_usedBySet a_usedByLow a_usedByHigh a_edges a_now f_n' f_k' f_met' f_result' f_begun' f_last' a_many' a_op' a_d' a_a' a_b' a_kind' a_used' a_first' a_second' a_living' a_needed' a_rules' a_edges' a_begin' a_now' a_open' a_variable' X hkn Y e1 e2 e3
  unfold wpX_parameters wpY_parameters
  dsimp only
  refine yo_among (n := 4) rfl (by omega) (fun h => br_t rfl (yo_out (n := 4) rfl (by omega) (fun _ => br_f (by decide) ⟨rfl, rl_in X hkn Y e1 e2 e3⟩) (fun j hj e => absurd e (h j hj)))) (fun j hj e => br_f (by decide) (yo_out (n := 4) rfl (by omega) (fun h => absurd e (h j hj)) (fun i hi ei => br_t rfl ⟨rfl, ?_⟩)))
  subst e
  exact rl_in (G := (gr_n G, j, gr_mn G, gr_kd G, gr_ak G, gr_tg G, gr_op G, gr_aa G, gr_dd G, gr_bb G)) ⟨⟨X.1.1, hj, X.1.2.2⟩, X.2.1, rfl, X.2.2.2⟩ (Or.inl rfl) ⟨⟨X.1.1, hj, X.1.2.2⟩, Y.2.1, rfl, Y.2.2.2⟩ e1 e2 e3
theorem i_vc_block {k : Nat} {u : SX} {v : SY} (I : i_Rel k u v) (hk : k + 6 ≤ 3072) : wpX_block (fun r u' => wpY_block (fun r' v' => r' = r ∧ i_Rel (k + 6) u' v') v) u := by
  refine rl_el (Q := fun u v => wpX_block (fun r u' => wpY_block (fun r' v' => r' = r ∧ i_Rel (k + 6) u' v') v) u) ?_ I
  intro G f_blocks f_given f_known f_met f_openEdges f_openBlocks f_first f_last f_openCount f_firstEdge f_lastEdge f_result f_begun f_latest f_inputs a_op a_d a_b a_many a_kind a_asks a_target a_a a_order a_place a_parent a_depths a_living a_needs a_merging a_stack a_next a_before a_frontiers a_in a_out a_nameA a_nameB a_queue a_state a_worth a_usedByExit a_usedBySet a_usedByLow a_usedByHigh a_edges a_now f_n' f_k' f_met' f_result' f_begun' f_last' a_many' a_op' a_d' a_a' a_b' a_kind' a_used' a_first' a_second' a_living' a_needed' a_rules' a_edges' a_begin' a_now' a_open' a_variable' X hkn Y e1 e2 e3
  have ok := X.1
  have hn16 := ok.1
  have ex := X.2.1
  have ey := Y.2.1
  unfold wpX_block wpY_block
  dsimp only
  refine pk_eq (gr_n G) 16 (fun h => pk_eq (gr_n G) 16 (fun _ => ⟨rfl, rl_in X hkn Y e1 e2 e3⟩) (fun h' => absurd h h') ey) (fun h => ?_) ex
  rw [ex, ey, fn_c (a := gr_n G) (by omega), fb_vb0, nI_1]
  have inn : vp_in (nI (gr_n G)) 16 := vp_in_nI (by omega) (by omega)
  refine ⟨inn, nm_e ⟨inn, nm_e ⟨inn, nm_e (nm_e (br_f (fun z => h ?_) ⟨inn, nm_e ⟨inn, nm_e ⟨inn, nm_e (nm_e ⟨rfl, ?_⟩)⟩⟩⟩))⟩⟩⟩
  · exact fn_inj (by omega) (by omega) z
  have okG : gr_ok (gr_n G + 1, gr_k G, un_ (gr_mn G) (gr_n G) 0, un_ (gr_kd G) (gr_n G) 0, un_ (gr_ak G) (gr_n G) 0, gr_tg G, gr_op G, gr_aa G, gr_dd G, gr_bb G) := by
    refine ⟨show gr_n G + 1 ≤ 16 by omega, ok.2.1, fun x hx => ?_⟩
    have hx' : x < gr_n G + 1 := hx
    by_cases e : x = gr_n G
    · have m0 : un_ (gr_mn G) (gr_n G) 0 x = 0 := by rw [e, un_s]
      have k0 : un_ (gr_kd G) (gr_n G) 0 x = 0 := by rw [e, un_s]
      have a0 : un_ (gr_ak G) (gr_n G) 0 x = 0 := by rw [e, un_s]
      exact ⟨show un_ (gr_mn G) (gr_n G) 0 x ≤ 4 by omega, show un_ (gr_kd G) (gr_n G) 0 x < 3 by omega, show un_ (gr_ak G) (gr_n G) 0 x < 6 by omega, fun j (hj : j < un_ (gr_kd G) (gr_n G) 0 x) => by omega, fun i (hi : i < un_ (gr_mn G) (gr_n G) 0 x) => by omega⟩
    · have hB := ok.2.2 x (by omega)
      have m0 : un_ (gr_mn G) (gr_n G) 0 x = gr_mn G x := un_n e
      have k0 : un_ (gr_kd G) (gr_n G) 0 x = gr_kd G x := un_n e
      have a0 : un_ (gr_ak G) (gr_n G) 0 x = gr_ak G x := un_n e
      refine ⟨show un_ (gr_mn G) (gr_n G) 0 x ≤ 4 by rw [m0]; exact hB.1, show un_ (gr_kd G) (gr_n G) 0 x < 3 by rw [k0]; exact hB.2.1, show un_ (gr_ak G) (gr_n G) 0 x < 6 by rw [a0]; exact hB.2.2.1, fun j (hj : j < un_ (gr_kd G) (gr_n G) 0 x) => ?_, fun i (hi : i < un_ (gr_mn G) (gr_n G) 0 x) => ?_⟩
      · rw [k0] at hj
        have := hB.2.2.2.1 j hj
        exact ⟨this.1, Nat.lt_succ_of_lt this.2⟩
      · rw [m0] at hi
        exact hB.2.2.2.2 i hi
  have up : ∀ (f : Nat → Int32) (g : Nat → Nat), (∀ x, x < gr_n G → f x = nI (g x)) → ∀ x, x < gr_n G + 1 → upd f (gr_n G) 0 x = nI (un_ g (gr_n G) 0 x) := by
    intro f g hfg x hx
    by_cases e : x = gr_n G
    · rw [e, pk_us, un_s]; rfl
    · rw [pk_un e, un_n e]; exact hfg x (by omega)
  refine rl_in (G := (gr_n G + 1, gr_k G, un_ (gr_mn G) (gr_n G) 0, un_ (gr_kd G) (gr_n G) 0, un_ (gr_ak G) (gr_n G) 0, gr_tg G, gr_op G, gr_aa G, gr_dd G, gr_bb G)) ⟨okG, rfl, X.2.2.1, up _ _ X.2.2.2.1, up _ _ X.2.2.2.2.1, up _ _ X.2.2.2.2.2.1, fun x j hx hj => ?_, fun x i hx hi => ?_⟩ (Or.inl rfl) ⟨okG, rfl, Y.2.2.1, up _ _ Y.2.2.2.1, up _ _ Y.2.2.2.2.1, fun x hx => ?_, fun x hx => ?_, fun x i hx hi => ?_⟩ e1 e2 e3
  · have hx' : x < gr_n G + 1 := hx
    have hj' : j < un_ (gr_kd G) (gr_n G) 0 x := hj
    by_cases e : x = gr_n G
    · rw [e, un_s] at hj'; omega
    · rw [un_n e] at hj'; exact X.2.2.2.2.2.2.1 x j (by omega) hj'
  · have hx' : x < gr_n G + 1 := hx
    have hi' : i < un_ (gr_mn G) (gr_n G) 0 x := hi
    by_cases e : x = gr_n G
    · rw [e, un_s] at hi'; omega
    · rw [un_n e] at hi'; exact X.2.2.2.2.2.2.2 x i (by omega) hi'
  · have hx' : x < gr_n G + 1 := hx
    show (un_ (gr_kd G) (gr_n G) 0 x = 1 → upd a_used' (gr_n G) 0 x = -1) ∧ (un_ (gr_kd G) (gr_n G) 0 x ≠ 1 → upd a_used' (gr_n G) 0 x = nI (un_ (gr_ak G) (gr_n G) 0 x))
    by_cases e : x = gr_n G
    · rw [e, un_s, un_s, pk_us]; exact ⟨fun z => by omega, fun _ => rfl⟩
    · rw [un_n e, un_n e, pk_un e]; exact Y.2.2.2.2.2.1 x (by omega)
  · have hx' : x < gr_n G + 1 := hx
    show (0 < un_ (gr_kd G) (gr_n G) 0 x → a_first' x = nI (gr_tg G (2 * x + 0))) ∧ (1 < un_ (gr_kd G) (gr_n G) 0 x → a_second' x = nI (gr_tg G (2 * x + 1)))
    by_cases e : x = gr_n G
    · rw [e, un_s]; exact ⟨fun z => by omega, fun z => by omega⟩
    · rw [un_n e]; exact Y.2.2.2.2.2.2.1 x (by omega)
  · have hx' : x < gr_n G + 1 := hx
    have hi' : i < un_ (gr_mn G) (gr_n G) 0 x := hi
    by_cases e : x = gr_n G
    · rw [e, un_s] at hi'; omega
    · rw [un_n e] at hi'; exact Y.2.2.2.2.2.2.2 x i (by omega) hi'
/-! an instruction -/
def ad_g (G : gr_T) (b op d a c : Int32) (x o dv av bv : Nat) : Prop := x < gr_n G ∧ b = nI x ∧ o < 8 ∧ op = nI o ∧ dv < 6 ∧ d = nI dv ∧ (o ≠ 0 → o ≠ 7 → av < 6 ∧ a = nI av) ∧ (1 < o → o < 7 → bv < 6 ∧ c = nI bv) ∧ (¬ (1 < o ∧ o < 7) → bv = 0)
section
variable {f_blocks f_given f_known f_met f_openEdges f_openBlocks f_first f_last f_openCount f_firstEdge f_lastEdge f_result f_begun f_latest f_inputs : Int32} {a_op a_d a_b a_many a_kind a_asks a_target a_a a_order a_place a_parent a_depths a_living a_needs a_merging a_stack a_next a_before a_frontiers a_in a_out a_nameA a_nameB a_queue a_state a_worth a_usedByExit a_edges a_now : Nat → Int32} {a_usedBySet a_usedByLow a_usedByHigh : Nat → Int64}
variable {G : gr_T}
theorem xa_add {post : Int32 → SX → Prop} {b op d a c : Int32} (X : xp_ok G f_blocks f_given a_op a_d a_b a_many a_kind a_asks a_target a_a) (K0 : (∀ x o dv av bv, ¬ ad_g G b op d a c x o dv av bv) → post (-1) (f_blocks, f_given, f_known, f_met, f_openEdges, f_openBlocks, f_first, f_last, f_openCount, f_firstEdge, f_lastEdge, f_result, f_begun, f_latest, f_inputs, a_op, a_d, a_b, a_many, a_kind, a_asks, a_target, a_a, a_order, a_place, a_parent, a_depths, a_living, a_needs, a_merging, a_stack, a_next, a_before, a_frontiers, a_in, a_out, a_nameA, a_nameB, a_queue, a_state, a_worth, a_usedByExit, a_usedBySet, a_usedByLow, a_usedByHigh, a_edges, a_now)) (K1 : ∀ x o dv av bv, ad_g G b op d a c x o dv av bv → gr_mn G x = 4 → post (-2) (f_blocks, f_given, f_known, f_met, f_openEdges, f_openBlocks, f_first, f_last, f_openCount, f_firstEdge, f_lastEdge, f_result, f_begun, f_latest, f_inputs, a_op, a_d, a_b, a_many, a_kind, a_asks, a_target, a_a, a_order, a_place, a_parent, a_depths, a_living, a_needs, a_merging, a_stack, a_next, a_before, a_frontiers, a_in, a_out, a_nameA, a_nameB, a_queue, a_state, a_worth, a_usedByExit, a_usedBySet, a_usedByLow, a_usedByHigh, a_edges, a_now)) (K2 : ∀ x o dv av bv, ad_g G b op d a c x o dv av bv → gr_mn G x < 4 → post (nI (gr_mn G x + 1)) (f_blocks, f_given, 0, f_met, f_openEdges, f_openBlocks, f_first, f_last, f_openCount, f_firstEdge, f_lastEdge, f_result, f_begun, f_latest, f_inputs, upd a_op (4 * x + gr_mn G x) (nI o), upd a_d (4 * x + gr_mn G x) (nI dv), upd a_b (4 * x + gr_mn G x) (nI bv), upd a_many x (nI (gr_mn G x + 1)), a_kind, a_asks, a_target, upd a_a (4 * x + gr_mn G x) a, a_order, a_place, a_parent, a_depths, a_living, a_needs, a_merging, a_stack, a_next, a_before, a_frontiers, a_in, a_out, a_nameA, a_nameB, a_queue, a_state, a_worth, a_usedByExit, a_usedBySet, a_usedByLow, a_usedByHigh, a_edges, a_now)) : wpX_add post (f_blocks, f_given, f_known, f_met, f_openEdges, f_openBlocks, f_first, f_last, f_openCount, f_firstEdge, f_lastEdge, f_result, f_begun, f_latest, f_inputs, a_op, a_d, a_b, a_many, a_kind, a_asks, a_target, a_a, a_order, a_place, a_parent, a_depths, a_living, a_needs, a_merging, a_stack, a_next, a_before, a_frontiers, a_in, a_out, a_nameA, a_nameB, a_queue, a_state, a_worth, a_usedByExit, a_usedBySet, a_usedByLow, a_usedByHigh, a_edges, a_now) b op d a c := by
  have ok := X.1
  have hn16 := ok.1
  unfold wpX_add
  dsimp only
  refine yo_among X.2.1 (by omega) (fun h => br_t rfl (K0 (fun x o dv av bv z => h x z.1 z.2.1))) (fun x hx ex => br_f (by decide) (yo_among (n := 8) rfl (by omega) (fun h => br_t rfl (K0 (fun x o dv av bv z => h o z.2.2.1 z.2.2.2.1))) (fun o ho eo => br_f (by decide) (yo_among (n := 6) rfl (by omega) (fun h => br_t rfl (K0 (fun x o dv av bv z => h dv z.2.2.2.2.1 z.2.2.2.2.2.1))) (fun dv hd ed => br_f (by decide) ?_)))))
  subst ex
  subst eo
  subst ed
  have h4 := (ok.2.2 x hx).1
  have ix : vp_in (nI x) 16 := vp_in_nI (by omega) (by omega)
  have cx := fn_c (a := x) (by omega)
  have k70 : (∀ av bv, ¬ ad_g G (nI x) (nI o) (nI dv) a c x o dv av bv) → wX_add_70 post (nI x) (nI o) (nI dv) a c f_blocks f_given f_known f_met f_openEdges f_openBlocks f_first f_last f_openCount f_firstEdge f_lastEdge f_result f_begun f_latest f_inputs a_op a_d a_b a_many a_kind a_asks a_target a_a a_order a_place a_parent a_depths a_living a_needs a_merging a_stack a_next a_before a_frontiers a_in a_out a_nameA a_nameB a_queue a_state a_worth a_usedByExit a_usedBySet a_usedByLow a_usedByHigh a_edges a_now := by
    intro h
    rw [wX_add_70, wX_add_71]
    refine br_t rfl (K0 (fun x' o' dv' av bv z => h av bv ?_))
    have e1 := fn_inj (by omega) (by have := z.1; omega) z.2.1
    have e2 := fn_inj (by omega) (by have := z.2.2.1; omega) z.2.2.2.1
    have e3 := fn_inj (by omega) (by have := z.2.2.2.2.1; omega) z.2.2.2.2.2.1
    subst e1
    subst e2
    subst e3
    exact z
  have k66 : ∀ av bv, ad_g G (nI x) (nI o) (nI dv) a c x o dv av bv → wX_add_66 post (nI x) (nI o) (nI dv) a c f_blocks f_given f_known f_met f_openEdges f_openBlocks f_first f_last f_openCount f_firstEdge f_lastEdge f_result f_begun f_latest f_inputs a_op a_d a_b a_many a_kind a_asks a_target a_a a_order a_place a_parent a_depths a_living a_needs a_merging a_stack a_next a_before a_frontiers a_in a_out a_nameA a_nameB a_queue a_state a_worth a_usedByExit a_usedBySet a_usedByLow a_usedByHigh a_edges a_now := by
    intro av bv hg
    rw [wX_add_66, wX_add_71, cx, X.2.2.2.1 x hx]
    refine br_f (by decide) ⟨ix, pk_eq (gr_mn G x) 4 (fun h => K1 x o dv av bv hg h) (fun h => ⟨ix, ?_⟩)⟩
    have ii : vp_in (nI (4 * x + gr_mn G x)) 64 := vp_in_nI (by omega) (by omega)
    refine nm_r (fn_42 x (gr_mn G x)) ?_
    rw [fn_c (a := 4 * x + gr_mn G x) (by omega), fb_vb (c := o) (by omega), fb_vb (c := dv) (by omega)]
    refine ⟨ii, nm_e ⟨ii, nm_e ⟨ii, nm_e ?_⟩⟩⟩
    have k155 : ∀ z0 : Int32, z0 = nI bv → wX_add_155 post (nI x) z0 (nI (4 * x + gr_mn G x)) f_blocks f_given f_known f_met f_openEdges f_openBlocks f_first f_last f_openCount f_firstEdge f_lastEdge f_result f_begun f_latest f_inputs (upd a_op (4 * x + gr_mn G x) (nI o)) (upd a_d (4 * x + gr_mn G x) (nI dv)) a_b a_many a_kind a_asks a_target (upd a_a (4 * x + gr_mn G x) a) a_order a_place a_parent a_depths a_living a_needs a_merging a_stack a_next a_before a_frontiers a_in a_out a_nameA a_nameB a_queue a_state a_worth a_usedByExit a_usedBySet a_usedByLow a_usedByHigh a_edges a_now := by
      intro z0 hz
      have hbv : bv < 6 := by
        by_cases q : 1 < o ∧ o < 7
        · exact (hg.2.2.2.2.2.2.2.1 q.1 q.2).1
        · rw [hg.2.2.2.2.2.2.2.2 q]; omega
      rw [wX_add_155, cx, X.2.2.2.1 x hx, hz, fn_c (a := 4 * x + gr_mn G x) (by omega), fb_vb (c := bv) (by omega), nI_1, fb_vb (c := gr_mn G x + 1) (by omega), fb_nI8 (gr_mn G x + 1) (by omega)]
      exact ⟨ii, nm_e ⟨ix, ix, nm_e (K2 x o dv av bv hg (by omega))⟩⟩
    refine pk_le o 1 (fun h1 => ?_) (fun h1 => pk_le 7 o (fun h7 => ?_) (fun h7 => ?_))
    · rw [wX_add_154]
      exact k155 0 (by rw [hg.2.2.2.2.2.2.2.2 (by omega)]; rfl)
    · rw [wX_add_154]
      exact k155 0 (by rw [hg.2.2.2.2.2.2.2.2 (by omega)]; rfl)
    · exact k155 c (hg.2.2.2.2.2.2.2.1 h1 h7).2
  refine pk_eq o 0 (fun h0 => k66 0 0 ⟨hx, rfl, ho, rfl, hd, rfl, fun z => absurd h0 z, fun z => by omega, fun _ => rfl⟩) (fun h0 => pk_eq o 7 (fun h7 => k66 0 0 ⟨hx, rfl, ho, rfl, hd, rfl, fun _ z => absurd h7 z, fun _ z => by omega, fun _ => rfl⟩) (fun h7 => yo_among (n := 6) rfl (by omega) (fun h => br_t rfl (k70 (fun av bv z => h av (z.2.2.2.2.2.2.1 h0 h7).1 (z.2.2.2.2.2.2.1 h0 h7).2))) (fun av hav eav => br_f (by decide) (pk_eq o 1 (fun h1 => k66 av 0 ⟨hx, rfl, ho, rfl, hd, rfl, fun _ _ => ⟨hav, eav⟩, fun z => by omega, fun _ => rfl⟩) (fun h1 => yo_among (n := 6) rfl (by omega) (fun h => br_t rfl (k70 (fun av bv z => h bv (z.2.2.2.2.2.2.2.1 (by omega) (by omega)).1 (z.2.2.2.2.2.2.2.1 (by omega) (by omega)).2))) (fun bv hbv ebv => br_f (by decide) (k66 av bv ⟨hx, rfl, ho, rfl, hd, rfl, fun _ _ => ⟨hav, eav⟩, fun _ _ => ⟨hbv, ebv⟩, fun z => absurd ⟨by omega, by omega⟩ z⟩)))))))
end
section
variable {f_n f_k f_met f_result f_begun f_last : Int32} {a_many a_op a_d a_a a_b a_kind a_used a_first a_second a_living a_needed a_rules a_edges a_open a_variable : Nat → Int32} {a_begin a_now : Nat → Int64}
variable {G : gr_T}
theorem ya_add {post : Int32 → SY → Prop} {b op d a c : Int32} (Y : yp_ok G f_n f_k a_many a_op a_d a_a a_b a_kind a_used a_first a_second) (K0 : (∀ x o dv av bv, ¬ ad_g G b op d a c x o dv av bv) → post (-1) (f_n, f_k, f_met, f_result, f_begun, f_last, a_many, a_op, a_d, a_a, a_b, a_kind, a_used, a_first, a_second, a_living, a_needed, a_rules, a_edges, a_begin, a_now, a_open, a_variable)) (K1 : ∀ x o dv av bv, ad_g G b op d a c x o dv av bv → gr_mn G x = 4 → post (-2) (f_n, f_k, f_met, f_result, f_begun, f_last, a_many, a_op, a_d, a_a, a_b, a_kind, a_used, a_first, a_second, a_living, a_needed, a_rules, a_edges, a_begin, a_now, a_open, a_variable)) (K2 : ∀ x o dv av bv, ad_g G b op d a c x o dv av bv → gr_mn G x < 4 → post (nI (gr_mn G x + 1)) (f_n, f_k, f_met, f_result, f_begun, f_last, upd a_many x (nI (gr_mn G x + 1)), upd a_op (4 * x + gr_mn G x) (nI o), upd a_d (4 * x + gr_mn G x) (nI dv), upd a_a (4 * x + gr_mn G x) a, upd a_b (4 * x + gr_mn G x) c, a_kind, a_used, a_first, a_second, a_living, a_needed, a_rules, a_edges, a_begin, a_now, a_open, a_variable)) : wpY_add post (f_n, f_k, f_met, f_result, f_begun, f_last, a_many, a_op, a_d, a_a, a_b, a_kind, a_used, a_first, a_second, a_living, a_needed, a_rules, a_edges, a_begin, a_now, a_open, a_variable) b op d a c := by
  have ok := Y.1
  have hn16 := ok.1
  unfold wpY_add
  dsimp only
  refine yo_out Y.2.1 (by omega) (fun h => br_f (by decide) (K0 (fun x o dv av bv z => h x z.1 z.2.1))) (fun x hx ex => br_t rfl (yo_out (n := 8) rfl (by omega) (fun h => br_f (by decide) (K0 (fun x o dv av bv z => h o z.2.2.1 z.2.2.2.1))) (fun o ho eo => br_t rfl (yo_out (n := 6) rfl (by omega) (fun h => br_f (by decide) (K0 (fun x o dv av bv z => h dv z.2.2.2.2.1 z.2.2.2.2.2.1))) (fun dv hd ed => br_t rfl ?_)))))
  subst ex
  subst eo
  subst ed
  have h4 := (ok.2.2 x hx).1
  have ix : vp_in (nI x) 16 := vp_in_nI (by omega) (by omega)
  have cx := fn_c (a := x) (by omega)
  have bad : (∀ av bv, ¬ ad_g G (nI x) (nI o) (nI dv) a c x o dv av bv) → post (-1) (f_n, f_k, f_met, f_result, f_begun, f_last, a_many, a_op, a_d, a_a, a_b, a_kind, a_used, a_first, a_second, a_living, a_needed, a_rules, a_edges, a_begin, a_now, a_open, a_variable) := by
    intro h
    refine K0 (fun x' o' dv' av bv z => h av bv ?_)
    have e1 := fn_inj (by omega) (by have := z.1; omega) z.2.1
    have e2 := fn_inj (by omega) (by have := z.2.2.1; omega) z.2.2.2.1
    have e3 := fn_inj (by omega) (by have := z.2.2.2.2.1; omega) z.2.2.2.2.2.1
    subst e1
    subst e2
    subst e3
    exact z
  have k72 : ∀ av bv, ad_g G (nI x) (nI o) (nI dv) a c x o dv av bv → wY_add_72 post (nI x) (nI o) (nI dv) a c f_n f_k f_met f_result f_begun f_last a_many a_op a_d a_a a_b a_kind a_used a_first a_second a_living a_needed a_rules a_edges a_begin a_now a_open a_variable := by
    intro av bv hg
    rw [wY_add_72, cx, Y.2.2.2.1 x hx]
    refine ⟨ix, pk_eq (gr_mn G x) 4 (fun h => K1 x o dv av bv hg h) (fun h => ⟨ix, ix, ?_⟩)⟩
    have ii : vp_in (nI (4 * x + gr_mn G x)) 64 := vp_in_nI (by omega) (by omega)
    refine nm_r (e' := upd a_many x (nI (gr_mn G x + 1))) (by rw [nI_1]) (nm_r (fn_42 x (gr_mn G x)) ?_)
    rw [fn_c (a := 4 * x + gr_mn G x) (by omega), pk_us]
    exact ⟨ii, nm_e ⟨ii, nm_e ⟨ii, nm_e ⟨ii, nm_e ⟨ix, K2 x o dv av bv hg (by omega)⟩⟩⟩⟩⟩
  have k49 : (∃ av, o ≠ 0 → o ≠ 7 → av < 6 ∧ a = nI av) → wY_add_49 post (nI x) (nI o) (nI dv) a c f_n f_k f_met f_result f_begun f_last a_many a_op a_d a_a a_b a_kind a_used a_first a_second a_living a_needed a_rules a_edges a_begin a_now a_open a_variable := by
    rintro ⟨av, hav⟩
    rw [wY_add_49]
    refine pk_le o 1 (fun h1 => k72 av 0 ⟨hx, rfl, ho, rfl, hd, rfl, hav, fun z => by omega, fun _ => rfl⟩) (fun h1 => pk_le 7 o (fun h7 => k72 av 0 ⟨hx, rfl, ho, rfl, hd, rfl, hav, fun _ z => by omega, fun _ => rfl⟩) (fun h7 => yo_out (n := 6) rfl (by omega) (fun h => br_f (by decide) (bad (fun av bv z => h bv (z.2.2.2.2.2.2.2.1 (by omega) (by omega)).1 (z.2.2.2.2.2.2.2.1 (by omega) (by omega)).2))) (fun bv hbv ebv => br_t rfl (k72 av bv ⟨hx, rfl, ho, rfl, hd, rfl, hav, fun _ _ => ⟨hbv, ebv⟩, fun z => absurd ⟨by omega, by omega⟩ z⟩))))
  refine pk_le o 0 (fun h0 => k49 ⟨0, fun z => absurd z (by omega)⟩) (fun h0 => pk_le 7 o (fun h7 => k49 ⟨0, fun _ z => absurd z (by omega)⟩) (fun h7 => yo_out (n := 6) rfl (by omega) (fun h => br_f (by decide) (bad (fun av bv z => h av (z.2.2.2.2.2.2.1 (by omega) (by omega)).1 (z.2.2.2.2.2.2.1 (by omega) (by omega)).2))) (fun av hav eav => br_t rfl (k49 ⟨av, fun _ _ => ⟨hav, eav⟩⟩))))
end
theorem ad_u {G : gr_T} (ok : gr_ok G) {b op d a c : Int32} {x o dv av bv x' o' dv' av' bv' : Nat} (h : ad_g G b op d a c x o dv av bv) (h' : ad_g G b op d a c x' o' dv' av' bv') : x' = x ∧ o' = o ∧ dv' = dv ∧ bv' = bv := by
  have hn16 := ok.1
  have a1 := h.1
  have a2 := h'.1
  have a3 := h.2.2.1
  have a4 := h'.2.2.1
  have a5 := h.2.2.2.2.1
  have a6 := h'.2.2.2.2.1
  have e1 : x' = x := fn_inj (by omega) (by omega) (h'.2.1.symm.trans h.2.1)
  have e2 : o' = o := fn_inj (by omega) (by omega) (h'.2.2.2.1.symm.trans h.2.2.2.1)
  have e3 : dv' = dv := fn_inj (by omega) (by omega) (h'.2.2.2.2.2.1.symm.trans h.2.2.2.2.2.1)
  refine ⟨e1, e2, e3, ?_⟩
  subst e2
  by_cases q : 1 < o' ∧ o' < 7
  · have p1 := h.2.2.2.2.2.2.2.1 q.1 q.2
    have p2 := h'.2.2.2.2.2.2.2.1 q.1 q.2
    exact fn_inj (by omega) (by omega) (p2.2.symm.trans p1.2)
  · rw [h.2.2.2.2.2.2.2.2 q, h'.2.2.2.2.2.2.2.2 q]
theorem i_vc_add {k : Nat} {u : SX} {v : SY} (I : i_Rel k u v) (hk : k + 6 ≤ 3072) (v1 : Int32) (v2 : Int32) (v3 : Int32) (v4 : Int32) (v5 : Int32) : wpX_add (fun r u' => wpY_add (fun r' v' => r' = r ∧ i_Rel (k + 6) u' v') v v1 v2 v3 v4 v5) u v1 v2 v3 v4 v5 := by
  refine rl_el (Q := fun u v => wpX_add (fun r u' => wpY_add (fun r' v' => r' = r ∧ i_Rel (k + 6) u' v') v v1 v2 v3 v4 v5) u v1 v2 v3 v4 v5) ?_ I
  intro G f_blocks f_given f_known f_met f_openEdges f_openBlocks f_first f_last f_openCount f_firstEdge f_lastEdge f_result f_begun f_latest f_inputs a_op a_d a_b a_many a_kind a_asks a_target a_a a_order a_place a_parent a_depths a_living a_needs a_merging a_stack a_next a_before a_frontiers a_in a_out a_nameA a_nameB a_queue a_state a_worth a_usedByExit a_usedBySet a_usedByLow a_usedByHigh a_edges a_now f_n' f_k' f_met' f_result' f_begun' f_last' a_many' a_op' a_d' a_a' a_b' a_kind' a_used' a_first' a_second' a_living' a_needed' a_rules' a_edges' a_begin' a_now' a_open' a_variable' X hkn Y e1 e2 e3
  have ok := X.1
  have hn16 := ok.1
  refine xa_add X (fun h => ya_add Y (fun _ => ⟨rfl, rl_in X hkn Y e1 e2 e3⟩) (fun x o dv av bv z => absurd z (h x o dv av bv)) (fun x o dv av bv z => absurd z (h x o dv av bv))) (fun x o dv av bv hg hm => ya_add Y (fun h => absurd hg (h x o dv av bv)) (fun x' o' dv' av' bv' hg' _ => ⟨rfl, rl_in X hkn Y e1 e2 e3⟩) (fun x' o' dv' av' bv' hg' hm' => ?_)) (fun x o dv av bv hg hm => ya_add Y (fun h => absurd hg (h x o dv av bv)) (fun x' o' dv' av' bv' hg' hm' => ?_) (fun x' o' dv' av' bv' hg' hm' => ?_))
  · have := (ad_u ok hg hg').1
    rw [this] at hm'
    omega
  · have := (ad_u ok hg hg').1
    rw [this] at hm'
    omega
  · obtain ⟨u1, u2, u3, u4⟩ := ad_u ok hg hg'
    subst u1
    subst u2
    subst u3
    subst u4
    refine ⟨rfl, ?_⟩
    have hx := hg.1
    have h4 := (ok.2.2 x' hx).1
    have hbv : bv' < 6 := by
      by_cases q : 1 < o' ∧ o' < 7
      · exact (hg.2.2.2.2.2.2.2.1 q.1 q.2).1
      · rw [hg.2.2.2.2.2.2.2.2 q]; omega
    have hinj : ∀ y j, y < gr_n G → j < gr_mn G y → 4 * y + j ≠ 4 * x' + gr_mn G x' := by
      intro y j hy hj e
      have hy4 := (ok.2.2 y hy).1
      have ey : y = x' := by omega
      subst ey
      omega
    have okG : gr_ok (gr_n G, gr_k G, un_ (gr_mn G) x' (gr_mn G x' + 1), gr_kd G, gr_ak G, gr_tg G, un_ (gr_op G) (4 * x' + gr_mn G x') o', upd (gr_aa G) (4 * x' + gr_mn G x') v4, un_ (gr_dd G) (4 * x' + gr_mn G x') dv', un_ (gr_bb G) (4 * x' + gr_mn G x') bv') := by
      refine ⟨hn16, ok.2.1, fun y hy => ?_⟩
      have hB := ok.2.2 y hy
      refine ⟨show un_ (gr_mn G) x' (gr_mn G x' + 1) y ≤ 4 from ?_, hB.2.1, hB.2.2.1, hB.2.2.2.1, fun j (hj : j < un_ (gr_mn G) x' (gr_mn G x' + 1) y) => ?_⟩
      · by_cases e : y = x'
        · rw [e, un_s]; omega
        · rw [un_n e]; exact hB.1
      · show un_ (gr_op G) (4 * x' + gr_mn G x') o' (4 * y + j) < 8 ∧ un_ (gr_dd G) (4 * x' + gr_mn G x') dv' (4 * y + j) < 6 ∧ un_ (gr_bb G) (4 * x' + gr_mn G x') bv' (4 * y + j) < 6 ∧ (un_ (gr_op G) (4 * x' + gr_mn G x') o' (4 * y + j) ≠ 0 → un_ (gr_op G) (4 * x' + gr_mn G x') o' (4 * y + j) ≠ 7 → upd (gr_aa G) (4 * x' + gr_mn G x') v4 (4 * y + j) = nI (upd (gr_aa G) (4 * x' + gr_mn G x') v4 (4 * y + j)).toNatClampNeg ∧ (upd (gr_aa G) (4 * x' + gr_mn G x') v4 (4 * y + j)).toNatClampNeg < 6)
        by_cases e : 4 * y + j = 4 * x' + gr_mn G x'
        · rw [e, un_s, un_s, un_s, pk_us]
          refine ⟨hg.2.2.1, hg.2.2.2.2.1, hbv, fun q1 q2 => ?_⟩
          obtain ⟨p1, p2⟩ := hg.2.2.2.2.2.2.1 q1 q2
          rw [p2, fn_c (by omega)]
          exact ⟨rfl, p1⟩
        · rw [un_n e, un_n e, un_n e, pk_un e]
          refine hB.2.2.2.2 j ?_
          by_cases ey : y = x'
          · rw [ey, un_s] at hj
            rw [ey] at e ⊢
            omega
          · rw [un_n ey] at hj; exact hj
    have upm : ∀ (f : Nat → Int32), (∀ y, y < gr_n G → f y = nI (gr_mn G y)) → ∀ y, y < gr_n G → upd f x' (nI (gr_mn G x' + 1)) y = nI (un_ (gr_mn G) x' (gr_mn G x' + 1) y) := by
      intro f hf y hy
      by_cases e : y = x'
      · rw [e, pk_us, un_s]
      · rw [pk_un e, un_n e]; exact hf y hy
    have lt : ∀ y j, j < un_ (gr_mn G) x' (gr_mn G x' + 1) y → (4 * y + j = 4 * x' + gr_mn G x' ∧ y = x') ∨ j < gr_mn G y := by
      intro y j hj
      by_cases e : y = x'
      · rw [e, un_s] at hj
        rcases Nat.lt_or_ge j (gr_mn G x') with z | z
        · exact Or.inr (by rw [e]; exact z)
        · exact Or.inl ⟨by rw [e]; omega, e⟩
      · rw [un_n e] at hj; exact Or.inr hj
    refine rl_in (G := (gr_n G, gr_k G, un_ (gr_mn G) x' (gr_mn G x' + 1), gr_kd G, gr_ak G, gr_tg G, un_ (gr_op G) (4 * x' + gr_mn G x') o', upd (gr_aa G) (4 * x' + gr_mn G x') v4, un_ (gr_dd G) (4 * x' + gr_mn G x') dv', un_ (gr_bb G) (4 * x' + gr_mn G x') bv')) ⟨okG, X.2.1, X.2.2.1, upm _ X.2.2.2.1, X.2.2.2.2.1, X.2.2.2.2.2.1, X.2.2.2.2.2.2.1, fun y j hy hj => ?_⟩ (Or.inl rfl) ⟨okG, Y.2.1, Y.2.2.1, upm _ Y.2.2.2.1, Y.2.2.2.2.1, Y.2.2.2.2.2.1, Y.2.2.2.2.2.2.1, fun y j hy hj => ?_⟩ e1 e2 e3
    · show upd a_op (4 * x' + gr_mn G x') (nI o') (4 * y + j) = nI (un_ (gr_op G) (4 * x' + gr_mn G x') o' (4 * y + j)) ∧ upd a_d (4 * x' + gr_mn G x') (nI dv') (4 * y + j) = nI (un_ (gr_dd G) (4 * x' + gr_mn G x') dv' (4 * y + j)) ∧ upd a_a (4 * x' + gr_mn G x') v4 (4 * y + j) = upd (gr_aa G) (4 * x' + gr_mn G x') v4 (4 * y + j) ∧ upd a_b (4 * x' + gr_mn G x') (nI bv') (4 * y + j) = nI (un_ (gr_bb G) (4 * x' + gr_mn G x') bv' (4 * y + j))
      rcases lt y j hj with ⟨z, _⟩ | z
      · rw [z, pk_us, pk_us, pk_us, pk_us, pk_us, un_s, un_s, un_s]
        exact ⟨rfl, rfl, rfl, rfl⟩
      · have hne := hinj y j hy z
        rw [pk_un hne, pk_un hne, pk_un hne, pk_un hne, pk_un hne, un_n hne, un_n hne, un_n hne]
        exact X.2.2.2.2.2.2.2 y j hy z
    · show upd a_op' (4 * x' + gr_mn G x') (nI o') (4 * y + j) = nI (un_ (gr_op G) (4 * x' + gr_mn G x') o' (4 * y + j)) ∧ upd a_d' (4 * x' + gr_mn G x') (nI dv') (4 * y + j) = nI (un_ (gr_dd G) (4 * x' + gr_mn G x') dv' (4 * y + j)) ∧ upd a_a' (4 * x' + gr_mn G x') v4 (4 * y + j) = upd (gr_aa G) (4 * x' + gr_mn G x') v4 (4 * y + j) ∧ (1 < un_ (gr_op G) (4 * x' + gr_mn G x') o' (4 * y + j) → un_ (gr_op G) (4 * x' + gr_mn G x') o' (4 * y + j) < 7 → upd a_b' (4 * x' + gr_mn G x') v5 (4 * y + j) = nI (un_ (gr_bb G) (4 * x' + gr_mn G x') bv' (4 * y + j)))
      rcases lt y j hj with ⟨z, _⟩ | z
      · rw [z, pk_us, pk_us, pk_us, pk_us, pk_us, un_s, un_s, un_s]
        exact ⟨rfl, rfl, rfl, fun q1 q2 => (hg.2.2.2.2.2.2.2.1 q1 q2).2⟩
      · have hne := hinj y j hy z
        rw [pk_un hne, pk_un hne, pk_un hne, pk_un hne, pk_un hne, un_n hne, un_n hne, un_n hne]
        exact Y.2.2.2.2.2.2.2 y j hy z
end
section
/-! an exit -/
def ex_g (G : gr_T) (b kd v t e : Int32) (x kn w tn en : Nat) : Prop := x < gr_n G ∧ b = nI x ∧ kn < 3 ∧ kd = nI kn ∧ (kn ≠ 1 → w < 6 ∧ v = nI w) ∧ (kn = 1 → w = 0) ∧ (kn ≠ 0 → 1 ≤ tn ∧ tn < gr_n G ∧ t = nI tn) ∧ (kn = 0 → tn = 0) ∧ (kn = 2 → 1 ≤ en ∧ en < gr_n G ∧ e = nI en) ∧ (kn ≠ 2 → en = 0)
theorem ex_u {G : gr_T} (ok : gr_ok G) {b kd v t e : Int32} {x kn w tn en x' kn' w' tn' en' : Nat} (h : ex_g G b kd v t e x kn w tn en) (h' : ex_g G b kd v t e x' kn' w' tn' en') : x' = x ∧ kn' = kn ∧ w' = w ∧ tn' = tn ∧ en' = en := by
  have hn16 := ok.1
  obtain ⟨a1, a2, a3, a4, a5, a6, a7, a8, a9, a10⟩ := h
  obtain ⟨b1, b2, b3, b4, b5, b6, b7, b8, b9, b10⟩ := h'
  have e1 : x' = x := fn_inj (by omega) (by omega) (b2.symm.trans a2)
  have e2 : kn' = kn := fn_inj (by omega) (by omega) (b4.symm.trans a4)
  subst e2
  refine ⟨e1, rfl, ?_, ?_, ?_⟩
  · by_cases q : kn' = 1
    · rw [a6 q, b6 q]
    · have p1 := a5 q
      have p2 := b5 q
      exact fn_inj (by omega) (by omega) (p2.2.symm.trans p1.2)
  · by_cases q : kn' = 0
    · rw [a8 q, b8 q]
    · have p1 := a7 q
      have p2 := b7 q
      exact fn_inj (by omega) (by omega) (p2.2.2.symm.trans p1.2.2)
  · by_cases q : kn' = 2
    · have p1 := a9 q
      have p2 := b9 q
      exact fn_inj (by omega) (by omega) (p2.2.2.symm.trans p1.2.2)
    · rw [a10 q, b10 q]
/-- a raw number from 1 below n -/
theorem ex_t (t : Int32) {n : Nat} (hn : n < 2 ^ 31) : t < 1 ∨ (¬ t < 1 ∧ nI n ≤ t) ∨ ∃ j, 1 ≤ j ∧ j < n ∧ t = nI j := by
  by_cases h : t < 1
  · exact Or.inl h
  · refine Or.inr ?_
    have h0 : ¬ t < 0 := fun z => h (Int32.lt_of_lt_of_le z (by decide))
    obtain ⟨j, hj, rfl⟩ := nI_of h0
    have hj1 : 1 ≤ j := by
      rcases Nat.lt_or_ge j 1 with z | z
      · exact absurd (show nI j < nI 1 from nI_lt z (by omega)) h
      · exact z
    rcases Nat.lt_or_ge j n with z | z
    · exact Or.inr ⟨j, hj1, z, rfl⟩
    · exact Or.inl ⟨h, nI_le z hj⟩
theorem ex_n1 {j : Nat} (h : 1 ≤ j) (hj : j < 2 ^ 31) : ¬ nI j < 1 := nI_nlt (b := 1) h hj
section
variable {f_blocks f_given f_known f_met f_openEdges f_openBlocks f_first f_last f_openCount f_firstEdge f_lastEdge f_result f_begun f_latest f_inputs : Int32} {a_op a_d a_b a_many a_kind a_asks a_target a_a a_order a_place a_parent a_depths a_living a_needs a_merging a_stack a_next a_before a_frontiers a_in a_out a_nameA a_nameB a_queue a_state a_worth a_usedByExit a_edges a_now : Nat → Int32} {a_usedBySet a_usedByLow a_usedByHigh : Nat → Int64}
variable {G : gr_T}
theorem xx_exit {post : Int32 → SX → Prop} {b kd v t e : Int32} (X : xp_ok G f_blocks f_given a_op a_d a_b a_many a_kind a_asks a_target a_a) (K0 : (∀ x kn w tn en, ¬ ex_g G b kd v t e x kn w tn en) → post 0 (f_blocks, f_given, f_known, f_met, f_openEdges, f_openBlocks, f_first, f_last, f_openCount, f_firstEdge, f_lastEdge, f_result, f_begun, f_latest, f_inputs, a_op, a_d, a_b, a_many, a_kind, a_asks, a_target, a_a, a_order, a_place, a_parent, a_depths, a_living, a_needs, a_merging, a_stack, a_next, a_before, a_frontiers, a_in, a_out, a_nameA, a_nameB, a_queue, a_state, a_worth, a_usedByExit, a_usedBySet, a_usedByLow, a_usedByHigh, a_edges, a_now)) (K1 : ∀ x kn w tn en, ex_g G b kd v t e x kn w tn en → post 1 (f_blocks, f_given, 0, f_met, f_openEdges, f_openBlocks, f_first, f_last, f_openCount, f_firstEdge, f_lastEdge, f_result, f_begun, f_latest, f_inputs, a_op, a_d, a_b, a_many, upd a_kind x (nI kn), upd a_asks x (nI w), upd (upd a_target (2 * x) (nI tn)) (2 * x + 1) (nI en), a_a, a_order, a_place, a_parent, a_depths, a_living, a_needs, a_merging, a_stack, a_next, a_before, a_frontiers, a_in, a_out, a_nameA, a_nameB, a_queue, a_state, a_worth, a_usedByExit, a_usedBySet, a_usedByLow, a_usedByHigh, a_edges, a_now)) : wpX_exit post (f_blocks, f_given, f_known, f_met, f_openEdges, f_openBlocks, f_first, f_last, f_openCount, f_firstEdge, f_lastEdge, f_result, f_begun, f_latest, f_inputs, a_op, a_d, a_b, a_many, a_kind, a_asks, a_target, a_a, a_order, a_place, a_parent, a_depths, a_living, a_needs, a_merging, a_stack, a_next, a_before, a_frontiers, a_in, a_out, a_nameA, a_nameB, a_queue, a_state, a_worth, a_usedByExit, a_usedBySet, a_usedByLow, a_usedByHigh, a_edges, a_now) b kd v t e := by
  have ok := X.1
  have hn16 := ok.1
  have eb := X.2.1
  unfold wpX_exit
  dsimp only
  refine yo_among eb (by omega) (fun h => br_t rfl (K0 (fun x kn w tn en z => h x z.1 z.2.1))) (fun x hx ex => br_f (by decide) (yo_among (n := 3) rfl (by omega) (fun h => br_t rfl (K0 (fun x kn w tn en z => h kn z.2.2.1 z.2.2.2.1))) (fun kn hkn ekn => br_f (by decide) ?_)))
  subst ex
  subst ekn
  have ix : vp_in (nI x) 16 := vp_in_nI (by omega) (by omega)
  have cx := fn_c (a := x) (by omega)
  have bad : (∀ w tn en, ¬ ex_g G (nI x) (nI kn) v t e x kn w tn en) → post 0 (f_blocks, f_given, f_known, f_met, f_openEdges, f_openBlocks, f_first, f_last, f_openCount, f_firstEdge, f_lastEdge, f_result, f_begun, f_latest, f_inputs, a_op, a_d, a_b, a_many, a_kind, a_asks, a_target, a_a, a_order, a_place, a_parent, a_depths, a_living, a_needs, a_merging, a_stack, a_next, a_before, a_frontiers, a_in, a_out, a_nameA, a_nameB, a_queue, a_state, a_worth, a_usedByExit, a_usedBySet, a_usedByLow, a_usedByHigh, a_edges, a_now) := by
    intro h
    refine K0 (fun x' kn' w tn en z => h w tn en ?_)
    have e1 := fn_inj (by omega) (by have := z.1; omega) z.2.1
    have e2 := fn_inj (by omega) (by have := z.2.2.1; omega) z.2.2.2.1
    subst e1
    subst e2
    exact z
  have k76 : ∀ w tn en, ex_g G (nI x) (nI kn) v t e x kn w tn en → wX_exit_76 post (nI x) (nI kn) v t e f_blocks f_given f_known f_met f_openEdges f_openBlocks f_first f_last f_openCount f_firstEdge f_lastEdge f_result f_begun f_latest f_inputs a_op a_d a_b a_many a_kind a_asks a_target a_a a_order a_place a_parent a_depths a_living a_needs a_merging a_stack a_next a_before a_frontiers a_in a_out a_nameA a_nameB a_queue a_state a_worth a_usedByExit a_usedBySet a_usedByLow a_usedByHigh a_edges a_now := by
    intro w tn en hg
    obtain ⟨_, _, _, _, a5, a6, a7, a8, a9, a10⟩ := id hg
    have hw : w < 6 := by
      by_cases q : kn = 1
      · rw [a6 q]; omega
      · exact (a5 q).1
    have htn : tn < 16 := by
      by_cases q : kn = 0
      · rw [a8 q]; omega
      · have := (a7 q).2.1; omega
    have hen : en < 16 := by
      by_cases q : kn = 2
      · have := (a9 q).2.1; omega
      · rw [a10 q]; omega
    have k118' : ∀ z0 : Int32, z0 = nI tn → wX_exit_118 post (nI x) (nI kn) e z0 (2 * nI x) f_blocks f_given f_known f_met f_openEdges f_openBlocks f_first f_last f_openCount f_firstEdge f_lastEdge f_result f_begun f_latest f_inputs a_op a_d a_b a_many (upd a_kind x (nI kn)) (upd a_asks x (nI w)) a_target a_a a_order a_place a_parent a_depths a_living a_needs a_merging a_stack a_next a_before a_frontiers a_in a_out a_nameA a_nameB a_queue a_state a_worth a_usedByExit a_usedBySet a_usedByLow a_usedByHigh a_edges a_now := by
      intro z0 hz
      rw [wX_exit_118, hz, fn_2, nI_1, fn_c (a := 2 * x) (by omega), fn_c (a := 2 * x + 1) (by omega), fb_vb (c := tn) (by omega)]
      have i1 : vp_in (nI (2 * x + 1)) 32 := vp_in_nI (by omega) (by omega)
      refine ⟨vp_in_nI (by omega) (by omega), nm_e (pk_eq kn 2 (fun q => ⟨i1, nm_r (e' := upd (upd a_target (2 * x) (nI tn)) (2 * x + 1) (nI en)) ?_ (K1 x kn w tn en hg)⟩) (fun q => ⟨i1, nm_r (e' := upd (upd a_target (2 * x) (nI tn)) (2 * x + 1) (nI en)) ?_ (K1 x kn w tn en hg)⟩))⟩
      · rw [(a9 q).2.2, fb_vb (c := en) (by omega)]
      · rw [a10 q, show (0 : Int32) = nI 0 from rfl, fb_vb (c := 0) (by omega)]
    have k99 : ∀ z0 : Int32, z0 = nI w → wX_exit_99 post (nI x) (nI kn) t e z0 (nI x) f_blocks f_given f_known f_met f_openEdges f_openBlocks f_first f_last f_openCount f_firstEdge f_lastEdge f_result f_begun f_latest f_inputs a_op a_d a_b a_many (upd a_kind x (nI kn)) a_asks a_target a_a a_order a_place a_parent a_depths a_living a_needs a_merging a_stack a_next a_before a_frontiers a_in a_out a_nameA a_nameB a_queue a_state a_worth a_usedByExit a_usedBySet a_usedByLow a_usedByHigh a_edges a_now := by
      intro z0 hz
      rw [wX_exit_99, hz, cx, fb_vb (c := w) (by omega)]
      refine ⟨ix, nm_e (pk_eq kn 0 (fun q => k118' 0 ?_) (fun q => k118' t (a7 q).2.2))⟩
      rw [a8 q]; rfl
    rw [wX_exit_76, cx, fb_vb (c := kn) (by omega)]
    refine ⟨ix, nm_e (pk_eq kn 1 (fun q => k99 0 ?_) (fun q => k99 v (a5 q).2))⟩
    rw [a6 q]; rfl
  have k54 : ∀ w tn, (kn ≠ 1 → w < 6 ∧ v = nI w) → (kn = 1 → w = 0) → (kn ≠ 0 → 1 ≤ tn ∧ tn < gr_n G ∧ t = nI tn) → (kn = 0 → tn = 0) → wX_exit_54 post (nI x) (nI kn) v t e f_blocks f_given f_known f_met f_openEdges f_openBlocks f_first f_last f_openCount f_firstEdge f_lastEdge f_result f_begun f_latest f_inputs a_op a_d a_b a_many a_kind a_asks a_target a_a a_order a_place a_parent a_depths a_living a_needs a_merging a_stack a_next a_before a_frontiers a_in a_out a_nameA a_nameB a_queue a_state a_worth a_usedByExit a_usedBySet a_usedByLow a_usedByHigh a_edges a_now := by
    intro w tn h1 h2 h3 h4
    rw [wX_exit_54, eb]
    refine pk_eq kn 2 (fun q => ?_) (fun q => ?_)
    · rcases ex_t e (n := gr_n G) (by omega) with z | ⟨z1, z2⟩ | ⟨en, z1, z2, z3⟩
      · refine br_t z ?_
        rw [← eb]
        refine bad (fun w tn en g => ?_)
        obtain ⟨p1, p2, p3⟩ := g.2.2.2.2.2.2.2.2.1 q
        rw [p3] at z
        exact ex_n1 p1 (by omega) z
      · refine br_f z1 (br_f (Int32.not_lt.mpr z2) ?_)
        rw [← eb]
        refine bad (fun w tn en g => ?_)
        obtain ⟨p1, p2, p3⟩ := g.2.2.2.2.2.2.2.2.1 q
        rw [p3] at z2
        exact absurd z2 (nI_ge p2 (by omega))
      · refine br_f (by rw [z3]; exact ex_n1 z1 (by omega)) (br_t (by rw [z3]; exact nI_lt z2 (by omega)) ?_)
        rw [← eb]
        exact k76 w tn en ⟨hx, rfl, hkn, rfl, h1, h2, h3, h4, fun _ => ⟨z1, z2, z3⟩, fun z => absurd q z⟩
    · rw [← eb]
      exact k76 w tn 0 ⟨hx, rfl, hkn, rfl, h1, h2, h3, h4, fun z => absurd z q, fun _ => rfl⟩
  have k35 : ∀ w, (kn ≠ 1 → w < 6 ∧ v = nI w) → (kn = 1 → w = 0) → wX_exit_35 post (nI x) (nI kn) v t e f_blocks f_given f_known f_met f_openEdges f_openBlocks f_first f_last f_openCount f_firstEdge f_lastEdge f_result f_begun f_latest f_inputs a_op a_d a_b a_many a_kind a_asks a_target a_a a_order a_place a_parent a_depths a_living a_needs a_merging a_stack a_next a_before a_frontiers a_in a_out a_nameA a_nameB a_queue a_state a_worth a_usedByExit a_usedBySet a_usedByLow a_usedByHigh a_edges a_now := by
    intro w h1 h2
    rw [wX_exit_35]
    refine pk_eq kn 0 (fun q => k54 w 0 h1 h2 (fun z => absurd q z) (fun _ => rfl)) (fun q => ?_)
    rw [eb]
    rcases ex_t t (n := gr_n G) (by omega) with z | ⟨z1, z2⟩ | ⟨tn, z1, z2, z3⟩
    · refine br_t z ?_
      rw [← eb]
      refine bad (fun w tn en g => ?_)
      obtain ⟨p1, p2, p3⟩ := g.2.2.2.2.2.2.1 q
      rw [p3] at z
      exact ex_n1 p1 (by omega) z
    · refine br_f z1 (br_t z2 ?_)
      rw [← eb]
      refine bad (fun w tn en g => ?_)
      obtain ⟨p1, p2, p3⟩ := g.2.2.2.2.2.2.1 q
      rw [p3] at z2
      exact absurd z2 (nI_ge p2 (by omega))
    · refine br_f (by rw [z3]; exact ex_n1 z1 (by omega)) (br_f (by rw [z3]; exact nI_ge z2 (by omega)) ?_)
      rw [← eb]
      exact k54 w tn h1 h2 (fun _ => ⟨z1, z2, z3⟩) (fun z => absurd z q)
  refine pk_eq kn 1 (fun q => k35 0 (fun z => absurd q z) (fun _ => rfl)) (fun q => yo_among (n := 6) rfl (by omega) (fun h => br_t rfl (bad (fun w tn en g => h w (g.2.2.2.2.1 q).1 (g.2.2.2.2.1 q).2))) (fun w hw ew => br_f (by decide) (k35 w (fun _ => ⟨hw, ew⟩) (fun z => absurd z q))))
end
section
variable {f_n f_k f_met f_result f_begun f_last : Int32} {a_many a_op a_d a_a a_b a_kind a_used a_first a_second a_living a_needed a_rules a_edges a_open a_variable : Nat → Int32} {a_begin a_now : Nat → Int64}
variable {G : gr_T}
theorem yx_exit {post : Int32 → SY → Prop} {b kd v t e : Int32} (Y : yp_ok G f_n f_k a_many a_op a_d a_a a_b a_kind a_used a_first a_second) (K0 : (∀ x kn w tn en, ¬ ex_g G b kd v t e x kn w tn en) → post 0 (f_n, f_k, f_met, f_result, f_begun, f_last, a_many, a_op, a_d, a_a, a_b, a_kind, a_used, a_first, a_second, a_living, a_needed, a_rules, a_edges, a_begin, a_now, a_open, a_variable)) (K1 : ∀ x kn w tn en, ex_g G b kd v t e x kn w tn en → post 1 (f_n, f_k, f_met, f_result, f_begun, f_last, a_many, a_op, a_d, a_a, a_b, upd a_kind x (nI kn), upd a_used x (if kn = 1 then -1 else nI w), upd a_first x t, upd a_second x e, a_living, a_needed, a_rules, a_edges, a_begin, a_now, a_open, a_variable)) : wpY_exit post (f_n, f_k, f_met, f_result, f_begun, f_last, a_many, a_op, a_d, a_a, a_b, a_kind, a_used, a_first, a_second, a_living, a_needed, a_rules, a_edges, a_begin, a_now, a_open, a_variable) b kd v t e := by
  have ok := Y.1
  have hn16 := ok.1
  have eb := Y.2.1
  unfold wpY_exit
  dsimp only
  refine yo_out eb (by omega) (fun h => br_f (by decide) (K0 (fun x kn w tn en z => h x z.1 z.2.1))) (fun x hx ex => br_t rfl (yo_out (n := 3) rfl (by omega) (fun h => br_f (by decide) (K0 (fun x kn w tn en z => h kn z.2.2.1 z.2.2.2.1))) (fun kn hkn ekn => br_t rfl ?_)))
  subst ex
  subst ekn
  have ix : vp_in (nI x) 16 := vp_in_nI (by omega) (by omega)
  have cx := fn_c (a := x) (by omega)
  have bad : (∀ w tn en, ¬ ex_g G (nI x) (nI kn) v t e x kn w tn en) → post 0 (f_n, f_k, f_met, f_result, f_begun, f_last, a_many, a_op, a_d, a_a, a_b, a_kind, a_used, a_first, a_second, a_living, a_needed, a_rules, a_edges, a_begin, a_now, a_open, a_variable) := by
    intro h
    refine K0 (fun x' kn' w tn en z => h w tn en ?_)
    have e1 := fn_inj (by omega) (by have := z.1; omega) z.2.1
    have e2 := fn_inj (by omega) (by have := z.2.2.1; omega) z.2.2.2.1
    subst e1
    subst e2
    exact z
  have k76 : ∀ w tn en, ex_g G (nI x) (nI kn) v t e x kn w tn en → wY_exit_76 post (nI x) (nI kn) v t e f_n f_k f_met f_result f_begun f_last a_many a_op a_d a_a a_b a_kind a_used a_first a_second a_living a_needed a_rules a_edges a_begin a_now a_open a_variable := by
    intro w tn en hg
    obtain ⟨_, _, _, _, a5, a6, a7, a8, a9, a10⟩ := id hg
    have k98 : ∀ z0 : Int32, z0 = (if kn = 1 then -1 else nI w) → wY_exit_98 post (nI x) t e z0 (nI x) f_n f_k f_met f_result f_begun f_last a_many a_op a_d a_a a_b (upd a_kind x (nI kn)) a_used a_first a_second a_living a_needed a_rules a_edges a_begin a_now a_open a_variable := by
      intro z0 hz
      rw [wY_exit_98, hz, cx]
      exact ⟨ix, nm_e ⟨ix, nm_e ⟨ix, nm_e (K1 x kn w tn en hg)⟩⟩⟩
    rw [wY_exit_76, cx]
    refine ⟨ix, nm_e (pk_eq kn 1 (fun q => k98 (-1) ?_) (fun q => k98 v ?_))⟩
    · rw [if_pos q]
    · rw [if_neg q]; exact (a5 q).2
  have k54 : ∀ w tn, (kn ≠ 1 → w < 6 ∧ v = nI w) → (kn = 1 → w = 0) → (kn ≠ 0 → 1 ≤ tn ∧ tn < gr_n G ∧ t = nI tn) → (kn = 0 → tn = 0) → wY_exit_54 post (nI x) (nI kn) v t e f_n f_k f_met f_result f_begun f_last a_many a_op a_d a_a a_b a_kind a_used a_first a_second a_living a_needed a_rules a_edges a_begin a_now a_open a_variable := by
    intro w tn h1 h2 h3 h4
    rw [wY_exit_54, eb]
    refine pk_eq kn 2 (fun q => ?_) (fun q => ?_)
    · rcases ex_t e (n := gr_n G) (by omega) with z | ⟨z1, z2⟩ | ⟨en, z1, z2, z3⟩
      · refine br_t z ?_
        rw [← eb]
        refine bad (fun w tn en g => ?_)
        obtain ⟨p1, p2, p3⟩ := g.2.2.2.2.2.2.2.2.1 q
        rw [p3] at z
        exact ex_n1 p1 (by omega) z
      · refine br_f z1 (br_f (Int32.not_lt.mpr z2) ?_)
        rw [← eb]
        refine bad (fun w tn en g => ?_)
        obtain ⟨p1, p2, p3⟩ := g.2.2.2.2.2.2.2.2.1 q
        rw [p3] at z2
        exact absurd z2 (nI_ge p2 (by omega))
      · refine br_f (by rw [z3]; exact ex_n1 z1 (by omega)) (br_t (by rw [z3]; exact nI_lt z2 (by omega)) ?_)
        rw [← eb]
        exact k76 w tn en ⟨hx, rfl, hkn, rfl, h1, h2, h3, h4, fun _ => ⟨z1, z2, z3⟩, fun z => absurd q z⟩
    · rw [← eb]
      exact k76 w tn 0 ⟨hx, rfl, hkn, rfl, h1, h2, h3, h4, fun z => absurd z q, fun _ => rfl⟩
  have k35 : ∀ w, (kn ≠ 1 → w < 6 ∧ v = nI w) → (kn = 1 → w = 0) → wY_exit_35 post (nI x) (nI kn) v t e f_n f_k f_met f_result f_begun f_last a_many a_op a_d a_a a_b a_kind a_used a_first a_second a_living a_needed a_rules a_edges a_begin a_now a_open a_variable := by
    intro w h1 h2
    rw [wY_exit_35]
    refine pk_eq kn 0 (fun q => k54 w 0 h1 h2 (fun z => absurd q z) (fun _ => rfl)) (fun q => ?_)
    rw [eb]
    rcases ex_t t (n := gr_n G) (by omega) with z | ⟨z1, z2⟩ | ⟨tn, z1, z2, z3⟩
    · refine br_t z ?_
      rw [← eb]
      refine bad (fun w tn en g => ?_)
      obtain ⟨p1, p2, p3⟩ := g.2.2.2.2.2.2.1 q
      rw [p3] at z
      exact ex_n1 p1 (by omega) z
    · refine br_f z1 (br_t z2 ?_)
      rw [← eb]
      refine bad (fun w tn en g => ?_)
      obtain ⟨p1, p2, p3⟩ := g.2.2.2.2.2.2.1 q
      rw [p3] at z2
      exact absurd z2 (nI_ge p2 (by omega))
    · refine br_f (by rw [z3]; exact ex_n1 z1 (by omega)) (br_f (by rw [z3]; exact nI_ge z2 (by omega)) ?_)
      rw [← eb]
      exact k54 w tn h1 h2 (fun _ => ⟨z1, z2, z3⟩) (fun z => absurd z q)
  refine pk_eq kn 1 (fun q => k35 0 (fun z => absurd q z) (fun _ => rfl)) (fun q => yo_out (n := 6) rfl (by omega) (fun h => br_f (by decide) (bad (fun w tn en g => h w (g.2.2.2.2.1 q).1 (g.2.2.2.2.1 q).2))) (fun w hw ew => br_t rfl (k35 w (fun _ => ⟨hw, ew⟩) (fun z => absurd z q))))
end
theorem i_vc_exit {k : Nat} {u : SX} {v : SY} (I : i_Rel k u v) (hk : k + 6 ≤ 3072) (v1 : Int32) (v2 : Int32) (v3 : Int32) (v4 : Int32) (v5 : Int32) : wpX_exit (fun r u' => wpY_exit (fun r' v' => r' = r ∧ i_Rel (k + 6) u' v') v v1 v2 v3 v4 v5) u v1 v2 v3 v4 v5 := by
  refine rl_el (Q := fun u v => wpX_exit (fun r u' => wpY_exit (fun r' v' => r' = r ∧ i_Rel (k + 6) u' v') v v1 v2 v3 v4 v5) u v1 v2 v3 v4 v5) ?_ I
  intro G f_blocks f_given f_known f_met f_openEdges f_openBlocks f_first f_last f_openCount f_firstEdge f_lastEdge f_result f_begun f_latest f_inputs a_op a_d a_b a_many a_kind a_asks a_target a_a a_order a_place a_parent a_depths a_living a_needs a_merging a_stack a_next a_before a_frontiers a_in a_out a_nameA a_nameB a_queue a_state a_worth a_usedByExit a_usedBySet a_usedByLow a_usedByHigh a_edges a_now f_n' f_k' f_met' f_result' f_begun' f_last' a_many' a_op' a_d' a_a' a_b' a_kind' a_used' a_first' a_second' a_living' a_needed' a_rules' a_edges' a_begin' a_now' a_open' a_variable' X hkn Y e1 e2 e3
  have ok := X.1
  have hn16 := ok.1
  refine xx_exit X (fun h => yx_exit Y (fun _ => ⟨rfl, rl_in X hkn Y e1 e2 e3⟩) (fun x kn w tn en z => absurd z (h x kn w tn en))) (fun x kn w tn en hg => yx_exit Y (fun h => absurd hg (h x kn w tn en)) (fun x' kn' w' tn' en' hg' => ⟨rfl, ?_⟩))
  obtain ⟨u1, u2, u3, u4, u5⟩ := ex_u ok hg hg'
  subst u1
  subst u2
  subst u3
  subst u4
  subst u5
  obtain ⟨a1, a2, a3, a4, a5, a6, a7, a8, a9, a10⟩ := hg
  have hw : w' < 6 := by
    by_cases q : kn' = 1
    · rw [a6 q]; omega
    · exact (a5 q).1
  have tgn : ∀ y j, y < gr_n G → y ≠ x' → j < 2 → un_ (un_ (gr_tg G) (2 * x') tn') (2 * x' + 1) en' (2 * y + j) = gr_tg G (2 * y + j) := by
    intro y j _ hne hj
    rw [un_n (by omega), un_n (by omega)]
  have tg0 : un_ (un_ (gr_tg G) (2 * x') tn') (2 * x' + 1) en' (2 * x' + 0) = tn' := by
    rw [un_n (by omega)]
    exact un_s
  have tg1 : un_ (un_ (gr_tg G) (2 * x') tn') (2 * x' + 1) en' (2 * x' + 1) = en' := un_s
  have okG : gr_ok (gr_n G, gr_k G, gr_mn G, un_ (gr_kd G) x' kn', un_ (gr_ak G) x' w', un_ (un_ (gr_tg G) (2 * x') tn') (2 * x' + 1) en', gr_op G, gr_aa G, gr_dd G, gr_bb G) := by
    refine ⟨hn16, ok.2.1, fun y hy => ?_⟩
    have hB := ok.2.2 y hy
    refine ⟨hB.1, show un_ (gr_kd G) x' kn' y < 3 from ?_, show un_ (gr_ak G) x' w' y < 6 from ?_, fun j (hj : j < un_ (gr_kd G) x' kn' y) => ?_, hB.2.2.2.2⟩
    · by_cases q : y = x'
      · rw [q, un_s]; exact a3
      · rw [un_n q]; exact hB.2.1
    · by_cases q : y = x'
      · rw [q, un_s]; exact hw
      · rw [un_n q]; exact hB.2.2.1
    · show 1 ≤ un_ (un_ (gr_tg G) (2 * x') tn') (2 * x' + 1) en' (2 * y + j) ∧ un_ (un_ (gr_tg G) (2 * x') tn') (2 * x' + 1) en' (2 * y + j) < gr_n G
      by_cases q : y = x'
      · rw [q, un_s] at hj
        rw [q]
        rcases (show j = 0 ∨ j = 1 by omega) with z | z
        · rw [z, tg0]
          exact ⟨(a7 (by omega)).1, (a7 (by omega)).2.1⟩
        · rw [z, tg1]
          exact ⟨(a9 (by omega)).1, (a9 (by omega)).2.1⟩
      · rw [un_n q] at hj
        have hk3 := hB.2.1
        rw [tgn y j hy q (by omega)]
        exact hB.2.2.2.1 j hj
  have upk : ∀ (f : Nat → Int32), (∀ y, y < gr_n G → f y = nI (gr_kd G y)) → ∀ y, y < gr_n G → upd f x' (nI kn') y = nI (un_ (gr_kd G) x' kn' y) := by
    intro f hf y hy
    by_cases q : y = x'
    · rw [q, pk_us, un_s]
    · rw [pk_un q, un_n q]; exact hf y hy
  refine rl_in (G := (gr_n G, gr_k G, gr_mn G, un_ (gr_kd G) x' kn', un_ (gr_ak G) x' w', un_ (un_ (gr_tg G) (2 * x') tn') (2 * x' + 1) en', gr_op G, gr_aa G, gr_dd G, gr_bb G)) ⟨okG, X.2.1, X.2.2.1, X.2.2.2.1, upk _ X.2.2.2.2.1, fun y hy => ?_, fun y j hy hj => ?_, X.2.2.2.2.2.2.2⟩ (Or.inl rfl) ⟨okG, Y.2.1, Y.2.2.1, Y.2.2.2.1, upk _ Y.2.2.2.2.1, fun y hy => ?_, fun y hy => ?_, Y.2.2.2.2.2.2.2⟩ e1 e2 e3
  · show upd a_asks x' (nI w') y = nI (un_ (gr_ak G) x' w' y)
    by_cases q : y = x'
    · rw [q, pk_us, un_s]
    · rw [pk_un q, un_n q]; exact X.2.2.2.2.2.1 y hy
  · have hj' : j < un_ (gr_kd G) x' kn' y := hj
    show upd (upd a_target (2 * x') (nI tn')) (2 * x' + 1) (nI en') (2 * y + j) = nI (un_ (un_ (gr_tg G) (2 * x') tn') (2 * x' + 1) en' (2 * y + j))
    by_cases q : y = x'
    · rw [q, un_s] at hj'
      rw [q]
      rcases (show j = 0 ∨ j = 1 by omega) with z | z
      · rw [z, tg0, pk_un (by omega)]
        exact pk_us
      · rw [z, tg1, pk_us]
    · rw [un_n q] at hj'
      have hk3 := (ok.2.2 y hy).2.1
      rw [tgn y j hy q (by omega), pk_un (by omega), pk_un (by omega)]
      exact X.2.2.2.2.2.2.1 y j hy hj'
  · show (un_ (gr_kd G) x' kn' y = 1 → upd a_used' x' (if kn' = 1 then -1 else nI w') y = -1) ∧ (un_ (gr_kd G) x' kn' y ≠ 1 → upd a_used' x' (if kn' = 1 then -1 else nI w') y = nI (un_ (gr_ak G) x' w' y))
    by_cases q : y = x'
    · rw [q, pk_us, un_s, un_s]
      exact ⟨fun z => by rw [if_pos z], fun z => by rw [if_neg z]⟩
    · rw [pk_un q, un_n q, un_n q]; exact Y.2.2.2.2.2.1 y hy
  · show (0 < un_ (gr_kd G) x' kn' y → upd a_first' x' v4 y = nI (un_ (un_ (gr_tg G) (2 * x') tn') (2 * x' + 1) en' (2 * y + 0))) ∧ (1 < un_ (gr_kd G) x' kn' y → upd a_second' x' v5 y = nI (un_ (un_ (gr_tg G) (2 * x') tn') (2 * x' + 1) en' (2 * y + 1)))
    by_cases q : y = x'
    · rw [q, un_s, pk_us, pk_us, tg0, tg1]
      exact ⟨fun z => (a7 (by omega)).2.2, fun z => (a9 (by omega)).2.2⟩
    · rw [un_n q, pk_un q, pk_un q, tgn y 0 hy q (by omega), tgn y 1 hy q (by omega)]
      exact Y.2.2.2.2.2.2.1 y hy
end
