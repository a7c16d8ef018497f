section
/-! pure rows to paste: stores, nI and lN arithmetic, masks, shifts, narrowing, branches by naturals (pk_le, pk_lt, pk_eq), loops (lp1 .. lp16: the measure of the state; rp1 ..: recursion), negatives. Take what you need -/
theorem pk_us {f : Nat → Int32} {k : Nat} {x : Int32} : upd f k x k = x := if_pos rfl
theorem pk_un {f : Nat → Int32} {k j : Nat} {x : Int32} (h : j ≠ k) : upd f k x j = f j := if_neg h
theorem pk_uLs {f : Nat → Int64} {k : Nat} {x : Int64} : vp_updL f k x k = x := if_pos rfl
theorem pk_uLn {f : Nat → Int64} {k j : Nat} {x : Int64} (h : j ≠ k) : vp_updL f k x j = f j := if_neg h
theorem pk_sub {a b : Nat} (h : b ≤ a) : nI a - nI b = nI (a - b) := by
  obtain ⟨c, rfl⟩ : ∃ c, a = c + b := ⟨a - b, by omega⟩
  rw [← nI_add, Int32.add_sub_cancel, Nat.add_sub_cancel]
theorem pk_m1 (n : Nat) : nI (n + 1) + (-1) = nI n := by
  rw [← nI_1, Int32.add_assoc, show (1 : Int32) + (-1) = 0 from rfl, Int32.add_zero]
theorem pk_mul (a b : Nat) : nI a * nI b = nI (a * b) := (Int32.ofNat_mul a b).symm
theorem pk_div {a d : Nat} (ha : a < 2 ^ 31) (h0 : 0 < d) (hd : d < 2 ^ 31) : nI a / nI d = nI (a / d) := by
  apply Int32.toInt_inj.mp
  rw [lg_idiv_nonneg (by rw [nI_toInt ha]; omega) (by rw [nI_toInt hd]; omega), nI_toInt ha, nI_toInt hd, nI_toInt (Nat.lt_of_le_of_lt (Nat.div_le_self a d) ha)]
  first | rfl | exact (Int.natCast_ediv _ _).symm
theorem pk_rem {a d : Nat} (ha : a < 2 ^ 31) (h0 : 0 < d) (hd : d < 2 ^ 31) : nI a - nI a / nI d * nI d = nI (a % d) := by
  rw [pk_div ha h0 hd, pk_mul, pk_sub (Nat.div_mul_le_self a d)]
  exact congrArg nI (by have := Nat.div_add_mod' a d; omega)
theorem pk_sub_toInt {a b : Nat} (ha : a < 2 ^ 30) (hb : b < 2 ^ 30) : (nI a - nI b).toInt = (a : Int) - b := by
  rw [Int32.toInt_sub, nI_toInt (by omega), nI_toInt (by omega)]
  exact Int.bmod_eq_of_le (by omega) (by omega)
theorem pk_sneg {a b : Nat} (hb : b < 2 ^ 30) (h : a < b) : nI a - nI b < 0 := by
  rw [Int32.lt_iff_toInt_lt, pk_sub_toInt (by omega) hb, show (0 : Int32).toInt = 0 from by decide]
  omega
theorem pk_ix (x : Int32) {n : Nat} (hn : n < 2 ^ 31) : x < 0 ∨ nI n ≤ x ∨ ∃ j : Nat, j < n ∧ x = nI j := by
  by_cases h : x < 0
  · exact Or.inl h
  · obtain ⟨j, hj, rfl⟩ := nI_of h
    by_cases h2 : j < n
    · exact Or.inr (Or.inr ⟨j, h2, rfl⟩)
    · exact Or.inr (Or.inl (nI_le (by omega) hj))
theorem pk_le {x y : Int32} {A B : Prop} (a b : Nat) (f : a ≤ b → A) (g : b < a → B) (hx : x = nI a := by rfl) (hy : y = nI b := by rfl) (ha : a < 2 ^ 31 := by omega) (hb : b < 2 ^ 31 := by omega) : (x ≤ y → A) ∧ (¬ x ≤ y → B) := by
  subst hx hy
  rw [nI_leI ha hb]
  exact ⟨f, fun z => g (by omega)⟩
theorem pk_lt {x y : Int32} {A B : Prop} (a b : Nat) (f : a < b → A) (g : b ≤ a → B) (hx : x = nI a := by rfl) (hy : y = nI b := by rfl) (ha : a < 2 ^ 31 := by omega) (hb : b < 2 ^ 31 := by omega) : (x < y → A) ∧ (¬ x < y → B) := by
  subst hx hy
  rw [nI_ltI ha hb]
  exact ⟨f, fun z => g (by omega)⟩
theorem pk_eq {x y : Int32} {A B : Prop} (a b : Nat) (f : a = b → A) (g : a ≠ b → B) (hx : x = nI a := by rfl) (hy : y = nI b := by rfl) (ha : a < 2 ^ 31 := by omega) (hb : b < 2 ^ 31 := by omega) : (x = y → A) ∧ (¬ x = y → B) := by
  subst hx hy
  rw [nI_eq ha hb]
  exact ⟨f, g⟩
theorem pk_in {x : Int32} (n N : Nat) (h : n < N) (hx : x = nI n := by rfl) (hN : N < 2 ^ 31 := by omega) : vp_in x N := by
  subst hx
  exact vp_in_nI h hN
theorem pk_cl {x : Int32} (n : Nat) (hx : x = nI n := by rfl) (h : n < 2 ^ 31 := by omega) : x.toNatClampNeg = n := by
  subst hx
  exact nI_clamp h
theorem pk_tn {n : Nat} (h : n < 2 ^ 32) : (nI n).toBitVec.toNat = n := Nat.mod_eq_of_lt h
theorem pk_and (x : Int32) {m : Int32} (k : Nat) (hm : m.toBitVec.toNat = 2 ^ k - 1) : x &&& m = nI (x.toBitVec.toNat % 2 ^ k) := by
  apply Int32.toBitVec_inj.mp
  apply BitVec.eq_of_toNat_eq
  rw [Int32.toBitVec_and, BitVec.toNat_and, hm, Nat.and_two_pow_sub_one_eq_mod]
  show _ = (BitVec.ofNat 32 _).toNat
  rw [BitVec.toNat_ofNat]
  exact (Nat.mod_eq_of_lt (Nat.lt_of_le_of_lt (Nat.mod_le _ _) x.toBitVec.isLt)).symm
theorem pk_andN {n : Nat} (h : n < 2 ^ 32) {m : Int32} (k : Nat) (hm : m.toBitVec.toNat = 2 ^ k - 1) : nI n &&& m = nI (n % 2 ^ k) := by
  rw [pk_and _ k hm, pk_tn h]
theorem pk_andE (x : Int32) {m : Int32} (k : Nat) (hm : m.toBitVec.toNat = 2 ^ k - 1) : ∃ j : Nat, j < 2 ^ k ∧ x &&& m = nI j := ⟨_, Nat.mod_lt _ (Nat.two_pow_pos k), pk_and x k hm⟩
theorem pk_andIn (x : Int32) {m : Int32} (k : Nat) (hm : m.toBitVec.toNat = 2 ^ k - 1) (hk : k ≤ 30) : vp_in (x &&& m) (2 ^ k) := by
  obtain ⟨j, hj, e⟩ := pk_andE x k hm
  rw [e]
  exact vp_in_nI hj (Nat.lt_of_le_of_lt (Nat.pow_le_pow_right (by decide) hk) (by decide))
theorem pk_shl (a s : Int32) (k : Nat) (hs : (s.toBitVec.smod 32).toNat = k) : (a <<< s).toBitVec.toNat = a.toBitVec.toNat * 2 ^ k % 2 ^ 32 := by
  show (a.toBitVec <<< (s.toBitVec.smod 32).toNat).toNat = _
  rw [hs, BitVec.toNat_shiftLeft, Nat.shiftLeft_eq]
theorem pk_shlN {n : Nat} (s : Int32) (k : Nat) (hs : (s.toBitVec.smod 32).toNat = k) (h : n * 2 ^ k < 2 ^ 32) : nI n <<< s = nI (n * 2 ^ k) := by
  apply Int32.toBitVec_inj.mp
  apply BitVec.eq_of_toNat_eq
  have hn : n < 2 ^ 32 := Nat.lt_of_le_of_lt (Nat.le_mul_of_pos_right n (Nat.two_pow_pos k)) h
  rw [pk_shl _ _ k hs, pk_tn hn, pk_tn h, Nat.mod_eq_of_lt h]
theorem pk_shr (a s : Int32) (k : Nat) (hs : (s.toBitVec.smod 32).toNat = k) : (a >>> s).toInt = a.toInt >>> k := by
  show (a.toBitVec.sshiftRight (s.toBitVec.smod 32).toNat).toInt = _
  rw [hs, BitVec.toInt_sshiftRight]
  rfl
theorem pk_shrN {n : Nat} (h : n < 2 ^ 31) (s : Int32) (k : Nat) (hs : (s.toBitVec.smod 32).toNat = k) : nI n >>> s = nI (n / 2 ^ k) := by
  apply Int32.toInt_inj.mp
  have h2 : n / 2 ^ k ≤ n := Nat.div_le_self _ _
  rw [pk_shr _ _ k hs, nI_toInt h, nI_toInt (by omega), Int.shiftRight_eq_div_pow]
  rfl
theorem pk_ushr (x s : Int32) (k : Nat) (hs : ((s.toUInt32 &&& Int32.toUInt32 31).toBitVec % 32).toNat = k) : (x.toUInt32 >>> (s.toUInt32 &&& Int32.toUInt32 31)).toInt32.toBitVec.toNat = x.toBitVec.toNat / 2 ^ k := by
  have e : (x.toUInt32 >>> (s.toUInt32 &&& Int32.toUInt32 31)).toInt32.toBitVec = x.toBitVec >>> k := by
    rw [← hs]
    exact UInt32.toBitVec_shiftRight _ _
  rw [e, BitVec.toNat_ushiftRight, Nat.shiftRight_eq_div_pow]
theorem pk_ushrN {n : Nat} (hn : n < 2 ^ 32) (s : Int32) (k : Nat) (hs : ((s.toUInt32 &&& Int32.toUInt32 31).toBitVec % 32).toNat = k) : ((nI n).toUInt32 >>> (s.toUInt32 &&& Int32.toUInt32 31)).toInt32 = nI (n / 2 ^ k) := by
  apply Int32.toBitVec_inj.mp
  apply BitVec.eq_of_toNat_eq
  rw [pk_ushr _ s k hs, pk_tn hn, pk_tn (Nat.lt_of_le_of_lt (Nat.div_le_self _ _) hn)]
theorem pk_nb (z : Int32) : narrow .byte (.int z.toInt8.toInt32) = .int z.toInt8.toInt32 := congrArg Value.int (by simp)
theorem pk_ns (z : Int32) : narrow .short (.int z.toInt16.toInt32) = .int z.toInt16.toInt32 := congrArg Value.int (by simp)
theorem pk_fb (r : Int32) : fits .byte (.int r.toInt8.toInt32) = true := by
  have ⟨a, b⟩ := lg_i2b_range r
  have h1 : (-128 : Int32).toInt = -128 := by decide
  have h2 : (127 : Int32).toInt = 127 := by decide
  simp only [fits, Bool.and_eq_true, decide_eq_true_eq, Int32.le_iff_toInt_le, h1, h2]
  omega
theorem pk_fs (r : Int32) : fits .short (.int r.toInt16.toInt32) = true := by
  have ⟨a, b⟩ := lg_i2s_range r
  have h1 : (-32768 : Int32).toInt = -32768 := by decide
  have h2 : (32767 : Int32).toInt = 32767 := by decide
  simp only [fits, Bool.and_eq_true, decide_eq_true_eq, Int32.le_iff_toInt_le, h1, h2]
  omega
theorem pk_charN {q : Nat} (hq : q < 65536) : narrow .char (.int (nI q)) = .int (nI q) ∧ fits .char (.int (nI q)) = true := by
  constructor
  · have e : (nI q).toUInt32.toUInt16.toUInt32.toInt32 = nI q := by
      apply Int32.toBitVec_inj.mp
      apply BitVec.eq_of_toNat_eq
      show (nI q).toUInt32.toUInt16.toUInt32.toNat = q % 2 ^ 32
      rw [UInt16.toNat_toUInt32, UInt32.toNat_toUInt16, show (nI q).toUInt32.toNat = q % 2 ^ 32 from rfl]
      omega
    exact congrArg Value.int e
  · have a : (0 : Int32) ≤ nI q := nI_pos' (by omega)
    have b : nI q ≤ 65535 := nI_le (b := 65535) (by omega) (by decide)
    show (decide ((0 : Int32) ≤ nI q) && decide (nI q ≤ 65535)) = true
    rw [decide_eq_true a, decide_eq_true b]
    rfl
theorem pk_char (x : Int32) : (x.toUInt32 % 65536).toInt32 = nI (x.toBitVec.toNat % 65536) := by
  apply Int32.toBitVec_inj.mp
  apply BitVec.eq_of_toNat_eq
  rw [pk_tn (by omega)]
  show (x.toUInt32 % 65536).toNat = _
  rw [UInt32.toNat_mod]
  rfl
theorem pk_nc (x : Int32) : narrow .char (.int (x.toUInt32 % 65536).toInt32) = .int (x.toUInt32 % 65536).toInt32 := by
  rw [pk_char]
  exact (pk_charN (Nat.mod_lt _ (by decide))).1
theorem pk_fc (x : Int32) : fits .char (.int (x.toUInt32 % 65536).toInt32) = true := by
  rw [pk_char]
  exact (pk_charN (Nat.mod_lt _ (by decide))).2
theorem pk_vb (z : Int32) : vp_nar .byte z.toInt8.toInt32 = z.toInt8.toInt32 := by rw [vp_nar_byte]; simp
theorem pk_vs (z : Int32) : vp_nar .short z.toInt16.toInt32 = z.toInt16.toInt32 := by rw [vp_nar_short]; simp
theorem pk_vc (z : Int32) : vp_nar .char (z.toUInt32 % 65536).toInt32 = (z.toUInt32 % 65536).toInt32 := Value.int.inj (pk_nc z)
theorem pk_lT {n : Nat} (h : n < 2 ^ 63) : (lN n).toInt = (n : Int) := lg_ofNat_toInt h
theorem pk_lLT {a b : Nat} (ha : a < 2 ^ 63) (hb : b < 2 ^ 63) : lN a < lN b ↔ a < b := by
  rw [Int64.lt_iff_toInt_lt, pk_lT ha, pk_lT hb]; omega
theorem pk_lLE {a b : Nat} (ha : a < 2 ^ 63) (hb : b < 2 ^ 63) : lN a ≤ lN b ↔ a ≤ b := by
  rw [Int64.le_iff_toInt_le, pk_lT ha, pk_lT hb]; omega
theorem pk_lEQ {a b : Nat} (ha : a < 2 ^ 63) (hb : b < 2 ^ 63) : lN a = lN b ↔ a = b := by
  rw [← Int64.toInt_inj, pk_lT ha, pk_lT hb]; omega
theorem pk_lOf {x : Int64} (h : ¬ x < 0) : ∃ k : Nat, k < 2 ^ 63 ∧ x = lN k := by
  rw [Int64.lt_iff_toInt_lt] at h
  have h0 : (0 : Int64).toInt = 0 := by decide
  have hx := Int64.toInt_lt x
  refine ⟨x.toInt.toNat, by omega, Int64.toInt_inj.mp ?_⟩
  rw [pk_lT (by omega)]
  omega
theorem pk_lDiv {a b : Nat} (ha : a < 2 ^ 63) (h0 : 0 < b) (hb : b < 2 ^ 63) : lN a / lN b = lN (a / b) := by
  apply Int64.toInt_inj.mp
  rw [lg_ldiv_nonneg (by rw [pk_lT ha]; omega) (by rw [pk_lT hb]; omega), pk_lT ha, pk_lT hb, pk_lT (Nat.lt_of_le_of_lt (Nat.div_le_self a b) ha)]
  rfl
theorem pk_lRem {a b : Nat} (ha : a < 2 ^ 63) (h0 : 0 < b) (hb : b < 2 ^ 63) : lN a - lN a / lN b * lN b = lN (a % b) := by
  rw [pk_lDiv ha h0 hb, lN_mul, lN_sub (Nat.div_mul_le_self a b)]
  exact congrArg lN (by have := Nat.div_add_mod' a b; omega)
theorem pk_loop {σ : Type} (W : Nat → Nat → σ → Prop) (I : Nat → σ → Prop) (e i0 : Nat) (s : σ) (hi : i0 ≤ e) (h0 : I i0 s) (hx : ∀ n s, I e s → W (n + 1) e s)
    (hs : ∀ n i s, i < e → I i s → (∀ s', I (i + 1) s' → W n (i + 1) s') → W (n + 1) i s) : ∃ n, W n i0 s :=
  ⟨e + 1, loop_i W I e hx hs (e + 1) i0 s hi (by omega) h0⟩
theorem pk_loopD {σ : Type} (W : Nat → Nat → σ → Prop) (I : Nat → σ → Prop) (hx : ∀ n s, I 0 s → W (n + 1) 0 s)
    (hs : ∀ n i s, I (i + 1) s → (∀ s', I i s' → W n i s') → W (n + 1) (i + 1) s) : ∀ (e : Nat) (s : σ), I e s → W (e + 1) e s := by
  intro e
  induction e with
  | zero => exact fun s h => hx 0 s h
  | succ e ih => exact fun s h => hs (e + 1) e s h (fun s' h' => ih s' h')
theorem lp1 {A1 : Type} (W : Nat → A1 → Prop) (I : A1 → Prop) (μ : A1 → Nat) (hs : ∀ (n : Nat) (a1 : A1), I a1 → (∀ (b1 : A1), I b1 → μ b1 < μ a1 → W n b1) → W (n + 1) a1) (a1 : A1) (h : I a1) : ∃ n, W n a1 :=
  loop_m (σ := A1) (fun n s => W n s) (fun s => I s) (fun s => μ s) (fun n s hI hk => hs n s hI (fun b1 h9 hm => hk b1 h9 hm)) a1 h
theorem lp2 {A1 A2 : Type} (W : Nat → A1 → A2 → Prop) (I : A1 → A2 → Prop) (μ : A1 → A2 → Nat) (hs : ∀ (n : Nat) (a1 : A1) (a2 : A2), I a1 a2 → (∀ (b1 : A1) (b2 : A2), I b1 b2 → μ b1 b2 < μ a1 a2 → W n b1 b2) → W (n + 1) a1 a2) (a1 : A1) (a2 : A2) (h : I a1 a2) : ∃ n, W n a1 a2 :=
  loop_m (σ := A1 × A2) (fun n s => W n s.1 s.2) (fun s => I s.1 s.2) (fun s => μ s.1 s.2) (fun n s hI hk => hs n s.1 s.2 hI (fun b1 b2 h9 hm => hk (b1, b2) h9 hm)) (a1, a2) h
theorem lp3 {A1 A2 A3 : Type} (W : Nat → A1 → A2 → A3 → Prop) (I : A1 → A2 → A3 → Prop) (μ : A1 → A2 → A3 → Nat) (hs : ∀ (n : Nat) (a1 : A1) (a2 : A2) (a3 : A3), I a1 a2 a3 → (∀ (b1 : A1) (b2 : A2) (b3 : A3), I b1 b2 b3 → μ b1 b2 b3 < μ a1 a2 a3 → W n b1 b2 b3) → W (n + 1) a1 a2 a3) (a1 : A1) (a2 : A2) (a3 : A3) (h : I a1 a2 a3) : ∃ n, W n a1 a2 a3 :=
  loop_m (σ := A1 × A2 × A3) (fun n s => W n s.1 s.2.1 s.2.2) (fun s => I s.1 s.2.1 s.2.2) (fun s => μ s.1 s.2.1 s.2.2) (fun n s hI hk => hs n s.1 s.2.1 s.2.2 hI (fun b1 b2 b3 h9 hm => hk (b1, b2, b3) h9 hm)) (a1, a2, a3) h
theorem lp4 {A1 A2 A3 A4 : Type} (W : Nat → A1 → A2 → A3 → A4 → Prop) (I : A1 → A2 → A3 → A4 → Prop) (μ : A1 → A2 → A3 → A4 → Nat) (hs : ∀ (n : Nat) (a1 : A1) (a2 : A2) (a3 : A3) (a4 : A4), I a1 a2 a3 a4 → (∀ (b1 : A1) (b2 : A2) (b3 : A3) (b4 : A4), I b1 b2 b3 b4 → μ b1 b2 b3 b4 < μ a1 a2 a3 a4 → W n b1 b2 b3 b4) → W (n + 1) a1 a2 a3 a4) (a1 : A1) (a2 : A2) (a3 : A3) (a4 : A4) (h : I a1 a2 a3 a4) : ∃ n, W n a1 a2 a3 a4 :=
  loop_m (σ := A1 × A2 × A3 × A4) (fun n s => W n s.1 s.2.1 s.2.2.1 s.2.2.2) (fun s => I s.1 s.2.1 s.2.2.1 s.2.2.2) (fun s => μ s.1 s.2.1 s.2.2.1 s.2.2.2) (fun n s hI hk => hs n s.1 s.2.1 s.2.2.1 s.2.2.2 hI (fun b1 b2 b3 b4 h9 hm => hk (b1, b2, b3, b4) h9 hm)) (a1, a2, a3, a4) h
theorem lp5 {A1 A2 A3 A4 A5 : Type} (W : Nat → A1 → A2 → A3 → A4 → A5 → Prop) (I : A1 → A2 → A3 → A4 → A5 → Prop) (μ : A1 → A2 → A3 → A4 → A5 → Nat) (hs : ∀ (n : Nat) (a1 : A1) (a2 : A2) (a3 : A3) (a4 : A4) (a5 : A5), I a1 a2 a3 a4 a5 → (∀ (b1 : A1) (b2 : A2) (b3 : A3) (b4 : A4) (b5 : A5), I b1 b2 b3 b4 b5 → μ b1 b2 b3 b4 b5 < μ a1 a2 a3 a4 a5 → W n b1 b2 b3 b4 b5) → W (n + 1) a1 a2 a3 a4 a5) (a1 : A1) (a2 : A2) (a3 : A3) (a4 : A4) (a5 : A5) (h : I a1 a2 a3 a4 a5) : ∃ n, W n a1 a2 a3 a4 a5 :=
  loop_m (σ := A1 × A2 × A3 × A4 × A5) (fun n s => W n s.1 s.2.1 s.2.2.1 s.2.2.2.1 s.2.2.2.2) (fun s => I s.1 s.2.1 s.2.2.1 s.2.2.2.1 s.2.2.2.2) (fun s => μ s.1 s.2.1 s.2.2.1 s.2.2.2.1 s.2.2.2.2) (fun n s hI hk => hs n s.1 s.2.1 s.2.2.1 s.2.2.2.1 s.2.2.2.2 hI (fun b1 b2 b3 b4 b5 h9 hm => hk (b1, b2, b3, b4, b5) h9 hm)) (a1, a2, a3, a4, a5) h
theorem lp6 {A1 A2 A3 A4 A5 A6 : Type} (W : Nat → A1 → A2 → A3 → A4 → A5 → A6 → Prop) (I : A1 → A2 → A3 → A4 → A5 → A6 → Prop) (μ : A1 → A2 → A3 → A4 → A5 → A6 → Nat) (hs : ∀ (n : Nat) (a1 : A1) (a2 : A2) (a3 : A3) (a4 : A4) (a5 : A5) (a6 : A6), I a1 a2 a3 a4 a5 a6 → (∀ (b1 : A1) (b2 : A2) (b3 : A3) (b4 : A4) (b5 : A5) (b6 : A6), I b1 b2 b3 b4 b5 b6 → μ b1 b2 b3 b4 b5 b6 < μ a1 a2 a3 a4 a5 a6 → W n b1 b2 b3 b4 b5 b6) → W (n + 1) a1 a2 a3 a4 a5 a6) (a1 : A1) (a2 : A2) (a3 : A3) (a4 : A4) (a5 : A5) (a6 : A6) (h : I a1 a2 a3 a4 a5 a6) : ∃ n, W n a1 a2 a3 a4 a5 a6 :=
  loop_m (σ := A1 × A2 × A3 × A4 × A5 × A6) (fun n s => W n s.1 s.2.1 s.2.2.1 s.2.2.2.1 s.2.2.2.2.1 s.2.2.2.2.2) (fun s => I s.1 s.2.1 s.2.2.1 s.2.2.2.1 s.2.2.2.2.1 s.2.2.2.2.2) (fun s => μ s.1 s.2.1 s.2.2.1 s.2.2.2.1 s.2.2.2.2.1 s.2.2.2.2.2) (fun n s hI hk => hs n s.1 s.2.1 s.2.2.1 s.2.2.2.1 s.2.2.2.2.1 s.2.2.2.2.2 hI (fun b1 b2 b3 b4 b5 b6 h9 hm => hk (b1, b2, b3, b4, b5, b6) h9 hm)) (a1, a2, a3, a4, a5, a6) h
theorem lp7 {A1 A2 A3 A4 A5 A6 A7 : Type} (W : Nat → A1 → A2 → A3 → A4 → A5 → A6 → A7 → Prop) (I : A1 → A2 → A3 → A4 → A5 → A6 → A7 → Prop) (μ : A1 → A2 → A3 → A4 → A5 → A6 → A7 → Nat) (hs : ∀ (n : Nat) (a1 : A1) (a2 : A2) (a3 : A3) (a4 : A4) (a5 : A5) (a6 : A6) (a7 : A7), I a1 a2 a3 a4 a5 a6 a7 → (∀ (b1 : A1) (b2 : A2) (b3 : A3) (b4 : A4) (b5 : A5) (b6 : A6) (b7 : A7), I b1 b2 b3 b4 b5 b6 b7 → μ b1 b2 b3 b4 b5 b6 b7 < μ a1 a2 a3 a4 a5 a6 a7 → W n b1 b2 b3 b4 b5 b6 b7) → W (n + 1) a1 a2 a3 a4 a5 a6 a7) (a1 : A1) (a2 : A2) (a3 : A3) (a4 : A4) (a5 : A5) (a6 : A6) (a7 : A7) (h : I a1 a2 a3 a4 a5 a6 a7) : ∃ n, W n a1 a2 a3 a4 a5 a6 a7 :=
  loop_m (σ := A1 × A2 × A3 × A4 × A5 × A6 × A7) (fun n s => W n s.1 s.2.1 s.2.2.1 s.2.2.2.1 s.2.2.2.2.1 s.2.2.2.2.2.1 s.2.2.2.2.2.2) (fun s => I s.1 s.2.1 s.2.2.1 s.2.2.2.1 s.2.2.2.2.1 s.2.2.2.2.2.1 s.2.2.2.2.2.2) (fun s => μ s.1 s.2.1 s.2.2.1 s.2.2.2.1 s.2.2.2.2.1 s.2.2.2.2.2.1 s.2.2.2.2.2.2) (fun n s hI hk => hs n s.1 s.2.1 s.2.2.1 s.2.2.2.1 s.2.2.2.2.1 s.2.2.2.2.2.1 s.2.2.2.2.2.2 hI (fun b1 b2 b3 b4 b5 b6 b7 h9 hm => hk (b1, b2, b3, b4, b5, b6, b7) h9 hm)) (a1, a2, a3, a4, a5, a6, a7) h
theorem lp8 {A1 A2 A3 A4 A5 A6 A7 A8 : Type} (W : Nat → A1 → A2 → A3 → A4 → A5 → A6 → A7 → A8 → Prop) (I : A1 → A2 → A3 → A4 → A5 → A6 → A7 → A8 → Prop) (μ : A1 → A2 → A3 → A4 → A5 → A6 → A7 → A8 → Nat) (hs : ∀ (n : Nat) (a1 : A1) (a2 : A2) (a3 : A3) (a4 : A4) (a5 : A5) (a6 : A6) (a7 : A7) (a8 : A8), I a1 a2 a3 a4 a5 a6 a7 a8 → (∀ (b1 : A1) (b2 : A2) (b3 : A3) (b4 : A4) (b5 : A5) (b6 : A6) (b7 : A7) (b8 : A8), I b1 b2 b3 b4 b5 b6 b7 b8 → μ b1 b2 b3 b4 b5 b6 b7 b8 < μ a1 a2 a3 a4 a5 a6 a7 a8 → W n b1 b2 b3 b4 b5 b6 b7 b8) → W (n + 1) a1 a2 a3 a4 a5 a6 a7 a8) (a1 : A1) (a2 : A2) (a3 : A3) (a4 : A4) (a5 : A5) (a6 : A6) (a7 : A7) (a8 : A8) (h : I a1 a2 a3 a4 a5 a6 a7 a8) : ∃ n, W n a1 a2 a3 a4 a5 a6 a7 a8 :=
  loop_m (σ := A1 × A2 × A3 × A4 × A5 × A6 × A7 × A8) (fun n s => W n s.1 s.2.1 s.2.2.1 s.2.2.2.1 s.2.2.2.2.1 s.2.2.2.2.2.1 s.2.2.2.2.2.2.1 s.2.2.2.2.2.2.2) (fun s => I s.1 s.2.1 s.2.2.1 s.2.2.2.1 s.2.2.2.2.1 s.2.2.2.2.2.1 s.2.2.2.2.2.2.1 s.2.2.2.2.2.2.2) (fun s => μ s.1 s.2.1 s.2.2.1 s.2.2.2.1 s.2.2.2.2.1 s.2.2.2.2.2.1 s.2.2.2.2.2.2.1 s.2.2.2.2.2.2.2) (fun n s hI hk => hs n s.1 s.2.1 s.2.2.1 s.2.2.2.1 s.2.2.2.2.1 s.2.2.2.2.2.1 s.2.2.2.2.2.2.1 s.2.2.2.2.2.2.2 hI (fun b1 b2 b3 b4 b5 b6 b7 b8 h9 hm => hk (b1, b2, b3, b4, b5, b6, b7, b8) h9 hm)) (a1, a2, a3, a4, a5, a6, a7, a8) h
theorem lp9 {A1 A2 A3 A4 A5 A6 A7 A8 A9 : Type} (W : Nat → A1 → A2 → A3 → A4 → A5 → A6 → A7 → A8 → A9 → Prop) (I : A1 → A2 → A3 → A4 → A5 → A6 → A7 → A8 → A9 → Prop) (μ : A1 → A2 → A3 → A4 → A5 → A6 → A7 → A8 → A9 → Nat) (hs : ∀ (n : Nat) (a1 : A1) (a2 : A2) (a3 : A3) (a4 : A4) (a5 : A5) (a6 : A6) (a7 : A7) (a8 : A8) (a9 : A9), I a1 a2 a3 a4 a5 a6 a7 a8 a9 → (∀ (b1 : A1) (b2 : A2) (b3 : A3) (b4 : A4) (b5 : A5) (b6 : A6) (b7 : A7) (b8 : A8) (b9 : A9), I b1 b2 b3 b4 b5 b6 b7 b8 b9 → μ b1 b2 b3 b4 b5 b6 b7 b8 b9 < μ a1 a2 a3 a4 a5 a6 a7 a8 a9 → W n b1 b2 b3 b4 b5 b6 b7 b8 b9) → W (n + 1) a1 a2 a3 a4 a5 a6 a7 a8 a9) (a1 : A1) (a2 : A2) (a3 : A3) (a4 : A4) (a5 : A5) (a6 : A6) (a7 : A7) (a8 : A8) (a9 : A9) (h : I a1 a2 a3 a4 a5 a6 a7 a8 a9) : ∃ n, W n a1 a2 a3 a4 a5 a6 a7 a8 a9 :=
  loop_m (σ := A1 × A2 × A3 × A4 × A5 × A6 × A7 × A8 × A9) (fun n s => W n s.1 s.2.1 s.2.2.1 s.2.2.2.1 s.2.2.2.2.1 s.2.2.2.2.2.1 s.2.2.2.2.2.2.1 s.2.2.2.2.2.2.2.1 s.2.2.2.2.2.2.2.2) (fun s => I s.1 s.2.1 s.2.2.1 s.2.2.2.1 s.2.2.2.2.1 s.2.2.2.2.2.1 s.2.2.2.2.2.2.1 s.2.2.2.2.2.2.2.1 s.2.2.2.2.2.2.2.2) (fun s => μ s.1 s.2.1 s.2.2.1 s.2.2.2.1 s.2.2.2.2.1 s.2.2.2.2.2.1 s.2.2.2.2.2.2.1 s.2.2.2.2.2.2.2.1 s.2.2.2.2.2.2.2.2) (fun n s hI hk => hs n s.1 s.2.1 s.2.2.1 s.2.2.2.1 s.2.2.2.2.1 s.2.2.2.2.2.1 s.2.2.2.2.2.2.1 s.2.2.2.2.2.2.2.1 s.2.2.2.2.2.2.2.2 hI (fun b1 b2 b3 b4 b5 b6 b7 b8 b9 h9 hm => hk (b1, b2, b3, b4, b5, b6, b7, b8, b9) h9 hm)) (a1, a2, a3, a4, a5, a6, a7, a8, a9) h
theorem lp10 {A1 A2 A3 A4 A5 A6 A7 A8 A9 A10 : Type} (W : Nat → A1 → A2 → A3 → A4 → A5 → A6 → A7 → A8 → A9 → A10 → Prop) (I : A1 → A2 → A3 → A4 → A5 → A6 → A7 → A8 → A9 → A10 → Prop) (μ : A1 → A2 → A3 → A4 → A5 → A6 → A7 → A8 → A9 → A10 → Nat) (hs : ∀ (n : Nat) (a1 : A1) (a2 : A2) (a3 : A3) (a4 : A4) (a5 : A5) (a6 : A6) (a7 : A7) (a8 : A8) (a9 : A9) (a10 : A10), I a1 a2 a3 a4 a5 a6 a7 a8 a9 a10 → (∀ (b1 : A1) (b2 : A2) (b3 : A3) (b4 : A4) (b5 : A5) (b6 : A6) (b7 : A7) (b8 : A8) (b9 : A9) (b10 : A10), I b1 b2 b3 b4 b5 b6 b7 b8 b9 b10 → μ b1 b2 b3 b4 b5 b6 b7 b8 b9 b10 < μ a1 a2 a3 a4 a5 a6 a7 a8 a9 a10 → W n b1 b2 b3 b4 b5 b6 b7 b8 b9 b10) → W (n + 1) a1 a2 a3 a4 a5 a6 a7 a8 a9 a10) (a1 : A1) (a2 : A2) (a3 : A3) (a4 : A4) (a5 : A5) (a6 : A6) (a7 : A7) (a8 : A8) (a9 : A9) (a10 : A10) (h : I a1 a2 a3 a4 a5 a6 a7 a8 a9 a10) : ∃ n, W n a1 a2 a3 a4 a5 a6 a7 a8 a9 a10 :=
  loop_m (σ := A1 × A2 × A3 × A4 × A5 × A6 × A7 × A8 × A9 × A10) (fun n s => W n s.1 s.2.1 s.2.2.1 s.2.2.2.1 s.2.2.2.2.1 s.2.2.2.2.2.1 s.2.2.2.2.2.2.1 s.2.2.2.2.2.2.2.1 s.2.2.2.2.2.2.2.2.1 s.2.2.2.2.2.2.2.2.2) (fun s => I s.1 s.2.1 s.2.2.1 s.2.2.2.1 s.2.2.2.2.1 s.2.2.2.2.2.1 s.2.2.2.2.2.2.1 s.2.2.2.2.2.2.2.1 s.2.2.2.2.2.2.2.2.1 s.2.2.2.2.2.2.2.2.2) (fun s => μ s.1 s.2.1 s.2.2.1 s.2.2.2.1 s.2.2.2.2.1 s.2.2.2.2.2.1 s.2.2.2.2.2.2.1 s.2.2.2.2.2.2.2.1 s.2.2.2.2.2.2.2.2.1 s.2.2.2.2.2.2.2.2.2) (fun n s hI hk => hs n s.1 s.2.1 s.2.2.1 s.2.2.2.1 s.2.2.2.2.1 s.2.2.2.2.2.1 s.2.2.2.2.2.2.1 s.2.2.2.2.2.2.2.1 s.2.2.2.2.2.2.2.2.1 s.2.2.2.2.2.2.2.2.2 hI (fun b1 b2 b3 b4 b5 b6 b7 b8 b9 b10 h9 hm => hk (b1, b2, b3, b4, b5, b6, b7, b8, b9, b10) h9 hm)) (a1, a2, a3, a4, a5, a6, a7, a8, a9, a10) h
theorem lp11 {A1 A2 A3 A4 A5 A6 A7 A8 A9 A10 A11 : Type} (W : Nat → A1 → A2 → A3 → A4 → A5 → A6 → A7 → A8 → A9 → A10 → A11 → Prop) (I : A1 → A2 → A3 → A4 → A5 → A6 → A7 → A8 → A9 → A10 → A11 → Prop) (μ : A1 → A2 → A3 → A4 → A5 → A6 → A7 → A8 → A9 → A10 → A11 → Nat) (hs : ∀ (n : Nat) (a1 : A1) (a2 : A2) (a3 : A3) (a4 : A4) (a5 : A5) (a6 : A6) (a7 : A7) (a8 : A8) (a9 : A9) (a10 : A10) (a11 : A11), I a1 a2 a3 a4 a5 a6 a7 a8 a9 a10 a11 → (∀ (b1 : A1) (b2 : A2) (b3 : A3) (b4 : A4) (b5 : A5) (b6 : A6) (b7 : A7) (b8 : A8) (b9 : A9) (b10 : A10) (b11 : A11), I b1 b2 b3 b4 b5 b6 b7 b8 b9 b10 b11 → μ b1 b2 b3 b4 b5 b6 b7 b8 b9 b10 b11 < μ a1 a2 a3 a4 a5 a6 a7 a8 a9 a10 a11 → W n b1 b2 b3 b4 b5 b6 b7 b8 b9 b10 b11) → W (n + 1) a1 a2 a3 a4 a5 a6 a7 a8 a9 a10 a11) (a1 : A1) (a2 : A2) (a3 : A3) (a4 : A4) (a5 : A5) (a6 : A6) (a7 : A7) (a8 : A8) (a9 : A9) (a10 : A10) (a11 : A11) (h : I a1 a2 a3 a4 a5 a6 a7 a8 a9 a10 a11) : ∃ n, W n a1 a2 a3 a4 a5 a6 a7 a8 a9 a10 a11 :=
  loop_m (σ := A1 × A2 × A3 × A4 × A5 × A6 × A7 × A8 × A9 × A10 × A11) (fun n s => W n s.1 s.2.1 s.2.2.1 s.2.2.2.1 s.2.2.2.2.1 s.2.2.2.2.2.1 s.2.2.2.2.2.2.1 s.2.2.2.2.2.2.2.1 s.2.2.2.2.2.2.2.2.1 s.2.2.2.2.2.2.2.2.2.1 s.2.2.2.2.2.2.2.2.2.2) (fun s => I s.1 s.2.1 s.2.2.1 s.2.2.2.1 s.2.2.2.2.1 s.2.2.2.2.2.1 s.2.2.2.2.2.2.1 s.2.2.2.2.2.2.2.1 s.2.2.2.2.2.2.2.2.1 s.2.2.2.2.2.2.2.2.2.1 s.2.2.2.2.2.2.2.2.2.2) (fun s => μ s.1 s.2.1 s.2.2.1 s.2.2.2.1 s.2.2.2.2.1 s.2.2.2.2.2.1 s.2.2.2.2.2.2.1 s.2.2.2.2.2.2.2.1 s.2.2.2.2.2.2.2.2.1 s.2.2.2.2.2.2.2.2.2.1 s.2.2.2.2.2.2.2.2.2.2) (fun n s hI hk => hs n s.1 s.2.1 s.2.2.1 s.2.2.2.1 s.2.2.2.2.1 s.2.2.2.2.2.1 s.2.2.2.2.2.2.1 s.2.2.2.2.2.2.2.1 s.2.2.2.2.2.2.2.2.1 s.2.2.2.2.2.2.2.2.2.1 s.2.2.2.2.2.2.2.2.2.2 hI (fun b1 b2 b3 b4 b5 b6 b7 b8 b9 b10 b11 h9 hm => hk (b1, b2, b3, b4, b5, b6, b7, b8, b9, b10, b11) h9 hm)) (a1, a2, a3, a4, a5, a6, a7, a8, a9, a10, a11) h
theorem lp12 {A1 A2 A3 A4 A5 A6 A7 A8 A9 A10 A11 A12 : Type} (W : Nat → A1 → A2 → A3 → A4 → A5 → A6 → A7 → A8 → A9 → A10 → A11 → A12 → Prop) (I : A1 → A2 → A3 → A4 → A5 → A6 → A7 → A8 → A9 → A10 → A11 → A12 → Prop) (μ : A1 → A2 → A3 → A4 → A5 → A6 → A7 → A8 → A9 → A10 → A11 → A12 → Nat) (hs : ∀ (n : Nat) (a1 : A1) (a2 : A2) (a3 : A3) (a4 : A4) (a5 : A5) (a6 : A6) (a7 : A7) (a8 : A8) (a9 : A9) (a10 : A10) (a11 : A11) (a12 : A12), I a1 a2 a3 a4 a5 a6 a7 a8 a9 a10 a11 a12 → (∀ (b1 : A1) (b2 : A2) (b3 : A3) (b4 : A4) (b5 : A5) (b6 : A6) (b7 : A7) (b8 : A8) (b9 : A9) (b10 : A10) (b11 : A11) (b12 : A12), I b1 b2 b3 b4 b5 b6 b7 b8 b9 b10 b11 b12 → μ b1 b2 b3 b4 b5 b6 b7 b8 b9 b10 b11 b12 < μ a1 a2 a3 a4 a5 a6 a7 a8 a9 a10 a11 a12 → W n b1 b2 b3 b4 b5 b6 b7 b8 b9 b10 b11 b12) → W (n + 1) a1 a2 a3 a4 a5 a6 a7 a8 a9 a10 a11 a12) (a1 : A1) (a2 : A2) (a3 : A3) (a4 : A4) (a5 : A5) (a6 : A6) (a7 : A7) (a8 : A8) (a9 : A9) (a10 : A10) (a11 : A11) (a12 : A12) (h : I a1 a2 a3 a4 a5 a6 a7 a8 a9 a10 a11 a12) : ∃ n, W n a1 a2 a3 a4 a5 a6 a7 a8 a9 a10 a11 a12 :=
  loop_m (σ := A1 × A2 × A3 × A4 × A5 × A6 × A7 × A8 × A9 × A10 × A11 × A12) (fun n s => W n s.1 s.2.1 s.2.2.1 s.2.2.2.1 s.2.2.2.2.1 s.2.2.2.2.2.1 s.2.2.2.2.2.2.1 s.2.2.2.2.2.2.2.1 s.2.2.2.2.2.2.2.2.1 s.2.2.2.2.2.2.2.2.2.1 s.2.2.2.2.2.2.2.2.2.2.1 s.2.2.2.2.2.2.2.2.2.2.2) (fun s => I s.1 s.2.1 s.2.2.1 s.2.2.2.1 s.2.2.2.2.1 s.2.2.2.2.2.1 s.2.2.2.2.2.2.1 s.2.2.2.2.2.2.2.1 s.2.2.2.2.2.2.2.2.1 s.2.2.2.2.2.2.2.2.2.1 s.2.2.2.2.2.2.2.2.2.2.1 s.2.2.2.2.2.2.2.2.2.2.2) (fun s => μ s.1 s.2.1 s.2.2.1 s.2.2.2.1 s.2.2.2.2.1 s.2.2.2.2.2.1 s.2.2.2.2.2.2.1 s.2.2.2.2.2.2.2.1 s.2.2.2.2.2.2.2.2.1 s.2.2.2.2.2.2.2.2.2.1 s.2.2.2.2.2.2.2.2.2.2.1 s.2.2.2.2.2.2.2.2.2.2.2) (fun n s hI hk => hs n s.1 s.2.1 s.2.2.1 s.2.2.2.1 s.2.2.2.2.1 s.2.2.2.2.2.1 s.2.2.2.2.2.2.1 s.2.2.2.2.2.2.2.1 s.2.2.2.2.2.2.2.2.1 s.2.2.2.2.2.2.2.2.2.1 s.2.2.2.2.2.2.2.2.2.2.1 s.2.2.2.2.2.2.2.2.2.2.2 hI (fun b1 b2 b3 b4 b5 b6 b7 b8 b9 b10 b11 b12 h9 hm => hk (b1, b2, b3, b4, b5, b6, b7, b8, b9, b10, b11, b12) h9 hm)) (a1, a2, a3, a4, a5, a6, a7, a8, a9, a10, a11, a12) h
theorem lp13 {A1 A2 A3 A4 A5 A6 A7 A8 A9 A10 A11 A12 A13 : Type} (W : Nat → A1 → A2 → A3 → A4 → A5 → A6 → A7 → A8 → A9 → A10 → A11 → A12 → A13 → Prop) (I : A1 → A2 → A3 → A4 → A5 → A6 → A7 → A8 → A9 → A10 → A11 → A12 → A13 → Prop) (μ : A1 → A2 → A3 → A4 → A5 → A6 → A7 → A8 → A9 → A10 → A11 → A12 → A13 → Nat) (hs : ∀ (n : Nat) (a1 : A1) (a2 : A2) (a3 : A3) (a4 : A4) (a5 : A5) (a6 : A6) (a7 : A7) (a8 : A8) (a9 : A9) (a10 : A10) (a11 : A11) (a12 : A12) (a13 : A13), I a1 a2 a3 a4 a5 a6 a7 a8 a9 a10 a11 a12 a13 → (∀ (b1 : A1) (b2 : A2) (b3 : A3) (b4 : A4) (b5 : A5) (b6 : A6) (b7 : A7) (b8 : A8) (b9 : A9) (b10 : A10) (b11 : A11) (b12 : A12) (b13 : A13), I b1 b2 b3 b4 b5 b6 b7 b8 b9 b10 b11 b12 b13 → μ b1 b2 b3 b4 b5 b6 b7 b8 b9 b10 b11 b12 b13 < μ a1 a2 a3 a4 a5 a6 a7 a8 a9 a10 a11 a12 a13 → W n b1 b2 b3 b4 b5 b6 b7 b8 b9 b10 b11 b12 b13) → W (n + 1) a1 a2 a3 a4 a5 a6 a7 a8 a9 a10 a11 a12 a13) (a1 : A1) (a2 : A2) (a3 : A3) (a4 : A4) (a5 : A5) (a6 : A6) (a7 : A7) (a8 : A8) (a9 : A9) (a10 : A10) (a11 : A11) (a12 : A12) (a13 : A13) (h : I a1 a2 a3 a4 a5 a6 a7 a8 a9 a10 a11 a12 a13) : ∃ n, W n a1 a2 a3 a4 a5 a6 a7 a8 a9 a10 a11 a12 a13 :=
  loop_m (σ := A1 × A2 × A3 × A4 × A5 × A6 × A7 × A8 × A9 × A10 × A11 × A12 × A13) (fun n s => W n s.1 s.2.1 s.2.2.1 s.2.2.2.1 s.2.2.2.2.1 s.2.2.2.2.2.1 s.2.2.2.2.2.2.1 s.2.2.2.2.2.2.2.1 s.2.2.2.2.2.2.2.2.1 s.2.2.2.2.2.2.2.2.2.1 s.2.2.2.2.2.2.2.2.2.2.1 s.2.2.2.2.2.2.2.2.2.2.2.1 s.2.2.2.2.2.2.2.2.2.2.2.2) (fun s => I s.1 s.2.1 s.2.2.1 s.2.2.2.1 s.2.2.2.2.1 s.2.2.2.2.2.1 s.2.2.2.2.2.2.1 s.2.2.2.2.2.2.2.1 s.2.2.2.2.2.2.2.2.1 s.2.2.2.2.2.2.2.2.2.1 s.2.2.2.2.2.2.2.2.2.2.1 s.2.2.2.2.2.2.2.2.2.2.2.1 s.2.2.2.2.2.2.2.2.2.2.2.2) (fun s => μ s.1 s.2.1 s.2.2.1 s.2.2.2.1 s.2.2.2.2.1 s.2.2.2.2.2.1 s.2.2.2.2.2.2.1 s.2.2.2.2.2.2.2.1 s.2.2.2.2.2.2.2.2.1 s.2.2.2.2.2.2.2.2.2.1 s.2.2.2.2.2.2.2.2.2.2.1 s.2.2.2.2.2.2.2.2.2.2.2.1 s.2.2.2.2.2.2.2.2.2.2.2.2) (fun n s hI hk => hs n s.1 s.2.1 s.2.2.1 s.2.2.2.1 s.2.2.2.2.1 s.2.2.2.2.2.1 s.2.2.2.2.2.2.1 s.2.2.2.2.2.2.2.1 s.2.2.2.2.2.2.2.2.1 s.2.2.2.2.2.2.2.2.2.1 s.2.2.2.2.2.2.2.2.2.2.1 s.2.2.2.2.2.2.2.2.2.2.2.1 s.2.2.2.2.2.2.2.2.2.2.2.2 hI (fun b1 b2 b3 b4 b5 b6 b7 b8 b9 b10 b11 b12 b13 h9 hm => hk (b1, b2, b3, b4, b5, b6, b7, b8, b9, b10, b11, b12, b13) h9 hm)) (a1, a2, a3, a4, a5, a6, a7, a8, a9, a10, a11, a12, a13) h
theorem lp14 {A1 A2 A3 A4 A5 A6 A7 A8 A9 A10 A11 A12 A13 A14 : Type} (W : Nat → A1 → A2 → A3 → A4 → A5 → A6 → A7 → A8 → A9 → A10 → A11 → A12 → A13 → A14 → Prop) (I : A1 → A2 → A3 → A4 → A5 → A6 → A7 → A8 → A9 → A10 → A11 → A12 → A13 → A14 → Prop) (μ : A1 → A2 → A3 → A4 → A5 → A6 → A7 → A8 → A9 → A10 → A11 → A12 → A13 → A14 → Nat) (hs : ∀ (n : Nat) (a1 : A1) (a2 : A2) (a3 : A3) (a4 : A4) (a5 : A5) (a6 : A6) (a7 : A7) (a8 : A8) (a9 : A9) (a10 : A10) (a11 : A11) (a12 : A12) (a13 : A13) (a14 : A14), I a1 a2 a3 a4 a5 a6 a7 a8 a9 a10 a11 a12 a13 a14 → (∀ (b1 : A1) (b2 : A2) (b3 : A3) (b4 : A4) (b5 : A5) (b6 : A6) (b7 : A7) (b8 : A8) (b9 : A9) (b10 : A10) (b11 : A11) (b12 : A12) (b13 : A13) (b14 : A14), I b1 b2 b3 b4 b5 b6 b7 b8 b9 b10 b11 b12 b13 b14 → μ b1 b2 b3 b4 b5 b6 b7 b8 b9 b10 b11 b12 b13 b14 < μ a1 a2 a3 a4 a5 a6 a7 a8 a9 a10 a11 a12 a13 a14 → W n b1 b2 b3 b4 b5 b6 b7 b8 b9 b10 b11 b12 b13 b14) → W (n + 1) a1 a2 a3 a4 a5 a6 a7 a8 a9 a10 a11 a12 a13 a14) (a1 : A1) (a2 : A2) (a3 : A3) (a4 : A4) (a5 : A5) (a6 : A6) (a7 : A7) (a8 : A8) (a9 : A9) (a10 : A10) (a11 : A11) (a12 : A12) (a13 : A13) (a14 : A14) (h : I a1 a2 a3 a4 a5 a6 a7 a8 a9 a10 a11 a12 a13 a14) : ∃ n, W n a1 a2 a3 a4 a5 a6 a7 a8 a9 a10 a11 a12 a13 a14 :=
  loop_m (σ := A1 × A2 × A3 × A4 × A5 × A6 × A7 × A8 × A9 × A10 × A11 × A12 × A13 × A14) (fun n s => W n s.1 s.2.1 s.2.2.1 s.2.2.2.1 s.2.2.2.2.1 s.2.2.2.2.2.1 s.2.2.2.2.2.2.1 s.2.2.2.2.2.2.2.1 s.2.2.2.2.2.2.2.2.1 s.2.2.2.2.2.2.2.2.2.1 s.2.2.2.2.2.2.2.2.2.2.1 s.2.2.2.2.2.2.2.2.2.2.2.1 s.2.2.2.2.2.2.2.2.2.2.2.2.1 s.2.2.2.2.2.2.2.2.2.2.2.2.2) (fun s => I s.1 s.2.1 s.2.2.1 s.2.2.2.1 s.2.2.2.2.1 s.2.2.2.2.2.1 s.2.2.2.2.2.2.1 s.2.2.2.2.2.2.2.1 s.2.2.2.2.2.2.2.2.1 s.2.2.2.2.2.2.2.2.2.1 s.2.2.2.2.2.2.2.2.2.2.1 s.2.2.2.2.2.2.2.2.2.2.2.1 s.2.2.2.2.2.2.2.2.2.2.2.2.1 s.2.2.2.2.2.2.2.2.2.2.2.2.2) (fun s => μ s.1 s.2.1 s.2.2.1 s.2.2.2.1 s.2.2.2.2.1 s.2.2.2.2.2.1 s.2.2.2.2.2.2.1 s.2.2.2.2.2.2.2.1 s.2.2.2.2.2.2.2.2.1 s.2.2.2.2.2.2.2.2.2.1 s.2.2.2.2.2.2.2.2.2.2.1 s.2.2.2.2.2.2.2.2.2.2.2.1 s.2.2.2.2.2.2.2.2.2.2.2.2.1 s.2.2.2.2.2.2.2.2.2.2.2.2.2) (fun n s hI hk => hs n s.1 s.2.1 s.2.2.1 s.2.2.2.1 s.2.2.2.2.1 s.2.2.2.2.2.1 s.2.2.2.2.2.2.1 s.2.2.2.2.2.2.2.1 s.2.2.2.2.2.2.2.2.1 s.2.2.2.2.2.2.2.2.2.1 s.2.2.2.2.2.2.2.2.2.2.1 s.2.2.2.2.2.2.2.2.2.2.2.1 s.2.2.2.2.2.2.2.2.2.2.2.2.1 s.2.2.2.2.2.2.2.2.2.2.2.2.2 hI (fun b1 b2 b3 b4 b5 b6 b7 b8 b9 b10 b11 b12 b13 b14 h9 hm => hk (b1, b2, b3, b4, b5, b6, b7, b8, b9, b10, b11, b12, b13, b14) h9 hm)) (a1, a2, a3, a4, a5, a6, a7, a8, a9, a10, a11, a12, a13, a14) h
theorem lp15 {A1 A2 A3 A4 A5 A6 A7 A8 A9 A10 A11 A12 A13 A14 A15 : Type} (W : Nat → A1 → A2 → A3 → A4 → A5 → A6 → A7 → A8 → A9 → A10 → A11 → A12 → A13 → A14 → A15 → Prop) (I : A1 → A2 → A3 → A4 → A5 → A6 → A7 → A8 → A9 → A10 → A11 → A12 → A13 → A14 → A15 → Prop) (μ : A1 → A2 → A3 → A4 → A5 → A6 → A7 → A8 → A9 → A10 → A11 → A12 → A13 → A14 → A15 → Nat) (hs : ∀ (n : Nat) (a1 : A1) (a2 : A2) (a3 : A3) (a4 : A4) (a5 : A5) (a6 : A6) (a7 : A7) (a8 : A8) (a9 : A9) (a10 : A10) (a11 : A11) (a12 : A12) (a13 : A13) (a14 : A14) (a15 : A15), I a1 a2 a3 a4 a5 a6 a7 a8 a9 a10 a11 a12 a13 a14 a15 → (∀ (b1 : A1) (b2 : A2) (b3 : A3) (b4 : A4) (b5 : A5) (b6 : A6) (b7 : A7) (b8 : A8) (b9 : A9) (b10 : A10) (b11 : A11) (b12 : A12) (b13 : A13) (b14 : A14) (b15 : A15), I b1 b2 b3 b4 b5 b6 b7 b8 b9 b10 b11 b12 b13 b14 b15 → μ b1 b2 b3 b4 b5 b6 b7 b8 b9 b10 b11 b12 b13 b14 b15 < μ a1 a2 a3 a4 a5 a6 a7 a8 a9 a10 a11 a12 a13 a14 a15 → W n b1 b2 b3 b4 b5 b6 b7 b8 b9 b10 b11 b12 b13 b14 b15) → W (n + 1) a1 a2 a3 a4 a5 a6 a7 a8 a9 a10 a11 a12 a13 a14 a15) (a1 : A1) (a2 : A2) (a3 : A3) (a4 : A4) (a5 : A5) (a6 : A6) (a7 : A7) (a8 : A8) (a9 : A9) (a10 : A10) (a11 : A11) (a12 : A12) (a13 : A13) (a14 : A14) (a15 : A15) (h : I a1 a2 a3 a4 a5 a6 a7 a8 a9 a10 a11 a12 a13 a14 a15) : ∃ n, W n a1 a2 a3 a4 a5 a6 a7 a8 a9 a10 a11 a12 a13 a14 a15 :=
  loop_m (σ := A1 × A2 × A3 × A4 × A5 × A6 × A7 × A8 × A9 × A10 × A11 × A12 × A13 × A14 × A15) (fun n s => W n s.1 s.2.1 s.2.2.1 s.2.2.2.1 s.2.2.2.2.1 s.2.2.2.2.2.1 s.2.2.2.2.2.2.1 s.2.2.2.2.2.2.2.1 s.2.2.2.2.2.2.2.2.1 s.2.2.2.2.2.2.2.2.2.1 s.2.2.2.2.2.2.2.2.2.2.1 s.2.2.2.2.2.2.2.2.2.2.2.1 s.2.2.2.2.2.2.2.2.2.2.2.2.1 s.2.2.2.2.2.2.2.2.2.2.2.2.2.1 s.2.2.2.2.2.2.2.2.2.2.2.2.2.2) (fun s => I s.1 s.2.1 s.2.2.1 s.2.2.2.1 s.2.2.2.2.1 s.2.2.2.2.2.1 s.2.2.2.2.2.2.1 s.2.2.2.2.2.2.2.1 s.2.2.2.2.2.2.2.2.1 s.2.2.2.2.2.2.2.2.2.1 s.2.2.2.2.2.2.2.2.2.2.1 s.2.2.2.2.2.2.2.2.2.2.2.1 s.2.2.2.2.2.2.2.2.2.2.2.2.1 s.2.2.2.2.2.2.2.2.2.2.2.2.2.1 s.2.2.2.2.2.2.2.2.2.2.2.2.2.2) (fun s => μ s.1 s.2.1 s.2.2.1 s.2.2.2.1 s.2.2.2.2.1 s.2.2.2.2.2.1 s.2.2.2.2.2.2.1 s.2.2.2.2.2.2.2.1 s.2.2.2.2.2.2.2.2.1 s.2.2.2.2.2.2.2.2.2.1 s.2.2.2.2.2.2.2.2.2.2.1 s.2.2.2.2.2.2.2.2.2.2.2.1 s.2.2.2.2.2.2.2.2.2.2.2.2.1 s.2.2.2.2.2.2.2.2.2.2.2.2.2.1 s.2.2.2.2.2.2.2.2.2.2.2.2.2.2) (fun n s hI hk => hs n s.1 s.2.1 s.2.2.1 s.2.2.2.1 s.2.2.2.2.1 s.2.2.2.2.2.1 s.2.2.2.2.2.2.1 s.2.2.2.2.2.2.2.1 s.2.2.2.2.2.2.2.2.1 s.2.2.2.2.2.2.2.2.2.1 s.2.2.2.2.2.2.2.2.2.2.1 s.2.2.2.2.2.2.2.2.2.2.2.1 s.2.2.2.2.2.2.2.2.2.2.2.2.1 s.2.2.2.2.2.2.2.2.2.2.2.2.2.1 s.2.2.2.2.2.2.2.2.2.2.2.2.2.2 hI (fun b1 b2 b3 b4 b5 b6 b7 b8 b9 b10 b11 b12 b13 b14 b15 h9 hm => hk (b1, b2, b3, b4, b5, b6, b7, b8, b9, b10, b11, b12, b13, b14, b15) h9 hm)) (a1, a2, a3, a4, a5, a6, a7, a8, a9, a10, a11, a12, a13, a14, a15) h
theorem lp16 {A1 A2 A3 A4 A5 A6 A7 A8 A9 A10 A11 A12 A13 A14 A15 A16 : Type} (W : Nat → A1 → A2 → A3 → A4 → A5 → A6 → A7 → A8 → A9 → A10 → A11 → A12 → A13 → A14 → A15 → A16 → Prop) (I : A1 → A2 → A3 → A4 → A5 → A6 → A7 → A8 → A9 → A10 → A11 → A12 → A13 → A14 → A15 → A16 → Prop) (μ : A1 → A2 → A3 → A4 → A5 → A6 → A7 → A8 → A9 → A10 → A11 → A12 → A13 → A14 → A15 → A16 → Nat) (hs : ∀ (n : Nat) (a1 : A1) (a2 : A2) (a3 : A3) (a4 : A4) (a5 : A5) (a6 : A6) (a7 : A7) (a8 : A8) (a9 : A9) (a10 : A10) (a11 : A11) (a12 : A12) (a13 : A13) (a14 : A14) (a15 : A15) (a16 : A16), I a1 a2 a3 a4 a5 a6 a7 a8 a9 a10 a11 a12 a13 a14 a15 a16 → (∀ (b1 : A1) (b2 : A2) (b3 : A3) (b4 : A4) (b5 : A5) (b6 : A6) (b7 : A7) (b8 : A8) (b9 : A9) (b10 : A10) (b11 : A11) (b12 : A12) (b13 : A13) (b14 : A14) (b15 : A15) (b16 : A16), I b1 b2 b3 b4 b5 b6 b7 b8 b9 b10 b11 b12 b13 b14 b15 b16 → μ b1 b2 b3 b4 b5 b6 b7 b8 b9 b10 b11 b12 b13 b14 b15 b16 < μ a1 a2 a3 a4 a5 a6 a7 a8 a9 a10 a11 a12 a13 a14 a15 a16 → W n b1 b2 b3 b4 b5 b6 b7 b8 b9 b10 b11 b12 b13 b14 b15 b16) → W (n + 1) a1 a2 a3 a4 a5 a6 a7 a8 a9 a10 a11 a12 a13 a14 a15 a16) (a1 : A1) (a2 : A2) (a3 : A3) (a4 : A4) (a5 : A5) (a6 : A6) (a7 : A7) (a8 : A8) (a9 : A9) (a10 : A10) (a11 : A11) (a12 : A12) (a13 : A13) (a14 : A14) (a15 : A15) (a16 : A16) (h : I a1 a2 a3 a4 a5 a6 a7 a8 a9 a10 a11 a12 a13 a14 a15 a16) : ∃ n, W n a1 a2 a3 a4 a5 a6 a7 a8 a9 a10 a11 a12 a13 a14 a15 a16 :=
  loop_m (σ := A1 × A2 × A3 × A4 × A5 × A6 × A7 × A8 × A9 × A10 × A11 × A12 × A13 × A14 × A15 × A16) (fun n s => W n s.1 s.2.1 s.2.2.1 s.2.2.2.1 s.2.2.2.2.1 s.2.2.2.2.2.1 s.2.2.2.2.2.2.1 s.2.2.2.2.2.2.2.1 s.2.2.2.2.2.2.2.2.1 s.2.2.2.2.2.2.2.2.2.1 s.2.2.2.2.2.2.2.2.2.2.1 s.2.2.2.2.2.2.2.2.2.2.2.1 s.2.2.2.2.2.2.2.2.2.2.2.2.1 s.2.2.2.2.2.2.2.2.2.2.2.2.2.1 s.2.2.2.2.2.2.2.2.2.2.2.2.2.2.1 s.2.2.2.2.2.2.2.2.2.2.2.2.2.2.2) (fun s => I s.1 s.2.1 s.2.2.1 s.2.2.2.1 s.2.2.2.2.1 s.2.2.2.2.2.1 s.2.2.2.2.2.2.1 s.2.2.2.2.2.2.2.1 s.2.2.2.2.2.2.2.2.1 s.2.2.2.2.2.2.2.2.2.1 s.2.2.2.2.2.2.2.2.2.2.1 s.2.2.2.2.2.2.2.2.2.2.2.1 s.2.2.2.2.2.2.2.2.2.2.2.2.1 s.2.2.2.2.2.2.2.2.2.2.2.2.2.1 s.2.2.2.2.2.2.2.2.2.2.2.2.2.2.1 s.2.2.2.2.2.2.2.2.2.2.2.2.2.2.2) (fun s => μ s.1 s.2.1 s.2.2.1 s.2.2.2.1 s.2.2.2.2.1 s.2.2.2.2.2.1 s.2.2.2.2.2.2.1 s.2.2.2.2.2.2.2.1 s.2.2.2.2.2.2.2.2.1 s.2.2.2.2.2.2.2.2.2.1 s.2.2.2.2.2.2.2.2.2.2.1 s.2.2.2.2.2.2.2.2.2.2.2.1 s.2.2.2.2.2.2.2.2.2.2.2.2.1 s.2.2.2.2.2.2.2.2.2.2.2.2.2.1 s.2.2.2.2.2.2.2.2.2.2.2.2.2.2.1 s.2.2.2.2.2.2.2.2.2.2.2.2.2.2.2) (fun n s hI hk => hs n s.1 s.2.1 s.2.2.1 s.2.2.2.1 s.2.2.2.2.1 s.2.2.2.2.2.1 s.2.2.2.2.2.2.1 s.2.2.2.2.2.2.2.1 s.2.2.2.2.2.2.2.2.1 s.2.2.2.2.2.2.2.2.2.1 s.2.2.2.2.2.2.2.2.2.2.1 s.2.2.2.2.2.2.2.2.2.2.2.1 s.2.2.2.2.2.2.2.2.2.2.2.2.1 s.2.2.2.2.2.2.2.2.2.2.2.2.2.1 s.2.2.2.2.2.2.2.2.2.2.2.2.2.2.1 s.2.2.2.2.2.2.2.2.2.2.2.2.2.2.2 hI (fun b1 b2 b3 b4 b5 b6 b7 b8 b9 b10 b11 b12 b13 b14 b15 b16 h9 hm => hk (b1, b2, b3, b4, b5, b6, b7, b8, b9, b10, b11, b12, b13, b14, b15, b16) h9 hm)) (a1, a2, a3, a4, a5, a6, a7, a8, a9, a10, a11, a12, a13, a14, a15, a16) h
theorem pk_least (P : Nat → Prop) (h : ∃ k, P k) : ∃ k, P k ∧ ∀ j, j < k → ¬ P j := by
  obtain ⟨k, hk⟩ := h
  induction k using Nat.strongRecOn with
  | ind k ih =>
    by_cases e : ∃ j, j < k ∧ P j
    · obtain ⟨j, hj, pj⟩ := e
      exact ih j hj pj
    · exact ⟨k, hk, fun j hj pj => e ⟨j, hj, pj⟩⟩
theorem rp1 {ρ A1 : Type} (W : Nat → (ρ → Prop) → A1 → Prop) (ok : A1 → Prop) (μ : A1 → Nat) (val : A1 → ρ)
    (hs : ∀ (d : Nat) (post : ρ → Prop) (a1 : A1), ok a1 → post (val a1) → (∀ (post' : ρ → Prop) (b1 : A1), ok b1 → μ b1 < μ a1 → post' (val b1) → W d post' b1) → W (d + 1) post a1) :
    ∀ (d : Nat) (post : ρ → Prop) (a1 : A1), ok a1 → μ a1 < d → post (val a1) → W d post a1 := by
  intro d
  induction d with
  | zero => intro post a1 _ h; omega
  | succ d ih =>
    intro post a1 ho hm hp
    exact hs d post a1 ho hp (fun post' b1 ho' hm' hp' => ih post' b1 ho' (by omega) hp')
theorem rp2 {ρ A1 A2 : Type} (W : Nat → (ρ → Prop) → A1 → A2 → Prop) (ok : A1 → A2 → Prop) (μ : A1 → A2 → Nat) (val : A1 → A2 → ρ)
    (hs : ∀ (d : Nat) (post : ρ → Prop) (a1 : A1) (a2 : A2), ok a1 a2 → post (val a1 a2) → (∀ (post' : ρ → Prop) (b1 : A1) (b2 : A2), ok b1 b2 → μ b1 b2 < μ a1 a2 → post' (val b1 b2) → W d post' b1 b2) → W (d + 1) post a1 a2) :
    ∀ (d : Nat) (post : ρ → Prop) (a1 : A1) (a2 : A2), ok a1 a2 → μ a1 a2 < d → post (val a1 a2) → W d post a1 a2 := by
  intro d
  induction d with
  | zero => intro post a1 a2 _ h; omega
  | succ d ih =>
    intro post a1 a2 ho hm hp
    exact hs d post a1 a2 ho hp (fun post' b1 b2 ho' hm' hp' => ih post' b1 b2 ho' (by omega) hp')
theorem rp3 {ρ A1 A2 A3 : Type} (W : Nat → (ρ → Prop) → A1 → A2 → A3 → Prop) (ok : A1 → A2 → A3 → Prop) (μ : A1 → A2 → A3 → Nat) (val : A1 → A2 → A3 → ρ)
    (hs : ∀ (d : Nat) (post : ρ → Prop) (a1 : A1) (a2 : A2) (a3 : A3), ok a1 a2 a3 → post (val a1 a2 a3) → (∀ (post' : ρ → Prop) (b1 : A1) (b2 : A2) (b3 : A3), ok b1 b2 b3 → μ b1 b2 b3 < μ a1 a2 a3 → post' (val b1 b2 b3) → W d post' b1 b2 b3) → W (d + 1) post a1 a2 a3) :
    ∀ (d : Nat) (post : ρ → Prop) (a1 : A1) (a2 : A2) (a3 : A3), ok a1 a2 a3 → μ a1 a2 a3 < d → post (val a1 a2 a3) → W d post a1 a2 a3 := by
  intro d
  induction d with
  | zero => intro post a1 a2 a3 _ h; omega
  | succ d ih =>
    intro post a1 a2 a3 ho hm hp
    exact hs d post a1 a2 a3 ho hp (fun post' b1 b2 b3 ho' hm' hp' => ih post' b1 b2 b3 ho' (by omega) hp')
theorem rp4 {ρ A1 A2 A3 A4 : Type} (W : Nat → (ρ → Prop) → A1 → A2 → A3 → A4 → Prop) (ok : A1 → A2 → A3 → A4 → Prop) (μ : A1 → A2 → A3 → A4 → Nat) (val : A1 → A2 → A3 → A4 → ρ)
    (hs : ∀ (d : Nat) (post : ρ → Prop) (a1 : A1) (a2 : A2) (a3 : A3) (a4 : A4), ok a1 a2 a3 a4 → post (val a1 a2 a3 a4) → (∀ (post' : ρ → Prop) (b1 : A1) (b2 : A2) (b3 : A3) (b4 : A4), ok b1 b2 b3 b4 → μ b1 b2 b3 b4 < μ a1 a2 a3 a4 → post' (val b1 b2 b3 b4) → W d post' b1 b2 b3 b4) → W (d + 1) post a1 a2 a3 a4) :
    ∀ (d : Nat) (post : ρ → Prop) (a1 : A1) (a2 : A2) (a3 : A3) (a4 : A4), ok a1 a2 a3 a4 → μ a1 a2 a3 a4 < d → post (val a1 a2 a3 a4) → W d post a1 a2 a3 a4 := by
  intro d
  induction d with
  | zero => intro post a1 a2 a3 a4 _ h; omega
  | succ d ih =>
    intro post a1 a2 a3 a4 ho hm hp
    exact hs d post a1 a2 a3 a4 ho hp (fun post' b1 b2 b3 b4 ho' hm' hp' => ih post' b1 b2 b3 b4 ho' (by omega) hp')
theorem rp5 {ρ A1 A2 A3 A4 A5 : Type} (W : Nat → (ρ → Prop) → A1 → A2 → A3 → A4 → A5 → Prop) (ok : A1 → A2 → A3 → A4 → A5 → Prop) (μ : A1 → A2 → A3 → A4 → A5 → Nat) (val : A1 → A2 → A3 → A4 → A5 → ρ)
    (hs : ∀ (d : Nat) (post : ρ → Prop) (a1 : A1) (a2 : A2) (a3 : A3) (a4 : A4) (a5 : A5), ok a1 a2 a3 a4 a5 → post (val a1 a2 a3 a4 a5) → (∀ (post' : ρ → Prop) (b1 : A1) (b2 : A2) (b3 : A3) (b4 : A4) (b5 : A5), ok b1 b2 b3 b4 b5 → μ b1 b2 b3 b4 b5 < μ a1 a2 a3 a4 a5 → post' (val b1 b2 b3 b4 b5) → W d post' b1 b2 b3 b4 b5) → W (d + 1) post a1 a2 a3 a4 a5) :
    ∀ (d : Nat) (post : ρ → Prop) (a1 : A1) (a2 : A2) (a3 : A3) (a4 : A4) (a5 : A5), ok a1 a2 a3 a4 a5 → μ a1 a2 a3 a4 a5 < d → post (val a1 a2 a3 a4 a5) → W d post a1 a2 a3 a4 a5 := by
  intro d
  induction d with
  | zero => intro post a1 a2 a3 a4 a5 _ h; omega
  | succ d ih =>
    intro post a1 a2 a3 a4 a5 ho hm hp
    exact hs d post a1 a2 a3 a4 a5 ho hp (fun post' b1 b2 b3 b4 b5 ho' hm' hp' => ih post' b1 b2 b3 b4 b5 ho' (by omega) hp')
theorem rp6 {ρ A1 A2 A3 A4 A5 A6 : Type} (W : Nat → (ρ → Prop) → A1 → A2 → A3 → A4 → A5 → A6 → Prop) (ok : A1 → A2 → A3 → A4 → A5 → A6 → Prop) (μ : A1 → A2 → A3 → A4 → A5 → A6 → Nat) (val : A1 → A2 → A3 → A4 → A5 → A6 → ρ)
    (hs : ∀ (d : Nat) (post : ρ → Prop) (a1 : A1) (a2 : A2) (a3 : A3) (a4 : A4) (a5 : A5) (a6 : A6), ok a1 a2 a3 a4 a5 a6 → post (val a1 a2 a3 a4 a5 a6) → (∀ (post' : ρ → Prop) (b1 : A1) (b2 : A2) (b3 : A3) (b4 : A4) (b5 : A5) (b6 : A6), ok b1 b2 b3 b4 b5 b6 → μ b1 b2 b3 b4 b5 b6 < μ a1 a2 a3 a4 a5 a6 → post' (val b1 b2 b3 b4 b5 b6) → W d post' b1 b2 b3 b4 b5 b6) → W (d + 1) post a1 a2 a3 a4 a5 a6) :
    ∀ (d : Nat) (post : ρ → Prop) (a1 : A1) (a2 : A2) (a3 : A3) (a4 : A4) (a5 : A5) (a6 : A6), ok a1 a2 a3 a4 a5 a6 → μ a1 a2 a3 a4 a5 a6 < d → post (val a1 a2 a3 a4 a5 a6) → W d post a1 a2 a3 a4 a5 a6 := by
  intro d
  induction d with
  | zero => intro post a1 a2 a3 a4 a5 a6 _ h; omega
  | succ d ih =>
    intro post a1 a2 a3 a4 a5 a6 ho hm hp
    exact hs d post a1 a2 a3 a4 a5 a6 ho hp (fun post' b1 b2 b3 b4 b5 b6 ho' hm' hp' => ih post' b1 b2 b3 b4 b5 b6 ho' (by omega) hp')
theorem rec_p {σ ρ : Type} (W : Nat → (ρ → Prop) → σ → Prop) (ok : σ → Prop) (μ : σ → Nat) (val : σ → ρ)
    (hs : ∀ d s post, ok s → post (val s) → (∀ s' post', ok s' → μ s' < μ s → post' (val s') → W d post' s') → W (d + 1) post s) :
    ∀ d s post, ok s → μ s < d → post (val s) → W d post s := by
  intro d
  induction d with
  | zero => intro s post _ h; omega
  | succ d ih =>
    intro s post ho hm hp
    exact hs d s post ho hp (fun s' post' ho' hm' hp' => ih s' post' ho' (by omega) hp')
theorem rec_q {σ ρ : Type} (W : Nat → (ρ → Prop) → σ → Prop) (ok : σ → Prop) (μ : σ → Nat) (Q : σ → ρ → Prop)
    (hs : ∀ d s post, ok s → (∀ r, Q s r → post r) → (∀ s' post', ok s' → μ s' < μ s → (∀ r, Q s' r → post' r) → W d post' s') → W (d + 1) post s) :
    ∀ d s post, ok s → μ s < d → (∀ r, Q s r → post r) → W d post s := by
  intro d
  induction d with
  | zero => intro s post _ h; omega
  | succ d ih =>
    intro s post ho hm hp
    exact hs d s post ho hp (fun s' post' ho' hm' hp' => ih s' post' ho' (by omega) hp')
def bx_sum (f : Nat → Int32) : Nat → Int32
  | 0 => 0
  | n + 1 => bx_sum f n + f n
theorem ek_u {A : Prop} {B : Nat → Prop} {k N : Nat} (hk : k < N) (h : B k) : (some k = none → A) ∧ (∀ y : Nat, some k = some y → (y < N ∧ B y)) :=
  ⟨fun z => absurd z (Option.some_ne_none k), fun _ e => (by cases e; exact ⟨hk, h⟩)⟩
theorem ek_nu {A : Prop} {B : Nat → Prop} (h : A) : ((none : Option Nat) = none → A) ∧ (∀ y : Nat, (none : Option Nat) = some y → B y) :=
  ⟨fun _ => h, fun _ e => (by cases e)⟩
theorem ek_if {c d A B : Prop} (e : c ↔ d) (f : d → A) (g : ¬ d → B) : (c → A) ∧ (¬ c → B) :=
  ⟨fun z => f (e.mp z), fun z => g (fun y => z (e.mpr y))⟩
theorem ek_v {α : Sort _} {P : α → Prop} {a b : α} (e : a = b) (h : P b) : P a := e ▸ h
theorem co_some {x : Option Nat} {A : Prop} {B : Nat → Prop} (i : Nat) (h : B i) (hx : x = some i := by rfl) : (x = none → A) ∧ (∀ y : Nat, x = some y → B y) := by
  subst hx
  exact ⟨fun e => (nomatch e), fun y e => Option.some.inj e ▸ h⟩
theorem co_none {x : Option Nat} {A : Prop} {B : Nat → Prop} (h : A) (hx : x = none := by rfl) : (x = none → A) ∧ (∀ y : Nat, x = some y → B y) := by
  subst hx
  exact ⟨fun _ => h, fun y e => (nomatch e)⟩
theorem co_any {x : Option Nat} {A : Prop} {B : Nat → Prop} (hn : x = none → A) (hs : ∀ i : Nat, x = some i → B i) : (x = none → A) ∧ (∀ y : Nat, x = some y → B y) := ⟨hn, hs⟩
theorem co_2 {P : Nat → Prop} (h0 : P 0) (h1 : P 1) {i : Nat} (hi : i < 2) : P i :=
  match i, hi with
  | 0, _ => h0
  | 1, _ => h1
theorem co_3 {P : Nat → Prop} (h0 : P 0) (h1 : P 1) (h2 : P 2) {i : Nat} (hi : i < 3) : P i :=
  match i, hi with
  | 0, _ => h0
  | 1, _ => h1
  | 2, _ => h2
theorem co_4 {P : Nat → Prop} (h0 : P 0) (h1 : P 1) (h2 : P 2) (h3 : P 3) {i : Nat} (hi : i < 4) : P i :=
  match i, hi with
  | 0, _ => h0
  | 1, _ => h1
  | 2, _ => h2
  | 3, _ => h3
theorem co_dec {N : Nat} {P : Nat → Prop} [DecidablePred P] (h : (List.range N).all (fun i => decide (P i)) = true) {i : Nat} (hi : i < N) : P i := by
  have := List.all_eq_true.mp h i (List.mem_range.mpr hi)
  exact of_decide_eq_true this
theorem co_tab {α : Type} {l : List α} {d : α} {P : α → Prop} (h : ∀ a, a ∈ l → P a) {i : Nat} (hi : i < l.length) : P (l.getD i d) := by
  rw [List.getD_eq_getElem?_getD, List.getElem?_eq_getElem hi]
  exact h _ (List.getElem_mem hi)
theorem pk_mu {x : Int32} {L : Nat} (h0 : ¬ x < 0) (h : ¬ nI L ≤ x) (hL : L < 2 ^ 31) : ∃ j : Nat, j < L ∧ x = nI j ∧ x + 1 = nI (j + 1) ∧ x.toNatClampNeg = j ∧ L - (x + 1).toNatClampNeg < L - x.toNatClampNeg := by
  obtain ⟨j, hj, rfl⟩ := nI_of h0
  have hl : j < L := Nat.not_le.mp fun q => h (nI_le q hj)
  refine ⟨j, hl, rfl, nI_1 j, nI_clamp hj, ?_⟩
  rw [nI_1, nI_clamp (by omega), nI_clamp hj]
  omega
theorem op_s {α : Type} {r : Option α} {A : Prop} {B : α → Prop} {y : α} (h : r = some y) (b : B y) : (r = none → A) ∧ ∀ z, r = some z → B z :=
  ⟨fun e => (by rw [h] at e; cases e), fun z e => (by rw [h] at e; cases e; exact b)⟩
def l_holds {α : Type} (a : Nat → Option Nat) (LP : List Nat) (p : Nat → α) (c : Nat) (b : Nat → α) : Prop :=
  ∀ j, j < c → ∃ y, a j = some y ∧ y ∈ LP ∧ p y = b j
theorem l_holds_0 {α : Type} {a : Nat → Option Nat} {LP : List Nat} {p b : Nat → α} : l_holds a LP p 0 b := fun j h => absurd h (Nat.not_lt_zero j)
theorem l_in_new (LP : List Nat) (q : Nat) : q ∈ LP ++ [q] := List.mem_append.mpr (Or.inr (List.mem_singleton.mpr rfl))
def l_sum (b : Nat → Int32) : Nat → Int32
  | 0 => 0
  | k + 1 => l_sum b k + b k
theorem sb_shr0 (x : Int32) : x >>> ((0 : Int32) &&& 31) = x := by
  rw [show ((0 : Int32) &&& 31) = 0 by decide]
  simp
theorem sb_shl0 (x : Int32) : x <<< ((0 : Int32) &&& 31) = x := by
  rw [show ((0 : Int32) &&& 31) = 0 by decide]
  simp
theorem sb_cl0 : (0 : Int32).toNatClampNeg = 0 := by decide
theorem sb_m1 {p : Nat} (h : 0 < p) : nI p + (-1) = nI (p - 1) := by
  obtain ⟨q, rfl⟩ : ∃ q, p = q + 1 := ⟨p - 1, by omega⟩
  exact pk_m1 q
def sb_b (c : Nat) : Int32 := (nI c).toInt8.toInt32
theorem sb_byte : ∀ c, c < 256 → sb_b c &&& 255 = nI c ∧ ((nI c).toUInt32 % 65536).toInt32 = nI c ∧ nI c ≤ 255 := by decide +kernel
def sb_Fit (a : Nat → Int32) : Prop := ∀ j, fits .byte (.int (a j)) = true
def sb_Lat (t : Nat → Nat) (n : Nat) (a : Nat → Int32) : Prop := ∀ j, j < n → t j < 256 ∧ a j = sb_b (t j)
theorem sb_fitB (c : Nat) : fits .byte (.int (sb_b c)) = true := pk_fb _
theorem sb_fit0 : sb_Fit (fun _ => 0) := fun _ => by
  show fits .byte (.int 0) = true
  decide
theorem sb_fitU {a : Nat → Int32} {k : Nat} {x : Int32} (h : sb_Fit a) (hx : fits .byte (.int x) = true) : sb_Fit (upd a k x) := by
  intro j
  by_cases e : j = k
  · subst e
    rw [pk_us]
    exact hx
  · rw [pk_un e]
    exact h j
def sb_cat (t : Nat → Nat) (n : Nat) (s : Nat → Nat) : Nat → Nat := fun j => if j < n then t j else s (j - n)
theorem sb_cat_lo {t s : Nat → Nat} {n j : Nat} (h : j < n) : sb_cat t n s j = t j := if_pos h
theorem sb_cat_hi {t s : Nat → Nat} {n j : Nat} : sb_cat t n s (n + j) = s j := by
  show (if n + j < n then t (n + j) else s (n + j - n)) = s j
  rw [if_neg (by omega), Nat.add_sub_cancel_left]
theorem sb_latPut {t s : Nat → Nat} {n w : Nat} {a a' : Nat → Int32} (h : sb_Lat t n a) (hk : ∀ j, j < n → a' j = a j) (hs : ∀ i, i < w → s i < 256 ∧ a' (n + i) = sb_b (s i)) : sb_Lat (sb_cat t n s) (n + w) a' := by
  intro j hj
  by_cases e : j < n
  · rw [sb_cat_lo e, hk j e]
    exact h j e
  · obtain ⟨i, rfl⟩ : ∃ i, j = n + i := ⟨j - n, by omega⟩
    rw [sb_cat_hi]
    exact hs i (by omega)
theorem sb_latKeep {t : Nat → Nat} {n : Nat} {a a' : Nat → Int32} (h : sb_Lat t n a) (hk : ∀ j, j < n → a' j = a j) : sb_Lat t n a' := fun j hj => by
  rw [hk j hj]
  exact h j hj
def sb_cap (q m : Nat) : Nat := if q ≤ m then m else if 2 * m + 2 < q then q else 2 * m + 2
def sb_Room (q m mc ms : Nat) : Prop := q ≤ m ∨ (1 ≤ mc ∧ sb_cap q m ≤ ms ∧ sb_cap q m ≤ 65536)
theorem sb_cap_ge (q m : Nat) : q ≤ sb_cap q m := by
  unfold sb_cap
  split
  · omega
  · split <;> omega
theorem sb_cap_gem (q m : Nat) : m ≤ sb_cap q m := by
  unfold sb_cap
  split
  · omega
  · split <;> omega
theorem sb_cap_le {q m mc ms : Nat} (hm : m ≤ 65536) (hr : sb_Room q m mc ms) : sb_cap q m ≤ 65536 := by
  rcases hr with h | h
  · rw [sb_cap, if_pos h]
    exact hm
  · exact h.2.2
theorem sb_at {P : Int32 → Prop} {x y : Int32} (e : x = y) (h : P y) : P x := e ▸ h
def sb_dg (w : Nat) : Nat := if w < 10 then 1 else if w < 100 then 2 else if w < 1000 then 3 else if w < 10000 then 4 else if w < 100000 then 5 else if w < 1000000 then 6 else if w < 10000000 then 7 else if w < 100000000 then 8 else if w < 1000000000 then 9 else 10
def sb_dec (v : Nat) : Nat → Nat := fun i => 48 + v / 10 ^ (sb_dg v - 1 - i) % 10
theorem sb_dg_in (w : Nat) : 1 ≤ sb_dg w ∧ sb_dg w ≤ 10 := by
  unfold sb_dg
  constructor <;> (repeat' split) <;> omega
theorem sb_dg100 {w : Nat} (h : 100 ≤ w) (hw : w < 2 ^ 31) : sb_dg w = sb_dg (w / 100) + 2 := by
  rw [sb_dg, sb_dg, if_neg (show ¬ w < 10 by omega), if_neg (show ¬ w < 100 by omega)]
  by_cases h3 : w < 1000
  · rw [if_pos h3, if_pos (show w / 100 < 10 by omega)]
  rw [if_neg h3, if_neg (show ¬ w / 100 < 10 by omega)]
  by_cases h4 : w < 10000
  · rw [if_pos h4, if_pos (show w / 100 < 100 by omega)]
  rw [if_neg h4, if_neg (show ¬ w / 100 < 100 by omega)]
  by_cases h5 : w < 100000
  · rw [if_pos h5, if_pos (show w / 100 < 1000 by omega)]
  rw [if_neg h5, if_neg (show ¬ w / 100 < 1000 by omega)]
  by_cases h6 : w < 1000000
  · rw [if_pos h6, if_pos (show w / 100 < 10000 by omega)]
  rw [if_neg h6, if_neg (show ¬ w / 100 < 10000 by omega)]
  by_cases h7 : w < 10000000
  · rw [if_pos h7, if_pos (show w / 100 < 100000 by omega)]
  rw [if_neg h7, if_neg (show ¬ w / 100 < 100000 by omega)]
  by_cases h8 : w < 100000000
  · rw [if_pos h8, if_pos (show w / 100 < 1000000 by omega)]
  rw [if_neg h8, if_neg (show ¬ w / 100 < 1000000 by omega)]
  by_cases h9 : w < 1000000000
  · rw [if_pos h9, if_pos (show w / 100 < 10000000 by omega)]
  rw [if_neg h9, if_neg (show ¬ w / 100 < 10000000 by omega)]
  rw [if_pos (show w / 100 < 100000000 by omega)]
theorem sb_negT {w : Nat} (h : w < 2 ^ 31) : (-nI w).toInt = -(w : Int) := by
  rw [Int32.toInt_neg, nI_toInt h]
  exact Int.bmod_eq_of_le (by omega) (by omega)
theorem sb_nle {a b : Nat} (ha : a < 2 ^ 31) (hb : b < 2 ^ 31) : -nI a ≤ -nI b ↔ b ≤ a := by
  rw [Int32.le_iff_toInt_le, sb_negT ha, sb_negT hb]
  omega
theorem sb_nlt {a b : Nat} (ha : a < 2 ^ 31) (hb : b < 2 ^ 31) : -nI a < -nI b ↔ b < a := by
  rw [Int32.lt_iff_toInt_lt, sb_negT ha, sb_negT hb]
  omega
theorem sb_cmp {A B : Prop} {x : Int32} (v c : Nat) (f : c ≤ v → A) (g : v < c → B) (hv : v < 2 ^ 31) (hx : x = -nI c := by rfl) (hc : c < 2 ^ 31 := by omega) : (-nI v ≤ x → A) ∧ (¬ -nI v ≤ x → B) := by
  subst hx
  rw [sb_nle hv hc]
  exact ⟨f, fun z => g (by omega)⟩
theorem sb_ndiv {w : Nat} (hw : w < 2 ^ 31) : (-nI w) / 100 = -nI (w / 100) := by
  apply Int32.toInt_inj.mp
  have h100 : (100 : Int32).toInt = 100 := by decide
  rw [Int32.toInt_div, sb_negT hw, h100, sb_negT (by omega), Int.neg_tdiv, Int.tdiv_eq_ediv_of_nonneg (by omega), Int.bmod_eq_of_le (by omega) (by omega)]
  omega
theorem sb_nrem {w : Nat} (hw : w < 2 ^ 31) : (-nI (w / 100)) * 100 - (-nI w) = nI (w % 100) := by
  have h := pk_rem (a := w) (d := 100) hw (by decide) (by decide)
  rw [pk_div hw (by decide) (by decide)] at h
  rw [← h]
  show (-nI (w / 100)) * nI 100 - (-nI w) = nI w - nI (w / 100) * nI 100
  rw [Int32.neg_mul, Int32.sub_neg, Int32.add_comm, ← Int32.sub_eq_add_neg]
end
section
/-! rows on bits, shifts and unsigned numbers, to paste: each family out of a closed proof of our own, whole with what it rests on; each by itself clean at Lean in its own claim (generation 39, form 5). Take a family whole -/
/-! ===== Int32 by its bits: bt x i ===== -/
def bt (x : Int32) (i : Nat) : Bool := x.toBitVec.getLsbD i
theorem b_ext {x y : Int32} (h : ∀ i, i < 32 → bt x i = bt y i) : x = y := Int32.toBitVec_inj.mp (BitVec.eq_of_getLsbD_eq (fun i hi => h i hi))
theorem b_or (x y : Int32) (i : Nat) : bt (x ||| y) i = (bt x i || bt y i) := by unfold bt; rw [Int32.toBitVec_or, BitVec.getLsbD_or]
theorem b_and (x y : Int32) (i : Nat) : bt (x &&& y) i = (bt x i && bt y i) := by unfold bt; rw [Int32.toBitVec_and, BitVec.getLsbD_and]
theorem b_xor (x y : Int32) (i : Nat) : bt (x ^^^ y) i = (bt x i ^^ bt y i) := by unfold bt; rw [Int32.toBitVec_xor, BitVec.getLsbD_xor]
theorem b_big {x : Int32} {i : Nat} (h : 32 ≤ i) : bt x i = false := BitVec.getLsbD_of_ge _ _ h
theorem b_255 (i : Nat) : bt 255 i = decide (i < 8) := by
  rcases Nat.lt_or_ge i 32 with h | h
  · exact (by decide +kernel : ∀ i, i < 32 → bt 255 i = decide (i < 8)) i h
  · rw [b_big h, decide_eq_false (by omega)]
theorem b_65535 (i : Nat) : bt 65535 i = decide (i < 16) := by
  rcases Nat.lt_or_ge i 32 with h | h
  · exact (by decide +kernel : ∀ i, i < 32 → bt 65535 i = decide (i < 16)) i h
  · rw [b_big h, decide_eq_false (by omega)]
theorem b_m1 : ∀ i, i < 32 → bt (-1) i = true := by decide +kernel
theorem b_0 (i : Nat) : bt 0 i = false := BitVec.getLsbD_zero
theorem s_l : ∀ n, n < 32 → ((nI n &&& 31).toBitVec.smod 32).toNat = n := by decide +kernel
theorem s_u : ∀ n, n < 32 → (((nI n).toUInt32 &&& Int32.toUInt32 31).toBitVec % 32).toNat = n := by decide +kernel
theorem b_shl (n : Nat) (hn : n < 32) (x : Int32) {i : Nat} (hi : i < 32) : bt (x <<< (nI n &&& 31)) i = (decide (n ≤ i) && bt x (i - n)) := by
  unfold bt
  rw [Int32.toBitVec_shiftLeft]
  show (x.toBitVec <<< ((nI n &&& 31).toBitVec.smod 32).toNat).getLsbD i = _
  rw [s_l n hn, BitVec.getLsbD_shiftLeft]
  rcases Nat.lt_or_ge i n with h | h
  · simp [h, Nat.not_le.mpr h]
  · simp [hi, h, Nat.not_lt.mpr h]
theorem b_ushr (n : Nat) (hn : n < 32) (x : Int32) (i : Nat) : bt ((x.toUInt32 >>> ((nI n).toUInt32 &&& Int32.toUInt32 31)).toInt32) i = bt x (n + i) := by
  show (x.toUInt32 >>> ((nI n).toUInt32 &&& Int32.toUInt32 31)).toBitVec.getLsbD i = x.toUInt32.toBitVec.getLsbD (n + i)
  rw [UInt32.toBitVec_shiftRight]
  show (x.toUInt32.toBitVec >>> (((nI n).toUInt32 &&& Int32.toUInt32 31).toBitVec % 32).toNat).getLsbD i = _
  rw [s_u n hn, BitVec.getLsbD_ushiftRight]
theorem b_sshr (n : Nat) (hn : n < 32) (x : Int32) {i : Nat} (hi : i < 32) : bt (x >>> (nI n &&& 31)) i = if n + i < 32 then bt x (n + i) else bt x 31 := by
  unfold bt
  rw [Int32.toBitVec_shiftRight]
  show (x.toBitVec.sshiftRight ((nI n &&& 31).toBitVec.smod 32).toNat).getLsbD i = _
  rw [s_l n hn, BitVec.getLsbD_sshiftRight, BitVec.msb_eq_getLsbD_last]
  simp [hi]
theorem b_shl8 (x : Int32) {i : Nat} (hi : i < 32) : bt (x <<< ((8 : Int32) &&& 31)) i = (decide (8 ≤ i) && bt x (i - 8)) := b_shl 8 (by omega) x hi
theorem b_shl16 (x : Int32) {i : Nat} (hi : i < 32) : bt (x <<< ((16 : Int32) &&& 31)) i = (decide (16 ≤ i) && bt x (i - 16)) := b_shl 16 (by omega) x hi
theorem b_shl24 (x : Int32) {i : Nat} (hi : i < 32) : bt (x <<< ((24 : Int32) &&& 31)) i = (decide (24 ≤ i) && bt x (i - 24)) := b_shl 24 (by omega) x hi
theorem b_sshr8 (x : Int32) {i : Nat} (hi : i < 32) : bt (x >>> ((8 : Int32) &&& 31)) i = if 8 + i < 32 then bt x (8 + i) else bt x 31 := b_sshr 8 (by omega) x hi
end
section
/-! the pure picture: programs, orders, values -/
abbrev pg_T : Type := (Nat → Nat) × (Nat → Nat) × (Nat → Nat) × (Nat → Nat) × Nat × Nat × Nat
def pg_K (g : pg_T) : Nat → Nat := g.1
def pg_A (g : pg_T) : Nat → Nat := g.2.1
def pg_W (g : pg_T) : Nat → Nat := g.2.2.1
def pg_L (g : pg_T) : Nat → Nat := g.2.2.2.1
def pg_n (g : pg_T) : Nat := g.2.2.2.2.1
def pg_c (g : pg_T) : Nat := g.2.2.2.2.2.1
def pg_d (g : pg_T) : Nat := g.2.2.2.2.2.2
abbrev pg_S (k : Nat) : Prop := k = 2 ∨ k = 3
abbrev pg_R (k : Nat) : Prop := k = 1 ∨ k = 5
abbrev pg_M (k : Nat) : Prop := k = 1 ∨ k = 5 ∨ k = 2 ∨ k = 3
def pg_rb (g : pg_T) (rd : Nat → Nat) (p r : Nat) : Nat → Nat
  | 0 => 0
  | j + 1 =>
    if pg_R (pg_K g (8 * p + j)) ∧ pg_W g (8 * p + j) % 2 = r then rd (8 * p + j)
    else if pg_K g (8 * p + j) = 6 ∧ pg_A g (8 * p + j) = r then (pg_rb g rd p r j + pg_W g (8 * p + j)) % 4
    else pg_rb g rd p r j
def pg_wr (g : pg_T) (rd : Nat → Nat) (e : Nat) : Nat :=
  if pg_K g e = 2 then pg_W g e else if pg_K g e = 5 then pg_W g e / 2 else pg_rb g rd (e / 8) (pg_W g e) (e % 8)
abbrev pg_ws (g : pg_T) (rd : Nat → Nat) (a e : Nat) : Prop :=
  pg_A g e = a ∧ pg_K g e ≠ 1 ∧ (pg_K g e = 5 → rd e = pg_rb g rd (e / 8) (pg_W g e % 2) (e % 8))
def pg_lw (g : pg_T) (rd : Nat → Nat) (a : Nat) : List Nat → Nat
  | [] => 0
  | e :: T => if pg_ws g rd a e then e + 1 else pg_lw g rd a T
def pg_sv (g : pg_T) (rd : Nat → Nat) : Nat → Nat
  | 0 => 0
  | x + 1 => pg_wr g rd x
def pg_ow (g : pg_T) (H : List Nat) (a b : Nat) : Nat → Nat
  | 0 => 0
  | i + 1 => if pg_S (pg_K g (b + i)) ∧ pg_A g (b + i) = a ∧ ¬ (b + i) ∈ H then b + i + 1 else pg_ow g H a b i
def pg_sr (g : pg_T) (rd : Nat → Nat) (H : List Nat) (e : Nat) : Nat :=
  if pg_K g e = 1 ∧ pg_ow g H (pg_A g e) (8 * (e / 8)) (e % 8) ≠ 0 then pg_ow g H (pg_A g e) (8 * (e / 8)) (e % 8) else pg_lw g rd (pg_A g e) H
def pg_rd (g : pg_T) : List Nat → Nat → Nat
  | [] => fun _ => 0
  | e :: T => fun x => if x = e ∧ pg_R (pg_K g e) then pg_sv g (pg_rd g T) (pg_sr g (pg_rd g T) T e) else pg_rd g T x
def pg_mem (g : pg_T) (H : List Nat) (a : Nat) : Nat := pg_sv g (pg_rd g H) (pg_lw g (pg_rd g H) a H)
def pg_reg (g : pg_T) (H : List Nat) (p r j : Nat) : Nat := pg_rb g (pg_rd g H) p r j
def pg_ov (g : pg_T) (H : List Nat) (b : Nat) : Nat → Nat
  | 0 => 0
  | i + 1 => if pg_S (pg_K g (b + i)) ∧ ¬ (b + i) ∈ H then pg_ov g H b i + 1 else pg_ov g H b i
def pg_pd (g : pg_T) (H : List Nat) (b : Nat) : Nat → List Nat
  | 0 => []
  | i + 1 => if pg_S (pg_K g (b + i)) ∧ ¬ (b + i) ∈ H then pg_pd g H b i ++ [b + i] else pg_pd g H b i
abbrev pg_ev (g : pg_T) (e : Nat) : Prop := e / 8 < pg_n g ∧ e % 8 < pg_L g (e / 8) ∧ pg_M (pg_K g e)
def pg_es (g : pg_T) : Nat → List Nat
  | 0 => []
  | s + 1 => if pg_ev g s then s :: pg_es g s else pg_es g s
def pg_bk (g : pg_T) (T : List Nat) (e : Nat) : Prop :=
  ∃ s, 8 * (e / 8) ≤ s ∧ s < e ∧ pg_M (pg_K g s) ∧ ¬ s ∈ T ∧ (pg_K g e ≠ 1 ∨ ¬ pg_S (pg_K g s) ∨ ∃ f, s < f ∧ f < e ∧ pg_K g f = 4)
def pg_ok (g : pg_T) (T : List Nat) (e : Nat) : Prop :=
  pg_ev g e ∧ ¬ e ∈ T ∧ ¬ pg_bk g T e ∧ (pg_K g e = 1 → pg_ov g T (8 * (e / 8)) (e % 8) ≤ pg_d g)
def pg_vo (g : pg_T) : List Nat → Prop
  | [] => True
  | e :: T => pg_vo g T ∧ pg_ok g T e
def pg_wk (g : pg_T) : Prop := ∀ e, pg_K g e ≤ 6 ∧ pg_A g e ≤ 2 ∧ pg_W g e ≤ 7 ∧ (pg_K g e = 1 ∨ pg_K g e = 3 → pg_W g e ≤ 1) ∧ (pg_K g e = 2 → pg_W g e ≤ 3) ∧ (pg_K g e = 6 → pg_A g e ≤ 1 ∧ pg_W g e ≤ 3) ∧ (pg_K g e ≠ 6 → pg_A g e < pg_c g)
def pg_wf (g : pg_T) : Prop :=
  1 ≤ pg_n g ∧ pg_n g ≤ 3 ∧ 1 ≤ pg_c g ∧ pg_c g ≤ 3 ∧ pg_d g ≤ 3 ∧ (∀ p, pg_L g p ≤ 5) ∧ (∀ p, pg_n g ≤ p → pg_L g p = 0) ∧ (∀ p i, i < pg_L g p → 1 ≤ pg_K g (8 * p + i)) ∧ pg_wk g ∧ (pg_es g 24).length ≤ 6
def pg_N (g : pg_T) : Nat := (pg_es g 24).length
def pg_cp (g : pg_T) (H : List Nat) : Prop := pg_vo g H ∧ H.length = pg_N g
def pg_sm (f : Nat → Nat) : Nat → Nat
  | 0 => 0
  | i + 1 => pg_sm f i + f i * 4 ^ i
def pg_cf (g : pg_T) (H : List Nat) (i : Nat) : Nat := if i < 6 then pg_reg g H (i / 2) (i % 2) (pg_L g (i / 2)) else pg_mem g H (i - 6)
def pg_code (g : pg_T) (H : List Nat) : Nat := pg_sm (pg_cf g H) 9

theorem pg_rbx {g : pg_T} {rd rd' : Nat → Nat} {p r : Nat} : ∀ {j : Nat}, (∀ i, i < j → pg_R (pg_K g (8 * p + i)) → rd (8 * p + i) = rd' (8 * p + i)) → pg_rb g rd p r j = pg_rb g rd' p r j
  | 0, _ => rfl
  | j + 1, h => by
    have ih := pg_rbx (g := g) (rd := rd) (rd' := rd') (p := p) (r := r) (j := j) (fun i hi => h i (by omega))
    simp only [pg_rb]
    by_cases c : pg_R (pg_K g (8 * p + j)) ∧ pg_W g (8 * p + j) % 2 = r
    · rw [if_pos c, if_pos c]; exact h j (by omega) c.1
    · rw [if_neg c, if_neg c, ih]
theorem pg_rbl {g : pg_T} {rd : Nat → Nat} (h : ∀ x, rd x < 4) (p r : Nat) : ∀ j, pg_rb g rd p r j < 4
  | 0 => by simp only [pg_rb]; omega
  | j + 1 => by
    have ih := pg_rbl (g := g) h p r j
    simp only [pg_rb]
    split
    · exact h _
    · split
      · omega
      · exact ih
theorem pg_wrl {g : pg_T} (hw : pg_wk g) {rd : Nat → Nat} (h : ∀ x, rd x < 4) (e : Nat) : pg_wr g rd e < 4 := by
  obtain ⟨h1, h2, h3, h4, h5, h6, h7⟩ := hw e
  unfold pg_wr
  split
  · rename_i c; have := h5 c; omega
  · split
    · omega
    · exact pg_rbl h _ _ _
theorem pg_svl {g : pg_T} (hw : pg_wk g) {rd : Nat → Nat} (h : ∀ x, rd x < 4) : ∀ q, pg_sv g rd q < 4
  | 0 => by simp only [pg_sv]; omega
  | q + 1 => by simp only [pg_sv]; exact pg_wrl hw h q
theorem pg_rdl {g : pg_T} (hw : pg_wk g) : ∀ (H : List Nat) (x : Nat), pg_rd g H x < 4
  | [], x => by simp only [pg_rd]; omega
  | e :: T, x => by
    simp only [pg_rd]
    split
    · exact pg_svl hw (pg_rdl hw T) _
    · exact pg_rdl hw T x
theorem pg_memL {g : pg_T} (hw : pg_wk g) (H : List Nat) (a : Nat) : pg_mem g H a < 4 := pg_svl hw (pg_rdl hw H) _
theorem pg_regL {g : pg_T} (hw : pg_wk g) (H : List Nat) (p r j : Nat) : pg_reg g H p r j < 4 := pg_rbl (pg_rdl hw H) p r j
theorem pg_wrL {g : pg_T} (hw : pg_wk g) (H : List Nat) (e : Nat) : pg_wr g (pg_rd g H) e < 4 := pg_wrl hw (pg_rdl hw H) e
theorem pg_cfL {g : pg_T} (hw : pg_wk g) (H : List Nat) (i : Nat) : pg_cf g H i < 4 := by
  unfold pg_cf
  split
  · exact pg_regL hw _ _ _ _
  · exact pg_memL hw _ _
theorem pg_smL {f : Nat → Nat} (h : ∀ i, f i < 4) : ∀ n, pg_sm f n < 4 ^ n
  | 0 => by simp [pg_sm]
  | n + 1 => by
    have ih := pg_smL h n
    have := Nat.mul_le_mul_right (4 ^ n) (show f n ≤ 3 from by have := h n; omega)
    simp only [pg_sm, Nat.pow_succ]
    omega
theorem pg_smx {f f' : Nat → Nat} : ∀ {n : Nat}, (∀ i, i < n → f i = f' i) → pg_sm f n = pg_sm f' n
  | 0, _ => rfl
  | n + 1, h => by
    simp only [pg_sm]
    rw [pg_smx (f := f) (f' := f') (n := n) (fun i hi => h i (by omega)), h n (by omega)]
theorem pg_smz {f : Nat → Nat} {n : Nat} : ∀ {m : Nat}, (∀ i, n ≤ i → i < n + m → f i = 0) → pg_sm f (n + m) = pg_sm f n
  | 0, _ => rfl
  | m + 1, h => by
    rw [← Nat.add_assoc]
    simp only [pg_sm]
    rw [h (n + m) (by omega) (by omega), pg_smz (f := f) (n := n) (m := m) (fun i h1 h2 => h i h1 (by omega))]
    omega
theorem pg_rdn {g : pg_T} {e x : Nat} {T : List Nat} (h : x ≠ e) : pg_rd g (e :: T) x = pg_rd g T x := by
  simp only [pg_rd]
  exact if_neg (fun z => h z.1)
theorem pg_rds {g : pg_T} {e : Nat} {T : List Nat} (h : ¬ pg_R (pg_K g e)) : pg_rd g (e :: T) = pg_rd g T := by
  funext x
  simp only [pg_rd]
  exact if_neg (fun z => h z.2)
theorem pg_rde {g : pg_T} {e : Nat} {T : List Nat} (h : pg_R (pg_K g e)) : pg_rd g (e :: T) e = pg_sv g (pg_rd g T) (pg_sr g (pg_rd g T) T e) := by
  simp only [pg_rd]
  exact if_pos ⟨trivial, h⟩
theorem pg_okr {g : pg_T} {T : List Nat} {e : Nat} (h : pg_ok g T e) {s : Nat} (h8 : s / 8 = e / 8) (hs : s < e) (hr : pg_R (pg_K g s)) : s ∈ T := by
  by_cases m : s ∈ T
  · exact m
  · refine absurd ⟨s, by omega, hs, ?_, m, Or.inr (Or.inl ?_)⟩ h.2.2.1
    · rcases hr with hr | hr
      · exact Or.inl hr
      · exact Or.inr (Or.inl hr)
    · intro z
      rcases hr with hr | hr <;> rcases z with z | z <;> omega
theorem pg_okm {g : pg_T} {T : List Nat} {e : Nat} (h : pg_ok g T e) (h1 : pg_K g e ≠ 1) {s : Nat} (h8 : s / 8 = e / 8) (hs : s < e) (hm : pg_M (pg_K g s)) : s ∈ T := by
  by_cases m : s ∈ T
  · exact m
  · exact absurd ⟨s, by omega, hs, hm, m, Or.inl h1⟩ h.2.2.1
theorem pg_vor {g : pg_T} : ∀ {T : List Nat}, pg_vo g T → ∀ {x s : Nat}, x ∈ T → s / 8 = x / 8 → s < x → pg_R (pg_K g s) → s ∈ T
  | [], _, _, _, hx, _, _, _ => absurd hx (by simp)
  | e :: T, h, x, s, hx, h8, hs, hr => by
    rcases List.mem_cons.mp hx with hx | hx
    · subst hx
      exact List.mem_cons_of_mem _ (pg_okr h.2 h8 hs hr)
    · exact List.mem_cons_of_mem _ (pg_vor h.1 hx h8 hs hr)
theorem pg_vod {g : pg_T} : ∀ {T : List Nat}, pg_vo g T → T.Nodup ∧ ∀ x, x ∈ T → pg_ev g x
  | [], _ => ⟨List.nodup_nil, fun x hx => absurd hx (by simp)⟩
  | e :: T, h => by
    have ih := pg_vod h.1
    refine ⟨List.nodup_cons.mpr ⟨h.2.2.1, ih.1⟩, fun x hx => ?_⟩
    rcases List.mem_cons.mp hx with hx | hx
    · rw [hx]; exact h.2.1
    · exact ih.2 x hx
theorem pg_vos {g : pg_T} : ∀ {Q H : List Nat}, pg_vo g (Q ++ H) → pg_vo g H
  | [], _, h => h
  | _ :: Q, _, h => pg_vos (Q := Q) h.1
theorem pg_voe {g : pg_T} {Q H : List Nat} {e : Nat} (h : pg_vo g (Q ++ e :: H)) : pg_ok g H e := (pg_vos h).2
theorem pg_esm {g : pg_T} : ∀ {n x : Nat}, x ∈ pg_es g n ↔ x < n ∧ pg_ev g x
  | 0, x => by simp [pg_es]
  | n + 1, x => by
    have ih := pg_esm (g := g) (n := n) (x := x)
    simp only [pg_es]
    by_cases c : pg_ev g n
    · rw [if_pos c, List.mem_cons, ih]
      constructor
      · rintro (h | h)
        · subst h; exact ⟨by omega, c⟩
        · exact ⟨by omega, h.2⟩
      · rintro ⟨h, h'⟩
        by_cases e : x = n
        · exact Or.inl e
        · exact Or.inr ⟨by omega, h'⟩
    · rw [if_neg c, ih]
      constructor
      · rintro ⟨h, h'⟩; exact ⟨by omega, h'⟩
      · rintro ⟨h, h'⟩
        by_cases e : x = n
        · subst e; exact absurd h' c
        · exact ⟨by omega, h'⟩
theorem pg_esd {g : pg_T} : ∀ n, (pg_es g n).Nodup
  | 0 => List.nodup_nil
  | n + 1 => by
    simp only [pg_es]
    split
    · refine List.nodup_cons.mpr ⟨fun h => ?_, pg_esd n⟩
      have := (pg_esm.mp h).1
      omega
    · exact pg_esd n
theorem pg_ev24 {g : pg_T} (hw : pg_wf g) {e : Nat} (h : pg_ev g e) : e < 24 := by
  have := hw.2.1
  have := h.1
  omega
theorem pg_len {g : pg_T} (hw : pg_wf g) {H : List Nat} (hn : H.Nodup) (he : ∀ x, x ∈ H → pg_ev g x) : H.length ≤ pg_N g :=
  hn.length_le_of_subset (fun x hx => pg_esm.mpr ⟨pg_ev24 hw (he x hx), he x hx⟩)
theorem pg_all {g : pg_T} (hw : pg_wf g) {H : List Nat} (hn : H.Nodup) (he : ∀ x, x ∈ H → pg_ev g x) (hl : pg_N g ≤ H.length) {e : Nat} (h : pg_ev g e) : e ∈ H := by
  by_cases m : e ∈ H
  · exact m
  · have := pg_len hw (H := e :: H) (List.nodup_cons.mpr ⟨m, hn⟩) (fun x hx => by
      rcases List.mem_cons.mp hx with hx | hx
      · rw [hx]; exact h
      · exact he x hx)
    simp only [List.length_cons] at this
    omega
theorem pg_cpa {g : pg_T} (hw : pg_wf g) {H : List Nat} (h : pg_cp g H) {e : Nat} (he : pg_ev g e) : e ∈ H :=
  pg_all hw (pg_vod h.1).1 (pg_vod h.1).2 (by rw [h.2]; exact Nat.le_refl _) he
end
section
/-! values stay: what a later event doesn't change -/
theorem pg_rbs {g : pg_T} {e p r j : Nat} {T : List Nat} (hj : j ≤ 8) (h : e / 8 = p → j ≤ e % 8) : pg_rb g (pg_rd g (e :: T)) p r j = pg_rb g (pg_rd g T) p r j :=
  pg_rbx (fun i hi _ => pg_rdn (fun z => by
    have h1 : e / 8 = p := by omega
    have := h h1
    omega))
theorem pg_wrx {g : pg_T} {rd rd' : Nat → Nat} {x : Nat} (h : ∀ s, s / 8 = x / 8 → s < x → pg_R (pg_K g s) → rd s = rd' s) : pg_wr g rd x = pg_wr g rd' x := by
  unfold pg_wr
  rw [pg_rbx (fun i hi hr => h (8 * (x / 8) + i) (by omega) (by omega) hr)]
theorem pg_wsx {g : pg_T} {rd rd' : Nat → Nat} {a x : Nat} (h : ∀ s, s / 8 = x / 8 → s < x → pg_R (pg_K g s) → rd s = rd' s) (hx : rd x = rd' x) : pg_ws g rd a x ↔ pg_ws g rd' a x := by
  unfold pg_ws
  rw [hx, pg_rbx (rd := rd) (rd' := rd') (fun i hi hr => h (8 * (x / 8) + i) (by omega) (by omega) hr)]
theorem pg_lwx {g : pg_T} {rd rd' : Nat → Nat} {a : Nat} : ∀ {T : List Nat}, (∀ x, x ∈ T → (pg_ws g rd a x ↔ pg_ws g rd' a x)) → pg_lw g rd a T = pg_lw g rd' a T
  | [], _ => rfl
  | e :: T, h => by
    have ih := pg_lwx (g := g) (rd := rd) (rd' := rd') (a := a) (T := T) (fun x hx => h x (List.mem_cons_of_mem _ hx))
    have he := h e List.mem_cons_self
    simp only [pg_lw]
    by_cases c : pg_ws g rd a e
    · rw [if_pos c, if_pos (he.mp c)]
    · rw [if_neg c, if_neg (fun z => c (he.mpr z)), ih]
theorem pg_lwm {g : pg_T} {rd : Nat → Nat} {a q : Nat} : ∀ {T : List Nat}, pg_lw g rd a T = q + 1 → q ∈ T ∧ pg_ws g rd a q
  | [], h => by simp [pg_lw] at h
  | e :: T, h => by
    simp only [pg_lw] at h
    by_cases c : pg_ws g rd a e
    · rw [if_pos c] at h
      have : e = q := by omega
      subst this
      exact ⟨List.mem_cons_self, c⟩
    · rw [if_neg c] at h
      have := pg_lwm h
      exact ⟨List.mem_cons_of_mem _ this.1, this.2⟩
theorem pg_wrs {g : pg_T} {T : List Nat} {e x : Nat} (hv : pg_vo g T) (he : ¬ e ∈ T) (hx : x ∈ T) : pg_wr g (pg_rd g (e :: T)) x = pg_wr g (pg_rd g T) x :=
  pg_wrx (fun s h8 hs hr => pg_rdn (fun z => he (z ▸ pg_vor hv hx h8 hs hr)))
theorem pg_wss {g : pg_T} {T : List Nat} {a e x : Nat} (hv : pg_vo g T) (he : ¬ e ∈ T) (hx : x ∈ T) : pg_ws g (pg_rd g (e :: T)) a x ↔ pg_ws g (pg_rd g T) a x :=
  pg_wsx (fun s h8 hs hr => pg_rdn (fun z => he (z ▸ pg_vor hv hx h8 hs hr))) (pg_rdn (fun z => he (z ▸ hx)))
theorem pg_lws {g : pg_T} {T : List Nat} {a e : Nat} (hv : pg_vo g T) (he : ¬ e ∈ T) : pg_lw g (pg_rd g (e :: T)) a T = pg_lw g (pg_rd g T) a T :=
  pg_lwx (fun _ hx => pg_wss hv he hx)
theorem pg_mems {g : pg_T} {T : List Nat} {a e : Nat} (hv : pg_vo g T) (he : ¬ e ∈ T) : pg_sv g (pg_rd g (e :: T)) (pg_lw g (pg_rd g T) a T) = pg_mem g T a := by
  unfold pg_mem
  cases hq : pg_lw g (pg_rd g T) a T with
  | zero => rfl
  | succ q =>
    simp only [pg_sv]
    exact pg_wrs hv he (pg_lwm hq).1
theorem pg_memc {g : pg_T} {T : List Nat} {a e : Nat} (hv : pg_vo g T) (he : ¬ e ∈ T) : pg_mem g (e :: T) a = if pg_ws g (pg_rd g (e :: T)) a e then pg_wr g (pg_rd g (e :: T)) e else pg_mem g T a := by
  conv => lhs; unfold pg_mem
  simp only [pg_lw]
  split
  · simp only [pg_sv]
  · rw [pg_lws hv he, pg_mems hv he]
theorem pg_wrn {g : pg_T} {T : List Nat} {e : Nat} : pg_wr g (pg_rd g (e :: T)) e = pg_wr g (pg_rd g T) e :=
  pg_wrx (fun s h8 hs hr => pg_rdn (by omega))
theorem pg_memS {g : pg_T} {T : List Nat} {a e : Nat} (hv : pg_vo g T) (he : ¬ e ∈ T) (hs : pg_S (pg_K g e)) : pg_mem g (e :: T) a = if pg_A g e = a then pg_wr g (pg_rd g T) e else pg_mem g T a := by
  rw [pg_memc hv he, pg_wrn]
  by_cases c : pg_A g e = a
  · rw [if_pos c, if_pos ⟨c, by rcases hs with hs | hs <;> omega, fun z => by rcases hs with hs | hs <;> omega⟩]
  · rw [if_neg c, if_neg (fun z => c z.1)]
theorem pg_memR {g : pg_T} {T : List Nat} {a e : Nat} (hv : pg_vo g T) (he : ¬ e ∈ T) (hs : pg_K g e = 1) : pg_mem g (e :: T) a = pg_mem g T a := by
  rw [pg_memc hv he]
  exact if_neg (fun z => z.2.1 hs)
theorem pg_rdC {g : pg_T} {T : List Nat} {e : Nat} (hs : pg_K g e = 5) : pg_rd g (e :: T) e = pg_mem g T (pg_A g e) := by
  rw [pg_rde (Or.inr hs)]
  unfold pg_sr pg_mem
  rw [if_neg (fun z => by omega)]
theorem pg_memC {g : pg_T} {T : List Nat} {a e : Nat} (hv : pg_vo g T) (he : ¬ e ∈ T) (hs : pg_K g e = 5) : pg_mem g (e :: T) a = if pg_A g e = a ∧ pg_mem g T (pg_A g e) = pg_reg g T (e / 8) (pg_W g e % 2) (e % 8) then pg_W g e / 2 else pg_mem g T a := by
  rw [pg_memc hv he]
  have h1 : pg_rb g (pg_rd g (e :: T)) (e / 8) (pg_W g e % 2) (e % 8) = pg_reg g T (e / 8) (pg_W g e % 2) (e % 8) := pg_rbs (by omega) (fun _ => Nat.le_refl _)
  have h2 : pg_wr g (pg_rd g (e :: T)) e = pg_W g e / 2 := by
    unfold pg_wr
    rw [if_neg (by omega), if_pos hs]
  rw [h2]
  by_cases c : pg_A g e = a ∧ pg_mem g T (pg_A g e) = pg_reg g T (e / 8) (pg_W g e % 2) (e % 8)
  · rw [if_pos c, if_pos ⟨c.1, by omega, fun _ => by rw [pg_rdC hs, h1]; exact c.2⟩]
  · rw [if_neg c, if_neg (fun z => c ⟨z.1, by have := z.2.2 hs; rw [pg_rdC hs, h1] at this; exact this⟩)]
/-- a register, one instruction further -/
theorem pg_rgN {g : pg_T} {H : List Nat} {p r j : Nat} (h1 : ¬ pg_R (pg_K g (8 * p + j))) (h6 : pg_K g (8 * p + j) ≠ 6) : pg_reg g H p r (j + 1) = pg_reg g H p r j := by
  unfold pg_reg
  simp only [pg_rb]
  rw [if_neg (fun z => h1 z.1), if_neg (fun z => h6 z.1)]
theorem pg_rgA {g : pg_T} {H : List Nat} {p r j : Nat} (h6 : pg_K g (8 * p + j) = 6) : pg_reg g H p r (j + 1) = if pg_A g (8 * p + j) = r then (pg_reg g H p r j + pg_W g (8 * p + j)) % 4 else pg_reg g H p r j := by
  unfold pg_reg
  simp only [pg_rb]
  rw [if_neg (fun z => by rcases z.1 with z | z <;> omega)]
  by_cases c : pg_A g (8 * p + j) = r
  · rw [if_pos ⟨h6, c⟩, if_pos c]
  · rw [if_neg (fun z => c z.2), if_neg c]
theorem pg_rgR {g : pg_T} {H : List Nat} {p r j : Nat} (hj : j < 8) (h1 : pg_R (pg_K g (8 * p + j))) : pg_reg g ((8 * p + j) :: H) p r (j + 1) = if pg_W g (8 * p + j) % 2 = r then pg_rd g ((8 * p + j) :: H) (8 * p + j) else pg_reg g H p r j := by
  unfold pg_reg
  simp only [pg_rb]
  by_cases c : pg_W g (8 * p + j) % 2 = r
  · rw [if_pos ⟨h1, c⟩, if_pos c]
  · rw [if_neg (fun z => c z.2), if_neg c, if_neg (fun z => by rcases h1 with h | h <;> omega)]
    exact pg_rbs (by omega) (by omega)
theorem pg_rgO {g : pg_T} {H : List Nat} {e p r j : Nat} (hj : j ≤ 8) (h : e / 8 = p → j ≤ e % 8) : pg_reg g (e :: H) p r j = pg_reg g H p r j := pg_rbs hj h
theorem pg_rgS {g : pg_T} {H : List Nat} {e p r j : Nat} (h : ¬ pg_R (pg_K g e)) : pg_reg g (e :: H) p r j = pg_reg g H p r j := by
  unfold pg_reg
  rw [pg_rds h]
/-! pending stores -/
theorem pg_pdl {g : pg_T} {H : List Nat} {b : Nat} : ∀ {i : Nat}, (pg_pd g H b i).length = pg_ov g H b i
  | 0 => rfl
  | i + 1 => by
    have ih := pg_pdl (g := g) (H := H) (b := b) (i := i)
    simp only [pg_pd, pg_ov]
    split
    · simp [ih]
    · exact ih
theorem pg_pdm {g : pg_T} {H : List Nat} {b x : Nat} : ∀ {i : Nat}, x ∈ pg_pd g H b i ↔ b ≤ x ∧ x < b + i ∧ pg_S (pg_K g x) ∧ ¬ x ∈ H
  | 0 => by simp only [pg_pd]; constructor
            · intro h; simp at h
            · rintro ⟨h1, h2, _⟩; omega
  | i + 1 => by
    have ih := pg_pdm (g := g) (H := H) (b := b) (x := x) (i := i)
    simp only [pg_pd]
    by_cases c : pg_S (pg_K g (b + i)) ∧ ¬ (b + i) ∈ H
    · rw [if_pos c, List.mem_append, ih, List.mem_singleton]
      constructor
      · rintro (⟨h1, h2, h3⟩ | h)
        · exact ⟨h1, by omega, h3⟩
        · subst h; exact ⟨by omega, by omega, c⟩
      · rintro ⟨h1, h2, h3⟩
        by_cases e : x = b + i
        · exact Or.inr e
        · exact Or.inl ⟨h1, by omega, h3⟩
    · rw [if_neg c, ih]
      constructor
      · rintro ⟨h1, h2, h3⟩; exact ⟨h1, by omega, h3⟩
      · rintro ⟨h1, h2, h3⟩
        by_cases e : x = b + i
        · subst e; exact absurd h3 c
        · exact ⟨h1, by omega, h3⟩
theorem pg_pds {g : pg_T} {H : List Nat} {b : Nat} : ∀ {i : Nat}, (pg_pd g H b i).Pairwise (· < ·)
  | 0 => List.Pairwise.nil
  | i + 1 => by
    simp only [pg_pd]
    split
    · refine List.pairwise_append.mpr ⟨pg_pds, List.pairwise_singleton _ _, fun x hx y hy => ?_⟩
      have h1 := (pg_pdm.mp hx).2.1
      rw [List.mem_singleton] at hy
      omega
    · exact pg_pds
theorem pg_pdx {g : pg_T} {H H' : List Nat} {b : Nat} : ∀ {i : Nat}, (∀ x, b ≤ x → x < b + i → pg_S (pg_K g x) → (x ∈ H ↔ x ∈ H')) → pg_pd g H b i = pg_pd g H' b i
  | 0, _ => rfl
  | i + 1, h => by
    have ih := pg_pdx (g := g) (H := H) (H' := H') (b := b) (i := i) (fun x h1 h2 => h x h1 (by omega))
    simp only [pg_pd]
    by_cases c : pg_S (pg_K g (b + i)) ∧ ¬ (b + i) ∈ H
    · rw [if_pos c, if_pos ⟨c.1, fun z => c.2 ((h _ (by omega) (by omega) c.1).mpr z)⟩, ih]
    · rw [if_neg c, if_neg (fun z => c ⟨z.1, fun y => z.2 ((h _ (by omega) (by omega) z.1).mp y)⟩), ih]
theorem pg_pdf {g : pg_T} {H : List Nat} {b e : Nat} : ∀ {i : Nat}, pg_pd g (e :: H) b i = (pg_pd g H b i).filter (fun x => decide (x ≠ e))
  | 0 => rfl
  | i + 1 => by
    have ih := pg_pdf (g := g) (H := H) (b := b) (e := e) (i := i)
    simp only [pg_pd]
    by_cases c : pg_S (pg_K g (b + i)) ∧ ¬ (b + i) ∈ H
    · rw [if_pos c, List.filter_append, ← ih]
      by_cases z : b + i = e
      · rw [if_neg (fun y => y.2 (by rw [z]; exact List.mem_cons_self))]
        simp [z]
      · rw [if_pos ⟨c.1, fun y => by
          rcases List.mem_cons.mp y with y | y
          · exact z y
          · exact c.2 y⟩]
        simp [z]
    · rw [if_neg c, if_neg (fun z => c ⟨z.1, fun y => z.2 (List.mem_cons_of_mem _ y)⟩), ih]
theorem pg_pdt {g : pg_T} {H R : List Nat} {b e i : Nat} (h : pg_pd g H b i = e :: R) : pg_pd g (e :: H) b i = R := by
  rw [pg_pdf, h]
  have hp : (e :: R).Pairwise (· < ·) := h ▸ pg_pds
  rw [List.filter_cons_of_neg (by simp)]
  apply List.filter_eq_self.mpr
  intro x hx
  have := (List.pairwise_cons.mp hp).1 x hx
  simp
  omega
theorem pg_pdS {g : pg_T} {H : List Nat} {b i : Nat} (h : pg_S (pg_K g (b + i))) (hm : ¬ (b + i) ∈ H) : pg_pd g H b (i + 1) = pg_pd g H b i ++ [b + i] := by
  simp only [pg_pd]; exact if_pos ⟨h, hm⟩
theorem pg_pdN {g : pg_T} {H : List Nat} {b i : Nat} (h : ¬ pg_S (pg_K g (b + i))) : pg_pd g H b (i + 1) = pg_pd g H b i := by
  simp only [pg_pd]; exact if_neg (fun z => h z.1)
theorem pg_pdI {g : pg_T} {H : List Nat} {b i : Nat} (h : (b + i) ∈ H) : pg_pd g H b (i + 1) = pg_pd g H b i := by
  simp only [pg_pd]; exact if_neg (fun z => z.2 h)
theorem pg_ovmono {g : pg_T} {H : List Nat} {b i : Nat} : ∀ {j : Nat}, i ≤ j → pg_ov g H b i ≤ pg_ov g H b j
  | 0, h => by have : i = 0 := by omega
               subst this; exact Nat.le_refl _
  | j + 1, h => by
    by_cases e : i = j + 1
    · subst e; exact Nat.le_refl _
    · have := pg_ovmono (g := g) (H := H) (b := b) (i := i) (j := j) (by omega)
      simp only [pg_ov]
      split <;> omega
theorem pg_ov0 {g : pg_T} {H : List Nat} {b i : Nat} (h : pg_ov g H b i = 0) {x : Nat} (h1 : b ≤ x) (h2 : x < b + i) (h3 : pg_S (pg_K g x)) : x ∈ H := by
  by_cases m : x ∈ H
  · exact m
  · have hx : x ∈ pg_pd g H b i := pg_pdm.mpr ⟨h1, h2, h3, m⟩
    have := List.length_pos_of_mem hx
    rw [pg_pdl] at this
    omega
theorem pg_ow0 {g : pg_T} {H : List Nat} {a b : Nat} : ∀ {i : Nat}, pg_ow g H a b i = 0 → ∀ x, b ≤ x → x < b + i → pg_S (pg_K g x) → pg_A g x = a → x ∈ H
  | 0, _, x, h1, h2, _, _ => by omega
  | i + 1, h, x, h1, h2, h3, h4 => by
    simp only [pg_ow] at h
    by_cases c : pg_S (pg_K g (b + i)) ∧ pg_A g (b + i) = a ∧ ¬ (b + i) ∈ H
    · rw [if_pos c] at h; omega
    · rw [if_neg c] at h
      by_cases e : x = b + i
      · subst e
        by_cases m : (b + i) ∈ H
        · exact m
        · exact absurd ⟨h3, h4, m⟩ c
      · exact pg_ow0 h x h1 (by omega) h3 h4
theorem pg_owp {g : pg_T} {H : List Nat} {a b q : Nat} : ∀ {i : Nat}, pg_ow g H a b i = q + 1 → b ≤ q ∧ q < b + i ∧ pg_S (pg_K g q) ∧ pg_A g q = a ∧ ¬ q ∈ H ∧ ∀ x, q < x → x < b + i → pg_S (pg_K g x) → pg_A g x = a → x ∈ H
  | 0, h => by simp [pg_ow] at h
  | i + 1, h => by
    simp only [pg_ow] at h
    by_cases c : pg_S (pg_K g (b + i)) ∧ pg_A g (b + i) = a ∧ ¬ (b + i) ∈ H
    · rw [if_pos c] at h
      have e : b + i = q := by omega
      subst e
      exact ⟨by omega, by omega, c.1, c.2.1, c.2.2, fun x h1 h2 => by omega⟩
    · rw [if_neg c] at h
      obtain ⟨h1, h2, h3, h4, h5, h6⟩ := pg_owp h
      refine ⟨h1, by omega, h3, h4, h5, fun x y1 y2 y3 y4 => ?_⟩
      by_cases e : x = b + i
      · subst e
        by_cases m : (b + i) ∈ H
        · exact m
        · exact absurd ⟨y3, y4, m⟩ c
      · exact h6 x y1 (by omega) y3 y4
end
section
/-! the machine as (pc, H): what every move keeps -/
def pg_inv (g : pg_T) (pc : Nat → Nat) (H : List Nat) : Prop :=
  pg_vo g H ∧ (∀ p, pc p ≤ pg_L g p) ∧ (∀ e, e ∈ H → e % 8 < pc (e / 8)) ∧ (∀ p i, i < pc p → pg_R (pg_K g (8 * p + i)) → (8 * p + i) ∈ H) ∧ (∀ p, pg_ov g H (8 * p) (pc p) ≤ pg_d g) ∧ (∀ p f s, f < pc p → pg_K g (8 * p + f) = 4 → s < f → pg_S (pg_K g (8 * p + s)) → (8 * p + s) ∈ H)
def pg_up (pc : Nat → Nat) (p : Nat) : Nat → Nat := fun q => if q = p then pc p + 1 else pc q
theorem pg_upS (pc : Nat → Nat) (p : Nat) : pg_up pc p p = pc p + 1 := if_pos rfl
theorem pg_upN {pc : Nat → Nat} {p q : Nat} (h : q ≠ p) : pg_up pc p q = pc q := if_neg h
theorem pg_inv0 {g : pg_T} : pg_inv g (fun _ => 0) [] :=
  ⟨trivial, fun _ => Nat.zero_le _, fun e h => absurd h (by simp), fun p i h => absurd h (Nat.not_lt_zero _), fun p => by simp [pg_ov], fun p f s h => absurd h (Nat.not_lt_zero _)⟩
theorem pg_ovc {g : pg_T} {H : List Nat} {b e i : Nat} : pg_ov g (e :: H) b i ≤ pg_ov g H b i := by
  rw [← pg_pdl, ← pg_pdl, pg_pdf]
  exact List.length_filter_le _ _
theorem pg_nin {g : pg_T} {pc : Nat → Nat} {H : List Nat} (I : pg_inv g pc H) {p j : Nat} (hj : pc p ≤ j) (h8 : j < 8) : ¬ (8 * p + j) ∈ H := by
  intro h
  have := I.2.2.1 _ h
  have h1 : (8 * p + j) / 8 = p := by omega
  rw [h1] at this
  omega
theorem pg_pc5 {g : pg_T} (hw : pg_wf g) {pc : Nat → Nat} {H : List Nat} (I : pg_inv g pc H) (p : Nat) : pc p ≤ 5 := Nat.le_trans (I.2.1 p) (hw.2.2.2.2.2.1 p)
theorem pg_pn {g : pg_T} (hw : pg_wf g) {p i : Nat} (h : i < pg_L g p) : p < pg_n g := by
  by_cases c : p < pg_n g
  · exact c
  · have := hw.2.2.2.2.2.2.1 p (by omega)
    omega
/-- a logged move -/
theorem pg_mv1 {g : pg_T} (hw : pg_wf g) {pc : Nat → Nat} {H : List Nat} (I : pg_inv g pc H) {p : Nat} (hp : pc p < pg_L g p) (hm : pg_M (pg_K g (8 * p + pc p))) (hok : pg_ok g H (8 * p + pc p)) : pg_inv g (pg_up pc p) ((8 * p + pc p) :: H) := by
  have h5 := pg_pc5 hw I p
  have e8 : (8 * p + pc p) / 8 = p := by omega
  have em : (8 * p + pc p) % 8 = pc p := by omega
  refine ⟨⟨I.1, hok⟩, fun q => ?_, fun x hx => ?_, fun q i hi hr => ?_, fun q => ?_, fun q f s hf hk hs hS => ?_⟩
  · by_cases c : q = p
    · subst c; rw [pg_upS]; omega
    · rw [pg_upN c]; exact I.2.1 q
  · rcases List.mem_cons.mp hx with hx | hx
    · subst hx; rw [e8, em, pg_upS]; omega
    · have := I.2.2.1 x hx
      by_cases c : x / 8 = p
      · rw [c, pg_upS]; rw [c] at this; omega
      · rw [pg_upN c]; exact this
  · by_cases c : q = p
    · subst c
      rw [pg_upS] at hi
      by_cases z : i = pc q
      · subst z; exact List.mem_cons_self
      · exact List.mem_cons_of_mem _ (I.2.2.2.1 q i (by omega) hr)
    · rw [pg_upN c] at hi
      exact List.mem_cons_of_mem _ (I.2.2.2.1 q i hi hr)
  · by_cases c : q = p
    · subst c
      rw [pg_upS, ← pg_pdl, pg_pdI List.mem_cons_self, pg_pdl]
      exact Nat.le_trans pg_ovc (I.2.2.2.2.1 q)
    · rw [pg_upN c]
      exact Nat.le_trans pg_ovc (I.2.2.2.2.1 q)
  · by_cases c : q = p
    · subst c
      rw [pg_upS] at hf
      by_cases z : f = pc q
      · subst z; rcases hm with h | h | h | h <;> omega
      · exact List.mem_cons_of_mem _ (I.2.2.2.2.2 q f s (by omega) hk hs hS)
    · rw [pg_upN c] at hf
      exact List.mem_cons_of_mem _ (I.2.2.2.2.2 q f s hf hk hs hS)
/-- a move that isn't logged: a store into the buffer, an ADD, an open FENCE -/
theorem pg_mv2 {g : pg_T} {pc : Nat → Nat} {H : List Nat} (I : pg_inv g pc H) {p : Nat} (hp : pc p < pg_L g p) (hr : ¬ pg_R (pg_K g (8 * p + pc p))) (hs : pg_S (pg_K g (8 * p + pc p)) → pg_ov g H (8 * p) (pc p) < pg_d g) (hf : pg_K g (8 * p + pc p) = 4 → pg_ov g H (8 * p) (pc p) = 0) : pg_inv g (pg_up pc p) H := by
  refine ⟨I.1, fun q => ?_, fun x hx => ?_, fun q i hi hr' => ?_, fun q => ?_, fun q f s hf' hk hs' hS => ?_⟩
  · by_cases c : q = p
    · subst c; rw [pg_upS]; omega
    · rw [pg_upN c]; exact I.2.1 q
  · have := I.2.2.1 x hx
    by_cases c : x / 8 = p
    · rw [c, pg_upS]; rw [c] at this; omega
    · rw [pg_upN c]; exact this
  · by_cases c : q = p
    · subst c
      rw [pg_upS] at hi
      by_cases z : i = pc q
      · subst z; exact absurd hr' hr
      · exact I.2.2.2.1 q i (by omega) hr'
    · rw [pg_upN c] at hi
      exact I.2.2.2.1 q i hi hr'
  · by_cases c : q = p
    · subst c
      rw [pg_upS]
      have h5 := I.2.2.2.2.1 q
      simp only [pg_ov]
      split
      · rename_i z; have := hs z.1; omega
      · exact h5
    · rw [pg_upN c]
      exact I.2.2.2.2.1 q
  · by_cases c : q = p
    · subst c
      rw [pg_upS] at hf'
      by_cases z : f = pc q
      · subst z
        exact pg_ov0 (hf hk) (by omega) (by omega) hS
      · exact I.2.2.2.2.2 q f s (by omega) hk hs' hS
    · rw [pg_upN c] at hf'
      exact I.2.2.2.2.2 q f s hf' hk hs' hS
theorem pg_evp {g : pg_T} (hw : pg_wf g) {p j : Nat} (hj : j < pg_L g p) (hm : pg_M (pg_K g (8 * p + j))) : pg_ev g (8 * p + j) := by
  have h5 := hw.2.2.2.2.2.1 p
  have e8 : (8 * p + j) / 8 = p := by omega
  have em : (8 * p + j) % 8 = j := by omega
  refine ⟨?_, ?_, hm⟩
  · rw [e8]; exact pg_pn hw hj
  · rw [e8, em]; exact hj
theorem pg_okL {g : pg_T} (hw : pg_wf g) {pc : Nat → Nat} {H : List Nat} (I : pg_inv g pc H) {p : Nat} (hp : pc p < pg_L g p) (hk : pg_K g (8 * p + pc p) = 1) : pg_ok g H (8 * p + pc p) := by
  have h5 := pg_pc5 hw I p
  have e8 : (8 * p + pc p) / 8 = p := by omega
  have em : (8 * p + pc p) % 8 = pc p := by omega
  refine ⟨pg_evp hw hp (Or.inl hk), pg_nin I (Nat.le_refl _) (by omega), ?_, fun _ => ?_⟩
  · rintro ⟨s, h1, h2, h3, h4, h6⟩
    rw [e8] at h1
    obtain ⟨i, rfl⟩ : ∃ i, s = 8 * p + i := ⟨s - 8 * p, by omega⟩
    have hS : pg_S (pg_K g (8 * p + i)) := by
      rcases h3 with h | h | h | h
      · exact absurd (I.2.2.2.1 p i (by omega) (Or.inl h)) h4
      · exact absurd (I.2.2.2.1 p i (by omega) (Or.inr h)) h4
      · exact Or.inl h
      · exact Or.inr h
    rcases h6 with h | h | ⟨f, y1, y2, y3⟩
    · exact h hk
    · exact h hS
    · obtain ⟨j, rfl⟩ : ∃ j, f = 8 * p + j := ⟨f - 8 * p, by omega⟩
      exact h4 (I.2.2.2.2.2 p j i (by omega) y3 (by omega) hS)
  · rw [e8, em]; exact I.2.2.2.2.1 p
theorem pg_okC {g : pg_T} (hw : pg_wf g) {pc : Nat → Nat} {H : List Nat} (I : pg_inv g pc H) {p : Nat} (hp : pc p < pg_L g p) (hm : pg_M (pg_K g (8 * p + pc p))) (hk : pg_K g (8 * p + pc p) ≠ 1) (h0 : pg_ov g H (8 * p) (pc p) = 0) : pg_ok g H (8 * p + pc p) := by
  have h5 := pg_pc5 hw I p
  have e8 : (8 * p + pc p) / 8 = p := by omega
  refine ⟨pg_evp hw hp hm, pg_nin I (Nat.le_refl _) (by omega), ?_, fun z => absurd z hk⟩
  rintro ⟨s, h1, h2, h3, h4, h6⟩
  rw [e8] at h1
  obtain ⟨i, rfl⟩ : ∃ i, s = 8 * p + i := ⟨s - 8 * p, by omega⟩
  rcases h3 with h | h | h | h
  · exact h4 (I.2.2.2.1 p i (by omega) (Or.inl h))
  · exact h4 (I.2.2.2.1 p i (by omega) (Or.inr h))
  · exact h4 (pg_ov0 h0 (by omega) (by omega) (Or.inl h))
  · exact h4 (pg_ov0 h0 (by omega) (by omega) (Or.inr h))
theorem pg_SM {k : Nat} (h : pg_S k) : pg_M k := by
  rcases h with h | h
  · exact Or.inr (Or.inr (Or.inl h))
  · exact Or.inr (Or.inr (Or.inr h))
theorem pg_RM {k : Nat} (h : pg_R k) : pg_M k := by
  rcases h with h | h
  · exact Or.inl h
  · exact Or.inr (Or.inl h)
theorem pg_SnR {k : Nat} (h : pg_S k) : ¬ pg_R k := by
  intro z
  rcases h with h | h <;> rcases z with z | z <;> omega
theorem pg_Sn1 {k : Nat} (h : pg_S k) : k ≠ 1 := by
  rcases h with h | h <;> omega
theorem pg_MnS {k : Nat} (h : pg_M k) (n : ¬ pg_S k) : pg_R k := by
  rcases h with h | h | h | h
  · exact Or.inl h
  · exact Or.inr h
  · exact absurd (Or.inl h) n
  · exact absurd (Or.inr h) n
/-- the head of a buffer may take effect -/
theorem pg_pdh {g : pg_T} {H R : List Nat} {b e i : Nat} (h : pg_pd g H b i = e :: R) : b ≤ e ∧ e < b + i ∧ pg_S (pg_K g e) ∧ ¬ e ∈ H ∧ ∀ x, b ≤ x → x < e → pg_S (pg_K g x) → x ∈ H := by
  have hp : (e :: R).Pairwise (· < ·) := h ▸ pg_pds
  have he : e ∈ pg_pd g H b i := by rw [h]; exact List.mem_cons_self
  obtain ⟨h1, h2, h3, h4⟩ := pg_pdm.mp he
  refine ⟨h1, h2, h3, h4, fun x y1 y2 y3 => ?_⟩
  by_cases m : x ∈ H
  · exact m
  · have hx : x ∈ pg_pd g H b i := pg_pdm.mpr ⟨y1, by omega, y3, m⟩
    rw [h] at hx
    rcases List.mem_cons.mp hx with hx | hx
    · omega
    · have := (List.pairwise_cons.mp hp).1 x hx
      omega
theorem pg_okD {g : pg_T} (hw : pg_wf g) {pc : Nat → Nat} {H R : List Nat} {e p : Nat} (I : pg_inv g pc H) (h : pg_pd g H (8 * p) (pc p) = e :: R) : pg_ok g H e := by
  have h5 := pg_pc5 hw I p
  have hL := I.2.1 p
  obtain ⟨h1, h2, h3, h4, h6⟩ := pg_pdh h
  obtain ⟨j, rfl⟩ : ∃ j, e = 8 * p + j := ⟨e - 8 * p, by omega⟩
  have e8 : (8 * p + j) / 8 = p := by omega
  refine ⟨pg_evp hw (by omega) (pg_SM h3), h4, ?_, fun z => absurd z (pg_Sn1 h3)⟩
  rintro ⟨s, y1, y2, y3, y4, _⟩
  rw [e8] at y1
  obtain ⟨i, rfl⟩ : ∃ i, s = 8 * p + i := ⟨s - 8 * p, by omega⟩
  by_cases c : pg_S (pg_K g (8 * p + i))
  · exact y4 (h6 _ y1 y2 c)
  · exact y4 (I.2.2.2.1 p i (by omega) (pg_MnS y3 c))
theorem pg_mvD {g : pg_T} (hw : pg_wf g) {pc : Nat → Nat} {H R : List Nat} {e p : Nat} (I : pg_inv g pc H) (h : pg_pd g H (8 * p) (pc p) = e :: R) : pg_inv g pc (e :: H) := by
  have h5 := pg_pc5 hw I p
  obtain ⟨h1, h2, h3, h4, h6⟩ := pg_pdh h
  refine ⟨⟨I.1, pg_okD hw I h⟩, I.2.1, fun x hx => ?_, fun q i hi hr => List.mem_cons_of_mem _ (I.2.2.2.1 q i hi hr), fun q => Nat.le_trans pg_ovc (I.2.2.2.2.1 q), fun q f s hf hk hs hS => List.mem_cons_of_mem _ (I.2.2.2.2.2 q f s hf hk hs hS)⟩
  rcases List.mem_cons.mp hx with hx | hx
  · subst hx
    have e8 : x / 8 = p := by omega
    rw [e8]; omega
  · exact I.2.2.1 x hx
/-- from any state, towards any valid order that goes on with e: a move is there -/
theorem pg_child {g : pg_T} (hw : pg_wf g) {pc : Nat → Nat} {H : List Nat} {e : Nat} (I : pg_inv g pc H) (hok : pg_ok g H e) :
    (∃ R, pg_pd g H (8 * (e / 8)) (pc (e / 8)) = e :: R) ∨ (pc (e / 8) < pg_L g (e / 8) ∧
      ((8 * (e / 8) + pc (e / 8) = e ∧ pg_K g e = 1) ∨ (8 * (e / 8) + pc (e / 8) = e ∧ pg_K g e = 5 ∧ pg_ov g H (8 * (e / 8)) (pc (e / 8)) = 0) ∨
       (8 * (e / 8) + pc (e / 8) = e ∧ pg_S (pg_K g e) ∧ pg_d g = 0) ∨ (pg_S (pg_K g (8 * (e / 8) + pc (e / 8))) ∧ 0 < pg_d g ∧ pg_ov g H (8 * (e / 8)) (pc (e / 8)) < pg_d g) ∨
       pg_K g (8 * (e / 8) + pc (e / 8)) = 6 ∨ (pg_K g (8 * (e / 8) + pc (e / 8)) = 4 ∧ pg_ov g H (8 * (e / 8)) (pc (e / 8)) = 0))) := by
  obtain ⟨p, j, hj, rfl⟩ : ∃ p j, j < 8 ∧ e = 8 * p + j := ⟨e / 8, e % 8, by omega, by omega⟩
  have e8 : (8 * p + j) / 8 = p := by omega
  have em : (8 * p + j) % 8 = j := by omega
  rw [e8]
  obtain ⟨hev, hni, hbk, hdp⟩ := hok
  have hjL : j < pg_L g p := by have := hev.2.1; rw [e8, em] at this; exact this
  rw [e8, em] at hdp
  have nb : ∀ s, 8 * p ≤ s → s < 8 * p + j → pg_M (pg_K g s) → (pg_K g (8 * p + j) ≠ 1 ∨ ¬ pg_S (pg_K g s) ∨ ∃ f, s < f ∧ f < 8 * p + j ∧ pg_K g f = 4) → s ∈ H := by
    intro s h1 h2 h3 h4
    by_cases m : s ∈ H
    · exact m
    · exact absurd ⟨s, by rw [e8]; exact h1, h2, h3, m, h4⟩ hbk
  by_cases c : j < pc p
  · left
    have hS : pg_S (pg_K g (8 * p + j)) := by
      by_cases z : pg_S (pg_K g (8 * p + j))
      · exact z
      · exact absurd (I.2.2.2.1 p j c (pg_MnS hev.2.2 z)) hni
    have hm : (8 * p + j) ∈ pg_pd g H (8 * p) (pc p) := pg_pdm.mpr ⟨by omega, by omega, hS, hni⟩
    cases hq : pg_pd g H (8 * p) (pc p) with
    | nil => rw [hq] at hm; simp at hm
    | cons h R =>
      refine ⟨R, ?_⟩
      obtain ⟨y1, y2, y3, y4, y5⟩ := pg_pdh hq
      by_cases z : h = 8 * p + j
      · rw [z]
      · exfalso
        have hp : (h :: R).Pairwise (· < ·) := hq ▸ pg_pds
        rw [hq] at hm
        rcases List.mem_cons.mp hm with hm | hm
        · exact z hm.symm
        · have := (List.pairwise_cons.mp hp).1 _ hm
          exact y4 (nb h y1 (by omega) (pg_SM y3) (Or.inl (pg_Sn1 hS)))
  · right
    have hpL : pc p < pg_L g p := by omega
    refine ⟨hpL, ?_⟩
    have hxn : ¬ (8 * p + pc p) ∈ H := pg_nin I (Nat.le_refl _) (by omega)
    have ov0 : pg_K g (8 * p + j) ≠ 1 → pg_ov g H (8 * p) (pc p) = 0 := by
      intro h1
      cases hq : pg_pd g H (8 * p) (pc p) with
      | nil => rw [← pg_pdl, hq]; rfl
      | cons h R =>
        obtain ⟨y1, y2, y3, y4, y5⟩ := pg_pdh hq
        exact absurd (nb h y1 (by omega) (pg_SM y3) (Or.inl h1)) y4
    have k1 := hw.2.2.2.2.2.2.2.1 p (pc p) hpL
    have k6 := (hw.2.2.2.2.2.2.2.2.1 (8 * p + pc p)).1
    by_cases hR : pg_R (pg_K g (8 * p + pc p))
    · have ex : pc p = j := by
        by_cases z : pc p = j
        · exact z
        · exact absurd (nb _ (by omega) (by omega) (pg_RM hR) (Or.inr (Or.inl (fun y => pg_SnR y hR)))) hxn
      rw [ex] at hR ⊢
      rcases hR with h | h
      · exact Or.inl ⟨rfl, h⟩
      · refine Or.inr (Or.inl ⟨rfl, h, ?_⟩)
        have := ov0 (by omega)
        rw [ex] at this
        exact this
    · by_cases hS : pg_S (pg_K g (8 * p + pc p))
      · by_cases d0 : pg_d g = 0
        · have ex : pc p = j := by
            by_cases z : pc p = j
            · exact z
            · exfalso
              by_cases h1 : pg_K g (8 * p + j) = 1
              · have := hdp h1
                exact hxn (pg_ov0 (b := 8 * p) (i := j) (by omega) (by omega) (by omega) hS)
              · exact hxn (nb _ (by omega) (by omega) (pg_SM hS) (Or.inl h1))
          rw [ex] at hS ⊢
          exact Or.inr (Or.inr (Or.inl ⟨rfl, hS, d0⟩))
        · refine Or.inr (Or.inr (Or.inr (Or.inl ⟨hS, by omega, ?_⟩)))
          by_cases h1 : pg_K g (8 * p + j) = 1
          · have hd := hdp h1
            have z : pc p ≠ j := by
              intro z
              rw [← z] at h1
              exact hR (Or.inl h1)
            have m1 : pg_ov g H (8 * p) (pc p + 1) ≤ pg_ov g H (8 * p) j := pg_ovmono (by omega)
            have m2 : pg_ov g H (8 * p) (pc p + 1) = pg_ov g H (8 * p) (pc p) + 1 := by
              simp only [pg_ov]; exact if_pos ⟨hS, hxn⟩
            omega
          · have := ov0 h1
            omega
      · have h46 : pg_K g (8 * p + pc p) = 4 ∨ pg_K g (8 * p + pc p) = 6 := by
          have a1 : ¬ pg_K g (8 * p + pc p) = 1 := fun z => hR (Or.inl z)
          have a2 : ¬ pg_K g (8 * p + pc p) = 5 := fun z => hR (Or.inr z)
          have a3 : ¬ pg_K g (8 * p + pc p) = 2 := fun z => hS (Or.inl z)
          have a4 : ¬ pg_K g (8 * p + pc p) = 3 := fun z => hS (Or.inr z)
          omega
        rcases h46 with h | h
        · refine Or.inr (Or.inr (Or.inr (Or.inr (Or.inr ⟨h, ?_⟩))))
          cases hq : pg_pd g H (8 * p) (pc p) with
          | nil => rw [← pg_pdl, hq]; rfl
          | cons h' R =>
            obtain ⟨y1, y2, y3, y4, y5⟩ := pg_pdh hq
            have z : pc p ≠ j := by
              intro z
              rw [← z] at hev
              rcases hev.2.2 with k | k | k | k <;> omega
            exact absurd (nb h' y1 (by omega) (pg_SM y3) (Or.inr (Or.inr ⟨8 * p + pc p, by omega, by omega, h⟩))) y4
        · exact Or.inr (Or.inr (Or.inr (Or.inr (Or.inl h))))
/-- finished: the log is a complete valid order -/
theorem pg_fin {g : pg_T} (hw : pg_wf g) {pc : Nat → Nat} {H : List Nat} (I : pg_inv g pc H) (h : ∀ p, p < pg_n g → pc p = pg_L g p ∧ pg_ov g H (8 * p) (pc p) = 0) : pg_cp g H := by
  refine ⟨I.1, Nat.le_antisymm (pg_len hw (pg_vod I.1).1 (pg_vod I.1).2) ?_⟩
  refine (pg_esd 24).length_le_of_subset (fun x hx => ?_)
  have hx := (pg_esm.mp hx).2
  obtain ⟨p, j, hj, rfl⟩ : ∃ p j, j < 8 ∧ x = 8 * p + j := ⟨x / 8, x % 8, by omega, by omega⟩
  have e8 : (8 * p + j) / 8 = p := by omega
  have em : (8 * p + j) % 8 = j := by omega
  have h1 := hx.1
  have h2 := hx.2.1
  rw [e8] at h1
  rw [e8, em] at h2
  obtain ⟨a1, a2⟩ := h p h1
  by_cases c : pg_S (pg_K g (8 * p + j))
  · exact pg_ov0 a2 (by omega) (by omega) c
  · exact I.2.2.2.1 p j (by omega) (pg_MnS hx.2.2 c)
theorem pg_unf {g : pg_T} (hw : pg_wf g) {pc : Nat → Nat} {H : List Nat} (I : pg_inv g pc H) (hc : pg_N g ≤ H.length) {p : Nat} (h : ¬ (pc p = pg_L g p ∧ pg_ov g H (8 * p) (pc p) = 0)) : pc p < pg_L g p ∧ (pg_K g (8 * p + pc p) = 6 ∨ (pg_K g (8 * p + pc p) = 4 ∧ pg_ov g H (8 * p) (pc p) = 0)) := by
  have h5 := pg_pc5 hw I p
  have hL := I.2.1 p
  have o0 : pg_ov g H (8 * p) (pc p) = 0 := by
    cases hq : pg_pd g H (8 * p) (pc p) with
    | nil => rw [← pg_pdl, hq]; rfl
    | cons e R =>
      have hk := pg_okD hw I hq
      exact absurd (pg_all hw (pg_vod I.1).1 (pg_vod I.1).2 hc hk.1) hk.2.1
  have hp : pc p < pg_L g p := by
    by_cases z : pc p = pg_L g p
    · exact absurd ⟨z, o0⟩ h
    · omega
  refine ⟨hp, ?_⟩
  have k1 := hw.2.2.2.2.2.2.2.1 p (pc p) hp
  have k6 := (hw.2.2.2.2.2.2.2.2.1 (8 * p + pc p)).1
  by_cases m : pg_M (pg_K g (8 * p + pc p))
  · exact absurd (pg_all hw (pg_vod I.1).1 (pg_vod I.1).2 hc (pg_evp hw hp m)) (pg_nin I (Nat.le_refl _) (by omega))
  · have a1 : ¬ pg_K g (8 * p + pc p) = 1 := fun z => m (Or.inl z)
    have a2 : ¬ pg_K g (8 * p + pc p) = 5 := fun z => m (Or.inr (Or.inl z))
    have a3 : ¬ pg_K g (8 * p + pc p) = 2 := fun z => m (Or.inr (Or.inr (Or.inl z)))
    have a4 : ¬ pg_K g (8 * p + pc p) = 3 := fun z => m (Or.inr (Or.inr (Or.inr z)))
    have : pg_K g (8 * p + pc p) = 4 ∨ pg_K g (8 * p + pc p) = 6 := by omega
    rcases this with h | h
    · exact Or.inr ⟨h, o0⟩
    · exact Or.inl h
end
section
/-! what a move does to registers, cells, buffers -/
theorem qa_drop {l : List Nat} {k : Nat} (h : k < l.length) : l.drop k = l.getD k 0 :: l.drop (k + 1) := by
  rw [List.drop_eq_getElem_cons h]
  simp [List.getD, h]
theorem qa_getm {l : List Nat} {k : Nat} (h : k < l.length) : l.getD k 0 ∈ l := by
  have : l.getD k 0 = l[k] := by simp [List.getD, h]
  rw [this]
  exact List.getElem_mem h
theorem pg_vpd {g : pg_T} (hw : pg_wf g) {pc : Nat → Nat} {H : List Nat} (I : pg_inv g pc H) {p : Nat} (q : Nat) : pg_pd g ((8 * p + pc p) :: H) (8 * q) (pg_up pc p q) = pg_pd g H (8 * q) (pc q) := by
  have h5 := pg_pc5 hw I p
  have h5' := pg_pc5 hw I q
  by_cases c : q = p
  · subst c
    rw [pg_upS, pg_pdI List.mem_cons_self]
    refine pg_pdx (fun x h1 h2 _ => ?_)
    rw [List.mem_cons]
    exact ⟨fun z => z.elim (fun y => absurd y (by omega)) id, Or.inr⟩
  · rw [pg_upN c]
    refine pg_pdx (fun x h1 h2 _ => ?_)
    rw [List.mem_cons]
    exact ⟨fun z => z.elim (fun y => absurd y (by omega)) id, Or.inr⟩
theorem pg_vov {g : pg_T} (hw : pg_wf g) {pc : Nat → Nat} {H : List Nat} (I : pg_inv g pc H) {p : Nat} (q : Nat) : pg_ov g ((8 * p + pc p) :: H) (8 * q) (pg_up pc p q) = pg_ov g H (8 * q) (pc q) := by
  rw [← pg_pdl, ← pg_pdl, pg_vpd hw I]
theorem pg_vwr {g : pg_T} (hw : pg_wf g) {pc : Nat → Nat} {H : List Nat} (I : pg_inv g pc H) {p q x : Nat} (hx : x ∈ pg_pd g H (8 * q) (pc q)) : pg_wr g (pg_rd g ((8 * p + pc p) :: H)) x = pg_wr g (pg_rd g H) x := by
  have h5 := pg_pc5 hw I p
  have h5' := pg_pc5 hw I q
  obtain ⟨h1, h2, _⟩ := pg_pdm.mp hx
  refine pg_wrx (fun s h8 hs hr => pg_rdn (fun z => ?_))
  have : q = p := by omega
  subst this
  omega
/-- registers after a read by p -/
theorem pg_vrR {g : pg_T} (hw : pg_wf g) {pc : Nat → Nat} {H : List Nat} (I : pg_inv g pc H) {p : Nat} (hR : pg_R (pg_K g (8 * p + pc p))) (q r : Nat) : pg_reg g ((8 * p + pc p) :: H) q r (pg_up pc p q) = if q = p ∧ r = pg_W g (8 * p + pc p) % 2 then pg_rd g ((8 * p + pc p) :: H) (8 * p + pc p) else pg_reg g H q r (pc q) := by
  have h5 := pg_pc5 hw I p
  have h5' := pg_pc5 hw I q
  by_cases c : q = p
  · subst c
    rw [pg_upS, pg_rgR (by omega) hR]
    by_cases z : pg_W g (8 * q + pc q) % 2 = r
    · rw [if_pos z, if_pos ⟨rfl, z.symm⟩]
    · rw [if_neg z, if_neg (fun y => z y.2.symm)]
  · rw [pg_upN c, if_neg (fun y => c y.1)]
    exact pg_rgO (by omega) (fun z => by omega)
theorem pg_vrN {g : pg_T} {pc : Nat → Nat} {H : List Nat} {p : Nat} (hR : ¬ pg_R (pg_K g (8 * p + pc p))) (h6 : pg_K g (8 * p + pc p) ≠ 6) (q r : Nat) : pg_reg g H q r (pg_up pc p q) = pg_reg g H q r (pc q) := by
  by_cases c : q = p
  · subst c
    rw [pg_upS, pg_rgN hR h6]
  · rw [pg_upN c]
theorem pg_vrA {g : pg_T} {pc : Nat → Nat} {H : List Nat} {p : Nat} (h6 : pg_K g (8 * p + pc p) = 6) (q r : Nat) : pg_reg g H q r (pg_up pc p q) = if q = p ∧ r = pg_A g (8 * p + pc p) then (pg_reg g H q r (pc q) + pg_W g (8 * p + pc p)) % 4 else pg_reg g H q r (pc q) := by
  by_cases c : q = p
  · subst c
    rw [pg_upS, pg_rgA h6]
    by_cases z : pg_A g (8 * q + pc q) = r
    · rw [if_pos z, if_pos ⟨rfl, z.symm⟩]
    · rw [if_neg z, if_neg (fun y => z y.2.symm)]
  · rw [pg_upN c, if_neg (fun y => c y.1)]
theorem pg_vpN {g : pg_T} {pc : Nat → Nat} {H : List Nat} {p : Nat} (hS : ¬ pg_S (pg_K g (8 * p + pc p))) (q : Nat) : pg_pd g H (8 * q) (pg_up pc p q) = pg_pd g H (8 * q) (pc q) := by
  by_cases c : q = p
  · subst c
    rw [pg_upS, pg_pdN hS]
  · rw [pg_upN c]
theorem pg_voN {g : pg_T} {pc : Nat → Nat} {H : List Nat} {p : Nat} (hS : ¬ pg_S (pg_K g (8 * p + pc p))) (q : Nat) : pg_ov g H (8 * q) (pg_up pc p q) = pg_ov g H (8 * q) (pc q) := by
  rw [← pg_pdl, ← pg_pdl, pg_vpN hS]
def pg_sc (g : pg_T) (rd : Nat → Nat) (a v : Nat) (l : List Nat) : Nat := l.foldl (fun v x => if pg_A g x = a then pg_wr g rd x else v) v
theorem pg_scc {g : pg_T} {rd : Nat → Nat} {a v x : Nat} {l : List Nat} : pg_sc g rd a v (x :: l) = pg_sc g rd a (if pg_A g x = a then pg_wr g rd x else v) l := rfl
theorem pg_sca {g : pg_T} {rd : Nat → Nat} {a v x : Nat} {l : List Nat} : pg_sc g rd a v (l ++ [x]) = if pg_A g x = a then pg_wr g rd x else pg_sc g rd a v l := by
  unfold pg_sc
  rw [List.foldl_append]
  rfl
theorem pg_owT {g : pg_T} {H : List Nat} {a b i : Nat} (h : pg_S (pg_K g (b + i)) ∧ pg_A g (b + i) = a ∧ ¬ (b + i) ∈ H) : pg_ow g H a b (i + 1) = b + i + 1 := by
  simp only [pg_ow]; exact if_pos h
theorem pg_owF {g : pg_T} {H : List Nat} {a b i : Nat} (h : ¬ (pg_S (pg_K g (b + i)) ∧ pg_A g (b + i) = a ∧ ¬ (b + i) ∈ H)) : pg_ow g H a b (i + 1) = pg_ow g H a b i := by
  simp only [pg_ow]; exact if_neg h
theorem pg_sco {g : pg_T} {rd : Nat → Nat} {H : List Nat} {a v b : Nat} : ∀ {i : Nat}, pg_sc g rd a v (pg_pd g H b i) = if pg_ow g H a b i = 0 then v else pg_wr g rd (pg_ow g H a b i - 1)
  | 0 => rfl
  | i + 1 => by
    have ih := pg_sco (g := g) (rd := rd) (H := H) (a := a) (v := v) (b := b) (i := i)
    by_cases s : pg_S (pg_K g (b + i))
    · by_cases m : (b + i) ∈ H
      · rw [pg_pdI m, pg_owF (fun y => y.2.2 m), ih]
      · rw [pg_pdS s m, pg_sca]
        by_cases z : pg_A g (b + i) = a
        · rw [if_pos z, pg_owT ⟨s, z, m⟩, if_neg (by omega)]
          rfl
        · rw [if_neg z, pg_owF (fun y => z y.2.1), ih]
    · rw [pg_pdN s, pg_owF (fun y => s y.1), ih]
theorem pg_vld {g : pg_T} (hw : pg_wf g) {pc : Nat → Nat} {H : List Nat} (I : pg_inv g pc H) {p : Nat} (hk : pg_K g (8 * p + pc p) = 1) : pg_rd g ((8 * p + pc p) :: H) (8 * p + pc p) = pg_sc g (pg_rd g H) (pg_A g (8 * p + pc p)) (pg_mem g H (pg_A g (8 * p + pc p))) (pg_pd g H (8 * p) (pc p)) := by
  have h5 := pg_pc5 hw I p
  have e8 : (8 * p + pc p) / 8 = p := by omega
  have em : (8 * p + pc p) % 8 = pc p := by omega
  rw [pg_rde (Or.inl hk), pg_sco]
  unfold pg_sr
  rw [e8, em]
  cases hq : pg_ow g H (pg_A g (8 * p + pc p)) (8 * p) (pc p) with
  | zero => rw [if_neg (fun z => z.2 rfl), if_pos rfl]; rfl
  | succ x => rw [if_pos ⟨hk, by omega⟩, if_neg (by omega)]; rfl
/-- a drain -/
theorem pg_dpd {g : pg_T} (hw : pg_wf g) {pc : Nat → Nat} {H R : List Nat} {e p : Nat} (I : pg_inv g pc H) (h : pg_pd g H (8 * p) (pc p) = e :: R) (q : Nat) : pg_pd g (e :: H) (8 * q) (pc q) = if q = p then R else pg_pd g H (8 * q) (pc q) := by
  have h5 := pg_pc5 hw I p
  have h5' := pg_pc5 hw I q
  obtain ⟨h1, h2, _⟩ := pg_pdh h
  by_cases c : q = p
  · subst c
    rw [if_pos rfl, pg_pdt h]
  · rw [if_neg c]
    refine pg_pdx (fun x h1 h2 _ => ?_)
    rw [List.mem_cons]
    exact ⟨fun z => z.elim (fun y => absurd y (by omega)) id, Or.inr⟩
/-! extension of a log to an order -/
def pg_xt (H O : List Nat) : Prop := ∃ Q, O = Q ++ H
theorem pg_xtr (H : List Nat) : pg_xt H H := ⟨[], rfl⟩
theorem pg_xtc {e : Nat} {H O : List Nat} (h : pg_xt (e :: H) O) : pg_xt H O := by
  obtain ⟨Q, rfl⟩ := h
  exact ⟨Q ++ [e], by simp⟩
theorem pg_xtn {H O : List Nat} (h : pg_xt H O) (hl : H.length < O.length) : ∃ e, pg_xt (e :: H) O := by
  obtain ⟨Q, rfl⟩ := h
  rcases List.eq_nil_or_concat Q with h | ⟨Q', e, h⟩
  · subst h; simp at hl
  · subst h
    exact ⟨e, Q', by simp⟩
theorem pg_xte {H O : List Nat} (h : pg_xt H O) (hl : O.length ≤ H.length) : O = H := by
  obtain ⟨Q, rfl⟩ := h
  have : Q = [] := by
    apply List.eq_nil_of_length_eq_zero
    simp only [List.length_append] at hl
    omega
  rw [this]; rfl
theorem pg_xto {g : pg_T} {e : Nat} {H O : List Nat} (h : pg_xt (e :: H) O) (hv : pg_vo g O) : pg_ok g H e := by
  obtain ⟨Q, rfl⟩ := h
  exact pg_voe hv
end
section
/-! arrays as reversed lists; masks -/
def qa_Ar : List Nat → (Nat → Int32) → Prop
  | [], _ => True
  | e :: T, a => a T.length = nI e ∧ qa_Ar T a
def qa_rg (H : List Nat) (i : Nat) : Nat := H.getD (H.length - 1 - i) 0
def qa_sf (H : List Nat) (k : Nat) : List Nat := H.drop (H.length - k)
theorem qa_rgS {e : Nat} {T : List Nat} : qa_rg (e :: T) T.length = e := by
  unfold qa_rg
  have : (e :: T).length - 1 - T.length = 0 := by simp
  rw [this]; rfl
theorem qa_rgT {e i : Nat} {T : List Nat} (h : i < T.length) : qa_rg (e :: T) i = qa_rg T i := by
  unfold qa_rg
  have : (e :: T).length - 1 - i = (T.length - 1 - i) + 1 := by simp only [List.length_cons]; omega
  rw [this]; rfl
theorem qa_rgm {H : List Nat} {i : Nat} (h : i < H.length) : qa_rg H i ∈ H := qa_getm (by omega)
theorem qa_Arg : ∀ {H : List Nat} {a : Nat → Int32}, qa_Ar H a → ∀ {i : Nat}, i < H.length → a i = nI (qa_rg H i)
  | [], _, _, i, h => absurd h (by simp)
  | e :: T, a, h, i, hi => by
    by_cases c : i = T.length
    · subst c; rw [qa_rgS]; exact h.1
    · have : i < T.length := by simp only [List.length_cons] at hi; omega
      rw [qa_rgT this]; exact qa_Arg h.2 this
theorem qa_Ari : ∀ {H : List Nat} {a : Nat → Int32}, (∀ i, i < H.length → a i = nI (qa_rg H i)) → qa_Ar H a
  | [], _, _ => trivial
  | e :: T, a, h => by
    refine ⟨?_, qa_Ari (fun i hi => ?_)⟩
    · have := h T.length (by simp)
      rw [qa_rgS] at this; exact this
    · have := h i (by simp only [List.length_cons]; omega)
      rw [qa_rgT hi] at this; exact this
theorem qa_Arx {H : List Nat} {a a' : Nat → Int32} (h : qa_Ar H a) (hx : ∀ i, i < H.length → a' i = a i) : qa_Ar H a' :=
  qa_Ari (fun i hi => by rw [hx i hi]; exact qa_Arg h hi)
theorem qa_Aru {H : List Nat} {a : Nat → Int32} {k : Nat} {v : Int32} (h : qa_Ar H a) (hk : H.length ≤ k) : qa_Ar H (upd a k v) :=
  qa_Arx h (fun i hi => pk_un (by omega))
theorem qa_Arc {H : List Nat} {a : Nat → Int32} {e : Nat} (h : qa_Ar H a) : qa_Ar (e :: H) (upd a H.length (nI e)) := ⟨pk_us, qa_Aru h (Nat.le_refl _)⟩
theorem qa_sf0 (H : List Nat) : qa_sf H 0 = [] := by unfold qa_sf; simp
theorem qa_sfL (H : List Nat) : qa_sf H H.length = H := by unfold qa_sf; simp
theorem qa_sfS {H : List Nat} {k : Nat} (h : k < H.length) : qa_sf H (k + 1) = qa_rg H k :: qa_sf H k := by
  unfold qa_sf qa_rg
  rw [qa_drop (k := H.length - (k + 1)) (by omega)]
  have e1 : H.length - (k + 1) = H.length - 1 - k := by omega
  have e2 : H.length - (k + 1) + 1 = H.length - k := by omega
  rw [e2, e1]
theorem qa_sfl {H : List Nat} {k : Nat} (h : k ≤ H.length) : (qa_sf H k).length = k := by
  unfold qa_sf
  rw [List.length_drop]; omega
theorem qa_sfx (H : List Nat) (k : Nat) : pg_xt (qa_sf H k) H := ⟨H.take (H.length - k), (List.take_append_drop _ _).symm⟩
theorem qa_sfv {g : pg_T} {H : List Nat} (h : pg_vo g H) (k : Nat) : pg_vo g (qa_sf H k) := by
  obtain ⟨Q, e⟩ := qa_sfx H k
  rw [e] at h
  exact pg_vos h
theorem qa_sfo {g : pg_T} {H : List Nat} (h : pg_vo g H) {k : Nat} (hk : k < H.length) : pg_ok g (qa_sf H k) (qa_rg H k) := by
  have := qa_sfv h (k + 1)
  rw [qa_sfS hk] at this
  exact this.2
theorem qa_sfe : ∀ {T O : List Nat}, T.length ≤ O.length → (∀ j, j < T.length → qa_rg O j = qa_rg T j) → qa_sf O T.length = T
  | [], O, _, _ => qa_sf0 O
  | e :: T, O, h, hj => by
    have h1 : T.length < O.length := by simp only [List.length_cons] at h; omega
    show qa_sf O (T.length + 1) = _
    rw [qa_sfS h1, hj T.length (by simp), qa_rgS, qa_sfe (T := T) (by omega) (fun j hj' => by rw [hj j (by simp only [List.length_cons]; omega), qa_rgT hj'])]
theorem qa_eq {T O : List Nat} (h : T.length = O.length) (hj : ∀ j, j < T.length → qa_rg O j = qa_rg T j) : O = T := by
  have := qa_sfe (by omega) hj
  rw [h, qa_sfL] at this
  exact this
theorem qa_mem {H : List Nat} {x : Nat} (h : x ∈ H) : ∃ i, i < H.length ∧ qa_rg H i = x := by
  induction H with
  | nil => simp at h
  | cons e T ih =>
    rcases List.mem_cons.mp h with h | h
    · subst h; exact ⟨T.length, by simp, qa_rgS⟩
    · obtain ⟨i, hi, e⟩ := ih h
      exact ⟨i, by simp only [List.length_cons]; omega, by rw [qa_rgT hi, e]⟩
theorem qa_inj {H : List Nat} (hn : H.Nodup) {i j : Nat} (hi : i < H.length) (hj : j < H.length) (h : qa_rg H i = qa_rg H j) : i = j := by
  induction H generalizing i j with
  | nil => simp at hi
  | cons e T ih =>
    have hn' := List.nodup_cons.mp hn
    simp only [List.length_cons] at hi hj
    by_cases a : i = T.length
    · by_cases b : j = T.length
      · omega
      · have hj' : j < T.length := by omega
        rw [a, qa_rgS, qa_rgT hj'] at h
        exact absurd (h ▸ qa_rgm hj') hn'.1
    · have hi' : i < T.length := by omega
      by_cases b : j = T.length
      · rw [b, qa_rgS, qa_rgT hi'] at h
        exact absurd (h ▸ qa_rgm hi') hn'.1
      · have hj' : j < T.length := by omega
        rw [qa_rgT hi', qa_rgT hj'] at h
        exact ih hn'.2 hi' hj' h
def qa_mk (m : Int32) (T : List Nat) : Prop := ∀ s, s < 32 → bt m s = decide (s ∈ T)
theorem qa_b1 : ∀ i, i < 32 → bt 1 i = decide (i = 0) := by decide +kernel
theorem qa_mk0 : qa_mk 0 [] := fun s _ => by rw [b_0]; simp
theorem qa_one {e s : Nat} (he : e < 32) (hs : s < 32) : bt ((1 : Int32) <<< (nI e &&& 31)) s = decide (s = e) := by
  rw [b_shl e he 1 hs, qa_b1 (s - e) (by omega)]
  by_cases c : s = e
  · subst c; simp
  · rw [decide_eq_false c]
    by_cases d : e ≤ s
    · rw [decide_eq_false (show ¬ s - e = 0 by omega)]; simp
    · rw [decide_eq_false d]; simp
theorem qa_mks {m : Int32} {T : List Nat} {e : Nat} (h : qa_mk m T) (he : e < 32) : qa_mk (m ||| ((1 : Int32) <<< (nI e &&& 31))) (e :: T) := by
  intro s hs
  rw [b_or, h s hs, qa_one he hs]
  by_cases c : s = e
  · simp [c]
  · simp [c]
theorem qa_mkd {m : Int32} {T : List Nat} {e : Nat} (h : qa_mk m (e :: T)) (he : e < 32) (hn : ¬ e ∈ T) : qa_mk (m &&& (((1 : Int32) <<< (nI e &&& 31)) ^^^ (-1))) T := by
  intro s hs
  rw [b_and, b_xor, h s hs, qa_one he hs, b_m1 s hs]
  by_cases c : s = e
  · subst c; simp [hn]
  · simp [c]
theorem qa_a1 (x : Int32) : (x &&& 1) = 0 ↔ bt x 0 = false := by
  constructor
  · intro h
    have h1 : bt (x &&& 1) 0 = false := by rw [h, b_0]
    rw [b_and, qa_b1 0 (by omega)] at h1
    simpa using h1
  · intro h
    refine b_ext (fun i hi => ?_)
    rw [b_and, b_0, qa_b1 i hi]
    by_cases c : i = 0
    · subst c; rw [h]; rfl
    · rw [decide_eq_false c]; simp
theorem qa_mkt {m : Int32} {T : List Nat} {s : Nat} (h : qa_mk m T) (hs : s < 32) : ((m >>> (nI s &&& 31)) &&& 1) = 0 ↔ ¬ s ∈ T := by
  rw [qa_a1, b_sshr s hs m (by omega), if_pos (by omega), Nat.add_zero, h s hs]
  simp
theorem qa_10 : ¬ (1 : Int32) = 0 := by decide
theorem qa_u {f : Nat → Int32} {i : Nat} {v : Int32} (h : i < 2 ^ 31) : upd f (nI i).toNatClampNeg v = upd f i v := by rw [nI_clamp h]
theorem qa_m8 : ∀ e, e < 24 → nI e &&& (-8) = nI (8 * (e / 8)) := by decide +kernel
theorem qa_s3 : ∀ e, e < 24 → nI e >>> ((3 : Int32) &&& 31) = nI (e / 8) := by decide +kernel
theorem qa_m7 : ∀ e, e < 24 → nI e &&& 7 = nI (e % 8) := by decide +kernel
theorem qa_w1 : ∀ e, e < 8 → nI e &&& 1 = nI (e % 2) := by decide +kernel
theorem qa_h1 : ∀ e, e < 8 → nI e >>> ((1 : Int32) &&& 31) = nI (e / 2) := by decide +kernel
theorem qa_h2 : ∀ e, e < 8 → nI e / 2 = nI (e / 2) := by decide +kernel
theorem qa_d8 : ∀ e, e < 24 → nI e / 8 = nI (e / 8) := by decide +kernel
theorem qa_r8 : ∀ e, e < 24 → nI e - nI e / 8 * 8 = nI (e % 8) := by decide +kernel
theorem qa_a3 : ∀ e, e < 8 → nI e &&& 3 = nI (e % 4) := by decide +kernel
theorem qa_r4 : ∀ e, e < 8 → nI e - nI e / 4 * 4 = nI (e % 4) := by decide +kernel
theorem qa_d32 : ∀ e, e < 128 → nI e / 32 = nI (e / 32) := by decide +kernel
theorem qa_r32 : ∀ e, e < 128 → nI e - nI e / 32 * 32 = nI (e % 32) := by decide +kernel
def qx_P (g : pg_T) (kd oa ow ln : Nat → Int32) : Prop := ∀ j, kd j = nI (pg_K g j) ∧ oa j = nI (pg_A g j) ∧ ow j = nI (pg_W g j) ∧ ln j = nI (pg_L g j)
theorem qa_kd {g : pg_T} {kd oa ow ln : Nat → Int32} (P : qx_P g kd oa ow ln) {e : Nat} (h : e < 2 ^ 31) : kd (nI e).toNatClampNeg = nI (pg_K g e) := by rw [nI_clamp h]; exact (P e).1
theorem qa_oa {g : pg_T} {kd oa ow ln : Nat → Int32} (P : qx_P g kd oa ow ln) {e : Nat} (h : e < 2 ^ 31) : oa (nI e).toNatClampNeg = nI (pg_A g e) := by rw [nI_clamp h]; exact (P e).2.1
theorem qa_ow {g : pg_T} {kd oa ow ln : Nat → Int32} (P : qx_P g kd oa ow ln) {e : Nat} (h : e < 2 ^ 31) : ow (nI e).toNatClampNeg = nI (pg_W g e) := by rw [nI_clamp h]; exact (P e).2.2.1
theorem qa_ln {g : pg_T} {kd oa ow ln : Nat → Int32} (P : qx_P g kd oa ow ln) {e : Nat} (h : e < 2 ^ 31) : ln (nI e).toNatClampNeg = nI (pg_L g e) := by rw [nI_clamp h]; exact (P e).2.2.2
theorem qa_kl {g : pg_T} (hw : pg_wf g) (e : Nat) : pg_K g e < 2 ^ 31 ∧ pg_A g e < 2 ^ 31 ∧ pg_W g e < 2 ^ 31 := by
  obtain ⟨h1, h2, h3, _⟩ := hw.2.2.2.2.2.2.2.2.1 e
  exact ⟨by omega, by omega, by omega⟩
end
section
/-! X: small functions -/
section
variable {f_procs f_addrs f_bufferDepth f_eventCount f_logSize f_orderSize f_seqLen f_searchMask f_searchStarted : Int32} {a_kindAt a_opA a_opW a_length a_events a_pcOf a_regs a_cells a_bufEvent a_bufValue a_bufSize a_log a_order a_codes a_codeCount a_made a_seq a_picked a_runPc a_runReg a_runMem a_runLast a_runValue a_runSource : Nat → Int32}
theorem qx_bT {post : Int32 → Prop} {a b : Nat} (h : a < b) (hb : b < 2 ^ 31) (hp : post 1) : wpX_below post (f_procs, f_addrs, f_bufferDepth, f_eventCount, f_logSize, f_orderSize, f_seqLen, f_searchMask, f_searchStarted, a_kindAt, a_opA, a_opW, a_length, a_events, a_pcOf, a_regs, a_cells, a_bufEvent, a_bufValue, a_bufSize, a_log, a_order, a_codes, a_codeCount, a_made, a_seq, a_picked, a_runPc, a_runReg, a_runMem, a_runLast, a_runValue, a_runSource) (nI a) (nI b) :=
  br_f (nI_pos (by omega)) (br_f (nI_ge h hb) hp)
theorem qx_bF {post : Int32 → Prop} {x y : Int32} (h : x < 0 ∨ y ≤ x) (hp : post 0) : wpX_below post (f_procs, f_addrs, f_bufferDepth, f_eventCount, f_logSize, f_orderSize, f_seqLen, f_searchMask, f_searchStarted, a_kindAt, a_opA, a_opW, a_length, a_events, a_pcOf, a_regs, a_cells, a_bufEvent, a_bufValue, a_bufSize, a_log, a_order, a_codes, a_codeCount, a_made, a_seq, a_picked, a_runPc, a_runReg, a_runMem, a_runLast, a_runValue, a_runSource) x y :=
  br_c (fun _ => hp) (fun h0 => br_t (h.resolve_left h0) hp)
theorem qx_S1 {post : Int32 → Prop} {x : Int32} {k : Nat} (hx : x = nI k) (h : pg_S k) (hp : post 1) : wpX_isStore post (f_procs, f_addrs, f_bufferDepth, f_eventCount, f_logSize, f_orderSize, f_seqLen, f_searchMask, f_searchStarted, a_kindAt, a_opA, a_opW, a_length, a_events, a_pcOf, a_regs, a_cells, a_bufEvent, a_bufValue, a_bufSize, a_log, a_order, a_codes, a_codeCount, a_made, a_seq, a_picked, a_runPc, a_runReg, a_runMem, a_runLast, a_runValue, a_runSource) x := by
  subst hx
  rcases h with h | h
  · subst h; exact br_t rfl hp
  · subst h; exact br_f (by decide) (br_t rfl hp)
theorem qx_S0 {post : Int32 → Prop} {x : Int32} {k : Nat} (hx : x = nI k) (hk : k < 2 ^ 31) (h : ¬ pg_S k) (hp : post 0) : wpX_isStore post (f_procs, f_addrs, f_bufferDepth, f_eventCount, f_logSize, f_orderSize, f_seqLen, f_searchMask, f_searchStarted, a_kindAt, a_opA, a_opW, a_length, a_events, a_pcOf, a_regs, a_cells, a_bufEvent, a_bufValue, a_bufSize, a_log, a_order, a_codes, a_codeCount, a_made, a_seq, a_picked, a_runPc, a_runReg, a_runMem, a_runLast, a_runValue, a_runSource) x := by
  subst hx
  refine pk_eq k 2 (fun z => absurd (Or.inl z) h) (fun _ => pk_eq k 3 (fun z => absurd (Or.inr z) h) (fun _ => hp))
theorem qx_M1 {post : Int32 → Prop} {x : Int32} {k : Nat} (hx : x = nI k) (h : pg_M k) (hp : post 1) : wpX_isMemory post (f_procs, f_addrs, f_bufferDepth, f_eventCount, f_logSize, f_orderSize, f_seqLen, f_searchMask, f_searchStarted, a_kindAt, a_opA, a_opW, a_length, a_events, a_pcOf, a_regs, a_cells, a_bufEvent, a_bufValue, a_bufSize, a_log, a_order, a_codes, a_codeCount, a_made, a_seq, a_picked, a_runPc, a_runReg, a_runMem, a_runLast, a_runValue, a_runSource) x := by
  subst hx
  rcases h with h | h | h
  · subst h; exact br_t rfl hp
  · subst h; exact br_f (by decide) (br_t rfl hp)
  · refine pk_eq k 1 (fun _ => hp) (fun _ => pk_eq k 5 (fun _ => hp) (fun _ => qx_S1 rfl h (br_f qa_10 hp)) rfl rfl ?_ (by decide)) rfl rfl ?_ (by decide) <;> (rcases h with h | h <;> omega)
theorem qx_M0 {post : Int32 → Prop} {x : Int32} {k : Nat} (hx : x = nI k) (hk : k < 2 ^ 31) (h : ¬ pg_M k) (hp : post 0) : wpX_isMemory post (f_procs, f_addrs, f_bufferDepth, f_eventCount, f_logSize, f_orderSize, f_seqLen, f_searchMask, f_searchStarted, a_kindAt, a_opA, a_opW, a_length, a_events, a_pcOf, a_regs, a_cells, a_bufEvent, a_bufValue, a_bufSize, a_log, a_order, a_codes, a_codeCount, a_made, a_seq, a_picked, a_runPc, a_runReg, a_runMem, a_runLast, a_runValue, a_runSource) x := by
  subst hx
  refine pk_eq k 1 (fun z => absurd (Or.inl z) h) (fun _ => pk_eq k 5 (fun z => absurd (Or.inr (Or.inl z)) h) (fun _ => qx_S0 rfl hk (fun z => h (pg_SM z)) (br_t rfl hp)))
theorem qx_r36 {post : SX → Prop} (hp : ∀ R, (∀ r, r < 6 → R r = 0) → post (f_procs, f_addrs, f_bufferDepth, f_eventCount, 0, f_orderSize, f_seqLen, f_searchMask, f_searchStarted, a_kindAt, a_opA, a_opW, a_length, a_events, a_pcOf, R, a_cells, a_bufEvent, a_bufValue, a_bufSize, a_log, a_order, a_codes, a_codeCount, a_made, a_seq, a_picked, a_runPc, a_runReg, a_runMem, a_runLast, a_runValue, a_runSource)) : ∀ m n i R, i + m = 6 → m < n → (∀ r, r < i → R r = 0) → wX_restart_36 post f_procs f_addrs f_bufferDepth f_eventCount f_logSize f_orderSize f_seqLen f_searchMask f_searchStarted n (nI i) a_kindAt a_opA a_opW a_length a_events a_pcOf R a_cells a_bufEvent a_bufValue a_bufSize a_log a_order a_codes a_codeCount a_made a_seq a_picked a_runPc a_runReg a_runMem a_runLast a_runValue a_runSource := by
  intro m
  induction m with
  | zero =>
    intro n i R hi hn hR
    obtain ⟨n, rfl⟩ : ∃ k, n = k + 1 := ⟨n - 1, by omega⟩
    obtain rfl : i = 6 := by omega
    exact br_t (by decide) (hp R hR)
  | succ m ih =>
    intro n i R hi hn hR
    obtain ⟨n, rfl⟩ : ∃ k, n = k + 1 := ⟨n - 1, by omega⟩
    refine br_f (nI_ge (b := 6) (by omega) (by decide)) ⟨pk_in i 6 (by omega), nm_r (qa_u (by omega)) (nm_r (nI_1 i) ?_)⟩
    refine ih n (i + 1) _ (by omega) (by omega) (fun r hr => ?_)
    by_cases c : r = i
    · subst c; exact pk_us
    · rw [pk_un c]; exact hR r (by omega)
theorem qx_r2 {post : SX → Prop} (hp : ∀ P R C Z, (∀ p, p < 3 → P p = 0 ∧ C p = 0 ∧ Z p = 0) → (∀ r, r < 6 → R r = 0) → post (f_procs, f_addrs, f_bufferDepth, f_eventCount, 0, f_orderSize, f_seqLen, f_searchMask, f_searchStarted, a_kindAt, a_opA, a_opW, a_length, a_events, P, R, C, a_bufEvent, a_bufValue, Z, a_log, a_order, a_codes, a_codeCount, a_made, a_seq, a_picked, a_runPc, a_runReg, a_runMem, a_runLast, a_runValue, a_runSource)) : ∀ m n i P C Z, i + m = 3 → m < n → (∀ p, p < i → P p = 0 ∧ C p = 0 ∧ Z p = 0) → wX_restart_2 post f_procs f_addrs f_bufferDepth f_eventCount f_logSize f_orderSize f_seqLen f_searchMask f_searchStarted n (nI i) a_kindAt a_opA a_opW a_length a_events P a_regs C a_bufEvent a_bufValue Z a_log a_order a_codes a_codeCount a_made a_seq a_picked a_runPc a_runReg a_runMem a_runLast a_runValue a_runSource := by
  intro m
  induction m with
  | zero =>
    intro n i P C Z hi hn hR
    obtain ⟨n, rfl⟩ : ∃ k, n = k + 1 := ⟨n - 1, by omega⟩
    obtain rfl : i = 3 := by omega
    exact br_t (by decide) ⟨7, qx_r36 (fun R h => hp P R C Z hR h) 6 7 0 _ rfl (by omega) (fun r h => absurd h (by omega))⟩
  | succ m ih =>
    intro n i P C Z hi hn hR
    obtain ⟨n, rfl⟩ : ∃ k, n = k + 1 := ⟨n - 1, by omega⟩
    refine br_f (nI_ge (b := 3) (by omega) (by decide)) ⟨pk_in i 3 (by omega), nm_r (qa_u (by omega)) ⟨pk_in i 3 (by omega), nm_r (qa_u (by omega)) ⟨pk_in i 3 (by omega), nm_r (qa_u (by omega)) (nm_r (nI_1 i) ?_)⟩⟩⟩
    refine ih n (i + 1) _ _ _ (by omega) (by omega) (fun p hp' => ?_)
    by_cases c : p = i
    · subst c; exact ⟨pk_us, pk_us, pk_us⟩
    · rw [pk_un c, pk_un c, pk_un c]; exact hR p (by omega)
theorem qx_restart {post : SX → Prop} (hp : ∀ P R C Z, (∀ p, p < 3 → P p = 0 ∧ C p = 0 ∧ Z p = 0) → (∀ r, r < 6 → R r = 0) → post (f_procs, f_addrs, f_bufferDepth, f_eventCount, 0, f_orderSize, f_seqLen, f_searchMask, f_searchStarted, a_kindAt, a_opA, a_opW, a_length, a_events, P, R, C, a_bufEvent, a_bufValue, Z, a_log, a_order, a_codes, a_codeCount, a_made, a_seq, a_picked, a_runPc, a_runReg, a_runMem, a_runLast, a_runValue, a_runSource)) : wpX_restart post (f_procs, f_addrs, f_bufferDepth, f_eventCount, f_logSize, f_orderSize, f_seqLen, f_searchMask, f_searchStarted, a_kindAt, a_opA, a_opW, a_length, a_events, a_pcOf, a_regs, a_cells, a_bufEvent, a_bufValue, a_bufSize, a_log, a_order, a_codes, a_codeCount, a_made, a_seq, a_picked, a_runPc, a_runReg, a_runMem, a_runLast, a_runValue, a_runSource) :=
  ⟨4, qx_r2 hp 3 4 0 _ _ _ rfl (by omega) (fun p h => absurd h (by omega))⟩
theorem qx_unmake {post : SX → Prop} (hp : ∀ M N, (∀ q, q < 2 → M q = 0 ∧ N q = 0) → post (f_procs, f_addrs, f_bufferDepth, f_eventCount, f_logSize, f_orderSize, f_seqLen, f_searchMask, f_searchStarted, a_kindAt, a_opA, a_opW, a_length, a_events, a_pcOf, a_regs, a_cells, a_bufEvent, a_bufValue, a_bufSize, a_log, a_order, a_codes, N, M, a_seq, a_picked, a_runPc, a_runReg, a_runMem, a_runLast, a_runValue, a_runSource)) : wpX_unmakeLists post (f_procs, f_addrs, f_bufferDepth, f_eventCount, f_logSize, f_orderSize, f_seqLen, f_searchMask, f_searchStarted, a_kindAt, a_opA, a_opW, a_length, a_events, a_pcOf, a_regs, a_cells, a_bufEvent, a_bufValue, a_bufSize, a_log, a_order, a_codes, a_codeCount, a_made, a_seq, a_picked, a_runPc, a_runReg, a_runMem, a_runLast, a_runValue, a_runSource) := by
  refine nm_e (nm_e (nm_e (nm_e (hp _ _ (fun q hq => ?_)))))
  have h0 : vp_nar .boolean 0 = 0 := rfl
  rcases (show q = 0 ∨ q = 1 by omega) with h | h
  · subst h; exact ⟨(pk_un (by omega)).trans (pk_us.trans h0), (pk_un (by omega)).trans pk_us⟩
  · subst h; exact ⟨pk_us.trans h0, pk_us⟩
theorem qx_log {post : SX → Prop} {n : Nat} {e : Int32} (hn : n < 6) (hp : post (f_procs, f_addrs, f_bufferDepth, f_eventCount, (nI (n + 1)), f_orderSize, f_seqLen, f_searchMask, f_searchStarted, a_kindAt, a_opA, a_opW, a_length, a_events, a_pcOf, a_regs, a_cells, a_bufEvent, a_bufValue, a_bufSize, (upd a_log n e), a_order, a_codes, a_codeCount, a_made, a_seq, a_picked, a_runPc, a_runReg, a_runMem, a_runLast, a_runValue, a_runSource)) : wpX_appendLog post (f_procs, f_addrs, f_bufferDepth, f_eventCount, (nI n), f_orderSize, f_seqLen, f_searchMask, f_searchStarted, a_kindAt, a_opA, a_opW, a_length, a_events, a_pcOf, a_regs, a_cells, a_bufEvent, a_bufValue, a_bufSize, a_log, a_order, a_codes, a_codeCount, a_made, a_seq, a_picked, a_runPc, a_runReg, a_runMem, a_runLast, a_runValue, a_runSource) e :=
  br_f (nI_ge (b := 6) hn (by decide)) ⟨pk_in n 6 hn, nm_r (qa_u (by omega)) (nm_r (nI_1 n) hp)⟩
theorem qx_isP {post : Int32 → Prop} {p i m l : Nat} (hm : m ≤ 3) (hp : p < m) (hi : i < l) (hl : l < 2 ^ 31) (hL : a_length p = nI l) (h : post 1) : wpX_isPosition post ((nI m), f_addrs, f_bufferDepth, f_eventCount, f_logSize, f_orderSize, f_seqLen, f_searchMask, f_searchStarted, a_kindAt, a_opA, a_opW, a_length, a_events, a_pcOf, a_regs, a_cells, a_bufEvent, a_bufValue, a_bufSize, a_log, a_order, a_codes, a_codeCount, a_made, a_seq, a_picked, a_runPc, a_runReg, a_runMem, a_runLast, a_runValue, a_runSource) (nI p) (nI i) := by
  unfold wpX_isPosition
  refine qx_bT hp (by omega) (br_f qa_10 ⟨pk_in p 3 (by omega), ?_⟩)
  have e : a_length (nI p).toNatClampNeg = nI l := by rw [nI_clamp (by omega), hL]
  rw [e]
  exact qx_bT hi hl (br_f qa_10 h)
theorem qx_isN1 {post : Int32 → Prop} {x y : Int32} (hx : x < 0 ∨ f_procs ≤ x) (h : post 0) : wpX_isPosition post (f_procs, f_addrs, f_bufferDepth, f_eventCount, f_logSize, f_orderSize, f_seqLen, f_searchMask, f_searchStarted, a_kindAt, a_opA, a_opW, a_length, a_events, a_pcOf, a_regs, a_cells, a_bufEvent, a_bufValue, a_bufSize, a_log, a_order, a_codes, a_codeCount, a_made, a_seq, a_picked, a_runPc, a_runReg, a_runMem, a_runLast, a_runValue, a_runSource) x y := by
  unfold wpX_isPosition
  exact qx_bF hx (br_t rfl h)
theorem qx_isN2 {post : Int32 → Prop} {p m l : Nat} {y : Int32} (hm : m ≤ 3) (hp : p < m) (hL : a_length p = nI l) (hy : y < 0 ∨ nI l ≤ y) (h : post 0) : wpX_isPosition post ((nI m), f_addrs, f_bufferDepth, f_eventCount, f_logSize, f_orderSize, f_seqLen, f_searchMask, f_searchStarted, a_kindAt, a_opA, a_opW, a_length, a_events, a_pcOf, a_regs, a_cells, a_bufEvent, a_bufValue, a_bufSize, a_log, a_order, a_codes, a_codeCount, a_made, a_seq, a_picked, a_runPc, a_runReg, a_runMem, a_runLast, a_runValue, a_runSource) (nI p) y := by
  unfold wpX_isPosition
  refine qx_bT hp (by omega) (br_f qa_10 ⟨pk_in p 3 (by omega), ?_⟩)
  have e : a_length (nI p).toNatClampNeg = nI l := by rw [nI_clamp (by omega), hL]
  rw [e]
  exact qx_bF hy (br_t rfl h)
end
end
section
/-! X: the list of events; the rules for orders -/
theorem qa_8 (p i : Nat) : (8 : Int32) * nI p + nI i = nI (8 * p + i) := by
  rw [show (8 : Int32) = nI 8 from rfl, pk_mul, nI_add]
theorem pg_esT {g : pg_T} {s : Nat} (h : pg_ev g s) : pg_es g (s + 1) = s :: pg_es g s := by simp only [pg_es]; exact if_pos h
theorem pg_esF {g : pg_T} {s : Nat} (h : ¬ pg_ev g s) : pg_es g (s + 1) = pg_es g s := by simp only [pg_es]; exact if_neg h
theorem pg_esz {g : pg_T} {s : Nat} : ∀ {m : Nat}, (∀ i, s ≤ i → i < s + m → ¬ pg_ev g i) → pg_es g (s + m) = pg_es g s
  | 0, _ => rfl
  | m + 1, h => by
    rw [← Nat.add_assoc, pg_esF (h (s + m) (by omega) (by omega)), pg_esz (fun i h1 h2 => h i h1 (by omega))]
theorem pg_esp {g : pg_T} (hw : pg_wf g) (p : Nat) : pg_es g (8 * (p + 1)) = pg_es g (8 * p + pg_L g p) := by
  have h5 := hw.2.2.2.2.2.1 p
  have : 8 * (p + 1) = 8 * p + pg_L g p + (8 - pg_L g p) := by omega
  rw [this]
  refine pg_esz (fun i h1 h2 h => ?_)
  have e8 : i / 8 = p := by omega
  have := h.2.1
  rw [e8] at this
  omega
theorem pg_esn {g : pg_T} (hw : pg_wf g) : pg_es g (8 * pg_n g) = pg_es g 24 := by
  have h3 := hw.2.1
  have : 24 = 8 * pg_n g + (24 - 8 * pg_n g) := by omega
  rw [this]
  refine (pg_esz (fun i h1 h2 h => ?_)).symm
  have := h.1
  omega
theorem pg_esl {g : pg_T} {s : Nat} : ∀ {m : Nat}, (pg_es g s).length ≤ (pg_es g (s + m)).length
  | 0 => Nat.le_refl _
  | m + 1 => by
    refine Nat.le_trans (pg_esl (m := m)) ?_
    rw [← Nat.add_assoc]
    simp only [pg_es]
    split
    · simp
    · exact Nat.le_refl _
theorem pg_es6 {g : pg_T} (hw : pg_wf g) {s : Nat} (h : s < 24) (he : pg_ev g s) : (pg_es g s).length < 6 := by
  have h1 : (pg_es g (s + 1)).length ≤ (pg_es g 24).length := by
    have := pg_esl (g := g) (s := s + 1) (m := 24 - (s + 1))
    rw [show s + 1 + (24 - (s + 1)) = 24 by omega] at this
    exact this
  rw [pg_esT he] at h1
  have := hw.2.2.2.2.2.2.2.2.2
  simp only [List.length_cons] at h1
  omega
section
variable {f_procs f_addrs f_bufferDepth f_eventCount f_logSize f_orderSize f_seqLen f_searchMask f_searchStarted : Int32} {a_kindAt a_opA a_opW a_length a_events a_pcOf a_regs a_cells a_bufEvent a_bufValue a_bufSize a_log a_order a_codes a_codeCount a_made a_seq a_picked a_runPc a_runReg a_runMem a_runLast a_runValue a_runSource : Nat → Int32}
variable {g : pg_T}
theorem qx_pc17 (hw : pg_wf g) (P : qx_P g a_kindAt a_opA a_opW a_length) {post : SX → Prop} {J7 : Int32 → Int32 → (Nat → Int32) → (Nat → Int32) → (Nat → Int32) → (Nat → Int32) → (Nat → Int32) → (Nat → Int32) → (Nat → Int32) → (Nat → Int32) → (Nat → Int32) → (Nat → Int32) → (Nat → Int32) → (Nat → Int32) → (Nat → Int32) → (Nat → Int32) → (Nat → Int32) → (Nat → Int32) → (Nat → Int32) → (Nat → Int32) → (Nat → Int32) → (Nat → Int32) → (Nat → Int32) → (Nat → Int32) → (Nat → Int32) → (Nat → Int32) → Prop} {p : Nat} (hp : p < pg_n g)
    (hJ : ∀ E, qa_Ar (pg_es g (8 * (p + 1))) E → J7 (nI (p + 1)) (nI (pg_es g (8 * (p + 1))).length) a_kindAt a_opA a_opW a_length E a_pcOf a_regs a_cells a_bufEvent a_bufValue a_bufSize a_log a_order a_codes a_codeCount a_made a_seq a_picked a_runPc a_runReg a_runMem a_runLast a_runValue a_runSource) :
    ∀ m n i E, i + m = pg_L g p → m < n → qa_Ar (pg_es g (8 * p + i)) E → wX_programsChanged_17 post J7 (nI p) f_procs f_addrs f_bufferDepth f_logSize f_orderSize f_seqLen f_searchMask f_searchStarted n (nI i) (nI (pg_es g (8 * p + i)).length) a_kindAt a_opA a_opW a_length E a_pcOf a_regs a_cells a_bufEvent a_bufValue a_bufSize a_log a_order a_codes a_codeCount a_made a_seq a_picked a_runPc a_runReg a_runMem a_runLast a_runValue a_runSource := by
  have h3 := hw.2.1
  have h5 := hw.2.2.2.2.2.1 p
  intro m
  induction m with
  | zero =>
    intro n i E hi hn hE
    obtain ⟨n, rfl⟩ : ∃ k, n = k + 1 := ⟨n - 1, by omega⟩
    obtain rfl : i = pg_L g p := by omega
    rw [← pg_esp hw] at hE ⊢
    exact ⟨pk_in p 3 (by omega), pk_le (pg_L g p) (pg_L g p) (fun _ => nm_r (nI_1 p) (hJ E hE)) (fun z => absurd z (by omega)) (qa_ln P (by omega)) rfl⟩
  | succ m ih =>
    intro n i E hi hn hE
    obtain ⟨n, rfl⟩ : ∃ k, n = k + 1 := ⟨n - 1, by omega⟩
    refine ⟨pk_in p 3 (by omega), pk_le (pg_L g p) i (fun z => absurd z (by omega)) (fun _ => nm_r (qa_8 p i) ⟨pk_in (8 * p + i) 24 (by omega), ?_⟩) (qa_ln P (by omega)) rfl⟩
    by_cases c : pg_M (pg_K g (8 * p + i))
    · have he : pg_ev g (8 * p + i) := pg_evp hw (by omega) c
      have hes : pg_es g (8 * p + (i + 1)) = (8 * p + i) :: pg_es g (8 * p + i) := pg_esT he
      have h6 := pg_es6 hw (by omega) he
      have h := ih n (i + 1) _ (by omega) (by omega) (hes ▸ qa_Arc hE)
      rw [hes] at h
      exact qx_M1 (qa_kd P (by omega)) c (br_f qa_10 (br_f (nI_ge (b := 6) h6 (by decide)) ⟨pk_in _ 6 h6, nm_r (qa_u (by omega)) (nm_r (nI_1 _) (nm_r (nI_1 i) h))⟩))
    · have he : ¬ pg_ev g (8 * p + i) := fun z => c z.2.2
      have hes : pg_es g (8 * p + (i + 1)) = pg_es g (8 * p + i) := pg_esF he
      have h := ih n (i + 1) E (by omega) (by omega) (hes ▸ hE)
      rw [hes] at h
      exact qx_M0 (qa_kd P (by omega)) (qa_kl hw _).1 c (br_t rfl (nm_r (nI_1 i) h))
theorem qx_pc7 (hw : pg_wf g) (P : qx_P g a_kindAt a_opA a_opW a_length) {post : SX → Prop}
    (hp : ∀ E Pc R C Z M N, qa_Ar (pg_es g 24) E → (∀ p, p < 3 → Pc p = 0 ∧ C p = 0 ∧ Z p = 0) → (∀ r, r < 6 → R r = 0) → (∀ q, q < 2 → M q = 0 ∧ N q = 0) → post ((nI (pg_n g)), f_addrs, f_bufferDepth, (nI (pg_N g)), 0, 0, f_seqLen, f_searchMask, f_searchStarted, a_kindAt, a_opA, a_opW, a_length, E, Pc, R, C, a_bufEvent, a_bufValue, Z, a_log, a_order, a_codes, N, M, a_seq, a_picked, a_runPc, a_runReg, a_runMem, a_runLast, a_runValue, a_runSource)) :
    ∀ m n p E, p + m = pg_n g → m < n → qa_Ar (pg_es g (8 * p)) E → wX_programsChanged_7 post (nI (pg_n g)) f_addrs f_bufferDepth f_logSize f_orderSize f_seqLen f_searchMask f_searchStarted n (nI p) (nI (pg_es g (8 * p)).length) a_kindAt a_opA a_opW a_length E a_pcOf a_regs a_cells a_bufEvent a_bufValue a_bufSize a_log a_order a_codes a_codeCount a_made a_seq a_picked a_runPc a_runReg a_runMem a_runLast a_runValue a_runSource := by
  have h3 := hw.2.1
  intro m
  induction m with
  | zero =>
    intro n p E hi hn hE
    obtain ⟨n, rfl⟩ : ∃ k, n = k + 1 := ⟨n - 1, by omega⟩
    obtain rfl : p = pg_n g := by omega
    rw [pg_esn hw] at hE ⊢
    refine br_t (nI_le (Nat.le_refl _) (by omega)) ?_
    refine qx_restart (fun Pc R C Z h1 h2 => ?_)
    exact qx_unmake (fun M N h3 => hp E Pc R C Z M N hE h1 h2 h3)
  | succ m ih =>
    intro n p E hi hn hE
    obtain ⟨n, rfl⟩ : ∃ k, n = k + 1 := ⟨n - 1, by omega⟩
    refine br_f (nI_ge (by omega) (by omega)) ⟨pg_L g p + 1, ?_⟩
    exact qx_pc17 hw P (by omega) (fun E' hE' => ih n (p + 1) E' (by omega) (by omega) hE') (pg_L g p) (pg_L g p + 1) 0 E (by omega) (by omega) hE
theorem qx_pch (hw : pg_wf g) (P : qx_P g a_kindAt a_opA a_opW a_length) {post : SX → Prop}
    (hp : ∀ E Pc R C Z M N, qa_Ar (pg_es g 24) E → (∀ p, p < 3 → Pc p = 0 ∧ C p = 0 ∧ Z p = 0) → (∀ r, r < 6 → R r = 0) → (∀ q, q < 2 → M q = 0 ∧ N q = 0) → post ((nI (pg_n g)), f_addrs, f_bufferDepth, (nI (pg_N g)), 0, 0, f_seqLen, f_searchMask, f_searchStarted, a_kindAt, a_opA, a_opW, a_length, E, Pc, R, C, a_bufEvent, a_bufValue, Z, a_log, a_order, a_codes, N, M, a_seq, a_picked, a_runPc, a_runReg, a_runMem, a_runLast, a_runValue, a_runSource)) :
    wpX_programsChanged post ((nI (pg_n g)), f_addrs, f_bufferDepth, f_eventCount, f_logSize, f_orderSize, f_seqLen, f_searchMask, f_searchStarted, a_kindAt, a_opA, a_opW, a_length, a_events, a_pcOf, a_regs, a_cells, a_bufEvent, a_bufValue, a_bufSize, a_log, a_order, a_codes, a_codeCount, a_made, a_seq, a_picked, a_runPc, a_runReg, a_runMem, a_runLast, a_runValue, a_runSource) :=
  ⟨pg_n g + 1, qx_pc7 hw P hp (pg_n g) (pg_n g + 1) 0 a_events (by omega) (by omega) trivial⟩
theorem qx_br30 (hw : pg_wf g) (P : qx_P g a_kindAt a_opA a_opW a_length) {post : Int32 → Prop} {T : List Nat} {m ld : Int32} {e : Nat} (he : e < 24) (hm : qa_mk m T) (hld : ld = if pg_K g e = 1 then 1 else 0)
    (h1 : pg_bk g T e → post 1) (h0 : ¬ pg_bk g T e → post 0) :
    ∀ i n, ∀ fz : Int32, 8 * (e / 8) + i ≤ e → i < n → (fz = 0 ∨ fz = 1) → (fz = 1 ↔ ∃ f, 8 * (e / 8) + i ≤ f ∧ f < e ∧ pg_K g f = 4) →
      (∀ s, 8 * (e / 8) + i ≤ s → s < e → pg_M (pg_K g s) → ¬ s ∈ T → ¬ (pg_K g e ≠ 1 ∨ ¬ pg_S (pg_K g s) ∨ ∃ f, s < f ∧ f < e ∧ pg_K g f = 4)) →
      wX_breaksProgram_30 post m (nI (8 * (e / 8))) ld f_procs f_addrs f_bufferDepth f_eventCount f_logSize f_orderSize f_seqLen f_searchMask f_searchStarted a_kindAt a_opA a_opW a_length a_events a_pcOf a_regs a_cells a_bufEvent a_bufValue a_bufSize a_log a_order a_codes a_codeCount a_made a_seq a_picked a_runPc a_runReg a_runMem a_runLast a_runValue a_runSource n fz (nI (8 * (e / 8) + i) - 1) := by
  intro i
  induction i with
  | zero =>
    intro n fz hi hn hz hf hs
    obtain ⟨n, rfl⟩ : ∃ k, n = k + 1 := ⟨n - 1, by omega⟩
    refine br_t ?_ (h0 ?_)
    · show nI (8 * (e / 8) + 0) - 1 < nI (8 * (e / 8))
      rw [show (1 : Int32) = nI 1 from rfl, Int32.lt_iff_toInt_lt, pk_sub_toInt (by omega) (by omega), nI_toInt (by omega)]
      omega
    · rintro ⟨s, y1, y2, y3, y4, y5⟩
      exact hs s (by omega) y2 y3 y4 y5
  | succ i ih =>
    intro n fz hi hn hz hf hs
    obtain ⟨n, rfl⟩ : ∃ k, n = k + 1 := ⟨n - 1, by omega⟩
    have en : nI (8 * (e / 8) + (i + 1)) - 1 = nI (8 * (e / 8) + i) := nI_pred _
    rw [en]
    have nx : ∀ fz' : Int32, (fz' = 0 ∨ fz' = 1) → (fz' = 1 ↔ ∃ f, 8 * (e / 8) + i ≤ f ∧ f < e ∧ pg_K g f = 4) →
      (pg_M (pg_K g (8 * (e / 8) + i)) → ¬ (8 * (e / 8) + i) ∈ T → ¬ (pg_K g e ≠ 1 ∨ ¬ pg_S (pg_K g (8 * (e / 8) + i)) ∨ ∃ f, (8 * (e / 8) + i) < f ∧ f < e ∧ pg_K g f = 4)) →
      wX_breaksProgram_30 post m (nI (8 * (e / 8))) ld f_procs f_addrs f_bufferDepth f_eventCount f_logSize f_orderSize f_seqLen f_searchMask f_searchStarted a_kindAt a_opA a_opW a_length a_events a_pcOf a_regs a_cells a_bufEvent a_bufValue a_bufSize a_log a_order a_codes a_codeCount a_made a_seq a_picked a_runPc a_runReg a_runMem a_runLast a_runValue a_runSource n fz' (nI (8 * (e / 8) + i) + (-1)) := by
      intro fz' z1 z2 z3
      rw [← Int32.sub_eq_add_neg]
      refine ih n fz' (by omega) (by omega) z1 z2 (fun s y1 y2 y3 y4 => ?_)
      by_cases c : s = 8 * (e / 8) + i
      · subst c; exact z3 y3 y4
      · exact hs s (by omega) y2 y3 y4
    have kl := (qa_kl hw (8 * (e / 8) + i)).1
    refine br_f (nI_nlt (by omega) (by omega)) ⟨pk_in (8 * (e / 8) + i) 24 (by omega), nm_r (qa_kd P (by omega)) ?_⟩
    refine pk_eq (pg_K g (8 * (e / 8) + i)) 4 (fun k4 => nm_e ?_) (fun k4 => ?_)
    · refine nx 1 (Or.inr rfl) ⟨fun _ => ⟨8 * (e / 8) + i, by omega, by omega, k4⟩, fun _ => rfl⟩ (fun y => ?_)
      rcases y with y | y | y | y <;> omega
    · have hf' : fz = 1 ↔ ∃ f, 8 * (e / 8) + i ≤ f ∧ f < e ∧ pg_K g f = 4 := by
        rw [hf]
        constructor
        · rintro ⟨f, y1, y2, y3⟩; exact ⟨f, by omega, y2, y3⟩
        · rintro ⟨f, y1, y2, y3⟩
          by_cases c : f = 8 * (e / 8) + i
          · subst c; exact absurd y3 k4
          · exact ⟨f, by omega, y2, y3⟩
      by_cases c : pg_M (pg_K g (8 * (e / 8) + i))
      · refine qx_M1 rfl c (br_f qa_10 ?_)
        by_cases t : (8 * (e / 8) + i) ∈ T
        · exact br_f (fun z => (qa_mkt hm (by omega)).mp z t) (nm_e (nx fz hz hf' (fun _ y => absurd t y)))
        · refine br_t ((qa_mkt hm (by omega)).mpr t) ?_
          have bk : (pg_K g e ≠ 1 ∨ ¬ pg_S (pg_K g (8 * (e / 8) + i)) ∨ ∃ f, (8 * (e / 8) + i) < f ∧ f < e ∧ pg_K g f = 4) → pg_bk g T e := fun y => ⟨8 * (e / 8) + i, by omega, by omega, c, t, y⟩
          by_cases k1 : pg_K g e = 1
          · rw [if_pos k1] at hld
            subst hld
            refine br_f qa_10 ?_
            rcases hz with hz | hz
            · subst hz
              refine br_t rfl ?_
              by_cases s : pg_S (pg_K g (8 * (e / 8) + i))
              · refine qx_S1 rfl s (br_f qa_10 (nm_e (nx 0 (Or.inl rfl) hf' (fun _ _ y => ?_))))
                rcases y with y | y | ⟨f, y1, y2, y3⟩
                · exact y k1
                · exact y s
                · exact absurd (hf'.mpr ⟨f, by omega, y2, y3⟩) (by decide)
              · exact qx_S0 rfl kl s (br_t rfl (h1 (bk (Or.inr (Or.inl s)))))
            · subst hz
              obtain ⟨f, y1, y2, y3⟩ := hf.mp rfl
              exact br_f qa_10 (h1 (bk (Or.inr (Or.inr ⟨f, by omega, y2, y3⟩))))
          · rw [if_neg k1] at hld
            subst hld
            exact br_t rfl (h1 (bk (Or.inl k1)))
      · exact qx_M0 rfl kl c (br_t rfl (nm_e (nx fz hz hf' (fun y => absurd y c))))
theorem qx_brk (hw : pg_wf g) (P : qx_P g a_kindAt a_opA a_opW a_length) {post : Int32 → Prop} {T : List Nat} {m : Int32} {e : Nat} (he : e < 24) (hm : qa_mk m T) (h1 : pg_bk g T e → post 1) (h0 : ¬ pg_bk g T e → post 0) : wpX_breaksProgram post (f_procs, f_addrs, f_bufferDepth, f_eventCount, f_logSize, f_orderSize, f_seqLen, f_searchMask, f_searchStarted, a_kindAt, a_opA, a_opW, a_length, a_events, a_pcOf, a_regs, a_cells, a_bufEvent, a_bufValue, a_bufSize, a_log, a_order, a_codes, a_codeCount, a_made, a_seq, a_picked, a_runPc, a_runReg, a_runMem, a_runLast, a_runValue, a_runSource) (nI e) m := by
  refine nm_r (qa_m8 e he) ⟨pk_in e 24 he, ?_⟩
  have e1 : e = 8 * (e / 8) + e % 8 := by omega
  have H : ∀ ld : Int32, ld = (if pg_K g e = 1 then 1 else 0) → wX_breaksProgram_30 post m (nI (8 * (e / 8))) ld f_procs f_addrs f_bufferDepth f_eventCount f_logSize f_orderSize f_seqLen f_searchMask f_searchStarted a_kindAt a_opA a_opW a_length a_events a_pcOf a_regs a_cells a_bufEvent a_bufValue a_bufSize a_log a_order a_codes a_codeCount a_made a_seq a_picked a_runPc a_runReg a_runMem a_runLast a_runValue a_runSource (e % 8 + 1) 0 (nI e - 1) := by
    intro ld hld
    have := qx_br30 (f_procs := f_procs) (f_addrs := f_addrs) (f_bufferDepth := f_bufferDepth) (f_eventCount := f_eventCount) (f_logSize := f_logSize) (f_orderSize := f_orderSize) (f_seqLen := f_seqLen) (f_searchMask := f_searchMask) (f_searchStarted := f_searchStarted) (a_events := a_events) (a_pcOf := a_pcOf) (a_regs := a_regs) (a_cells := a_cells) (a_bufEvent := a_bufEvent) (a_bufValue := a_bufValue) (a_bufSize := a_bufSize) (a_log := a_log) (a_order := a_order) (a_codes := a_codes) (a_codeCount := a_codeCount) (a_made := a_made) (a_seq := a_seq) (a_picked := a_picked) (a_runPc := a_runPc) (a_runReg := a_runReg) (a_runMem := a_runMem) (a_runLast := a_runLast) (a_runValue := a_runValue) (a_runSource := a_runSource) hw P he hm hld h1 h0 (e % 8) (e % 8 + 1) 0 (by omega) (by omega) (Or.inl rfl) ⟨fun z => absurd z (by decide), fun ⟨f, y1, y2, _⟩ => by omega⟩ (fun s y1 y2 => by omega)
    rw [← e1] at this
    exact this
  exact pk_eq (pg_K g e) 1 (fun k => nm_e ⟨_, H 1 (if_pos k).symm⟩) (fun k => nm_e ⟨_, H 0 (if_neg k).symm⟩) (qa_kd P (by omega)) rfl (qa_kl hw e).1
theorem qx_ov23 (hw : pg_wf g) (P : qx_P g a_kindAt a_opA a_opW a_length) {post : Int32 → Prop} {T : List Nat} {m : Int32} {e : Nat} (he : e < 24) (hm : qa_mk m T) (hp : post (nI (pg_ov g T (8 * (e / 8)) (e % 8)))) :
    ∀ k n i, i + k = e % 8 → k < n → wX_overtaken_23 post (nI e) m f_procs f_addrs f_bufferDepth f_eventCount f_logSize f_orderSize f_seqLen f_searchMask f_searchStarted a_kindAt a_opA a_opW a_length a_events a_pcOf a_regs a_cells a_bufEvent a_bufValue a_bufSize a_log a_order a_codes a_codeCount a_made a_seq a_picked a_runPc a_runReg a_runMem a_runLast a_runValue a_runSource n (nI (pg_ov g T (8 * (e / 8)) i)) (nI (8 * (e / 8) + i)) := by
  intro k
  induction k with
  | zero =>
    intro n i hi hn
    obtain ⟨n, rfl⟩ : ∃ k, n = k + 1 := ⟨n - 1, by omega⟩
    obtain rfl : i = e % 8 := by omega
    exact br_t (nI_le (by omega) (by omega)) hp
  | succ k ih =>
    intro n i hi hn
    obtain ⟨n, rfl⟩ : ∃ k, n = k + 1 := ⟨n - 1, by omega⟩
    have h := ih n (i + 1) (by omega) (by omega)
    have kl := (qa_kl hw (8 * (e / 8) + i)).1
    refine br_f (nI_ge (by omega) (by omega)) ⟨pk_in (8 * (e / 8) + i) 24 (by omega), ?_⟩
    simp only [pg_ov] at h
    by_cases s : pg_S (pg_K g (8 * (e / 8) + i))
    · refine qx_S1 (qa_kd P (by omega)) s (br_f qa_10 ?_)
      by_cases t : (8 * (e / 8) + i) ∈ T
      · rw [if_neg (fun z => z.2 t)] at h
        exact br_f (fun z => (qa_mkt hm (by omega)).mp z t) (nm_r (nI_1 _) h)
      · rw [if_pos ⟨s, t⟩] at h
        exact br_t ((qa_mkt hm (by omega)).mpr t) (nm_r (nI_1 _) (nm_r (nI_1 _) h))
    · rw [if_neg (fun z => s z.1)] at h
      exact qx_S0 (qa_kd P (by omega)) kl s (br_t rfl (nm_r (nI_1 _) h))
theorem qx_ovt (hw : pg_wf g) (P : qx_P g a_kindAt a_opA a_opW a_length) {post : Int32 → Prop} {T : List Nat} {m : Int32} {e : Nat} (he : e < 24) (hm : qa_mk m T) (h1 : pg_K g e = 1 → post (nI (pg_ov g T (8 * (e / 8)) (e % 8)))) (h0 : pg_K g e ≠ 1 → post 0) : wpX_overtaken post (f_procs, f_addrs, f_bufferDepth, f_eventCount, f_logSize, f_orderSize, f_seqLen, f_searchMask, f_searchStarted, a_kindAt, a_opA, a_opW, a_length, a_events, a_pcOf, a_regs, a_cells, a_bufEvent, a_bufValue, a_bufSize, a_log, a_order, a_codes, a_codeCount, a_made, a_seq, a_picked, a_runPc, a_runReg, a_runMem, a_runLast, a_runValue, a_runSource) (nI e) m :=
  ⟨pk_in e 24 he, pk_eq (pg_K g e) 1 (fun k => nm_r (qa_m8 e he) ⟨e % 8 + 1, qx_ov23 hw P he hm (h1 k) (e % 8) (e % 8 + 1) 0 (by omega) (by omega)⟩) h0 (qa_kd P (by omega)) rfl (qa_kl hw e).1⟩
end
end
section
/-! X: the lazy run of an order -/
def qa_sc : Nat → Int32
  | 0 => -1
  | x + 1 => nI x
def pg_so (g : pg_T) : List Nat → Nat → Nat
  | [], _ => 0
  | e :: T, x => if x = e then pg_sr g (pg_rd g T) T e else pg_so g T x
def pg_st (pc : Nat → Nat) (p i : Nat) : Nat → Nat := fun q => if q = p then i else pc q
theorem pg_stS (pc : Nat → Nat) (p i : Nat) : pg_st pc p i p = i := if_pos rfl
theorem pg_stN {pc : Nat → Nat} {p q i : Nat} (h : q ≠ p) : pg_st pc p i q = pc q := if_neg h
theorem pg_stE (pc : Nat → Nat) (p : Nat) : pg_st pc p (pc p) = pc := by
  funext q
  unfold pg_st
  split
  · rename_i h; rw [h]
  · rfl
def pg_lz (g : pg_T) (pc : Nat → Nat) (T : List Nat) : Prop := (∀ p, pc p ≤ pg_L g p) ∧ (∀ e, e ∈ T → e % 8 < pc (e / 8)) ∧ (∀ p i, i < pc p → pg_R (pg_K g (8 * p + i)) → (8 * p + i) ∈ T)
def qx_Rp (pc : Nat → Nat) (PC : Nat → Int32) : Prop := ∀ p, p < 3 → PC p = nI (pc p)
def qx_Rg (g : pg_T) (pc : Nat → Nat) (T : List Nat) (RG : Nat → Int32) : Prop := ∀ p r, p < 3 → r < 2 → RG (2 * p + r) = nI (pg_reg g T p r (pc p))
def qx_Rm (g : pg_T) (T : List Nat) (ME LA : Nat → Int32) : Prop := ∀ a, a < 3 → ME a = nI (pg_mem g T a) ∧ LA a = qa_sc (pg_lw g (pg_rd g T) a T)
def qx_Rv (g : pg_T) (pc : Nat → Nat) (T : List Nat) (VA : Nat → Int32) : Prop := ∀ p i, p < 3 → i < pc p → pg_S (pg_K g (8 * p + i)) → VA (8 * p + i) = nI (pg_wr g (pg_rd g T) (8 * p + i))
def qx_Rs (g : pg_T) (T : List Nat) (SO : Nat → Int32) : Prop := ∀ e, e ∈ T → pg_R (pg_K g e) → SO e = qa_sc (pg_so g T e)
def qx_R (g : pg_T) (pc : Nat → Nat) (T : List Nat) (PC RG ME LA VA SO : Nat → Int32) : Prop := qx_Rp pc PC ∧ qx_Rg g pc T RG ∧ qx_Rm g T ME LA ∧ qx_Rv g pc T VA ∧ qx_Rs g T SO
theorem qa_2 (p i : Nat) : (2 : Int32) * nI p + nI i = nI (2 * p + i) := by
  rw [show (2 : Int32) = nI 2 from rfl, pk_mul, nI_add]
theorem qa_2p (p : Nat) : (2 : Int32) * nI p = nI (2 * p) := by
  rw [show (2 : Int32) = nI 2 from rfl, pk_mul]
theorem qa_8p (p : Nat) : (8 : Int32) * nI p = nI (8 * p) := by
  rw [show (8 : Int32) = nI 8 from rfl, pk_mul]
theorem qa_rd {a : Nat → Int32} {i : Nat} (h : i < 2 ^ 31) : a (nI i).toNatClampNeg = a i := by rw [nI_clamp h]
section
variable {f_procs f_addrs f_bufferDepth f_eventCount f_logSize f_orderSize f_seqLen f_searchMask f_searchStarted : Int32} {a_kindAt a_opA a_opW a_length a_events a_pcOf a_regs a_cells a_bufEvent a_bufValue a_bufSize a_log a_order a_codes a_codeCount a_made a_seq a_picked a_runPc a_runReg a_runMem a_runLast a_runValue a_runSource : Nat → Int32}
variable {g : pg_T} {pc : Nat → Nat} {T : List Nat}
theorem qx_adv7 (hw : pg_wf g) (P : qx_P g a_kindAt a_opA a_opW a_length) {post : SX → Prop} {p t : Nat} (hp : p < 3) (ht : t ≤ 5) (hRp : qx_Rp pc a_runPc) (hlt : pc p < t) (nr : ∀ i, pc p ≤ i → i < t → ¬ pg_R (pg_K g (8 * p + i)))
    (hpost : ∀ PC RG VA, qx_Rp (pg_st pc p t) PC → qx_Rg g (pg_st pc p t) T RG → qx_Rv g (pg_st pc p t) T VA → post (f_procs, f_addrs, f_bufferDepth, f_eventCount, f_logSize, f_orderSize, f_seqLen, f_searchMask, f_searchStarted, a_kindAt, a_opA, a_opW, a_length, a_events, a_pcOf, a_regs, a_cells, a_bufEvent, a_bufValue, a_bufSize, a_log, a_order, a_codes, a_codeCount, a_made, a_seq, a_picked, PC, RG, a_runMem, a_runLast, VA, a_runSource)) :
    ∀ m n i RG VA, i + m = t → m < n → pc p ≤ i → qx_Rg g (pg_st pc p i) T RG → qx_Rv g (pg_st pc p i) T VA → wX_advance_7 post (nI p) (nI t) f_procs f_addrs f_bufferDepth f_eventCount f_logSize f_orderSize f_seqLen f_searchMask f_searchStarted n (nI i) a_kindAt a_opA a_opW a_length a_events a_pcOf a_regs a_cells a_bufEvent a_bufValue a_bufSize a_log a_order a_codes a_codeCount a_made a_seq a_picked a_runPc RG a_runMem a_runLast VA a_runSource := by
  intro m
  induction m with
  | zero =>
    intro n i RG VA hi hn hi2 h1 h2
    obtain ⟨n, rfl⟩ : ∃ k, n = k + 1 := ⟨n - 1, by omega⟩
    obtain rfl : i = t := by omega
    refine br_t (nI_le (Nat.le_refl _) (by omega)) ⟨pk_in p 3 hp, pk_le i (pc p) (fun z => absurd z (by omega)) (fun _ => ⟨pk_in p 3 hp, nm_r (qa_u (by omega)) (hpost _ RG VA (fun q hq => ?_) h1 h2)⟩) rfl ((qa_rd (by omega)).trans (hRp p hp))⟩
    by_cases c : q = p
    · subst c; rw [pk_us, pg_stS]
    · rw [pk_un c, pg_stN c]; exact hRp q hq
  | succ m ih =>
    intro n i RG VA hi hn hi2 h1 h2
    obtain ⟨n, rfl⟩ : ∃ k, n = k + 1 := ⟨n - 1, by omega⟩
    have kl := qa_kl hw (8 * p + i)
    obtain ⟨_, _, _, k4, k5, k6, _⟩ := hw.2.2.2.2.2.2.2.2.1 (8 * p + i)
    have hR := nr i hi2 (by omega)
    have regN : pg_K g (8 * p + i) ≠ 6 → qx_Rg g (pg_st pc p (i + 1)) T RG := by
      intro h6 q r hq hr
      have := h1 q r hq hr
      by_cases c : q = p
      · subst c; rw [pg_stS] at this ⊢; rw [pg_rgN hR h6]; exact this
      · rw [pg_stN c] at this ⊢; exact this
    have valN : ¬ pg_S (pg_K g (8 * p + i)) → qx_Rv g (pg_st pc p (i + 1)) T VA := by
      intro hS q j hq hj hs
      by_cases c : q = p
      · subst c
        rw [pg_stS] at hj
        by_cases z : j = i
        · subst z; exact absurd hs hS
        · exact h2 q j hq (by rw [pg_stS]; omega) hs
      · rw [pg_stN c] at hj
        exact h2 q j hq (by rw [pg_stN c]; exact hj) hs
    have valS : ∀ v : Int32, v = nI (pg_wr g (pg_rd g T) (8 * p + i)) → qx_Rv g (pg_st pc p (i + 1)) T (upd VA (8 * p + i) v) := by
      intro v hv q j hq hj hs
      by_cases z : 8 * q + j = 8 * p + i
      · rw [z, pk_us, hv]
      · rw [pk_un z]
        by_cases c : q = p
        · subst c
          rw [pg_stS] at hj
          exact h2 q j hq (by rw [pg_stS]; omega) hs
        · rw [pg_stN c] at hj
          exact h2 q j hq (by rw [pg_stN c]; exact hj) hs
    refine br_f (nI_ge (by omega) (by omega)) (nm_r (qa_8 p i) ⟨pk_in (8 * p + i) 24 (by omega), nm_r (qa_kd P (by omega)) ?_⟩)
    refine pk_eq (pg_K g (8 * p + i)) 2 (fun c => ?_) (fun c2 => pk_eq (pg_K g (8 * p + i)) 3 (fun c => ?_) (fun c3 => pk_eq (pg_K g (8 * p + i)) 6 (fun c => ?_) (fun c6 => ?_)))
    · refine ⟨pk_in (8 * p + i) 24 (by omega), pk_in (8 * p + i) 24 (by omega), nm_r (qa_u (by omega)) (nm_r (nI_1 i) ?_)⟩
      refine ih n (i + 1) RG _ (by omega) (by omega) (by omega) (regN (by omega)) (valS _ ?_)
      rw [qa_ow P (by omega)]
      unfold pg_wr
      rw [if_pos c]
    · have hW : pg_W g (8 * p + i) ≤ 1 := k4 (Or.inr c)
      have e1 : (2 : Int32) * nI p + a_opW (nI (8 * p + i)).toNatClampNeg = nI (2 * p + pg_W g (8 * p + i)) := by rw [qa_ow P (by omega), qa_2]
      refine ⟨pk_in (8 * p + i) 24 (by omega), pk_in (2 * p + pg_W g (8 * p + i)) 6 (by omega) e1, pk_in (8 * p + i) 24 (by omega), nm_r (qa_u (by omega)) (nm_r (nI_1 i) ?_)⟩
      refine ih n (i + 1) RG _ (by omega) (by omega) (by omega) (regN (by omega)) (valS _ ?_)
      rw [e1, nI_clamp (by omega), h1 p _ hp (by omega), pg_stS]
      unfold pg_wr
      rw [if_neg (by omega), if_neg (by omega)]
      have e8 : (8 * p + i) / 8 = p := by omega
      have em : (8 * p + i) % 8 = i := by omega
      rw [e8, em]
      rfl
    · obtain ⟨hA, hW⟩ := k6 c
      have e1 : (2 : Int32) * nI p + a_opA (nI (8 * p + i)).toNatClampNeg = nI (2 * p + pg_A g (8 * p + i)) := by rw [qa_oa P (by omega), qa_2]
      refine ⟨pk_in (8 * p + i) 24 (by omega), nm_r e1 ⟨pk_in (2 * p + pg_A g (8 * p + i)) 6 (by omega), pk_in (8 * p + i) 24 (by omega), pk_in (2 * p + pg_A g (8 * p + i)) 6 (by omega), nm_r (qa_u (by omega)) (nm_r (nI_1 i) ?_)⟩⟩
      refine ih n (i + 1) _ VA (by omega) (by omega) (by omega) (fun q r hq hr => ?_) (valN (by intro z; rcases z with z | z <;> omega))
      have hl := pg_regL hw.2.2.2.2.2.2.2.2.1 T p (pg_A g (8 * p + i)) i
      rw [qa_ow P (by omega), nI_clamp (by omega), h1 p _ hp (by omega), pg_stS, nI_add, qa_a3 _ (by omega)]
      by_cases z : q = p ∧ r = pg_A g (8 * p + i)
      · obtain ⟨z1, z2⟩ := z
        subst z1 z2
        rw [pk_us, pg_stS, pg_rgA c, if_pos rfl]
      · rw [pk_un (by intro y; apply z; omega), h1 q r hq hr]
        by_cases y : q = p
        · subst y
          rw [pg_stS, pg_stS, pg_rgA c, if_neg (fun w => z ⟨rfl, w.symm⟩)]
        · rw [pg_stN y, pg_stN y]
    · refine nm_r (nI_1 i) ?_
      refine ih n (i + 1) RG VA (by omega) (by omega) (by omega) (regN c6) (valN (by intro z; rcases z with z | z <;> omega))
theorem qx_adv (hw : pg_wf g) (P : qx_P g a_kindAt a_opA a_opW a_length) {post : SX → Prop} {p t : Nat} (hp : p < 3) (ht : t ≤ 5) (R : qx_R g pc T a_runPc a_runReg a_runMem a_runLast a_runValue a_runSource) (nr : ∀ i, pc p ≤ i → i < t → ¬ pg_R (pg_K g (8 * p + i))) (h5 : pc p ≤ 5)
    (hpost : ∀ PC RG VA, qx_R g (pg_st pc p (if pc p < t then t else pc p)) T PC RG a_runMem a_runLast VA a_runSource → post (f_procs, f_addrs, f_bufferDepth, f_eventCount, f_logSize, f_orderSize, f_seqLen, f_searchMask, f_searchStarted, a_kindAt, a_opA, a_opW, a_length, a_events, a_pcOf, a_regs, a_cells, a_bufEvent, a_bufValue, a_bufSize, a_log, a_order, a_codes, a_codeCount, a_made, a_seq, a_picked, PC, RG, a_runMem, a_runLast, VA, a_runSource)) : wpX_advance post (f_procs, f_addrs, f_bufferDepth, f_eventCount, f_logSize, f_orderSize, f_seqLen, f_searchMask, f_searchStarted, a_kindAt, a_opA, a_opW, a_length, a_events, a_pcOf, a_regs, a_cells, a_bufEvent, a_bufValue, a_bufSize, a_log, a_order, a_codes, a_codeCount, a_made, a_seq, a_picked, a_runPc, a_runReg, a_runMem, a_runLast, a_runValue, a_runSource) (nI p) (nI t) := by
  obtain ⟨R1, R2, R3, R4, R5⟩ := R
  refine ⟨pk_in p 3 hp, nm_r ((qa_rd (by omega)).trans (R1 p hp)) ?_⟩
  by_cases c : pc p < t
  · rw [if_pos c] at hpost
    refine ⟨t + 1, qx_adv7 hw P hp ht R1 c nr (fun PC RG VA h1 h2 h3 => hpost PC RG VA ⟨h1, h2, R3, h3, R5⟩) (t - pc p) (t + 1) (pc p) _ _ (by omega) (by omega) (Nat.le_refl _) ?_ ?_⟩
    · rw [pg_stE]; exact R2
    · rw [pg_stE]; exact R4
  · rw [if_neg c, pg_stE] at hpost
    exact ⟨1, br_t (nI_le (by omega) (by omega)) ⟨pk_in p 3 hp, pk_le t (pc p) (fun _ => hpost a_runPc a_runReg a_runValue ⟨R1, R2, R3, R4, R5⟩) (fun z => absurd z (by omega)) rfl ((qa_rd (by omega)).trans (R1 p hp))⟩⟩
end
end
section
/-! X: one event of the lazy run, on the pictures -/
theorem pg_lwc {g : pg_T} {rd : Nat → Nat} {a e : Nat} {T : List Nat} : pg_lw g rd a (e :: T) = if pg_ws g rd a e then e + 1 else pg_lw g rd a T := rfl
theorem pg_so1 {g : pg_T} {e : Nat} {T : List Nat} : pg_so g (e :: T) e = pg_sr g (pg_rd g T) T e := if_pos rfl
theorem pg_so2 {g : pg_T} {e x : Nat} {T : List Nat} (h : x ≠ e) : pg_so g (e :: T) x = pg_so g T x := if_neg h
theorem pg_lwS {g : pg_T} {a e : Nat} {T : List Nat} (hs : pg_S (pg_K g e)) : pg_lw g (pg_rd g (e :: T)) a (e :: T) = if pg_A g e = a then e + 1 else pg_lw g (pg_rd g T) a T := by
  rw [pg_rds (pg_SnR hs), pg_lwc]
  by_cases c : pg_A g e = a
  · rw [if_pos c, if_pos ⟨c, pg_Sn1 hs, fun z => by rcases hs with h | h <;> omega⟩]
  · rw [if_neg c, if_neg (fun z => c z.1)]
theorem pg_lwR {g : pg_T} {a e : Nat} {T : List Nat} (hv : pg_vo g T) (he : ¬ e ∈ T) (hs : pg_K g e = 1) : pg_lw g (pg_rd g (e :: T)) a (e :: T) = pg_lw g (pg_rd g T) a T := by
  rw [pg_lwc, if_neg (fun z => z.2.1 hs), pg_lws hv he]
theorem pg_lwC {g : pg_T} {a e : Nat} {T : List Nat} (hv : pg_vo g T) (he : ¬ e ∈ T) (hs : pg_K g e = 5) : pg_lw g (pg_rd g (e :: T)) a (e :: T) = if pg_A g e = a ∧ pg_mem g T (pg_A g e) = pg_reg g T (e / 8) (pg_W g e % 2) (e % 8) then e + 1 else pg_lw g (pg_rd g T) a T := by
  have h1 : pg_rb g (pg_rd g (e :: T)) (e / 8) (pg_W g e % 2) (e % 8) = pg_reg g T (e / 8) (pg_W g e % 2) (e % 8) := pg_rbs (by omega) (fun _ => Nat.le_refl _)
  rw [pg_lwc, pg_lws hv he]
  by_cases c : pg_A g e = a ∧ pg_mem g T (pg_A g e) = pg_reg g T (e / 8) (pg_W g e % 2) (e % 8)
  · rw [if_pos c, if_pos ⟨c.1, by omega, fun _ => by rw [pg_rdC hs, h1]; exact c.2⟩]
  · rw [if_neg c, if_neg (fun z => c ⟨z.1, by have := z.2.2 hs; rw [pg_rdC hs, h1] at this; exact this⟩)]
section
variable {g : pg_T} {pc : Nat → Nat} {T : List Nat} {PC RG ME LA VA SO : Nat → Int32}
theorem qx_RS (hv : pg_vo g T) {p i : Nat} (hok : pg_ok g T (8 * p + i)) (hp : p < 3) (hi : i < pc p) (hs : pg_S (pg_K g (8 * p + i))) (R : qx_R g pc T PC RG ME LA VA SO) :
    qx_R g pc ((8 * p + i) :: T) PC RG (upd ME (pg_A g (8 * p + i)) (VA (8 * p + i))) (upd LA (pg_A g (8 * p + i)) (nI (8 * p + i))) VA SO := by
  obtain ⟨R1, R2, R3, R4, R5⟩ := R
  refine ⟨R1, fun q r hq hr => ?_, fun a ha => ?_, fun q j hq hj hS => ?_, fun x hx hr => ?_⟩
  · rw [pg_rgS (pg_SnR hs)]; exact R2 q r hq hr
  · rw [pg_memS hv hok.2.1 hs, pg_lwS hs]
    by_cases c : pg_A g (8 * p + i) = a
    · subst c
      rw [if_pos rfl, if_pos rfl, pk_us, pk_us]
      exact ⟨R4 p i hp hi hs, rfl⟩
    · rw [if_neg c, if_neg c, pk_un (Ne.symm c), pk_un (Ne.symm c)]
      exact R3 a ha
  · rw [pg_rds (pg_SnR hs)]; exact R4 q j hq hj hS
  · have ne : x ≠ 8 * p + i := fun z => pg_SnR hs (z ▸ hr)
    rw [pg_so2 ne]
    rcases List.mem_cons.mp hx with hx | hx
    · exact absurd hx ne
    · exact R5 x hx hr
theorem qx_RR (hv : pg_vo g T) {p i : Nat} (h8 : i < 8) (h5 : ∀ q, pc q ≤ 8) (hok : pg_ok g T (8 * p + i)) (hp : p < 3) (hi : pc p = i) (hs : pg_R (pg_K g (8 * p + i))) (R : qx_R g pc T PC RG ME LA VA SO) {ME' LA' : Nat → Int32} (hm : qx_Rm g ((8 * p + i) :: T) ME' LA') :
    qx_R g (pg_st pc p (i + 1)) ((8 * p + i) :: T) (upd PC p (nI (i + 1))) (upd RG (2 * p + pg_W g (8 * p + i) % 2) (nI (pg_rd g ((8 * p + i) :: T) (8 * p + i)))) ME' LA' VA (upd SO (8 * p + i) (qa_sc (pg_sr g (pg_rd g T) T (8 * p + i)))) := by
  obtain ⟨R1, R2, R3, R4, R5⟩ := R
  have e8 : (8 * p + i) / 8 = p := by omega
  have em : (8 * p + i) % 8 = i := by omega
  refine ⟨fun q hq => ?_, fun q r hq hr => ?_, hm, fun q j hq hj hS => ?_, fun x hx hr => ?_⟩
  · by_cases c : q = p
    · subst c; rw [pk_us, pg_stS]
    · rw [pk_un c, pg_stN c]; exact R1 q hq
  · by_cases c : q = p
    · subst c
      rw [pg_stS, pg_rgR h8 hs]
      by_cases z : pg_W g (8 * q + i) % 2 = r
      · subst z; rw [if_pos rfl, pk_us]
      · rw [if_neg z, pk_un (by omega)]
        have := R2 q r hq hr
        rw [hi] at this; exact this
    · rw [pg_stN c, pg_rgO (h5 q) (fun z => by omega), pk_un (by omega)]
      exact R2 q r hq hr
  · have hj' : j < pc q := by
      by_cases c : q = p
      · subst c
        rw [pg_stS] at hj
        by_cases z : j = i
        · subst z; exact absurd hs (pg_SnR hS)
        · omega
      · rw [pg_stN c] at hj; exact hj
    have h5q := h5 q
    rw [R4 q j hq hj' hS]
    refine congrArg nI (pg_wrx (fun s h8' hs' _ => (pg_rdn (fun z => ?_)).symm))
    have : q = p := by omega
    subst this
    omega
  · by_cases c : x = 8 * p + i
    · subst c; rw [pk_us, pg_so1]
    · rw [pk_un c, pg_so2 c]
      rcases List.mem_cons.mp hx with hx | hx
      · exact absurd hx c
      · exact R5 x hx hr
theorem qx_RmR (hv : pg_vo g T) {e : Nat} (he : ¬ e ∈ T) (hk : pg_K g e = 1) (R3 : qx_Rm g T ME LA) : qx_Rm g (e :: T) ME LA := fun a ha => by
  rw [pg_memR hv he hk, pg_lwR hv he hk]; exact R3 a ha
theorem qx_RmC1 (hv : pg_vo g T) {e : Nat} (he : ¬ e ∈ T) (hk : pg_K g e = 5) (h : pg_mem g T (pg_A g e) = pg_reg g T (e / 8) (pg_W g e % 2) (e % 8)) (R3 : qx_Rm g T ME LA) : qx_Rm g (e :: T) (upd ME (pg_A g e) (nI (pg_W g e / 2))) (upd LA (pg_A g e) (nI e)) := fun a ha => by
  rw [pg_memC hv he hk, pg_lwC hv he hk]
  by_cases c : pg_A g e = a
  · rw [if_pos ⟨c, h⟩, if_pos ⟨c, h⟩, ← c, pk_us, pk_us]; exact ⟨rfl, rfl⟩
  · rw [if_neg (fun z => c z.1), if_neg (fun z => c z.1), pk_un (Ne.symm c), pk_un (Ne.symm c)]; exact R3 a ha
theorem qx_RmC0 (hv : pg_vo g T) {e : Nat} (he : ¬ e ∈ T) (hk : pg_K g e = 5) (h : ¬ pg_mem g T (pg_A g e) = pg_reg g T (e / 8) (pg_W g e % 2) (e % 8)) (R3 : qx_Rm g T ME LA) : qx_Rm g (e :: T) ME LA := fun a ha => by
  rw [pg_memC hv he hk, pg_lwC hv he hk, if_neg (fun z => h z.2), if_neg (fun z => h z.2)]; exact R3 a ha
/-- the lazy counters -/
theorem pg_lzS (hw : pg_wf g) {p i : Nat} (hok : pg_ok g T (8 * p + i)) (hi : i < pg_L g p) (hs : pg_S (pg_K g (8 * p + i))) (Z : pg_lz g pc T) : (∀ j, pc p ≤ j → j < i + 1 → ¬ pg_R (pg_K g (8 * p + j))) ∧ pg_lz g (pg_st pc p (if pc p < i + 1 then i + 1 else pc p)) ((8 * p + i) :: T) := by
  have h5 := hw.2.2.2.2.2.1 p
  have e8 : (8 * p + i) / 8 = p := by omega
  have em : (8 * p + i) % 8 = i := by omega
  have A : ∀ j, pc p ≤ j → j < i + 1 → ¬ pg_R (pg_K g (8 * p + j)) := by
    intro j h1 h2 hr
    by_cases c : j = i
    · subst c; exact pg_SnR hs hr
    · have hm : (8 * p + j) ∈ T := pg_okr hok (by omega) (by omega) hr
      have := Z.2.1 _ hm
      rw [show (8 * p + j) / 8 = p by omega] at this
      omega
  refine ⟨A, fun q => ?_, fun x hx => ?_, fun q j hj hr => ?_⟩
  · by_cases c : q = p
    · subst c; rw [pg_stS]; split
      · omega
      · exact Z.1 q
    · rw [pg_stN c]; exact Z.1 q
  · rcases List.mem_cons.mp hx with hx | hx
    · subst hx; rw [e8, em, pg_stS]; split <;> omega
    · have := Z.2.1 x hx
      by_cases c : x / 8 = p
      · rw [c, pg_stS]; rw [c] at this; split <;> omega
      · rw [pg_stN c]; exact this
  · refine List.mem_cons_of_mem _ ?_
    by_cases c : q = p
    · subst c
      rw [pg_stS] at hj
      by_cases z : j < pc q
      · exact Z.2.2 q j z hr
      · exact absurd hr (A j (by omega) (by split at hj <;> omega))
    · rw [pg_stN c] at hj; exact Z.2.2 q j hj hr
theorem pg_lzR (hw : pg_wf g) {p i : Nat} (hok : pg_ok g T (8 * p + i)) (hi : i < pg_L g p) (hs : pg_R (pg_K g (8 * p + i))) (Z : pg_lz g pc T) : pc p ≤ i ∧ (∀ j, pc p ≤ j → j < i → ¬ pg_R (pg_K g (8 * p + j))) ∧ pg_lz g (pg_st pc p (i + 1)) ((8 * p + i) :: T) := by
  have h5 := hw.2.2.2.2.2.1 p
  have e8 : (8 * p + i) / 8 = p := by omega
  have em : (8 * p + i) % 8 = i := by omega
  have h0 : pc p ≤ i := by
    by_cases c : pc p ≤ i
    · exact c
    · exact absurd (Z.2.2 p i (by omega) hs) hok.2.1
  have A : ∀ j, pc p ≤ j → j < i → ¬ pg_R (pg_K g (8 * p + j)) := by
    intro j h1 h2 hr
    have hm : (8 * p + j) ∈ T := pg_okr hok (by omega) (by omega) hr
    have := Z.2.1 _ hm
    rw [show (8 * p + j) / 8 = p by omega] at this
    omega
  refine ⟨h0, A, fun q => ?_, fun x hx => ?_, fun q j hj hr => ?_⟩
  · by_cases c : q = p
    · subst c; rw [pg_stS]; omega
    · rw [pg_stN c]; exact Z.1 q
  · rcases List.mem_cons.mp hx with hx | hx
    · subst hx; rw [e8, em, pg_stS]; omega
    · have := Z.2.1 x hx
      by_cases c : x / 8 = p
      · rw [c, pg_stS]; rw [c] at this; omega
      · rw [pg_stN c]; exact this
  · by_cases c : q = p
    · subst c
      rw [pg_stS] at hj
      by_cases z : j = i
      · subst z; exact List.mem_cons_self
      · by_cases y : j < pc q
        · exact List.mem_cons_of_mem _ (Z.2.2 q j y hr)
        · exact absurd hr (A j (by omega) (by omega))
    · rw [pg_stN c] at hj; exact List.mem_cons_of_mem _ (Z.2.2 q j hj hr)
theorem pg_stst (p i j : Nat) : pg_st (pg_st pc p i) p j = pg_st pc p j := by
  funext q
  unfold pg_st
  split <;> simp [*]
end
end
section
/-! X: the walk of evaluate -/
def pg_sj (g : pg_T) (T : List Nat) (a b j : Nat) : Nat := if pg_ow g T a b j ≠ 0 then pg_ow g T a b j else pg_lw g (pg_rd g T) a T
theorem pg_srj {g : pg_T} {T : List Nat} {e : Nat} (h : pg_K g e = 1) : pg_sr g (pg_rd g T) T e = pg_sj g T (pg_A g e) (8 * (e / 8)) (e % 8) := by
  unfold pg_sr pg_sj
  by_cases c : pg_ow g T (pg_A g e) (8 * (e / 8)) (e % 8) ≠ 0
  · rw [if_pos c, if_pos ⟨h, c⟩]
  · rw [if_neg c, if_neg (fun z => c z.2)]
theorem pg_sjT {g : pg_T} {T : List Nat} {a b j : Nat} (h : pg_S (pg_K g (b + j)) ∧ pg_A g (b + j) = a ∧ ¬ (b + j) ∈ T) : pg_sj g T a b (j + 1) = b + j + 1 := by
  unfold pg_sj
  rw [pg_owT h, if_pos (by omega)]
theorem pg_sjF {g : pg_T} {T : List Nat} {a b j : Nat} (h : ¬ (pg_S (pg_K g (b + j)) ∧ pg_A g (b + j) = a ∧ ¬ (b + j) ∈ T)) : pg_sj g T a b (j + 1) = pg_sj g T a b j := by
  unfold pg_sj
  rw [pg_owF h]
theorem pg_A3 {g : pg_T} (hw : pg_wf g) (e : Nat) : pg_A g e < 3 := by
  have := (hw.2.2.2.2.2.2.2.2.1 e).2.1
  omega
theorem pg_sr5 {g : pg_T} {rd : Nat → Nat} {T : List Nat} {e : Nat} (h : pg_K g e = 5) : pg_sr g rd T e = pg_lw g rd (pg_A g e) T := by
  unfold pg_sr
  exact if_neg (fun z => by omega)
section
variable {f_procs f_addrs f_bufferDepth f_eventCount f_logSize f_orderSize f_seqLen f_searchMask f_searchStarted : Int32} {a_kindAt a_opA a_opW a_length a_events a_pcOf a_regs a_cells a_bufEvent a_bufValue a_bufSize a_log a_order a_codes a_codeCount a_made a_seq a_picked a_runPc a_runReg a_runMem a_runLast a_runValue a_runSource : Nat → Int32}
variable {g : pg_T} {pc : Nat → Nat} {T : List Nat}
theorem qx_runS (hw : pg_wf g) (P : qx_P g a_kindAt a_opA a_opW a_length) {post : SX → Prop} (hv : pg_vo g T) {p i : Nat} (hok : pg_ok g T (8 * p + i)) (hi : i < pg_L g p) (hs : pg_S (pg_K g (8 * p + i))) (Z : pg_lz g pc T) (R : qx_R g pc T a_runPc a_runReg a_runMem a_runLast a_runValue a_runSource)
    (hpost : ∀ pc' PC RG ME LA VA SO, pg_lz g pc' ((8 * p + i) :: T) → qx_R g pc' ((8 * p + i) :: T) PC RG ME LA VA SO → post (f_procs, f_addrs, f_bufferDepth, f_eventCount, f_logSize, f_orderSize, f_seqLen, f_searchMask, f_searchStarted, a_kindAt, a_opA, a_opW, a_length, a_events, a_pcOf, a_regs, a_cells, a_bufEvent, a_bufValue, a_bufSize, a_log, a_order, a_codes, a_codeCount, a_made, a_seq, a_picked, PC, RG, ME, LA, VA, SO)) : wpX_runStore post (f_procs, f_addrs, f_bufferDepth, f_eventCount, f_logSize, f_orderSize, f_seqLen, f_searchMask, f_searchStarted, a_kindAt, a_opA, a_opW, a_length, a_events, a_pcOf, a_regs, a_cells, a_bufEvent, a_bufValue, a_bufSize, a_log, a_order, a_codes, a_codeCount, a_made, a_seq, a_picked, a_runPc, a_runReg, a_runMem, a_runLast, a_runValue, a_runSource) (nI (8 * p + i)) := by
  have h5 := hw.2.2.2.2.2.1 p
  have h3 := hw.2.1
  have hpn := pg_pn hw hi
  have hA := pg_A3 hw (8 * p + i)
  have e8 : (8 * p + i) / 8 = p := by omega
  have em : (8 * p + i) % 8 = i := by omega
  obtain ⟨nr, Z'⟩ := pg_lzS hw hok hi hs Z
  have q8 := qa_s3 (8 * p + i) (by omega)
  have q7 := qa_m7 (8 * p + i) (by omega)
  rw [e8] at q8
  rw [em] at q7
  refine nm_r q8 (nm_r q7 ?_)
  rw [nI_1]
  refine qx_adv hw P (by omega) (by omega) R nr (Nat.le_trans (Z.1 p) h5) (fun PC RG VA R' => ?_)
  have R2 := qx_RS hv hok (by omega) (by rw [pg_stS]; split <;> omega) hs R'
  have c1 : a_opA (nI (8 * p + i)).toNatClampNeg = nI (pg_A g (8 * p + i)) := qa_oa P (by omega)
  have u1 : ∀ (f : Nat → Int32) (v : Int32), upd f (a_opA (nI (8 * p + i)).toNatClampNeg).toNatClampNeg v = upd f (pg_A g (8 * p + i)) v := fun f v => by rw [c1, qa_u (by omega)]
  have i3 : vp_in (a_opA (nI (8 * p + i)).toNatClampNeg) 3 := pk_in _ 3 hA c1
  refine ⟨pk_in (8 * p + i) 24 (by omega), pk_in (8 * p + i) 24 (by omega), i3, nm_r (u1 _ _) ⟨pk_in (8 * p + i) 24 (by omega), i3, nm_r (u1 _ _) ?_⟩⟩
  rw [nI_clamp (n := 8 * p + i) (by omega)]
  exact hpost _ _ _ _ _ _ _ Z' R2
theorem qx_rl49 (hw : pg_wf g) (P : qx_P g a_kindAt a_opA a_opW a_length) {post : SX → Prop} {m : Int32} {p i : Nat} (hp : p < 3) (hi : i < 5) (hW : pg_W g (8 * p + i) ≤ 1) (hm : qa_mk m T) (hpc : pc p = i) (RV : qx_Rv g pc T a_runValue)
    (fin : post (f_procs, f_addrs, f_bufferDepth, f_eventCount, f_logSize, f_orderSize, f_seqLen, f_searchMask, f_searchStarted, a_kindAt, a_opA, a_opW, a_length, a_events, a_pcOf, a_regs, a_cells, a_bufEvent, a_bufValue, a_bufSize, a_log, a_order, a_codes, a_codeCount, a_made, a_seq, a_picked, (upd a_runPc p (nI (i + 1))), (upd a_runReg (2 * p + pg_W g (8 * p + i)) (nI (pg_sv g (pg_rd g T) (pg_sj g T (pg_A g (8 * p + i)) (8 * p) i)))), a_runMem, a_runLast, a_runValue, (upd a_runSource (8 * p + i) (qa_sc (pg_sj g T (pg_A g (8 * p + i)) (8 * p) i))))) :
    ∀ k n j, j + k = i → k < n → wX_runLoad_49 post (nI (8 * p + i)) m (nI p) (nI i) f_procs f_addrs f_bufferDepth f_eventCount f_logSize f_orderSize f_seqLen f_searchMask f_searchStarted a_kindAt a_opA a_opW a_length a_events a_pcOf a_regs a_cells a_bufEvent a_bufValue a_bufSize a_log a_order a_codes a_codeCount a_made a_seq a_picked a_runPc a_runReg a_runMem a_runLast a_runValue a_runSource n (qa_sc (pg_sj g T (pg_A g (8 * p + i)) (8 * p) j)) (nI (pg_sv g (pg_rd g T) (pg_sj g T (pg_A g (8 * p + i)) (8 * p) j))) (nI (8 * p + j)) := by
  intro k
  induction k with
  | zero =>
    intro n j hj hn
    obtain ⟨n, rfl⟩ : ∃ k, n = k + 1 := ⟨n - 1, by omega⟩
    obtain rfl : j = i := by omega
    have e1 : (2 : Int32) * nI p + a_opW (nI (8 * p + j)).toNatClampNeg = nI (2 * p + pg_W g (8 * p + j)) := by rw [qa_ow P (by omega), qa_2]
    have e2 : ∀ (f : Nat → Int32) (v : Int32), upd f ((2 : Int32) * nI p + a_opW (nI (8 * p + j)).toNatClampNeg).toNatClampNeg v = upd f (2 * p + pg_W g (8 * p + j)) v := fun f v => by rw [e1, qa_u (by omega)]
    have e3 : upd a_runPc (nI p).toNatClampNeg (nI j + 1) = upd a_runPc p (nI (j + 1)) := by rw [nI_1, qa_u (by omega)]
    exact br_t (nI_le (by omega) (by omega)) ⟨pk_in (8 * p + j) 24 (by omega), nm_r (qa_u (by omega)) ⟨pk_in (8 * p + j) 24 (by omega), pk_in _ 6 (by omega) e1, nm_r (e2 _ _) ⟨pk_in p 3 hp, nm_r e3 fin⟩⟩⟩
  | succ k ih =>
    intro n j hj hn
    obtain ⟨n, rfl⟩ : ∃ k, n = k + 1 := ⟨n - 1, by omega⟩
    have h := ih n (j + 1) (by omega) (by omega)
    have kl := (qa_kl hw (8 * p + j)).1
    have e1 : a_opA (nI (8 * p + j)).toNatClampNeg = nI (pg_A g (8 * p + j)) := qa_oa P (by omega)
    have e2 : a_opA (nI (8 * p + i)).toNatClampNeg = nI (pg_A g (8 * p + i)) := qa_oa P (by omega)
    refine br_f (nI_ge (by omega) (by omega)) ⟨pk_in (8 * p + j) 24 (by omega), ?_⟩
    by_cases s : pg_S (pg_K g (8 * p + j))
    · refine qx_S1 (qa_kd P (by omega)) s (br_f qa_10 ⟨pk_in (8 * p + j) 24 (by omega), pk_in (8 * p + i) 24 (by omega), ?_⟩)
      refine pk_eq (pg_A g (8 * p + j)) (pg_A g (8 * p + i)) (fun a => ?_) (fun a => ?_) e1 e2 (qa_kl hw _).2.1 (qa_kl hw _).2.1
      · by_cases t : (8 * p + j) ∈ T
        · rw [pg_sjF (fun z => z.2.2 t)] at h
          exact br_f (fun z => (qa_mkt hm (by omega)).mp z t) (nm_r (nI_1 _) h)
        · rw [pg_sjT ⟨s, a, t⟩] at h
          exact br_t ((qa_mkt hm (by omega)).mpr t) ⟨pk_in (8 * p + j) 24 (by omega), nm_r ((qa_rd (by omega)).trans (RV p j hp (by omega) s)) (nm_r (nI_1 _) h)⟩
      · rw [pg_sjF (fun z => a z.2.1)] at h
        exact nm_r (nI_1 _) h
    · rw [pg_sjF (fun z => s z.1)] at h
      exact qx_S0 (qa_kd P (by omega)) kl s (br_t rfl (nm_r (nI_1 _) h))
theorem qx_runL (hw : pg_wf g) (P : qx_P g a_kindAt a_opA a_opW a_length) {post : SX → Prop} {m : Int32} (hm : qa_mk m T) (hv : pg_vo g T) {p i : Nat} (hok : pg_ok g T (8 * p + i)) (hi : i < pg_L g p) (hs : pg_K g (8 * p + i) = 1) (Z : pg_lz g pc T) (R : qx_R g pc T a_runPc a_runReg a_runMem a_runLast a_runValue a_runSource)
    (hpost : ∀ pc' PC RG ME LA VA SO, pg_lz g pc' ((8 * p + i) :: T) → qx_R g pc' ((8 * p + i) :: T) PC RG ME LA VA SO → post (f_procs, f_addrs, f_bufferDepth, f_eventCount, f_logSize, f_orderSize, f_seqLen, f_searchMask, f_searchStarted, a_kindAt, a_opA, a_opW, a_length, a_events, a_pcOf, a_regs, a_cells, a_bufEvent, a_bufValue, a_bufSize, a_log, a_order, a_codes, a_codeCount, a_made, a_seq, a_picked, PC, RG, ME, LA, VA, SO)) : wpX_runLoad post (f_procs, f_addrs, f_bufferDepth, f_eventCount, f_logSize, f_orderSize, f_seqLen, f_searchMask, f_searchStarted, a_kindAt, a_opA, a_opW, a_length, a_events, a_pcOf, a_regs, a_cells, a_bufEvent, a_bufValue, a_bufSize, a_log, a_order, a_codes, a_codeCount, a_made, a_seq, a_picked, a_runPc, a_runReg, a_runMem, a_runLast, a_runValue, a_runSource) (nI (8 * p + i)) m := by
  have h5 := hw.2.2.2.2.2.1 p
  have h3 := hw.2.1
  have hpn := pg_pn hw hi
  have hA := pg_A3 hw (8 * p + i)
  have hW : pg_W g (8 * p + i) ≤ 1 := (hw.2.2.2.2.2.2.2.2.1 (8 * p + i)).2.2.2.1 (Or.inl hs)
  have e8 : (8 * p + i) / 8 = p := by omega
  have em : (8 * p + i) % 8 = i := by omega
  obtain ⟨h0, nr, Z'⟩ := pg_lzR hw hok hi (Or.inl hs) Z
  have q8 := qa_s3 (8 * p + i) (by omega)
  have q7 := qa_m7 (8 * p + i) (by omega)
  rw [e8] at q8
  rw [em] at q7
  refine nm_r q8 (nm_r q7 ?_)
  refine qx_adv hw P (by omega) (by omega) R nr (Nat.le_trans (Z.1 p) h5) (fun PC RG VA R' => ?_)
  have hif : (if pc p < i then i else pc p) = i := by split <;> omega
  rw [hif] at R'
  have R2 := qx_RR hv (by omega) (fun q => by
    by_cases c : q = p
    · subst c; rw [pg_stS]; omega
    · rw [pg_stN c]; exact Nat.le_trans (Z.1 q) (Nat.le_trans (hw.2.2.2.2.2.1 q) (by omega))) hok (by omega) (pg_stS pc p i) (Or.inl hs) R' (qx_RmR hv hok.2.1 hs R'.2.2.1)
  rw [pg_stst, pg_rde (Or.inl hs), pg_srj hs, e8, em, Nat.mod_eq_of_lt (show pg_W g (8 * p + i) < 2 by omega)] at R2
  have c1 : a_opA (nI (8 * p + i)).toNatClampNeg = nI (pg_A g (8 * p + i)) := qa_oa P (by omega)
  have i3 : vp_in (a_opA (nI (8 * p + i)).toNatClampNeg) 3 := pk_in _ 3 hA c1
  have z0 : pg_sj g T (pg_A g (8 * p + i)) (8 * p) 0 = pg_lw g (pg_rd g T) (pg_A g (8 * p + i)) T := rfl
  have v1 : a_runLast (a_opA (nI (8 * p + i)).toNatClampNeg).toNatClampNeg = qa_sc (pg_sj g T (pg_A g (8 * p + i)) (8 * p) 0) := by rw [c1, nI_clamp (by omega), z0]; exact (R'.2.2.1 _ hA).2
  have v2 : a_runMem (a_opA (nI (8 * p + i)).toNatClampNeg).toNatClampNeg = nI (pg_sv g (pg_rd g T) (pg_sj g T (pg_A g (8 * p + i)) (8 * p) 0)) := by rw [c1, nI_clamp (by omega), z0]; exact (R'.2.2.1 _ hA).1
  refine ⟨pk_in (8 * p + i) 24 (by omega), i3, nm_r v1 ⟨pk_in (8 * p + i) 24 (by omega), i3, nm_r v2 (nm_r (qa_8p p) ⟨i + 1, ?_⟩)⟩⟩
  exact qx_rl49 hw P (by omega) (by omega) hW hm (pg_stS pc p i) R'.2.2.2.1 (hpost _ _ _ _ _ _ _ Z' R2) i (i + 1) 0 (by omega) (by omega)
theorem qx_runC (hw : pg_wf g) (P : qx_P g a_kindAt a_opA a_opW a_length) {post : SX → Prop} (hv : pg_vo g T) {p i : Nat} (hok : pg_ok g T (8 * p + i)) (hi : i < pg_L g p) (hs : pg_K g (8 * p + i) = 5) (Z : pg_lz g pc T) (R : qx_R g pc T a_runPc a_runReg a_runMem a_runLast a_runValue a_runSource)
    (hpost : ∀ pc' PC RG ME LA VA SO, pg_lz g pc' ((8 * p + i) :: T) → qx_R g pc' ((8 * p + i) :: T) PC RG ME LA VA SO → post (f_procs, f_addrs, f_bufferDepth, f_eventCount, f_logSize, f_orderSize, f_seqLen, f_searchMask, f_searchStarted, a_kindAt, a_opA, a_opW, a_length, a_events, a_pcOf, a_regs, a_cells, a_bufEvent, a_bufValue, a_bufSize, a_log, a_order, a_codes, a_codeCount, a_made, a_seq, a_picked, PC, RG, ME, LA, VA, SO)) : wpX_runCas post (f_procs, f_addrs, f_bufferDepth, f_eventCount, f_logSize, f_orderSize, f_seqLen, f_searchMask, f_searchStarted, a_kindAt, a_opA, a_opW, a_length, a_events, a_pcOf, a_regs, a_cells, a_bufEvent, a_bufValue, a_bufSize, a_log, a_order, a_codes, a_codeCount, a_made, a_seq, a_picked, a_runPc, a_runReg, a_runMem, a_runLast, a_runValue, a_runSource) (nI (8 * p + i)) := by
  have h5 := hw.2.2.2.2.2.1 p
  have h3 := hw.2.1
  have hpn := pg_pn hw hi
  have hA := pg_A3 hw (8 * p + i)
  have hW : pg_W g (8 * p + i) ≤ 7 := (hw.2.2.2.2.2.2.2.2.1 (8 * p + i)).2.2.1
  have e8 : (8 * p + i) / 8 = p := by omega
  have em : (8 * p + i) % 8 = i := by omega
  obtain ⟨h0, nr, Z'⟩ := pg_lzR hw hok hi (Or.inr hs) Z
  have q8 := qa_s3 (8 * p + i) (by omega)
  have q7 := qa_m7 (8 * p + i) (by omega)
  rw [e8] at q8
  rw [em] at q7
  refine nm_r q8 (nm_r q7 ?_)
  refine qx_adv hw P (by omega) (by omega) R nr (Nat.le_trans (Z.1 p) h5) (fun PC RG VA R' => ?_)
  have hif : (if pc p < i then i else pc p) = i := by split <;> omega
  rw [hif] at R'
  have h8 : ∀ q, pg_st pc p i q ≤ 8 := fun q => by
    by_cases c : q = p
    · subst c; rw [pg_stS]; omega
    · rw [pg_stN c]; exact Nat.le_trans (Z.1 q) (Nat.le_trans (hw.2.2.2.2.2.1 q) (by omega))
  have c1 : a_opA (nI (8 * p + i)).toNatClampNeg = nI (pg_A g (8 * p + i)) := qa_oa P (by omega)
  have c2 : (2 : Int32) * nI p + (a_opW (nI (8 * p + i)).toNatClampNeg &&& 1) = nI (2 * p + pg_W g (8 * p + i) % 2) := by rw [qa_ow P (by omega), qa_w1 _ (by omega), qa_2]
  have v1 : a_runLast (nI (pg_A g (8 * p + i))).toNatClampNeg = qa_sc (pg_sr g (pg_rd g T) T (8 * p + i)) := by rw [nI_clamp (by omega), pg_sr5 hs]; exact (R'.2.2.1 _ hA).2
  have v2 : a_runMem (nI (pg_A g (8 * p + i))).toNatClampNeg = nI (pg_mem g T (pg_A g (8 * p + i))) := by rw [nI_clamp (by omega)]; exact (R'.2.2.1 _ hA).1
  have v3 : RG (nI (2 * p + pg_W g (8 * p + i) % 2)).toNatClampNeg = nI (pg_reg g T p (pg_W g (8 * p + i) % 2) i) := by
    rw [nI_clamp (by omega)]
    have := R'.2.1 p (pg_W g (8 * p + i) % 2) (by omega) (by omega)
    rw [pg_stS] at this; exact this
  have hl1 := pg_memL hw.2.2.2.2.2.2.2.2.1 T (pg_A g (8 * p + i))
  have hl2 := pg_regL hw.2.2.2.2.2.2.2.2.1 T p (pg_W g (8 * p + i) % 2) i
  have v4 : ∀ f : Nat → Int32, upd f (nI (8 * p + i)).toNatClampNeg (a_runLast (nI (pg_A g (8 * p + i))).toNatClampNeg) = upd f (8 * p + i) (qa_sc (pg_sr g (pg_rd g T) T (8 * p + i))) := fun f => by rw [v1, qa_u (by omega)]
  have v5 : a_opW (nI (8 * p + i)).toNatClampNeg >>> ((1 : Int32) &&& 31) = nI (pg_W g (8 * p + i) / 2) := by rw [qa_ow P (by omega), qa_h1 _ (by omega)]
  have v6 : ∀ f : Nat → Int32, upd f (nI (pg_A g (8 * p + i))).toNatClampNeg (a_opW (nI (8 * p + i)).toNatClampNeg >>> ((1 : Int32) &&& 31)) = upd f (pg_A g (8 * p + i)) (nI (pg_W g (8 * p + i) / 2)) := fun f => by rw [v5, qa_u (by omega)]
  have v7 : upd PC (nI p).toNatClampNeg (nI i + 1) = upd PC p (nI (i + 1)) := by rw [nI_1, qa_u (by omega)]
  refine ⟨pk_in (8 * p + i) 24 (by omega), nm_r c1 ⟨pk_in (8 * p + i) 24 (by omega), nm_r c2 ⟨pk_in _ 3 hA, nm_r v2 ⟨pk_in _ 3 hA, pk_in (8 * p + i) 24 (by omega), nm_r (v4 _) ⟨pk_in (2 * p + pg_W g (8 * p + i) % 2) 6 (by omega), ?_⟩⟩⟩⟩⟩
  refine pk_eq (pg_mem g T (pg_A g (8 * p + i))) (pg_reg g T p (pg_W g (8 * p + i) % 2) i) (fun c => ?_) (fun c => ?_) rfl v3
  · have hc : pg_mem g T (pg_A g (8 * p + i)) = pg_reg g T ((8 * p + i) / 8) (pg_W g (8 * p + i) % 2) ((8 * p + i) % 8) := by rw [e8, em]; exact c
    have R2 := qx_RR hv (by omega) h8 hok (by omega) (pg_stS pc p i) (Or.inr hs) R' (qx_RmC1 hv hok.2.1 hs hc R'.2.2.1)
    rw [pg_stst, pg_rdC hs] at R2
    exact ⟨pk_in (8 * p + i) 24 (by omega), pk_in _ 3 hA, nm_r (v6 _) ⟨pk_in _ 3 hA, nm_r (qa_u (by omega)) ⟨pk_in (2 * p + pg_W g (8 * p + i) % 2) 6 (by omega), nm_r (qa_u (by omega)) ⟨pk_in p 3 (by omega), nm_r v7 (hpost _ _ _ _ _ _ _ Z' R2)⟩⟩⟩⟩
  · have hc : ¬ pg_mem g T (pg_A g (8 * p + i)) = pg_reg g T ((8 * p + i) / 8) (pg_W g (8 * p + i) % 2) ((8 * p + i) % 8) := by rw [e8, em]; exact c
    have R2 := qx_RR hv (by omega) h8 hok (by omega) (pg_stS pc p i) (Or.inr hs) R' (qx_RmC0 hv hok.2.1 hs hc R'.2.2.1)
    rw [pg_stst, pg_rdC hs] at R2
    exact ⟨pk_in (2 * p + pg_W g (8 * p + i) % 2) 6 (by omega), nm_r (qa_u (by omega)) ⟨pk_in p 3 (by omega), nm_r v7 (hpost _ _ _ _ _ _ _ Z' R2)⟩⟩
end
end
section
/-! X: evaluate whole -/
theorem qa_sh {c v r : Nat} (hv : v < 4) (hr : r < 9) : nI c + (nI v <<< (nI (2 * r) &&& 31)) = nI (c + v * 4 ^ r) := by
  have e : 4 ^ r = 2 ^ (2 * r) := by rw [Nat.pow_mul]
  have h1 : 2 ^ (2 * r) ≤ 2 ^ 16 := Nat.pow_le_pow_right (by omega) (by omega)
  have h2 : v * 2 ^ (2 * r) ≤ 3 * 2 ^ 16 := Nat.mul_le_mul (by omega) h1
  rw [pk_shlN (nI (2 * r) &&& 31) (2 * r) (s_l (2 * r) (by omega)) (by omega), nI_add, e]
theorem qa_sr {c v r : Nat} (hv : v < 4) (hr : r < 9) : nI c + (nI v <<< (((2 : Int32) * nI r) &&& 31)) = nI (c + v * 4 ^ r) := by
  rw [qa_2p]; exact qa_sh hv hr
theorem qa_sm {c v a : Nat} (hv : v < 4) (ha : a < 3) : nI c + (nI v <<< (((12 : Int32) + (2 : Int32) * nI a) &&& 31)) = nI (c + v * 4 ^ (6 + a)) := by
  rw [qa_2p, show (12 : Int32) = nI 12 from rfl, nI_add, show 12 + 2 * a = 2 * (6 + a) by omega]; exact qa_sh hv (by omega)
theorem pg_cfr {g : pg_T} {H : List Nat} {r : Nat} (h : r < 6) : pg_cf g H r = pg_reg g H (r / 2) (r % 2) (pg_L g (r / 2)) := if_pos h
theorem pg_cfm {g : pg_T} {H : List Nat} {a : Nat} : pg_cf g H (6 + a) = pg_mem g H a := by
  unfold pg_cf
  rw [if_neg (by omega), Nat.add_sub_cancel_left]
theorem pg_smS {f : Nat → Nat} {i : Nat} : pg_sm f i + f i * 4 ^ i = pg_sm f (i + 1) := rfl
section
variable {f_procs f_addrs f_bufferDepth f_eventCount f_logSize f_orderSize f_seqLen f_searchMask f_searchStarted : Int32} {a_kindAt a_opA a_opW a_length a_events a_pcOf a_regs a_cells a_bufEvent a_bufValue a_bufSize a_log a_order a_codes a_codeCount a_made a_seq a_picked a_runPc a_runReg a_runMem a_runLast a_runValue a_runSource : Nat → Int32}
variable {g : pg_T} {H : List Nat}
theorem qx_rr36 {post : SX → Prop} (hp : ∀ R, (∀ r, r < 6 → R r = 0) → post (f_procs, f_addrs, f_bufferDepth, f_eventCount, f_logSize, f_orderSize, f_seqLen, f_searchMask, f_searchStarted, a_kindAt, a_opA, a_opW, a_length, a_events, a_pcOf, a_regs, a_cells, a_bufEvent, a_bufValue, a_bufSize, a_log, a_order, a_codes, a_codeCount, a_made, a_seq, a_picked, a_runPc, R, a_runMem, a_runLast, a_runValue, a_runSource)) : ∀ m n i R, i + m = 6 → m < n → (∀ r, r < i → R r = 0) → wX_resetRun_36 post f_procs f_addrs f_bufferDepth f_eventCount f_logSize f_orderSize f_seqLen f_searchMask f_searchStarted n (nI i) a_kindAt a_opA a_opW a_length a_events a_pcOf a_regs a_cells a_bufEvent a_bufValue a_bufSize a_log a_order a_codes a_codeCount a_made a_seq a_picked a_runPc R a_runMem a_runLast a_runValue a_runSource := by
  intro m
  induction m with
  | zero =>
    intro n i R hi hn hR
    obtain ⟨n, rfl⟩ : ∃ k, n = k + 1 := ⟨n - 1, by omega⟩
    obtain rfl : i = 6 := by omega
    exact br_t (by decide) (hp R hR)
  | succ m ih =>
    intro n i R hi hn hR
    obtain ⟨n, rfl⟩ : ∃ k, n = k + 1 := ⟨n - 1, by omega⟩
    refine br_f (nI_ge (b := 6) (by omega) (by decide)) ⟨pk_in i 6 (by omega), nm_r (qa_u (by omega)) (nm_r (nI_1 i) ?_)⟩
    refine ih n (i + 1) _ (by omega) (by omega) (fun r hr => ?_)
    by_cases c : r = i
    · subst c; exact pk_us
    · rw [pk_un c]; exact hR r (by omega)
theorem qx_rr2 {post : SX → Prop} (hp : ∀ P R C Z, (∀ p, p < 3 → P p = 0 ∧ C p = 0 ∧ Z p = -1) → (∀ r, r < 6 → R r = 0) → post (f_procs, f_addrs, f_bufferDepth, f_eventCount, f_logSize, f_orderSize, f_seqLen, f_searchMask, f_searchStarted, a_kindAt, a_opA, a_opW, a_length, a_events, a_pcOf, a_regs, a_cells, a_bufEvent, a_bufValue, a_bufSize, a_log, a_order, a_codes, a_codeCount, a_made, a_seq, a_picked, P, R, C, Z, a_runValue, a_runSource)) : ∀ m n i P C Z, i + m = 3 → m < n → (∀ p, p < i → P p = 0 ∧ C p = 0 ∧ Z p = -1) → wX_resetRun_2 post f_procs f_addrs f_bufferDepth f_eventCount f_logSize f_orderSize f_seqLen f_searchMask f_searchStarted n (nI i) a_kindAt a_opA a_opW a_length a_events a_pcOf a_regs a_cells a_bufEvent a_bufValue a_bufSize a_log a_order a_codes a_codeCount a_made a_seq a_picked P a_runReg C Z a_runValue a_runSource := by
  intro m
  induction m with
  | zero =>
    intro n i P C Z hi hn hR
    obtain ⟨n, rfl⟩ : ∃ k, n = k + 1 := ⟨n - 1, by omega⟩
    obtain rfl : i = 3 := by omega
    exact br_t (by decide) ⟨7, qx_rr36 (fun R h => hp P R C Z hR h) 6 7 0 _ rfl (by omega) (fun r h => absurd h (by omega))⟩
  | succ m ih =>
    intro n i P C Z hi hn hR
    obtain ⟨n, rfl⟩ : ∃ k, n = k + 1 := ⟨n - 1, by omega⟩
    refine br_f (nI_ge (b := 3) (by omega) (by decide)) ⟨pk_in i 3 (by omega), nm_r (qa_u (by omega)) ⟨pk_in i 3 (by omega), nm_r (qa_u (by omega)) ⟨pk_in i 3 (by omega), nm_r (qa_u (by omega)) (nm_r (nI_1 i) ?_)⟩⟩⟩
    refine ih n (i + 1) _ _ _ (by omega) (by omega) (fun p hp' => ?_)
    by_cases c : p = i
    · subst c; exact ⟨pk_us, pk_us, pk_us⟩
    · rw [pk_un c, pk_un c, pk_un c]; exact hR p (by omega)
theorem qx_rrun {post : SX → Prop} (hp : ∀ P R C Z, (∀ p, p < 3 → P p = 0 ∧ C p = 0 ∧ Z p = -1) → (∀ r, r < 6 → R r = 0) → post (f_procs, f_addrs, f_bufferDepth, f_eventCount, f_logSize, f_orderSize, f_seqLen, f_searchMask, f_searchStarted, a_kindAt, a_opA, a_opW, a_length, a_events, a_pcOf, a_regs, a_cells, a_bufEvent, a_bufValue, a_bufSize, a_log, a_order, a_codes, a_codeCount, a_made, a_seq, a_picked, P, R, C, Z, a_runValue, a_runSource)) : wpX_resetRun post (f_procs, f_addrs, f_bufferDepth, f_eventCount, f_logSize, f_orderSize, f_seqLen, f_searchMask, f_searchStarted, a_kindAt, a_opA, a_opW, a_length, a_events, a_pcOf, a_regs, a_cells, a_bufEvent, a_bufValue, a_bufSize, a_log, a_order, a_codes, a_codeCount, a_made, a_seq, a_picked, a_runPc, a_runReg, a_runMem, a_runLast, a_runValue, a_runSource) :=
  ⟨4, qx_rr2 hp 3 4 0 _ _ _ rfl (by omega) (fun p h => absurd h (by omega))⟩
theorem qx_R0 {P R C Z V S : Nat → Int32} (h1 : ∀ p, p < 3 → P p = 0 ∧ C p = 0 ∧ Z p = -1) (h2 : ∀ r, r < 6 → R r = 0) : qx_R g (fun _ => 0) [] P R C Z V S :=
  ⟨fun p hp => (h1 p hp).1, fun p r hp hr => h2 (2 * p + r) (by omega), fun a ha => ⟨(h1 a ha).2.1, (h1 a ha).2.2⟩, fun p i hp hi => absurd hi (Nat.not_lt_zero _), fun e he => absurd he (by simp)⟩
theorem qx_ev138 (hw : pg_wf g) {post : Int32 → SX → Prop} (hm : ∀ a, a < 3 → a_runMem a = nI (pg_mem g H a)) (hp : post (nI (pg_code g H)) (f_procs, f_addrs, f_bufferDepth, f_eventCount, f_logSize, f_orderSize, f_seqLen, f_searchMask, f_searchStarted, a_kindAt, a_opA, a_opW, a_length, a_events, a_pcOf, a_regs, a_cells, a_bufEvent, a_bufValue, a_bufSize, a_log, a_order, a_codes, a_codeCount, a_made, a_seq, a_picked, a_runPc, a_runReg, a_runMem, a_runLast, a_runValue, a_runSource)) : ∀ m n i, i + m = 3 → m < n → wX_evaluate_138 post f_procs f_addrs f_bufferDepth f_eventCount f_logSize f_orderSize f_seqLen f_searchMask f_searchStarted a_kindAt a_opA a_opW a_length a_events a_pcOf a_regs a_cells a_bufEvent a_bufValue a_bufSize a_log a_order a_codes a_codeCount a_made a_seq a_picked a_runPc a_runReg a_runMem a_runLast a_runValue a_runSource n (nI (pg_sm (pg_cf g H) (6 + i))) (nI i) := by
  intro m
  induction m with
  | zero =>
    intro n i hi hn
    obtain ⟨n, rfl⟩ : ∃ k, n = k + 1 := ⟨n - 1, by omega⟩
    obtain rfl : i = 3 := by omega
    exact br_t (by decide) hp
  | succ m ih =>
    intro n i hi hn
    obtain ⟨n, rfl⟩ : ∃ k, n = k + 1 := ⟨n - 1, by omega⟩
    have hl := pg_memL hw.2.2.2.2.2.2.2.2.1 H i
    have h := ih n (i + 1) (by omega) (by omega)
    have e1 : nI (pg_sm (pg_cf g H) (6 + i)) + (a_runMem (nI i).toNatClampNeg <<< (((12 : Int32) + (2 : Int32) * nI i) &&& 31)) = nI (pg_sm (pg_cf g H) (6 + (i + 1))) := by
      rw [nI_clamp (by omega), hm i (by omega), qa_sm hl (by omega), ← pg_cfm (g := g) (H := H)]
      rfl
    exact br_f (nI_ge (b := 3) (by omega) (by decide)) ⟨pk_in i 3 (by omega), nm_r e1 (nm_r (nI_1 i) h)⟩
theorem qx_ev111 (hw : pg_wf g) {post : Int32 → SX → Prop} (hr : ∀ p r, p < 3 → r < 2 → a_runReg (2 * p + r) = nI (pg_reg g H p r (pg_L g p))) (hm : ∀ a, a < 3 → a_runMem a = nI (pg_mem g H a)) (hp : post (nI (pg_code g H)) (f_procs, f_addrs, f_bufferDepth, f_eventCount, f_logSize, f_orderSize, f_seqLen, f_searchMask, f_searchStarted, a_kindAt, a_opA, a_opW, a_length, a_events, a_pcOf, a_regs, a_cells, a_bufEvent, a_bufValue, a_bufSize, a_log, a_order, a_codes, a_codeCount, a_made, a_seq, a_picked, a_runPc, a_runReg, a_runMem, a_runLast, a_runValue, a_runSource)) : ∀ m n i, i + m = 6 → m < n → wX_evaluate_111 post f_procs f_addrs f_bufferDepth f_eventCount f_logSize f_orderSize f_seqLen f_searchMask f_searchStarted a_kindAt a_opA a_opW a_length a_events a_pcOf a_regs a_cells a_bufEvent a_bufValue a_bufSize a_log a_order a_codes a_codeCount a_made a_seq a_picked a_runPc a_runReg a_runMem a_runLast a_runValue a_runSource n (nI (pg_sm (pg_cf g H) i)) (nI i) := by
  intro m
  induction m with
  | zero =>
    intro n i hi hn
    obtain ⟨n, rfl⟩ : ∃ k, n = k + 1 := ⟨n - 1, by omega⟩
    obtain rfl : i = 6 := by omega
    exact br_t (by decide) ⟨4, qx_ev138 hw hm hp 3 4 0 (by omega) (by omega)⟩
  | succ m ih =>
    intro n i hi hn
    obtain ⟨n, rfl⟩ : ∃ k, n = k + 1 := ⟨n - 1, by omega⟩
    have hl := pg_regL hw.2.2.2.2.2.2.2.2.1 H (i / 2) (i % 2) (pg_L g (i / 2))
    have h := ih n (i + 1) (by omega) (by omega)
    have e0 : a_runReg i = nI (pg_reg g H (i / 2) (i % 2) (pg_L g (i / 2))) := by
      have := hr (i / 2) (i % 2) (by omega) (by omega)
      rw [show 2 * (i / 2) + i % 2 = i by omega] at this; exact this
    have e1 : nI (pg_sm (pg_cf g H) i) + (a_runReg (nI i).toNatClampNeg <<< (((2 : Int32) * nI i) &&& 31)) = nI (pg_sm (pg_cf g H) (i + 1)) := by
      rw [nI_clamp (by omega), e0, qa_sr hl (by omega), ← pg_cfr (g := g) (H := H) (by omega)]
      rfl
    exact br_f (nI_ge (b := 6) (by omega) (by decide)) ⟨pk_in i 6 (by omega), nm_r e1 (nm_r (nI_1 i) h)⟩
theorem qx_ev82 (hw : pg_wf g) (P : qx_P g a_kindAt a_opA a_opW a_length) {post : Int32 → SX → Prop} (hc : ∀ p i, i < pg_L g p → pg_R (pg_K g (8 * p + i)) → (8 * p + i) ∈ H)
    (hp : ∀ PC RG ME LA VA SO, qx_R g (pg_L g) H PC RG ME LA VA SO → post (nI (pg_code g H)) ((nI (pg_n g)), f_addrs, f_bufferDepth, f_eventCount, f_logSize, f_orderSize, f_seqLen, f_searchMask, f_searchStarted, a_kindAt, a_opA, a_opW, a_length, a_events, a_pcOf, a_regs, a_cells, a_bufEvent, a_bufValue, a_bufSize, a_log, a_order, a_codes, a_codeCount, a_made, a_seq, a_picked, PC, RG, ME, LA, VA, SO)) :
    ∀ m n p pc PC RG ME LA VA SO, p + m = pg_n g → m < n → pg_lz g pc H → (∀ q, q < p → pc q = pg_L g q) → qx_R g pc H PC RG ME LA VA SO → wX_evaluate_82 post n (nI p) (nI (pg_n g)) f_addrs f_bufferDepth f_eventCount f_logSize f_orderSize f_seqLen f_searchMask f_searchStarted a_kindAt a_opA a_opW a_length a_events a_pcOf a_regs a_cells a_bufEvent a_bufValue a_bufSize a_log a_order a_codes a_codeCount a_made a_seq a_picked PC RG ME LA VA SO := by
  have h3 := hw.2.1
  intro m
  induction m with
  | zero =>
    intro n p pc PC RG ME LA VA SO hi hn Z hq R
    obtain ⟨n, rfl⟩ : ∃ k, n = k + 1 := ⟨n - 1, by omega⟩
    obtain rfl : p = pg_n g := by omega
    have epc : pc = pg_L g := by
      funext q
      by_cases c : q < pg_n g
      · exact hq q c
      · have h1 := Z.1 q
        have h2 := hw.2.2.2.2.2.2.1 q (by omega)
        omega
    rw [epc] at R
    exact br_t (nI_le (Nat.le_refl _) (by omega)) ⟨7, qx_ev111 hw R.2.1 (fun a ha => (R.2.2.1 a ha).1) (hp _ _ _ _ _ _ R) 6 7 0 (by omega) (by omega)⟩
  | succ m ih =>
    intro n p pc PC RG ME LA VA SO hi hn Z hq R
    obtain ⟨n, rfl⟩ : ∃ k, n = k + 1 := ⟨n - 1, by omega⟩
    have h5 := hw.2.2.2.2.2.1 p
    have nr : ∀ i, pc p ≤ i → i < pg_L g p → ¬ pg_R (pg_K g (8 * p + i)) := by
      intro i h1 h2 hr
      have := Z.2.1 _ (hc p i h2 hr)
      rw [show (8 * p + i) / 8 = p by omega] at this
      omega
    refine br_f (nI_ge (by omega) (by omega)) ⟨pk_in p 3 (by omega), ?_⟩
    rw [qa_ln P (by omega)]
    refine qx_adv hw P (by omega) h5 R nr (Nat.le_trans (Z.1 p) h5) (fun PC' RG' VA' R' => ?_)
    have hif : (if pc p < pg_L g p then pg_L g p else pc p) = pg_L g p := by
      have := Z.1 p
      split <;> omega
    rw [hif] at R'
    refine nm_r (nI_1 p) (ih n (p + 1) _ _ _ _ _ _ _ (by omega) (by omega) ⟨fun q => ?_, fun x hx => ?_, fun q i hi hr => ?_⟩ (fun q hq' => ?_) R')
    · by_cases c : q = p
      · subst c; rw [pg_stS]; exact Nat.le_refl _
      · rw [pg_stN c]; exact Z.1 q
    · have := Z.2.1 x hx
      by_cases c : x / 8 = p
      · rw [c, pg_stS]; rw [c] at this; have := Z.1 p; omega
      · rw [pg_stN c]; exact this
    · by_cases c : q = p
      · subst c; rw [pg_stS] at hi; exact hc q i hi hr
      · rw [pg_stN c] at hi; exact Z.2.2 q i hi hr
    · by_cases c : q = p
      · subst c; exact pg_stS _ _ _
      · rw [pg_stN c]; exact hq q (by omega)
theorem qx_ev8 (hw : pg_wf g) (P : qx_P g a_kindAt a_opA a_opW a_length) {post : Int32 → SX → Prop} (hcp : pg_cp g H) (hseq : qa_Ar H a_seq)
    (hp : ∀ PC RG ME LA VA SO, qx_R g (pg_L g) H PC RG ME LA VA SO → post (nI (pg_code g H)) ((nI (pg_n g)), f_addrs, f_bufferDepth, f_eventCount, f_logSize, f_orderSize, (nI H.length), f_searchMask, f_searchStarted, a_kindAt, a_opA, a_opW, a_length, a_events, a_pcOf, a_regs, a_cells, a_bufEvent, a_bufValue, a_bufSize, a_log, a_order, a_codes, a_codeCount, a_made, a_seq, a_picked, PC, RG, ME, LA, VA, SO)) :
    ∀ m n k dm pc PC RG ME LA VA SO, k + m = H.length → m < n → qa_mk dm (qa_sf H k) → pg_lz g pc (qa_sf H k) → qx_R g pc (qa_sf H k) PC RG ME LA VA SO → wX_evaluate_8 post n dm (nI k) (nI (pg_n g)) f_addrs f_bufferDepth f_eventCount f_logSize f_orderSize (nI H.length) f_searchMask f_searchStarted a_kindAt a_opA a_opW a_length a_events a_pcOf a_regs a_cells a_bufEvent a_bufValue a_bufSize a_log a_order a_codes a_codeCount a_made a_seq a_picked PC RG ME LA VA SO := by
  have h3 := hw.2.1
  have h6 := hw.2.2.2.2.2.2.2.2.2
  have hl : H.length ≤ 6 := by rw [hcp.2]; exact h6
  intro m
  induction m with
  | zero =>
    intro n k dm pc PC RG ME LA VA SO hi hn hd Z R
    obtain ⟨n, rfl⟩ : ∃ k, n = k + 1 := ⟨n - 1, by omega⟩
    obtain rfl : k = H.length := by omega
    rw [qa_sfL] at Z R
    refine br_t (nI_le (Nat.le_refl _) (by omega)) ⟨pg_n g + 1, ?_⟩
    refine qx_ev82 hw P (fun p i hi hr => ?_) hp (pg_n g) (pg_n g + 1) 0 pc _ _ _ _ _ _ (by omega) (by omega) Z (fun q hq => absurd hq (by omega)) R
    exact pg_cpa hw hcp (pg_evp hw hi (pg_RM hr))
  | succ m ih =>
    intro n k dm pc PC RG ME LA VA SO hi hn hd Z R
    obtain ⟨n, rfl⟩ : ∃ k, n = k + 1 := ⟨n - 1, by omega⟩
    have hok := qa_sfo hcp.1 (k := k) (by omega)
    have hv := qa_sfv hcp.1 k
    have hev := hok.1
    have h24 := pg_ev24 hw hev
    have hS := qa_sfS (H := H) (k := k) (by omega)
    have hrk : a_seq (nI k).toNatClampNeg = nI (qa_rg H k) := by rw [nI_clamp (by omega)]; exact qa_Arg hseq (by omega)
    obtain ⟨p, i, hi8, hpe⟩ : ∃ p i, i < 8 ∧ qa_rg H k = 8 * p + i := ⟨qa_rg H k / 8, qa_rg H k % 8, by omega, by omega⟩
    rw [hpe] at hrk hok hS h24 hev
    have hiL : i < pg_L g p := by
      have := hev.2.1
      rw [show (8 * p + i) / 8 = p by omega, show (8 * p + i) % 8 = i by omega] at this
      exact this
    have kl := (qa_kl hw (8 * p + i)).1
    have hk : ∀ pc' PC RG ME LA VA SO, pg_lz g pc' ((8 * p + i) :: qa_sf H k) → qx_R g pc' ((8 * p + i) :: qa_sf H k) PC RG ME LA VA SO → wX_evaluate_68 post (wX_evaluate_8 post n) dm (nI k) (nI (8 * p + i)) (nI (pg_n g)) f_addrs f_bufferDepth f_eventCount f_logSize f_orderSize (nI H.length) f_searchMask f_searchStarted a_kindAt a_opA a_opW a_length a_events a_pcOf a_regs a_cells a_bufEvent a_bufValue a_bufSize a_log a_order a_codes a_codeCount a_made a_seq a_picked PC RG ME LA VA SO := by
      intro pc' PC RG ME LA VA SO Z' R'
      rw [← hS] at Z' R'
      exact nm_e (nm_r (nI_1 k) (ih n (k + 1) _ pc' _ _ _ _ _ _ (by omega) (by omega) (hS ▸ qa_mks hd (by omega)) Z' R'))
    refine br_f (nI_ge (by omega) (by omega)) ⟨pk_in k 6 (by omega), nm_r hrk ⟨pk_in (8 * p + i) 24 (by omega), nm_r (qa_kd P (by omega)) ?_⟩⟩
    by_cases s : pg_S (pg_K g (8 * p + i))
    · exact qx_S1 rfl s (br_f qa_10 (qx_runS hw P hv hok hiL s Z R hk))
    · refine qx_S0 rfl kl s (br_t rfl (pk_eq (pg_K g (8 * p + i)) 1 (fun c => ?_) (fun c => ?_)))
      · exact qx_runL hw P hd hv hok hiL c Z R hk
      · have c5 : pg_K g (8 * p + i) = 5 := by
          rcases pg_MnS hev.2.2 s with z | z
          · exact absurd z c
          · exact z
        exact qx_runC hw P hv hok hiL c5 Z R hk
theorem qx_eval (hw : pg_wf g) (P : qx_P g a_kindAt a_opA a_opW a_length) {post : Int32 → SX → Prop} (hcp : pg_cp g H) (hseq : qa_Ar H a_seq)
    (hp : ∀ PC RG ME LA VA SO, qx_R g (pg_L g) H PC RG ME LA VA SO → post (nI (pg_code g H)) ((nI (pg_n g)), f_addrs, f_bufferDepth, f_eventCount, f_logSize, f_orderSize, (nI H.length), f_searchMask, f_searchStarted, a_kindAt, a_opA, a_opW, a_length, a_events, a_pcOf, a_regs, a_cells, a_bufEvent, a_bufValue, a_bufSize, a_log, a_order, a_codes, a_codeCount, a_made, a_seq, a_picked, PC, RG, ME, LA, VA, SO)) :
    wpX_evaluate post ((nI (pg_n g)), f_addrs, f_bufferDepth, f_eventCount, f_logSize, f_orderSize, (nI H.length), f_searchMask, f_searchStarted, a_kindAt, a_opA, a_opW, a_length, a_events, a_pcOf, a_regs, a_cells, a_bufEvent, a_bufValue, a_bufSize, a_log, a_order, a_codes, a_codeCount, a_made, a_seq, a_picked, a_runPc, a_runReg, a_runMem, a_runLast, a_runValue, a_runSource) := by
  unfold wpX_evaluate
  refine qx_rrun (fun PC RG ME LA h1 h2 => ?_)
  refine ⟨H.length + 1, qx_ev8 hw P hcp hseq hp H.length (H.length + 1) 0 0 (fun _ => 0) _ _ _ _ _ _ (by omega) (by omega) ?_ ?_ ?_⟩
  · rw [qa_sf0]; exact qa_mk0
  · rw [qa_sf0]; exact ⟨fun _ => Nat.zero_le _, fun e he => absurd he (by simp), fun p i hi => absurd hi (Nat.not_lt_zero _)⟩
  · rw [qa_sf0]; exact qx_R0 h1 h2
end
end
section
/-! the search tree, pure: what a cursor has behind it; counts -/
theorem pg_esa {g : pg_T} : ∀ {n i j : Nat}, i < j → j < (pg_es g n).length → qa_rg (pg_es g n) i < qa_rg (pg_es g n) j
  | 0, i, j, _, h => absurd h (by simp [pg_es])
  | n + 1, i, j, hij, h => by
    by_cases c : pg_ev g n
    · rw [pg_esT c] at h ⊢
      simp only [List.length_cons] at h
      have hi : i < (pg_es g n).length := by omega
      rw [qa_rgT hi]
      by_cases e : j = (pg_es g n).length
      · rw [e, qa_rgS]
        exact (pg_esm.mp (qa_rgm hi)).1
      · have hj : j < (pg_es g n).length := by omega
        rw [qa_rgT hj]
        exact pg_esa hij hj
    · rw [pg_esF c] at h ⊢
      exact pg_esa hij h
def pg_ei (g : pg_T) (c : Nat) : Nat := qa_rg (pg_es g 24) c
theorem pg_eiv {g : pg_T} {c : Nat} (h : c < pg_N g) : pg_ev g (pg_ei g c) := (pg_esm.mp (qa_rgm h)).2
theorem pg_ei24 {g : pg_T} {c : Nat} (h : c < pg_N g) : pg_ei g c < 24 := (pg_esm.mp (qa_rgm h)).1
theorem pg_eis {g : pg_T} (hw : pg_wf g) {e : Nat} (h : pg_ev g e) : ∃ c, c < pg_N g ∧ pg_ei g c = e := qa_mem (pg_esm.mpr ⟨pg_ev24 hw h, h⟩)
theorem pg_eim {g : pg_T} {c c' : Nat} (hc : c < pg_N g) (hc' : c' < pg_N g) : pg_ei g c < pg_ei g c' ↔ c < c' := by
  constructor
  · intro h
    rcases Nat.lt_trichotomy c c' with z | z | z
    · exact z
    · subst z; omega
    · have := pg_esa (g := g) (n := 24) z hc
      unfold pg_ei at h
      omega
  · intro h; exact pg_esa h hc'
def pg_hd (g : pg_T) (T : List Nat) (x : Nat) (O : List Nat) : Prop :=
  (∃ i, i < T.length ∧ (∀ j, j < i → qa_rg O j = qa_rg T j) ∧ qa_rg O i < qa_rg T i) ∨ (T.length < pg_N g ∧ (∀ j, j < T.length → qa_rg O j = qa_rg T j) ∧ qa_rg O T.length < x)
def pg_lx (O T : List Nat) : Prop := ∃ i, i < T.length ∧ (∀ j, j < i → qa_rg O j = qa_rg T j) ∧ qa_rg O i < qa_rg T i
theorem pg_hd0 {g : pg_T} {O : List Nat} : ¬ pg_hd g [] 0 O := by
  rintro (⟨i, h, _⟩ | ⟨_, _, h⟩)
  · simp at h
  · omega
theorem pg_hdok {g : pg_T} {T O : List Nat} (ho : pg_cp g O) (hl : T.length < pg_N g) (h : ∀ j, j < T.length → qa_rg O j = qa_rg T j) : pg_ok g T (qa_rg O T.length) := by
  have e := qa_sfe (T := T) (O := O) (by rw [ho.2]; omega) h
  have := qa_sfo ho.1 (k := T.length) (by rw [ho.2]; omega)
  rw [e] at this
  exact this
theorem pg_hdp {g : pg_T} {T O : List Nat} {y : Nat} (hl : T.length < pg_N g) (h : pg_hd g (y :: T) 0 O) : pg_hd g T y O := by
  rcases h with ⟨i, h1, h2, h3⟩ | ⟨_, _, h⟩
  · simp only [List.length_cons] at h1
    by_cases c : i = T.length
    · subst c
      rw [qa_rgS] at h3
      exact Or.inr ⟨hl, fun j hj => by rw [h2 j hj, qa_rgT hj], h3⟩
    · have hi : i < T.length := by omega
      rw [qa_rgT hi] at h3
      exact Or.inl ⟨i, hi, fun j hj => by rw [h2 j hj, qa_rgT (by omega)], h3⟩
  · omega
theorem pg_hds {g : pg_T} {T O : List Nat} {x y : Nat} (ho : pg_cp g O) (hn : ∀ z, x ≤ z → z < y → ¬ pg_ok g T z) (h : pg_hd g T y O) : pg_hd g T x O := by
  rcases h with h | ⟨h1, h2, h3⟩
  · exact Or.inl h
  · refine Or.inr ⟨h1, h2, ?_⟩
    by_cases c : qa_rg O T.length < x
    · exact c
    · exact absurd (pg_hdok ho h1 h2) (hn _ (by omega) h3)
theorem pg_hdu {g : pg_T} {T O : List Nat} {e x : Nat} (ho : pg_cp g O) (hl : (e :: T).length ≤ pg_N g) (hn : (e :: T).length < pg_N g → ∀ z, x ≤ z → ¬ pg_ok g (e :: T) z) (h : pg_hd g T (e + 1) O) : pg_hd g (e :: T) x O ∨ ((e :: T).length = pg_N g ∧ O = e :: T) := by
  simp only [List.length_cons] at hl hn
  rcases h with ⟨i, h1, h2, h3⟩ | ⟨h1, h2, h3⟩
  · exact Or.inl (Or.inl ⟨i, by simp only [List.length_cons]; omega, fun j hj => by rw [h2 j hj, qa_rgT (by omega)], by rw [qa_rgT h1]; exact h3⟩)
  · by_cases c : qa_rg O T.length = e
    · have ag : ∀ j, j < (e :: T).length → qa_rg O j = qa_rg (e :: T) j := by
        intro j hj
        simp only [List.length_cons] at hj
        by_cases z : j = T.length
        · subst z; rw [qa_rgS]; exact c
        · rw [qa_rgT (by omega)]; exact h2 j (by omega)
      by_cases z : T.length + 1 = pg_N g
      · exact Or.inr ⟨z, qa_eq (by rw [ho.2]; exact z) ag⟩
      · have hok := pg_hdok ho (T := e :: T) (by simp only [List.length_cons]; omega) ag
        refine Or.inl (Or.inr ⟨by simp only [List.length_cons]; omega, ag, ?_⟩)
        by_cases w : qa_rg O (e :: T).length < x
        · exact w
        · exact absurd hok (hn (by omega) _ (by omega))
    · exact Or.inl (Or.inl ⟨T.length, by simp, fun j hj => by rw [h2 j hj, qa_rgT hj], by rw [qa_rgS]; omega⟩)
theorem pg_hdz {g : pg_T} {O : List Nat} {x : Nat} (ho : pg_cp g O) (hN : 0 < pg_N g) (hn : ∀ z, x ≤ z → ¬ pg_ok g [] z) : pg_hd g [] x O := by
  have hok := pg_hdok ho (T := []) hN (fun j hj => absurd hj (by simp))
  refine Or.inr ⟨hN, fun j hj => absurd hj (by simp), ?_⟩
  by_cases w : qa_rg O ([] : List Nat).length < x
  · exact w
  · exact absurd hok (hn _ (by omega))
def pg_ct (g : pg_T) (T : List Nat) (x : Nat) : Nat := ((pg_es g 24).filter (fun y => decide (x ≤ y ∧ ¬ y ∈ T))).length
theorem pg_ctp {g : pg_T} {T : List Nat} {x y : Nat} (hy : y ∈ pg_es g 24) (hx : x ≤ y) (ht : ¬ y ∈ T) : pg_ct g T (y + 1) + 1 ≤ pg_ct g T x := by
  have h : (y :: (pg_es g 24).filter (fun z => decide (y + 1 ≤ z ∧ ¬ z ∈ T))).Nodup := by
    refine List.nodup_cons.mpr ⟨fun z => ?_, (pg_esd 24).filter _⟩
    have := of_decide_eq_true (List.mem_filter.mp z).2
    omega
  have := h.length_le_of_subset (l₂ := (pg_es g 24).filter (fun z => decide (x ≤ z ∧ ¬ z ∈ T))) (fun z hz => by
    rcases List.mem_cons.mp hz with hz | hz
    · subst hz; exact List.mem_filter.mpr ⟨hy, by simp [hx, ht]⟩
    · obtain ⟨a, b⟩ := List.mem_filter.mp hz
      have b' := of_decide_eq_true b
      exact List.mem_filter.mpr ⟨a, decide_eq_true ⟨by omega, b'.2⟩⟩)
  simp only [List.length_cons] at this
  exact this
theorem pg_ctl {g : pg_T} (hw : pg_wf g) {T : List Nat} {x : Nat} (hn : T.Nodup) (he : ∀ z, z ∈ T → pg_ev g z) : pg_ct g T x + T.length ≤ pg_N g := by
  have h : ((pg_es g 24).filter (fun z => decide (x ≤ z ∧ ¬ z ∈ T)) ++ T).Nodup := by
    refine List.nodup_append.mpr ⟨(pg_esd 24).filter _, hn, fun a ha b hb => ?_⟩
    have := of_decide_eq_true (List.mem_filter.mp ha).2
    intro e
    exact this.2 (e ▸ hb)
  have := h.length_le_of_subset (l₂ := pg_es g 24) (fun z hz => by
    rcases List.mem_append.mp hz with hz | hz
    · exact (List.mem_filter.mp hz).1
    · exact pg_esm.mpr ⟨pg_ev24 hw (he z hz), he z hz⟩)
  rw [List.length_append] at this
  exact this
def qs_T : Nat → Nat
  | 0 => 1
  | m + 1 => (m + 1) * (1 + qs_T m) + 1
def qs_F : Nat → Nat
  | 0 => 1
  | m + 1 => (m + 1) * qs_F m
def qs_M (g : pg_T) (w : Nat → Nat) (k : Nat) : List Nat → Nat → Nat
  | [], x => pg_ct g [] x * w (pg_N g - 1) + k
  | e :: T, x => pg_ct g (e :: T) x * w (pg_N g - (T.length + 1) - 1) + k + qs_M g w k T (e + 1)
theorem qs_A {g : pg_T} {w : Nat → Nat} {k : Nat} {T : List Nat} {x y : Nat} (hy : y ∈ pg_es g 24) (hx : x ≤ y) (ht : ¬ y ∈ T) : qs_M g w k T (y + 1) + w (pg_N g - T.length - 1) ≤ qs_M g w k T x := by
  have h := Nat.mul_le_mul_right (w (pg_N g - T.length - 1)) (pg_ctp hy hx ht)
  rw [Nat.add_mul, Nat.one_mul] at h
  cases T with
  | nil => simp only [qs_M, List.length_nil, Nat.sub_zero] at h ⊢; omega
  | cons e T => simp only [qs_M, List.length_cons] at h ⊢; omega
theorem qs_U {g : pg_T} {w : Nat → Nat} {k : Nat} {T : List Nat} {e x : Nat} : k + qs_M g w k T (e + 1) ≤ qs_M g w k (e :: T) x := by
  simp only [qs_M]; omega
theorem qs_B {g : pg_T} (hw : pg_wf g) {w : Nat → Nat} {k : Nat} {T : List Nat} {y : Nat} (hv : pg_vo g (y :: T)) : qs_M g w k (y :: T) 0 ≤ (pg_N g - (T.length + 1)) * w (pg_N g - (T.length + 1) - 1) + k + qs_M g w k T (y + 1) := by
  have h := pg_ctl hw (x := 0) (pg_vod hv).1 (pg_vod hv).2
  simp only [List.length_cons] at h
  have := Nat.mul_le_mul_right (w (pg_N g - (T.length + 1) - 1)) (show pg_ct g (y :: T) 0 ≤ pg_N g - (T.length + 1) by omega)
  simp only [qs_M]
  omega
/-- a pick lowers the count of steps -/
theorem qs_pT {g : pg_T} (hw : pg_wf g) {T : List Nat} {x y : Nat} (hv : pg_vo g (y :: T)) (hx : x ≤ y) : qs_M g (fun m => 1 + qs_T m) 1 (y :: T) 0 + 1 ≤ qs_M g (fun m => 1 + qs_T m) 1 T x := by
  have hy : y ∈ pg_es g 24 := pg_esm.mpr ⟨pg_ev24 hw hv.2.1, hv.2.1⟩
  have a := qs_A (w := fun m => 1 + qs_T m) (k := 1) hy hx hv.2.2.1
  have b := qs_B hw (w := fun m => 1 + qs_T m) (k := 1) hv
  have hl := pg_len hw (pg_vod hv).1 (pg_vod hv).2
  simp only [List.length_cons] at hl
  have e1 : pg_N g - T.length - 1 = pg_N g - (T.length + 1) := by omega
  rw [e1] at a
  cases hm : pg_N g - (T.length + 1) with
  | zero =>
    rw [hm] at a b
    simp only [qs_T, Nat.zero_mul] at a b
    omega
  | succ m =>
    rw [hm] at a b
    simp only [qs_T, Nat.add_sub_cancel] at a b
    omega
theorem qs_pF {g : pg_T} (hw : pg_wf g) {T : List Nat} {x y : Nat} (hv : pg_vo g (y :: T)) (hx : x ≤ y) : qs_M g qs_F 0 (y :: T) 0 + (if T.length + 1 = pg_N g then 1 else 0) ≤ qs_M g qs_F 0 T x := by
  have hy : y ∈ pg_es g 24 := pg_esm.mpr ⟨pg_ev24 hw hv.2.1, hv.2.1⟩
  have a := qs_A (w := qs_F) (k := 0) hy hx hv.2.2.1
  have b := qs_B hw (w := qs_F) (k := 0) hv
  have hl := pg_len hw (pg_vod hv).1 (pg_vod hv).2
  simp only [List.length_cons] at hl
  have e1 : pg_N g - T.length - 1 = pg_N g - (T.length + 1) := by omega
  rw [e1] at a
  cases hm : pg_N g - (T.length + 1) with
  | zero =>
    rw [hm] at a b
    simp only [qs_F, Nat.zero_mul] at a b
    split <;> omega
  | succ m =>
    rw [hm] at a b
    simp only [qs_F, Nat.add_sub_cancel] at a b
    rw [if_neg (by omega)]
    omega
theorem qs_T6 : ∀ n, n ≤ 6 → n * (1 + qs_T (n - 1)) + 1 ≤ 3913 := by decide +kernel
theorem qs_F6 : ∀ n, n ≤ 6 → n * qs_F (n - 1) ≤ 720 := by decide +kernel
theorem qs_0T {g : pg_T} (hw : pg_wf g) : qs_M g (fun m => 1 + qs_T m) 1 [] 0 ≤ 3913 := by
  have h := pg_ctl hw (T := []) (x := 0) List.nodup_nil (fun z hz => absurd hz (by simp))
  simp only [List.length_nil, Nat.add_zero] at h
  have h2 := Nat.mul_le_mul_right (1 + qs_T (pg_N g - 1)) h
  have h3 := qs_T6 (pg_N g) hw.2.2.2.2.2.2.2.2.2
  simp only [qs_M]
  omega
theorem qs_0F {g : pg_T} (hw : pg_wf g) : qs_M g qs_F 0 [] 0 ≤ 720 := by
  have h := pg_ctl hw (T := []) (x := 0) List.nodup_nil (fun z hz => absurd hz (by simp))
  simp only [List.length_nil, Nat.add_zero] at h
  have h2 := Nat.mul_le_mul_right (qs_F (pg_N g - 1)) h
  have h3 := qs_F6 (pg_N g) hw.2.2.2.2.2.2.2.2.2
  simp only [qs_M]
  omega
end
section
/-! X: candidate, pick, unpick, nextOrder -/
def qx_SS (g : pg_T) (T : List Nat) (MS : Int32) (SQ PK : Nat → Int32) : Prop :=
  pg_vo g T ∧ qa_Ar T SQ ∧ qa_mk MS T ∧ (∀ i, i < T.length → ∃ c, c < pg_N g ∧ PK i = nI c ∧ qa_rg T i = pg_ei g c)
section
variable {f_procs f_addrs f_bufferDepth f_eventCount f_logSize f_orderSize f_seqLen f_searchMask f_searchStarted : Int32} {a_kindAt a_opA a_opW a_length a_events a_pcOf a_regs a_cells a_bufEvent a_bufValue a_bufSize a_log a_order a_codes a_codeCount a_made a_seq a_picked a_runPc a_runReg a_runMem a_runLast a_runValue a_runSource : Nat → Int32}
variable {g : pg_T} {T : List Nat}
theorem qx_cand (hw : pg_wf g) (P : qx_P g a_kindAt a_opA a_opW a_length) (hE : qa_Ar (pg_es g 24) a_events) {post : Int32 → Prop} (hm : qa_mk f_searchMask T) {c0 : Nat}
    (hf : ∀ c, c0 ≤ c → c < pg_N g → pg_ok g T (pg_ei g c) → (∀ c', c0 ≤ c' → c' < c → ¬ pg_ok g T (pg_ei g c')) → post (nI c))
    (hn : (∀ c', c0 ≤ c' → c' < pg_N g → ¬ pg_ok g T (pg_ei g c')) → post (-1)) :
    ∀ m n c, c + m = pg_N g → m < n → c0 ≤ c → (∀ c', c0 ≤ c' → c' < c → ¬ pg_ok g T (pg_ei g c')) → wX_candidate_2 post f_procs f_addrs (nI (pg_d g)) (nI (pg_N g)) f_logSize f_orderSize f_seqLen f_searchMask f_searchStarted a_kindAt a_opA a_opW a_length a_events a_pcOf a_regs a_cells a_bufEvent a_bufValue a_bufSize a_log a_order a_codes a_codeCount a_made a_seq a_picked a_runPc a_runReg a_runMem a_runLast a_runValue a_runSource n (nI c) := by
  have h6 := hw.2.2.2.2.2.2.2.2.2
  have hN : pg_N g ≤ 6 := h6
  have hd := hw.2.2.2.2.1
  intro m
  induction m with
  | zero =>
    intro n c hc hn' h0 hb
    obtain ⟨n, rfl⟩ : ∃ k, n = k + 1 := ⟨n - 1, by omega⟩
    obtain rfl : c = pg_N g := by omega
    exact br_t (nI_le (Nat.le_refl _) (by omega)) (hn hb)
  | succ m ih =>
    intro n c hc hn' h0 hb
    obtain ⟨n, rfl⟩ : ∃ k, n = k + 1 := ⟨n - 1, by omega⟩
    have hcN : c < pg_N g := by omega
    have hev := pg_eiv hcN
    have h24 := pg_ei24 hcN
    have he : a_events (nI c).toNatClampNeg = nI (pg_ei g c) := by rw [nI_clamp (by omega)]; exact qa_Arg hE hcN
    have nx : ¬ pg_ok g T (pg_ei g c) → wX_candidate_2 post f_procs f_addrs (nI (pg_d g)) (nI (pg_N g)) f_logSize f_orderSize f_seqLen f_searchMask f_searchStarted a_kindAt a_opA a_opW a_length a_events a_pcOf a_regs a_cells a_bufEvent a_bufValue a_bufSize a_log a_order a_codes a_codeCount a_made a_seq a_picked a_runPc a_runReg a_runMem a_runLast a_runValue a_runSource n (nI (c + 1)) := by
      intro no
      refine ih n (c + 1) (by omega) (by omega) (by omega) (fun c' h1 h2 => ?_)
      by_cases z : c' = c
      · subst z; exact no
      · exact hb c' h1 (by omega)
    refine br_f (nI_ge (by omega) (by omega)) ⟨pk_in c 6 (by omega), nm_r he ?_⟩
    by_cases t : pg_ei g c ∈ T
    · exact br_f (fun z => (qa_mkt hm (by omega)).mp z t) (nm_r (nI_1 c) (nx (fun z => z.2.1 t)))
    · refine br_t ((qa_mkt hm (by omega)).mpr t) (qx_brk hw P h24 hm (fun b => br_f qa_10 (nm_r (nI_1 c) (nx (fun z => z.2.2.1 b)))) (fun b => br_t rfl ?_))
      have hl : pg_ov g T (8 * (pg_ei g c / 8)) (pg_ei g c % 8) < 2 ^ 31 := by
        rw [← pg_pdl]
        refine Nat.lt_of_le_of_lt (?_ : _ ≤ 24) (by omega)
        have hp : (pg_pd g T (8 * (pg_ei g c / 8)) (pg_ei g c % 8)).Nodup := (pg_pds (g := g) (H := T) (b := 8 * (pg_ei g c / 8)) (i := pg_ei g c % 8)).imp (fun h => by omega)
        have := hp.length_le_of_subset (l₂ := List.range 24) (fun z hz => List.mem_range.mpr (by have := pg_pdm.mp hz; omega))
        rw [List.length_range] at this
        exact this
      refine qx_ovt hw P h24 hm (fun k1 => ?_) (fun k1 => ?_)
      · refine pk_lt (pg_d g) (pg_ov g T (8 * (pg_ei g c / 8)) (pg_ei g c % 8)) (fun z => nm_r (nI_1 c) (nx (fun y => ?_))) (fun z => hf c h0 hcN ⟨hev, t, b, fun _ => z⟩ hb) rfl rfl (by omega) hl
        have := y.2.2.2 k1
        omega
      · exact br_f (nI_nlt (b := 0) (by omega) (by omega)) (hf c h0 hcN ⟨hev, t, b, fun z => absurd z k1⟩ hb)
theorem qx_pick (hE : qa_Ar (pg_es g 24) a_events) {post : SX → Prop} {c : Nat} (hw : pg_wf g) (hc : c < pg_N g) (hT : T.length < 6) (hp : post (f_procs, f_addrs, f_bufferDepth, f_eventCount, f_logSize, f_orderSize, (nI (T.length + 1)), (f_searchMask ||| ((1 : Int32) <<< (nI (pg_ei g c) &&& 31))), f_searchStarted, a_kindAt, a_opA, a_opW, a_length, a_events, a_pcOf, a_regs, a_cells, a_bufEvent, a_bufValue, a_bufSize, a_log, a_order, a_codes, a_codeCount, a_made, (upd a_seq T.length (nI (pg_ei g c))), (upd a_picked T.length (nI c)), a_runPc, a_runReg, a_runMem, a_runLast, a_runValue, a_runSource)) : wpX_pick post (f_procs, f_addrs, f_bufferDepth, f_eventCount, f_logSize, f_orderSize, (nI T.length), f_searchMask, f_searchStarted, a_kindAt, a_opA, a_opW, a_length, a_events, a_pcOf, a_regs, a_cells, a_bufEvent, a_bufValue, a_bufSize, a_log, a_order, a_codes, a_codeCount, a_made, a_seq, a_picked, a_runPc, a_runReg, a_runMem, a_runLast, a_runValue, a_runSource) (nI c) := by
  have hN : pg_N g ≤ 6 := hw.2.2.2.2.2.2.2.2.2
  have he : a_events (nI c).toNatClampNeg = nI (pg_ei g c) := by rw [nI_clamp (by omega)]; exact qa_Arg hE hc
  have e1 : upd a_seq (nI T.length).toNatClampNeg (a_events (nI c).toNatClampNeg) = upd a_seq T.length (nI (pg_ei g c)) := by rw [he, qa_u (by omega)]
  have e2 : f_searchMask ||| ((1 : Int32) <<< ((a_events (nI c).toNatClampNeg) &&& 31)) = f_searchMask ||| ((1 : Int32) <<< (nI (pg_ei g c) &&& 31)) := by rw [he]
  exact ⟨pk_in _ 6 hT, nm_r (qa_u (by omega)) ⟨pk_in c 6 (by omega), pk_in _ 6 hT, nm_r e1 ⟨pk_in c 6 (by omega), nm_r e2 (nm_r (nI_1 _) hp)⟩⟩⟩
theorem qx_unp0 {post : Int32 → SX → Prop} (hp : post (-1) (f_procs, f_addrs, f_bufferDepth, f_eventCount, f_logSize, f_orderSize, (nI 0), f_searchMask, f_searchStarted, a_kindAt, a_opA, a_opW, a_length, a_events, a_pcOf, a_regs, a_cells, a_bufEvent, a_bufValue, a_bufSize, a_log, a_order, a_codes, a_codeCount, a_made, a_seq, a_picked, a_runPc, a_runReg, a_runMem, a_runLast, a_runValue, a_runSource)) : wpX_unpick post (f_procs, f_addrs, f_bufferDepth, f_eventCount, f_logSize, f_orderSize, (nI 0), f_searchMask, f_searchStarted, a_kindAt, a_opA, a_opW, a_length, a_events, a_pcOf, a_regs, a_cells, a_bufEvent, a_bufValue, a_bufSize, a_log, a_order, a_codes, a_codeCount, a_made, a_seq, a_picked, a_runPc, a_runReg, a_runMem, a_runLast, a_runValue, a_runSource) := br_t rfl hp
theorem qx_unp {post : Int32 → SX → Prop} {e c : Nat} (hT : T.length < 6) (hs : a_seq T.length = nI e) (hk : a_picked T.length = nI c) (hp : post (nI (c + 1)) (f_procs, f_addrs, f_bufferDepth, f_eventCount, f_logSize, f_orderSize, (nI T.length), (f_searchMask &&& (((1 : Int32) <<< (nI e &&& 31)) ^^^ (-1))), f_searchStarted, a_kindAt, a_opA, a_opW, a_length, a_events, a_pcOf, a_regs, a_cells, a_bufEvent, a_bufValue, a_bufSize, a_log, a_order, a_codes, a_codeCount, a_made, a_seq, a_picked, a_runPc, a_runReg, a_runMem, a_runLast, a_runValue, a_runSource)) : wpX_unpick post (f_procs, f_addrs, f_bufferDepth, f_eventCount, f_logSize, f_orderSize, (nI (e :: T).length), f_searchMask, f_searchStarted, a_kindAt, a_opA, a_opW, a_length, a_events, a_pcOf, a_regs, a_cells, a_bufEvent, a_bufValue, a_bufSize, a_log, a_order, a_codes, a_codeCount, a_made, a_seq, a_picked, a_runPc, a_runReg, a_runMem, a_runLast, a_runValue, a_runSource) := by
  have e1 : f_searchMask &&& (((1 : Int32) <<< ((a_seq (nI T.length).toNatClampNeg) &&& 31)) ^^^ (-1)) = f_searchMask &&& (((1 : Int32) <<< (nI e &&& 31)) ^^^ (-1)) := by rw [nI_clamp (by omega), hs]
  have e2 : a_picked (nI T.length).toNatClampNeg + 1 = nI (c + 1) := by rw [nI_clamp (by omega), hk, nI_1]
  refine br_f (nI_ne0 (by simp) (by simp only [List.length_cons]; omega)) (nm_r (nI_pred T.length) ⟨pk_in _ 6 hT, nm_r e1 ⟨pk_in _ 6 hT, ?_⟩⟩)
  rw [e2]
  exact hp
end
end
section
/-! X: nextOrder -/
theorem qx_SSp {g : pg_T} {T : List Nat} {MS : Int32} {SQ PK : Nat → Int32} {c : Nat} (h : qx_SS g T MS SQ PK) (hc : c < pg_N g) (hok : pg_ok g T (pg_ei g c)) : qx_SS g (pg_ei g c :: T) (MS ||| ((1 : Int32) <<< (nI (pg_ei g c) &&& 31))) (upd SQ T.length (nI (pg_ei g c))) (upd PK T.length (nI c)) := by
  obtain ⟨h1, h2, h3, h4⟩ := h
  refine ⟨⟨h1, hok⟩, qa_Arc h2, qa_mks h3 (by have := pg_ei24 hc; omega), fun i hi => ?_⟩
  simp only [List.length_cons] at hi
  by_cases z : i = T.length
  · subst z; exact ⟨c, hc, pk_us, qa_rgS⟩
  · obtain ⟨c', a, b, d⟩ := h4 i (by omega)
    exact ⟨c', a, by rw [pk_un z]; exact b, by rw [qa_rgT (by omega)]; exact d⟩
theorem qx_SSu {g : pg_T} (hw : pg_wf g) {T : List Nat} {MS : Int32} {SQ PK : Nat → Int32} {e : Nat} (h : qx_SS g (e :: T) MS SQ PK) : qx_SS g T (MS &&& (((1 : Int32) <<< (nI e &&& 31)) ^^^ (-1))) SQ PK ∧ SQ T.length = nI e ∧ ∃ c, c < pg_N g ∧ PK T.length = nI c ∧ e = pg_ei g c := by
  obtain ⟨h1, h2, h3, h4⟩ := h
  have h24 := pg_ev24 hw h1.2.1
  obtain ⟨c, a, b, d⟩ := h4 T.length (by simp)
  rw [qa_rgS] at d
  refine ⟨⟨h1.1, h2.2, qa_mkd h3 (by omega) h1.2.2.1, fun i hi => ?_⟩, h2.1, c, a, b, d⟩
  obtain ⟨c', a, b, d⟩ := h4 i (by simp only [List.length_cons]; omega)
  exact ⟨c', a, b, by rw [qa_rgT hi] at d; exact d⟩
def qx_cur (g : pg_T) (c x : Nat) : Prop := ∀ c', c' < pg_N g → (c ≤ c' ↔ x ≤ pg_ei g c')
theorem qx_cur0 {g : pg_T} : qx_cur g 0 0 := fun c' _ => ⟨fun _ => Nat.zero_le _, fun _ => Nat.zero_le _⟩
theorem qx_curS {g : pg_T} {c : Nat} (hc : c < pg_N g) : qx_cur g (c + 1) (pg_ei g c + 1) := fun c' h => (pg_eim hc h).symm
section
variable {f_procs f_addrs f_bufferDepth f_eventCount f_logSize f_orderSize f_seqLen f_searchMask f_searchStarted : Int32} {a_kindAt a_opA a_opW a_length a_events a_pcOf a_regs a_cells a_bufEvent a_bufValue a_bufSize a_log a_order a_codes a_codeCount a_made a_seq a_picked a_runPc a_runReg a_runMem a_runLast a_runValue a_runSource : Nat → Int32}
variable {g : pg_T}
theorem qx_no21 (hw : pg_wf g) (P : qx_P g a_kindAt a_opA a_opW a_length) (hE : qa_Ar (pg_es g 24) a_events) {post : Int32 → SX → Prop} {Good : List Nat → Prop} {lf : Nat}
    (h1 : ∀ T MS SQ PK, pg_cp g T → qx_SS g T MS SQ PK → (∀ O, pg_cp g O → pg_lx O T → Good O) → qs_M g qs_F 0 T 0 + (if pg_N g = 0 then 0 else 1) ≤ lf → qs_M g (fun m => 1 + qs_T m) 1 T 0 ≤ 3913 → post 1 (f_procs, f_addrs, (nI (pg_d g)), (nI (pg_N g)), f_logSize, f_orderSize, (nI T.length), MS, f_searchStarted, a_kindAt, a_opA, a_opW, a_length, a_events, a_pcOf, a_regs, a_cells, a_bufEvent, a_bufValue, a_bufSize, a_log, a_order, a_codes, a_codeCount, a_made, SQ, PK, a_runPc, a_runReg, a_runMem, a_runLast, a_runValue, a_runSource))
    (h0 : (∀ O, pg_cp g O → Good O) → ∀ sl MS SQ PK, post 0 (f_procs, f_addrs, (nI (pg_d g)), (nI (pg_N g)), f_logSize, f_orderSize, sl, MS, f_searchStarted, a_kindAt, a_opA, a_opW, a_length, a_events, a_pcOf, a_regs, a_cells, a_bufEvent, a_bufValue, a_bufSize, a_log, a_order, a_codes, a_codeCount, a_made, SQ, PK, a_runPc, a_runReg, a_runMem, a_runLast, a_runValue, a_runSource)) :
    ∀ k n t T x c MS SQ PK, qs_M g (fun m => 1 + qs_T m) 1 T x < k → k < n → k + t ≤ 4000 → qs_M g (fun m => 1 + qs_T m) 1 T x ≤ 3913 → qx_SS g T MS SQ PK → c ≤ pg_N g → qx_cur g c x → (T.length = pg_N g → x = 0) →
      (T.length < pg_N g → qs_M g qs_F 0 T x ≤ lf) → (T.length = pg_N g → qs_M g qs_F 0 T 0 + (if pg_N g = 0 then 0 else 1) ≤ lf) → (∀ O, pg_cp g O → pg_hd g T x O → Good O) →
      wX_nextOrder_21 post n (nI c) (nI t) f_procs f_addrs (nI (pg_d g)) (nI (pg_N g)) f_logSize f_orderSize (nI T.length) MS f_searchStarted a_kindAt a_opA a_opW a_length a_events a_pcOf a_regs a_cells a_bufEvent a_bufValue a_bufSize a_log a_order a_codes a_codeCount a_made SQ PK a_runPc a_runReg a_runMem a_runLast a_runValue a_runSource := by
  have hN : pg_N g ≤ 6 := hw.2.2.2.2.2.2.2.2.2
  intro k
  induction k with
  | zero => intro n t T x c MS SQ PK h; omega
  | succ k ih =>
    intro n t T x c MS SQ PK hM hn ht hM2 hS hc hcur hx hl1 hl2 hG
    obtain ⟨n, rfl⟩ : ∃ k, n = k + 1 := ⟨n - 1, by omega⟩
    have hTl := pg_len hw (pg_vod hS.1).1 (pg_vod hS.1).2
    refine br_f (nI_ge (b := 8192) (by omega) (by decide)) (br_f (nI_pos (by omega)) ?_)
    by_cases cm : T.length = pg_N g
    · have hx0 := hx cm
      subst hx0
      refine br_f (nI_nlt (by omega) (by omega)) ?_
      exact h1 T MS SQ PK ⟨hS.1, cm⟩ hS (fun O ho hO => hG O ho (Or.inl hO)) (hl2 cm) hM2
    · have hlt : T.length < pg_N g := by omega
      refine br_t (nI_lt hlt (by omega)) ⟨pg_N g + 1, ?_⟩
      refine qx_cand hw P hE hS.2.2.1 (c0 := c) (fun c' hc' hcN hok hno => ?_) (fun hno => ?_) (pg_N g - c) (pg_N g + 1) c (by omega) (by omega) (Nat.le_refl _) (fun c' h1 h2 => by omega)
      · have hxy : x ≤ pg_ei g c' := (hcur c' hcN).mp hc'
        have hS' := qx_SSp hS hcN hok
        have m1 := qs_pT hw hS'.1 hxy
        have m2 := qs_pF hw hS'.1 hxy
        refine br_f (nI_pos (by omega)) (qx_pick hE hw hcN (by omega) (nm_r (nI_1 t) ?_))
        refine ih n (t + 1) (pg_ei g c' :: T) 0 0 _ _ _ (by omega) (by omega) (by omega) (by omega) hS' (by omega) qx_cur0 (fun _ => rfl) (fun _ => ?_) (fun z => ?_) (fun O ho hO => hG O ho ?_)
        · have := hl1 hlt; omega
        · have := hl1 hlt
          simp only [List.length_cons] at z
          rw [if_pos z] at m2
          split <;> omega
        · refine pg_hds ho (fun z z1 z2 zok => ?_) (pg_hdp hlt hO)
          obtain ⟨c'', a, b⟩ := pg_eis hw zok.1
          subst b
          exact hno c'' ((hcur c'' a).mpr z1) ((pg_eim a hcN).mp z2) zok
      · have nok : ∀ z, x ≤ z → ¬ pg_ok g T z := by
          intro z z1 zok
          obtain ⟨c'', a, b⟩ := pg_eis hw zok.1
          subst b
          exact hno c'' ((hcur c'' a).mpr z1) a zok
        refine br_t (by decide) ?_
        cases T with
        | nil =>
          refine qx_unp0 (nm_r (nI_1 t) ?_)
          have all : ∀ O, pg_cp g O → Good O := fun O ho => hG O ho (pg_hdz ho hlt nok)
          obtain ⟨n, rfl⟩ : ∃ k, n = k + 1 := ⟨n - 1, by omega⟩
          exact br_f (nI_ge (b := 8192) (by omega) (by decide)) (br_t (by decide) (h0 all _ _ _ _))
        | cons e T =>
          obtain ⟨hS', a1, c', a2, a3, a4⟩ := qx_SSu hw hS
          simp only [List.length_cons] at hlt
          refine qx_unp (by omega) a1 a3 (nm_r (nI_1 t) ?_)
          have u1 := qs_U (g := g) (w := fun m => 1 + qs_T m) (k := 1) (T := T) (e := e) (x := x)
          have u2 := qs_U (g := g) (w := qs_F) (k := 0) (T := T) (e := e) (x := x)
          have hcu : qx_cur g (c' + 1) (e + 1) := by rw [a4]; exact qx_curS a2
          refine ih n (t + 1) T (e + 1) (c' + 1) _ _ _ (by omega) (by omega) (by omega) (by omega) hS' (by omega) hcu (fun z => by omega) (fun _ => ?_) (fun z => by omega) (fun O ho hO => ?_)
          · have := hl1 (by simp only [List.length_cons]; omega); omega
          · rcases pg_hdu ho (by simp only [List.length_cons]; omega) (fun _ => nok) hO with z | z
            · exact hG O ho z
            · have := z.1; simp only [List.length_cons] at this; omega
/-- the search from its start -/
theorem qx_next0 (hw : pg_wf g) (P : qx_P g a_kindAt a_opA a_opW a_length) (hE : qa_Ar (pg_es g 24) a_events) {post : Int32 → SX → Prop} {Good : List Nat → Prop}
    (h1 : ∀ T MS SQ PK, pg_cp g T → qx_SS g T MS SQ PK → (∀ O, pg_cp g O → pg_lx O T → Good O) → qs_M g qs_F 0 T 0 + 1 ≤ 720 → qs_M g (fun m => 1 + qs_T m) 1 T 0 ≤ 3913 → post 1 (f_procs, f_addrs, (nI (pg_d g)), (nI (pg_N g)), f_logSize, f_orderSize, (nI T.length), MS, 1, a_kindAt, a_opA, a_opW, a_length, a_events, a_pcOf, a_regs, a_cells, a_bufEvent, a_bufValue, a_bufSize, a_log, a_order, a_codes, a_codeCount, a_made, SQ, PK, a_runPc, a_runReg, a_runMem, a_runLast, a_runValue, a_runSource))
    (h0 : (∀ O, pg_cp g O → Good O) → ∀ sl MS SQ PK, post 0 (f_procs, f_addrs, (nI (pg_d g)), (nI (pg_N g)), f_logSize, f_orderSize, sl, MS, 1, a_kindAt, a_opA, a_opW, a_length, a_events, a_pcOf, a_regs, a_cells, a_bufEvent, a_bufValue, a_bufSize, a_log, a_order, a_codes, a_codeCount, a_made, SQ, PK, a_runPc, a_runReg, a_runMem, a_runLast, a_runValue, a_runSource)) :
    wpX_nextOrder post (f_procs, f_addrs, (nI (pg_d g)), (nI (pg_N g)), f_logSize, f_orderSize, 0, 0, 0, a_kindAt, a_opA, a_opW, a_length, a_events, a_pcOf, a_regs, a_cells, a_bufEvent, a_bufValue, a_bufSize, a_log, a_order, a_codes, a_codeCount, a_made, a_seq, a_picked, a_runPc, a_runReg, a_runMem, a_runLast, a_runValue, a_runSource) := by
  have m1 := qs_0T hw
  have m2 := qs_0F hw
  refine br_t rfl ⟨3916, ?_⟩
  refine qx_no21 hw P hE (lf := 720) (Good := Good) (fun T MS SQ PK a b c d e => h1 T MS SQ PK a b c ?_ e) h0 3915 3916 0 [] 0 0 0 a_seq a_picked (by omega) (by omega) (by omega) m1 ⟨trivial, trivial, qa_mk0, fun i hi => absurd hi (by simp)⟩ (by omega) qx_cur0 (fun _ => rfl) (fun _ => m2) (fun z => ?_) (fun O _ hO => absurd hO pg_hd0)
  · by_cases z : pg_N g = 0
    · have hT : T = [] := List.eq_nil_of_length_eq_zero (by rw [a.2]; exact z)
      subst hT
      have : pg_ct g [] 0 = 0 := by
        have := pg_ctl hw (T := []) (x := 0) List.nodup_nil (fun z hz => absurd hz (by simp))
        omega
      simp only [qs_M, this]
      omega
    · rw [if_neg z] at d; exact d
  · have z' : pg_N g = 0 := by rw [← z]; rfl
    rw [if_pos z']; omega
/-- the search goes on behind a complete order -/
theorem qx_nextS (hw : pg_wf g) (P : qx_P g a_kindAt a_opA a_opW a_length) (hE : qa_Ar (pg_es g 24) a_events) {post : Int32 → SX → Prop} {Good : List Nat → Prop} {T : List Nat} (hcp : pg_cp g T) (hS : qx_SS g T f_searchMask a_seq a_picked) (hg : ∀ O, pg_cp g O → pg_lx O T → Good O) (hgT : Good T) (hm : qs_M g (fun m => 1 + qs_T m) 1 T 0 ≤ 3913)
    (h1 : ∀ T' MS SQ PK, pg_cp g T' → qx_SS g T' MS SQ PK → (∀ O, pg_cp g O → pg_lx O T' → Good O) → qs_M g qs_F 0 T' 0 + 1 ≤ qs_M g qs_F 0 T 0 → qs_M g (fun m => 1 + qs_T m) 1 T' 0 ≤ 3913 → post 1 (f_procs, f_addrs, (nI (pg_d g)), (nI (pg_N g)), f_logSize, f_orderSize, (nI T'.length), MS, 1, a_kindAt, a_opA, a_opW, a_length, a_events, a_pcOf, a_regs, a_cells, a_bufEvent, a_bufValue, a_bufSize, a_log, a_order, a_codes, a_codeCount, a_made, SQ, PK, a_runPc, a_runReg, a_runMem, a_runLast, a_runValue, a_runSource))
    (h0 : (∀ O, pg_cp g O → Good O) → ∀ sl MS SQ PK, post 0 (f_procs, f_addrs, (nI (pg_d g)), (nI (pg_N g)), f_logSize, f_orderSize, sl, MS, 1, a_kindAt, a_opA, a_opW, a_length, a_events, a_pcOf, a_regs, a_cells, a_bufEvent, a_bufValue, a_bufSize, a_log, a_order, a_codes, a_codeCount, a_made, SQ, PK, a_runPc, a_runReg, a_runMem, a_runLast, a_runValue, a_runSource)) :
    wpX_nextOrder post (f_procs, f_addrs, (nI (pg_d g)), (nI (pg_N g)), f_logSize, f_orderSize, (nI T.length), f_searchMask, 1, a_kindAt, a_opA, a_opW, a_length, a_events, a_pcOf, a_regs, a_cells, a_bufEvent, a_bufValue, a_bufSize, a_log, a_order, a_codes, a_codeCount, a_made, a_seq, a_picked, a_runPc, a_runReg, a_runMem, a_runLast, a_runValue, a_runSource) := by
  have hN : pg_N g ≤ 6 := hw.2.2.2.2.2.2.2.2.2
  refine br_f qa_10 ?_
  cases T with
  | nil =>
    refine qx_unp0 ?_
    have all : ∀ O, pg_cp g O → Good O := by
      intro O ho
      have : O = [] := List.eq_nil_of_length_eq_zero (by rw [ho.2, ← hcp.2]; rfl)
      rw [this]; exact hgT
    exact ⟨1, br_f (by decide) (br_t (by decide) (h0 all _ _ _ _))⟩
  | cons e T =>
    obtain ⟨hS', a1, c', a2, a3, a4⟩ := qx_SSu hw hS
    have hl := hcp.2
    simp only [List.length_cons] at hl
    refine qx_unp (by omega) a1 a3 ⟨3916, ?_⟩
    have u1 := qs_U (g := g) (w := fun m => 1 + qs_T m) (k := 1) (T := T) (e := e) (x := 0)
    have u2 := qs_U (g := g) (w := qs_F) (k := 0) (T := T) (e := e) (x := 0)
    have hcu : qx_cur g (c' + 1) (e + 1) := by rw [a4]; exact qx_curS a2
    refine qx_no21 hw P hE (lf := qs_M g qs_F 0 (e :: T) 0) (Good := Good) (fun T' MS SQ PK a b c d e' => h1 T' MS SQ PK a b c (by rw [if_neg (by omega)] at d; exact d) e') h0 3915 3916 0 T (e + 1) (c' + 1) _ _ _ (by omega) (by omega) (by omega) (by omega) hS' (by omega) hcu (fun z => by omega) (fun _ => by omega) (fun z => by omega) (fun O ho hO => ?_)
    rcases pg_hdu (x := 0) ho (by simp only [List.length_cons]; omega) (fun z => by simp only [List.length_cons] at z; omega) hO with z | z
    · rcases z with z | z
      · exact hg O ho z
      · have := z.1; simp only [List.length_cons] at this; omega
    · rw [z.2]; exact hgT
end
end
section
/-! ascending chains of codes; X: insertCode -/
def qc_ch (n : Nat) (c : Nat → Nat) : Prop := ∀ i j, i < j → j < n → c i < c j
def qc_in (n : Nat) (c : Nat → Nat) (v : Nat) : Prop := ∃ i, i < n ∧ c i = v
def qc_is (c : Nat → Nat) (p v : Nat) : Nat → Nat := fun i => if i < p then c i else if i = p then v else c (i - 1)
theorem qc_isL {c : Nat → Nat} {p v i : Nat} (h : i < p) : qc_is c p v i = c i := if_pos h
theorem qc_isE {c : Nat → Nat} {p v : Nat} : qc_is c p v p = v := by unfold qc_is; rw [if_neg (by omega), if_pos rfl]
theorem qc_isG {c : Nat → Nat} {p v i : Nat} (h : p < i) : qc_is c p v i = c (i - 1) := by unfold qc_is; rw [if_neg (by omega), if_neg (by omega)]
theorem qc_chI {n p v : Nat} {c : Nat → Nat} (hc : qc_ch n c) (hp : p ≤ n) (hl : ∀ i, i < p → c i < v) (hg : ∀ i, p ≤ i → i < n → v < c i) : qc_ch (n + 1) (qc_is c p v) := by
  intro i j hij hj
  rcases Nat.lt_trichotomy i p with a | a | a
  · rw [qc_isL a]
    rcases Nat.lt_trichotomy j p with b | b | b
    · rw [qc_isL b]; exact hc i j hij (by omega)
    · subst b; rw [qc_isE]; exact hl i a
    · rw [qc_isG b]
      by_cases z : i = j - 1
      · omega
      · exact hc i (j - 1) (by omega) (by omega)
  · subst a
    rw [qc_isE, qc_isG hij]
    exact hg (j - 1) (by omega) (by omega)
  · rw [qc_isG a, qc_isG (by omega)]
    exact hc (i - 1) (j - 1) (by omega) (by omega)
theorem qc_inI {n p v w : Nat} {c : Nat → Nat} (hp : p ≤ n) : qc_in (n + 1) (qc_is c p v) w ↔ qc_in n c w ∨ w = v := by
  constructor
  · rintro ⟨i, hi, e⟩
    rcases Nat.lt_trichotomy i p with a | a | a
    · rw [qc_isL a] at e; exact Or.inl ⟨i, by omega, e⟩
    · subst a; rw [qc_isE] at e; exact Or.inr e.symm
    · rw [qc_isG a] at e; exact Or.inl ⟨i - 1, by omega, e⟩
  · rintro (⟨i, hi, e⟩ | e)
    · by_cases a : i < p
      · exact ⟨i, by omega, by rw [qc_isL a]; exact e⟩
      · exact ⟨i + 1, by omega, by rw [qc_isG (by omega), Nat.add_sub_cancel]; exact e⟩
    · exact ⟨p, by omega, by rw [qc_isE]; exact e.symm⟩
theorem qc_le {m n : Nat} {f c : Nat → Nat} (hf : qc_ch m f) (hc : qc_ch n c) (h : ∀ i, i < m → qc_in n c (f i)) : ∀ i, i < m → ∃ j, i ≤ j ∧ j < n ∧ f i = c j
  | 0, h0 => by
    obtain ⟨j, hj, e⟩ := h 0 h0
    exact ⟨j, by omega, hj, e.symm⟩
  | i + 1, hi => by
    obtain ⟨j, h1, h2, h3⟩ := qc_le hf hc h i (by omega)
    obtain ⟨j', h4, h5⟩ := h (i + 1) hi
    have h6 := hf i (i + 1) (by omega) hi
    refine ⟨j', ?_, h4, h5.symm⟩
    by_cases z : j < j'
    · omega
    · exfalso
      by_cases y : j' = j
      · subst y; omega
      · have := hc j' j (by omega) h2
        omega
theorem qc_len {m n : Nat} {f c : Nat → Nat} (hf : qc_ch m f) (hc : qc_ch n c) (h : ∀ i, i < m → qc_in n c (f i)) : m ≤ n := by
  cases m with
  | zero => exact Nat.zero_le _
  | succ m =>
    obtain ⟨j, h1, h2, _⟩ := qc_le hf hc h m (by omega)
    omega
theorem qc_uq {m n : Nat} {f c : Nat → Nat} (hf : qc_ch m f) (hc : qc_ch n c) (h : ∀ w, qc_in m f w ↔ qc_in n c w) : m = n ∧ ∀ i, i < m → f i = c i := by
  have a : ∀ i, i < m → qc_in n c (f i) := fun i hi => (h _).mp ⟨i, hi, rfl⟩
  have b : ∀ i, i < n → qc_in m f (c i) := fun i hi => (h _).mpr ⟨i, hi, rfl⟩
  have e : m = n := Nat.le_antisymm (qc_len hf hc a) (qc_len hc hf b)
  subst e
  refine ⟨rfl, fun i hi => Nat.le_antisymm ?_ ?_⟩
  · obtain ⟨j, h1, h2, h3⟩ := qc_le hc hf b i hi
    rw [h3]
    by_cases z : i = j
    · subst z; exact Nat.le_refl _
    · exact Nat.le_of_lt (hf i j (by omega) h2)
  · obtain ⟨j, h1, h2, h3⟩ := qc_le hf hc a i hi
    rw [h3]
    by_cases z : i = j
    · subst z; exact Nat.le_refl _
    · exact Nat.le_of_lt (hc i j (by omega) h2)
theorem qa_256 (q i : Nat) : (256 : Int32) * nI q + nI i = nI (256 * q + i) := by
  rw [show (256 : Int32) = nI 256 from rfl, pk_mul, nI_add]
theorem qa_256p (q : Nat) : (256 : Int32) * nI q = nI (256 * q) := by
  rw [show (256 : Int32) = nI 256 from rfl, pk_mul]
section
variable {f_procs f_addrs f_bufferDepth f_eventCount f_logSize f_orderSize f_seqLen f_searchMask f_searchStarted : Int32} {a_kindAt a_opA a_opW a_length a_events a_pcOf a_regs a_cells a_bufEvent a_bufValue a_bufSize a_log a_order a_codes a_codeCount a_made a_seq a_picked a_runPc a_runReg a_runMem a_runLast a_runValue a_runSource : Nat → Int32}
variable {n v q : Nat} {c : Nat → Nat}
theorem qx_in115 (hq : q < 2) (hn : n < 256) {p : Nat} (hp : p ≤ n) {post : Int32 → SX → Prop}
    (h2 : ∀ CS, (∀ i, i < n + 1 → CS (256 * q + i) = nI (qc_is c p v i)) → (∀ j, (j < 256 * q ∨ 256 * q + 256 ≤ j) → CS j = a_codes j) → post 1 (f_procs, f_addrs, f_bufferDepth, f_eventCount, f_logSize, f_orderSize, f_seqLen, f_searchMask, f_searchStarted, a_kindAt, a_opA, a_opW, a_length, a_events, a_pcOf, a_regs, a_cells, a_bufEvent, a_bufValue, a_bufSize, a_log, a_order, CS, (upd a_codeCount q (nI (n + 1))), a_made, a_seq, a_picked, a_runPc, a_runReg, a_runMem, a_runLast, a_runValue, a_runSource)) :
    ∀ m f k CS, p + m = k → m < f → k ≤ n → (∀ i, i < k → CS (256 * q + i) = nI (c i)) → (∀ i, k < i → i ≤ n → CS (256 * q + i) = nI (c (i - 1))) → (∀ j, (j < 256 * q ∨ 256 * q + 256 ≤ j) → CS j = a_codes j) →
      wX_insertCode_115 post (nI q) (nI v) (nI (256 * q)) (nI n) (nI p) f_procs f_addrs f_bufferDepth f_eventCount f_logSize f_orderSize f_seqLen f_searchMask f_searchStarted f (nI k) a_kindAt a_opA a_opW a_length a_events a_pcOf a_regs a_cells a_bufEvent a_bufValue a_bufSize a_log a_order CS a_codeCount a_made a_seq a_picked a_runPc a_runReg a_runMem a_runLast a_runValue a_runSource := by
  intro m
  induction m with
  | zero =>
    intro f k CS hk hf hkn hlo hhi hfr
    obtain ⟨f, rfl⟩ : ∃ k, f = k + 1 := ⟨f - 1, by omega⟩
    obtain rfl : k = p := by omega
    have e1 : upd CS (nI (256 * q) + nI k).toNatClampNeg (nI v) = upd CS (256 * q + k) (nI v) := by rw [nI_add, qa_u (by omega)]
    have e2 : upd a_codeCount (nI q).toNatClampNeg (nI n + 1) = upd a_codeCount q (nI (n + 1)) := by rw [nI_1, qa_u (by omega)]
    refine br_t (nI_le (Nat.le_refl _) (by omega)) ⟨pk_in (256 * q + k) 512 (by omega) (nI_add _ _), nm_r e1 ⟨pk_in q 2 hq, nm_r e2 (h2 _ (fun i hi => ?_) (fun j hj => ?_))⟩⟩
    · rcases Nat.lt_trichotomy i k with a | a | a
      · rw [pk_un (by omega), qc_isL a]; exact hlo i a
      · subst a; rw [pk_us, qc_isE]
      · rw [pk_un (by omega), qc_isG a]; exact hhi i a (by omega)
    · rw [pk_un (by omega)]; exact hfr j hj
  | succ m ih =>
    intro f k CS hk hf hkn hlo hhi hfr
    obtain ⟨f, rfl⟩ : ∃ k, f = k + 1 := ⟨f - 1, by omega⟩
    obtain ⟨k, rfl⟩ : ∃ j, k = j + 1 := ⟨k - 1, by omega⟩
    have e0 : nI (256 * q) + nI (k + 1) = nI (256 * q + k + 1) := by rw [nI_add]; rfl
    have e1 : nI (256 * q) + nI (k + 1) - 1 = nI (256 * q + k) := by rw [e0, nI_pred]
    have e2 : upd CS (nI (256 * q) + nI (k + 1)).toNatClampNeg (CS (nI (256 * q) + nI (k + 1) - 1).toNatClampNeg) = upd CS (256 * q + k + 1) (nI (c k)) := by rw [e1, e0, qa_u (by omega), nI_clamp (by omega), hlo k (by omega)]
    refine br_f (nI_ge (by omega) (by omega)) ⟨pk_in (256 * q + k) 512 (by omega) e1, pk_in (256 * q + k + 1) 512 (by omega) e0, nm_r e2 (nm_r (pk_m1 k) ?_)⟩
    refine ih f k _ (by omega) (by omega) (by omega) (fun i hi => ?_) (fun i h3 h4 => ?_) (fun j hj => ?_)
    · rw [pk_un (by omega)]; exact hlo i (by omega)
    · by_cases z : i = k + 1
      · subst z; exact pk_us
      · rw [pk_un (by omega)]; exact hhi i (by omega) h4
    · rw [pk_un (by omega)]; exact hfr j hj
theorem qx_in101 (hq : q < 2) (hn : n ≤ 256) {p : Nat} (hp : p ≤ n) (hcs : ∀ i, i < n → a_codes (256 * q + i) = nI (c i)) {post : Int32 → SX → Prop}
    (h0 : n = 256 → post 0 (f_procs, f_addrs, f_bufferDepth, f_eventCount, f_logSize, f_orderSize, f_seqLen, f_searchMask, f_searchStarted, a_kindAt, a_opA, a_opW, a_length, a_events, a_pcOf, a_regs, a_cells, a_bufEvent, a_bufValue, a_bufSize, a_log, a_order, a_codes, a_codeCount, a_made, a_seq, a_picked, a_runPc, a_runReg, a_runMem, a_runLast, a_runValue, a_runSource))
    (h2 : n < 256 → ∀ CS, (∀ i, i < n + 1 → CS (256 * q + i) = nI (qc_is c p v i)) → (∀ j, (j < 256 * q ∨ 256 * q + 256 ≤ j) → CS j = a_codes j) → post 1 (f_procs, f_addrs, f_bufferDepth, f_eventCount, f_logSize, f_orderSize, f_seqLen, f_searchMask, f_searchStarted, a_kindAt, a_opA, a_opW, a_length, a_events, a_pcOf, a_regs, a_cells, a_bufEvent, a_bufValue, a_bufSize, a_log, a_order, CS, (upd a_codeCount q (nI (n + 1))), a_made, a_seq, a_picked, a_runPc, a_runReg, a_runMem, a_runLast, a_runValue, a_runSource)) :
    wX_insertCode_101 post (nI q) (nI v) (nI (256 * q)) (nI n) (nI p) f_procs f_addrs f_bufferDepth f_eventCount f_logSize f_orderSize f_seqLen f_searchMask f_searchStarted a_kindAt a_opA a_opW a_length a_events a_pcOf a_regs a_cells a_bufEvent a_bufValue a_bufSize a_log a_order a_codes a_codeCount a_made a_seq a_picked a_runPc a_runReg a_runMem a_runLast a_runValue a_runSource :=
  pk_lt n 256 (fun z => ⟨n + 1, qx_in115 hq z hp (h2 z) (n - p) (n + 1) n a_codes (by omega) (by omega) (Nat.le_refl _) hcs (fun i h1 h2 => by omega) (fun _ _ => rfl)⟩) (fun z => h0 (by omega))
theorem qx_in24 (hq : q < 2) (hn : n ≤ 256) (hv : v < 2 ^ 31) (hcl : ∀ i, i < n → c i < 2 ^ 31) (hch : qc_ch n c) (hcs : ∀ i, i < n → a_codes (256 * q + i) = nI (c i)) {post : Int32 → SX → Prop}
    (h1 : qc_in n c v → post 1 (f_procs, f_addrs, f_bufferDepth, f_eventCount, f_logSize, f_orderSize, f_seqLen, f_searchMask, f_searchStarted, a_kindAt, a_opA, a_opW, a_length, a_events, a_pcOf, a_regs, a_cells, a_bufEvent, a_bufValue, a_bufSize, a_log, a_order, a_codes, a_codeCount, a_made, a_seq, a_picked, a_runPc, a_runReg, a_runMem, a_runLast, a_runValue, a_runSource)) (h0 : ¬ qc_in n c v → n = 256 → post 0 (f_procs, f_addrs, f_bufferDepth, f_eventCount, f_logSize, f_orderSize, f_seqLen, f_searchMask, f_searchStarted, a_kindAt, a_opA, a_opW, a_length, a_events, a_pcOf, a_regs, a_cells, a_bufEvent, a_bufValue, a_bufSize, a_log, a_order, a_codes, a_codeCount, a_made, a_seq, a_picked, a_runPc, a_runReg, a_runMem, a_runLast, a_runValue, a_runSource))
    (h2 : ¬ qc_in n c v → n < 256 → ∀ CS p, p ≤ n → (∀ i, i < p → c i < v) → (∀ i, p ≤ i → i < n → v < c i) → (∀ i, i < n + 1 → CS (256 * q + i) = nI (qc_is c p v i)) → (∀ j, (j < 256 * q ∨ 256 * q + 256 ≤ j) → CS j = a_codes j) → post 1 (f_procs, f_addrs, f_bufferDepth, f_eventCount, f_logSize, f_orderSize, f_seqLen, f_searchMask, f_searchStarted, a_kindAt, a_opA, a_opW, a_length, a_events, a_pcOf, a_regs, a_cells, a_bufEvent, a_bufValue, a_bufSize, a_log, a_order, CS, (upd a_codeCount q (nI (n + 1))), a_made, a_seq, a_picked, a_runPc, a_runReg, a_runMem, a_runLast, a_runValue, a_runSource)) :
    ∀ m f lo hi t, t + m = 9 → m < f → lo ≤ hi → hi ≤ n → hi - lo < 2 ^ m → (∀ i, i < lo → c i < v) → (∀ i, hi ≤ i → i < n → v ≤ c i) → wX_insertCode_24 post (nI q) (nI v) (nI (256 * q)) (nI n) f_procs f_addrs f_bufferDepth f_eventCount f_logSize f_orderSize f_seqLen f_searchMask f_searchStarted a_kindAt a_opA a_opW a_length a_events a_pcOf a_regs a_cells a_bufEvent a_bufValue a_bufSize a_log a_order a_codes a_codeCount a_made a_seq a_picked a_runPc a_runReg a_runMem a_runLast a_runValue a_runSource f (nI lo) (nI hi) (nI t) := by
  have fin : ∀ p, p ≤ n → (∀ i, i < p → c i < v) → (∀ i, p ≤ i → i < n → v ≤ c i) → wX_insertCode_79 post (nI q) (nI v) (nI (256 * q)) (nI n) (nI p) f_procs f_addrs f_bufferDepth f_eventCount f_logSize f_orderSize f_seqLen f_searchMask f_searchStarted a_kindAt a_opA a_opW a_length a_events a_pcOf a_regs a_cells a_bufEvent a_bufValue a_bufSize a_log a_order a_codes a_codeCount a_made a_seq a_picked a_runPc a_runReg a_runMem a_runLast a_runValue a_runSource := by
    intro p hp hl hg
    refine pk_le n p (fun z => ?_) (fun z => ?_)
    · have hni : ¬ qc_in n c v := by
        rintro ⟨i, hi, e⟩
        have := hl i (by omega)
        omega
      exact qx_in101 hq hn hp hcs (h0 hni) (fun z CS a b => h2 hni z CS p hp hl (fun i i1 i2 => by omega) a b)
    · have e1 : a_codes (nI (256 * q) + nI p).toNatClampNeg = nI (c p) := by rw [nI_add, nI_clamp (by omega), hcs p z]
      refine ⟨pk_in (256 * q + p) 512 (by omega) (nI_add _ _), pk_eq (c p) v (fun y => h1 ⟨p, z, y⟩) (fun y => ?_) e1 rfl (hcl p z) hv⟩
      have hg' : ∀ i, p ≤ i → i < n → v < c i := by
        intro i i1 i2
        have hp' := hg p (Nat.le_refl _) z
        by_cases w : i = p
        · subst w; omega
        · have := hch p i (by omega) i2; omega
      have hni : ¬ qc_in n c v := by
        rintro ⟨i, hi, e⟩
        by_cases w : i < p
        · have := hl i w; omega
        · have := hg' i (by omega) hi; omega
      exact qx_in101 hq hn hp hcs (h0 hni) (fun z CS a b => h2 hni z CS p hp hl hg' a b)
  intro m
  induction m with
  | zero =>
    intro f lo hi t ht hf hlh hhn hs hl hg
    obtain ⟨f, rfl⟩ : ∃ k, f = k + 1 := ⟨f - 1, by omega⟩
    have : hi = lo := by simp at hs; omega
    subst this
    exact br_f (nI_ge (b := 16) (by omega) (by decide)) (br_t (nI_le (Nat.le_refl _) (by omega)) (fin hi hhn hl hg))
  | succ m ih =>
    intro f lo hi t ht hf hlh hhn hs hl hg
    obtain ⟨f, rfl⟩ : ∃ k, f = k + 1 := ⟨f - 1, by omega⟩
    refine br_f (nI_ge (b := 16) (by omega) (by decide)) (pk_le hi lo (fun z => ?_) (fun z => ?_))
    · have : hi = lo := by omega
      subst this
      exact fin hi hhn hl hg
    · have e0 : (nI lo + nI hi) >>> ((1 : Int32) &&& 31) = nI ((lo + hi) / 2) := by rw [nI_add, pk_shrN (by omega) _ 1 (by decide)]
      have e1 : a_codes (nI (256 * q) + nI ((lo + hi) / 2)).toNatClampNeg = nI (c ((lo + hi) / 2)) := by rw [nI_add, nI_clamp (by omega), hcs _ (by omega)]
      rw [Nat.pow_succ] at hs
      refine nm_r e0 ⟨pk_in (256 * q + (lo + hi) / 2) 512 (by omega) (nI_add _ _), pk_le v (c ((lo + hi) / 2)) (fun y => nm_r (nI_1 t) ?_) (fun y => nm_r (nI_1 _) (nm_r (nI_1 t) ?_)) rfl e1 hv (hcl _ (by omega))⟩
      · refine ih f lo ((lo + hi) / 2) (t + 1) (by omega) (by omega) (by omega) (by omega) (by omega) hl (fun i i1 i2 => ?_)
        by_cases w : i = (lo + hi) / 2
        · subst w; exact y
        · have := hch ((lo + hi) / 2) i (by omega) i2; omega
      · refine ih f ((lo + hi) / 2 + 1) hi (t + 1) (by omega) (by omega) (by omega) (by omega) (by omega) (fun i hi' => ?_) hg
        by_cases w : i = (lo + hi) / 2
        · subst w; exact y
        · have := hch i ((lo + hi) / 2) (by omega) (by omega); omega
theorem qx_ins (hq : q < 2) (hn : n ≤ 256) (hv : v < 2 ^ 31) (hcl : ∀ i, i < n → c i < 2 ^ 31) (hch : qc_ch n c) (hcs : ∀ i, i < n → a_codes (256 * q + i) = nI (c i)) (hct : a_codeCount q = nI n) {post : Int32 → SX → Prop}
    (h1 : qc_in n c v → post 1 (f_procs, f_addrs, f_bufferDepth, f_eventCount, f_logSize, f_orderSize, f_seqLen, f_searchMask, f_searchStarted, a_kindAt, a_opA, a_opW, a_length, a_events, a_pcOf, a_regs, a_cells, a_bufEvent, a_bufValue, a_bufSize, a_log, a_order, a_codes, a_codeCount, a_made, a_seq, a_picked, a_runPc, a_runReg, a_runMem, a_runLast, a_runValue, a_runSource)) (h0 : ¬ qc_in n c v → n = 256 → post 0 (f_procs, f_addrs, f_bufferDepth, f_eventCount, f_logSize, f_orderSize, f_seqLen, f_searchMask, f_searchStarted, a_kindAt, a_opA, a_opW, a_length, a_events, a_pcOf, a_regs, a_cells, a_bufEvent, a_bufValue, a_bufSize, a_log, a_order, a_codes, a_codeCount, a_made, a_seq, a_picked, a_runPc, a_runReg, a_runMem, a_runLast, a_runValue, a_runSource))
    (h2 : ¬ qc_in n c v → n < 256 → ∀ CS p, p ≤ n → (∀ i, i < p → c i < v) → (∀ i, p ≤ i → i < n → v < c i) → (∀ i, i < n + 1 → CS (256 * q + i) = nI (qc_is c p v i)) → (∀ j, (j < 256 * q ∨ 256 * q + 256 ≤ j) → CS j = a_codes j) → post 1 (f_procs, f_addrs, f_bufferDepth, f_eventCount, f_logSize, f_orderSize, f_seqLen, f_searchMask, f_searchStarted, a_kindAt, a_opA, a_opW, a_length, a_events, a_pcOf, a_regs, a_cells, a_bufEvent, a_bufValue, a_bufSize, a_log, a_order, CS, (upd a_codeCount q (nI (n + 1))), a_made, a_seq, a_picked, a_runPc, a_runReg, a_runMem, a_runLast, a_runValue, a_runSource)) :
    wpX_insertCode post (f_procs, f_addrs, f_bufferDepth, f_eventCount, f_logSize, f_orderSize, f_seqLen, f_searchMask, f_searchStarted, a_kindAt, a_opA, a_opW, a_length, a_events, a_pcOf, a_regs, a_cells, a_bufEvent, a_bufValue, a_bufSize, a_log, a_order, a_codes, a_codeCount, a_made, a_seq, a_picked, a_runPc, a_runReg, a_runMem, a_runLast, a_runValue, a_runSource) (nI q) (nI v) :=
  nm_r (qa_256p q) ⟨pk_in q 2 hq, nm_r ((qa_rd (by omega)).trans hct) ⟨10, qx_in24 hq hn hv hcl hch hcs h1 h0 h2 9 10 0 n 0 rfl (by omega) (by omega) (Nat.le_refl _) (by omega) (fun i hi => absurd hi (by omega)) (fun i h1 h2 => by omega)⟩⟩
end
end
section
/-! X: collect -/
def pg_Sx (g : pg_T) (w : Nat) : Prop := ∃ O, pg_cp g O ∧ w = pg_code g O
def qc_I (g : pg_T) (n : Nat) (c : Nat → Nat) : Prop := n ≤ 256 ∧ qc_ch n c ∧ ∀ i, i < n → pg_Sx g (c i)
def qc_ov (g : pg_T) : Prop := ∃ c, qc_ch 257 c ∧ ∀ i, i < 257 → pg_Sx g (c i)
theorem pg_codeL {g : pg_T} (hw : pg_wf g) (O : List Nat) : pg_code g O < 262144 := pg_smL (pg_cfL hw.2.2.2.2.2.2.2.2.1 O) 9
theorem pg_SxL {g : pg_T} (hw : pg_wf g) {w : Nat} (h : pg_Sx g w) : w < 262144 := by
  obtain ⟨O, _, e⟩ := h
  rw [e]; exact pg_codeL hw O
theorem qc_pos {c : Nat → Nat} {v : Nat} : ∀ {n : Nat}, qc_ch n c → ¬ qc_in n c v → ∃ p, p ≤ n ∧ (∀ i, i < p → c i < v) ∧ (∀ i, p ≤ i → i < n → v < c i)
  | 0, _, _ => ⟨0, Nat.le_refl _, fun i h => absurd h (by omega), fun i _ h => absurd h (by omega)⟩
  | n + 1, hc, hn => by
    obtain ⟨p, h1, h2, h3⟩ := qc_pos (c := c) (v := v) (n := n) (fun i j a b => hc i j a (by omega)) (fun ⟨i, a, b⟩ => hn ⟨i, by omega, b⟩)
    have hne : c n ≠ v := fun e => hn ⟨n, by omega, e⟩
    by_cases z : c n < v
    · refine ⟨n + 1, Nat.le_refl _, fun i hi => ?_, fun i a b => by omega⟩
      by_cases y : i = n
      · subst y; exact z
      · have := hc i n (by omega) (by omega); omega
    · refine ⟨p, by omega, h2, fun i a b => ?_⟩
      by_cases y : i = n
      · subst y; omega
      · exact h3 i a (by omega)
theorem qc_ovI {g : pg_T} {c : Nat → Nat} {v : Nat} (h : qc_I g 256 c) (hv : pg_Sx g v) (hn : ¬ qc_in 256 c v) : qc_ov g := by
  obtain ⟨p, h1, h2, h3⟩ := qc_pos h.2.1 hn
  refine ⟨qc_is c p v, qc_chI h.2.1 h1 h2 h3, fun i hi => ?_⟩
  rcases (qc_inI (n := 256) (p := p) (v := v) (c := c) h1).mp ⟨i, hi, rfl⟩ with ⟨j, a, b⟩ | b
  · rw [← b]; exact h.2.2 j a
  · rw [b]; exact hv
theorem qc_II {g : pg_T} {n p : Nat} {c : Nat → Nat} {v : Nat} (h : qc_I g n c) (hn : n < 256) (hv : pg_Sx g v) (h1 : p ≤ n) (h2 : ∀ i, i < p → c i < v) (h3 : ∀ i, p ≤ i → i < n → v < c i) : qc_I g (n + 1) (qc_is c p v) := by
  refine ⟨by omega, qc_chI h.2.1 h1 h2 h3, fun i hi => ?_⟩
  rcases (qc_inI (n := n) (p := p) (v := v) (c := c) h1).mp ⟨i, hi, rfl⟩ with ⟨j, a, b⟩ | b
  · rw [← b]; exact h.2.2 j a
  · rw [b]; exact hv
section
variable {f_procs f_addrs f_bufferDepth f_eventCount f_logSize f_orderSize f_seqLen f_searchMask f_searchStarted : Int32} {a_kindAt a_opA a_opW a_length a_events a_pcOf a_regs a_cells a_bufEvent a_bufValue a_bufSize a_log a_order a_codes a_codeCount a_made a_seq a_picked a_runPc a_runReg a_runMem a_runLast a_runValue a_runSource : Nat → Int32}
variable {g : pg_T} {q : Nat}
theorem qx_col1 (hw : pg_wf g) (P : qx_P g a_kindAt a_opA a_opW a_length) (hq : q < 2) {post : Int32 → SX → Prop} {lf t nn n : Nat} {c : Nat → Nat} {CS CT : Nat → Int32} (ht : t < 1024) (hI : qc_I g nn c) (hcs : ∀ i, i < nn → CS (256 * q + i) = nI (c i)) (hct : CT q = nI nn) (hfr : ∀ j, (j < 256 * q ∨ 256 * q + 256 ≤ j) → CS j = a_codes j) (hfc : ∀ j, j ≠ q → CT j = a_codeCount j)
    (NX : ∀ post' : Int32 → SX → Prop, (∀ T MS SQ PK, pg_cp g T → qx_SS g T MS SQ PK → (∀ O, pg_cp g O → pg_lx O T → qc_in nn c (pg_code g O)) → qs_M g qs_F 0 T 0 + 1 ≤ lf → qs_M g (fun m => 1 + qs_T m) 1 T 0 ≤ 3913 → post' 1 ((nI (pg_n g)), f_addrs, (nI (pg_d g)), (nI (pg_N g)), f_logSize, f_orderSize, (nI T.length), MS, 1, a_kindAt, a_opA, a_opW, a_length, a_events, a_pcOf, a_regs, a_cells, a_bufEvent, a_bufValue, a_bufSize, a_log, a_order, CS, CT, a_made, SQ, PK, a_runPc, a_runReg, a_runMem, a_runLast, a_runValue, a_runSource)) → ((∀ O, pg_cp g O → qc_in nn c (pg_code g O)) → ∀ sl MS SQ PK, post' 0 ((nI (pg_n g)), f_addrs, (nI (pg_d g)), (nI (pg_N g)), f_logSize, f_orderSize, sl, MS, 1, a_kindAt, a_opA, a_opW, a_length, a_events, a_pcOf, a_regs, a_cells, a_bufEvent, a_bufValue, a_bufSize, a_log, a_order, CS, CT, a_made, SQ, PK, a_runPc, a_runReg, a_runMem, a_runLast, a_runValue, a_runSource)) → wpX_nextOrder post' ((nI (pg_n g)), f_addrs, (nI (pg_d g)), (nI (pg_N g)), f_logSize, f_orderSize, f_seqLen, f_searchMask, f_searchStarted, a_kindAt, a_opA, a_opW, a_length, a_events, a_pcOf, a_regs, a_cells, a_bufEvent, a_bufValue, a_bufSize, a_log, a_order, CS, CT, a_made, a_seq, a_picked, a_runPc, a_runReg, a_runMem, a_runLast, a_runValue, a_runSource))
    (IH : ∀ T MS SQ PK PC RG ME LA VA SO CS CT nn c, qc_I g nn c → (∀ i, i < nn → CS (256 * q + i) = nI (c i)) → CT q = nI nn → (∀ j, (j < 256 * q ∨ 256 * q + 256 ≤ j) → CS j = a_codes j) → (∀ j, j ≠ q → CT j = a_codeCount j) → pg_cp g T → qx_SS g T MS SQ PK → (∀ O, pg_cp g O → pg_lx O T → qc_in nn c (pg_code g O)) → qc_in nn c (pg_code g T) → qs_M g qs_F 0 T 0 + 1 ≤ lf → qs_M g (fun m => 1 + qs_T m) 1 T 0 ≤ 3913 → wX_collect_20 post (nI q) n (nI (t + 1)) (nI (pg_n g)) f_addrs (nI (pg_d g)) (nI (pg_N g)) f_logSize f_orderSize (nI T.length) MS 1 a_kindAt a_opA a_opW a_length a_events a_pcOf a_regs a_cells a_bufEvent a_bufValue a_bufSize a_log a_order CS CT a_made SQ PK PC RG ME LA VA SO)
    (hEnd : (∀ O, pg_cp g O → qc_in nn c (pg_code g O)) → ∀ sl MS SQ PK, wX_collect_64 post (nI q) (nI (pg_n g)) f_addrs (nI (pg_d g)) (nI (pg_N g)) f_logSize f_orderSize sl MS 1 a_kindAt a_opA a_opW a_length a_events a_pcOf a_regs a_cells a_bufEvent a_bufValue a_bufSize a_log a_order CS CT a_made SQ PK a_runPc a_runReg a_runMem a_runLast a_runValue a_runSource)
    (hOv : qc_ov g → ∀ sl MS SQ PK PC RG ME LA VA SO CS CT, CT q = 0 → (∀ j, j ≠ q → CT j = a_codeCount j) → (∀ j, (j < 256 * q ∨ 256 * q + 256 ≤ j) → CS j = a_codes j) → post (-12) ((nI (pg_n g)), f_addrs, (nI (pg_d g)), (nI (pg_N g)), f_logSize, f_orderSize, sl, MS, 1, a_kindAt, a_opA, a_opW, a_length, a_events, a_pcOf, a_regs, a_cells, a_bufEvent, a_bufValue, a_bufSize, a_log, a_order, CS, CT, a_made, SQ, PK, PC, RG, ME, LA, VA, SO)) :
    wX_collect_20 post (nI q) (n + 1) (nI t) (nI (pg_n g)) f_addrs (nI (pg_d g)) (nI (pg_N g)) f_logSize f_orderSize f_seqLen f_searchMask f_searchStarted a_kindAt a_opA a_opW a_length a_events a_pcOf a_regs a_cells a_bufEvent a_bufValue a_bufSize a_log a_order CS CT a_made a_seq a_picked a_runPc a_runReg a_runMem a_runLast a_runValue a_runSource := by
  refine br_f (nI_ge (b := 1024) ht (by decide)) (NX _ (fun T MS SQ PK hcp hS hG hlf hst => br_f qa_10 ?_) (fun hall sl MS SQ PK => br_t rfl (hEnd hall sl MS SQ PK)))
  refine qx_eval hw P hcp hS.2.1 (fun PC RG ME LA VA SO R => ?_)
  have hsx : pg_Sx g (pg_code g T) := ⟨T, hcp, rfl⟩
  have hcl := pg_codeL hw T
  refine qx_ins hq hI.1 (by omega) (fun i hi => by have := pg_SxL hw (hI.2.2 i hi); omega) hI.2.1 hcs hct (fun hin => ?_) (fun hni h256 => ?_) (fun hni h256 CS' p p1 p2 p3 p4 p5 => ?_)
  · exact br_f qa_10 (nm_r (nI_1 t) (IH T MS SQ PK PC RG ME LA VA SO CS CT nn c hI hcs hct hfr hfc hcp hS hG hin hlf hst))
  · subst h256
    exact br_t rfl ⟨pk_in q 2 hq, nm_r (qa_u (by omega)) (hOv (qc_ovI hI hsx hni) _ _ _ _ _ _ _ _ _ _ CS _ pk_us (fun j hj => by rw [pk_un hj]; exact hfc j hj) hfr)⟩
  · have hmono : ∀ w, qc_in nn c w → qc_in (nn + 1) (qc_is c p (pg_code g T)) w := fun w hw' => (qc_inI p1).mpr (Or.inl hw')
    exact br_f qa_10 (nm_r (nI_1 t) (IH T MS SQ PK PC RG ME LA VA SO CS' _ (nn + 1) (qc_is c p (pg_code g T)) (qc_II hI h256 hsx p1 p2 p3) p4 pk_us (fun j hj => by rw [p5 j hj]; exact hfr j hj) (fun j hj => by rw [pk_un hj]; exact hfc j hj) hcp hS (fun O ho hl => hmono _ (hG O ho hl)) ((qc_inI p1).mpr (Or.inr rfl)) hlf hst))
theorem qx_col2 (hw : pg_wf g) (P : qx_P g a_kindAt a_opA a_opW a_length) (hE : qa_Ar (pg_es g 24) a_events) (hq : q < 2) {post : Int32 → SX → Prop}
    (hEnd : ∀ nn c, qc_I g nn c → (∀ O, pg_cp g O → qc_in nn c (pg_code g O)) → ∀ sl MS SQ PK PC RG ME LA VA SO CS CT, (∀ i, i < nn → CS (256 * q + i) = nI (c i)) → CT q = nI nn → (∀ j, (j < 256 * q ∨ 256 * q + 256 ≤ j) → CS j = a_codes j) → (∀ j, j ≠ q → CT j = a_codeCount j) → wX_collect_64 post (nI q) (nI (pg_n g)) f_addrs (nI (pg_d g)) (nI (pg_N g)) f_logSize f_orderSize sl MS 1 a_kindAt a_opA a_opW a_length a_events a_pcOf a_regs a_cells a_bufEvent a_bufValue a_bufSize a_log a_order CS CT a_made SQ PK PC RG ME LA VA SO)
    (hOv : qc_ov g → ∀ sl MS SQ PK PC RG ME LA VA SO CS CT, CT q = 0 → (∀ j, j ≠ q → CT j = a_codeCount j) → (∀ j, (j < 256 * q ∨ 256 * q + 256 ≤ j) → CS j = a_codes j) → post (-12) ((nI (pg_n g)), f_addrs, (nI (pg_d g)), (nI (pg_N g)), f_logSize, f_orderSize, sl, MS, 1, a_kindAt, a_opA, a_opW, a_length, a_events, a_pcOf, a_regs, a_cells, a_bufEvent, a_bufValue, a_bufSize, a_log, a_order, CS, CT, a_made, SQ, PK, PC, RG, ME, LA, VA, SO)) :
    ∀ m n t T MS SQ PK PC RG ME LA VA SO CS CT nn c, qs_M g qs_F 0 T 0 < m → m < n → t + qs_M g qs_F 0 T 0 ≤ 721 → qc_I g nn c → (∀ i, i < nn → CS (256 * q + i) = nI (c i)) → CT q = nI nn → (∀ j, (j < 256 * q ∨ 256 * q + 256 ≤ j) → CS j = a_codes j) → (∀ j, j ≠ q → CT j = a_codeCount j) → pg_cp g T → qx_SS g T MS SQ PK → (∀ O, pg_cp g O → pg_lx O T → qc_in nn c (pg_code g O)) → qc_in nn c (pg_code g T) → qs_M g (fun m => 1 + qs_T m) 1 T 0 ≤ 3913 → wX_collect_20 post (nI q) n (nI t) (nI (pg_n g)) f_addrs (nI (pg_d g)) (nI (pg_N g)) f_logSize f_orderSize (nI T.length) MS 1 a_kindAt a_opA a_opW a_length a_events a_pcOf a_regs a_cells a_bufEvent a_bufValue a_bufSize a_log a_order CS CT a_made SQ PK PC RG ME LA VA SO := by
  intro m
  induction m with
  | zero => intro n t T MS SQ PK PC RG ME LA VA SO CS CT nn c h; omega
  | succ m ih =>
    intro n t T MS SQ PK PC RG ME LA VA SO CS CT nn c hm hn ht hI hcs hct hfr hfc hcp hS hG hT hst
    obtain ⟨n, rfl⟩ : ∃ k, n = k + 1 := ⟨n - 1, by omega⟩
    refine qx_col1 hw P hq (lf := qs_M g qs_F 0 T 0) (by omega) hI hcs hct hfr hfc (fun post' h1 h0 => qx_nextS hw P hE hcp hS hG hT hst h1 h0) ?_ (fun hall sl MS SQ PK => hEnd nn c hI hall sl MS SQ PK PC RG ME LA VA SO CS CT hcs hct hfr hfc) hOv
    intro T' MS' SQ' PK' PC' RG' ME' LA' VA' SO' CS' CT' nn' c' hI' hcs' hct' hfr' hfc' hcp' hS' hG' hT' hlf' hst'
    exact ih n (t + 1) T' MS' SQ' PK' PC' RG' ME' LA' VA' SO' CS' CT' nn' c' (by omega) (by omega) (by omega) hI' hcs' hct' hfr' hfc' hcp' hS' hG' hT' hst'
theorem qx_collect (hw : pg_wf g) (P : qx_P g a_kindAt a_opA a_opW a_length) (hE : qa_Ar (pg_es g 24) a_events) (hq : q < 2) {post : Int32 → SX → Prop}
    (hN : ∀ nn c, qc_I g nn c → (∀ O, pg_cp g O → qc_in nn c (pg_code g O)) → ∀ sl MS SQ PK PC RG ME LA VA SO CS CT MD, (∀ i, i < nn → CS (256 * q + i) = nI (c i)) → CT q = nI nn → MD q = 1 → (∀ j, (j < 256 * q ∨ 256 * q + 256 ≤ j) → CS j = a_codes j) → (∀ j, j ≠ q → CT j = a_codeCount j ∧ MD j = a_made j) → post (nI nn) ((nI (pg_n g)), f_addrs, (nI (pg_d g)), (nI (pg_N g)), f_logSize, f_orderSize, sl, MS, 1, a_kindAt, a_opA, a_opW, a_length, a_events, a_pcOf, a_regs, a_cells, a_bufEvent, a_bufValue, a_bufSize, a_log, a_order, CS, CT, MD, SQ, PK, PC, RG, ME, LA, VA, SO))
    (hO : qc_ov g → ∀ sl MS SQ PK PC RG ME LA VA SO CS CT MD, CT q = 0 → MD q = 0 → (∀ j, (j < 256 * q ∨ 256 * q + 256 ≤ j) → CS j = a_codes j) → (∀ j, j ≠ q → CT j = a_codeCount j ∧ MD j = a_made j) → post (-12) ((nI (pg_n g)), f_addrs, (nI (pg_d g)), (nI (pg_N g)), f_logSize, f_orderSize, sl, MS, 1, a_kindAt, a_opA, a_opW, a_length, a_events, a_pcOf, a_regs, a_cells, a_bufEvent, a_bufValue, a_bufSize, a_log, a_order, CS, CT, MD, SQ, PK, PC, RG, ME, LA, VA, SO)) :
    wpX_collect post ((nI (pg_n g)), f_addrs, (nI (pg_d g)), (nI (pg_N g)), f_logSize, f_orderSize, f_seqLen, f_searchMask, f_searchStarted, a_kindAt, a_opA, a_opW, a_length, a_events, a_pcOf, a_regs, a_cells, a_bufEvent, a_bufValue, a_bufSize, a_log, a_order, a_codes, a_codeCount, a_made, a_seq, a_picked, a_runPc, a_runReg, a_runMem, a_runLast, a_runValue, a_runSource) (nI q) := by
  refine ⟨pk_in q 2 hq, nm_r (qa_u (by omega)) ⟨pk_in q 2 hq, nm_r (qa_u (by omega)) ⟨800, ?_⟩⟩⟩
  have hI0 : qc_I g 0 (fun _ => 0) := ⟨by omega, fun i j _ h => absurd h (by omega), fun i h => absurd h (by omega)⟩
  have hEnd : ∀ nn c, qc_I g nn c → (∀ O, pg_cp g O → qc_in nn c (pg_code g O)) → ∀ sl MS SQ PK PC RG ME LA VA SO CS CT, (∀ i, i < nn → CS (256 * q + i) = nI (c i)) → CT q = nI nn → (∀ j, (j < 256 * q ∨ 256 * q + 256 ≤ j) → CS j = a_codes j) → (∀ j, j ≠ q → CT j = upd a_codeCount q 0 j) → wX_collect_64 post (nI q) (nI (pg_n g)) f_addrs (nI (pg_d g)) (nI (pg_N g)) f_logSize f_orderSize sl MS 1 a_kindAt a_opA a_opW a_length a_events a_pcOf a_regs a_cells a_bufEvent a_bufValue a_bufSize a_log a_order CS CT (upd a_made q (vp_nar .boolean 0)) SQ PK PC RG ME LA VA SO := by
    intro nn c hI hall sl MS SQ PK PC RG ME LA VA SO CS CT h1 h2 h3 h4
    refine ⟨pk_in q 2 hq, nm_r (qa_u (by omega)) ⟨pk_in q 2 hq, ?_⟩⟩
    rw [nI_clamp (by omega), h2]
    exact hN nn c hI hall sl MS SQ PK PC RG ME LA VA SO CS CT _ h1 h2 pk_us h3 (fun j hj => ⟨by rw [h4 j hj, pk_un hj], by rw [pk_un hj, pk_un hj]⟩)
  have hOv : qc_ov g → ∀ sl MS SQ PK PC RG ME LA VA SO CS CT, CT q = 0 → (∀ j, j ≠ q → CT j = upd a_codeCount q 0 j) → (∀ j, (j < 256 * q ∨ 256 * q + 256 ≤ j) → CS j = a_codes j) → post (-12) ((nI (pg_n g)), f_addrs, (nI (pg_d g)), (nI (pg_N g)), f_logSize, f_orderSize, sl, MS, 1, a_kindAt, a_opA, a_opW, a_length, a_events, a_pcOf, a_regs, a_cells, a_bufEvent, a_bufValue, a_bufSize, a_log, a_order, CS, CT, (upd a_made q (vp_nar .boolean 0)), SQ, PK, PC, RG, ME, LA, VA, SO) := by
    intro ho sl MS SQ PK PC RG ME LA VA SO CS CT h1 h2 h3
    exact hO ho sl MS SQ PK PC RG ME LA VA SO CS CT _ h1 pk_us h3 (fun j hj => ⟨by rw [h2 j hj, pk_un hj], pk_un hj⟩)
  refine qx_col1 hw P hq (n := 799) (t := 0) (lf := 720) (by omega) hI0 (fun i h => absurd h (by omega)) pk_us (fun _ _ => rfl) (fun _ _ => rfl) (fun post' h1 h0 => qx_next0 hw P hE h1 h0) ?_ (fun hall sl MS SQ PK => hEnd 0 _ hI0 hall sl MS SQ PK _ _ _ _ _ _ _ _ (fun i h => absurd h (by omega)) pk_us (fun _ _ => rfl) (fun _ _ => rfl)) hOv
  intro T' MS' SQ' PK' PC' RG' ME' LA' VA' SO' CS' CT' nn' c' hI' hcs' hct' hfr' hfc' hcp' hS' hG' hT' hlf' hst'
  exact qx_col2 hw P hE hq hEnd hOv 798 799 1 T' MS' SQ' PK' PC' RG' ME' LA' VA' SO' CS' CT' nn' c' (by omega) (by omega) (by omega) hI' hcs' hct' hfr' hfc' hcp' hS' hG' hT' hst'
end
end
section
/-! the stepped machine: answers, and X's picture of it -/
def pg_spf (g : pg_T) (pc : Nat → Nat) (H : List Nat) (p : Nat) : Int32 × (Nat → Nat) × List Nat :=
  if pg_L g p ≤ pc p then (-3, pc, H)
  else if pg_K g (8 * p + pc p) = 1 then (0, pg_up pc p, (8 * p + pc p) :: H)
  else if pg_S (pg_K g (8 * p + pc p)) then (if pg_d g = 0 then (0, pg_up pc p, (8 * p + pc p) :: H) else if pg_ov g H (8 * p) (pc p) < pg_d g then (0, pg_up pc p, H) else (-2, pc, H))
  else if pg_K g (8 * p + pc p) = 4 then (if pg_ov g H (8 * p) (pc p) = 0 then (0, pg_up pc p, H) else (-4, pc, H))
  else if pg_K g (8 * p + pc p) = 5 then (if pg_ov g H (8 * p) (pc p) = 0 then (0, pg_up pc p, (8 * p + pc p) :: H) else (-4, pc, H))
  else (0, pg_up pc p, H)
def pg_dpf (g : pg_T) (pc : Nat → Nat) (H : List Nat) (p : Nat) : Int32 × (Nat → Nat) × List Nat :=
  match pg_pd g H (8 * p) (pc p) with
  | [] => (-5, pc, H)
  | e :: _ => (0, pc, e :: H)
section
variable {g : pg_T} {pc : Nat → Nat} {H : List Nat} {p : Nat}
theorem pg_sp3 (h : pg_L g p ≤ pc p) : pg_spf g pc H p = (-3, pc, H) := if_pos h
theorem pg_sp1 (h : pc p < pg_L g p) (k : pg_K g (8 * p + pc p) = 1) : pg_spf g pc H p = (0, pg_up pc p, (8 * p + pc p) :: H) := by
  unfold pg_spf; rw [if_neg (by omega), if_pos k]
theorem pg_spS0 (h : pc p < pg_L g p) (k : pg_S (pg_K g (8 * p + pc p))) (d : pg_d g = 0) : pg_spf g pc H p = (0, pg_up pc p, (8 * p + pc p) :: H) := by
  unfold pg_spf; rw [if_neg (by omega), if_neg (pg_Sn1 k), if_pos k, if_pos d]
theorem pg_spS1 (h : pc p < pg_L g p) (k : pg_S (pg_K g (8 * p + pc p))) (d : pg_d g ≠ 0) (o : pg_ov g H (8 * p) (pc p) < pg_d g) : pg_spf g pc H p = (0, pg_up pc p, H) := by
  unfold pg_spf; rw [if_neg (by omega), if_neg (pg_Sn1 k), if_pos k, if_neg d, if_pos o]
theorem pg_spS2 (h : pc p < pg_L g p) (k : pg_S (pg_K g (8 * p + pc p))) (d : pg_d g ≠ 0) (o : ¬ pg_ov g H (8 * p) (pc p) < pg_d g) : pg_spf g pc H p = (-2, pc, H) := by
  unfold pg_spf; rw [if_neg (by omega), if_neg (pg_Sn1 k), if_pos k, if_neg d, if_neg o]
theorem pg_sp40 (h : pc p < pg_L g p) (k : pg_K g (8 * p + pc p) = 4) (o : pg_ov g H (8 * p) (pc p) = 0) : pg_spf g pc H p = (0, pg_up pc p, H) := by
  unfold pg_spf; rw [if_neg (by omega), if_neg (by omega), if_neg (by rw [k]; decide), if_pos k, if_pos o]
theorem pg_sp41 (h : pc p < pg_L g p) (k : pg_K g (8 * p + pc p) = 4) (o : pg_ov g H (8 * p) (pc p) ≠ 0) : pg_spf g pc H p = (-4, pc, H) := by
  unfold pg_spf; rw [if_neg (by omega), if_neg (by omega), if_neg (by rw [k]; decide), if_pos k, if_neg o]
theorem pg_sp50 (h : pc p < pg_L g p) (k : pg_K g (8 * p + pc p) = 5) (o : pg_ov g H (8 * p) (pc p) = 0) : pg_spf g pc H p = (0, pg_up pc p, (8 * p + pc p) :: H) := by
  unfold pg_spf; rw [if_neg (by omega), if_neg (by omega), if_neg (by rw [k]; decide), if_neg (by omega), if_pos k, if_pos o]
theorem pg_sp51 (h : pc p < pg_L g p) (k : pg_K g (8 * p + pc p) = 5) (o : pg_ov g H (8 * p) (pc p) ≠ 0) : pg_spf g pc H p = (-4, pc, H) := by
  unfold pg_spf; rw [if_neg (by omega), if_neg (by omega), if_neg (by rw [k]; decide), if_neg (by omega), if_pos k, if_neg o]
theorem pg_sp6 (h : pc p < pg_L g p) (k : pg_K g (8 * p + pc p) = 6) : pg_spf g pc H p = (0, pg_up pc p, H) := by
  unfold pg_spf; rw [if_neg (by omega), if_neg (by omega), if_neg (by rw [k]; decide), if_neg (by omega), if_neg (by omega)]
theorem pg_dp0 (h : pg_ov g H (8 * p) (pc p) = 0) : pg_dpf g pc H p = (-5, pc, H) := by
  unfold pg_dpf
  cases hq : pg_pd g H (8 * p) (pc p) with
  | nil => rfl
  | cons e R => rw [← pg_pdl, hq] at h; simp at h
theorem pg_dp1 {e : Nat} {R : List Nat} (h : pg_pd g H (8 * p) (pc p) = e :: R) : pg_dpf g pc H p = (0, pc, e :: H) := by
  unfold pg_dpf; rw [h]
/-- every kind of an instruction -/
theorem pg_kinds (hw : pg_wf g) (h : pc p < pg_L g p) : pg_K g (8 * p + pc p) = 1 ∨ pg_S (pg_K g (8 * p + pc p)) ∨ pg_K g (8 * p + pc p) = 4 ∨ pg_K g (8 * p + pc p) = 5 ∨ pg_K g (8 * p + pc p) = 6 := by
  have k1 := hw.2.2.2.2.2.2.2.1 p (pc p) h
  have k6 := (hw.2.2.2.2.2.2.2.2.1 (8 * p + pc p)).1
  rcases (show pg_K g (8 * p + pc p) = 1 ∨ pg_K g (8 * p + pc p) = 2 ∨ pg_K g (8 * p + pc p) = 3 ∨ pg_K g (8 * p + pc p) = 4 ∨ pg_K g (8 * p + pc p) = 5 ∨ pg_K g (8 * p + pc p) = 6 by omega) with h | h | h | h | h | h
  · exact Or.inl h
  · exact Or.inr (Or.inl (Or.inl h))
  · exact Or.inr (Or.inl (Or.inr h))
  · exact Or.inr (Or.inr (Or.inl h))
  · exact Or.inr (Or.inr (Or.inr (Or.inl h)))
  · exact Or.inr (Or.inr (Or.inr (Or.inr h)))
theorem pg_spi (hw : pg_wf g) (I : pg_inv g pc H) (p : Nat) : pg_inv g (pg_spf g pc H p).2.1 (pg_spf g pc H p).2.2 := by
  by_cases h : pg_L g p ≤ pc p
  · rw [pg_sp3 h]; exact I
  · have h' : pc p < pg_L g p := by omega
    rcases pg_kinds hw h' with k | k | k | k | k
    · rw [pg_sp1 h' k]; exact pg_mv1 hw I h' (Or.inl k) (pg_okL hw I h' k)
    · by_cases d : pg_d g = 0
      · rw [pg_spS0 h' k d]
        refine pg_mv1 hw I h' (pg_SM k) (pg_okC hw I h' (pg_SM k) (pg_Sn1 k) ?_)
        have := I.2.2.2.2.1 p
        omega
      · by_cases o : pg_ov g H (8 * p) (pc p) < pg_d g
        · rw [pg_spS1 h' k d o]; exact pg_mv2 I h' (pg_SnR k) (fun _ => o) (fun z => by rcases k with k | k <;> omega)
        · rw [pg_spS2 h' k d o]; exact I
    · by_cases o : pg_ov g H (8 * p) (pc p) = 0
      · rw [pg_sp40 h' k o]; exact pg_mv2 I h' (by rw [k]; decide) (fun z => by rw [k] at z; exact absurd z (by decide)) (fun _ => o)
      · rw [pg_sp41 h' k o]; exact I
    · by_cases o : pg_ov g H (8 * p) (pc p) = 0
      · rw [pg_sp50 h' k o]; exact pg_mv1 hw I h' (Or.inr (Or.inl k)) (pg_okC hw I h' (Or.inr (Or.inl k)) (by omega) o)
      · rw [pg_sp51 h' k o]; exact I
    · rw [pg_sp6 h' k]; exact pg_mv2 I h' (by rw [k]; decide) (fun z => by rw [k] at z; exact absurd z (by decide)) (fun z => by omega)
theorem pg_dpi (hw : pg_wf g) (I : pg_inv g pc H) (p : Nat) : pg_inv g (pg_dpf g pc H p).2.1 (pg_dpf g pc H p).2.2 := by
  cases hq : pg_pd g H (8 * p) (pc p) with
  | nil => rw [pg_dp0 (by rw [← pg_pdl, hq]; rfl)]; exact I
  | cons e R => rw [pg_dp1 hq]; exact pg_mvD hw I hq
theorem pg_invl (hw : pg_wf g) (I : pg_inv g pc H) : H.length ≤ 6 := Nat.le_trans (pg_len hw (pg_vod I.1).1 (pg_vod I.1).2) hw.2.2.2.2.2.2.2.2.2
theorem pg_okl (hw : pg_wf g) (hv : pg_vo g H) {e : Nat} (h : pg_ok g H e) : H.length < 6 := by
  have := pg_len hw (H := e :: H) (pg_vod (g := g) (T := e :: H) ⟨hv, h⟩).1 (pg_vod (g := g) (T := e :: H) ⟨hv, h⟩).2
  have h6 := hw.2.2.2.2.2.2.2.2.2
  unfold pg_N at this
  simp only [List.length_cons] at this
  omega
end
def qx_Mc (g : pg_T) (pc : Nat → Nat) (H : List Nat) (PO RE CE BE BV BS LG : Nat → Int32) (ls : Int32) : Prop :=
  (∀ p, p < 3 → PO p = nI (pc p)) ∧ (∀ p r, p < 3 → r < 2 → RE (2 * p + r) = nI (pg_reg g H p r (pc p))) ∧ (∀ a, a < 3 → CE a = nI (pg_mem g H a)) ∧ (∀ p, p < 3 → BS p = nI (pg_ov g H (8 * p) (pc p))) ∧
  (∀ p k, p < 3 → k < pg_ov g H (8 * p) (pc p) → BE (3 * p + k) = nI ((pg_pd g H (8 * p) (pc p)).getD k 0) ∧ BV (3 * p + k) = nI (pg_wr g (pg_rd g H) ((pg_pd g H (8 * p) (pc p)).getD k 0))) ∧ ls = nI H.length ∧ qa_Ar H LG
section
variable {g : pg_T} {pc : Nat → Nat} {H : List Nat} {p : Nat} {PO RE CE CE' BE BV BS LG : Nat → Int32} {ls : Int32}
theorem qx_up {a : Nat → Int32} (h : ∀ q, q < 3 → a q = nI (pc q)) : ∀ q, q < 3 → upd a p (nI (pc p + 1)) q = nI (pg_up pc p q) := by
  intro q hq
  by_cases c : q = p
  · subst c; rw [pk_us, pg_upS]
  · rw [pk_un c, pg_upN c]; exact h q hq
theorem qx_MR (hw : pg_wf g) (I : pg_inv g pc H) (hR : pg_R (pg_K g (8 * p + pc p))) (M : qx_Mc g pc H PO RE CE BE BV BS LG ls) (hC : ∀ a, a < 3 → CE' a = nI (pg_mem g ((8 * p + pc p) :: H) a)) :
    qx_Mc g (pg_up pc p) ((8 * p + pc p) :: H) (upd PO p (nI (pc p + 1))) (upd RE (2 * p + pg_W g (8 * p + pc p) % 2) (nI (pg_rd g ((8 * p + pc p) :: H) (8 * p + pc p)))) CE' BE BV BS (upd LG H.length (nI (8 * p + pc p))) (nI (H.length + 1)) := by
  obtain ⟨M1, M2, M3, M4, M5, M6, M7⟩ := M
  refine ⟨qx_up M1, fun q r hq hr => ?_, hC, fun q hq => ?_, fun q k hq hk => ?_, rfl, qa_Arc M7⟩
  · rw [pg_vrR hw I hR]
    by_cases c : q = p ∧ r = pg_W g (8 * p + pc p) % 2
    · rw [if_pos c, c.1, c.2, pk_us]
    · rw [if_neg c, pk_un (by intro z; apply c; omega)]; exact M2 q r hq hr
  · rw [pg_vov hw I]; exact M4 q hq
  · rw [pg_vov hw I] at hk
    rw [pg_vpd hw I]
    obtain ⟨a, b⟩ := M5 q k hq hk
    refine ⟨a, ?_⟩
    rw [pg_vwr hw I (qa_getm (by rw [pg_pdl]; exact hk))]
    exact b
theorem qx_MS (hw : pg_wf g) (I : pg_inv g pc H) (hS : pg_S (pg_K g (8 * p + pc p))) (hm : ¬ (8 * p + pc p) ∈ H) (M : qx_Mc g pc H PO RE CE BE BV BS LG ls) :
    qx_Mc g (pg_up pc p) ((8 * p + pc p) :: H) (upd PO p (nI (pc p + 1))) RE (upd CE (pg_A g (8 * p + pc p)) (nI (pg_wr g (pg_rd g H) (8 * p + pc p)))) BE BV BS (upd LG H.length (nI (8 * p + pc p))) (nI (H.length + 1)) := by
  obtain ⟨M1, M2, M3, M4, M5, M6, M7⟩ := M
  refine ⟨qx_up M1, fun q r hq hr => ?_, fun a ha => ?_, fun q hq => ?_, fun q k hq hk => ?_, rfl, qa_Arc M7⟩
  · rw [pg_rgS (pg_SnR hS), pg_vrN (pg_SnR hS) (by rcases hS with h | h <;> omega)]; exact M2 q r hq hr
  · rw [pg_memS I.1 hm hS]
    by_cases c : pg_A g (8 * p + pc p) = a
    · rw [if_pos c, ← c, pk_us]
    · rw [if_neg c, pk_un (Ne.symm c)]; exact M3 a ha
  · rw [pg_vov hw I]; exact M4 q hq
  · rw [pg_vov hw I] at hk
    rw [pg_vpd hw I, pg_rds (pg_SnR hS)]
    exact M5 q k hq hk
theorem qx_MB (hw : pg_wf g) (I : pg_inv g pc H) (hp : p < 3) (hS : pg_S (pg_K g (8 * p + pc p))) (hm : ¬ (8 * p + pc p) ∈ H) (h3 : pg_ov g H (8 * p) (pc p) < 3) (M : qx_Mc g pc H PO RE CE BE BV BS LG ls) :
    qx_Mc g (pg_up pc p) H (upd PO p (nI (pc p + 1))) RE CE (upd BE (3 * p + pg_ov g H (8 * p) (pc p)) (nI (8 * p + pc p))) (upd BV (3 * p + pg_ov g H (8 * p) (pc p)) (nI (pg_wr g (pg_rd g H) (8 * p + pc p)))) (upd BS p (nI (pg_ov g H (8 * p) (pc p) + 1))) LG ls := by
  have hd := I.2.2.2.2.1
  have hd3 := hw.2.2.2.2.1
  obtain ⟨M1, M2, M3, M4, M5, M6, M7⟩ := M
  have eo : pg_ov g H (8 * p) (pc p + 1) = pg_ov g H (8 * p) (pc p) + 1 := by
    rw [← pg_pdl, pg_pdS hS hm, List.length_append, pg_pdl]; rfl
  refine ⟨qx_up M1, fun q r hq hr => ?_, M3, fun q hq => ?_, fun q k hq hk => ?_, M6, M7⟩
  · rw [pg_vrN (pg_SnR hS) (by rcases hS with h | h <;> omega)]; exact M2 q r hq hr
  · by_cases c : q = p
    · subst c; rw [pk_us, pg_upS, eo]
    · rw [pk_un c, pg_upN c]; exact M4 q hq
  · by_cases c : q = p
    · subst c
      rw [pg_upS] at hk ⊢
      rw [eo] at hk
      rw [pg_pdS hS hm]
      by_cases z : k = pg_ov g H (8 * q) (pc q)
      · subst z
        rw [pk_us, pk_us]
        have e : (pg_pd g H (8 * q) (pc q) ++ [8 * q + pc q]).getD (pg_ov g H (8 * q) (pc q)) 0 = 8 * q + pc q := by
          rw [← pg_pdl, List.getD, List.getElem?_append_right (Nat.le_refl _), Nat.sub_self]; rfl
        rw [e]; exact ⟨rfl, rfl⟩
      · rw [pk_un (by omega), pk_un (by omega)]
        have e : (pg_pd g H (8 * q) (pc q) ++ [8 * q + pc q]).getD k 0 = (pg_pd g H (8 * q) (pc q)).getD k 0 := by
          rw [List.getD, List.getElem?_append_left (by rw [pg_pdl]; omega)]; rfl
        rw [e]; exact M5 q k hq (by omega)
    · rw [pg_upN c] at hk ⊢
      have h2 := hd q
      rw [pk_un (by omega), pk_un (by omega)]
      exact M5 q k hq hk
theorem qx_MQ (hS : ¬ pg_S (pg_K g (8 * p + pc p))) (M : qx_Mc g pc H PO RE CE BE BV BS LG ls) {RE' : Nat → Int32} (hr : ∀ q r, q < 3 → r < 2 → RE' (2 * q + r) = nI (pg_reg g H q r (pg_up pc p q))) :
    qx_Mc g (pg_up pc p) H (upd PO p (nI (pc p + 1))) RE' CE BE BV BS LG ls := by
  obtain ⟨M1, M2, M3, M4, M5, M6, M7⟩ := M
  refine ⟨qx_up M1, hr, M3, fun q hq => ?_, fun q k hq hk => ?_, M6, M7⟩
  · rw [pg_voN hS]; exact M4 q hq
  · rw [pg_voN hS] at hk
    rw [pg_vpN hS]
    exact M5 q k hq hk
theorem qx_MD (hw : pg_wf g) (I : pg_inv g pc H) (hp : p < 3) {e : Nat} {R : List Nat} (h : pg_pd g H (8 * p) (pc p) = e :: R) (M : qx_Mc g pc H PO RE CE BE BV BS LG ls) {BE' BV' : Nat → Int32}
    (hb : ∀ k, k + 1 < pg_ov g H (8 * p) (pc p) → BE' (3 * p + k) = BE (3 * p + k + 1) ∧ BV' (3 * p + k) = BV (3 * p + k + 1)) (hn : ∀ j, (j < 3 * p ∨ 3 * p + 3 ≤ j) → BE' j = BE j ∧ BV' j = BV j) :
    qx_Mc g pc (e :: H) PO RE (upd CE (pg_A g e) (nI (pg_wr g (pg_rd g H) e))) BE' BV' (upd BS p (nI (pg_ov g H (8 * p) (pc p) - 1))) (upd LG H.length (nI e)) (nI (H.length + 1)) := by
  obtain ⟨h1, h2, h3, h4, h5⟩ := pg_pdh h
  have hR : ¬ pg_R (pg_K g e) := pg_SnR h3
  have hl : pg_ov g H (8 * p) (pc p) = R.length + 1 := by rw [← pg_pdl, h]; rfl
  obtain ⟨M1, M2, M3, M4, M5, M6, M7⟩ := M
  have ho : ∀ q, pg_ov g (e :: H) (8 * q) (pc q) = if q = p then R.length else pg_ov g H (8 * q) (pc q) := by
    intro q
    rw [← pg_pdl, pg_dpd hw I h]
    split
    · rfl
    · rw [pg_pdl]
  refine ⟨M1, fun q r hq hr => ?_, fun a ha => ?_, fun q hq => ?_, fun q k hq hk => ?_, rfl, qa_Arc M7⟩
  · rw [pg_rgS hR]; exact M2 q r hq hr
  · rw [pg_memS I.1 h4 h3]
    by_cases c : pg_A g e = a
    · rw [if_pos c, ← c, pk_us]
    · rw [if_neg c, pk_un (Ne.symm c)]; exact M3 a ha
  · rw [ho]
    by_cases c : q = p
    · subst c; rw [pk_us, if_pos rfl, hl]; rfl
    · rw [pk_un c, if_neg c]; exact M4 q hq
  · rw [ho] at hk
    rw [pg_dpd hw I h, pg_rds hR]
    by_cases c : q = p
    · subst c
      rw [if_pos rfl] at hk ⊢
      obtain ⟨a, b⟩ := M5 q (k + 1) hq (by omega)
      rw [h] at a b
      obtain ⟨x, y⟩ := hb k (by omega)
      rw [x, y]
      exact ⟨a, b⟩
    · rw [if_neg c] at hk ⊢
      have hd := I.2.2.2.2.1 q
      have hd3 := hw.2.2.2.2.1
      obtain ⟨x, y⟩ := hn (3 * q + k) (by omega)
      rw [x, y]
      exact M5 q k hq hk
theorem qx_Mz {PO RE CE BE BV BS LG : Nat → Int32} (h1 : ∀ p, p < 3 → PO p = 0 ∧ CE p = 0 ∧ BS p = 0) (h2 : ∀ r, r < 6 → RE r = 0) : qx_Mc g (fun _ => 0) [] PO RE CE BE BV BS LG 0 :=
  ⟨fun p hp => (h1 p hp).1, fun p r hp hr => h2 _ (by omega), fun a ha => (h1 a ha).2.1, fun p hp => (h1 p hp).2.2, fun p k _ hk => absurd hk (Nat.not_lt_zero _), rfl, trivial⟩
end
end
section
/-! X: step and drain -/
theorem qa_3 (p i : Nat) : (3 : Int32) * nI p + nI i = nI (3 * p + i) := by
  rw [show (3 : Int32) = nI 3 from rfl, pk_mul, nI_add]
theorem qa_3p (p : Nat) : (3 : Int32) * nI p = nI (3 * p) := by
  rw [show (3 : Int32) = nI 3 from rfl, pk_mul]
section
variable {f_procs f_addrs f_bufferDepth f_eventCount f_logSize f_orderSize f_seqLen f_searchMask f_searchStarted : Int32} {a_kindAt a_opA a_opW a_length a_events a_pcOf a_regs a_cells a_bufEvent a_bufValue a_bufSize a_log a_order a_codes a_codeCount a_made a_seq a_picked a_runPc a_runReg a_runMem a_runLast a_runValue a_runSource : Nat → Int32}
variable {g : pg_T} {pc : Nat → Nat} {H : List Nat} {p : Nat}
theorem qx_sl15 (hw : pg_wf g) (P : qx_P g a_kindAt a_opA a_opW a_length) (I : pg_inv g pc H) (hp : p < 3) (hL : pc p < pg_L g p) (hk : pg_K g (8 * p + pc p) = 1) (M : qx_Mc g pc H a_pcOf a_regs a_cells a_bufEvent a_bufValue a_bufSize a_log f_logSize) (hlen : H.length < 6) {post : SX → Prop}
    (fin : post (f_procs, f_addrs, f_bufferDepth, f_eventCount, (nI (H.length + 1)), f_orderSize, f_seqLen, f_searchMask, f_searchStarted, a_kindAt, a_opA, a_opW, a_length, a_events, a_pcOf, (upd a_regs (2 * p + pg_W g (8 * p + pc p) % 2) (nI (pg_rd g ((8 * p + pc p) :: H) (8 * p + pc p)))), a_cells, a_bufEvent, a_bufValue, a_bufSize, (upd a_log H.length (nI (8 * p + pc p))), a_order, a_codes, a_codeCount, a_made, a_seq, a_picked, a_runPc, a_runReg, a_runMem, a_runLast, a_runValue, a_runSource)) :
    ∀ m n k v, k + m = pg_ov g H (8 * p) (pc p) → m < n → pg_sc g (pg_rd g H) (pg_A g (8 * p + pc p)) v ((pg_pd g H (8 * p) (pc p)).drop k) = pg_rd g ((8 * p + pc p) :: H) (8 * p + pc p) → wX_stepLoad_15 post (nI p) (nI (8 * p + pc p)) f_procs f_addrs f_bufferDepth f_eventCount f_logSize f_orderSize f_seqLen f_searchMask f_searchStarted a_kindAt a_opA a_opW a_length a_events a_pcOf a_regs a_cells a_bufEvent a_bufValue a_bufSize a_log a_order a_codes a_codeCount a_made a_seq a_picked a_runPc a_runReg a_runMem a_runLast a_runValue a_runSource n (nI v) (nI k) := by
  have h5 := pg_pc5 hw I p
  have hd := I.2.2.2.2.1 p
  have hd3 := hw.2.2.2.2.1
  obtain ⟨M1, M2, M3, M4, M5, M6, M7⟩ := M
  have hW : pg_W g (8 * p + pc p) ≤ 1 := (hw.2.2.2.2.2.2.2.2.1 (8 * p + pc p)).2.2.2.1 (Or.inl hk)
  have eb : a_bufSize (nI p).toNatClampNeg = nI (pg_ov g H (8 * p) (pc p)) := by rw [nI_clamp (by omega)]; exact M4 p hp
  intro m
  induction m with
  | zero =>
    intro n k v hk' hn hv
    obtain ⟨n, rfl⟩ : ∃ k, n = k + 1 := ⟨n - 1, by omega⟩
    have e0 : (pg_pd g H (8 * p) (pc p)).drop k = [] := List.drop_eq_nil_of_le (by rw [pg_pdl]; omega)
    rw [e0] at hv
    have hv' : v = pg_rd g ((8 * p + pc p) :: H) (8 * p + pc p) := hv
    have e1 : (2 : Int32) * nI p + a_opW (nI (8 * p + pc p)).toNatClampNeg = nI (2 * p + pg_W g (8 * p + pc p) % 2) := by rw [qa_ow P (by omega), qa_2, Nat.mod_eq_of_lt (by omega)]
    have e2 : upd a_regs ((2 : Int32) * nI p + a_opW (nI (8 * p + pc p)).toNatClampNeg).toNatClampNeg (nI v) = upd a_regs (2 * p + pg_W g (8 * p + pc p) % 2) (nI (pg_rd g ((8 * p + pc p) :: H) (8 * p + pc p))) := by rw [e1, qa_u (by omega), hv']
    subst M6
    exact ⟨pk_in p 3 hp, pk_le (pg_ov g H (8 * p) (pc p)) k (fun _ => ⟨pk_in (8 * p + pc p) 24 (by omega), pk_in (2 * p + pg_W g (8 * p + pc p) % 2) 6 (by omega) e1, nm_r e2 (qx_log hlen fin)⟩) (fun z => absurd z (by omega)) eb rfl⟩
  | succ m ih =>
    intro n k v hk' hn hv
    obtain ⟨n, rfl⟩ : ∃ k, n = k + 1 := ⟨n - 1, by omega⟩
    have hkl : k < pg_ov g H (8 * p) (pc p) := by omega
    obtain ⟨b1, b2⟩ := M5 p k hp hkl
    have hmem := qa_getm (l := pg_pd g H (8 * p) (pc p)) (k := k) (by rw [pg_pdl]; omega)
    have hx := pg_pdm.mp hmem
    rw [qa_drop (by rw [pg_pdl]; omega), pg_scc] at hv
    generalize (pg_pd g H (8 * p) (pc p)).getD k 0 = x at b1 b2 hx hv
    have e1 : a_bufEvent ((3 : Int32) * nI p + nI k).toNatClampNeg = nI x := by rw [qa_3, nI_clamp (by omega)]; exact b1
    have e2 : a_bufValue ((3 : Int32) * nI p + nI k).toNatClampNeg = nI (pg_wr g (pg_rd g H) x) := by rw [qa_3, nI_clamp (by omega)]; exact b2
    refine ⟨pk_in p 3 hp, pk_le (pg_ov g H (8 * p) (pc p)) k (fun z => absurd z (by omega)) (fun _ => ⟨pk_in (3 * p + k) 9 (by omega) (qa_3 p k), nm_r e1 ⟨pk_in x 24 (by omega), pk_in (8 * p + pc p) 24 (by omega), ?_⟩⟩) eb rfl⟩
    refine pk_eq (pg_A g x) (pg_A g (8 * p + pc p)) (fun z => ⟨pk_in (3 * p + k) 9 (by omega) (qa_3 p k), nm_r e2 (nm_r (nI_1 k) ?_)⟩) (fun z => nm_r (nI_1 k) ?_) (qa_oa P (by omega)) (qa_oa P (by omega)) (qa_kl hw _).2.1 (qa_kl hw _).2.1
    · rw [if_pos z] at hv
      exact ih n (k + 1) _ (by omega) (by omega) hv
    · rw [if_neg z] at hv
      exact ih n (k + 1) _ (by omega) (by omega) hv
theorem qx_step (hw : pg_wf g) (P : qx_P g a_kindAt a_opA a_opW a_length) (I : pg_inv g pc H) (hp : p < pg_n g) (M : qx_Mc g pc H a_pcOf a_regs a_cells a_bufEvent a_bufValue a_bufSize a_log f_logSize) {post : Int32 → SX → Prop}
    (hpost : ∀ PO RE CE BE BV BS LG ls, qx_Mc g (pg_spf g pc H p).2.1 (pg_spf g pc H p).2.2 PO RE CE BE BV BS LG ls → post (pg_spf g pc H p).1 ((nI (pg_n g)), f_addrs, (nI (pg_d g)), f_eventCount, ls, f_orderSize, f_seqLen, f_searchMask, f_searchStarted, a_kindAt, a_opA, a_opW, a_length, a_events, PO, RE, CE, BE, BV, BS, LG, a_order, a_codes, a_codeCount, a_made, a_seq, a_picked, a_runPc, a_runReg, a_runMem, a_runLast, a_runValue, a_runSource)) : wpX_step post ((nI (pg_n g)), f_addrs, (nI (pg_d g)), f_eventCount, f_logSize, f_orderSize, f_seqLen, f_searchMask, f_searchStarted, a_kindAt, a_opA, a_opW, a_length, a_events, a_pcOf, a_regs, a_cells, a_bufEvent, a_bufValue, a_bufSize, a_log, a_order, a_codes, a_codeCount, a_made, a_seq, a_picked, a_runPc, a_runReg, a_runMem, a_runLast, a_runValue, a_runSource) (nI p) := by
  have hn3 := hw.2.1
  have hd := I.2.2.2.2.1 p
  have hd3 := hw.2.2.2.2.1
  have h5 := pg_pc5 hw I p
  have hL5 := hw.2.2.2.2.2.1 p
  have M' := M
  obtain ⟨M1, M2, M3, M4, M5, M6, M7⟩ := M'
  have ep : a_pcOf (nI p).toNatClampNeg = nI (pc p) := by rw [nI_clamp (by omega)]; exact M1 p (by omega)
  have eb : a_bufSize (nI p).toNatClampNeg = nI (pg_ov g H (8 * p) (pc p)) := by rw [nI_clamp (by omega)]; exact M4 p (by omega)
  have p3 : vp_in (nI p) 3 := pk_in p 3 (by omega)
  unfold wpX_step
  refine qx_bT hp (by omega) (br_f qa_10 ⟨p3, p3, pk_lt (pc p) (pg_L g p) (fun hL => ?_) (fun hL => ?_) ep (qa_ln P (by omega))⟩)
  · have e1 : (8 : Int32) * nI p + a_pcOf (nI p).toNatClampNeg = nI (8 * p + pc p) := by rw [ep, qa_8]
    have i24 : vp_in (nI (8 * p + pc p)) 24 := vp_in_nI (by omega) (by omega)
    have hA := pg_A3 hw (8 * p + pc p)
    have kl := qa_kl hw (8 * p + pc p)
    obtain ⟨k0, k1, k2, k3, k4, k5, k6⟩ := hw.2.2.2.2.2.2.2.2.1 (8 * p + pc p)
    have hwk := hw.2.2.2.2.2.2.2.2.1
    have ea : a_opA (nI (8 * p + pc p)).toNatClampNeg = nI (pg_A g (8 * p + pc p)) := qa_oa P (by omega)
    have ew : a_opW (nI (8 * p + pc p)).toNatClampNeg = nI (pg_W g (8 * p + pc p)) := qa_ow P (by omega)
    have eu : ∀ f : Nat → Int32, f p = nI (pc p) → upd f (nI p).toNatClampNeg (f (nI p).toNatClampNeg + 1) = upd f p (nI (pc p + 1)) := fun f hf => by rw [nI_clamp (by omega), hf, nI_1]
    refine ⟨p3, nm_r e1 ⟨i24, nm_r (qa_kd P (by omega)) ?_⟩⟩
    rcases pg_kinds hw hL with k | k | k | k | k
    · rw [k]
      have hl := pg_okl hw I.1 (pg_okL hw I hL k)
      have ec : a_cells (a_opA (nI (8 * p + pc p)).toNatClampNeg).toNatClampNeg = nI (pg_mem g H (pg_A g (8 * p + pc p))) := by
        rw [ea, nI_clamp (by omega)]; exact M3 _ hA
      refine br_t rfl ⟨i24, pk_in _ 3 hA ea, nm_r ec ⟨5, ?_⟩⟩
      have Mn := qx_MR (CE' := a_cells) hw I (Or.inl k) M (fun a ha => by rw [pg_memR I.1 (pg_nin I (Nat.le_refl _) (by omega)) k]; exact M3 a ha)
      have := hpost _ _ _ _ _ _ _ _ (by rw [pg_sp1 hL k]; exact Mn)
      rw [pg_sp1 hL k] at this
      refine qx_sl15 hw P I (by omega) hL k M hl ?_ (pg_ov g H (8 * p) (pc p)) 5 0 _ (by omega) (by omega) ?_
      · exact br_t rfl ⟨p3, p3, nm_r (eu _ (M1 p (by omega))) this⟩
      · rw [List.drop_zero]; exact (pg_vld hw I k).symm
    · refine br_f (fun z => pg_Sn1 k ((nI_eq (by omega) (by omega)).mp z)) (qx_S1 rfl k (br_f qa_10 ⟨i24, nm_r ew ⟨i24, ?_⟩⟩))
      have main : wX_stepStore_33 (fun r_127 u => match u with | (f_procs, f_addrs, f_bufferDepth, f_eventCount, f_logSize, f_orderSize, f_seqLen, f_searchMask, f_searchStarted, a_kindAt, a_opA, a_opW, a_length, a_events, a_pcOf, a_regs, a_cells, a_bufEvent, a_bufValue, a_bufSize, a_log, a_order, a_codes, a_codeCount, a_made, a_seq, a_picked, a_runPc, a_runReg, a_runMem, a_runLast, a_runValue, a_runSource) => wX_step_163 post (nI p) r_127 f_procs f_addrs f_bufferDepth f_eventCount f_logSize f_orderSize f_seqLen f_searchMask f_searchStarted a_kindAt a_opA a_opW a_length a_events a_pcOf a_regs a_cells a_bufEvent a_bufValue a_bufSize a_log a_order a_codes a_codeCount a_made a_seq a_picked a_runPc a_runReg a_runMem a_runLast a_runValue a_runSource) (nI p) (nI (8 * p + pc p)) (nI (pg_wr g (pg_rd g H) (8 * p + pc p))) (nI (pg_n g)) f_addrs (nI (pg_d g)) f_eventCount f_logSize f_orderSize f_seqLen f_searchMask f_searchStarted a_kindAt a_opA a_opW a_length a_events a_pcOf a_regs a_cells a_bufEvent a_bufValue a_bufSize a_log a_order a_codes a_codeCount a_made a_seq a_picked a_runPc a_runReg a_runMem a_runLast a_runValue a_runSource := by
        refine pk_eq (pg_d g) 0 (fun d => ?_) (fun d => ?_)
        · have o0 : pg_ov g H (8 * p) (pc p) = 0 := by omega
          have hok := pg_okC hw I hL (pg_SM k) (pg_Sn1 k) o0
          have hl := pg_okl hw I.1 hok
          have Mn := qx_MS hw I k hok.2.1 M
          have := hpost _ _ _ _ _ _ _ _ (by rw [pg_spS0 hL k d]; exact Mn)
          rw [pg_spS0 hL k d] at this
          have e3 : ∀ v : Int32, upd a_cells (a_opA (nI (8 * p + pc p)).toNatClampNeg).toNatClampNeg v = upd a_cells (pg_A g (8 * p + pc p)) v := fun v => by rw [ea, qa_u (by omega)]
          subst M6
          exact ⟨i24, pk_in _ 3 hA ea, nm_r (e3 _) (qx_log hl (br_t rfl ⟨p3, p3, nm_r (eu _ (M1 p (by omega))) this⟩))⟩
        · refine ⟨p3, pk_lt (pg_ov g H (8 * p) (pc p)) (pg_d g) (fun o => ?_) (fun o => ?_) eb rfl⟩
          · have Mn := qx_MB hw I (by omega) k (pg_nin I (Nat.le_refl _) (by omega)) (by omega) M
            have := hpost _ _ _ _ _ _ _ _ (by rw [pg_spS1 hL k d o]; exact Mn)
            rw [pg_spS1 hL k d o] at this
            have e3 : (3 : Int32) * nI p + a_bufSize (nI p).toNatClampNeg = nI (3 * p + pg_ov g H (8 * p) (pc p)) := by rw [eb, qa_3]
            have e4 : upd a_bufSize (nI p).toNatClampNeg (a_bufSize (nI p).toNatClampNeg + 1) = upd a_bufSize p (nI (pg_ov g H (8 * p) (pc p) + 1)) := by rw [eb, nI_1, qa_u (by omega)]
            exact ⟨p3, nm_r e3 ⟨vp_in_nI (by omega) (by omega), nm_r (qa_u (by omega)) ⟨vp_in_nI (by omega) (by omega), nm_r (qa_u (by omega)) ⟨p3, p3, nm_r e4 (br_t rfl ⟨p3, p3, nm_r (eu _ (M1 p (by omega))) this⟩)⟩⟩⟩⟩
          · have := hpost _ _ _ _ _ _ _ _ (by rw [pg_spS2 hL k d (by omega)]; exact M)
            rw [pg_spS2 hL k d (by omega)] at this
            exact br_f (by decide) this
      refine pk_eq (pg_K g (8 * p + pc p)) 3 (fun k3 => ?_) (fun k3 => ?_) (qa_kd P (by omega)) rfl
      · have hW1 : pg_W g (8 * p + pc p) ≤ 1 := by
          obtain ⟨_, _, _, q4, _⟩ := hwk (8 * p + pc p)
          exact q4 (Or.inr k3)
        have e3 : (2 : Int32) * nI p + a_opW (nI (8 * p + pc p)).toNatClampNeg = nI (2 * p + pg_W g (8 * p + pc p)) := by rw [ew, qa_2]
        have e4 : a_regs ((2 : Int32) * nI p + a_opW (nI (8 * p + pc p)).toNatClampNeg).toNatClampNeg = nI (pg_wr g (pg_rd g H) (8 * p + pc p)) := by
          rw [e3, nI_clamp (by omega), M2 p _ (by omega) (by omega)]
          unfold pg_wr
          rw [if_neg (by omega), if_neg (by omega), show (8 * p + pc p) / 8 = p by omega, show (8 * p + pc p) % 8 = pc p by omega]
          rfl
        exact ⟨i24, pk_in (2 * p + pg_W g (8 * p + pc p)) 6 (by omega) e3, nm_r e4 main⟩
      · have k2' : pg_K g (8 * p + pc p) = 2 := by rcases k with z | z <;> omega
        have e4 : pg_W g (8 * p + pc p) = pg_wr g (pg_rd g H) (8 * p + pc p) := by
          unfold pg_wr
          rw [if_pos k2']
        rw [e4]
        exact main
    · rw [k]
      refine br_f (by decide) (qx_S0 (k := 4) rfl (by decide) (by decide) (br_t rfl (br_t rfl ⟨p3, pk_le (pg_ov g H (8 * p) (pc p)) 0 (fun o => ?_) (fun o => ?_) eb rfl⟩)))
      · have o0 : pg_ov g H (8 * p) (pc p) = 0 := by omega
        have Mn := qx_MQ (RE' := a_regs) (by rw [k]; decide) M (fun q r hq hr => by rw [pg_vrN (by rw [k]; decide) (by rw [k]; decide)]; exact M2 q r hq hr)
        have := hpost _ _ _ _ _ _ _ _ (by rw [pg_sp40 hL k o0]; exact Mn)
        rw [pg_sp40 hL k o0] at this
        exact br_t rfl ⟨p3, p3, nm_r (eu _ (M1 p (by omega))) this⟩
      · have := hpost _ _ _ _ _ _ _ _ (by rw [pg_sp41 hL k (by omega)]; exact M)
        rw [pg_sp41 hL k (by omega)] at this
        exact br_f (by decide) this
    · rw [k]
      refine br_f (by decide) (qx_S0 (k := 5) rfl (by decide) (by decide) (br_t rfl (br_f (by decide) (br_t rfl ⟨p3, pk_le (pg_ov g H (8 * p) (pc p)) 0 (fun o => ?_) (fun o => ?_) eb rfl⟩))))
      · have o0 : pg_ov g H (8 * p) (pc p) = 0 := by omega
        have hok := pg_okC hw I hL (Or.inr (Or.inl k)) (by omega) o0
        have hl := pg_okl hw I.1 hok
        have er : (2 : Int32) * nI p + (a_opW (nI (8 * p + pc p)).toNatClampNeg &&& 1) = nI (2 * p + pg_W g (8 * p + pc p) % 2) := by rw [ew, qa_w1 _ (by omega), qa_2]
        have ec : a_cells (nI (pg_A g (8 * p + pc p))).toNatClampNeg = nI (pg_mem g H (pg_A g (8 * p + pc p))) := by rw [nI_clamp (by omega)]; exact M3 _ hA
        have eg : a_regs (nI (2 * p + pg_W g (8 * p + pc p) % 2)).toNatClampNeg = nI (pg_reg g H p (pg_W g (8 * p + pc p) % 2) (pc p)) := by rw [nI_clamp (by omega)]; exact M2 p _ (by omega) (by omega)
        have l1 := pg_memL hwk H (pg_A g (8 * p + pc p))
        have l2 := pg_regL hwk H p (pg_W g (8 * p + pc p) % 2) (pc p)
        have e8 : (8 * p + pc p) / 8 = p := by omega
        have em : (8 * p + pc p) % 8 = pc p := by omega
        subst M6
        refine ⟨i24, nm_r ea ⟨i24, nm_r er ⟨pk_in _ 3 hA, nm_r ec ⟨vp_in_nI (by omega) (by omega), pk_eq (pg_mem g H (pg_A g (8 * p + pc p))) (pg_reg g H p (pg_W g (8 * p + pc p) % 2) (pc p)) (fun c => ?_) (fun c => ?_) rfl eg⟩⟩⟩⟩
        · have Mn := qx_MR (CE' := upd a_cells (pg_A g (8 * p + pc p)) (nI (pg_W g (8 * p + pc p) / 2))) hw I (Or.inr k) M (fun a ha => by
            rw [pg_memC I.1 hok.2.1 k, e8, em]
            by_cases y : pg_A g (8 * p + pc p) = a
            · rw [if_pos ⟨y, c⟩, ← y, pk_us]
            · rw [if_neg (fun z => y z.1), pk_un (Ne.symm y)]; exact M3 a ha)
          have := hpost _ _ _ _ _ _ _ _ (by rw [pg_sp50 hL k o0]; exact Mn)
          rw [pg_sp50 hL k o0, pg_rdC k] at this
          have e3 : upd a_cells (nI (pg_A g (8 * p + pc p))).toNatClampNeg (a_opW (nI (8 * p + pc p)).toNatClampNeg >>> ((1 : Int32) &&& 31)) = upd a_cells (pg_A g (8 * p + pc p)) (nI (pg_W g (8 * p + pc p) / 2)) := by rw [ew, qa_h1 _ (by omega), qa_u (by omega)]
          exact ⟨i24, pk_in _ 3 hA, nm_r e3 ⟨vp_in_nI (by omega) (by omega), nm_r (qa_u (by omega)) (qx_log hl (br_t rfl ⟨p3, p3, nm_r (eu _ (M1 p (by omega))) this⟩))⟩⟩
        · have Mn := qx_MR (CE' := a_cells) hw I (Or.inr k) M (fun a ha => by
            rw [pg_memC I.1 hok.2.1 k, e8, em, if_neg (fun z => c z.2)]; exact M3 a ha)
          have := hpost _ _ _ _ _ _ _ _ (by rw [pg_sp50 hL k o0]; exact Mn)
          rw [pg_sp50 hL k o0, pg_rdC k] at this
          exact ⟨vp_in_nI (by omega) (by omega), nm_r (qa_u (by omega)) (qx_log hl (br_t rfl ⟨p3, p3, nm_r (eu _ (M1 p (by omega))) this⟩))⟩
      · have := hpost _ _ _ _ _ _ _ _ (by rw [pg_sp51 hL k (by omega)]; exact M)
        rw [pg_sp51 hL k (by omega)] at this
        exact br_f (by decide) this
    · rw [k]
      obtain ⟨hA1, hW3⟩ := k5 k
      have er : (2 : Int32) * nI p + a_opA (nI (8 * p + pc p)).toNatClampNeg = nI (2 * p + pg_A g (8 * p + pc p)) := by rw [ea, qa_2]
      have l2 := pg_regL hwk H p (pg_A g (8 * p + pc p)) (pc p)
      have ev : upd a_regs (nI (2 * p + pg_A g (8 * p + pc p))).toNatClampNeg ((a_regs (nI (2 * p + pg_A g (8 * p + pc p))).toNatClampNeg + a_opW (nI (8 * p + pc p)).toNatClampNeg) &&& 3) = upd a_regs (2 * p + pg_A g (8 * p + pc p)) (nI ((pg_reg g H p (pg_A g (8 * p + pc p)) (pc p) + pg_W g (8 * p + pc p)) % 4)) := by
        rw [ew, nI_clamp (by omega), M2 p _ (by omega) (by omega), nI_add, qa_a3 _ (by omega)]
      have Mn := qx_MQ (RE' := upd a_regs (2 * p + pg_A g (8 * p + pc p)) (nI ((pg_reg g H p (pg_A g (8 * p + pc p)) (pc p) + pg_W g (8 * p + pc p)) % 4))) (by rw [k]; decide) M (fun q r hq hr => by
        rw [pg_vrA k]
        by_cases y : q = p ∧ r = pg_A g (8 * p + pc p)
        · rw [if_pos y, y.1, y.2, pk_us]
        · rw [if_neg y, pk_un (by intro z; apply y; omega)]; exact M2 q r hq hr)
      have := hpost _ _ _ _ _ _ _ _ (by rw [pg_sp6 hL k]; exact Mn)
      rw [pg_sp6 hL k] at this
      exact br_f (by decide) (qx_S0 (k := 6) rfl (by decide) (by decide) (br_t rfl (br_f (by decide) (br_f (by decide) ⟨i24, nm_r er ⟨vp_in_nI (by omega) (by omega), i24, vp_in_nI (by omega) (by omega), nm_r ev (br_t rfl ⟨p3, p3, nm_r (eu _ (M1 p (by omega))) this⟩)⟩⟩))))
  · have := hpost _ _ _ _ _ _ _ _ (by rw [pg_sp3 hL]; exact M)
    rw [pg_sp3 hL] at this
    exact this
end
end
section
/-! X: drain, outcome -/
section
variable {f_procs f_addrs f_bufferDepth f_eventCount f_logSize f_orderSize f_seqLen f_searchMask f_searchStarted : Int32} {a_kindAt a_opA a_opW a_length a_events a_pcOf a_regs a_cells a_bufEvent a_bufValue a_bufSize a_log a_order a_codes a_codeCount a_made a_seq a_picked a_runPc a_runReg a_runMem a_runLast a_runValue a_runSource : Nat → Int32}
variable {g : pg_T} {pc : Nat → Nat} {H : List Nat} {p : Nat}
theorem qx_dr67 {b e : Nat} (hp : p < 3) (hb : b < 3) (hlen : H.length < 6) (hz : a_bufSize p = nI b) {post : Int32 → SX → Prop}
    (fin : ∀ BE BV, (∀ k, k < b → BE (3 * p + k) = a_bufEvent (3 * p + k + 1) ∧ BV (3 * p + k) = a_bufValue (3 * p + k + 1)) → (∀ j, (j < 3 * p ∨ 3 * p + 3 ≤ j) → BE j = a_bufEvent j ∧ BV j = a_bufValue j) → post 0 (f_procs, f_addrs, f_bufferDepth, f_eventCount, (nI (H.length + 1)), f_orderSize, f_seqLen, f_searchMask, f_searchStarted, a_kindAt, a_opA, a_opW, a_length, a_events, a_pcOf, a_regs, a_cells, BE, BV, a_bufSize, (upd a_log H.length (nI e)), a_order, a_codes, a_codeCount, a_made, a_seq, a_picked, a_runPc, a_runReg, a_runMem, a_runLast, a_runValue, a_runSource)) :
    ∀ m n k BE BV, k + m = b → m < n → (∀ j, j < k → BE (3 * p + j) = a_bufEvent (3 * p + j + 1) ∧ BV (3 * p + j) = a_bufValue (3 * p + j + 1)) → (∀ j, (j < 3 * p ∨ 3 * p + k ≤ j) → BE j = a_bufEvent j ∧ BV j = a_bufValue j) → wX_drain_67 post (nI p) (nI (3 * p)) (nI e) f_procs f_addrs f_bufferDepth f_eventCount (nI H.length) f_orderSize f_seqLen f_searchMask f_searchStarted n (nI k) a_kindAt a_opA a_opW a_length a_events a_pcOf a_regs a_cells BE BV a_bufSize a_log a_order a_codes a_codeCount a_made a_seq a_picked a_runPc a_runReg a_runMem a_runLast a_runValue a_runSource := by
  have eb : a_bufSize (nI p).toNatClampNeg = nI b := by rw [nI_clamp (by omega)]; exact hz
  intro m
  induction m with
  | zero =>
    intro n k BE BV hk hn h1 h2
    obtain ⟨n, rfl⟩ : ∃ k, n = k + 1 := ⟨n - 1, by omega⟩
    obtain rfl : k = b := by omega
    exact ⟨pk_in p 3 hp, pk_le k k (fun _ => qx_log hlen (fin BE BV h1 (fun j hj => h2 j (by omega)))) (fun z => absurd z (by omega)) eb rfl⟩
  | succ m ih =>
    intro n k BE BV hk hn h1 h2
    obtain ⟨n, rfl⟩ : ∃ k, n = k + 1 := ⟨n - 1, by omega⟩
    have e0 : nI (3 * p) + nI k = nI (3 * p + k) := nI_add _ _
    have e1 : nI (3 * p) + nI k + 1 = nI (3 * p + k + 1) := by rw [e0, nI_1]
    have e2 : ∀ f : Nat → Int32, upd f (nI (3 * p) + nI k).toNatClampNeg (f (nI (3 * p) + nI k + 1).toNatClampNeg) = upd f (3 * p + k) (f (3 * p + k + 1)) := fun f => by rw [e1, e0, nI_clamp (by omega), nI_clamp (by omega)]
    refine ⟨pk_in p 3 hp, pk_le b k (fun z => absurd z (by omega)) (fun _ => ⟨pk_in (3 * p + k + 1) 9 (by omega) e1, pk_in (3 * p + k) 9 (by omega) e0, nm_r (e2 BE) ⟨pk_in (3 * p + k + 1) 9 (by omega) e1, pk_in (3 * p + k) 9 (by omega) e0, nm_r (e2 BV) (nm_r (nI_1 k) ?_)⟩⟩) eb rfl⟩
    refine ih n (k + 1) _ _ (by omega) (by omega) (fun j hj => ?_) (fun j hj => ?_)
    · by_cases c : j = k
      · subst c
        rw [pk_us, pk_us]
        exact h2 (3 * p + j + 1) (by omega)
      · rw [pk_un (by omega), pk_un (by omega)]
        exact h1 j (by omega)
    · rw [pk_un (by omega), pk_un (by omega)]
      exact h2 j (by omega)
theorem qx_drain (hw : pg_wf g) (P : qx_P g a_kindAt a_opA a_opW a_length) (I : pg_inv g pc H) (hp : p < pg_n g) (M : qx_Mc g pc H a_pcOf a_regs a_cells a_bufEvent a_bufValue a_bufSize a_log f_logSize) {post : Int32 → SX → Prop}
    (hpost : ∀ PO RE CE BE BV BS LG ls, qx_Mc g (pg_dpf g pc H p).2.1 (pg_dpf g pc H p).2.2 PO RE CE BE BV BS LG ls → post (pg_dpf g pc H p).1 ((nI (pg_n g)), f_addrs, f_bufferDepth, f_eventCount, ls, f_orderSize, f_seqLen, f_searchMask, f_searchStarted, a_kindAt, a_opA, a_opW, a_length, a_events, PO, RE, CE, BE, BV, BS, LG, a_order, a_codes, a_codeCount, a_made, a_seq, a_picked, a_runPc, a_runReg, a_runMem, a_runLast, a_runValue, a_runSource)) : wpX_drain post ((nI (pg_n g)), f_addrs, f_bufferDepth, f_eventCount, f_logSize, f_orderSize, f_seqLen, f_searchMask, f_searchStarted, a_kindAt, a_opA, a_opW, a_length, a_events, a_pcOf, a_regs, a_cells, a_bufEvent, a_bufValue, a_bufSize, a_log, a_order, a_codes, a_codeCount, a_made, a_seq, a_picked, a_runPc, a_runReg, a_runMem, a_runLast, a_runValue, a_runSource) (nI p) := by
  have hn3 := hw.2.1
  have hd := I.2.2.2.2.1 p
  have hd3 := hw.2.2.2.2.1
  have h5 := pg_pc5 hw I p
  have M' := M
  obtain ⟨M1, M2, M3, M4, M5, M6, M7⟩ := M'
  have eb : a_bufSize (nI p).toNatClampNeg = nI (pg_ov g H (8 * p) (pc p)) := by rw [nI_clamp (by omega)]; exact M4 p (by omega)
  have p3 : vp_in (nI p) 3 := pk_in p 3 (by omega)
  unfold wpX_drain
  refine qx_bT hp (by omega) (br_f qa_10 ⟨p3, pk_eq (pg_ov g H (8 * p) (pc p)) 0 (fun o => ?_) (fun o => ?_) eb rfl⟩)
  · have := hpost _ _ _ _ _ _ _ _ (by rw [pg_dp0 o]; exact M)
    rw [pg_dp0 o] at this
    exact this
  · cases hq : pg_pd g H (8 * p) (pc p) with
    | nil => rw [← pg_pdl, hq] at o; exact absurd rfl o
    | cons e R =>
      have hok := pg_okD hw I hq
      have hl := pg_okl hw I.1 hok
      have h24 := pg_ev24 hw hok.1
      have hA := pg_A3 hw e
      obtain ⟨b1, b2⟩ := M5 p 0 (by omega) (by omega)
      rw [hq] at b1 b2
      have e1 : a_bufEvent (nI (3 * p)).toNatClampNeg = nI e := by rw [nI_clamp (by omega)]; exact b1
      have e2 : a_bufValue (nI (3 * p)).toNatClampNeg = nI (pg_wr g (pg_rd g H) e) := by rw [nI_clamp (by omega)]; exact b2
      have ea : a_opA (nI e).toNatClampNeg = nI (pg_A g e) := qa_oa P (by omega)
      have e3 : upd a_cells (a_opA (nI e).toNatClampNeg).toNatClampNeg (a_bufValue (nI (3 * p)).toNatClampNeg) = upd a_cells (pg_A g e) (nI (pg_wr g (pg_rd g H) e)) := by rw [ea, e2, qa_u (by omega)]
      have e4 : upd a_bufSize (nI p).toNatClampNeg (a_bufSize (nI p).toNatClampNeg - 1) = upd a_bufSize p (nI (pg_ov g H (8 * p) (pc p) - 1)) := by
        rw [eb, qa_u (by omega)]
        obtain ⟨b, hb⟩ : ∃ b, pg_ov g H (8 * p) (pc p) = b + 1 := ⟨pg_ov g H (8 * p) (pc p) - 1, by omega⟩
        rw [hb, nI_pred]; rfl
      refine nm_r (qa_3p p) ⟨pk_in (3 * p) 9 (by omega), nm_r e1 ⟨pk_in e 24 h24, pk_in (3 * p) 9 (by omega), pk_in _ 3 hA ea, nm_r e3 ⟨p3, p3, nm_r e4 ⟨4, ?_⟩⟩⟩⟩
      subst M6
      refine qx_dr67 (b := pg_ov g H (8 * p) (pc p) - 1) (by omega) (by omega) hl pk_us (fun BE BV f1 f2 => ?_) (pg_ov g H (8 * p) (pc p) - 1) 4 0 _ _ (by omega) (by omega) (fun j hj => absurd hj (by omega)) (fun j _ => ⟨rfl, rfl⟩)
      have Mn := qx_MD (BE' := BE) (BV' := BV) hw I (by omega) hq M (fun k hk => f1 k (by omega)) f2
      have := hpost _ _ _ _ _ _ _ _ (by rw [pg_dp1 hq]; exact Mn)
      rw [pg_dp1 hq] at this
      exact this
theorem qx_oc74 (hw : pg_wf g) {post : Int32 → Prop} (hm : ∀ a, a < 3 → a_cells a = nI (pg_mem g H a)) (hp : post (nI (pg_code g H))) : ∀ m n i, i + m = 3 → m < n → wX_outcome_74 post f_procs f_addrs f_bufferDepth f_eventCount f_logSize f_orderSize f_seqLen f_searchMask f_searchStarted a_kindAt a_opA a_opW a_length a_events a_pcOf a_regs a_cells a_bufEvent a_bufValue a_bufSize a_log a_order a_codes a_codeCount a_made a_seq a_picked a_runPc a_runReg a_runMem a_runLast a_runValue a_runSource n (nI (pg_sm (pg_cf g H) (6 + i))) (nI i) := by
  intro m
  induction m with
  | zero =>
    intro n i hi hn
    obtain ⟨n, rfl⟩ : ∃ k, n = k + 1 := ⟨n - 1, by omega⟩
    obtain rfl : i = 3 := by omega
    exact br_t (by decide) hp
  | succ m ih =>
    intro n i hi hn
    obtain ⟨n, rfl⟩ : ∃ k, n = k + 1 := ⟨n - 1, by omega⟩
    have hl := pg_memL hw.2.2.2.2.2.2.2.2.1 H i
    have h := ih n (i + 1) (by omega) (by omega)
    have e1 : nI (pg_sm (pg_cf g H) (6 + i)) + (a_cells (nI i).toNatClampNeg <<< (((12 : Int32) + (2 : Int32) * nI i) &&& 31)) = nI (pg_sm (pg_cf g H) (6 + (i + 1))) := by
      rw [nI_clamp (by omega), hm i (by omega), qa_sm hl (by omega), ← pg_cfm (g := g) (H := H)]
      rfl
    exact br_f (nI_ge (b := 3) (by omega) (by decide)) ⟨pk_in i 3 (by omega), nm_r e1 (nm_r (nI_1 i) h)⟩
theorem qx_oc47 (hw : pg_wf g) {post : Int32 → Prop} (hr : ∀ p r, p < 3 → r < 2 → a_regs (2 * p + r) = nI (pg_reg g H p r (pg_L g p))) (hm : ∀ a, a < 3 → a_cells a = nI (pg_mem g H a)) (hp : post (nI (pg_code g H))) : ∀ m n i, i + m = 6 → m < n → wX_outcome_47 post f_procs f_addrs f_bufferDepth f_eventCount f_logSize f_orderSize f_seqLen f_searchMask f_searchStarted a_kindAt a_opA a_opW a_length a_events a_pcOf a_regs a_cells a_bufEvent a_bufValue a_bufSize a_log a_order a_codes a_codeCount a_made a_seq a_picked a_runPc a_runReg a_runMem a_runLast a_runValue a_runSource n (nI (pg_sm (pg_cf g H) i)) (nI i) := by
  intro m
  induction m with
  | zero =>
    intro n i hi hn
    obtain ⟨n, rfl⟩ : ∃ k, n = k + 1 := ⟨n - 1, by omega⟩
    obtain rfl : i = 6 := by omega
    exact br_t (by decide) ⟨4, qx_oc74 hw hm hp 3 4 0 (by omega) (by omega)⟩
  | succ m ih =>
    intro n i hi hn
    obtain ⟨n, rfl⟩ : ∃ k, n = k + 1 := ⟨n - 1, by omega⟩
    have hl := pg_regL hw.2.2.2.2.2.2.2.2.1 H (i / 2) (i % 2) (pg_L g (i / 2))
    have h := ih n (i + 1) (by omega) (by omega)
    have e0 : a_regs i = nI (pg_reg g H (i / 2) (i % 2) (pg_L g (i / 2))) := by
      have := hr (i / 2) (i % 2) (by omega) (by omega)
      rw [show 2 * (i / 2) + i % 2 = i by omega] at this; exact this
    have e1 : nI (pg_sm (pg_cf g H) i) + (a_regs (nI i).toNatClampNeg <<< (((2 : Int32) * nI i) &&& 31)) = nI (pg_sm (pg_cf g H) (i + 1)) := by
      rw [nI_clamp (by omega), e0, qa_sr hl (by omega), ← pg_cfr (g := g) (H := H) (by omega)]
      rfl
    exact br_f (nI_ge (b := 6) (by omega) (by decide)) ⟨pk_in i 6 (by omega), nm_r e1 (nm_r (nI_1 i) h)⟩
theorem pg_pcL (hw : pg_wf g) (I : pg_inv g pc H) (h : ∀ p, p < pg_n g → pc p = pg_L g p ∧ pg_ov g H (8 * p) (pc p) = 0) : pc = pg_L g := by
  funext q
  by_cases c : q < pg_n g
  · exact (h q c).1
  · have h1 := I.2.1 q
    have h2 := hw.2.2.2.2.2.2.1 q (by omega)
    omega
theorem qx_outc (hw : pg_wf g) (P : qx_P g a_kindAt a_opA a_opW a_length) (I : pg_inv g pc H) (M : qx_Mc g pc H a_pcOf a_regs a_cells a_bufEvent a_bufValue a_bufSize a_log f_logSize) {post : Int32 → Prop}
    (h1 : (∀ p, p < pg_n g → pc p = pg_L g p ∧ pg_ov g H (8 * p) (pc p) = 0) → post (nI (pg_code g H))) (h0 : ¬ (∀ p, p < pg_n g → pc p = pg_L g p ∧ pg_ov g H (8 * p) (pc p) = 0) → post (-8)) : wpX_outcome post ((nI (pg_n g)), f_addrs, f_bufferDepth, f_eventCount, f_logSize, f_orderSize, f_seqLen, f_searchMask, f_searchStarted, a_kindAt, a_opA, a_opW, a_length, a_events, a_pcOf, a_regs, a_cells, a_bufEvent, a_bufValue, a_bufSize, a_log, a_order, a_codes, a_codeCount, a_made, a_seq, a_picked, a_runPc, a_runReg, a_runMem, a_runLast, a_runValue, a_runSource) := by
  have hn3 := hw.2.1
  obtain ⟨M1, M2, M3, M4, M5, M6, M7⟩ := M
  refine ⟨pg_n g + 1, ?_⟩
  suffices ∀ m n i, i + m = pg_n g → m < n → (∀ p, p < i → pc p = pg_L g p ∧ pg_ov g H (8 * p) (pc p) = 0) → wX_outcome_2 post (nI (pg_n g)) f_addrs f_bufferDepth f_eventCount f_logSize f_orderSize f_seqLen f_searchMask f_searchStarted a_kindAt a_opA a_opW a_length a_events a_pcOf a_regs a_cells a_bufEvent a_bufValue a_bufSize a_log a_order a_codes a_codeCount a_made a_seq a_picked a_runPc a_runReg a_runMem a_runLast a_runValue a_runSource n (nI i) from this (pg_n g) (pg_n g + 1) 0 (by omega) (by omega) (fun p hp => absurd hp (by omega))
  intro m
  induction m with
  | zero =>
    intro n i hi hn hf
    obtain ⟨n, rfl⟩ : ∃ k, n = k + 1 := ⟨n - 1, by omega⟩
    obtain rfl : i = pg_n g := by omega
    have e := pg_pcL hw I hf
    exact br_t (nI_le (Nat.le_refl _) (by omega)) ⟨7, qx_oc47 hw (fun p r hp hr => by rw [← e]; exact M2 p r hp hr) M3 (h1 hf) 6 7 0 (by omega) (by omega)⟩
  | succ m ih =>
    intro n i hi hn hf
    obtain ⟨n, rfl⟩ : ∃ k, n = k + 1 := ⟨n - 1, by omega⟩
    have i3 : vp_in (nI i) 3 := pk_in i 3 (by omega)
    have hpc := I.2.1 i
    have h5 := hw.2.2.2.2.2.1 i
    have hd := I.2.2.2.2.1 i
    have hd3 := hw.2.2.2.2.1
    refine br_f (nI_ge (by omega) (by omega)) ⟨i3, i3, pk_lt (pc i) (pg_L g i) (fun z => h0 (fun y => ?_)) (fun z => ⟨i3, pk_le (pg_ov g H (8 * i) (pc i)) 0 (fun w => nm_r (nI_1 i) (ih n (i + 1) (by omega) (by omega) (fun p hp => ?_))) (fun w => h0 (fun y => ?_)) (by rw [nI_clamp (by omega)]; exact M4 i (by omega)) rfl⟩) (by rw [nI_clamp (by omega)]; exact M1 i (by omega)) (qa_ln P (by omega))⟩
    · have := (y i (by omega)).1; omega
    · by_cases c : p = i
      · subst c; exact ⟨by omega, by omega⟩
      · exact hf p (by omega)
    · have := (y i (by omega)).2; omega
end
end
section
/-! X: judgeOrder, witness, replay -/
def pg_ab (g : pg_T) : List Nat → Prop
  | [] => False
  | e :: T => pg_ab g T ∨ pg_bk g T e
def pg_ad (g : pg_T) : List Nat → Prop
  | [] => False
  | e :: T => pg_ad g T ∨ (pg_K g e = 1 ∧ pg_d g < pg_ov g T (8 * (e / 8)) (e % 8))
theorem pg_abx {g : pg_T} : ∀ {Q T : List Nat}, pg_ab g T → pg_ab g (Q ++ T)
  | [], _, h => h
  | _ :: Q, _, h => Or.inl (pg_abx (Q := Q) h)
theorem pg_adx {g : pg_T} : ∀ {Q T : List Nat}, pg_ad g T → pg_ad g (Q ++ T)
  | [], _, h => h
  | _ :: Q, _, h => Or.inl (pg_adx (Q := Q) h)
theorem pg_abs {g : pg_T} {H : List Nat} {k : Nat} (h : pg_ab g (qa_sf H k)) : pg_ab g H := by
  obtain ⟨Q, e⟩ := qa_sfx H k
  rw [e]; exact pg_abx h
theorem pg_ads {g : pg_T} {H : List Nat} {k : Nat} (h : pg_ad g (qa_sf H k)) : pg_ad g H := by
  obtain ⟨Q, e⟩ := qa_sfx H k
  rw [e]; exact pg_adx h
theorem pg_vab {g : pg_T} : ∀ {H : List Nat}, H.Nodup → (∀ x, x ∈ H → pg_ev g x) → ¬ pg_ab g H → ¬ pg_ad g H → pg_vo g H
  | [], _, _, _, _ => trivial
  | e :: T, hn, he, hb, hd => by
    have hn' := List.nodup_cons.mp hn
    refine ⟨pg_vab hn'.2 (fun x hx => he x (List.mem_cons_of_mem _ hx)) (fun z => hb (Or.inl z)) (fun z => hd (Or.inl z)), he e List.mem_cons_self, hn'.1, fun z => hb (Or.inr z), fun k => ?_⟩
    by_cases c : pg_ov g T (8 * (e / 8)) (e % 8) ≤ pg_d g
    · exact c
    · exact absurd (Or.inr ⟨k, by omega⟩) hd
theorem pg_ovl {g : pg_T} {T : List Nat} {b : Nat} : ∀ i, pg_ov g T b i ≤ i
  | 0 => Nat.le_refl _
  | i + 1 => by
    have := pg_ovl (g := g) (T := T) (b := b) i
    simp only [pg_ov]
    split <;> omega
section
variable {f_procs f_addrs f_bufferDepth f_eventCount f_logSize f_orderSize f_seqLen f_searchMask f_searchStarted : Int32} {a_kindAt a_opA a_opW a_length a_events a_pcOf a_regs a_cells a_bufEvent a_bufValue a_bufSize a_log a_order a_codes a_codeCount a_made a_seq a_picked a_runPc a_runReg a_runMem a_runLast a_runValue a_runSource : Nat → Int32}
variable {g : pg_T} {H : List Nat}
theorem qx_jo112 (hw : pg_wf g) (P : qx_P g a_kindAt a_opA a_opW a_length) (hA : qa_Ar H a_order) {post : Int32 → SX → Prop} (hcp : pg_cp g H)
    (hc : ∀ SQ PC RG ME LA VA SO, qx_R g (pg_L g) H PC RG ME LA VA SO → post (nI (pg_code g H)) ((nI (pg_n g)), f_addrs, (nI (pg_d g)), (nI (pg_N g)), f_logSize, (nI H.length), (nI H.length), f_searchMask, f_searchStarted, a_kindAt, a_opA, a_opW, a_length, a_events, a_pcOf, a_regs, a_cells, a_bufEvent, a_bufValue, a_bufSize, a_log, a_order, a_codes, a_codeCount, a_made, SQ, a_picked, PC, RG, ME, LA, VA, SO)) :
    ∀ m n k SQ, k + m = H.length → m < n → (∀ i, i < k → SQ i = nI (qa_rg H i)) → wX_judgeOrder_112 post (nI (pg_n g)) f_addrs (nI (pg_d g)) (nI (pg_N g)) f_logSize (nI H.length) f_seqLen f_searchMask f_searchStarted n (nI k) a_kindAt a_opA a_opW a_length a_events a_pcOf a_regs a_cells a_bufEvent a_bufValue a_bufSize a_log a_order a_codes a_codeCount a_made SQ a_picked a_runPc a_runReg a_runMem a_runLast a_runValue a_runSource := by
  have hl : H.length ≤ 6 := by rw [hcp.2]; exact hw.2.2.2.2.2.2.2.2.2
  intro m
  induction m with
  | zero =>
    intro n k SQ hk hn hs
    obtain ⟨n, rfl⟩ : ∃ k, n = k + 1 := ⟨n - 1, by omega⟩
    obtain rfl : k = H.length := by omega
    exact br_t (nI_le (Nat.le_refl _) (by omega)) (qx_eval hw P hcp (qa_Ari hs) (fun PC RG ME LA VA SO R => hc SQ PC RG ME LA VA SO R))
  | succ m ih =>
    intro n k SQ hk hn hs
    obtain ⟨n, rfl⟩ : ∃ k, n = k + 1 := ⟨n - 1, by omega⟩
    have e1 : upd SQ (nI k).toNatClampNeg (a_order (nI k).toNatClampNeg) = upd SQ k (nI (qa_rg H k)) := by rw [nI_clamp (by omega), qa_Arg hA (by omega)]
    refine br_f (nI_ge (by omega) (by omega)) ⟨pk_in k 6 (by omega), pk_in k 6 (by omega), nm_r e1 (nm_r (nI_1 k) (ih n (k + 1) _ (by omega) (by omega) (fun i hi => ?_)))⟩
    by_cases c : i = k
    · subst c; exact pk_us
    · rw [pk_un c]; exact hs i (by omega)
theorem qx_jo64 (hw : pg_wf g) (P : qx_P g a_kindAt a_opA a_opW a_length) (hA : qa_Ar H a_order) {post : Int32 → SX → Prop} (hn' : H.Nodup) (he : ∀ x, x ∈ H → pg_ev g x) (hN : pg_N g ≤ H.length) (hb : ¬ pg_ab g H)
    (h10 : pg_ad g H → post (-10) ((nI (pg_n g)), f_addrs, (nI (pg_d g)), (nI (pg_N g)), f_logSize, (nI H.length), f_seqLen, f_searchMask, f_searchStarted, a_kindAt, a_opA, a_opW, a_length, a_events, a_pcOf, a_regs, a_cells, a_bufEvent, a_bufValue, a_bufSize, a_log, a_order, a_codes, a_codeCount, a_made, a_seq, a_picked, a_runPc, a_runReg, a_runMem, a_runLast, a_runValue, a_runSource))
    (hc : pg_cp g H → ∀ SQ PC RG ME LA VA SO, qx_R g (pg_L g) H PC RG ME LA VA SO → post (nI (pg_code g H)) ((nI (pg_n g)), f_addrs, (nI (pg_d g)), (nI (pg_N g)), f_logSize, (nI H.length), (nI H.length), f_searchMask, f_searchStarted, a_kindAt, a_opA, a_opW, a_length, a_events, a_pcOf, a_regs, a_cells, a_bufEvent, a_bufValue, a_bufSize, a_log, a_order, a_codes, a_codeCount, a_made, SQ, a_picked, PC, RG, ME, LA, VA, SO)) :
    ∀ m n k dm, k + m = H.length → m < n → qa_mk dm (qa_sf H k) → ¬ pg_ad g (qa_sf H k) → wX_judgeOrder_64 post (nI (pg_n g)) f_addrs (nI (pg_d g)) (nI (pg_N g)) f_logSize (nI H.length) f_seqLen f_searchMask f_searchStarted a_kindAt a_opA a_opW a_length a_events a_pcOf a_regs a_cells a_bufEvent a_bufValue a_bufSize a_log a_order a_codes a_codeCount a_made a_seq a_picked a_runPc a_runReg a_runMem a_runLast a_runValue a_runSource n dm (nI k) := by
  have hlN := pg_len hw hn' he
  have h6 : pg_N g ≤ 6 := hw.2.2.2.2.2.2.2.2.2
  have hd3 := hw.2.2.2.2.1
  intro m
  induction m with
  | zero =>
    intro n k dm hk hn hm hd
    obtain ⟨n, rfl⟩ : ∃ k, n = k + 1 := ⟨n - 1, by omega⟩
    obtain rfl : k = H.length := by omega
    rw [qa_sfL] at hd
    have hcp : pg_cp g H := ⟨pg_vab hn' he hb hd, by omega⟩
    exact br_t (nI_le (Nat.le_refl _) (by omega)) ⟨H.length + 1, qx_jo112 hw P hA hcp (hc hcp) H.length (H.length + 1) 0 a_seq (by omega) (by omega) (fun i hi => absurd hi (by omega))⟩
  | succ m ih =>
    intro n k dm hk hn hm hd
    obtain ⟨n, rfl⟩ : ∃ k, n = k + 1 := ⟨n - 1, by omega⟩
    have hS := qa_sfS (H := H) (k := k) (by omega)
    have h24 := pg_ev24 hw (he _ (qa_rgm (H := H) (i := k) (by omega)))
    have eo : a_order (nI k).toNatClampNeg = nI (qa_rg H k) := by rw [nI_clamp (by omega)]; exact qa_Arg hA (by omega)
    have nx : ¬ (pg_K g (qa_rg H k) = 1 ∧ pg_d g < pg_ov g (qa_sf H k) (8 * (qa_rg H k / 8)) (qa_rg H k % 8)) → wX_judgeOrder_64 post (nI (pg_n g)) f_addrs (nI (pg_d g)) (nI (pg_N g)) f_logSize (nI H.length) f_seqLen f_searchMask f_searchStarted a_kindAt a_opA a_opW a_length a_events a_pcOf a_regs a_cells a_bufEvent a_bufValue a_bufSize a_log a_order a_codes a_codeCount a_made a_seq a_picked a_runPc a_runReg a_runMem a_runLast a_runValue a_runSource n (dm ||| ((1 : Int32) <<< (nI (qa_rg H k) &&& 31))) (nI (k + 1)) := by
      intro hno
      refine ih n (k + 1) _ (by omega) (by omega) (hS ▸ qa_mks hm (by omega)) ?_
      rw [hS]
      exact fun z => z.elim hd hno
    have eb : dm ||| ((1 : Int32) <<< ((a_order (nI k).toNatClampNeg) &&& 31)) = dm ||| ((1 : Int32) <<< (nI (qa_rg H k) &&& 31)) := by rw [eo]
    refine br_f (nI_ge (by omega) (by omega)) ⟨pk_in k 6 (by omega), ?_⟩
    have key : wpX_overtaken (fun r_44 => (((r_44 ≤ nI (pg_d g) → (vp_in (nI k) 6 ∧ (∀ x1_80 : Int32, x1_80 = dm ||| ((1 : Int32) <<< ((a_order (nI k).toNatClampNeg) &&& 31)) → (∀ x2_81 : Int32, x2_81 = nI k + 1 → (wX_judgeOrder_64 post (nI (pg_n g)) f_addrs (nI (pg_d g)) (nI (pg_N g)) f_logSize (nI H.length) f_seqLen f_searchMask f_searchStarted a_kindAt a_opA a_opW a_length a_events a_pcOf a_regs a_cells a_bufEvent a_bufValue a_bufSize a_log a_order a_codes a_codeCount a_made a_seq a_picked a_runPc a_runReg a_runMem a_runLast a_runValue a_runSource n x1_80 x2_81))))) ∧ (¬ r_44 ≤ nI (pg_d g) → (post (-10) ((nI (pg_n g)), f_addrs, (nI (pg_d g)), (nI (pg_N g)), f_logSize, (nI H.length), f_seqLen, f_searchMask, f_searchStarted, a_kindAt, a_opA, a_opW, a_length, a_events, a_pcOf, a_regs, a_cells, a_bufEvent, a_bufValue, a_bufSize, a_log, a_order, a_codes, a_codeCount, a_made, a_seq, a_picked, a_runPc, a_runReg, a_runMem, a_runLast, a_runValue, a_runSource)))))) ((nI (pg_n g)), f_addrs, (nI (pg_d g)), (nI (pg_N g)), f_logSize, (nI H.length), f_seqLen, f_searchMask, f_searchStarted, a_kindAt, a_opA, a_opW, a_length, a_events, a_pcOf, a_regs, a_cells, a_bufEvent, a_bufValue, a_bufSize, a_log, a_order, a_codes, a_codeCount, a_made, a_seq, a_picked, a_runPc, a_runReg, a_runMem, a_runLast, a_runValue, a_runSource) (nI (qa_rg H k)) dm := by
      refine qx_ovt hw P h24 hm (fun k1 => ?_) (fun k1 => ?_)
      · have hol := pg_ovl (g := g) (T := qa_sf H k) (b := 8 * (qa_rg H k / 8)) (qa_rg H k % 8)
        refine pk_le (pg_ov g (qa_sf H k) (8 * (qa_rg H k / 8)) (qa_rg H k % 8)) (pg_d g) (fun z => ⟨pk_in k 6 (by omega), nm_r eb (nm_r (nI_1 k) (nx (fun y => by omega)))⟩) (fun z => h10 (pg_ads (k := k + 1) ?_))
        rw [hS]; exact Or.inr ⟨k1, z⟩
      · exact br_t (nI_le (a := 0) (by omega) (by omega)) ⟨pk_in k 6 (by omega), nm_r eb (nm_r (nI_1 k) (nx (fun y => k1 y.1)))⟩
    rw [← eo] at key
    exact key
theorem qx_jo18 (hw : pg_wf g) (P : qx_P g a_kindAt a_opA a_opW a_length) (hA : qa_Ar H a_order) {post : Int32 → SX → Prop} (hn' : H.Nodup) (he : ∀ x, x ∈ H → pg_ev g x) (hN : pg_N g ≤ H.length)
    (h9 : pg_ab g H → post (-9) ((nI (pg_n g)), f_addrs, (nI (pg_d g)), (nI (pg_N g)), f_logSize, (nI H.length), f_seqLen, f_searchMask, f_searchStarted, a_kindAt, a_opA, a_opW, a_length, a_events, a_pcOf, a_regs, a_cells, a_bufEvent, a_bufValue, a_bufSize, a_log, a_order, a_codes, a_codeCount, a_made, a_seq, a_picked, a_runPc, a_runReg, a_runMem, a_runLast, a_runValue, a_runSource))
    (h10 : ¬ pg_ab g H → pg_ad g H → post (-10) ((nI (pg_n g)), f_addrs, (nI (pg_d g)), (nI (pg_N g)), f_logSize, (nI H.length), f_seqLen, f_searchMask, f_searchStarted, a_kindAt, a_opA, a_opW, a_length, a_events, a_pcOf, a_regs, a_cells, a_bufEvent, a_bufValue, a_bufSize, a_log, a_order, a_codes, a_codeCount, a_made, a_seq, a_picked, a_runPc, a_runReg, a_runMem, a_runLast, a_runValue, a_runSource))
    (hc : pg_cp g H → ∀ SQ PC RG ME LA VA SO, qx_R g (pg_L g) H PC RG ME LA VA SO → post (nI (pg_code g H)) ((nI (pg_n g)), f_addrs, (nI (pg_d g)), (nI (pg_N g)), f_logSize, (nI H.length), (nI H.length), f_searchMask, f_searchStarted, a_kindAt, a_opA, a_opW, a_length, a_events, a_pcOf, a_regs, a_cells, a_bufEvent, a_bufValue, a_bufSize, a_log, a_order, a_codes, a_codeCount, a_made, SQ, a_picked, PC, RG, ME, LA, VA, SO)) :
    ∀ m n k dm, k + m = H.length → m < n → qa_mk dm (qa_sf H k) → ¬ pg_ab g (qa_sf H k) → wX_judgeOrder_18 post (nI (pg_n g)) f_addrs (nI (pg_d g)) (nI (pg_N g)) f_logSize (nI H.length) f_seqLen f_searchMask f_searchStarted a_kindAt a_opA a_opW a_length a_events a_pcOf a_regs a_cells a_bufEvent a_bufValue a_bufSize a_log a_order a_codes a_codeCount a_made a_seq a_picked a_runPc a_runReg a_runMem a_runLast a_runValue a_runSource n dm (nI k) := by
  have hlN := pg_len hw hn' he
  have h6 : pg_N g ≤ 6 := hw.2.2.2.2.2.2.2.2.2
  intro m
  induction m with
  | zero =>
    intro n k dm hk hn hm hd
    obtain ⟨n, rfl⟩ : ∃ k, n = k + 1 := ⟨n - 1, by omega⟩
    obtain rfl : k = H.length := by omega
    rw [qa_sfL] at hd
    refine br_t (nI_le (Nat.le_refl _) (by omega)) ⟨H.length + 1, qx_jo64 hw P hA hn' he hN hd (h10 hd) hc H.length (H.length + 1) 0 0 (by omega) (by omega) ?_ ?_⟩
    · rw [qa_sf0]; exact qa_mk0
    · rw [qa_sf0]; exact id
  | succ m ih =>
    intro n k dm hk hn hm hd
    obtain ⟨n, rfl⟩ : ∃ k, n = k + 1 := ⟨n - 1, by omega⟩
    have hS := qa_sfS (H := H) (k := k) (by omega)
    have h24 := pg_ev24 hw (he _ (qa_rgm (H := H) (i := k) (by omega)))
    have eo : a_order (nI k).toNatClampNeg = nI (qa_rg H k) := by rw [nI_clamp (by omega)]; exact qa_Arg hA (by omega)
    have eb : dm ||| ((1 : Int32) <<< ((a_order (nI k).toNatClampNeg) &&& 31)) = dm ||| ((1 : Int32) <<< (nI (qa_rg H k) &&& 31)) := by rw [eo]
    refine br_f (nI_ge (by omega) (by omega)) ⟨pk_in k 6 (by omega), ?_⟩
    have key : wpX_breaksProgram (fun r_83 => (((r_83 = 0 → (vp_in (nI k) 6 ∧ (∀ x1_119 : Int32, x1_119 = dm ||| ((1 : Int32) <<< ((a_order (nI k).toNatClampNeg) &&& 31)) → (∀ x2_120 : Int32, x2_120 = nI k + 1 → (wX_judgeOrder_18 post (nI (pg_n g)) f_addrs (nI (pg_d g)) (nI (pg_N g)) f_logSize (nI H.length) f_seqLen f_searchMask f_searchStarted a_kindAt a_opA a_opW a_length a_events a_pcOf a_regs a_cells a_bufEvent a_bufValue a_bufSize a_log a_order a_codes a_codeCount a_made a_seq a_picked a_runPc a_runReg a_runMem a_runLast a_runValue a_runSource n x1_119 x2_120))))) ∧ (¬ r_83 = 0 → (post (-9) ((nI (pg_n g)), f_addrs, (nI (pg_d g)), (nI (pg_N g)), f_logSize, (nI H.length), f_seqLen, f_searchMask, f_searchStarted, a_kindAt, a_opA, a_opW, a_length, a_events, a_pcOf, a_regs, a_cells, a_bufEvent, a_bufValue, a_bufSize, a_log, a_order, a_codes, a_codeCount, a_made, a_seq, a_picked, a_runPc, a_runReg, a_runMem, a_runLast, a_runValue, a_runSource)))))) ((nI (pg_n g)), f_addrs, (nI (pg_d g)), (nI (pg_N g)), f_logSize, (nI H.length), f_seqLen, f_searchMask, f_searchStarted, a_kindAt, a_opA, a_opW, a_length, a_events, a_pcOf, a_regs, a_cells, a_bufEvent, a_bufValue, a_bufSize, a_log, a_order, a_codes, a_codeCount, a_made, a_seq, a_picked, a_runPc, a_runReg, a_runMem, a_runLast, a_runValue, a_runSource) (nI (qa_rg H k)) dm := by
      refine qx_brk hw P h24 hm (fun b => br_f qa_10 (h9 (pg_abs (k := k + 1) ?_))) (fun b => br_t rfl ⟨pk_in k 6 (by omega), nm_r eb (nm_r (nI_1 k) (ih n (k + 1) _ (by omega) (by omega) (hS ▸ qa_mks hm (by omega)) ?_))⟩)
      · rw [hS]; exact Or.inr b
      · rw [hS]; exact fun z => z.elim hd b
    rw [← eo] at key
    exact key
theorem qx_jo (hw : pg_wf g) (P : qx_P g a_kindAt a_opA a_opW a_length) (hA : qa_Ar H a_order) {post : Int32 → SX → Prop} (hn' : H.Nodup) (he : ∀ x, x ∈ H → pg_ev g x)
    (h8 : H.length < pg_N g → post (-8) ((nI (pg_n g)), f_addrs, (nI (pg_d g)), (nI (pg_N g)), f_logSize, (nI H.length), f_seqLen, f_searchMask, f_searchStarted, a_kindAt, a_opA, a_opW, a_length, a_events, a_pcOf, a_regs, a_cells, a_bufEvent, a_bufValue, a_bufSize, a_log, a_order, a_codes, a_codeCount, a_made, a_seq, a_picked, a_runPc, a_runReg, a_runMem, a_runLast, a_runValue, a_runSource))
    (h9 : pg_N g ≤ H.length → pg_ab g H → post (-9) ((nI (pg_n g)), f_addrs, (nI (pg_d g)), (nI (pg_N g)), f_logSize, (nI H.length), f_seqLen, f_searchMask, f_searchStarted, a_kindAt, a_opA, a_opW, a_length, a_events, a_pcOf, a_regs, a_cells, a_bufEvent, a_bufValue, a_bufSize, a_log, a_order, a_codes, a_codeCount, a_made, a_seq, a_picked, a_runPc, a_runReg, a_runMem, a_runLast, a_runValue, a_runSource))
    (h10 : pg_N g ≤ H.length → ¬ pg_ab g H → pg_ad g H → post (-10) ((nI (pg_n g)), f_addrs, (nI (pg_d g)), (nI (pg_N g)), f_logSize, (nI H.length), f_seqLen, f_searchMask, f_searchStarted, a_kindAt, a_opA, a_opW, a_length, a_events, a_pcOf, a_regs, a_cells, a_bufEvent, a_bufValue, a_bufSize, a_log, a_order, a_codes, a_codeCount, a_made, a_seq, a_picked, a_runPc, a_runReg, a_runMem, a_runLast, a_runValue, a_runSource))
    (hc : pg_cp g H → ∀ SQ PC RG ME LA VA SO, qx_R g (pg_L g) H PC RG ME LA VA SO → post (nI (pg_code g H)) ((nI (pg_n g)), f_addrs, (nI (pg_d g)), (nI (pg_N g)), f_logSize, (nI H.length), (nI H.length), f_searchMask, f_searchStarted, a_kindAt, a_opA, a_opW, a_length, a_events, a_pcOf, a_regs, a_cells, a_bufEvent, a_bufValue, a_bufSize, a_log, a_order, a_codes, a_codeCount, a_made, SQ, a_picked, PC, RG, ME, LA, VA, SO)) :
    wpX_judgeOrder post ((nI (pg_n g)), f_addrs, (nI (pg_d g)), (nI (pg_N g)), f_logSize, (nI H.length), f_seqLen, f_searchMask, f_searchStarted, a_kindAt, a_opA, a_opW, a_length, a_events, a_pcOf, a_regs, a_cells, a_bufEvent, a_bufValue, a_bufSize, a_log, a_order, a_codes, a_codeCount, a_made, a_seq, a_picked, a_runPc, a_runReg, a_runMem, a_runLast, a_runValue, a_runSource) := by
  have hlN := pg_len hw hn' he
  have h6 : pg_N g ≤ 6 := hw.2.2.2.2.2.2.2.2.2
  refine pk_le (pg_N g) H.length (fun z => ⟨H.length + 1, qx_jo18 hw P hA hn' he z (h9 z) (h10 z) hc H.length (H.length + 1) 0 0 (by omega) (by omega) ?_ ?_⟩) (fun z => h8 z)
  · rw [qa_sf0]; exact qa_mk0
  · rw [qa_sf0]; exact id
theorem qx_wi33 {T : List Nat} (hT : T.length ≤ 6) (hS : qa_Ar T a_seq) {post : Int32 → SX → Prop} (hp : ∀ OR, qa_Ar T OR → post 0 (f_procs, f_addrs, f_bufferDepth, f_eventCount, f_logSize, (nI T.length), (nI T.length), f_searchMask, f_searchStarted, a_kindAt, a_opA, a_opW, a_length, a_events, a_pcOf, a_regs, a_cells, a_bufEvent, a_bufValue, a_bufSize, a_log, OR, a_codes, a_codeCount, a_made, a_seq, a_picked, a_runPc, a_runReg, a_runMem, a_runLast, a_runValue, a_runSource)) :
    ∀ m n k OR, k + m = T.length → m < n → (∀ i, i < k → OR i = nI (qa_rg T i)) → wX_witness_33 post f_procs f_addrs f_bufferDepth f_eventCount f_logSize f_orderSize (nI T.length) f_searchMask f_searchStarted n (nI k) a_kindAt a_opA a_opW a_length a_events a_pcOf a_regs a_cells a_bufEvent a_bufValue a_bufSize a_log OR a_codes a_codeCount a_made a_seq a_picked a_runPc a_runReg a_runMem a_runLast a_runValue a_runSource := by
  intro m
  induction m with
  | zero =>
    intro n k OR hk hn hs
    obtain ⟨n, rfl⟩ : ∃ k, n = k + 1 := ⟨n - 1, by omega⟩
    obtain rfl : k = T.length := by omega
    exact br_t (nI_le (Nat.le_refl _) (by omega)) (hp OR (qa_Ari hs))
  | succ m ih =>
    intro n k OR hk hn hs
    obtain ⟨n, rfl⟩ : ∃ k, n = k + 1 := ⟨n - 1, by omega⟩
    have e1 : upd OR (nI k).toNatClampNeg (a_seq (nI k).toNatClampNeg) = upd OR k (nI (qa_rg T k)) := by rw [nI_clamp (by omega), qa_Arg hS (by omega)]
    refine br_f (nI_ge (by omega) (by omega)) ⟨pk_in k 6 (by omega), pk_in k 6 (by omega), nm_r e1 (nm_r (nI_1 k) (ih n (k + 1) _ (by omega) (by omega) (fun i hi => ?_)))⟩
    by_cases c : i = k
    · subst c; exact pk_us
    · rw [pk_un c]; exact hs i (by omega)
theorem qx_wi1 (hw : pg_wf g) (P : qx_P g a_kindAt a_opA a_opW a_length) {w : Int32} {post : Int32 → SX → Prop} {lf t n : Nat} (ht : t < 1024)
    (NX : ∀ post' : Int32 → SX → Prop, (∀ T MS SQ PK, pg_cp g T → qx_SS g T MS SQ PK → (∀ O, pg_cp g O → pg_lx O T → nI (pg_code g O) ≠ w) → qs_M g qs_F 0 T 0 + 1 ≤ lf → qs_M g (fun m => 1 + qs_T m) 1 T 0 ≤ 3913 → post' 1 ((nI (pg_n g)), f_addrs, (nI (pg_d g)), (nI (pg_N g)), f_logSize, f_orderSize, (nI T.length), MS, 1, a_kindAt, a_opA, a_opW, a_length, a_events, a_pcOf, a_regs, a_cells, a_bufEvent, a_bufValue, a_bufSize, a_log, a_order, a_codes, a_codeCount, a_made, SQ, PK, a_runPc, a_runReg, a_runMem, a_runLast, a_runValue, a_runSource)) → ((∀ O, pg_cp g O → nI (pg_code g O) ≠ w) → ∀ sl MS SQ PK, post' 0 ((nI (pg_n g)), f_addrs, (nI (pg_d g)), (nI (pg_N g)), f_logSize, f_orderSize, sl, MS, 1, a_kindAt, a_opA, a_opW, a_length, a_events, a_pcOf, a_regs, a_cells, a_bufEvent, a_bufValue, a_bufSize, a_log, a_order, a_codes, a_codeCount, a_made, SQ, PK, a_runPc, a_runReg, a_runMem, a_runLast, a_runValue, a_runSource)) → wpX_nextOrder post' ((nI (pg_n g)), f_addrs, (nI (pg_d g)), (nI (pg_N g)), f_logSize, f_orderSize, f_seqLen, f_searchMask, f_searchStarted, a_kindAt, a_opA, a_opW, a_length, a_events, a_pcOf, a_regs, a_cells, a_bufEvent, a_bufValue, a_bufSize, a_log, a_order, a_codes, a_codeCount, a_made, a_seq, a_picked, a_runPc, a_runReg, a_runMem, a_runLast, a_runValue, a_runSource))
    (IH : ∀ T MS SQ PK PC RG ME LA VA SO, pg_cp g T → qx_SS g T MS SQ PK → (∀ O, pg_cp g O → pg_lx O T → nI (pg_code g O) ≠ w) → nI (pg_code g T) ≠ w → qs_M g qs_F 0 T 0 + 1 ≤ lf → qs_M g (fun m => 1 + qs_T m) 1 T 0 ≤ 3913 → wX_witness_6 post w n (nI (t + 1)) (nI (pg_n g)) f_addrs (nI (pg_d g)) (nI (pg_N g)) f_logSize f_orderSize (nI T.length) MS 1 a_kindAt a_opA a_opW a_length a_events a_pcOf a_regs a_cells a_bufEvent a_bufValue a_bufSize a_log a_order a_codes a_codeCount a_made SQ PK PC RG ME LA VA SO)
    (hEnd : (∀ O, pg_cp g O → nI (pg_code g O) ≠ w) → ∀ sl MS SQ PK, post (-11) ((nI (pg_n g)), f_addrs, (nI (pg_d g)), (nI (pg_N g)), f_logSize, f_orderSize, sl, MS, 1, a_kindAt, a_opA, a_opW, a_length, a_events, a_pcOf, a_regs, a_cells, a_bufEvent, a_bufValue, a_bufSize, a_log, a_order, a_codes, a_codeCount, a_made, SQ, PK, a_runPc, a_runReg, a_runMem, a_runLast, a_runValue, a_runSource))
    (hF : ∀ T, pg_cp g T → nI (pg_code g T) = w → (∀ O, pg_cp g O → pg_lx O T → nI (pg_code g O) ≠ w) → ∀ MS SQ PK PC RG ME LA VA SO OR, qa_Ar T OR → post 0 ((nI (pg_n g)), f_addrs, (nI (pg_d g)), (nI (pg_N g)), f_logSize, (nI T.length), (nI T.length), MS, 1, a_kindAt, a_opA, a_opW, a_length, a_events, a_pcOf, a_regs, a_cells, a_bufEvent, a_bufValue, a_bufSize, a_log, OR, a_codes, a_codeCount, a_made, SQ, PK, PC, RG, ME, LA, VA, SO)) :
    wX_witness_6 post w (n + 1) (nI t) (nI (pg_n g)) f_addrs (nI (pg_d g)) (nI (pg_N g)) f_logSize f_orderSize f_seqLen f_searchMask f_searchStarted a_kindAt a_opA a_opW a_length a_events a_pcOf a_regs a_cells a_bufEvent a_bufValue a_bufSize a_log a_order a_codes a_codeCount a_made a_seq a_picked a_runPc a_runReg a_runMem a_runLast a_runValue a_runSource := by
  refine br_f (nI_ge (b := 1024) ht (by decide)) (NX _ (fun T MS SQ PK hcp hS hG hlf hst => br_f qa_10 ?_) (fun hall sl MS SQ PK => br_t rfl (hEnd hall sl MS SQ PK)))
  have hl : T.length ≤ 6 := by rw [hcp.2]; exact hw.2.2.2.2.2.2.2.2.2
  refine qx_eval hw P hcp hS.2.1 (fun PC RG ME LA VA SO R => br_c (fun z => ?_) (fun z => ?_))
  · exact ⟨T.length + 1, qx_wi33 hl hS.2.1 (fun OR hOR => hF T hcp z hG MS SQ PK PC RG ME LA VA SO OR hOR) T.length (T.length + 1) 0 _ (by omega) (by omega) (fun i hi => absurd hi (by omega))⟩
  · exact nm_r (nI_1 t) (IH T MS SQ PK PC RG ME LA VA SO hcp hS hG z hlf hst)
theorem qx_wi2 (hw : pg_wf g) (P : qx_P g a_kindAt a_opA a_opW a_length) (hE : qa_Ar (pg_es g 24) a_events) {w : Int32} {post : Int32 → SX → Prop}
    (hEnd : (∀ O, pg_cp g O → nI (pg_code g O) ≠ w) → ∀ sl MS SQ PK PC RG ME LA VA SO, post (-11) ((nI (pg_n g)), f_addrs, (nI (pg_d g)), (nI (pg_N g)), f_logSize, f_orderSize, sl, MS, 1, a_kindAt, a_opA, a_opW, a_length, a_events, a_pcOf, a_regs, a_cells, a_bufEvent, a_bufValue, a_bufSize, a_log, a_order, a_codes, a_codeCount, a_made, SQ, PK, PC, RG, ME, LA, VA, SO))
    (hF : ∀ T, pg_cp g T → nI (pg_code g T) = w → (∀ O, pg_cp g O → pg_lx O T → nI (pg_code g O) ≠ w) → ∀ MS SQ PK PC RG ME LA VA SO OR, qa_Ar T OR → post 0 ((nI (pg_n g)), f_addrs, (nI (pg_d g)), (nI (pg_N g)), f_logSize, (nI T.length), (nI T.length), MS, 1, a_kindAt, a_opA, a_opW, a_length, a_events, a_pcOf, a_regs, a_cells, a_bufEvent, a_bufValue, a_bufSize, a_log, OR, a_codes, a_codeCount, a_made, SQ, PK, PC, RG, ME, LA, VA, SO)) :
    ∀ m n t T MS SQ PK PC RG ME LA VA SO, qs_M g qs_F 0 T 0 < m → m < n → t + qs_M g qs_F 0 T 0 ≤ 721 → pg_cp g T → qx_SS g T MS SQ PK → (∀ O, pg_cp g O → pg_lx O T → nI (pg_code g O) ≠ w) → nI (pg_code g T) ≠ w → qs_M g (fun m => 1 + qs_T m) 1 T 0 ≤ 3913 → wX_witness_6 post w n (nI t) (nI (pg_n g)) f_addrs (nI (pg_d g)) (nI (pg_N g)) f_logSize f_orderSize (nI T.length) MS 1 a_kindAt a_opA a_opW a_length a_events a_pcOf a_regs a_cells a_bufEvent a_bufValue a_bufSize a_log a_order a_codes a_codeCount a_made SQ PK PC RG ME LA VA SO := by
  intro m
  induction m with
  | zero => intro n t T MS SQ PK PC RG ME LA VA SO h; omega
  | succ m ih =>
    intro n t T MS SQ PK PC RG ME LA VA SO hm hn ht hcp hS hG hT hst
    obtain ⟨n, rfl⟩ : ∃ k, n = k + 1 := ⟨n - 1, by omega⟩
    refine qx_wi1 hw P (lf := qs_M g qs_F 0 T 0) (by omega) (fun post' h1 h0 => qx_nextS hw P hE hcp hS hG hT hst h1 h0) ?_ (fun hall sl MS SQ PK => hEnd hall sl MS SQ PK PC RG ME LA VA SO) hF
    intro T' MS' SQ' PK' PC' RG' ME' LA' VA' SO' hcp' hS' hG' hT' hlf' hst'
    exact ih n (t + 1) T' MS' SQ' PK' PC' RG' ME' LA' VA' SO' (by omega) (by omega) (by omega) hcp' hS' hG' hT' hst'
theorem qx_witness (hw : pg_wf g) (P : qx_P g a_kindAt a_opA a_opW a_length) (hE : qa_Ar (pg_es g 24) a_events) {w : Int32} {post : Int32 → SX → Prop}
    (hEnd : (∀ O, pg_cp g O → nI (pg_code g O) ≠ w) → ∀ sl MS SQ PK PC RG ME LA VA SO, post (-11) ((nI (pg_n g)), f_addrs, (nI (pg_d g)), (nI (pg_N g)), f_logSize, f_orderSize, sl, MS, 1, a_kindAt, a_opA, a_opW, a_length, a_events, a_pcOf, a_regs, a_cells, a_bufEvent, a_bufValue, a_bufSize, a_log, a_order, a_codes, a_codeCount, a_made, SQ, PK, PC, RG, ME, LA, VA, SO))
    (hF : ∀ T, pg_cp g T → nI (pg_code g T) = w → (∀ O, pg_cp g O → pg_lx O T → nI (pg_code g O) ≠ w) → ∀ MS SQ PK PC RG ME LA VA SO OR, qa_Ar T OR → post 0 ((nI (pg_n g)), f_addrs, (nI (pg_d g)), (nI (pg_N g)), f_logSize, (nI T.length), (nI T.length), MS, 1, a_kindAt, a_opA, a_opW, a_length, a_events, a_pcOf, a_regs, a_cells, a_bufEvent, a_bufValue, a_bufSize, a_log, OR, a_codes, a_codeCount, a_made, SQ, PK, PC, RG, ME, LA, VA, SO)) :
    wpX_witness post ((nI (pg_n g)), f_addrs, (nI (pg_d g)), (nI (pg_N g)), f_logSize, f_orderSize, f_seqLen, f_searchMask, f_searchStarted, a_kindAt, a_opA, a_opW, a_length, a_events, a_pcOf, a_regs, a_cells, a_bufEvent, a_bufValue, a_bufSize, a_log, a_order, a_codes, a_codeCount, a_made, a_seq, a_picked, a_runPc, a_runReg, a_runMem, a_runLast, a_runValue, a_runSource) w := by
  unfold wpX_witness
  refine (⟨800, ?_⟩ : ∃ n6 : Nat, wX_witness_6 post w n6 0 (nI (pg_n g)) f_addrs (nI (pg_d g)) (nI (pg_N g)) f_logSize f_orderSize 0 0 0 a_kindAt a_opA a_opW a_length a_events a_pcOf a_regs a_cells a_bufEvent a_bufValue a_bufSize a_log a_order a_codes a_codeCount a_made a_seq a_picked a_runPc a_runReg a_runMem a_runLast a_runValue a_runSource)
  refine qx_wi1 hw P (n := 799) (t := 0) (lf := 720) (by omega) (fun post' h1 h0 => qx_next0 hw P hE h1 h0) ?_ (fun hall sl MS SQ PK => hEnd hall sl MS SQ PK _ _ _ _ _ _) hF
  intro T' MS' SQ' PK' PC' RG' ME' LA' VA' SO' hcp' hS' hG' hT' hlf' hst'
  exact qx_wi2 hw P hE hEnd hF 798 799 1 T' MS' SQ' PK' PC' RG' ME' LA' VA' SO' (by omega) (by omega) (by omega) hcp' hS' hG' hT' hst'
end
end
section
/-! X: replay, source -/
theorem pg_cpo {g : pg_T} (hw : pg_wf g) {H : List Nat} (h : pg_cp g H) (p : Nat) : pg_ov g H (8 * p) (pg_L g p) = 0 := by
  cases hq : pg_pd g H (8 * p) (pg_L g p) with
  | nil => rw [← pg_pdl, hq]; rfl
  | cons e R =>
    obtain ⟨h1, h2, h3, h4, _⟩ := pg_pdh hq
    obtain ⟨j, rfl⟩ : ∃ j, e = 8 * p + j := ⟨e - 8 * p, by omega⟩
    exact absurd (pg_cpa hw h (pg_evp hw (by omega) (pg_SM h3))) h4
theorem pg_cpi {g : pg_T} (hw : pg_wf g) {H : List Nat} (h : pg_cp g H) : pg_inv g (pg_L g) H := by
  refine ⟨h.1, fun _ => Nat.le_refl _, fun e he => ((pg_vod h.1).2 e he).2.1, fun p i hi hr => pg_cpa hw h (pg_evp hw hi (pg_RM hr)), fun p => ?_, fun p f s hf _ hs hS => pg_cpa hw h (pg_evp hw (by omega) (pg_SM hS))⟩
  rw [pg_cpo hw h]; exact Nat.zero_le _
section
variable {f_procs f_addrs f_bufferDepth f_eventCount f_logSize f_orderSize f_seqLen f_searchMask f_searchStarted : Int32} {a_kindAt a_opA a_opW a_length a_events a_pcOf a_regs a_cells a_bufEvent a_bufValue a_bufSize a_log a_order a_codes a_codeCount a_made a_seq a_picked a_runPc a_runReg a_runMem a_runLast a_runValue a_runSource : Nat → Int32}
variable {g : pg_T} {H : List Nat}
theorem qx_re80 {x : Int32} (hH : H.length ≤ 6) (hA : qa_Ar H a_order) {post : Int32 → SX → Prop} (hp : ∀ LG, qa_Ar H LG → post x (f_procs, f_addrs, f_bufferDepth, f_eventCount, (nI H.length), (nI H.length), f_seqLen, f_searchMask, f_searchStarted, a_kindAt, a_opA, a_opW, a_length, a_events, a_pcOf, a_regs, a_cells, a_bufEvent, a_bufValue, a_bufSize, LG, a_order, a_codes, a_codeCount, a_made, a_seq, a_picked, a_runPc, a_runReg, a_runMem, a_runLast, a_runValue, a_runSource)) :
    ∀ m n k LG, k + m = H.length → m < n → (∀ i, i < k → LG i = nI (qa_rg H i)) → wX_replay_80 post x f_procs f_addrs f_bufferDepth f_eventCount f_logSize (nI H.length) f_seqLen f_searchMask f_searchStarted n (nI k) a_kindAt a_opA a_opW a_length a_events a_pcOf a_regs a_cells a_bufEvent a_bufValue a_bufSize LG a_order a_codes a_codeCount a_made a_seq a_picked a_runPc a_runReg a_runMem a_runLast a_runValue a_runSource := by
  intro m
  induction m with
  | zero =>
    intro n k LG hk hn hs
    obtain ⟨n, rfl⟩ : ∃ k, n = k + 1 := ⟨n - 1, by omega⟩
    obtain rfl : k = H.length := by omega
    exact br_t (nI_le (Nat.le_refl _) (by omega)) (hp LG (qa_Ari hs))
  | succ m ih =>
    intro n k LG hk hn hs
    obtain ⟨n, rfl⟩ : ∃ k, n = k + 1 := ⟨n - 1, by omega⟩
    have e1 : upd LG (nI k).toNatClampNeg (a_order (nI k).toNatClampNeg) = upd LG k (nI (qa_rg H k)) := by rw [nI_clamp (by omega), qa_Arg hA (by omega)]
    refine br_f (nI_ge (by omega) (by omega)) ⟨pk_in k 6 (by omega), pk_in k 6 (by omega), nm_r e1 (nm_r (nI_1 k) (ih n (k + 1) _ (by omega) (by omega) (fun i hi => ?_)))⟩
    by_cases c : i = k
    · subst c; exact pk_us
    · rw [pk_un c]; exact hs i (by omega)
theorem qx_re54 {x : Int32} (hH : H.length ≤ 6) (hA : qa_Ar H a_order) {post : Int32 → SX → Prop} (hp : ∀ RE LG, (∀ r, r < 6 → RE r = a_runReg r) → qa_Ar H LG → post x (f_procs, f_addrs, f_bufferDepth, f_eventCount, (nI H.length), (nI H.length), f_seqLen, f_searchMask, f_searchStarted, a_kindAt, a_opA, a_opW, a_length, a_events, a_pcOf, RE, a_cells, a_bufEvent, a_bufValue, a_bufSize, LG, a_order, a_codes, a_codeCount, a_made, a_seq, a_picked, a_runPc, a_runReg, a_runMem, a_runLast, a_runValue, a_runSource)) :
    ∀ m n k RE, k + m = 6 → m < n → (∀ r, r < k → RE r = a_runReg r) → wX_replay_54 post x f_procs f_addrs f_bufferDepth f_eventCount f_logSize (nI H.length) f_seqLen f_searchMask f_searchStarted n (nI k) a_kindAt a_opA a_opW a_length a_events a_pcOf RE a_cells a_bufEvent a_bufValue a_bufSize a_log a_order a_codes a_codeCount a_made a_seq a_picked a_runPc a_runReg a_runMem a_runLast a_runValue a_runSource := by
  intro m
  induction m with
  | zero =>
    intro n k RE hk hn hs
    obtain ⟨n, rfl⟩ : ∃ k, n = k + 1 := ⟨n - 1, by omega⟩
    obtain rfl : k = 6 := by omega
    exact br_t (by decide) ⟨H.length + 1, qx_re80 hH hA (fun LG h => hp RE LG hs h) H.length (H.length + 1) 0 _ (by omega) (by omega) (fun i hi => absurd hi (by omega))⟩
  | succ m ih =>
    intro n k RE hk hn hs
    obtain ⟨n, rfl⟩ : ∃ k, n = k + 1 := ⟨n - 1, by omega⟩
    have e1 : upd RE (nI k).toNatClampNeg (a_runReg (nI k).toNatClampNeg) = upd RE k (a_runReg k) := by rw [nI_clamp (by omega)]
    refine br_f (nI_ge (b := 6) (by omega) (by decide)) ⟨pk_in k 6 (by omega), pk_in k 6 (by omega), nm_r e1 (nm_r (nI_1 k) (ih n (k + 1) _ (by omega) (by omega) (fun i hi => ?_)))⟩
    by_cases c : i = k
    · subst c; exact pk_us
    · rw [pk_un c]; exact hs i (by omega)
theorem qx_re17 {x : Int32} (hH : H.length ≤ 6) (hA : qa_Ar H a_order) {post : Int32 → SX → Prop} (hp : ∀ PO RE CE LG, (∀ p, p < 3 → PO p = a_length p ∧ CE p = a_runMem p) → (∀ r, r < 6 → RE r = a_runReg r) → qa_Ar H LG → post x (f_procs, f_addrs, f_bufferDepth, f_eventCount, (nI H.length), (nI H.length), f_seqLen, f_searchMask, f_searchStarted, a_kindAt, a_opA, a_opW, a_length, a_events, PO, RE, CE, a_bufEvent, a_bufValue, a_bufSize, LG, a_order, a_codes, a_codeCount, a_made, a_seq, a_picked, a_runPc, a_runReg, a_runMem, a_runLast, a_runValue, a_runSource)) :
    ∀ m n k PO CE, k + m = 3 → m < n → (∀ p, p < k → PO p = a_length p ∧ CE p = a_runMem p) → wX_replay_17 post x f_procs f_addrs f_bufferDepth f_eventCount f_logSize (nI H.length) f_seqLen f_searchMask f_searchStarted n (nI k) a_kindAt a_opA a_opW a_length a_events PO a_regs CE a_bufEvent a_bufValue a_bufSize a_log a_order a_codes a_codeCount a_made a_seq a_picked a_runPc a_runReg a_runMem a_runLast a_runValue a_runSource := by
  intro m
  induction m with
  | zero =>
    intro n k PO CE hk hn hs
    obtain ⟨n, rfl⟩ : ∃ k, n = k + 1 := ⟨n - 1, by omega⟩
    obtain rfl : k = 3 := by omega
    exact br_t (by decide) ⟨7, qx_re54 hH hA (fun RE LG h1 h2 => hp PO RE CE LG hs h1 h2) 6 7 0 _ (by omega) (by omega) (fun i hi => absurd hi (by omega))⟩
  | succ m ih =>
    intro n k PO CE hk hn hs
    obtain ⟨n, rfl⟩ : ∃ k, n = k + 1 := ⟨n - 1, by omega⟩
    have e1 : upd PO (nI k).toNatClampNeg (a_length (nI k).toNatClampNeg) = upd PO k (a_length k) := by rw [nI_clamp (by omega)]
    have e2 : upd CE (nI k).toNatClampNeg (a_runMem (nI k).toNatClampNeg) = upd CE k (a_runMem k) := by rw [nI_clamp (by omega)]
    have k3 : vp_in (nI k) 3 := pk_in k 3 (by omega)
    refine br_f (nI_ge (b := 3) (by omega) (by decide)) ⟨k3, k3, nm_r e1 ⟨k3, k3, nm_r e2 (nm_r (nI_1 k) (ih n (k + 1) _ _ (by omega) (by omega) (fun i hi => ?_)))⟩⟩
    by_cases c : i = k
    · subst c; exact ⟨pk_us, pk_us⟩
    · rw [pk_un c, pk_un c]; exact hs i (by omega)
theorem qx_replay (hw : pg_wf g) (P : qx_P g a_kindAt a_opA a_opW a_length) (hA : qa_Ar H a_order) {post : Int32 → SX → Prop} (hn' : H.Nodup) (he : ∀ x, x ∈ H → pg_ev g x)
    (h8 : H.length < pg_N g → post (-8) ((nI (pg_n g)), f_addrs, (nI (pg_d g)), (nI (pg_N g)), f_logSize, (nI H.length), f_seqLen, f_searchMask, f_searchStarted, a_kindAt, a_opA, a_opW, a_length, a_events, a_pcOf, a_regs, a_cells, a_bufEvent, a_bufValue, a_bufSize, a_log, a_order, a_codes, a_codeCount, a_made, a_seq, a_picked, a_runPc, a_runReg, a_runMem, a_runLast, a_runValue, a_runSource))
    (h9 : pg_N g ≤ H.length → pg_ab g H → post (-9) ((nI (pg_n g)), f_addrs, (nI (pg_d g)), (nI (pg_N g)), f_logSize, (nI H.length), f_seqLen, f_searchMask, f_searchStarted, a_kindAt, a_opA, a_opW, a_length, a_events, a_pcOf, a_regs, a_cells, a_bufEvent, a_bufValue, a_bufSize, a_log, a_order, a_codes, a_codeCount, a_made, a_seq, a_picked, a_runPc, a_runReg, a_runMem, a_runLast, a_runValue, a_runSource))
    (h10 : pg_N g ≤ H.length → ¬ pg_ab g H → pg_ad g H → post (-10) ((nI (pg_n g)), f_addrs, (nI (pg_d g)), (nI (pg_N g)), f_logSize, (nI H.length), f_seqLen, f_searchMask, f_searchStarted, a_kindAt, a_opA, a_opW, a_length, a_events, a_pcOf, a_regs, a_cells, a_bufEvent, a_bufValue, a_bufSize, a_log, a_order, a_codes, a_codeCount, a_made, a_seq, a_picked, a_runPc, a_runReg, a_runMem, a_runLast, a_runValue, a_runSource))
    (hc : pg_cp g H → ∀ SQ PC RG ME LA VA SO PO RE CE BE BV BS LG ls, qx_Mc g (pg_L g) H PO RE CE BE BV BS LG ls → post (nI (pg_code g H)) ((nI (pg_n g)), f_addrs, (nI (pg_d g)), (nI (pg_N g)), ls, (nI H.length), (nI H.length), f_searchMask, f_searchStarted, a_kindAt, a_opA, a_opW, a_length, a_events, PO, RE, CE, BE, BV, BS, LG, a_order, a_codes, a_codeCount, a_made, SQ, a_picked, PC, RG, ME, LA, VA, SO)) :
    wpX_replay post ((nI (pg_n g)), f_addrs, (nI (pg_d g)), (nI (pg_N g)), f_logSize, (nI H.length), f_seqLen, f_searchMask, f_searchStarted, a_kindAt, a_opA, a_opW, a_length, a_events, a_pcOf, a_regs, a_cells, a_bufEvent, a_bufValue, a_bufSize, a_log, a_order, a_codes, a_codeCount, a_made, a_seq, a_picked, a_runPc, a_runReg, a_runMem, a_runLast, a_runValue, a_runSource) := by
  unfold wpX_replay
  refine qx_jo hw P hA hn' he (fun a => br_f (by decide) (h8 a)) (fun a b => br_f (by decide) (h9 a b)) (fun a b c => br_f (by decide) (h10 a b c)) (fun hcp SQ PC RG ME LA VA SO R => ?_)
  have hl : H.length ≤ 6 := by rw [hcp.2]; exact hw.2.2.2.2.2.2.2.2.2
  have hcl := pg_codeL hw H
  refine br_t (nI_pos' (by omega)) (qx_restart (fun PO0 RE0 CE0 BS h1 h2 => ⟨4, ?_⟩))
  refine qx_re17 hl hA (fun PO RE CE LG f1 f2 f3 => hc hcp SQ PC RG ME LA VA SO PO RE CE a_bufEvent a_bufValue BS LG _ ⟨fun p hp => ?_, fun p r hp hr => ?_, fun a ha => ?_, fun p hp => ?_, fun p k hp hk => ?_, rfl, f3⟩) 3 4 0 _ _ (by omega) (by omega) (fun p hp => absurd hp (by omega))
  · rw [(f1 p hp).1]; exact (P p).2.2.2
  · rw [f2 _ (by omega)]; exact R.2.1 p r hp hr
  · rw [(f1 a ha).2]; exact (R.2.2.1 a ha).1
  · rw [(h1 p hp).2.2, pg_cpo hw hcp]; rfl
  · rw [pg_cpo hw hcp] at hk; exact absurd hk (Nat.not_lt_zero _)
theorem qx_src41 (hw : pg_wf g) (P : qx_P g a_kindAt a_opA a_opW a_length) (hA : qa_Ar H a_order) {post : Int32 → SX → Prop} (hn' : H.Nodup) (he : ∀ x, x ∈ H → pg_ev g x) {e : Nat} (hev : pg_ev g e) (hR : pg_R (pg_K g e))
    (h8 : H.length < pg_N g → post (-8) ((nI (pg_n g)), f_addrs, (nI (pg_d g)), (nI (pg_N g)), f_logSize, (nI H.length), f_seqLen, f_searchMask, f_searchStarted, a_kindAt, a_opA, a_opW, a_length, a_events, a_pcOf, a_regs, a_cells, a_bufEvent, a_bufValue, a_bufSize, a_log, a_order, a_codes, a_codeCount, a_made, a_seq, a_picked, a_runPc, a_runReg, a_runMem, a_runLast, a_runValue, a_runSource))
    (h9 : pg_N g ≤ H.length → pg_ab g H → post (-9) ((nI (pg_n g)), f_addrs, (nI (pg_d g)), (nI (pg_N g)), f_logSize, (nI H.length), f_seqLen, f_searchMask, f_searchStarted, a_kindAt, a_opA, a_opW, a_length, a_events, a_pcOf, a_regs, a_cells, a_bufEvent, a_bufValue, a_bufSize, a_log, a_order, a_codes, a_codeCount, a_made, a_seq, a_picked, a_runPc, a_runReg, a_runMem, a_runLast, a_runValue, a_runSource))
    (h10 : pg_N g ≤ H.length → ¬ pg_ab g H → pg_ad g H → post (-10) ((nI (pg_n g)), f_addrs, (nI (pg_d g)), (nI (pg_N g)), f_logSize, (nI H.length), f_seqLen, f_searchMask, f_searchStarted, a_kindAt, a_opA, a_opW, a_length, a_events, a_pcOf, a_regs, a_cells, a_bufEvent, a_bufValue, a_bufSize, a_log, a_order, a_codes, a_codeCount, a_made, a_seq, a_picked, a_runPc, a_runReg, a_runMem, a_runLast, a_runValue, a_runSource))
    (hc : pg_cp g H → ∀ SQ PC RG ME LA VA SO, post (if pg_so g H e = 0 then -14 else nI (pg_so g H e - 1)) ((nI (pg_n g)), f_addrs, (nI (pg_d g)), (nI (pg_N g)), f_logSize, (nI H.length), (nI H.length), f_searchMask, f_searchStarted, a_kindAt, a_opA, a_opW, a_length, a_events, a_pcOf, a_regs, a_cells, a_bufEvent, a_bufValue, a_bufSize, a_log, a_order, a_codes, a_codeCount, a_made, SQ, a_picked, PC, RG, ME, LA, VA, SO)) (hso : pg_cp g H → pg_so g H e ≤ 24) :
    wX_source_41 post (nI e) (nI (pg_n g)) f_addrs (nI (pg_d g)) (nI (pg_N g)) f_logSize (nI H.length) f_seqLen f_searchMask f_searchStarted a_kindAt a_opA a_opW a_length a_events a_pcOf a_regs a_cells a_bufEvent a_bufValue a_bufSize a_log a_order a_codes a_codeCount a_made a_seq a_picked a_runPc a_runReg a_runMem a_runLast a_runValue a_runSource := by
  have h24 := pg_ev24 hw hev
  unfold wX_source_41
  refine qx_jo hw P hA hn' he (fun a => br_f (by decide) (h8 a)) (fun a b => br_f (by decide) (h9 a b)) (fun a b c => br_f (by decide) (h10 a b c)) (fun hcp SQ PC RG ME LA VA SO R => ?_)
  have hcl := pg_codeL hw H
  have hs := R.2.2.2.2 e (pg_cpa hw hcp hev) hR
  have hc' := hc hcp SQ PC RG ME LA VA SO
  have hso' := hso hcp
  refine br_t (nI_pos' (by omega)) ⟨pk_in e 24 h24, ?_⟩
  rw [nI_clamp (by omega), hs]
  cases hq : pg_so g H e with
  | zero =>
    rw [hq, if_pos rfl] at hc'
    exact br_f (by decide) hc'
  | succ x =>
    rw [hq] at hc' hso'
    rw [if_neg (by omega)] at hc'
    exact br_t (nI_pos' (by omega)) ⟨pk_in e 24 h24, hc'⟩
end
end
section
/-! Y: small functions -/
section
variable {k_procs k_cells k_deep k_orderN k_workN : Int32} {b_len b_kind b_opA b_opW b_s b_order b_made b_codes b_stack b_choice b_work b_rd : Nat → Int32}
variable {g : pg_T}
theorem qy_r2 {post : SY → Prop} (hp : ∀ S, (∀ j, j < 32 → S j = 0) → post (k_procs, k_cells, k_deep, k_orderN, k_workN, b_len, b_kind, b_opA, b_opW, S, b_order, b_made, b_codes, b_stack, b_choice, b_work, b_rd)) : ∀ m n i S, i + m = 32 → m < n → (∀ j, j < i → S j = 0) → wY_restart_2 post k_procs k_cells k_deep k_orderN k_workN n (nI i) b_len b_kind b_opA b_opW S b_order b_made b_codes b_stack b_choice b_work b_rd := by
  intro m
  induction m with
  | zero =>
    intro n i S hi hn hS
    obtain ⟨n, rfl⟩ : ∃ k, n = k + 1 := ⟨n - 1, by omega⟩
    obtain rfl : i = 32 := by omega
    exact br_t (by decide) (hp S hS)
  | succ m ih =>
    intro n i S hi hn hS
    obtain ⟨n, rfl⟩ : ∃ k, n = k + 1 := ⟨n - 1, by omega⟩
    refine br_f (nI_ge (b := 32) (by omega) (by decide)) ⟨pk_in i 32 (by omega), nm_r (qa_u (by omega)) (nm_r (nI_1 i) (ih n (i + 1) _ (by omega) (by omega) (fun j hj => ?_)))⟩
    by_cases c : j = i
    · subst c; exact pk_us
    · rw [pk_un c]; exact hS j (by omega)
theorem qy_restart {post : SY → Prop} (hp : ∀ S, (∀ j, j < 32 → S j = 0) → post (k_procs, k_cells, k_deep, k_orderN, k_workN, b_len, b_kind, b_opA, b_opW, S, b_order, b_made, b_codes, b_stack, b_choice, b_work, b_rd)) : wpY_restart post (k_procs, k_cells, k_deep, k_orderN, k_workN, b_len, b_kind, b_opA, b_opW, b_s, b_order, b_made, b_codes, b_stack, b_choice, b_work, b_rd) :=
  ⟨33, qy_r2 hp 32 33 0 _ rfl (by omega) (fun p h => absurd h (by omega))⟩
theorem qy_forget {post : SY → Prop} (hp : ∀ S M, (∀ j, j < 32 → S j = 0) → (∀ q, q < 2 → M q = -1) → post (k_procs, k_cells, k_deep, k_orderN, k_workN, b_len, b_kind, b_opA, b_opW, S, b_order, M, b_codes, b_stack, b_choice, b_work, b_rd)) : wpY_forget post (k_procs, k_cells, k_deep, k_orderN, k_workN, b_len, b_kind, b_opA, b_opW, b_s, b_order, b_made, b_codes, b_stack, b_choice, b_work, b_rd) := by
  unfold wpY_forget
  refine qy_restart (fun S hS => nm_e (nm_e (hp S _ hS (fun q hq => ?_))))
  rcases (show q = 0 ∨ q = 1 by omega) with h | h
  · subst h; exact (pk_un (by omega)).trans pk_us
  · subst h; exact pk_us
theorem qy_S1 (P : qx_P g b_kind b_opA b_opW b_len) {post : Int32 → Prop} {e : Nat} (he : e < 24) (h : pg_S (pg_K g e)) (hp : post 1) : wpY_isStore post (k_procs, k_cells, k_deep, k_orderN, k_workN, b_len, b_kind, b_opA, b_opW, b_s, b_order, b_made, b_codes, b_stack, b_choice, b_work, b_rd) (nI e) := by
  have ek : b_kind (nI e).toNatClampNeg = nI (pg_K g e) := qa_kd P (by omega)
  refine ⟨pk_in e 24 he, ?_⟩
  rcases h with h | h
  · exact br_t (by rw [ek, h]; rfl) hp
  · exact br_f (by rw [ek, h]; decide) ⟨pk_in e 24 he, br_t (by rw [ek, h]; rfl) hp⟩
theorem qy_S0 (hw : pg_wf g) (P : qx_P g b_kind b_opA b_opW b_len) {post : Int32 → Prop} {e : Nat} (he : e < 24) (h : ¬ pg_S (pg_K g e)) (hp : post 0) : wpY_isStore post (k_procs, k_cells, k_deep, k_orderN, k_workN, b_len, b_kind, b_opA, b_opW, b_s, b_order, b_made, b_codes, b_stack, b_choice, b_work, b_rd) (nI e) :=
  ⟨pk_in e 24 he, pk_eq (pg_K g e) 2 (fun z => absurd (Or.inl z) h) (fun _ => ⟨pk_in e 24 he, pk_eq (pg_K g e) 3 (fun z => absurd (Or.inr z) h) (fun _ => hp) (qa_kd P (by omega)) rfl (qa_kl hw e).1⟩) (qa_kd P (by omega)) rfl (qa_kl hw e).1⟩
theorem pg_nM (hw : pg_wf g) {p i : Nat} (hi : i < pg_L g p) : pg_M (pg_K g (8 * p + i)) ↔ pg_K g (8 * p + i) ≠ 4 ∧ pg_K g (8 * p + i) ≠ 6 := by
  have k1 := hw.2.2.2.2.2.2.2.1 p i hi
  have k6 := (hw.2.2.2.2.2.2.2.2.1 (8 * p + i)).1
  constructor
  · intro h
    rcases h with h | h | h | h <;> omega
  · intro h
    rcases (show pg_K g (8 * p + i) = 1 ∨ pg_K g (8 * p + i) = 5 ∨ pg_K g (8 * p + i) = 2 ∨ pg_K g (8 * p + i) = 3 by omega) with h | h | h | h
    · exact Or.inl h
    · exact Or.inr (Or.inl h)
    · exact Or.inr (Or.inr (Or.inl h))
    · exact Or.inr (Or.inr (Or.inr h))
theorem qy_ev14 (hw : pg_wf g) (P : qx_P g b_kind b_opA b_opW b_len) {post : Int32 → Prop} {J4 : Int32 → Int32 → Prop} {p : Nat} (hp : p < pg_n g) (hJ : J4 (nI (pg_es g (8 * (p + 1))).length) (nI (p + 1))) :
    ∀ m n i, i + m = pg_L g p → m < n → wY_events_14 post J4 (nI p) k_procs k_cells k_deep k_orderN k_workN b_len b_kind b_opA b_opW b_s b_order b_made b_codes b_stack b_choice b_work b_rd n (nI (pg_es g (8 * p + i)).length) (nI i) := by
  have h3 := hw.2.1
  have h5 := hw.2.2.2.2.2.1 p
  intro m
  induction m with
  | zero =>
    intro n i hi hn
    obtain ⟨n, rfl⟩ : ∃ k, n = k + 1 := ⟨n - 1, by omega⟩
    obtain rfl : i = pg_L g p := by omega
    rw [← pg_esp hw]
    exact ⟨pk_in p 3 (by omega), pk_le (pg_L g p) (pg_L g p) (fun _ => nm_r (nI_1 p) hJ) (fun z => absurd z (by omega)) (qa_ln P (by omega)) rfl⟩
  | succ m ih =>
    intro n i hi hn
    obtain ⟨n, rfl⟩ : ∃ k, n = k + 1 := ⟨n - 1, by omega⟩
    have h := ih n (i + 1) (by omega) (by omega)
    have kl := (qa_kl hw (8 * p + i)).1
    have i24 : vp_in ((8 : Int32) * nI p + nI i) 24 := pk_in (8 * p + i) 24 (by omega) (qa_8 p i)
    have ek : b_kind ((8 : Int32) * nI p + nI i).toNatClampNeg = nI (pg_K g (8 * p + i)) := by rw [qa_8]; exact qa_kd P (by omega)
    have nM := pg_nM hw (p := p) (i := i) (by omega)
    refine ⟨pk_in p 3 (by omega), pk_le (pg_L g p) i (fun z => absurd z (by omega)) (fun _ => ⟨i24, ?_⟩) (qa_ln P (by omega)) rfl⟩
    refine pk_eq (pg_K g (8 * p + i)) 4 (fun c => nm_r (nI_1 i) ?_) (fun c4 => ⟨i24, pk_eq (pg_K g (8 * p + i)) 6 (fun c => nm_r (nI_1 i) ?_) (fun c6 => nm_r (nI_1 _) (nm_r (nI_1 i) ?_)) ek rfl⟩) ek rfl
    · rw [show 8 * p + (i + 1) = 8 * p + i + 1 from rfl, pg_esF (fun z => (nM.mp z.2.2).1 c)] at h; exact h
    · rw [show 8 * p + (i + 1) = 8 * p + i + 1 from rfl, pg_esF (fun z => (nM.mp z.2.2).2 c)] at h; exact h
    · rw [show 8 * p + (i + 1) = 8 * p + i + 1 from rfl, pg_esT (pg_evp hw (by omega) (nM.mpr ⟨c4, c6⟩))] at h; exact h
theorem qy_events (hw : pg_wf g) (P : qx_P g b_kind b_opA b_opW b_len) {post : Int32 → Prop} (hp : post (nI (pg_N g))) : wpY_events post ((nI (pg_n g)), k_cells, k_deep, k_orderN, k_workN, b_len, b_kind, b_opA, b_opW, b_s, b_order, b_made, b_codes, b_stack, b_choice, b_work, b_rd) := by
  have h3 := hw.2.1
  refine ⟨pg_n g + 1, ?_⟩
  suffices ∀ m n p, p + m = pg_n g → m < n → wY_events_4 post (nI (pg_n g)) k_cells k_deep k_orderN k_workN b_len b_kind b_opA b_opW b_s b_order b_made b_codes b_stack b_choice b_work b_rd n (nI (pg_es g (8 * p)).length) (nI p) from this (pg_n g) (pg_n g + 1) 0 (by omega) (by omega)
  intro m
  induction m with
  | zero =>
    intro n p hi hn
    obtain ⟨n, rfl⟩ : ∃ k, n = k + 1 := ⟨n - 1, by omega⟩
    obtain rfl : p = pg_n g := by omega
    rw [pg_esn hw]
    exact br_t (nI_le (Nat.le_refl _) (by omega)) hp
  | succ m ih =>
    intro n p hi hn
    obtain ⟨n, rfl⟩ : ∃ k, n = k + 1 := ⟨n - 1, by omega⟩
    exact br_f (nI_ge (by omega) (by omega)) ⟨pg_L g p + 1, qy_ev14 hw P (by omega) (ih n (p + 1) (by omega) (by omega)) (pg_L g p) (pg_L g p + 1) 0 (by omega) (by omega)⟩
theorem qy_fo17 (hw : pg_wf g) (P : qx_P g b_kind b_opA b_opW b_len) {post : SY → Prop} {J7 : Int32 → Int32 → (Nat → Int32) → (Nat → Int32) → (Nat → Int32) → (Nat → Int32) → (Nat → Int32) → (Nat → Int32) → (Nat → Int32) → (Nat → Int32) → (Nat → Int32) → (Nat → Int32) → (Nat → Int32) → (Nat → Int32) → Prop} {p : Nat} (hp : p < pg_n g) (hJ : ∀ WK, qa_Ar (pg_es g (8 * (p + 1))) WK → J7 (nI (p + 1)) (nI (pg_es g (8 * (p + 1))).length) b_len b_kind b_opA b_opW b_s b_order b_made b_codes b_stack b_choice WK b_rd) :
    ∀ m n i WK, i + m = pg_L g p → m < n → qa_Ar (pg_es g (8 * p + i)) WK → wY_firstOrder_17 post J7 (nI p) k_procs k_cells k_deep k_orderN n (nI i) (nI (pg_es g (8 * p + i)).length) b_len b_kind b_opA b_opW b_s b_order b_made b_codes b_stack b_choice WK b_rd := by
  have h3 := hw.2.1
  have h5 := hw.2.2.2.2.2.1 p
  intro m
  induction m with
  | zero =>
    intro n i WK hi hn hW
    obtain ⟨n, rfl⟩ : ∃ k, n = k + 1 := ⟨n - 1, by omega⟩
    obtain rfl : i = pg_L g p := by omega
    rw [← pg_esp hw] at hW ⊢
    exact ⟨pk_in p 3 (by omega), pk_le (pg_L g p) (pg_L g p) (fun _ => nm_r (nI_1 p) (hJ WK hW)) (fun z => absurd z (by omega)) (qa_ln P (by omega)) rfl⟩
  | succ m ih =>
    intro n i WK hi hn hW
    obtain ⟨n, rfl⟩ : ∃ k, n = k + 1 := ⟨n - 1, by omega⟩
    have kl := (qa_kl hw (8 * p + i)).1
    have i24 : vp_in (nI (8 * p + i)) 24 := pk_in (8 * p + i) 24 (by omega)
    have ek : b_kind (nI (8 * p + i)).toNatClampNeg = nI (pg_K g (8 * p + i)) := qa_kd P (by omega)
    have nM := pg_nM hw (p := p) (i := i) (by omega)
    have no : ¬ pg_ev g (8 * p + i) → wY_firstOrder_17 post J7 (nI p) k_procs k_cells k_deep k_orderN n (nI (i + 1)) (nI (pg_es g (8 * p + i)).length) b_len b_kind b_opA b_opW b_s b_order b_made b_codes b_stack b_choice WK b_rd := by
      intro z
      have hes : pg_es g (8 * p + (i + 1)) = pg_es g (8 * p + i) := pg_esF z
      have h := ih n (i + 1) WK (by omega) (by omega) (hes ▸ hW)
      rw [hes] at h
      exact h
    refine ⟨pk_in p 3 (by omega), pk_le (pg_L g p) i (fun z => absurd z (by omega)) (fun _ => nm_r (qa_8 p i) ⟨i24, ?_⟩) (qa_ln P (by omega)) rfl⟩
    refine pk_eq (pg_K g (8 * p + i)) 4 (fun c => nm_r (nI_1 i) (no (fun z => (nM.mp z.2.2).1 c))) (fun c4 => ⟨i24, pk_eq (pg_K g (8 * p + i)) 6 (fun c => nm_r (nI_1 i) (no (fun z => (nM.mp z.2.2).2 c))) (fun c6 => ?_) ek rfl⟩) ek rfl
    have he : pg_ev g (8 * p + i) := pg_evp hw (by omega) (nM.mpr ⟨c4, c6⟩)
    have hes : pg_es g (8 * p + (i + 1)) = (8 * p + i) :: pg_es g (8 * p + i) := pg_esT he
    have h6 := pg_es6 hw (by omega) he
    have h := ih n (i + 1) _ (by omega) (by omega) (hes ▸ qa_Arc hW)
    rw [hes] at h
    exact br_f (nI_ge (b := 6) h6 (by decide)) ⟨pk_in _ 6 h6, nm_r (qa_u (by omega)) (nm_r (nI_1 _) (nm_r (nI_1 i) h))⟩
theorem qy_first (hw : pg_wf g) (P : qx_P g b_kind b_opA b_opW b_len) {post : SY → Prop} (hp : ∀ WK, qa_Ar (pg_es g 24) WK → post ((nI (pg_n g)), k_cells, k_deep, k_orderN, (nI (pg_N g)), b_len, b_kind, b_opA, b_opW, b_s, b_order, b_made, b_codes, b_stack, b_choice, WK, b_rd)) : wpY_firstOrder post ((nI (pg_n g)), k_cells, k_deep, k_orderN, k_workN, b_len, b_kind, b_opA, b_opW, b_s, b_order, b_made, b_codes, b_stack, b_choice, b_work, b_rd) := by
  have h3 := hw.2.1
  refine ⟨pg_n g + 1, ?_⟩
  suffices ∀ m n p WK, p + m = pg_n g → m < n → qa_Ar (pg_es g (8 * p)) WK → wY_firstOrder_7 post (nI (pg_n g)) k_cells k_deep k_orderN n (nI p) (nI (pg_es g (8 * p)).length) b_len b_kind b_opA b_opW b_s b_order b_made b_codes b_stack b_choice WK b_rd from this (pg_n g) (pg_n g + 1) 0 b_work (by omega) (by omega) trivial
  intro m
  induction m with
  | zero =>
    intro n p WK hi hn hW
    obtain ⟨n, rfl⟩ : ∃ k, n = k + 1 := ⟨n - 1, by omega⟩
    obtain rfl : p = pg_n g := by omega
    rw [pg_esn hw] at hW ⊢
    exact br_t (nI_le (Nat.le_refl _) (by omega)) (hp WK hW)
  | succ m ih =>
    intro n p WK hi hn hW
    obtain ⟨n, rfl⟩ : ∃ k, n = k + 1 := ⟨n - 1, by omega⟩
    exact br_f (nI_ge (by omega) (by omega)) ⟨pg_L g p + 1, qy_fo17 hw P (by omega) (fun WK' h => ih n (p + 1) WK' (by omega) (by omega) h) (pg_L g p) (pg_L g p + 1) 0 WK (by omega) (by omega) hW⟩
theorem qy_log {post : SY → Prop} {n : Nat} {e : Int32} (hn : n < 6) (hs : b_s 24 = nI n) (hp : post (k_procs, k_cells, k_deep, k_orderN, k_workN, b_len, b_kind, b_opA, b_opW, (upd (upd b_s (25 + n) e) 24 (nI (n + 1))), b_order, b_made, b_codes, b_stack, b_choice, b_work, b_rd)) : wpY_log post (k_procs, k_cells, k_deep, k_orderN, k_workN, b_len, b_kind, b_opA, b_opW, b_s, b_order, b_made, b_codes, b_stack, b_choice, b_work, b_rd) e := by
  have e1 : (25 : Int32) + b_s 24 = nI (25 + n) := by rw [hs, show (25 : Int32) = nI 25 from rfl, nI_add]
  have e2 : upd b_s ((25 : Int32) + b_s 24).toNatClampNeg e = upd b_s (25 + n) e := by rw [e1, qa_u (by omega)]
  have e3 : upd (upd b_s (25 + n) e) 24 (upd b_s (25 + n) e 24 + 1) = upd (upd b_s (25 + n) e) 24 (nI (n + 1)) := by rw [pk_un (by omega), hs, nI_1]
  exact pk_lt n 6 (fun _ => ⟨pk_in (25 + n) 32 (by omega) e1, nm_r e2 (nm_r e3 hp)⟩) (fun z => absurd z (by omega)) hs rfl
end
end
section
/-! Y: the axiomatic evaluation: regBefore, writes, written, sourceOf -/
theorem qa_sfr {H : List Nat} {k : Nat} (hk : k ≤ H.length) {i : Nat} (hi : i < k) : qa_rg (qa_sf H k) i = qa_rg H i := by
  induction k with
  | zero => omega
  | succ k ih =>
    rw [qa_sfS (by omega)]
    by_cases c : i = k
    · subst c
      have := qa_rgS (e := qa_rg H i) (T := qa_sf H i)
      rw [qa_sfl (by omega)] at this
      exact this
    · rw [qa_rgT (by rw [qa_sfl (by omega)]; omega)]
      exact ih (by omega) (by omega)
theorem qa_sfm {H : List Nat} {k : Nat} (hk : k ≤ H.length) {x : Nat} : x ∈ qa_sf H k ↔ ∃ i, i < k ∧ qa_rg H i = x := by
  constructor
  · intro h
    obtain ⟨i, hi, e⟩ := qa_mem h
    rw [qa_sfl hk] at hi
    rw [qa_sfr hk hi] at e
    exact ⟨i, hi, e⟩
  · rintro ⟨i, hi, e⟩
    rw [← e, ← qa_sfr hk hi]
    exact qa_rgm (by rw [qa_sfl hk]; exact hi)
theorem qa_sfn {H : List Nat} (hn : H.Nodup) {k j : Nat} (hk : k ≤ j) (hj : j < H.length) : ¬ qa_rg H j ∈ qa_sf H k := by
  intro h
  obtain ⟨i, hi, e⟩ := (qa_sfm (by omega)).mp h
  have := qa_inj hn (by omega) hj e
  omega
abbrev pg_own (g : pg_T) (e x : Nat) : Prop := pg_K g e = 1 ∧ pg_S (pg_K g x) ∧ pg_A g x = pg_A g e ∧ x / 8 = e / 8 ∧ x < e
def pg_fs (g : pg_T) (rd : Nat → Nat) (H : List Nat) (k e : Nat) : Nat → Nat
  | 0 => 0
  | m + 1 => if pg_own g e (qa_rg H m) ∨ (m < k ∧ pg_ws g rd (pg_A g e) (qa_rg H m)) then qa_rg H m + 1 else pg_fs g rd H k e m
theorem pg_fsT {g : pg_T} {rd : Nat → Nat} {H : List Nat} {k e m : Nat} (h : pg_own g e (qa_rg H m) ∨ (m < k ∧ pg_ws g rd (pg_A g e) (qa_rg H m))) : pg_fs g rd H k e (m + 1) = qa_rg H m + 1 := by
  simp only [pg_fs]; exact if_pos h
theorem pg_fsF {g : pg_T} {rd : Nat → Nat} {H : List Nat} {k e m : Nat} (h : ¬ (pg_own g e (qa_rg H m) ∨ (m < k ∧ pg_ws g rd (pg_A g e) (qa_rg H m)))) : pg_fs g rd H k e (m + 1) = pg_fs g rd H k e m := by
  simp only [pg_fs]; exact if_neg h
theorem pg_fs1 {g : pg_T} {rd : Nat → Nat} {H : List Nat} {k e : Nat} (hk : k ≤ H.length) : ∀ m, m ≤ k → pg_fs g rd H k e m = pg_lw g rd (pg_A g e) (qa_sf H m)
  | 0, _ => by rw [qa_sf0]; rfl
  | m + 1, h => by
    have ih := pg_fs1 (g := g) (rd := rd) (e := e) hk m (by omega)
    rw [qa_sfS (by omega), pg_lwc]
    by_cases c : pg_ws g rd (pg_A g e) (qa_rg H m)
    · rw [if_pos c, pg_fsT (Or.inr ⟨by omega, c⟩)]
    · rw [if_neg c, pg_fsF, ih]
      rintro (z | z)
      · exact c ⟨z.2.2.1, pg_Sn1 z.2.1, fun y => by rcases z.2.1 with w | w <;> omega⟩
      · exact c z.2
theorem pg_fs2 {g : pg_T} {rd : Nat → Nat} {H : List Nat} {k e : Nat} (hk : k < H.length) (he : e = qa_rg H k) : ∀ m, k < m → m ≤ H.length →
    (pg_fs g rd H k e m = pg_lw g rd (pg_A g e) (qa_sf H k) ∧ ∀ j, k < j → j < m → ¬ pg_own g e (qa_rg H j)) ∨ (∃ j, k < j ∧ j < m ∧ pg_own g e (qa_rg H j) ∧ pg_fs g rd H k e m = qa_rg H j + 1 ∧ ∀ j', j < j' → j' < m → ¬ pg_own g e (qa_rg H j'))
  | 0, h, _ => by omega
  | m + 1, h, hm => by
    by_cases c : m = k
    · subst c
      left
      refine ⟨?_, fun j h1 h2 => by omega⟩
      rw [pg_fsF, pg_fs1 (by omega) m (Nat.le_refl _)]
      rintro (z | z)
      · rw [he] at z; have := z.2.2.2.2; omega
      · omega
    · have hkm : k < m := by omega
      have ih := pg_fs2 (g := g) (rd := rd) hk he m (by omega) (by omega)
      by_cases o : pg_own g e (qa_rg H m)
      · right
        exact ⟨m, hkm, Nat.lt_succ_self m, o, pg_fsT (Or.inl o), fun j' h1 h2 => absurd h2 (Nat.not_lt.mpr h1)⟩
      · have e1 : pg_fs g rd H k e (m + 1) = pg_fs g rd H k e m := pg_fsF (fun w => w.elim o (fun y => absurd y.1 (by omega)))
        rcases ih with ⟨a, b⟩ | ⟨j, a, b, d, f, i⟩
        · left
          refine ⟨by rw [e1]; exact a, fun j h1 h2 => ?_⟩
          by_cases z : j = m
          · subst z; exact o
          · exact b j h1 (by omega)
        · right
          refine ⟨j, a, by omega, d, by rw [e1]; exact f, fun j' h1 h2 => ?_⟩
          by_cases z : j' = m
          · subst z; exact o
          · exact i j' h1 (by omega)
/-- the source by the axioms is the source of the lazy run -/
theorem pg_fsr {g : pg_T} (hw : pg_wf g) {H : List Nat} (hcp : pg_cp g H) {k : Nat} (hk : k < H.length) {rd : Nat → Nat} : pg_fs g rd H k (qa_rg H k) H.length = pg_sr g rd (qa_sf H k) (qa_rg H k) := by
  have hn := (pg_vod hcp.1).1
  have hev := (pg_vod hcp.1).2
  have hee := hev _ (qa_rgm hk)
  generalize he : qa_rg H k = e at hee
  have pos : ∀ s, pg_S (pg_K g s) → s / 8 = e / 8 → s < e → ¬ s ∈ qa_sf H k → ∃ j, k < j ∧ j < H.length ∧ qa_rg H j = s := by
    intro s h1 h2 h3 h4
    have hs : pg_ev g s := ⟨by rw [h2]; exact hee.1, by rw [h2]; have := hee.2.1; omega, pg_SM h1⟩
    obtain ⟨j, a, b⟩ := qa_mem (pg_cpa hw hcp hs)
    refine ⟨j, ?_, a, b⟩
    rcases Nat.lt_trichotomy j k with z | z | z
    · exact absurd ((qa_sfm (by omega)).mpr ⟨j, z, b⟩) h4
    · subst z; rw [he] at b; omega
    · exact z
  rcases pg_fs2 (g := g) (rd := rd) hk he.symm H.length hk (Nat.le_refl _) with ⟨a, b⟩ | ⟨j, a, b, d, f, i⟩
  · rw [a]
    unfold pg_sr
    by_cases c : pg_K g e = 1 ∧ pg_ow g (qa_sf H k) (pg_A g e) (8 * (e / 8)) (e % 8) ≠ 0
    · exfalso
      cases hq : pg_ow g (qa_sf H k) (pg_A g e) (8 * (e / 8)) (e % 8) with
      | zero => exact c.2 hq
      | succ q =>
        obtain ⟨y1, y2, y3, y4, y5, _⟩ := pg_owp hq
        obtain ⟨j, z1, z2, z3⟩ := pos q y3 (by omega) (by omega) y5
        exact b j z1 z2 (by rw [z3]; exact ⟨c.1, y3, y4, by omega, by omega⟩)
    · rw [if_neg c]
  · rw [f]
    have hnT : ¬ qa_rg H j ∈ qa_sf H k := qa_sfn hn (by omega) b
    obtain ⟨o1, o2, o3, o4, o5⟩ := d
    unfold pg_sr
    cases hq : pg_ow g (qa_sf H k) (pg_A g e) (8 * (e / 8)) (e % 8) with
    | zero => exact absurd (pg_ow0 hq _ (by omega) (by omega) o2 o3) hnT
    | succ q =>
      rw [if_pos ⟨o1, by omega⟩]
      obtain ⟨y1, y2, y3, y4, y5, y6⟩ := pg_owp hq
      obtain ⟨jq, z1, z2, z3⟩ := pos q y3 (by omega) (by omega) y5
      rcases Nat.lt_trichotomy jq j with w | w | w
      · by_cases c : qa_rg H j = q
        · rw [c]
        · exfalso
          have hlt : qa_rg H j < q := by
            by_cases z : q < qa_rg H j
            · exact absurd (y6 _ z (by omega) o2 o3) hnT
            · omega
          have hok := qa_sfo hcp.1 z2
          rw [z3] at hok
          exact qa_sfn hn (Nat.le_of_lt w) b (pg_okm hok (pg_Sn1 y3) (by omega) hlt (pg_SM o2))
      · subst w; rw [z3]
      · exact absurd (by rw [z3]; exact ⟨o1, y3, y4, by omega, by omega⟩) (i jq w z2)
def qa_s14 : Nat → Int32
  | 0 => -14
  | x + 1 => nI x
section
variable {k_procs k_cells k_deep k_orderN k_workN : Int32} {b_len b_kind b_opA b_opW b_s b_order b_made b_codes b_stack b_choice b_work b_rd : Nat → Int32}
variable {g : pg_T} {rd : Nat → Nat}
theorem qy_rb6 (hw : pg_wf g) (P : qx_P g b_kind b_opA b_opW b_len) {post : Int32 → Prop} {p j r : Nat} (hp : p < 3) (hj : j ≤ 8) (hr : r < 2) (hrl : ∀ x, rd x < 4) (hrd : ∀ i, i < j → pg_R (pg_K g (8 * p + i)) → b_rd (8 * p + i) = nI (rd (8 * p + i))) (hpost : post (nI (pg_rb g rd p r j))) :
    ∀ m n i, i + m = j → m < n → wY_regBefore_6 post (nI p) (nI j) (nI r) k_procs k_cells k_deep k_orderN k_workN b_len b_kind b_opA b_opW b_s b_order b_made b_codes b_stack b_choice b_work b_rd n (nI (pg_rb g rd p r i)) (nI i) := by
  intro m
  induction m with
  | zero =>
    intro n i hi hn
    obtain ⟨n, rfl⟩ : ∃ k, n = k + 1 := ⟨n - 1, by omega⟩
    obtain rfl : i = j := by omega
    exact br_t (nI_le (Nat.le_refl _) (by omega)) hpost
  | succ m ih =>
    intro n i hi hn
    obtain ⟨n, rfl⟩ : ∃ k, n = k + 1 := ⟨n - 1, by omega⟩
    have h := ih n (i + 1) (by omega) (by omega)
    have kl := qa_kl hw (8 * p + i)
    obtain ⟨_, _, hW7, _, _, k6, _⟩ := hw.2.2.2.2.2.2.2.2.1 (8 * p + i)
    have i24 : vp_in (nI (8 * p + i)) 24 := pk_in (8 * p + i) 24 (by omega)
    have ek : b_kind (nI (8 * p + i)).toNatClampNeg = nI (pg_K g (8 * p + i)) := qa_kd P (by omega)
    have ea : b_opA (nI (8 * p + i)).toNatClampNeg = nI (pg_A g (8 * p + i)) := qa_oa P (by omega)
    have ew : b_opW (nI (8 * p + i)).toNatClampNeg = nI (pg_W g (8 * p + i)) := qa_ow P (by omega)
    simp only [pg_rb] at h
    have hl := pg_rbl (g := g) hrl p r i
    have tail : ¬ pg_R (pg_K g (8 * p + i)) → wY_regBefore_65 post (wY_regBefore_6 post (nI p) (nI j) (nI r) k_procs k_cells k_deep k_orderN k_workN b_len b_kind b_opA b_opW b_s b_order b_made b_codes b_stack b_choice b_work b_rd n) (nI p) (nI j) (nI r) (nI (pg_rb g rd p r i)) (nI i) (nI (8 * p + i)) k_procs k_cells k_deep k_orderN k_workN b_len b_kind b_opA b_opW b_s b_order b_made b_codes b_stack b_choice b_work b_rd := by
      intro hR
      rw [if_neg (fun z => hR z.1)] at h
      refine ⟨i24, pk_eq (pg_K g (8 * p + i)) 6 (fun c => ⟨i24, pk_eq (pg_A g (8 * p + i)) r (fun a => ⟨i24, by decide, ?_⟩) (fun a => nm_r (nI_1 i) ?_) ea rfl kl.2.1⟩) (fun c => nm_r (nI_1 i) ?_) ek rfl kl.1⟩
      · rw [if_pos ⟨c, a⟩] at h
        have e1 : (nI (pg_rb g rd p r i) + b_opW (nI (8 * p + i)).toNatClampNeg) - (nI (pg_rb g rd p r i) + b_opW (nI (8 * p + i)).toNatClampNeg) / 4 * 4 = nI ((pg_rb g rd p r i + pg_W g (8 * p + i)) % 4) := by
          have := (k6 c).2
          rw [ew, nI_add, qa_r4 _ (by omega)]
        exact nm_r e1 (nm_r (nI_1 i) h)
      · rw [if_neg (fun z => a z.2)] at h; exact h
      · rw [if_neg (fun z => c z.1)] at h; exact h
    have rdc : pg_R (pg_K g (8 * p + i)) → wY_regBefore_43 post (wY_regBefore_6 post (nI p) (nI j) (nI r) k_procs k_cells k_deep k_orderN k_workN b_len b_kind b_opA b_opW b_s b_order b_made b_codes b_stack b_choice b_work b_rd n) (nI p) (nI j) (nI r) (nI (pg_rb g rd p r i)) (nI i) (nI (8 * p + i)) k_procs k_cells k_deep k_orderN k_workN b_len b_kind b_opA b_opW b_s b_order b_made b_codes b_stack b_choice b_work b_rd := by
      intro hR
      have n6 : pg_K g (8 * p + i) ≠ 6 := by rcases hR with z | z <;> omega
      have e2 : (b_opW (nI (8 * p + i)).toNatClampNeg &&& 1) = nI (pg_W g (8 * p + i) % 2) := by rw [ew, qa_w1 _ (by omega)]
      have e3 : b_rd (nI (8 * p + i)).toNatClampNeg = nI (rd (8 * p + i)) := by rw [nI_clamp (by omega)]; exact hrd i (by omega) hR
      refine ⟨i24, pk_eq (pg_W g (8 * p + i) % 2) r (fun w => ⟨i24, nm_r e3 ?_⟩) (fun w => ?_) e2 rfl⟩
      · rw [if_pos ⟨hR, w⟩] at h
        exact ⟨i24, pk_eq (pg_K g (8 * p + i)) 6 (fun c => absurd c n6) (fun c => nm_r (nI_1 i) h) ek rfl kl.1⟩
      · rw [if_neg (fun z => w z.2), if_neg (fun z => n6 z.1)] at h
        exact ⟨i24, pk_eq (pg_K g (8 * p + i)) 6 (fun c => absurd c n6) (fun c => nm_r (nI_1 i) h) ek rfl kl.1⟩
    refine br_f (nI_ge (by omega) (by omega)) (nm_r (qa_8 p i) ⟨i24, pk_eq (pg_K g (8 * p + i)) 1 (fun c => rdc (Or.inl c)) (fun c1 => ⟨i24, pk_eq (pg_K g (8 * p + i)) 5 (fun c => rdc (Or.inr c)) (fun c5 => tail ?_) ek rfl kl.1⟩) ek rfl kl.1⟩)
    intro z
    exact z.elim c1 c5
theorem qy_rb (hw : pg_wf g) (P : qx_P g b_kind b_opA b_opW b_len) {post : Int32 → Prop} {p j r : Nat} (hp : p < 3) (hj : j ≤ 8) (hr : r < 2) (hrl : ∀ x, rd x < 4) (hrd : ∀ i, i < j → pg_R (pg_K g (8 * p + i)) → b_rd (8 * p + i) = nI (rd (8 * p + i))) (hpost : post (nI (pg_rb g rd p r j))) : wpY_regBefore post (k_procs, k_cells, k_deep, k_orderN, k_workN, b_len, b_kind, b_opA, b_opW, b_s, b_order, b_made, b_codes, b_stack, b_choice, b_work, b_rd) (nI p) (nI j) (nI r) :=
  ⟨j + 1, qy_rb6 hw P hp hj hr hrl hrd hpost j (j + 1) 0 (by omega) (by omega)⟩
theorem qy_ws (hw : pg_wf g) (P : qx_P g b_kind b_opA b_opW b_len) {post : Int32 → Prop} {e a : Nat} (he : e < 24) (ha : a < 2 ^ 31) (hrl : ∀ x, rd x < 4) (hrd : ∀ s, s / 8 = e / 8 → s ≤ e → pg_R (pg_K g s) → b_rd s = nI (rd s)) (h1 : pg_ws g rd a e → post 1) (h0 : ¬ pg_ws g rd a e → post 0) : wpY_writes post (k_procs, k_cells, k_deep, k_orderN, k_workN, b_len, b_kind, b_opA, b_opW, b_s, b_order, b_made, b_codes, b_stack, b_choice, b_work, b_rd) (nI e) (nI a) := by
  have kl := qa_kl hw e
  have hW7 : pg_W g e ≤ 7 := (hw.2.2.2.2.2.2.2.2.1 e).2.2.1
  have i24 : vp_in (nI e) 24 := pk_in e 24 he
  have ek : b_kind (nI e).toNatClampNeg = nI (pg_K g e) := qa_kd P (by omega)
  have ea : b_opA (nI e).toNatClampNeg = nI (pg_A g e) := qa_oa P (by omega)
  have ew : b_opW (nI e).toNatClampNeg &&& 1 = nI (pg_W g e % 2) := by rw [qa_ow P (by omega), qa_w1 _ (by omega)]
  refine ⟨i24, pk_eq (pg_A g e) a (fun c => ⟨i24, pk_eq (pg_K g e) 1 (fun k => h0 (fun z => z.2.1 k)) (fun k1 => ⟨i24, pk_eq (pg_K g e) 5 (fun k => ?_) (fun k => h1 ⟨c, k1, fun z => absurd z k⟩) ek rfl kl.1⟩) ek rfl kl.1⟩) (fun c => h0 (fun z => c z.1)) ea rfl kl.2.1 ha⟩
  refine ⟨by decide, by decide, i24, ?_⟩
  rw [qa_r8 e he, qa_d8 e he, ew]
  have e3 : b_rd (nI e).toNatClampNeg = nI (rd e) := by rw [nI_clamp (by omega)]; exact hrd e rfl (Nat.le_refl _) (Or.inr k)
  have hl := pg_rbl (g := g) hrl (e / 8) (pg_W g e % 2) (e % 8)
  have hl2 := hrl e
  exact qy_rb hw P (by omega) (by omega) (by omega) hrl (fun i hi hR => hrd _ (by omega) (by omega) hR) ⟨i24, pk_eq (rd e) (pg_rb g rd (e / 8) (pg_W g e % 2) (e % 8)) (fun c2 => h1 ⟨c, k1, fun _ => c2⟩) (fun c2 => h0 (fun z => c2 (z.2.2 k))) e3 rfl⟩
theorem qy_wr (hw : pg_wf g) (P : qx_P g b_kind b_opA b_opW b_len) {post : Int32 → Prop} {e : Nat} (he : e < 24) (hk : pg_S (pg_K g e) ∨ pg_K g e = 5) (hrl : ∀ x, rd x < 4) (hrd : ∀ s, s / 8 = e / 8 → s < e → pg_R (pg_K g s) → b_rd s = nI (rd s)) (hp : post (nI (pg_wr g rd e))) : wpY_written post (k_procs, k_cells, k_deep, k_orderN, k_workN, b_len, b_kind, b_opA, b_opW, b_s, b_order, b_made, b_codes, b_stack, b_choice, b_work, b_rd) (nI e) := by
  have kl := qa_kl hw e
  obtain ⟨_, _, hW7, k13, _, _, _⟩ := hw.2.2.2.2.2.2.2.2.1 e
  have i24 : vp_in (nI e) 24 := pk_in e 24 he
  have ek : b_kind (nI e).toNatClampNeg = nI (pg_K g e) := qa_kd P (by omega)
  have ew : b_opW (nI e).toNatClampNeg = nI (pg_W g e) := qa_ow P (by omega)
  unfold pg_wr at hp
  refine ⟨i24, pk_eq (pg_K g e) 2 (fun c => ⟨i24, ?_⟩) (fun c2 => ⟨i24, pk_eq (pg_K g e) 5 (fun c => ⟨i24, by decide, ?_⟩) (fun c5 => ⟨by decide, by decide, i24, ?_⟩) ek rfl kl.1⟩) ek rfl kl.1⟩
  · rw [if_pos c] at hp; rw [ew]; exact hp
  · rw [if_neg c2, if_pos c] at hp; rw [ew, qa_h2 _ (by omega)]; exact hp
  · rw [if_neg c2, if_neg c5] at hp
    rw [qa_r8 e he, qa_d8 e he, ew]
    have k3 : pg_K g e = 3 := by
      rcases hk with hk | hk
      · rcases hk with hk | hk
        · exact absurd hk c2
        · exact hk
      · exact absurd hk c5
    have := k13 (Or.inr k3)
    exact qy_rb hw P (by omega) (by omega) (by omega) hrl (fun i hi hR => hrd _ (by omega) (by omega) hR) hp
theorem qy_so13 (hw : pg_wf g) (P : qx_P g b_kind b_opA b_opW b_len) {H : List Nat} (hl : H.length ≤ 6) (he24 : ∀ x, x ∈ H → x < 24) (hwk : qa_Ar H b_work) {k e : Nat} (hk : k < H.length) (he : e < 24) (hrl : ∀ x, rd x < 4) (hrd : ∀ m, m < k → ∀ s, s / 8 = qa_rg H m / 8 → s ≤ qa_rg H m → pg_R (pg_K g s) → b_rd s = nI (rd s)) {post : Int32 → Prop} (hp : post (qa_s14 (pg_fs g rd H k e H.length))) :
    ∀ f n m, m + f = H.length → f < n → wY_sourceOf_13 post (nI k) (nI e) k_procs k_cells k_deep k_orderN (nI H.length) b_len b_kind b_opA b_opW b_s b_order b_made b_codes b_stack b_choice b_work b_rd n (qa_s14 (pg_fs g rd H k e m)) (nI m) := by
  intro f
  induction f with
  | zero =>
    intro n m hm hn
    obtain ⟨n, rfl⟩ : ∃ k, n = k + 1 := ⟨n - 1, by omega⟩
    obtain rfl : m = H.length := by omega
    exact br_t (nI_le (Nat.le_refl _) (by omega)) hp
  | succ f ih =>
    intro n m hm hn
    obtain ⟨n, rfl⟩ : ∃ k, n = k + 1 := ⟨n - 1, by omega⟩
    have h := ih n (m + 1) (by omega) (by omega)
    have hx24 := he24 _ (qa_rgm (H := H) (i := m) (by omega))
    have ewk : b_work (nI m).toNatClampNeg = nI (qa_rg H m) := by rw [nI_clamp (by omega)]; exact qa_Arg hwk (by omega)
    have ek : b_kind (nI e).toNatClampNeg = nI (pg_K g e) := qa_kd P (by omega)
    have ea : b_opA (nI e).toNatClampNeg = nI (pg_A g e) := qa_oa P (by omega)
    have eax : b_opA (nI (qa_rg H m)).toNatClampNeg = nI (pg_A g (qa_rg H m)) := qa_oa P (by omega)
    have ie : vp_in (nI e) 24 := pk_in e 24 he
    have ix : vp_in (nI (qa_rg H m)) 24 := pk_in (qa_rg H m) 24 hx24
    have kl := qa_kl hw e
    have klx := qa_kl hw (qa_rg H m)
    have no : ¬ pg_own g e (qa_rg H m) → wY_sourceOf_88 post (wY_sourceOf_13 post (nI k) (nI e) k_procs k_cells k_deep k_orderN (nI H.length) b_len b_kind b_opA b_opW b_s b_order b_made b_codes b_stack b_choice b_work b_rd n) (nI k) (nI e) (qa_s14 (pg_fs g rd H k e m)) (nI m) (nI (qa_rg H m)) k_procs k_cells k_deep k_orderN (nI H.length) b_len b_kind b_opA b_opW b_s b_order b_made b_codes b_stack b_choice b_work b_rd := by
      intro hno
      refine br_t rfl (pk_le k m (fun z => nm_r (nI_1 m) ?_) (fun z => ⟨ie, ?_⟩))
      · rw [pg_fsF (fun w => w.elim hno (fun y => absurd y.1 (by omega)))] at h; exact h
      · rw [ea]
        refine qy_ws hw P hx24 kl.2.1 hrl (hrd m z) (fun y => br_f qa_10 (nm_r (nI_1 m) ?_)) (fun y => br_t rfl (nm_r (nI_1 m) ?_))
        · rw [pg_fsT (Or.inr ⟨z, y⟩)] at h; exact h
        · rw [pg_fsF (fun w => w.elim hno (fun v => y v.2))] at h; exact h
    refine br_f (nI_ge (by omega) (by omega)) ⟨pk_in m 6 (by omega), nm_r ewk ⟨ie, pk_eq (pg_K g e) 1 (fun k1 => ?_) (fun k1 => no (fun z => k1 z.1)) ek rfl kl.1⟩⟩
    by_cases s : pg_S (pg_K g (qa_rg H m))
    · refine qy_S1 P hx24 s (br_f qa_10 ⟨ix, ie, pk_eq (pg_A g (qa_rg H m)) (pg_A g e) (fun a => ⟨by decide, by decide, ?_⟩) (fun a => no (fun z => a z.2.2.1)) eax ea klx.2.1 kl.2.1⟩)
      refine pk_eq (qa_rg H m / 8) (e / 8) (fun d => pk_le e (qa_rg H m) (fun z => no (fun y => by have := y.2.2.2.2; omega)) (fun z => br_f qa_10 (nm_r (nI_1 m) ?_))) (fun d => no (fun z => d z.2.2.2.1)) (qa_d8 _ hx24) (qa_d8 _ he)
      rw [pg_fsT (Or.inl ⟨k1, s, a, d, z⟩)] at h; exact h
    · exact qy_S0 hw P hx24 s (br_t rfl (no (fun z => s z.2.1)))
end
end
section
/-! Y: evaluate whole -/
theorem pg_srx {g : pg_T} {T : List Nat} {e x : Nat} (hv : pg_vo g T) (hok : pg_ok g T e) (h : pg_sr g (pg_rd g T) T e = x + 1) : (pg_S (pg_K g x) ∨ pg_K g x = 5) ∧ pg_ev g x ∧ ∀ s, s / 8 = x / 8 → s < x → pg_R (pg_K g s) → s ∈ T := by
  unfold pg_sr at h
  by_cases c : pg_K g e = 1 ∧ pg_ow g T (pg_A g e) (8 * (e / 8)) (e % 8) ≠ 0
  · rw [if_pos c] at h
    obtain ⟨y1, y2, y3, y4, y5, y6⟩ := pg_owp h
    have h8 : x / 8 = e / 8 := by omega
    refine ⟨Or.inl y3, ⟨by rw [h8]; exact hok.1.1, ?_, pg_SM y3⟩, fun s a b d => pg_okr hok (by omega) (by omega) d⟩
    rw [h8]
    have := hok.1.2.1
    omega
  · rw [if_neg c] at h
    obtain ⟨y1, y2⟩ := pg_lwm h
    have hev := (pg_vod hv).2 x y1
    refine ⟨?_, hev, fun s a b d => pg_vor hv y1 a b d⟩
    by_cases s : pg_S (pg_K g x)
    · exact Or.inl s
    · rcases pg_MnS hev.2.2 s with z | z
      · exact absurd z y2.2.1
      · exact Or.inr z
theorem pg_soL {g : pg_T} (hw : pg_wf g) : ∀ {H : List Nat}, pg_vo g H → ∀ e, pg_so g H e ≤ 24
  | [], _, e => by simp only [pg_so]; omega
  | x :: T, h, e => by
    by_cases c : e = x
    · rw [c, pg_so1]
      cases hq : pg_sr g (pg_rd g T) T x with
      | zero => omega
      | succ y =>
        have := pg_ev24 hw (pg_srx h.1 h.2 hq).2.1
        omega
    · rw [pg_so2 c]; exact pg_soL hw h.1 e
theorem qa_s22 {c v p r : Nat} (hv : v < 4) (hp : p < 3) (hr : r < 2) : nI c + (nI v <<< (((2 : Int32) * ((2 : Int32) * nI p + nI r)) &&& 31)) = nI (c + v * 4 ^ (2 * p + r)) := by
  rw [qa_2, qa_2p]; exact qa_sh hv (by omega)
section
variable {k_procs k_cells k_deep k_orderN k_workN : Int32} {b_len b_kind b_opA b_opW b_s b_order b_made b_codes b_stack b_choice b_work b_rd : Nat → Int32}
variable {g : pg_T} {H : List Nat}
theorem qy_so (hw : pg_wf g) (P : qx_P g b_kind b_opA b_opW b_len) (hcp : pg_cp g H) (hwk : qa_Ar H b_work) {k : Nat} (hk : k < H.length) {rd : Nat → Nat} (hrl : ∀ x, rd x < 4) (hrd : ∀ x, x ∈ qa_sf H k → pg_R (pg_K g x) → b_rd x = nI (rd x)) {post : Int32 → Prop} (hp : post (qa_s14 (pg_sr g rd (qa_sf H k) (qa_rg H k)))) : wpY_sourceOf post (k_procs, k_cells, k_deep, k_orderN, (nI H.length), b_len, b_kind, b_opA, b_opW, b_s, b_order, b_made, b_codes, b_stack, b_choice, b_work, b_rd) (nI k) := by
  have hl : H.length ≤ 6 := by rw [hcp.2]; exact hw.2.2.2.2.2.2.2.2.2
  have he24 : ∀ x, x ∈ H → x < 24 := fun x hx => pg_ev24 hw ((pg_vod hcp.1).2 x hx)
  have ewk : b_work (nI k).toNatClampNeg = nI (qa_rg H k) := by rw [nI_clamp (by omega)]; exact qa_Arg hwk hk
  rw [← pg_fsr hw hcp hk] at hp
  refine ⟨pk_in k 6 (by omega), nm_r ewk ⟨H.length + 1, qy_so13 hw P hl he24 hwk hk (he24 _ (qa_rgm hk)) hrl (fun m hm s h1 h2 h3 => ?_) hp H.length (H.length + 1) 0 (by omega) (by omega)⟩⟩
  have hmT : qa_rg H m ∈ qa_sf H k := (qa_sfm (by omega)).mpr ⟨m, hm, rfl⟩
  by_cases c : s = qa_rg H m
  · subst c; exact hrd _ hmT h3
  · exact hrd s (pg_vor (qa_sfv hcp.1 k) hmT h1 (by omega) h3) h3
theorem qy_ev143 (hw : pg_wf g) (P : qx_P g b_kind b_opA b_opW b_len) (hcp : pg_cp g H) (hwk : qa_Ar H b_work) (hrd : ∀ x, x ∈ H → pg_R (pg_K g x) → b_rd x = nI (pg_rd g H x)) {post : Int32 → SY → Prop} {J : Int32 → Int32 → Prop} {c a : Nat} (ha : a < 3) (hJ : J (nI (c + pg_mem g H a * 4 ^ (6 + a))) (nI (a + 1))) :
    ∀ f n k, k + f = H.length → f < n → wY_evaluate_143 post J (nI c) (nI a) k_procs k_cells k_deep k_orderN (nI H.length) b_len b_kind b_opA b_opW b_s b_order b_made b_codes b_stack b_choice b_work b_rd n (nI (pg_sv g (pg_rd g H) (pg_lw g (pg_rd g H) a (qa_sf H k)))) (nI k) := by
  have hl : H.length ≤ 6 := by rw [hcp.2]; exact hw.2.2.2.2.2.2.2.2.2
  have hwk' := hw.2.2.2.2.2.2.2.2.1
  have he24 : ∀ x, x ∈ H → x < 24 := fun x hx => pg_ev24 hw ((pg_vod hcp.1).2 x hx)
  have hrl := pg_rdl hwk' H
  intro f
  induction f with
  | zero =>
    intro n k hk hn
    obtain ⟨n, rfl⟩ : ∃ k, n = k + 1 := ⟨n - 1, by omega⟩
    obtain rfl : k = H.length := by omega
    rw [qa_sfL]
    have hm := pg_memL hwk' H a
    exact br_t (nI_le (Nat.le_refl _) (by omega)) (nm_r (qa_sm hm ha) (nm_r (nI_1 a) hJ))
  | succ f ih =>
    intro n k hk hn
    obtain ⟨n, rfl⟩ : ∃ k, n = k + 1 := ⟨n - 1, by omega⟩
    have h := ih n (k + 1) (by omega) (by omega)
    have hmem := qa_rgm (H := H) (i := k) (by omega)
    have hx24 := he24 _ hmem
    have hev := (pg_vod hcp.1).2 _ hmem
    have ewk : b_work (nI k).toNatClampNeg = nI (qa_rg H k) := by rw [nI_clamp (by omega)]; exact qa_Arg hwk (by omega)
    rw [qa_sfS (by omega), pg_lwc] at h
    have hr : ∀ s, s / 8 = qa_rg H k / 8 → s ≤ qa_rg H k → pg_R (pg_K g s) → b_rd s = nI (pg_rd g H s) := by
      intro s h1 h2 h3
      by_cases z : s = qa_rg H k
      · subst z; exact hrd _ hmem h3
      · exact hrd s (pg_vor hcp.1 hmem h1 (by omega) h3) h3
    refine br_f (nI_ge (by omega) (by omega)) ⟨pk_in k 6 (by omega), ?_⟩
    rw [ewk]
    refine qy_ws hw P hx24 (by omega) hrl hr (fun y => br_f qa_10 ⟨pk_in k 6 (by omega), ?_⟩) (fun y => br_t rfl (nm_r (nI_1 k) ?_))
    · rw [if_pos y] at h
      have hk5 : pg_S (pg_K g (qa_rg H k)) ∨ pg_K g (qa_rg H k) = 5 := by
        by_cases s : pg_S (pg_K g (qa_rg H k))
        · exact Or.inl s
        · rcases pg_MnS hev.2.2 s with z | z
          · exact absurd z y.2.1
          · exact Or.inr z
      exact qy_wr hw P hx24 hk5 hrl (fun s a b d => hr s a (by omega) d) (nm_r (nI_1 k) h)
    · rw [if_neg y] at h; exact h
theorem qy_ev130 (hw : pg_wf g) (P : qx_P g b_kind b_opA b_opW b_len) (hcp : pg_cp g H) (hwk : qa_Ar H b_work) (hrd : ∀ x, x ∈ H → pg_R (pg_K g x) → b_rd x = nI (pg_rd g H x)) {post : Int32 → SY → Prop} (hp : post (nI (pg_code g H)) (k_procs, (nI (pg_c g)), k_deep, k_orderN, (nI H.length), b_len, b_kind, b_opA, b_opW, b_s, b_order, b_made, b_codes, b_stack, b_choice, b_work, b_rd)) :
    ∀ f n a, a + f = pg_c g → f < n → wY_evaluate_130 post k_procs (nI (pg_c g)) k_deep k_orderN (nI H.length) b_len b_kind b_opA b_opW b_s b_order b_made b_codes b_stack b_choice b_work b_rd n (nI (pg_sm (pg_cf g H) (6 + a))) (nI a) := by
  have hc3 := hw.2.2.2.1
  have hl : H.length ≤ 6 := by rw [hcp.2]; exact hw.2.2.2.2.2.2.2.2.2
  intro f
  induction f with
  | zero =>
    intro n a ha hn
    obtain ⟨n, rfl⟩ : ∃ k, n = k + 1 := ⟨n - 1, by omega⟩
    obtain rfl : a = pg_c g := by omega
    have e : pg_code g H = pg_sm (pg_cf g H) (6 + pg_c g) := by
      unfold pg_code
      have := pg_smz (f := pg_cf g H) (n := 6 + pg_c g) (m := 3 - pg_c g) (fun i h1 h2 => ?_)
      · rw [show 6 + pg_c g + (3 - pg_c g) = 9 by omega] at this
        exact this
      · obtain ⟨a, rfl⟩ : ∃ a, i = 6 + a := ⟨i - 6, by omega⟩
        rw [pg_cfm]
        unfold pg_mem
        cases hq : pg_lw g (pg_rd g H) a H with
        | zero => rfl
        | succ x =>
          exfalso
          obtain ⟨y1, y2⟩ := pg_lwm hq
          have hev := (pg_vod hcp.1).2 x y1
          have hA := (hw.2.2.2.2.2.2.2.2.1 x).2.2.2.2.2.2 (by rcases hev.2.2 with z | z | z | z <;> omega)
          have := y2.1
          omega
    rw [e] at hp
    exact br_t (nI_le (Nat.le_refl _) (by omega)) hp
  | succ f ih =>
    intro n a ha hn
    obtain ⟨n, rfl⟩ : ∃ k, n = k + 1 := ⟨n - 1, by omega⟩
    have h := ih n (a + 1) (by omega) (by omega)
    refine br_f (nI_ge (by omega) (by omega)) ⟨H.length + 1, ?_⟩
    have e1 : pg_sm (pg_cf g H) (6 + (a + 1)) = pg_sm (pg_cf g H) (6 + a) + pg_mem g H a * 4 ^ (6 + a) := by rw [← pg_cfm (g := g) (H := H)]; rfl
    rw [e1] at h
    have := qy_ev143 (k_procs := k_procs) (k_cells := nI (pg_c g)) (k_deep := k_deep) (k_orderN := k_orderN) (b_s := b_s) (b_order := b_order) (b_made := b_made) (b_codes := b_codes) (b_stack := b_stack) (b_choice := b_choice) (b_work := b_work) (b_rd := b_rd) (post := post) hw P hcp hwk hrd (by omega) h H.length (H.length + 1) 0 (by omega) (by omega)
    rw [qa_sf0] at this
    exact this
theorem qy_ev84 (hw : pg_wf g) (P : qx_P g b_kind b_opA b_opW b_len) (hcp : pg_cp g H) (hrd : ∀ x, x ∈ H → pg_R (pg_K g x) → b_rd x = nI (pg_rd g H x)) {post : Int32 → SY → Prop} {J : Int32 → Int32 → Prop} {p : Nat} (hp : p < pg_n g) (hJ : J (nI (pg_sm (pg_cf g H) (2 * (p + 1)))) (nI (p + 1))) :
    ∀ f n r, r + f = 2 → f < n → wY_evaluate_84 post J (nI p) k_procs k_cells k_deep k_orderN k_workN b_len b_kind b_opA b_opW b_s b_order b_made b_codes b_stack b_choice b_work b_rd n (nI (pg_sm (pg_cf g H) (2 * p + r))) (nI r) := by
  have hn3 := hw.2.1
  have h5 := hw.2.2.2.2.2.1 p
  have hwk' := hw.2.2.2.2.2.2.2.2.1
  intro f
  induction f with
  | zero =>
    intro n r hr hn
    obtain ⟨n, rfl⟩ : ∃ k, n = k + 1 := ⟨n - 1, by omega⟩
    obtain rfl : r = 2 := by omega
    exact br_t (by decide) (nm_r (nI_1 p) hJ)
  | succ f ih =>
    intro n r hr hn
    obtain ⟨n, rfl⟩ : ∃ k, n = k + 1 := ⟨n - 1, by omega⟩
    have h := ih n (r + 1) (by omega) (by omega)
    have hl := pg_regL hwk' H p r (pg_L g p)
    have e1 : pg_cf g H (2 * p + r) = pg_reg g H p r (pg_L g p) := by
      rw [pg_cfr (by omega), show (2 * p + r) / 2 = p by omega, show (2 * p + r) % 2 = r by omega]
    refine br_f (nI_ge (b := 2) (by omega) (by decide)) ⟨pk_in p 3 (by omega), ?_⟩
    rw [qa_ln P (by omega)]
    refine qy_rb hw P (by omega) (by omega) (by omega) (pg_rdl hwk' H) (fun i hi hR => hrd _ (pg_cpa hw hcp (pg_evp hw hi (pg_RM hR))) hR) ?_
    refine nm_r (qa_s22 (v := pg_rb g (pg_rd g H) p r (pg_L g p)) hl (by omega) (by omega)) (nm_r (nI_1 r) ?_)
    have e2 : pg_sm (pg_cf g H) (2 * p + (r + 1)) = pg_sm (pg_cf g H) (2 * p + r) + pg_rb g (pg_rd g H) p r (pg_L g p) * 4 ^ (2 * p + r) := by
      show pg_sm (pg_cf g H) (2 * p + r) + pg_cf g H (2 * p + r) * 4 ^ (2 * p + r) = _
      rw [e1]; rfl
    rw [e2] at h
    exact h
theorem qy_ev74 (hw : pg_wf g) (P : qx_P g b_kind b_opA b_opW b_len) (hcp : pg_cp g H) (hwk : qa_Ar H b_work) (hrd : ∀ x, x ∈ H → pg_R (pg_K g x) → b_rd x = nI (pg_rd g H x)) {post : Int32 → SY → Prop} (hp : post (nI (pg_code g H)) ((nI (pg_n g)), (nI (pg_c g)), k_deep, k_orderN, (nI H.length), b_len, b_kind, b_opA, b_opW, b_s, b_order, b_made, b_codes, b_stack, b_choice, b_work, b_rd)) :
    ∀ f n p, p + f = pg_n g → f < n → wY_evaluate_74 post (nI (pg_n g)) (nI (pg_c g)) k_deep k_orderN (nI H.length) b_len b_kind b_opA b_opW b_s b_order b_made b_codes b_stack b_choice b_work b_rd n (nI (pg_sm (pg_cf g H) (2 * p))) (nI p) := by
  have hn3 := hw.2.1
  intro f
  induction f with
  | zero =>
    intro n p hf hn
    obtain ⟨n, rfl⟩ : ∃ k, n = k + 1 := ⟨n - 1, by omega⟩
    obtain rfl : p = pg_n g := by omega
    have e : pg_sm (pg_cf g H) (2 * pg_n g) = pg_sm (pg_cf g H) (6 + 0) := by
      have := pg_smz (f := pg_cf g H) (n := 2 * pg_n g) (m := 6 - 2 * pg_n g) (fun i h1 h2 => ?_)
      · rw [show 2 * pg_n g + (6 - 2 * pg_n g) = 6 + 0 by omega] at this
        exact this.symm
      · rw [pg_cfr (by omega), hw.2.2.2.2.2.2.1 (i / 2) (by omega)]
        rfl
    rw [e]
    exact br_t (nI_le (Nat.le_refl _) (by omega)) ⟨pg_c g + 1, qy_ev130 hw P hcp hwk hrd hp (pg_c g) (pg_c g + 1) 0 (by omega) (by omega)⟩
  | succ f ih =>
    intro n p hf hn
    obtain ⟨n, rfl⟩ : ∃ k, n = k + 1 := ⟨n - 1, by omega⟩
    exact br_f (nI_ge (by omega) (by omega)) ⟨3, qy_ev84 hw P hcp hrd (by omega) (ih n (p + 1) (by omega) (by omega)) 2 3 0 (by omega) (by omega)⟩
theorem qy_ev2 (hw : pg_wf g) (P : qx_P g b_kind b_opA b_opW b_len) (hcp : pg_cp g H) (hwk : qa_Ar H b_work) {post : Int32 → SY → Prop} (hp : ∀ RD, (∀ x, x ∈ H → pg_R (pg_K g x) → RD x = nI (pg_rd g H x)) → post (nI (pg_code g H)) ((nI (pg_n g)), (nI (pg_c g)), k_deep, k_orderN, (nI H.length), b_len, b_kind, b_opA, b_opW, b_s, b_order, b_made, b_codes, b_stack, b_choice, b_work, RD)) :
    ∀ f n k RD, k + f = H.length → f < n → (∀ x, x ∈ qa_sf H k → pg_R (pg_K g x) → RD x = nI (pg_rd g (qa_sf H k) x)) → wY_evaluate_2 post (nI (pg_n g)) (nI (pg_c g)) k_deep k_orderN (nI H.length) n (nI k) b_len b_kind b_opA b_opW b_s b_order b_made b_codes b_stack b_choice b_work RD := by
  have hn3 := hw.2.1
  have hl : H.length ≤ 6 := by rw [hcp.2]; exact hw.2.2.2.2.2.2.2.2.2
  have hwk' := hw.2.2.2.2.2.2.2.2.1
  intro f
  induction f with
  | zero =>
    intro n k RD hk hn hrd
    obtain ⟨n, rfl⟩ : ∃ k, n = k + 1 := ⟨n - 1, by omega⟩
    obtain rfl : k = H.length := by omega
    rw [qa_sfL] at hrd
    exact br_t (nI_le (Nat.le_refl _) (by omega)) ⟨pg_n g + 1, qy_ev74 hw P hcp hwk hrd (hp RD hrd) (pg_n g) (pg_n g + 1) 0 (by omega) (by omega)⟩
  | succ f ih =>
    intro n k RD hk hn hrd
    obtain ⟨n, rfl⟩ : ∃ k, n = k + 1 := ⟨n - 1, by omega⟩
    have hv := qa_sfv hcp.1 k
    have hok := qa_sfo hcp.1 (k := k) (by omega)
    have hS := qa_sfS (H := H) (k := k) (by omega)
    have h24 := pg_ev24 hw hok.1
    have ewk : b_work (nI k).toNatClampNeg = nI (qa_rg H k) := by rw [nI_clamp (by omega)]; exact qa_Arg hwk (by omega)
    have i24 : vp_in (nI (qa_rg H k)) 24 := pk_in _ 24 h24
    have ek : b_kind (nI (qa_rg H k)).toNatClampNeg = nI (pg_K g (qa_rg H k)) := qa_kd P (by omega)
    have kl := qa_kl hw (qa_rg H k)
    have hrl := pg_rdl hwk' (qa_sf H k)
    have nx : ∀ v : Int32, v = nI (pg_rd g (qa_sf H (k + 1)) (qa_rg H k)) → pg_R (pg_K g (qa_rg H k)) → wY_evaluate_2 post (nI (pg_n g)) (nI (pg_c g)) k_deep k_orderN (nI H.length) n (nI (k + 1)) b_len b_kind b_opA b_opW b_s b_order b_made b_codes b_stack b_choice b_work (upd RD (qa_rg H k) v) := by
      intro v hv' hR
      refine ih n (k + 1) _ (by omega) (by omega) (fun x hx hr => ?_)
      rw [hS] at hx hv' ⊢
      by_cases c : x = qa_rg H k
      · rw [c, pk_us, hv']
      · rw [pk_un c, pg_rdn c]
        exact hrd x ((List.mem_cons.mp hx).resolve_left c) hr
    have rdc : pg_R (pg_K g (qa_rg H k)) → wY_evaluate_37 post (wY_evaluate_2 post (nI (pg_n g)) (nI (pg_c g)) k_deep k_orderN (nI H.length) n) (nI k) (nI (qa_rg H k)) (nI (pg_n g)) (nI (pg_c g)) k_deep k_orderN (nI H.length) b_len b_kind b_opA b_opW b_s b_order b_made b_codes b_stack b_choice b_work RD := by
      intro hR
      have hv0 : pg_rd g (qa_sf H (k + 1)) (qa_rg H k) = pg_sv g (pg_rd g (qa_sf H k)) (pg_sr g (pg_rd g (qa_sf H k)) (qa_sf H k) (qa_rg H k)) := by rw [hS, pg_rde hR]
      refine qy_so hw P hcp hwk (by omega) hrl hrd ?_
      cases hq : pg_sr g (pg_rd g (qa_sf H k)) (qa_sf H k) (qa_rg H k) with
      | zero =>
        rw [hq] at hv0
        refine br_t rfl ⟨i24, nm_r (qa_u (by omega)) (nm_r (nI_1 k) (nx 0 ?_ hR))⟩
        rw [hv0]; rfl
      | succ x =>
        rw [hq] at hv0
        obtain ⟨y1, y2, y3⟩ := pg_srx hv hok hq
        have hx24 := pg_ev24 hw y2
        have hne : ¬ nI x = -14 := by
          intro z
          have h1 : (0 : Int32) ≤ nI x := nI_pos' (by omega)
          rw [z] at h1
          exact absurd h1 (by decide)
        refine br_f hne (qy_wr hw P hx24 y1 hrl (fun s a b d => hrd s (y3 s a b d) d) ⟨i24, nm_r (qa_u (by omega)) (nm_r (nI_1 k) (nx _ ?_ hR))⟩)
        rw [hv0]; rfl
    refine br_f (nI_ge (by omega) (by omega)) ⟨pk_in k 6 (by omega), nm_r ewk ⟨i24, pk_eq (pg_K g (qa_rg H k)) 1 (fun c => rdc (Or.inl c)) (fun c1 => ⟨i24, pk_eq (pg_K g (qa_rg H k)) 5 (fun c => rdc (Or.inr c)) (fun c5 => nm_r (nI_1 k) ?_) ek rfl kl.1⟩) ek rfl kl.1⟩⟩
    refine ih n (k + 1) RD (by omega) (by omega) (fun x hx hr => ?_)
    have hnR : ¬ pg_R (pg_K g (qa_rg H k)) := fun z => z.elim c1 c5
    rw [hS] at hx ⊢
    rw [pg_rds hnR]
    rcases List.mem_cons.mp hx with hx | hx
    · rw [hx] at hr; exact absurd hr hnR
    · exact hrd x hx hr
theorem qy_eval (hw : pg_wf g) (P : qx_P g b_kind b_opA b_opW b_len) (hcp : pg_cp g H) (hwk : qa_Ar H b_work) {post : Int32 → SY → Prop} (hp : ∀ RD, (∀ x, x ∈ H → pg_R (pg_K g x) → RD x = nI (pg_rd g H x)) → post (nI (pg_code g H)) ((nI (pg_n g)), (nI (pg_c g)), k_deep, k_orderN, (nI H.length), b_len, b_kind, b_opA, b_opW, b_s, b_order, b_made, b_codes, b_stack, b_choice, b_work, RD)) : wpY_evaluate post ((nI (pg_n g)), (nI (pg_c g)), k_deep, k_orderN, (nI H.length), b_len, b_kind, b_opA, b_opW, b_s, b_order, b_made, b_codes, b_stack, b_choice, b_work, b_rd) := by
  refine ⟨H.length + 1, qy_ev2 hw P hcp hwk hp H.length (H.length + 1) 0 b_rd (by omega) (by omega) (fun x hx => ?_)⟩
  rw [qa_sf0] at hx
  simp at hx
end
end
section
/-! Y: verdict -/
def pg_may (g : pg_T) (i j : Nat) : Prop := pg_S (pg_K g i) ∧ pg_K g j = 1 ∧ ∀ f, i < f → f < j → pg_K g f ≠ 4
theorem pg_b1 {g : pg_T} {H : List Nat} (hn : H.Nodup) (he : ∀ x, x ∈ H → pg_ev g x) {x y : Nat} (hxy : x < y) (hy : y < H.length) (h8 : qa_rg H y / 8 = qa_rg H x / 8) (hlt : qa_rg H y < qa_rg H x) (hm : ¬ pg_may g (qa_rg H y) (qa_rg H x)) : pg_bk g (qa_sf H x) (qa_rg H x) := by
  refine ⟨qa_rg H y, by omega, hlt, (he _ (qa_rgm hy)).2.2, qa_sfn hn (by omega) hy, ?_⟩
  by_cases c1 : pg_K g (qa_rg H x) = 1
  · by_cases c2 : pg_S (pg_K g (qa_rg H y))
    · refine Or.inr (Or.inr ?_)
      apply Classical.byContradiction
      intro z
      exact hm ⟨c2, c1, fun f h1 h2 h3 => z ⟨f, h1, h2, h3⟩⟩
    · exact Or.inr (Or.inl c2)
  · exact Or.inl c1
theorem pg_b2 {g : pg_T} (hw : pg_wf g) {H : List Nat} (hn : H.Nodup) (he : ∀ x, x ∈ H → pg_ev g x) (hN : pg_N g ≤ H.length) {x : Nat} (hx : x < H.length) (h : pg_bk g (qa_sf H x) (qa_rg H x)) : ∃ y, x < y ∧ y < H.length ∧ qa_rg H y / 8 = qa_rg H x / 8 ∧ qa_rg H y < qa_rg H x ∧ ¬ pg_may g (qa_rg H y) (qa_rg H x) := by
  obtain ⟨s, h1, h2, h3, h4, h5⟩ := h
  have hex := he _ (qa_rgm hx)
  have h8 : s / 8 = qa_rg H x / 8 := by omega
  have hs : pg_ev g s := ⟨by rw [h8]; exact hex.1, by rw [h8]; have := hex.2.1; omega, h3⟩
  obtain ⟨y, a, b⟩ := qa_mem (pg_all hw hn he hN hs)
  refine ⟨y, ?_, a, by rw [b]; exact h8, by rw [b]; exact h2, ?_⟩
  · rcases Nat.lt_trichotomy y x with z | z | z
    · exact absurd ((qa_sfm (by omega)).mpr ⟨y, z, b⟩) h4
    · subst z; omega
    · exact z
  · rw [b]
    rintro ⟨m1, m2, m3⟩
    rcases h5 with z | z | ⟨f, f1, f2, f3⟩
    · exact z m2
    · exact z m1
    · exact m3 f f1 f2 f3
def pg_lt (g : pg_T) (H : List Nat) (x m : Nat) : List Nat := (qa_sf H m).filter (fun z => decide (¬ z ∈ qa_sf H (x + 1) ∧ pg_S (pg_K g z) ∧ z / 8 = qa_rg H x / 8 ∧ z < qa_rg H x))
theorem pg_lt0 {g : pg_T} {H : List Nat} {x : Nat} : pg_lt g H x (x + 1) = [] := by
  unfold pg_lt
  apply List.filter_eq_nil_iff.mpr
  intro a ha
  simp [ha]
theorem pg_ltT {g : pg_T} {H : List Nat} (hn : H.Nodup) {x m : Nat} (hxm : x < m) (hm : m < H.length) (h : pg_S (pg_K g (qa_rg H m)) ∧ qa_rg H m / 8 = qa_rg H x / 8 ∧ qa_rg H m < qa_rg H x) : (pg_lt g H x (m + 1)).length = (pg_lt g H x m).length + 1 := by
  unfold pg_lt
  rw [qa_sfS hm, List.filter_cons_of_pos]
  · rfl
  · exact decide_eq_true ⟨qa_sfn hn (by omega) hm, h⟩
theorem pg_ltF {g : pg_T} {H : List Nat} {x m : Nat} (hm : m < H.length) (h : ¬ (pg_S (pg_K g (qa_rg H m)) ∧ qa_rg H m / 8 = qa_rg H x / 8 ∧ qa_rg H m < qa_rg H x)) : pg_lt g H x (m + 1) = pg_lt g H x m := by
  unfold pg_lt
  rw [qa_sfS hm, List.filter_cons_of_neg]
  intro z
  exact h (of_decide_eq_true z).2
theorem pg_ltn {g : pg_T} (hw : pg_wf g) {H : List Nat} (hn : H.Nodup) (he : ∀ x, x ∈ H → pg_ev g x) (hN : pg_N g ≤ H.length) {x : Nat} (hx : x < H.length) : (pg_lt g H x H.length).length = pg_ov g (qa_sf H x) (8 * (qa_rg H x / 8)) (qa_rg H x % 8) := by
  rw [← pg_pdl]
  have hex := he _ (qa_rgm hx)
  have hS := qa_sfS hx
  apply Nat.le_antisymm
  · refine List.Nodup.length_le_of_subset ?_ ?_
    · unfold pg_lt
      rw [qa_sfL]
      exact hn.filter _
    · intro z hz
      unfold pg_lt at hz
      obtain ⟨a, b⟩ := List.mem_filter.mp hz
      obtain ⟨b1, b2, b3, b4⟩ := of_decide_eq_true b
      refine pg_pdm.mpr ⟨by omega, by omega, b2, fun y => b1 ?_⟩
      rw [hS]; exact List.mem_cons_of_mem _ y
  · refine List.Nodup.length_le_of_subset (pg_pds.imp (fun h => by omega)) ?_
    intro z hz
    obtain ⟨a, b, c, d⟩ := pg_pdm.mp hz
    have h8 : z / 8 = qa_rg H x / 8 := by omega
    have hez : pg_ev g z := ⟨by rw [h8]; exact hex.1, by rw [h8]; have := hex.2.1; omega, pg_SM c⟩
    unfold pg_lt
    rw [qa_sfL]
    refine List.mem_filter.mpr ⟨pg_all hw hn he hN hez, decide_eq_true ⟨?_, c, h8, by omega⟩⟩
    rw [hS, List.mem_cons]
    rintro (y | y)
    · omega
    · exact d y
section
variable {k_procs k_cells k_deep k_orderN k_workN : Int32} {b_len b_kind b_opA b_opW b_s b_order b_made b_codes b_stack b_choice b_work b_rd : Nat → Int32}
variable {g : pg_T} {H : List Nat}
theorem qy_v107 (hw : pg_wf g) (P : qx_P g b_kind b_opA b_opW b_len) {post : Int32 → SY → Prop} {J18 J30 : Int32 → Prop} {x2 : Int32} {y i j : Nat} (hj : j < 24) (hij : i < j) {M : Prop}
    (h9 : ¬ (M ∧ ∀ f, i < f → f < j → pg_K g f ≠ 4) → post (-9) (k_procs, k_cells, k_deep, k_orderN, k_workN, b_len, b_kind, b_opA, b_opW, b_s, b_order, b_made, b_codes, b_stack, b_choice, b_work, b_rd)) (hJ : (M ∧ ∀ f, i < f → f < j → pg_K g f ≠ 4) → J30 (nI (y + 1))) :
    ∀ k n m, ∀ mv : Int32, m + k = j → k < n → i < m → (mv = 0 ∨ mv = 1) → (mv = 1 ↔ (M ∧ ∀ f, i < f → f < m → pg_K g f ≠ 4)) → wY_verdict_107 post J18 J30 x2 (nI y) (nI j) k_procs k_cells k_deep k_orderN k_workN b_len b_kind b_opA b_opW b_s b_order b_made b_codes b_stack b_choice b_work b_rd n mv (nI m) := by
  intro k
  induction k with
  | zero =>
    intro n m mv hm hn him h01 hmv
    obtain ⟨n, rfl⟩ : ∃ k, n = k + 1 := ⟨n - 1, by omega⟩
    obtain rfl : m = j := by omega
    refine br_t (nI_le (Nat.le_refl _) (by omega)) ?_
    rcases h01 with h | h
    · subst h; exact br_t rfl (h9 (fun z => absurd (hmv.mpr z) (by decide)))
    · subst h; exact br_f qa_10 (nm_r (nI_1 y) (hJ (hmv.mp rfl)))
  | succ k ih =>
    intro n m mv hm hn him h01 hmv
    obtain ⟨n, rfl⟩ : ∃ k, n = k + 1 := ⟨n - 1, by omega⟩
    refine br_f (nI_ge (by omega) (by omega)) ⟨pk_in m 24 (by omega), pk_eq (pg_K g m) 4 (fun c => nm_r (nI_1 m) (ih n (m + 1) 0 (by omega) (by omega) (by omega) (Or.inl rfl) ⟨fun z => absurd z (by decide), fun z => absurd c (z.2 m him (by omega))⟩)) (fun c => nm_r (nI_1 m) (ih n (m + 1) mv (by omega) (by omega) (by omega) h01 ?_)) (qa_kd P (by omega)) rfl (qa_kl hw m).1⟩
    rw [hmv]
    constructor
    · rintro ⟨a, b⟩
      refine ⟨a, fun f h1 h2 => ?_⟩
      by_cases z : f = m
      · subst z; exact c
      · exact b f h1 (by omega)
    · rintro ⟨a, b⟩
      exact ⟨a, fun f h1 h2 => b f h1 (by omega)⟩
theorem qy_v30 (hw : pg_wf g) (P : qx_P g b_kind b_opA b_opW b_len) (hl : H.length ≤ 6) (hn' : H.Nodup) (he : ∀ x, x ∈ H → pg_ev g x) (hwk : qa_Ar H b_work) {post : Int32 → SY → Prop} {J18 : Int32 → Prop} {x : Nat} (hx : x < H.length) (h9 : pg_bk g (qa_sf H x) (qa_rg H x) → post (-9) (k_procs, k_cells, k_deep, k_orderN, (nI H.length), b_len, b_kind, b_opA, b_opW, b_s, b_order, b_made, b_codes, b_stack, b_choice, b_work, b_rd))
    (hJ : (∀ y, x < y → y < H.length → qa_rg H y / 8 = qa_rg H x / 8 → qa_rg H y < qa_rg H x → pg_may g (qa_rg H y) (qa_rg H x)) → J18 (nI (x + 1))) :
    ∀ k n y, y + k = H.length → k < n → x < y → (∀ y', x < y' → y' < y → qa_rg H y' / 8 = qa_rg H x / 8 → qa_rg H y' < qa_rg H x → pg_may g (qa_rg H y') (qa_rg H x)) → wY_verdict_30 post J18 (nI x) k_procs k_cells k_deep k_orderN (nI H.length) b_len b_kind b_opA b_opW b_s b_order b_made b_codes b_stack b_choice b_work b_rd n (nI y) := by
  intro k
  induction k with
  | zero =>
    intro n y hy hn hxy hall
    obtain ⟨n, rfl⟩ : ∃ k, n = k + 1 := ⟨n - 1, by omega⟩
    obtain rfl : y = H.length := by omega
    exact br_t (nI_le (Nat.le_refl _) (by omega)) (nm_r (nI_1 x) (hJ hall))
  | succ k ih =>
    intro n y hy hn hxy hall
    obtain ⟨n, rfl⟩ : ∃ k, n = k + 1 := ⟨n - 1, by omega⟩
    have hx24 := pg_ev24 hw (he _ (qa_rgm hx))
    have hy24 := pg_ev24 hw (he _ (qa_rgm (H := H) (i := y) (by omega)))
    have ex : b_work (nI x).toNatClampNeg = nI (qa_rg H x) := by rw [nI_clamp (by omega)]; exact qa_Arg hwk hx
    have ey : b_work (nI y).toNatClampNeg = nI (qa_rg H y) := by rw [nI_clamp (by omega)]; exact qa_Arg hwk (by omega)
    have nx : (qa_rg H y / 8 = qa_rg H x / 8 → qa_rg H y < qa_rg H x → pg_may g (qa_rg H y) (qa_rg H x)) → wY_verdict_30 post J18 (nI x) k_procs k_cells k_deep k_orderN (nI H.length) b_len b_kind b_opA b_opW b_s b_order b_made b_codes b_stack b_choice b_work b_rd n (nI (y + 1)) := by
      intro hm
      refine ih n (y + 1) (by omega) (by omega) (by omega) (fun y' h1 h2 h3 h4 => ?_)
      by_cases c : y' = y
      · subst c; exact hm h3 h4
      · exact hall y' h1 (by omega) h3 h4
    refine br_f (nI_ge (by omega) (by omega)) ⟨pk_in x 6 (by omega), nm_r ex ⟨pk_in y 6 (by omega), nm_r ey ⟨by decide, by decide, pk_eq (qa_rg H y / 8) (qa_rg H x / 8) (fun d => pk_le (qa_rg H x) (qa_rg H y) (fun z => nm_r (nI_1 y) (nx (fun _ w => by omega))) (fun z => ?_)) (fun d => nm_r (nI_1 y) (nx (fun w => absurd w d))) (qa_d8 _ hy24) (qa_d8 _ hx24)⟩⟩⟩
    have key : ∀ mv : Int32, (mv = 0 ∨ mv = 1) → (mv = 1 ↔ (pg_S (pg_K g (qa_rg H y)) ∧ pg_K g (qa_rg H x) = 1)) → wY_verdict_107 post J18 (wY_verdict_30 post J18 (nI x) k_procs k_cells k_deep k_orderN (nI H.length) b_len b_kind b_opA b_opW b_s b_order b_made b_codes b_stack b_choice b_work b_rd n) (nI x) (nI y) (nI (qa_rg H x)) k_procs k_cells k_deep k_orderN (nI H.length) b_len b_kind b_opA b_opW b_s b_order b_made b_codes b_stack b_choice b_work b_rd (qa_rg H x + 1) mv (nI (qa_rg H y + 1)) := by
      intro mv h01 hmv
      refine qy_v107 hw P hx24 z (M := pg_S (pg_K g (qa_rg H y)) ∧ pg_K g (qa_rg H x) = 1) (fun w => h9 (pg_b1 hn' he hxy (by omega) d z (fun v => w ⟨⟨v.1, v.2.1⟩, v.2.2⟩))) (fun w => nx (fun _ _ => ⟨w.1.1, w.1.2, w.2⟩)) (qa_rg H x - (qa_rg H y + 1)) (qa_rg H x + 1) (qa_rg H y + 1) mv (by omega) (by omega) (by omega) h01 ?_
      rw [hmv]
      exact ⟨fun a => ⟨a, fun f h1 h2 => by omega⟩, fun a => a.1⟩
    by_cases s : pg_S (pg_K g (qa_rg H y))
    · refine qy_S1 P hy24 s (br_f qa_10 ⟨pk_in _ 24 hx24, pk_eq (pg_K g (qa_rg H x)) 1 (fun c => nm_r (nI_1 _) ⟨_, key 1 (Or.inr rfl) ⟨fun _ => ⟨s, c⟩, fun _ => rfl⟩⟩) (fun c => nm_r (nI_1 _) ⟨_, key 0 (Or.inl rfl) ⟨fun w => absurd w (by decide), fun w => absurd w.2 c⟩⟩) (qa_kd P (by omega)) rfl (qa_kl hw _).1⟩)
    · exact qy_S0 hw P hy24 s (br_t rfl (nm_r (nI_1 _) ⟨_, key 0 (Or.inl rfl) ⟨fun w => absurd w (by decide), fun w => absurd w.1 s⟩⟩))
theorem qy_v171 (hw : pg_wf g) (P : qx_P g b_kind b_opA b_opW b_len) (hl : H.length ≤ 6) (hn' : H.Nodup) (he : ∀ x, x ∈ H → pg_ev g x) (hN : pg_N g ≤ H.length) (hwk : qa_Ar H b_work) {post : Int32 → SY → Prop} {J : Int32 → Prop} {x : Nat} (hx : x < H.length)
    (h10 : pg_K g (qa_rg H x) = 1 → pg_d g < pg_ov g (qa_sf H x) (8 * (qa_rg H x / 8)) (qa_rg H x % 8) → post (-10) (k_procs, k_cells, (nI (pg_d g)), k_orderN, (nI H.length), b_len, b_kind, b_opA, b_opW, b_s, b_order, b_made, b_codes, b_stack, b_choice, b_work, b_rd))
    (hJ : ¬ (pg_K g (qa_rg H x) = 1 ∧ pg_d g < pg_ov g (qa_sf H x) (8 * (qa_rg H x / 8)) (qa_rg H x % 8)) → J (nI (x + 1))) :
    ∀ k n y, y + k = H.length → k < n → x < y → wY_verdict_171 post J (nI x) k_procs k_cells (nI (pg_d g)) k_orderN (nI H.length) b_len b_kind b_opA b_opW b_s b_order b_made b_codes b_stack b_choice b_work b_rd n (nI (pg_lt g H x y).length) (nI y) := by
  have hd3 := hw.2.2.2.2.1
  have hx24 := pg_ev24 hw (he _ (qa_rgm hx))
  have ex : b_work (nI x).toNatClampNeg = nI (qa_rg H x) := by rw [nI_clamp (by omega)]; exact qa_Arg hwk hx
  intro k
  induction k with
  | zero =>
    intro n y hy hn hxy
    obtain ⟨n, rfl⟩ : ∃ k, n = k + 1 := ⟨n - 1, by omega⟩
    obtain rfl : y = H.length := by omega
    rw [pg_ltn hw hn' he hN hx]
    have hol := pg_ovl (g := g) (T := qa_sf H x) (b := 8 * (qa_rg H x / 8)) (qa_rg H x % 8)
    refine br_t (nI_le (Nat.le_refl _) (by omega)) ⟨pk_in x 6 (by omega), ?_⟩
    rw [ex]
    exact ⟨pk_in _ 24 hx24, pk_eq (pg_K g (qa_rg H x)) 1 (fun c => pk_le _ (pg_d g) (fun z => nm_r (nI_1 x) (hJ (fun w => by omega))) (fun z => h10 c z)) (fun c => nm_r (nI_1 x) (hJ (fun w => c w.1))) (qa_kd P (by omega)) rfl (qa_kl hw _).1⟩
  | succ k ih =>
    intro n y hy hn hxy
    obtain ⟨n, rfl⟩ : ∃ k, n = k + 1 := ⟨n - 1, by omega⟩
    have h := ih n (y + 1) (by omega) (by omega) (by omega)
    have hy24 := pg_ev24 hw (he _ (qa_rgm (H := H) (i := y) (by omega)))
    have ey : b_work (nI y).toNatClampNeg = nI (qa_rg H y) := by rw [nI_clamp (by omega)]; exact qa_Arg hwk (by omega)
    have x6 : vp_in (nI x) 6 := pk_in x 6 (by omega)
    have y6 : vp_in (nI y) 6 := pk_in y 6 (by omega)
    refine br_f (nI_ge (by omega) (by omega)) ⟨y6, by decide, x6, by decide, ?_⟩
    rw [ex, ey]
    refine pk_eq (qa_rg H y / 8) (qa_rg H x / 8) (fun d => ⟨y6, x6, pk_le (qa_rg H x) (qa_rg H y) (fun z => nm_r (nI_1 y) ?_) (fun z => ⟨y6, ?_⟩)⟩) (fun d => nm_r (nI_1 y) ?_) (qa_d8 _ hy24) (qa_d8 _ hx24)
    · rw [pg_ltF (by omega) (fun w => by omega)] at h; exact h
    · by_cases s : pg_S (pg_K g (qa_rg H y))
      · rw [pg_ltT hn' hxy (by omega) ⟨s, d, z⟩] at h
        exact qy_S1 P hy24 s (br_f qa_10 (nm_r (nI_1 _) (nm_r (nI_1 y) h)))
      · rw [pg_ltF (by omega) (fun w => s w.1)] at h
        exact qy_S0 hw P hy24 s (br_t rfl (nm_r (nI_1 y) h))
    · rw [pg_ltF (by omega) (fun w => d w.2.1)] at h; exact h
theorem qy_v156 (hw : pg_wf g) (P : qx_P g b_kind b_opA b_opW b_len) (hn' : H.Nodup) (he : ∀ x, x ∈ H → pg_ev g x) (hN : pg_N g ≤ H.length) (hwk : qa_Ar H b_work) (hb : ¬ pg_ab g H) {post : Int32 → SY → Prop}
    (h10 : pg_ad g H → post (-10) ((nI (pg_n g)), (nI (pg_c g)), (nI (pg_d g)), k_orderN, (nI H.length), b_len, b_kind, b_opA, b_opW, b_s, b_order, b_made, b_codes, b_stack, b_choice, b_work, b_rd))
    (hc : pg_cp g H → ∀ RD, (∀ x, x ∈ H → pg_R (pg_K g x) → RD x = nI (pg_rd g H x)) → post (nI (pg_code g H)) ((nI (pg_n g)), (nI (pg_c g)), (nI (pg_d g)), k_orderN, (nI H.length), b_len, b_kind, b_opA, b_opW, b_s, b_order, b_made, b_codes, b_stack, b_choice, b_work, RD)) :
    ∀ k n x, x + k = H.length → k < n → ¬ pg_ad g (qa_sf H x) → wY_verdict_156 post (nI (pg_n g)) (nI (pg_c g)) (nI (pg_d g)) k_orderN (nI H.length) b_len b_kind b_opA b_opW b_s b_order b_made b_codes b_stack b_choice b_work b_rd n (nI x) := by
  have hlN := pg_len hw hn' he
  have h6 : pg_N g ≤ 6 := hw.2.2.2.2.2.2.2.2.2
  intro k
  induction k with
  | zero =>
    intro n x hx hn hd
    obtain ⟨n, rfl⟩ : ∃ k, n = k + 1 := ⟨n - 1, by omega⟩
    obtain rfl : x = H.length := by omega
    rw [qa_sfL] at hd
    have hcp : pg_cp g H := ⟨pg_vab hn' he hb hd, by omega⟩
    exact br_t (nI_le (Nat.le_refl _) (by omega)) (qy_eval hw P hcp hwk (fun RD h => hc hcp RD h))
  | succ k ih =>
    intro n x hx hn hd
    obtain ⟨n, rfl⟩ : ∃ k, n = k + 1 := ⟨n - 1, by omega⟩
    have hS := qa_sfS (H := H) (k := x) (by omega)
    refine br_f (nI_ge (by omega) (by omega)) (nm_r (nI_1 x) ⟨H.length + 1, ?_⟩)
    have := qy_v171 (k_procs := nI (pg_n g)) (k_cells := nI (pg_c g)) (k_orderN := k_orderN) (b_s := b_s) (b_order := b_order) (b_made := b_made) (b_codes := b_codes) (b_stack := b_stack) (b_choice := b_choice) (b_work := b_work) (b_rd := b_rd) (post := post) (J := wY_verdict_156 post (nI (pg_n g)) (nI (pg_c g)) (nI (pg_d g)) k_orderN (nI H.length) b_len b_kind b_opA b_opW b_s b_order b_made b_codes b_stack b_choice b_work b_rd n) hw P (by omega) hn' he hN hwk (x := x) (by omega) (fun a b => h10 (pg_ads (k := x + 1) (by rw [hS]; exact Or.inr ⟨a, b⟩))) (fun a => ih n (x + 1) (by omega) (by omega) (by rw [hS]; exact fun z => z.elim hd a)) (H.length - (x + 1)) (H.length + 1) (x + 1) (by omega) (by omega) (by omega)
    rw [pg_lt0] at this
    exact this
theorem qy_v18 (hw : pg_wf g) (P : qx_P g b_kind b_opA b_opW b_len) (hn' : H.Nodup) (he : ∀ x, x ∈ H → pg_ev g x) (hN : pg_N g ≤ H.length) (hwk : qa_Ar H b_work) {post : Int32 → SY → Prop}
    (h9 : pg_ab g H → post (-9) ((nI (pg_n g)), (nI (pg_c g)), (nI (pg_d g)), k_orderN, (nI H.length), b_len, b_kind, b_opA, b_opW, b_s, b_order, b_made, b_codes, b_stack, b_choice, b_work, b_rd))
    (h10 : ¬ pg_ab g H → pg_ad g H → post (-10) ((nI (pg_n g)), (nI (pg_c g)), (nI (pg_d g)), k_orderN, (nI H.length), b_len, b_kind, b_opA, b_opW, b_s, b_order, b_made, b_codes, b_stack, b_choice, b_work, b_rd))
    (hc : pg_cp g H → ∀ RD, (∀ x, x ∈ H → pg_R (pg_K g x) → RD x = nI (pg_rd g H x)) → post (nI (pg_code g H)) ((nI (pg_n g)), (nI (pg_c g)), (nI (pg_d g)), k_orderN, (nI H.length), b_len, b_kind, b_opA, b_opW, b_s, b_order, b_made, b_codes, b_stack, b_choice, b_work, RD)) :
    ∀ k n x, x + k = H.length → k < n → ¬ pg_ab g (qa_sf H x) → wY_verdict_18 post (nI (pg_n g)) (nI (pg_c g)) (nI (pg_d g)) k_orderN (nI H.length) b_len b_kind b_opA b_opW b_s b_order b_made b_codes b_stack b_choice b_work b_rd n (nI x) := by
  have hlN := pg_len hw hn' he
  have h6 : pg_N g ≤ 6 := hw.2.2.2.2.2.2.2.2.2
  intro k
  induction k with
  | zero =>
    intro n x hx hn hd
    obtain ⟨n, rfl⟩ : ∃ k, n = k + 1 := ⟨n - 1, by omega⟩
    obtain rfl : x = H.length := by omega
    rw [qa_sfL] at hd
    refine br_t (nI_le (Nat.le_refl _) (by omega)) ⟨H.length + 1, qy_v156 hw P hn' he hN hwk hd (h10 hd) hc H.length (H.length + 1) 0 (by omega) (by omega) ?_⟩
    rw [qa_sf0]; exact id
  | succ k ih =>
    intro n x hx hn hd
    obtain ⟨n, rfl⟩ : ∃ k, n = k + 1 := ⟨n - 1, by omega⟩
    have hS := qa_sfS (H := H) (k := x) (by omega)
    refine br_f (nI_ge (by omega) (by omega)) (nm_r (nI_1 x) ⟨H.length + 1, ?_⟩)
    refine qy_v30 hw P (by omega) hn' he hwk (x := x) (by omega) (fun a => h9 (pg_abs (k := x + 1) (by rw [hS]; exact Or.inr a))) (fun a => ih n (x + 1) (by omega) (by omega) ?_) (H.length - (x + 1)) (H.length + 1) (x + 1) (by omega) (by omega) (by omega) (fun y' h1 h2 => by omega)
    rw [hS]
    intro z
    rcases z with z | z
    · exact hd z
    · obtain ⟨y, y1, y2, y3, y4, y5⟩ := pg_b2 hw hn' he hN (by omega) z
      exact y5 (a y y1 y2 y3 y4)
theorem qy_verdict (hw : pg_wf g) (P : qx_P g b_kind b_opA b_opW b_len) (hn' : H.Nodup) (he : ∀ x, x ∈ H → pg_ev g x) (hwk : qa_Ar H b_work) {post : Int32 → SY → Prop}
    (h8 : H.length < pg_N g → post (-8) ((nI (pg_n g)), (nI (pg_c g)), (nI (pg_d g)), k_orderN, (nI H.length), b_len, b_kind, b_opA, b_opW, b_s, b_order, b_made, b_codes, b_stack, b_choice, b_work, b_rd))
    (h9 : pg_N g ≤ H.length → pg_ab g H → post (-9) ((nI (pg_n g)), (nI (pg_c g)), (nI (pg_d g)), k_orderN, (nI H.length), b_len, b_kind, b_opA, b_opW, b_s, b_order, b_made, b_codes, b_stack, b_choice, b_work, b_rd))
    (h10 : pg_N g ≤ H.length → ¬ pg_ab g H → pg_ad g H → post (-10) ((nI (pg_n g)), (nI (pg_c g)), (nI (pg_d g)), k_orderN, (nI H.length), b_len, b_kind, b_opA, b_opW, b_s, b_order, b_made, b_codes, b_stack, b_choice, b_work, b_rd))
    (hc : pg_cp g H → ∀ RD, (∀ x, x ∈ H → pg_R (pg_K g x) → RD x = nI (pg_rd g H x)) → post (nI (pg_code g H)) ((nI (pg_n g)), (nI (pg_c g)), (nI (pg_d g)), k_orderN, (nI H.length), b_len, b_kind, b_opA, b_opW, b_s, b_order, b_made, b_codes, b_stack, b_choice, b_work, RD)) :
    wpY_verdict post ((nI (pg_n g)), (nI (pg_c g)), (nI (pg_d g)), k_orderN, (nI H.length), b_len, b_kind, b_opA, b_opW, b_s, b_order, b_made, b_codes, b_stack, b_choice, b_work, b_rd) := by
  have hlN := pg_len hw hn' he
  have h6 : pg_N g ≤ 6 := hw.2.2.2.2.2.2.2.2.2
  unfold wpY_verdict
  refine qy_events hw P (pk_le (pg_N g) H.length (fun z => ⟨H.length + 1, qy_v18 hw P hn' he z hwk (h9 z) (h10 z) hc H.length (H.length + 1) 0 (by omega) (by omega) ?_⟩) (fun z => h8 z))
  rw [qa_sf0]; exact id
end
end
section
/-! Y: the next permutation -/
def pg_lf (W : Nat → Nat) : Nat → List Nat
  | 0 => []
  | n + 1 => W n :: pg_lf W n
theorem pg_lfl {W : Nat → Nat} : ∀ n, (pg_lf W n).length = n
  | 0 => rfl
  | n + 1 => by simp only [pg_lf, List.length_cons, pg_lfl n]
theorem pg_lfg {W : Nat → Nat} : ∀ {n i : Nat}, i < n → qa_rg (pg_lf W n) i = W i
  | 0, i, h => by omega
  | n + 1, i, h => by
    simp only [pg_lf]
    by_cases c : i = n
    · subst c
      have := qa_rgS (e := W i) (T := pg_lf W i)
      rw [pg_lfl] at this
      exact this
    · rw [qa_rgT (by rw [pg_lfl]; omega)]
      exact pg_lfg (by omega)
theorem pg_lfn {W : Nat → Nat} : ∀ {n : Nat}, (∀ a b, a < n → b < n → W a = W b → a = b) → (pg_lf W n).Nodup
  | 0, _ => List.nodup_nil
  | n + 1, h => by
    refine List.nodup_cons.mpr ⟨fun z => ?_, pg_lfn (fun a b ha hb => h a b (by omega) (by omega))⟩
    obtain ⟨i, hi, e⟩ := qa_mem z
    rw [pg_lfl] at hi
    rw [pg_lfg hi] at e
    have := h i n (by omega) (by omega) e
    omega
theorem pg_lfm {W : Nat → Nat} {n x : Nat} (h : x ∈ pg_lf W n) : ∃ i, i < n ∧ W i = x := by
  obtain ⟨i, hi, e⟩ := qa_mem h
  rw [pg_lfl] at hi
  rw [pg_lfg hi] at e
  exact ⟨i, hi, e⟩
/-- a full list of the events, in any order -/
def pg_pm (g : pg_T) (H : List Nat) : Prop := H.Nodup ∧ (∀ x, x ∈ H → pg_ev g x) ∧ H.length = pg_N g
theorem pg_cpp {g : pg_T} {H : List Nat} (h : pg_cp g H) : pg_pm g H := ⟨(pg_vod h.1).1, (pg_vod h.1).2, h.2⟩
theorem pg_pms {g : pg_T} (hw : pg_wf g) {H : List Nat} (h : pg_pm g H) {e : Nat} (he : pg_ev g e) : ∃ m, m < H.length ∧ qa_rg H m = e :=
  qa_mem (pg_all hw h.1 h.2.1 (by rw [h.2.2]; exact Nat.le_refl _) he)
/-- an order that begins like H up to s, where H falls behind s: it is H or below it -/
theorem pg_dm {g : pg_T} (hw : pg_wf g) {H O : List Nat} (hH : pg_pm g H) (hO : pg_pm g O) {s : Nat} (hs : ∀ t, t < s → t < H.length → qa_rg O t = qa_rg H t) (hd : ∀ m, s ≤ m → m + 1 < H.length → qa_rg H (m + 1) < qa_rg H m) : pg_lx O H ∨ O = H := by
  have hl : O.length = H.length := by rw [hO.2.2, hH.2.2]
  have dd : ∀ a b, s ≤ a → a < b → b < H.length → qa_rg H b < qa_rg H a := by
    intro a b h1 h2
    induction b with
    | zero => omega
    | succ b ih =>
      intro h3
      by_cases c : a = b
      · subst c; exact hd a h1 h3
      · have := ih (by omega) (by omega)
        have := hd b (by omega) h3
        omega
  have key : ∀ k, k ≤ H.length → (∀ t, t < k → qa_rg O t = qa_rg H t) ∨ pg_lx O H := by
    intro k
    induction k with
    | zero => intro _; exact Or.inl (fun t ht => by omega)
    | succ k ih =>
      intro hk
      rcases ih (by omega) with a | a
      · by_cases c : qa_rg O k = qa_rg H k
        · left
          intro t ht
          by_cases z : t = k
          · subst z; exact c
          · exact a t (by omega)
        · right
          have hks : s ≤ k := by
            by_cases z : s ≤ k
            · exact z
            · exact absurd (hs k (by omega) (by omega)) c
          obtain ⟨m, m1, m2⟩ := pg_pms hw hH (hO.2.1 _ (qa_rgm (H := O) (i := k) (by omega)))
          refine ⟨k, by omega, a, ?_⟩
          rcases Nat.lt_trichotomy m k with z | z | z
          · have e := a m z
            rw [m2] at e
            have := qa_inj hO.1 (by omega) (by omega) e
            omega
          · subst z; exact absurd m2.symm c
          · rw [← m2]; exact dd k m hks z m1
      · exact Or.inr a
  rcases key H.length (Nat.le_refl _) with a | a
  · exact Or.inr (qa_eq hl.symm a)
  · exact Or.inl a
theorem pg_first {g : pg_T} (hw : pg_wf g) {O : List Nat} (hO : pg_pm g O) : ¬ pg_lx O (pg_es g 24) := by
  rintro ⟨k, h1, h2, h3⟩
  obtain ⟨c, c1, c2⟩ := pg_eis hw (hO.2.1 _ (qa_rgm (H := O) (i := k) (by rw [hO.2.2]; exact h1)))
  have h4 : pg_ei g c < pg_ei g k := by rw [c2]; exact h3
  have h5 := (pg_eim c1 h1).mp h4
  have e : qa_rg O c = qa_rg O k := by rw [h2 c h5]; exact c2
  have := qa_inj hO.1 (by rw [hO.2.2]; exact c1) (by rw [hO.2.2]; exact h1) e
  omega
theorem pg_pm0 {g : pg_T} : pg_pm g (pg_es g 24) := ⟨pg_esd 24, fun x hx => (pg_esm.mp hx).2, rfl⟩
/-! the next permutation: W with i, j -/
def pg_w1 (W : Nat → Nat) (i j : Nat) : Nat → Nat := fun m => if m = i then W j else if m = j then W i else W m
def pg_w2 (W : Nat → Nat) (n i j : Nat) : Nat → Nat := fun m => if m ≤ i then pg_w1 W i j m else pg_w1 W i j (i + n - m)
section
variable {g : pg_T} {H : List Nat} {i j : Nat}
def pg_nx (H : List Nat) (i j : Nat) : Prop := i < j ∧ j < H.length ∧ (∀ m, i < m → m + 1 < H.length → qa_rg H (m + 1) < qa_rg H m) ∧ qa_rg H i < qa_rg H j ∧ ∀ m, j < m → m < H.length → qa_rg H m < qa_rg H i
theorem pg_w2d {W : Nat → Nat} {n m : Nat} (h : i < m) (hm : m < n) : pg_w2 W n i j m = if i + n - m = j then W i else W (i + n - m) := by
  have e1 : pg_w2 W n i j m = pg_w1 W i j (i + n - m) := if_neg (by omega)
  have e2 : pg_w1 W i j (i + n - m) = if i + n - m = j then W i else W (i + n - m) := if_neg (by omega)
  rw [e1, e2]
theorem pg_w2a {W : Nat → Nat} {n m : Nat} (h : m < i) (hij : i < j) : pg_w2 W n i j m = W m := by
  unfold pg_w2 pg_w1
  rw [if_pos (by omega), if_neg (by omega), if_neg (by omega)]
theorem pg_w2b {W : Nat → Nat} {n : Nat} : pg_w2 W n i j i = W j := by
  unfold pg_w2 pg_w1
  rw [if_pos (Nat.le_refl _), if_pos rfl]
theorem pg_w2k (h : pg_nx H i j) {m : Nat} (hm : m < H.length) : ∃ k, k < H.length ∧ pg_w2 (qa_rg H) H.length i j m = qa_rg H k ∧ ((m < i ∧ k = m) ∨ (m = i ∧ k = j) ∨ (i < m ∧ i + H.length - m = j ∧ k = i) ∨ (i < m ∧ i + H.length - m ≠ j ∧ k = i + H.length - m)) := by
  obtain ⟨h1, h2, _⟩ := h
  rcases Nat.lt_trichotomy m i with c | c | c
  · exact ⟨m, hm, pg_w2a c h1, Or.inl ⟨c, rfl⟩⟩
  · subst c; exact ⟨j, h2, pg_w2b, Or.inr (Or.inl ⟨rfl, rfl⟩)⟩
  · rw [pg_w2d c hm]
    by_cases e : i + H.length - m = j
    · rw [if_pos e]; exact ⟨i, by omega, rfl, Or.inr (Or.inr (Or.inl ⟨c, e, rfl⟩))⟩
    · rw [if_neg e]; exact ⟨i + H.length - m, by omega, rfl, Or.inr (Or.inr (Or.inr ⟨c, e, rfl⟩))⟩
theorem pg_nxp (hH : pg_pm g H) (h : pg_nx H i j) : pg_pm g (pg_lf (pg_w2 (qa_rg H) H.length i j) H.length) := by
  obtain ⟨h1, h2, _⟩ := id h
  refine ⟨pg_lfn (fun a b ha hb e => ?_), fun x hx => ?_, by rw [pg_lfl]; exact hH.2.2⟩
  · obtain ⟨k, k1, k2, k3⟩ := pg_w2k h ha
    obtain ⟨l, l1, l2, l3⟩ := pg_w2k h hb
    rw [k2, l2] at e
    have := qa_inj hH.1 k1 l1 e
    rcases k3 with k3 | k3 | k3 | k3 <;> rcases l3 with l3 | l3 | l3 | l3 <;> omega
  · obtain ⟨m, m1, m2⟩ := pg_lfm hx
    obtain ⟨k, k1, k2, _⟩ := pg_w2k h m1
    rw [← m2, k2]
    exact hH.2.1 _ (qa_rgm k1)
theorem pg_desc (h : pg_nx H i j) : ∀ a b, i < a → a < b → b < H.length → qa_rg H b < qa_rg H a := by
  obtain ⟨_, _, h3, _⟩ := h
  intro a b h1 h2
  induction b with
  | zero => omega
  | succ b ih =>
    intro h4
    by_cases c : a = b
    · subst c; exact h3 a h1 h4
    · have := ih (by omega) (by omega)
      have := h3 b (by omega) h4
      omega
theorem pg_w2c (h : pg_nx H i j) {a b : Nat} (ha : i < a) (hab : a < b) (hb : b < H.length) : pg_w2 (qa_rg H) H.length i j a < pg_w2 (qa_rg H) H.length i j b := by
  have dd := pg_desc h
  obtain ⟨h1, h2, h3, h4, h5⟩ := h
  rw [pg_w2d ha (by omega), pg_w2d (show i < b by omega) hb]
  by_cases c : i + H.length - a = j
  · rw [if_pos c, if_neg (by omega)]
    have := dd (i + H.length - b) j (by omega) (by omega) h2
    omega
  · rw [if_neg c]
    by_cases d : i + H.length - b = j
    · rw [if_pos d]
      exact h5 _ (by omega) (by omega)
    · rw [if_neg d]
      exact dd _ _ (by omega) (by omega) (by omega)
/-- nothing lies between H and its next -/
theorem pg_succ (hw : pg_wf g) (hH : pg_pm g H) (h : pg_nx H i j) {O : List Nat} (hO : pg_pm g O) (hl : pg_lx O (pg_lf (pg_w2 (qa_rg H) H.length i j) H.length)) : pg_lx O H ∨ O = H := by
  have dd := pg_desc h
  have hpm := pg_nxp hH h
  have hlen : O.length = H.length := by rw [hO.2.2, hH.2.2]
  obtain ⟨k, k1, k2, k3⟩ := hl
  rw [pg_lfl] at k1
  rw [pg_lfg k1] at k3
  have k2' : ∀ t, t < k → qa_rg O t = pg_w2 (qa_rg H) H.length i j t := fun t ht => by rw [k2 t ht, pg_lfg (by omega)]
  obtain ⟨h1, h2, h3, h4, h5⟩ := id h
  have hev := hO.2.1 _ (qa_rgm (H := O) (i := k) (by omega))
  rcases Nat.lt_trichotomy k i with c | c | c
  · rw [pg_w2a c h1] at k3
    exact Or.inl ⟨k, k1, fun t ht => by rw [k2' t ht, pg_w2a (by omega) h1], k3⟩
  · subst c
    rw [pg_w2b] at k3
    have k2'' : ∀ t, t < k → qa_rg O t = qa_rg H t := fun t ht => by rw [k2' t ht, pg_w2a (by omega) h1]
    obtain ⟨m, m1, m2⟩ := pg_pms hw hH hev
    rcases Nat.lt_trichotomy m k with z | z | z
    · have e := k2'' m z
      rw [m2] at e
      have := qa_inj hO.1 (by omega) (by omega) e
      omega
    · subst z
      refine pg_dm hw hH hO (s := m + 1) (fun t ht _ => ?_) (fun t ht => h3 t (by omega))
      by_cases w : t = m
      · subst w; exact m2.symm
      · exact k2'' t (by omega)
    · left
      refine ⟨k, k1, k2'', ?_⟩
      rw [← m2] at k3 ⊢
      rcases Nat.lt_trichotomy m j with w | w | w
      · have := dd m j z w h2; omega
      · subst w; omega
      · exact h5 m w m1
  · exfalso
    obtain ⟨m, m1, m2⟩ := pg_pms hw hpm hev
    rw [pg_lfl] at m1
    rw [pg_lfg m1] at m2
    rcases Nat.lt_trichotomy m k with z | z | z
    · have e := k2' m z
      rw [m2] at e
      have := qa_inj hO.1 (by omega) (by omega) e
      omega
    · subst z; omega
    · have := pg_w2c h c z m1
      omega
theorem pg_nxl (h : pg_nx H i j) : pg_lx H (pg_lf (pg_w2 (qa_rg H) H.length i j) H.length) := by
  obtain ⟨h1, h2, h3, h4, h5⟩ := h
  refine ⟨i, by rw [pg_lfl]; omega, fun t ht => ?_, ?_⟩
  · rw [pg_lfg (by omega), pg_w2a ht h1]
  · rw [pg_lfg (by omega), pg_w2b]; exact h4
end
/-! the count of permutations -/
def pg_rk (g : pg_T) : List Nat → Nat
  | [] => 0
  | e :: T => pg_ct g T (e + 1) * qs_F (pg_N g - T.length - 1) + pg_rk g T
theorem pg_lxc {e e' : Nat} {S S' : List Nat} (hl : S.length = S'.length) (h : pg_lx (e :: S) (e' :: S')) : pg_lx S S' ∨ (S = S' ∧ e < e') := by
  obtain ⟨i, h1, h2, h3⟩ := h
  simp only [List.length_cons] at h1
  by_cases c : i = S'.length
  · subst c
    right
    rw [qa_rgS, ← hl, qa_rgS] at h3
    refine ⟨qa_eq hl.symm (fun t ht => ?_), h3⟩
    have := h2 t (by omega)
    rw [qa_rgT (by omega), qa_rgT ht] at this
    exact this
  · left
    refine ⟨i, by omega, fun t ht => ?_, ?_⟩
    · have := h2 t ht
      rw [qa_rgT (by omega), qa_rgT (by omega)] at this
      exact this
    · rw [qa_rgT (by omega), qa_rgT (by omega)] at h3
      exact h3
theorem pg_rkstep {g : pg_T} (hw : pg_wf g) {e : Nat} {S : List Nat} (hn : (e :: S).Nodup) (he : ∀ x, x ∈ e :: S → pg_ev g x) : pg_rk g (e :: S) + qs_F (pg_N g - (e :: S).length) ≤ qs_F (pg_N g - S.length) + pg_rk g S := by
  have hl := pg_len hw hn he
  have hn' := List.nodup_cons.mp hn
  have hev := he e List.mem_cons_self
  have c1 := pg_ctp (g := g) (T := S) (x := 0) (y := e) (pg_esm.mpr ⟨pg_ev24 hw hev, hev⟩) (Nat.zero_le _) hn'.1
  have c2 := pg_ctl hw (x := 0) hn'.2 (fun x hx => he x (List.mem_cons_of_mem _ hx))
  simp only [List.length_cons] at hl ⊢
  obtain ⟨d, hd⟩ : ∃ d, pg_N g - S.length = d + 1 := ⟨pg_N g - S.length - 1, by omega⟩
  have e1 : pg_N g - (S.length + 1) = d := by omega
  have e2 : pg_N g - S.length - 1 = d := by omega
  simp only [pg_rk]
  rw [e1, e2, hd]
  simp only [qs_F]
  have := Nat.mul_le_mul_right (qs_F d) (show pg_ct g S (e + 1) + 1 ≤ d + 1 by omega)
  rw [Nat.add_mul, Nat.one_mul] at this
  omega
theorem pg_rkm {g : pg_T} (hw : pg_wf g) : ∀ {T T' : List Nat}, T.Nodup → (∀ x, x ∈ T → pg_ev g x) → T'.Nodup → (∀ x, x ∈ T' → pg_ev g x) → T.length = T'.length → pg_lx T T' → pg_rk g T' + qs_F (pg_N g - T'.length) ≤ pg_rk g T
  | [], [], _, _, _, _, _, h => by obtain ⟨i, hi, _⟩ := h; simp at hi
  | [], _ :: _, _, _, _, _, h, _ => by simp at h
  | _ :: _, [], _, _, _, _, h, _ => by simp at h
  | e :: S, e' :: S', hn, he, hn', he', hl, h => by
    have hl' : S.length = S'.length := by simpa using hl
    have hnS := List.nodup_cons.mp hn
    have hnS' := List.nodup_cons.mp hn'
    rcases pg_lxc hl' h with a | ⟨a, b⟩
    · have ih := pg_rkm hw hnS.2 (fun x hx => he x (List.mem_cons_of_mem _ hx)) hnS'.2 (fun x hx => he' x (List.mem_cons_of_mem _ hx)) hl' a
      have st := pg_rkstep hw hn' he'
      have : pg_rk g S ≤ pg_rk g (e :: S) := by simp only [pg_rk]; omega
      omega
    · subst a
      have hev := he' e' List.mem_cons_self
      have c1 := pg_ctp (g := g) (T := S) (x := e + 1) (y := e') (pg_esm.mpr ⟨pg_ev24 hw hev, hev⟩) b hnS'.1
      have := Nat.mul_le_mul_right (qs_F (pg_N g - S.length - 1)) c1
      rw [Nat.add_mul, Nat.one_mul] at this
      simp only [pg_rk, List.length_cons]
      rw [show pg_N g - (S.length + 1) = pg_N g - S.length - 1 by omega]
      omega
theorem pg_rkF {g : pg_T} (hw : pg_wf g) : ∀ {T : List Nat}, T.Nodup → (∀ x, x ∈ T → pg_ev g x) → pg_rk g T + qs_F (pg_N g - T.length) ≤ qs_F (pg_N g)
  | [], _, _ => by simp [pg_rk]
  | e :: S, hn, he => by
    have st := pg_rkstep hw hn he
    have ih := pg_rkF hw (List.nodup_cons.mp hn).2 (fun x hx => he x (List.mem_cons_of_mem _ hx))
    omega
theorem qs_F720 : ∀ n, n ≤ 6 → qs_F n ≤ 720 := by decide +kernel
theorem pg_rk720 {g : pg_T} (hw : pg_wf g) {H : List Nat} (h : pg_pm g H) : pg_rk g H + 1 ≤ 720 := by
  have a := pg_rkF hw h.1 h.2.1
  have b := qs_F720 (pg_N g) hw.2.2.2.2.2.2.2.2.2
  rw [h.2.2, Nat.sub_self] at a
  simp only [qs_F] at a
  omega
theorem pg_rkS {g : pg_T} (hw : pg_wf g) {H H' : List Nat} (h : pg_pm g H) (h' : pg_pm g H') (hl : pg_lx H H') : pg_rk g H' + 1 ≤ pg_rk g H := by
  have a := pg_rkm hw h.1 h.2.1 h'.1 h'.2.1 (by rw [h.2.2, h'.2.2]) hl
  rw [h'.2.2, Nat.sub_self] at a
  simpa [qs_F] using a
end
section
/-! Y: the walk of nextOrder -/
section
variable {k_procs k_cells k_deep k_orderN k_workN : Int32} {b_len b_kind b_opA b_opW b_s b_order b_made b_codes b_stack b_choice b_work b_rd : Nat → Int32}
variable {g : pg_T} {H : List Nat}
theorem qy_swap {post : SY → Prop} {a b x y : Nat} (ha : a < 6) (hb : b < 6) (hx : b_work a = nI x) (hy : b_work b = nI y) (hp : post (k_procs, k_cells, k_deep, k_orderN, k_workN, b_len, b_kind, b_opA, b_opW, b_s, b_order, b_made, b_codes, b_stack, b_choice, (upd (upd b_work a (nI y)) b (nI x)), b_rd)) : wpY_swap post (k_procs, k_cells, k_deep, k_orderN, k_workN, b_len, b_kind, b_opA, b_opW, b_s, b_order, b_made, b_codes, b_stack, b_choice, b_work, b_rd) (nI a) (nI b) := by
  have e1 : b_work (nI a).toNatClampNeg = nI x := by rw [nI_clamp (by omega), hx]
  have e2 : upd b_work (nI a).toNatClampNeg (b_work (nI b).toNatClampNeg) = upd b_work a (nI y) := by rw [nI_clamp (by omega), nI_clamp (by omega), hy]
  exact ⟨pk_in a 6 ha, nm_r e1 ⟨pk_in b 6 hb, pk_in a 6 ha, nm_r e2 ⟨pk_in b 6 hb, nm_r (qa_u (by omega)) hp⟩⟩⟩
theorem qy_no102 {post : Int32 → SY → Prop} {n i : Nat} (hn : n ≤ 6) (hi : i < n) {V : Nat → Nat} (hp : ∀ WK, (∀ m, m < n → WK m = nI (if m ≤ i then V m else V (i + n - m))) → post 1 (k_procs, k_cells, k_deep, k_orderN, k_workN, b_len, b_kind, b_opA, b_opW, b_s, b_order, b_made, b_codes, b_stack, b_choice, WK, b_rd)) :
    ∀ k f t WK, t + k = 6 → k < f → i + 1 + t ≤ n → (∀ m, m < n → WK m = nI (if m ≤ i then V m else if m < i + 1 + t ∨ n ≤ m + t then V (i + n - m) else V m)) →
      wY_nextOrder_102 post f (nI (n - 1 - t)) (nI (i + 1 + t)) k_procs k_cells k_deep k_orderN k_workN b_len b_kind b_opA b_opW b_s b_order b_made b_codes b_stack b_choice WK b_rd := by
  intro k
  induction k with
  | zero => intro f t WK h1 h2 h3; omega
  | succ k ih =>
    intro f t WK h1 h2 h3 h4
    obtain ⟨f, rfl⟩ : ∃ k, f = k + 1 := ⟨f - 1, by omega⟩
    refine pk_le (n - 1 - t) (i + 1 + t) (fun z => hp WK (fun m hm => ?_)) (fun z => ?_)
    · rw [h4 m hm]
      by_cases c : m ≤ i
      · rw [if_pos c, if_pos c]
      · rw [if_neg c, if_neg c]
        by_cases d : m < i + 1 + t ∨ n ≤ m + t
        · rw [if_pos d]
        · rw [if_neg d, show i + n - m = m by omega]
    · have ea : WK (i + 1 + t) = nI (V (i + 1 + t)) := by rw [h4 _ (by omega), if_neg (by omega), if_neg (by omega)]
      have eb : WK (n - 1 - t) = nI (V (n - 1 - t)) := by rw [h4 _ (by omega), if_neg (by omega), if_neg (by omega)]
      refine qy_swap (by omega) (by omega) ea eb ?_
      have e1 : nI (n - 1 - t) + (-1) = nI (n - 1 - (t + 1)) := by
        have := pk_m1 (n - 1 - (t + 1))
        rw [show n - 1 - (t + 1) + 1 = n - 1 - t by omega] at this
        exact this
      refine nm_r e1 (nm_r (nI_1 _) (ih f (t + 1) _ (by omega) (by omega) (by omega) (fun m hm => ?_)))
      by_cases c : m ≤ i
      · rw [pk_un (by omega), pk_un (by omega), h4 m hm, if_pos c, if_pos c]
      · rw [if_neg c]
        by_cases d1 : m = n - 1 - t
        · subst d1
          rw [pk_us, if_pos (Or.inr (by omega)), show i + n - (n - 1 - t) = i + 1 + t by omega]
        · rw [pk_un d1]
          by_cases d2 : m = i + 1 + t
          · subst d2
            rw [pk_us, if_pos (Or.inl (by omega)), show i + n - (i + 1 + t) = n - 1 - t by omega]
          · rw [pk_un d2, h4 m hm, if_neg c]
            by_cases d : m < i + 1 + t ∨ n ≤ m + t
            · rw [if_pos d, if_pos (by omega)]
            · rw [if_neg d, if_neg (by omega)]
theorem qy_no53 (hl : H.length ≤ 6) (hb : ∀ m, m < H.length → qa_rg H m < 24) (hn : H.Nodup) (hwk : qa_Ar H b_work) {post : Int32 → SY → Prop} {i : Nat} (hi : i + 1 < H.length) (hd : ∀ m, i < m → m + 1 < H.length → qa_rg H (m + 1) < qa_rg H m)
    (hp : ∀ j WK, pg_nx H i j → qa_Ar (pg_lf (pg_w2 (qa_rg H) H.length i j) H.length) WK → post 1 (k_procs, k_cells, k_deep, k_orderN, (nI H.length), b_len, b_kind, b_opA, b_opW, b_s, b_order, b_made, b_codes, b_stack, b_choice, WK, b_rd)) :
    ∀ k f m j, m + k = H.length → k < f → i < j → i < m → j < H.length → qa_rg H i < qa_rg H j → (∀ t, j < t → t < m → qa_rg H t < qa_rg H i) → wY_nextOrder_53 post (nI i) k_procs k_cells k_deep k_orderN (nI H.length) b_len b_kind b_opA b_opW b_s b_order b_made b_codes b_stack b_choice b_work b_rd f (nI j) (nI m) := by
  have hbi := hb i (by omega)
  intro k
  induction k with
  | zero =>
    intro f m j h1 h2 h3 h4 h5 h6 h7
    obtain ⟨f, rfl⟩ : ∃ k, f = k + 1 := ⟨f - 1, by omega⟩
    obtain rfl : m = H.length := by omega
    have hnx : pg_nx H i j := ⟨h3, h5, hd, h6, h7⟩
    refine br_t (nI_le (Nat.le_refl _) (by omega)) (qy_swap (by omega) (by omega) (qa_Arg hwk (by omega)) (qa_Arg hwk h5) ?_)
    have e1 : nI H.length - 1 = nI (H.length - 1 - 0) := by
      have := nI_pred (H.length - 1)
      rw [show H.length - 1 + 1 = H.length by omega] at this
      exact this
    refine nm_r e1 (nm_r (nI_1 i) ⟨8, ?_⟩)
    refine qy_no102 (V := pg_w1 (qa_rg H) i j) hl (by omega) (fun WK hW => hp j WK hnx (qa_Ari (fun t ht => ?_))) 6 8 0 _ (by omega) (by omega) (by omega) (fun t ht => ?_)
    · rw [pg_lfl] at ht
      rw [pg_lfg ht, hW t ht]
      rfl
    · have : (if t ≤ i then pg_w1 (qa_rg H) i j t else if t < i + 1 + 0 ∨ H.length ≤ t + 0 then pg_w1 (qa_rg H) i j (i + H.length - t) else pg_w1 (qa_rg H) i j t) = pg_w1 (qa_rg H) i j t := by
        by_cases c : t ≤ i
        · rw [if_pos c]
        · rw [if_neg c, if_neg (by omega)]
      rw [this]
      unfold pg_w1
      by_cases c : t = j
      · rw [if_neg (by omega), if_pos c, c, pk_us]
      · rw [pk_un c]
        by_cases d : t = i
        · rw [if_pos d, d, pk_us]
        · rw [pk_un d, if_neg d, if_neg c]
          exact qa_Arg hwk ht
  | succ k ih =>
    intro f m j h1 h2 h3 h4 h5 h6 h7
    obtain ⟨f, rfl⟩ : ∃ k, f = k + 1 := ⟨f - 1, by omega⟩
    have hbm := hb m (by omega)
    have em : b_work (nI m).toNatClampNeg = nI (qa_rg H m) := by rw [nI_clamp (by omega)]; exact qa_Arg hwk (by omega)
    have ei : b_work (nI i).toNatClampNeg = nI (qa_rg H i) := by rw [nI_clamp (by omega)]; exact qa_Arg hwk (by omega)
    refine br_f (nI_ge (by omega) (by omega)) ⟨pk_in m 6 (by omega), pk_in i 6 (by omega), pk_le (qa_rg H m) (qa_rg H i) (fun z => nm_r (nI_1 m) (ih f (m + 1) j (by omega) (by omega) h3 (by omega) h5 h6 (fun t t1 t2 => ?_))) (fun z => nm_r (nI_1 m) (ih f (m + 1) m (by omega) (by omega) h4 (by omega) (by omega) z (fun t t1 t2 => by omega))) em ei⟩
    by_cases c : t = m
    · subst c
      by_cases d : qa_rg H t = qa_rg H i
      · have := qa_inj hn (by omega) (by omega) d; omega
      · omega
    · exact h7 t t1 (by omega)
theorem qy_no4 (hw : pg_wf g) (hH : pg_pm g H) (hwk : qa_Ar H b_work) {post : Int32 → SY → Prop}
    (h0 : (∀ O, pg_pm g O → pg_lx O H ∨ O = H) → post 0 (k_procs, k_cells, k_deep, k_orderN, (nI H.length), b_len, b_kind, b_opA, b_opW, b_s, b_order, b_made, b_codes, b_stack, b_choice, b_work, b_rd))
    (h1 : ∀ H' WK, pg_pm g H' → pg_lx H H' → (∀ O, pg_pm g O → pg_lx O H' → pg_lx O H ∨ O = H) → qa_Ar H' WK → post 1 (k_procs, k_cells, k_deep, k_orderN, (nI H.length), b_len, b_kind, b_opA, b_opW, b_s, b_order, b_made, b_codes, b_stack, b_choice, WK, b_rd)) :
    ∀ k f m ic, m + k = H.length → k < f → (ic = 0 ∧ (∀ t, t < m → t + 1 < H.length → qa_rg H (t + 1) < qa_rg H t) ∨ (∃ i, ic = i + 1 ∧ i < m ∧ i + 1 < H.length ∧ qa_rg H i < qa_rg H (i + 1) ∧ ∀ t, i < t → t < m → t + 1 < H.length → qa_rg H (t + 1) < qa_rg H t)) → wY_nextOrder_4 post k_procs k_cells k_deep k_orderN (nI H.length) b_len b_kind b_opA b_opW b_s b_order b_made b_codes b_stack b_choice b_work b_rd f (qa_sc ic) (nI m) := by
  have hl : H.length ≤ 6 := by rw [hH.2.2]; exact hw.2.2.2.2.2.2.2.2.2
  have hb : ∀ m, m < H.length → qa_rg H m < 24 := fun m hm => pg_ev24 hw (hH.2.1 _ (qa_rgm hm))
  have fin : ∀ f m ic, H.length ≤ m + 1 → m ≤ H.length → (ic = 0 ∧ (∀ t, t < m → t + 1 < H.length → qa_rg H (t + 1) < qa_rg H t) ∨ (∃ i, ic = i + 1 ∧ i < m ∧ i + 1 < H.length ∧ qa_rg H i < qa_rg H (i + 1) ∧ ∀ t, i < t → t < m → t + 1 < H.length → qa_rg H (t + 1) < qa_rg H t)) → wY_nextOrder_4 post k_procs k_cells k_deep k_orderN (nI H.length) b_len b_kind b_opA b_opW b_s b_order b_made b_codes b_stack b_choice b_work b_rd (f + 1) (qa_sc ic) (nI m) := by
    intro f m ic hm hm' hic
    have em : nI m + 1 = nI (m + 1) := nI_1 m
    refine br_t (by rw [em]; exact nI_le hm (by omega)) ?_
    rcases hic with ⟨a, b⟩ | ⟨i, a, b, c, d, e⟩
    · subst a
      exact br_f (by decide) (h0 (fun O hO => pg_dm hw hH hO (s := 0) (fun t ht => by omega) (fun t _ h2 => b t (by omega) h2)))
    · subst a
      refine br_t (nI_pos' (by omega)) (nm_r (nI_1 i) (nm_r (nI_1 i) ⟨H.length + 1, ?_⟩))
      refine qy_no53 hl hb hH.1 hwk c (fun t t1 t2 => e t t1 (by omega) t2) (fun j WK hnx hA => h1 _ WK (pg_nxp hH hnx) (pg_nxl hnx) (fun O hO hl' => pg_succ hw hH hnx hO hl') hA) (H.length - (i + 1)) (H.length + 1) (i + 1) (i + 1) (by omega) (by omega) (by omega) (by omega) (by omega) d (fun t t1 t2 => by omega)
  intro k
  induction k with
  | zero =>
    intro f m ic h2 h3 hic
    obtain ⟨f, rfl⟩ : ∃ k, f = k + 1 := ⟨f - 1, by omega⟩
    exact fin f m ic (by omega) (by omega) hic
  | succ k ih =>
    intro f m ic h2 h3 hic
    obtain ⟨f, rfl⟩ : ∃ k, f = k + 1 := ⟨f - 1, by omega⟩
    have hm1 : m < H.length := by omega
    by_cases z : H.length ≤ m + 1
    · exact fin f m ic z (by omega) hic
    · have hmL : m + 1 < H.length := by omega
      have b1 := hb m hm1
      have b2 := hb (m + 1) hmL
      have em : nI m + 1 = nI (m + 1) := nI_1 m
      have e1 : b_work (nI m).toNatClampNeg = nI (qa_rg H m) := by rw [nI_clamp (by omega)]; exact qa_Arg hwk hm1
      have e2 : b_work (nI m + 1).toNatClampNeg = nI (qa_rg H (m + 1)) := by rw [em, nI_clamp (by omega)]; exact qa_Arg hwk hmL
      have h3' : k < f := by omega
      have h2' : m + 1 + k = H.length := by omega
      have hne : ¬ qa_rg H (m + 1) = qa_rg H m := by
        intro y
        have := qa_inj hH.1 hmL hm1 y
        omega
      refine br_f (by rw [em]; exact nI_ge hmL (by omega)) ⟨pk_in m 6 (by omega), pk_in (m + 1) 6 (by omega) em, pk_le (qa_rg H (m + 1)) (qa_rg H m) (fun y => nm_r em (ih f (m + 1) ic h2' h3' ?_)) (fun y => nm_r em (ih f (m + 1) (m + 1) h2' h3' (Or.inr ⟨m, rfl, Nat.lt_succ_self m, hmL, y, fun t t1 t2 => absurd t2 (Nat.not_lt.mpr t1)⟩))) e2 e1⟩
      have hlt : qa_rg H (m + 1) < qa_rg H m := by
        rcases Nat.lt_or_ge (qa_rg H (m + 1)) (qa_rg H m) with w | w
        · exact w
        · exact absurd (Nat.le_antisymm y w) hne
      rcases hic with ⟨a, b⟩ | ⟨i, a, b, c, d, e⟩
      · refine Or.inl ⟨a, fun t t1 t2 => ?_⟩
        by_cases w : t = m
        · subst w; exact hlt
        · exact b t (by omega) t2
      · refine Or.inr ⟨i, a, by omega, c, d, fun t t1 t2 t3 => ?_⟩
        by_cases w : t = m
        · subst w; exact hlt
        · exact e t t1 (by omega) t3
theorem qy_next (hw : pg_wf g) (hH : pg_pm g H) (hwk : qa_Ar H b_work) {post : Int32 → SY → Prop}
    (h0 : (∀ O, pg_pm g O → pg_lx O H ∨ O = H) → post 0 (k_procs, k_cells, k_deep, k_orderN, (nI H.length), b_len, b_kind, b_opA, b_opW, b_s, b_order, b_made, b_codes, b_stack, b_choice, b_work, b_rd))
    (h1 : ∀ H' WK, pg_pm g H' → pg_lx H H' → (∀ O, pg_pm g O → pg_lx O H' → pg_lx O H ∨ O = H) → qa_Ar H' WK → post 1 (k_procs, k_cells, k_deep, k_orderN, (nI H.length), b_len, b_kind, b_opA, b_opW, b_s, b_order, b_made, b_codes, b_stack, b_choice, WK, b_rd)) :
    wpY_nextOrder post (k_procs, k_cells, k_deep, k_orderN, (nI H.length), b_len, b_kind, b_opA, b_opW, b_s, b_order, b_made, b_codes, b_stack, b_choice, b_work, b_rd) :=
  ⟨H.length + 1, qy_no4 hw hH hwk h0 h1 H.length (H.length + 1) 0 0 (by omega) (by omega) (Or.inl ⟨rfl, fun t ht => by omega⟩)⟩
end
end
section
/-! Y: insert, finish, judge -/
section
variable {k_procs k_cells k_deep k_orderN k_workN : Int32} {b_len b_kind b_opA b_opW b_s b_order b_made b_codes b_stack b_choice b_work b_rd : Nat → Int32}
variable {n v q : Nat} {c : Nat → Nat}
theorem qy_in87 (hq : q < 2) (hn : n < 256) {p : Nat} (hp : p ≤ n) {post : SY → Prop}
    (h2 : ∀ CS, (∀ i, i < n + 1 → CS (256 * q + i) = nI (qc_is c p v i)) → (∀ j, (j < 256 * q ∨ 256 * q + 256 ≤ j) → CS j = b_codes j) → post (k_procs, k_cells, k_deep, k_orderN, k_workN, b_len, b_kind, b_opA, b_opW, b_s, b_order, b_made, CS, b_stack, b_choice, b_work, b_rd)) :
    ∀ m f k CS, p + m = k → m < f → k ≤ n → (∀ i, i < k → CS (256 * q + i) = nI (c i)) → (∀ i, k < i → i ≤ n → CS (256 * q + i) = nI (c (i - 1))) → (∀ j, (j < 256 * q ∨ 256 * q + 256 ≤ j) → CS j = b_codes j) →
      wY_insert_87 post (nI q) (nI v) (nI p) k_procs k_cells k_deep k_orderN k_workN f (nI k) b_len b_kind b_opA b_opW b_s b_order b_made CS b_stack b_choice b_work b_rd := by
  intro m
  induction m with
  | zero =>
    intro f k CS hk hf hkn hlo hhi hfr
    obtain ⟨f, rfl⟩ : ∃ k, f = k + 1 := ⟨f - 1, by omega⟩
    obtain rfl : k = p := by omega
    have e1 : upd CS ((256 : Int32) * nI q + nI k).toNatClampNeg (nI v) = upd CS (256 * q + k) (nI v) := by rw [qa_256, qa_u (by omega)]
    refine br_t (nI_le (Nat.le_refl _) (by omega)) ⟨pk_in (256 * q + k) 512 (by omega) (qa_256 _ _), nm_r e1 (h2 _ (fun i hi => ?_) (fun j hj => ?_))⟩
    · rcases Nat.lt_trichotomy i k with a | a | a
      · rw [pk_un (by omega), qc_isL a]; exact hlo i a
      · subst a; rw [pk_us, qc_isE]
      · rw [pk_un (by omega), qc_isG a]; exact hhi i a (by omega)
    · rw [pk_un (by omega)]; exact hfr j hj
  | succ m ih =>
    intro f k CS hk hf hkn hlo hhi hfr
    obtain ⟨f, rfl⟩ : ∃ k, f = k + 1 := ⟨f - 1, by omega⟩
    obtain ⟨k, rfl⟩ : ∃ j, k = j + 1 := ⟨k - 1, by omega⟩
    have e0 : (256 : Int32) * nI q + nI (k + 1) = nI (256 * q + k + 1) := by rw [qa_256]; rfl
    have e1 : (256 : Int32) * nI q + nI (k + 1) - 1 = nI (256 * q + k) := by rw [e0, nI_pred]
    have e2 : upd CS ((256 : Int32) * nI q + nI (k + 1)).toNatClampNeg (CS ((256 : Int32) * nI q + nI (k + 1) - 1).toNatClampNeg) = upd CS (256 * q + k + 1) (nI (c k)) := by rw [e1, e0, qa_u (by omega), nI_clamp (by omega), hlo k (by omega)]
    refine br_f (nI_ge (by omega) (by omega)) ⟨pk_in (256 * q + k) 512 (by omega) e1, pk_in (256 * q + k + 1) 512 (by omega) e0, nm_r e2 (nm_r (pk_m1 k) ?_)⟩
    refine ih f k _ (by omega) (by omega) (by omega) (fun i hi => ?_) (fun i h3 h4 => ?_) (fun j hj => ?_)
    · rw [pk_un (by omega)]; exact hlo i (by omega)
    · by_cases z : i = k + 1
      · subst z; exact pk_us
      · rw [pk_un (by omega)]; exact hhi i (by omega) h4
    · rw [pk_un (by omega)]; exact hfr j hj
theorem qy_in21 (hq : q < 2) (hn : n ≤ 256) (hv : v < 2 ^ 31) (hcl : ∀ i, i < n → c i < 2 ^ 31) (hch : qc_ch n c) (hcs : ∀ i, i < n → b_codes (256 * q + i) = nI (c i)) {post : SY → Prop}
    (h1 : qc_in n c v → post (k_procs, k_cells, k_deep, k_orderN, k_workN, b_len, b_kind, b_opA, b_opW, b_s, b_order, b_made, b_codes, b_stack, b_choice, b_work, b_rd)) (h0 : ¬ qc_in n c v → n = 256 → post (k_procs, k_cells, k_deep, k_orderN, k_workN, b_len, b_kind, b_opA, b_opW, b_s, b_order, (upd b_made q (nI 257)), b_codes, b_stack, b_choice, b_work, b_rd))
    (h2 : ¬ qc_in n c v → n < 256 → ∀ CS p, p ≤ n → (∀ i, i < p → c i < v) → (∀ i, p ≤ i → i < n → v < c i) → (∀ i, i < n + 1 → CS (256 * q + i) = nI (qc_is c p v i)) → (∀ j, (j < 256 * q ∨ 256 * q + 256 ≤ j) → CS j = b_codes j) → post (k_procs, k_cells, k_deep, k_orderN, k_workN, b_len, b_kind, b_opA, b_opW, b_s, b_order, (upd b_made q (nI (n + 1))), CS, b_stack, b_choice, b_work, b_rd)) :
    ∀ m f k p, k + m = n → m < f → p ≤ k → (∀ i, i < p → c i < v) → (∀ i, p ≤ i → i < k → v < c i) → wY_insert_21 post (nI q) (nI v) (nI n) k_procs k_cells k_deep k_orderN k_workN b_len b_kind b_opA b_opW b_s b_order b_made b_codes b_stack b_choice b_work b_rd f (nI p) (nI k) := by
  intro m
  induction m with
  | zero =>
    intro f k p hk hf hp hl hg
    obtain ⟨f, rfl⟩ : ∃ k, f = k + 1 := ⟨f - 1, by omega⟩
    obtain rfl : k = n := by omega
    have hni : ¬ qc_in k c v := by
      rintro ⟨i, hi, e⟩
      by_cases w : i < p
      · have := hl i w; omega
      · have := hg i (by omega) hi; omega
    have e1 : upd b_made (nI q).toNatClampNeg (nI k + 1) = upd b_made q (nI (k + 1)) := by rw [nI_1, qa_u (by omega)]
    refine br_t (nI_le (Nat.le_refl _) (by omega)) ⟨pk_in q 2 hq, nm_r e1 (pk_eq k 256 (fun z => ?_) (fun z => ⟨k + 1, ?_⟩))⟩
    · subst z; exact h0 hni rfl
    · exact qy_in87 hq (by omega) hp (fun CS a b => h2 hni (by omega) CS p hp hl hg a b) (k - p) (k + 1) k _ (by omega) (by omega) (Nat.le_refl _) hcs (fun i a b => by omega) (fun _ _ => rfl)
  | succ m ih =>
    intro f k p hk hf hp hl hg
    obtain ⟨f, rfl⟩ : ∃ k, f = k + 1 := ⟨f - 1, by omega⟩
    have hck := hcl k (by omega)
    have e1 : b_codes ((256 : Int32) * nI q + nI k).toNatClampNeg = nI (c k) := by rw [qa_256, nI_clamp (by omega), hcs k (by omega)]
    refine br_f (nI_ge (by omega) (by omega)) ⟨pk_in (256 * q + k) 512 (by omega) (qa_256 _ _), nm_r e1 (pk_eq (c k) v (fun z => h1 ⟨k, by omega, z⟩) (fun z => pk_le v (c k) (fun y => nm_r (nI_1 k) (ih f (k + 1) p (by omega) (by omega) (by omega) hl (fun i a b => ?_))) (fun y => nm_r (nI_1 k) (nm_r (nI_1 k) (ih f (k + 1) (k + 1) (by omega) (by omega) (Nat.le_refl _) (fun i hi => ?_) (fun i a b => by omega))))))⟩
    · by_cases w : i = k
      · subst w; omega
      · exact hg i a (by omega)
    · by_cases w : i = k
      · subst w; exact y
      · have := hch i k (by omega) (by omega); omega
theorem qy_ins (hq : q < 2) (hn : n ≤ 256) (hv : v < 2 ^ 31) (hcl : ∀ i, i < n → c i < 2 ^ 31) (hch : qc_ch n c) (hcs : ∀ i, i < n → b_codes (256 * q + i) = nI (c i)) (hct : b_made q = nI n) {post : SY → Prop}
    (h1 : qc_in n c v → post (k_procs, k_cells, k_deep, k_orderN, k_workN, b_len, b_kind, b_opA, b_opW, b_s, b_order, b_made, b_codes, b_stack, b_choice, b_work, b_rd)) (h0 : ¬ qc_in n c v → n = 256 → post (k_procs, k_cells, k_deep, k_orderN, k_workN, b_len, b_kind, b_opA, b_opW, b_s, b_order, (upd b_made q (nI 257)), b_codes, b_stack, b_choice, b_work, b_rd))
    (h2 : ¬ qc_in n c v → n < 256 → ∀ CS p, p ≤ n → (∀ i, i < p → c i < v) → (∀ i, p ≤ i → i < n → v < c i) → (∀ i, i < n + 1 → CS (256 * q + i) = nI (qc_is c p v i)) → (∀ j, (j < 256 * q ∨ 256 * q + 256 ≤ j) → CS j = b_codes j) → post (k_procs, k_cells, k_deep, k_orderN, k_workN, b_len, b_kind, b_opA, b_opW, b_s, b_order, (upd b_made q (nI (n + 1))), CS, b_stack, b_choice, b_work, b_rd)) :
    wpY_insert post (k_procs, k_cells, k_deep, k_orderN, k_workN, b_len, b_kind, b_opA, b_opW, b_s, b_order, b_made, b_codes, b_stack, b_choice, b_work, b_rd) (nI q) (nI v) :=
  ⟨pk_in q 2 hq, nm_r ((qa_rd (by omega)).trans hct) (pk_le n 256 (fun _ => ⟨n + 1, qy_in21 hq hn hv hcl hch hcs h1 h0 h2 n (n + 1) 0 0 (by omega) (by omega) (Nat.le_refl _) (fun i hi => absurd hi (by omega)) (fun i a b => by omega)⟩) (fun z => by omega))⟩
theorem qy_insO (hq : q < 2) (hct : b_made q = nI 257) {x : Int32} {post : SY → Prop} (hp : post (k_procs, k_cells, k_deep, k_orderN, k_workN, b_len, b_kind, b_opA, b_opW, b_s, b_order, b_made, b_codes, b_stack, b_choice, b_work, b_rd)) : wpY_insert post (k_procs, k_cells, k_deep, k_orderN, k_workN, b_len, b_kind, b_opA, b_opW, b_s, b_order, b_made, b_codes, b_stack, b_choice, b_work, b_rd) (nI q) x :=
  ⟨pk_in q 2 hq, nm_r ((qa_rd (by omega)).trans hct) (br_f (by decide) hp)⟩
end
def qy_L (g : pg_T) (q : Nat) (Hd : List Nat → Prop) (MD CS : Nat → Int32) : Prop :=
  (∃ n c, MD q = nI n ∧ qc_I g n c ∧ (∀ i, i < n → CS (256 * q + i) = nI (c i)) ∧ ∀ O, pg_cp g O → Hd O → qc_in n c (pg_code g O)) ∨ (MD q = nI 257 ∧ qc_ov g)
theorem qy_Lm {g : pg_T} {q : Nat} {Hd Hd' : List Nat → Prop} {MD CS : Nat → Int32} (h : qy_L g q Hd MD CS) (hm : ∀ O, pg_cp g O → Hd' O → Hd O) : qy_L g q Hd' MD CS := by
  rcases h with ⟨n, c, h1, h2, h3, h4⟩ | h
  · exact Or.inl ⟨n, c, h1, h2, h3, fun O ho hd => h4 O ho (hm O ho hd)⟩
  · exact Or.inr h
theorem pg_abv {g : pg_T} : ∀ {H : List Nat}, pg_vo g H → ¬ pg_ab g H ∧ ¬ pg_ad g H
  | [], _ => ⟨id, id⟩
  | e :: T, h => by
    have ih := pg_abv h.1
    refine ⟨fun z => z.elim ih.1 h.2.2.2.1, fun z => z.elim ih.2 (fun y => ?_)⟩
    have := h.2.2.2.2 y.1
    omega
section
variable {k_procs k_cells k_deep k_orderN k_workN : Int32} {b_len b_kind b_opA b_opW b_s b_order b_made b_codes b_stack b_choice b_work b_rd : Nat → Int32}
variable {g : pg_T} {q : Nat}
theorem qy_insL (hw : pg_wf g) (hq : q < 2) {Hd : List Nat → Prop} (hL : qy_L g q Hd b_made b_codes) {O0 : List Nat} (hO : pg_cp g O0) {post : SY → Prop}
    (hp : ∀ MD CS, qy_L g q (fun O => Hd O ∨ O = O0) MD CS → (∀ j, j ≠ q → MD j = b_made j) → (∀ j, (j < 256 * q ∨ 256 * q + 256 ≤ j) → CS j = b_codes j) → post (k_procs, k_cells, k_deep, k_orderN, k_workN, b_len, b_kind, b_opA, b_opW, b_s, b_order, MD, CS, b_stack, b_choice, b_work, b_rd)) : wpY_insert post (k_procs, k_cells, k_deep, k_orderN, k_workN, b_len, b_kind, b_opA, b_opW, b_s, b_order, b_made, b_codes, b_stack, b_choice, b_work, b_rd) (nI q) (nI (pg_code g O0)) := by
  have hcl := pg_codeL hw O0
  have hsx : pg_Sx g (pg_code g O0) := ⟨O0, hO, rfl⟩
  rcases hL with ⟨n, c, h1, h2, h3, h4⟩ | ⟨h1, h2⟩
  · refine qy_ins hq h2.1 (by omega) (fun i hi => by have := pg_SxL hw (h2.2.2 i hi); omega) h2.2.1 h3 h1 (fun hin => ?_) (fun hni h256 => ?_) (fun hni h256 CS p p1 p2 p3 p4 p5 => ?_)
    · refine hp b_made b_codes (Or.inl ⟨n, c, h1, h2, h3, fun O ho hd => ?_⟩) (fun _ _ => rfl) (fun _ _ => rfl)
      rcases hd with hd | hd
      · exact h4 O ho hd
      · rw [hd]; exact hin
    · subst h256
      exact hp _ b_codes (Or.inr ⟨pk_us, qc_ovI h2 hsx hni⟩) (fun j hj => pk_un hj) (fun _ _ => rfl)
    · refine hp _ CS (Or.inl ⟨n + 1, qc_is c p (pg_code g O0), pk_us, qc_II h2 h256 hsx p1 p2 p3, p4, fun O ho hd => ?_⟩) (fun j hj => pk_un hj) p5
      rcases hd with hd | hd
      · exact (qc_inI p1).mpr (Or.inl (h4 O ho hd))
      · rw [hd]; exact (qc_inI p1).mpr (Or.inr rfl)
  · exact qy_insO hq h1 (hp b_made b_codes (Or.inr ⟨h1, h2⟩) (fun _ _ => rfl) (fun _ _ => rfl))
theorem qy_fin (hq : q < 2) (hL : qy_L g q (fun _ => True) b_made b_codes) {post : Int32 → SY → Prop}
    (hN : ∀ n c, qc_I g n c → (∀ O, pg_cp g O → qc_in n c (pg_code g O)) → (∀ i, i < n → b_codes (256 * q + i) = nI (c i)) → b_made q = nI n → post (nI n) (k_procs, k_cells, k_deep, k_orderN, k_workN, b_len, b_kind, b_opA, b_opW, b_s, b_order, b_made, b_codes, b_stack, b_choice, b_work, b_rd))
    (hO : qc_ov g → ∀ MD, MD q = -1 → (∀ j, j ≠ q → MD j = b_made j) → post (-12) (k_procs, k_cells, k_deep, k_orderN, k_workN, b_len, b_kind, b_opA, b_opW, b_s, b_order, MD, b_codes, b_stack, b_choice, b_work, b_rd)) : wpY_finish post (k_procs, k_cells, k_deep, k_orderN, k_workN, b_len, b_kind, b_opA, b_opW, b_s, b_order, b_made, b_codes, b_stack, b_choice, b_work, b_rd) (nI q) := by
  refine ⟨pk_in q 2 hq, ?_⟩
  rcases hL with ⟨n, c, h1, h2, h3, h4⟩ | ⟨h1, h2⟩
  · have e1 : b_made (nI q).toNatClampNeg = nI n := by rw [nI_clamp (by omega)]; exact h1
    have hn := h2.1
    rw [e1]
    exact br_f (nI_nlt (b := n) (a := 256) (by omega) (by decide)) ⟨pk_in q 2 hq, hN n c h2 (fun O ho => h4 O ho trivial) h3 h1⟩
  · have e1 : b_made (nI q).toNatClampNeg = nI 257 := by rw [nI_clamp (by omega)]; exact h1
    refine br_t (by rw [e1]; decide) ⟨pk_in q 2 hq, nm_r (qa_u (by omega)) (hO h2 _ pk_us (fun j hj => pk_un hj))⟩
end
section
variable {k_procs k_cells k_deep k_orderN k_workN : Int32} {b_len b_kind b_opA b_opW b_s b_order b_made b_codes b_stack b_choice b_work b_rd : Nat → Int32}
variable {g : pg_T}
theorem qy_ju52 {post : Int32 → SY → Prop}
    (hN : ∀ n c, qc_I g n c → (∀ O, pg_cp g O → qc_in n c (pg_code g O)) → ∀ WK RD MD CS, (∀ i, i < n → CS (256 * 1 + i) = nI (c i)) → MD 1 = nI n → (∀ j, j ≠ 1 → MD j = b_made j) → (∀ j, (j < 256 * 1 ∨ 256 * 1 + 256 ≤ j) → CS j = b_codes j) → post (nI n) ((nI (pg_n g)), (nI (pg_c g)), (nI (pg_d g)), k_orderN, (nI (pg_N g)), b_len, b_kind, b_opA, b_opW, b_s, b_order, MD, CS, b_stack, b_choice, WK, RD))
    (hO : qc_ov g → ∀ WK RD MD CS, MD 1 = -1 → (∀ j, j ≠ 1 → MD j = b_made j) → (∀ j, (j < 256 * 1 ∨ 256 * 1 + 256 ≤ j) → CS j = b_codes j) → post (-12) ((nI (pg_n g)), (nI (pg_c g)), (nI (pg_d g)), k_orderN, (nI (pg_N g)), b_len, b_kind, b_opA, b_opW, b_s, b_order, MD, CS, b_stack, b_choice, WK, RD))
    {WK RD MD CS : Nat → Int32} (hL : qy_L g 1 (fun _ => True) MD CS) (f1 : ∀ j, j ≠ 1 → MD j = b_made j) (f2 : ∀ j, (j < 256 * 1 ∨ 256 * 1 + 256 ≤ j) → CS j = b_codes j) : wY_judge_52 post (nI (pg_n g)) (nI (pg_c g)) (nI (pg_d g)) k_orderN (nI (pg_N g)) b_len b_kind b_opA b_opW b_s b_order MD CS b_stack b_choice WK RD := by
  unfold wY_judge_52
  exact qy_fin (q := 1) (by omega) hL (fun n c a b d e => hN n c a b WK RD MD CS d e f1 f2) (fun a MD' b d => hO a WK RD MD' CS b (fun j hj => by rw [d j hj]; exact f1 j hj) f2)
theorem qy_ju15 (hw : pg_wf g) (P : qx_P g b_kind b_opA b_opW b_len) {post : Int32 → SY → Prop}
    (hN : ∀ n c, qc_I g n c → (∀ O, pg_cp g O → qc_in n c (pg_code g O)) → ∀ WK RD MD CS, (∀ i, i < n → CS (256 * 1 + i) = nI (c i)) → MD 1 = nI n → (∀ j, j ≠ 1 → MD j = b_made j) → (∀ j, (j < 256 * 1 ∨ 256 * 1 + 256 ≤ j) → CS j = b_codes j) → post (nI n) ((nI (pg_n g)), (nI (pg_c g)), (nI (pg_d g)), k_orderN, (nI (pg_N g)), b_len, b_kind, b_opA, b_opW, b_s, b_order, MD, CS, b_stack, b_choice, WK, RD))
    (hO : qc_ov g → ∀ WK RD MD CS, MD 1 = -1 → (∀ j, j ≠ 1 → MD j = b_made j) → (∀ j, (j < 256 * 1 ∨ 256 * 1 + 256 ≤ j) → CS j = b_codes j) → post (-12) ((nI (pg_n g)), (nI (pg_c g)), (nI (pg_d g)), k_orderN, (nI (pg_N g)), b_len, b_kind, b_opA, b_opW, b_s, b_order, MD, CS, b_stack, b_choice, WK, RD)) :
    ∀ m f t H WK RD MD CS, pg_rk g H < m → m < f → t + pg_rk g H + 1 ≤ 720 → pg_pm g H → qa_Ar H WK → qy_L g 1 (fun O => pg_lx O H) MD CS → (∀ j, j ≠ 1 → MD j = b_made j) → (∀ j, (j < 256 * 1 ∨ 256 * 1 + 256 ≤ j) → CS j = b_codes j) →
      wY_judge_15 post f 1 (nI t) (nI (pg_n g)) (nI (pg_c g)) (nI (pg_d g)) k_orderN (nI (pg_N g)) b_len b_kind b_opA b_opW b_s b_order MD CS b_stack b_choice WK RD := by
  intro m
  induction m with
  | zero => intro f t H WK RD MD CS h; omega
  | succ m ih =>
    intro f t H WK RD MD CS hm hf ht hH hwk hL f1 f2
    obtain ⟨f, rfl⟩ : ∃ k, f = k + 1 := ⟨f - 1, by omega⟩
    have go : ∀ RD MD CS, qy_L g 1 (fun O => pg_lx O H ∨ O = H) MD CS → (∀ j, j ≠ 1 → MD j = b_made j) → (∀ j, (j < 256 * 1 ∨ 256 * 1 + 256 ≤ j) → CS j = b_codes j) → wY_judge_41 post (wY_judge_15 post f) (nI t) (nI (pg_n g)) (nI (pg_c g)) (nI (pg_d g)) k_orderN (nI (pg_N g)) b_len b_kind b_opA b_opW b_s b_order MD CS b_stack b_choice WK RD := by
      intro RD MD CS hL' f1' f2'
      unfold wY_judge_41
      have hlen : pg_N g = H.length := hH.2.2.symm
      rw [hlen]
      refine qy_next hw hH hwk (fun hall => nm_r (nI_1 t) ?_) (fun H' WK' hH' hlx hsc hA => nm_r (nI_1 t) ?_)
      · rw [← hlen]
        obtain ⟨f, rfl⟩ : ∃ k, f = k + 1 := ⟨f - 1, by omega⟩
        have hLT : qy_L g 1 (fun _ => True) MD CS := qy_Lm hL' (fun O ho _ => hall O (pg_cpp ho))
        exact br_c (fun _ => qy_ju52 hN hO hLT f1' f2') (fun _ => br_t rfl (qy_ju52 hN hO hLT f1' f2'))
      · rw [← hlen]
        have hr := pg_rkS hw hH hH' hlx
        exact ih f (t + 1) H' WK' RD MD CS (by omega) (by omega) (by omega) hH' hA (qy_Lm hL' (fun O ho hd => hsc O (pg_cpp ho) hd)) f1' f2'
    refine br_f (nI_ge (b := 720) (by omega) (by decide)) (br_f qa_10 ?_)
    have hlen : pg_N g = H.length := hH.2.2.symm
    have noH : ¬ pg_vo g H → qy_L g 1 (fun O => pg_lx O H ∨ O = H) MD CS := by
      intro hv
      refine qy_Lm hL (fun O ho hd => ?_)
      rcases hd with hd | hd
      · exact hd
      · rw [hd] at ho; exact absurd ho.1 hv
    have key : wpY_verdict (fun r_41 u => match u with | (k_procs, k_cells, k_deep, k_orderN, k_workN, b_len, b_kind, b_opA, b_opW, b_s, b_order, b_made, b_codes, b_stack, b_choice, b_work, b_rd) => (((r_41 < 0 → (wY_judge_41 post (wY_judge_15 post f) (nI t) k_procs k_cells k_deep k_orderN k_workN b_len b_kind b_opA b_opW b_s b_order b_made b_codes b_stack b_choice b_work b_rd)) ∧ (¬ r_41 < 0 → (wpY_insert (fun u => match u with | (k_procs, k_cells, k_deep, k_orderN, k_workN, b_len, b_kind, b_opA, b_opW, b_s, b_order, b_made, b_codes, b_stack, b_choice, b_work, b_rd) => (wY_judge_41 post (wY_judge_15 post f) (nI t) k_procs k_cells k_deep k_orderN k_workN b_len b_kind b_opA b_opW b_s b_order b_made b_codes b_stack b_choice b_work b_rd)) (k_procs, k_cells, k_deep, k_orderN, k_workN, b_len, b_kind, b_opA, b_opW, b_s, b_order, b_made, b_codes, b_stack, b_choice, b_work, b_rd) 1 r_41))))) ((nI (pg_n g)), (nI (pg_c g)), (nI (pg_d g)), k_orderN, (nI H.length), b_len, b_kind, b_opA, b_opW, b_s, b_order, MD, CS, b_stack, b_choice, WK, RD) := by
      refine qy_verdict hw P hH.1 hH.2.1 hwk (fun a => by omega) (fun _ a => br_t (by decide) ?_) (fun _ _ a => br_t (by decide) ?_) (fun hcp RD' hRD => br_f (nI_pos (by have := pg_codeL hw H; omega)) ?_)
      · rw [← hlen]; exact go RD MD CS (noH (fun z => (pg_abv z).1 a)) f1 f2
      · rw [← hlen]; exact go RD MD CS (noH (fun z => (pg_abv z).2 a)) f1 f2
      · refine qy_insL (q := 1) hw (by omega) hL hcp (fun MD' CS' hL' g1 g2 => ?_)
        rw [← hlen]
        exact go RD' MD' CS' hL' (fun j hj => by rw [g1 j hj]; exact f1 j hj) (fun j hj => by rw [g2 j hj]; exact f2 j hj)
    rw [← hlen] at key
    exact key
theorem qy_judge (hw : pg_wf g) (P : qx_P g b_kind b_opA b_opW b_len) {post : Int32 → SY → Prop}
    (hN : ∀ n c, qc_I g n c → (∀ O, pg_cp g O → qc_in n c (pg_code g O)) → ∀ WK RD MD CS, (∀ i, i < n → CS (256 * 1 + i) = nI (c i)) → MD 1 = nI n → (∀ j, j ≠ 1 → MD j = b_made j) → (∀ j, (j < 256 * 1 ∨ 256 * 1 + 256 ≤ j) → CS j = b_codes j) → post (nI n) ((nI (pg_n g)), (nI (pg_c g)), (nI (pg_d g)), k_orderN, (nI (pg_N g)), b_len, b_kind, b_opA, b_opW, b_s, b_order, MD, CS, b_stack, b_choice, WK, RD))
    (hO : qc_ov g → ∀ WK RD MD CS, MD 1 = -1 → (∀ j, j ≠ 1 → MD j = b_made j) → (∀ j, (j < 256 * 1 ∨ 256 * 1 + 256 ≤ j) → CS j = b_codes j) → post (-12) ((nI (pg_n g)), (nI (pg_c g)), (nI (pg_d g)), k_orderN, (nI (pg_N g)), b_len, b_kind, b_opA, b_opW, b_s, b_order, MD, CS, b_stack, b_choice, WK, RD)) :
    wpY_judge post ((nI (pg_n g)), (nI (pg_c g)), (nI (pg_d g)), k_orderN, k_workN, b_len, b_kind, b_opA, b_opW, b_s, b_order, b_made, b_codes, b_stack, b_choice, b_work, b_rd) := by
  refine nm_e (qy_first hw P (fun WK hA => ⟨722, ?_⟩))
  have hr := pg_rk720 hw (pg_pm0 (g := g))
  have hN' : ∀ n c, qc_I g n c → (∀ O, pg_cp g O → qc_in n c (pg_code g O)) → ∀ WK RD MD CS, (∀ i, i < n → CS (256 * 1 + i) = nI (c i)) → MD 1 = nI n → (∀ j, j ≠ 1 → MD j = upd b_made 1 0 j) → (∀ j, (j < 256 * 1 ∨ 256 * 1 + 256 ≤ j) → CS j = b_codes j) → post (nI n) ((nI (pg_n g)), (nI (pg_c g)), (nI (pg_d g)), k_orderN, (nI (pg_N g)), b_len, b_kind, b_opA, b_opW, b_s, b_order, MD, CS, b_stack, b_choice, WK, RD) := by
    intro n c a b WK RD MD CS d e f h
    exact hN n c a b WK RD MD CS d e (fun j hj => by rw [f j hj, pk_un hj]) h
  have hO' : qc_ov g → ∀ WK RD MD CS, MD 1 = -1 → (∀ j, j ≠ 1 → MD j = upd b_made 1 0 j) → (∀ j, (j < 256 * 1 ∨ 256 * 1 + 256 ≤ j) → CS j = b_codes j) → post (-12) ((nI (pg_n g)), (nI (pg_c g)), (nI (pg_d g)), k_orderN, (nI (pg_N g)), b_len, b_kind, b_opA, b_opW, b_s, b_order, MD, CS, b_stack, b_choice, WK, RD) := by
    intro a WK RD MD CS d e f
    exact hO a WK RD MD CS d (fun j hj => by rw [e j hj, pk_un hj]) f
  refine qy_ju15 hw P hN' hO' 721 722 0 (pg_es g 24) WK b_rd _ b_codes (by omega) (by omega) (by omega) pg_pm0 hA (Or.inl ⟨0, fun _ => 0, pk_us, ⟨by omega, fun i j _ h => absurd h (by omega), fun i h => absurd h (by omega)⟩, fun i h => absurd h (by omega), fun O ho hd => absurd hd (pg_first hw (pg_cpp ho))⟩) (fun _ _ => rfl) (fun _ _ => rfl)
end
end
section
/-! Y: the stepped machine -/
def qy_Ms (g : pg_T) (pc : Nat → Nat) (H : List Nat) (S : Nat → Int32) : Prop :=
  (∀ p, p < 3 → S p = nI (pc p)) ∧ (∀ p r, p < 3 → r < 2 → S (3 + 2 * p + r) = nI (pg_reg g H p r (pc p))) ∧ (∀ a, a < 3 → S (9 + a) = nI (pg_mem g H a)) ∧ (∀ p, p < 3 → S (12 + p) = nI (pg_ov g H (8 * p) (pc p))) ∧
  (∀ p k, p < 3 → k < pg_ov g H (8 * p) (pc p) → S (15 + 3 * p + k) = nI ((pg_pd g H (8 * p) (pc p)).getD k 0 + 32 * pg_wr g (pg_rd g H) ((pg_pd g H (8 * p) (pc p)).getD k 0))) ∧ S 24 = nI H.length ∧ (∀ i, i < H.length → S (25 + i) = nI (qa_rg H i))
theorem qa_i0 (p : Nat) : (0 : Int32) + nI p = nI p := Int32.zero_add _
theorem qa_i9 (p : Nat) : (9 : Int32) + nI p = nI (9 + p) := by rw [show (9 : Int32) = nI 9 from rfl, nI_add]
theorem qa_i12 (p : Nat) : (12 : Int32) + nI p = nI (12 + p) := by rw [show (12 : Int32) = nI 12 from rfl, nI_add]
theorem qa_i25 (p : Nat) : (25 : Int32) + nI p = nI (25 + p) := by rw [show (25 : Int32) = nI 25 from rfl, nI_add]
theorem qa_i15 (p : Nat) : (15 : Int32) + (3 : Int32) * nI p = nI (15 + 3 * p) := by rw [qa_3p, show (15 : Int32) = nI 15 from rfl, nI_add]
theorem qa_i15k (p k : Nat) : (15 : Int32) + (3 : Int32) * nI p + nI k = nI (15 + 3 * p + k) := by rw [qa_i15, nI_add]
theorem qa_i3 (p r : Nat) : (3 : Int32) + (2 : Int32) * nI p + nI r = nI (3 + 2 * p + r) := by rw [qa_2p, show (3 : Int32) = nI 3 from rfl, nI_add, nI_add]
section
variable {g : pg_T} {pc : Nat → Nat} {H : List Nat} {p : Nat} {S S1 : Nat → Int32}
theorem qy_pc (M : qy_Ms g pc H S) (hp : p < 3) : upd S ((0 : Int32) + nI p).toNatClampNeg (S ((0 : Int32) + nI p).toNatClampNeg + 1) = upd S p (nI (pc p + 1)) := by
  rw [qa_i0, nI_clamp (by omega), M.1 p hp, nI_1]
theorem qy_pc1 (h : S p = nI (pc p)) (hp : p < 3) : upd S ((0 : Int32) + nI p).toNatClampNeg (S ((0 : Int32) + nI p).toNatClampNeg + 1) = upd S p (nI (pc p + 1)) := by
  rw [qa_i0, nI_clamp (by omega), h, nI_1]
/-- a logged step: memory and p's registers as given, the rest as it was -/
theorem qy_Mlog (hw : pg_wf g) (I : pg_inv g pc H) (hp : p < 3) (hl : H.length < 6) (M : qy_Ms g pc H S)
    (hr : ∀ q r, q < 3 → r < 2 → S1 (3 + 2 * q + r) = nI (pg_reg g ((8 * p + pc p) :: H) q r (pg_up pc p q))) (hm : ∀ a, a < 3 → S1 (9 + a) = nI (pg_mem g ((8 * p + pc p) :: H) a)) (hk : ∀ j, (j < 3 ∨ 12 ≤ j) → S1 j = S j)
    (hwr : ∀ q x, x ∈ pg_pd g H (8 * q) (pc q) → pg_wr g (pg_rd g ((8 * p + pc p) :: H)) x = pg_wr g (pg_rd g H) x) :
    qy_Ms g (pg_up pc p) ((8 * p + pc p) :: H) (upd (upd (upd S1 (25 + H.length) (nI (8 * p + pc p))) 24 (nI (H.length + 1))) p (nI (pc p + 1))) := by
  have hd := I.2.2.2.2.1
  have hd3 := hw.2.2.2.2.1
  obtain ⟨M1, M2, M3, M4, M5, M6, M7⟩ := M
  refine ⟨fun q hq => ?_, fun q r hq hr' => ?_, fun a ha => ?_, fun q hq => ?_, fun q k hq hk' => ?_, ?_, fun i hi => ?_⟩
  · by_cases c : q = p
    · subst c; rw [pk_us, pg_upS]
    · rw [pk_un c, pk_un (by omega), pk_un (by omega), hk q (by omega), pg_upN c]; exact M1 q hq
  · rw [pk_un (by omega), pk_un (by omega), pk_un (by omega)]; exact hr q r hq hr'
  · rw [pk_un (by omega), pk_un (by omega), pk_un (by omega)]; exact hm a ha
  · rw [pk_un (by omega), pk_un (by omega), pk_un (by omega), hk _ (by omega), pg_vov hw I]; exact M4 q hq
  · rw [pg_vov hw I] at hk'
    have := hd q
    rw [pk_un (by omega), pk_un (by omega), pk_un (by omega), hk _ (by omega), pg_vpd hw I, hwr q _ (qa_getm (by rw [pg_pdl]; exact hk'))]
    exact M5 q k hq hk'
  · rw [pk_un (by omega), pk_us]; rfl
  · simp only [List.length_cons] at hi
    rw [pk_un (by omega), pk_un (by omega)]
    by_cases c : i = H.length
    · subst c; rw [pk_us, qa_rgS]
    · rw [pk_un (by omega), hk _ (by omega), qa_rgT (by omega)]; exact M7 i (by omega)
theorem qy_MB (hw : pg_wf g) (I : pg_inv g pc H) (hp : p < 3) (hS : pg_S (pg_K g (8 * p + pc p))) (hm : ¬ (8 * p + pc p) ∈ H) (h3 : pg_ov g H (8 * p) (pc p) < 3) (M : qy_Ms g pc H S) :
    qy_Ms g (pg_up pc p) H (upd (upd (upd S (15 + 3 * p + pg_ov g H (8 * p) (pc p)) (nI (8 * p + pc p + 32 * pg_wr g (pg_rd g H) (8 * p + pc p)))) (12 + p) (nI (pg_ov g H (8 * p) (pc p) + 1))) p (nI (pc p + 1))) := by
  have hd := I.2.2.2.2.1
  have hd3 := hw.2.2.2.2.1
  obtain ⟨M1, M2, M3, M4, M5, M6, M7⟩ := M
  have eo : pg_ov g H (8 * p) (pc p + 1) = pg_ov g H (8 * p) (pc p) + 1 := by
    rw [← pg_pdl, pg_pdS hS hm, List.length_append, pg_pdl]; rfl
  refine ⟨fun q hq => ?_, fun q r hq hr' => ?_, fun a ha => ?_, fun q hq => ?_, fun q k hq hk => ?_, ?_, fun i hi => ?_⟩
  · by_cases c : q = p
    · subst c; rw [pk_us, pg_upS]
    · rw [pk_un c, pk_un (by omega), pk_un (by omega), pg_upN c]; exact M1 q hq
  · rw [pk_un (by omega), pk_un (by omega), pk_un (by omega), pg_vrN (pg_SnR hS) (by rcases hS with h | h <;> omega)]; exact M2 q r hq hr'
  · rw [pk_un (by omega), pk_un (by omega), pk_un (by omega)]; exact M3 a ha
  · rw [pk_un (by omega)]
    by_cases c : q = p
    · subst c; rw [pk_us, pg_upS, eo]
    · rw [pk_un (by omega), pk_un (by omega), pg_upN c]; exact M4 q hq
  · rw [pk_un (by omega), pk_un (by omega)]
    by_cases c : q = p
    · subst c
      rw [pg_upS] at hk ⊢
      rw [eo] at hk
      rw [pg_pdS hS hm]
      by_cases z : k = pg_ov g H (8 * q) (pc q)
      · subst z
        rw [pk_us]
        have e : (pg_pd g H (8 * q) (pc q) ++ [8 * q + pc q]).getD (pg_ov g H (8 * q) (pc q)) 0 = 8 * q + pc q := by
          rw [← pg_pdl, List.getD, List.getElem?_append_right (Nat.le_refl _), Nat.sub_self]; rfl
        rw [e]
      · rw [pk_un (by omega)]
        have e : (pg_pd g H (8 * q) (pc q) ++ [8 * q + pc q]).getD k 0 = (pg_pd g H (8 * q) (pc q)).getD k 0 := by
          rw [List.getD, List.getElem?_append_left (by rw [pg_pdl]; omega)]; rfl
        rw [e]; exact M5 q k hq (by omega)
    · rw [pg_upN c] at hk ⊢
      have h2 := hd q
      rw [pk_un (by omega)]
      exact M5 q k hq hk
  · rw [pk_un (by omega), pk_un (by omega), pk_un (by omega)]; exact M6
  · rw [pk_un (by omega), pk_un (by omega), pk_un (by omega)]; exact M7 i hi
theorem qy_MQ (hp : p < 3) (hS : ¬ pg_S (pg_K g (8 * p + pc p))) (M : qy_Ms g pc H S) (hr : ∀ q r, q < 3 → r < 2 → S1 (3 + 2 * q + r) = nI (pg_reg g H q r (pg_up pc p q))) (hk : ∀ j, (j < 3 ∨ 9 ≤ j) → S1 j = S j) :
    qy_Ms g (pg_up pc p) H (upd S1 p (nI (pc p + 1))) := by
  obtain ⟨M1, M2, M3, M4, M5, M6, M7⟩ := M
  refine ⟨fun q hq => ?_, fun q r hq hr' => ?_, fun a ha => ?_, fun q hq => ?_, fun q k hq hk' => ?_, ?_, fun i hi => ?_⟩
  · by_cases c : q = p
    · subst c; rw [pk_us, pg_upS]
    · rw [pk_un c, hk q (by omega), pg_upN c]; exact M1 q hq
  · rw [pk_un (by omega)]; exact hr q r hq hr'
  · rw [pk_un (by omega), hk _ (by omega)]; exact M3 a ha
  · rw [pk_un (by omega), hk _ (by omega), pg_voN hS]; exact M4 q hq
  · rw [pg_voN hS] at hk'
    rw [pk_un (by omega), hk _ (by omega), pg_vpN hS]; exact M5 q k hq hk'
  · rw [pk_un (by omega), hk _ (by omega)]; exact M6
  · rw [pk_un (by omega), hk _ (by omega)]; exact M7 i hi
theorem qy_MD (hw : pg_wf g) (I : pg_inv g pc H) (hp : p < 3) (hl : H.length < 6) {e : Nat} {R : List Nat} (h : pg_pd g H (8 * p) (pc p) = e :: R) (M : qy_Ms g pc H S)
    (hb : ∀ k, k + 1 < pg_ov g H (8 * p) (pc p) → S1 (15 + 3 * p + k) = S (15 + 3 * p + k + 1)) (hz : S1 (12 + p) = nI (pg_ov g H (8 * p) (pc p) - 1)) (hn : ∀ j, (j < 15 + 3 * p ∨ 15 + 3 * p + 3 ≤ j) → j ≠ 12 + p → S1 j = S j) :
    qy_Ms g pc (e :: H) (upd (upd (upd S1 (9 + pg_A g e) (nI (pg_wr g (pg_rd g H) e))) (25 + H.length) (nI e)) 24 (nI (H.length + 1))) := by
  obtain ⟨h1, h2, h3, h4, h5⟩ := pg_pdh h
  have hA := pg_A3 hw e
  have hR : ¬ pg_R (pg_K g e) := pg_SnR h3
  have hd := I.2.2.2.2.1
  have hd3 := hw.2.2.2.2.1
  have hlr : pg_ov g H (8 * p) (pc p) = R.length + 1 := by rw [← pg_pdl, h]; rfl
  obtain ⟨M1, M2, M3, M4, M5, M6, M7⟩ := M
  have ho : ∀ q, pg_ov g (e :: H) (8 * q) (pc q) = if q = p then R.length else pg_ov g H (8 * q) (pc q) := by
    intro q
    rw [← pg_pdl, pg_dpd hw I h]
    split
    · rfl
    · rw [pg_pdl]
  refine ⟨fun q hq => ?_, fun q r hq hr' => ?_, fun a ha => ?_, fun q hq => ?_, fun q k hq hk => ?_, ?_, fun i hi => ?_⟩
  · rw [pk_un (by omega), pk_un (by omega), pk_un (by omega), hn q (by omega) (by omega)]; exact M1 q hq
  · rw [pk_un (by omega), pk_un (by omega), pk_un (by omega), hn _ (by omega) (by omega), pg_rgS hR]; exact M2 q r hq hr'
  · rw [pk_un (by omega), pk_un (by omega), pg_memS I.1 h4 h3]
    by_cases c : pg_A g e = a
    · rw [if_pos c, ← c, pk_us]
    · rw [if_neg c, pk_un (by omega), hn _ (by omega) (by omega)]; exact M3 a ha
  · rw [pk_un (by omega), pk_un (by omega), pk_un (by omega), ho]
    by_cases c : q = p
    · subst c; rw [if_pos rfl, hz, hlr]; rfl
    · rw [if_neg c, hn _ (by omega) (by omega)]; exact M4 q hq
  · rw [ho] at hk
    rw [pg_dpd hw I h, pg_rds hR]
    by_cases c : q = p
    · subst c
      rw [if_pos rfl] at hk ⊢
      have hdq := hd q
      rw [pk_un (by omega), pk_un (by omega), pk_un (by omega), hb k (by omega)]
      have := M5 q (k + 1) hq (by omega)
      rw [h] at this
      exact this
    · rw [if_neg c] at hk ⊢
      have hdq := hd q
      rw [pk_un (by omega), pk_un (by omega), pk_un (by omega), hn _ (by omega) (by omega)]
      exact M5 q k hq hk
  · rw [pk_us]; rfl
  · simp only [List.length_cons] at hi
    rw [pk_un (by omega)]
    by_cases c : i = H.length
    · subst c; rw [pk_us, qa_rgS]
    · rw [pk_un (by omega), pk_un (by omega), hn _ (by omega) (by omega), qa_rgT (by omega)]; exact M7 i (by omega)
theorem qy_Mz (h : ∀ j, j < 32 → S j = 0) : qy_Ms g (fun _ => 0) [] S :=
  ⟨fun p hp => h _ (by omega), fun p r hp hr => h _ (by omega), fun a ha => h _ (by omega), fun p hp => h _ (by omega), fun p k _ hk => absurd hk (Nat.not_lt_zero _), h _ (by omega), fun i hi => absurd hi (Nat.not_lt_zero _)⟩
theorem qy_Mx (M : qy_Ms g pc H S) (hw : pg_wf g) (I : pg_inv g pc H) (h : ∀ j, j < 32 → S1 j = S j) : qy_Ms g pc H S1 := by
  have hl := pg_invl hw I
  have hd := I.2.2.2.2.1
  have hd3 := hw.2.2.2.2.1
  obtain ⟨M1, M2, M3, M4, M5, M6, M7⟩ := M
  refine ⟨fun q hq => by rw [h _ (by omega)]; exact M1 q hq, fun q r hq hr => by rw [h _ (by omega)]; exact M2 q r hq hr, fun a ha => by rw [h _ (by omega)]; exact M3 a ha, fun q hq => by rw [h _ (by omega)]; exact M4 q hq, fun q k hq hk => ?_, by rw [h _ (by omega)]; exact M6, fun i hi => by rw [h _ (by omega)]; exact M7 i hi⟩
  have := hd q
  rw [h _ (by omega)]; exact M5 q k hq hk
end
end
section
/-! Y: step and drain -/
section
variable {k_procs k_cells k_deep k_orderN k_workN : Int32} {b_len b_kind b_opA b_opW b_s b_order b_made b_codes b_stack b_choice b_work b_rd : Nat → Int32}
variable {g : pg_T} {pc : Nat → Nat} {H : List Nat} {p : Nat}
theorem qy_401 (hp : p < 3) (hs : b_s p = nI (pc p)) {post : Int32 → SY → Prop} (h : post 0 (k_procs, k_cells, k_deep, k_orderN, k_workN, b_len, b_kind, b_opA, b_opW, (upd b_s p (nI (pc p + 1))), b_order, b_made, b_codes, b_stack, b_choice, b_work, b_rd)) : wY_step_401 post (nI p) k_procs k_cells k_deep k_orderN k_workN b_len b_kind b_opA b_opW b_s b_order b_made b_codes b_stack b_choice b_work b_rd :=
  ⟨pk_in p 32 (by omega) (qa_i0 p), pk_in p 32 (by omega) (qa_i0 p), nm_r (qy_pc1 hs hp) h⟩
theorem qy_sl143 (hw : pg_wf g) (P : qx_P g b_kind b_opA b_opW b_len) (I : pg_inv g pc H) (hp : p < 3) (hk : pg_K g (8 * p + pc p) = 1) (M : qy_Ms g pc H b_s) (hlen : H.length < 6) {post : Int32 → SY → Prop} {a : Nat} (ha : a = pg_A g (8 * p + pc p)) {x7 : Nat} (hx7 : x7 = 3 + 2 * p + pg_W g (8 * p + pc p) % 2)
    (fin : post 0 (k_procs, k_cells, k_deep, k_orderN, k_workN, b_len, b_kind, b_opA, b_opW, (upd (upd (upd (upd b_s x7 (nI (pg_rd g ((8 * p + pc p) :: H) (8 * p + pc p)))) (25 + H.length) (nI (8 * p + pc p))) 24 (nI (H.length + 1))) p (nI (pc p + 1))), b_order, b_made, b_codes, b_stack, b_choice, b_work, b_rd)) :
    ∀ m n k v, k + m = pg_ov g H (8 * p) (pc p) → m < n → pg_sc g (pg_rd g H) (pg_A g (8 * p + pc p)) v ((pg_pd g H (8 * p) (pc p)).drop k) = pg_rd g ((8 * p + pc p) :: H) (8 * p + pc p) → wY_step_143 post (nI p) (nI (8 * p + pc p)) (nI a) (nI (pg_ov g H (8 * p) (pc p))) (nI x7) k_procs k_cells k_deep k_orderN k_workN b_len b_kind b_opA b_opW b_s b_order b_made b_codes b_stack b_choice b_work b_rd n (nI v) (nI k) := by
  have h5 := pg_pc5 hw I p
  have hd := I.2.2.2.2.1 p
  have hd3 := hw.2.2.2.2.1
  have hwk := hw.2.2.2.2.2.2.2.2.1
  obtain ⟨M1, M2, M3, M4, M5, M6, M7⟩ := M
  have hx32 : x7 < 9 := by omega
  have hx3 : 3 ≤ x7 := by omega
  intro m
  induction m with
  | zero =>
    intro n k v hk' hn hv
    obtain ⟨n, rfl⟩ : ∃ k, n = k + 1 := ⟨n - 1, by omega⟩
    have e0 : (pg_pd g H (8 * p) (pc p)).drop k = [] := List.drop_eq_nil_of_le (by rw [pg_pdl]; omega)
    rw [e0] at hv
    have hv' : v = pg_rd g ((8 * p + pc p) :: H) (8 * p + pc p) := hv
    rw [← hv'] at fin
    refine br_t (nI_le (by omega) (by omega)) ⟨pk_in x7 32 (by omega), nm_r (qa_u (by omega)) (qy_log hlen ?_ ?_)⟩
    · rw [pk_un (by omega)]; exact M6
    · refine qy_401 hp ?_ fin
      rw [pk_un (by omega), pk_un (by omega), pk_un (by omega)]; exact M1 p hp
  | succ m ih =>
    intro n k v hk' hn hv
    obtain ⟨n, rfl⟩ : ∃ k, n = k + 1 := ⟨n - 1, by omega⟩
    have hkl : k < pg_ov g H (8 * p) (pc p) := by omega
    have b1 := M5 p k hp hkl
    have hmem := qa_getm (l := pg_pd g H (8 * p) (pc p)) (k := k) (by rw [pg_pdl]; omega)
    have hx := pg_pdm.mp hmem
    rw [qa_drop (by rw [pg_pdl]; omega), pg_scc] at hv
    generalize (pg_pd g H (8 * p) (pc p)).getD k 0 = x at b1 hx hv
    have hwl := pg_wrL hwk H x
    have e1 : b_s ((15 : Int32) + (3 : Int32) * nI p + nI k).toNatClampNeg = nI (x + 32 * pg_wr g (pg_rd g H) x) := by rw [qa_i15k, nI_clamp (by omega)]; exact b1
    have e2 : nI (x + 32 * pg_wr g (pg_rd g H) x) - nI (x + 32 * pg_wr g (pg_rd g H) x) / 32 * 32 = nI x := by rw [qa_r32 _ (by omega), show (x + 32 * pg_wr g (pg_rd g H) x) % 32 = x by omega]
    have e3 : nI (x + 32 * pg_wr g (pg_rd g H) x) / 32 = nI (pg_wr g (pg_rd g H) x) := by rw [qa_d32 _ (by omega), show (x + 32 * pg_wr g (pg_rd g H) x) / 32 = pg_wr g (pg_rd g H) x by omega]
    have e4 : b_opA (nI (x + 32 * pg_wr g (pg_rd g H) x) - nI (x + 32 * pg_wr g (pg_rd g H) x) / 32 * 32).toNatClampNeg = nI (pg_A g x) := by rw [e2]; exact qa_oa P (by omega)
    refine br_f (nI_ge (by omega) (by omega)) ⟨pk_in (15 + 3 * p + k) 32 (by omega) (qa_i15k p k), nm_r e1 ⟨by decide, pk_in x 24 (by omega) e2, ?_⟩⟩
    refine pk_eq (pg_A g x) a (fun z => ⟨by decide, nm_r e3 (nm_r (nI_1 k) ?_)⟩) (fun z => nm_r (nI_1 k) ?_) e4 rfl (qa_kl hw _).2.1 (by rw [ha]; exact (qa_kl hw _).2.1)
    · rw [if_pos (by rw [z, ha])] at hv
      exact ih n (k + 1) _ (by omega) (by omega) hv
    · rw [if_neg (by rw [← ha]; exact z)] at hv
      exact ih n (k + 1) _ (by omega) (by omega) hv
theorem qy_step (hw : pg_wf g) (P : qx_P g b_kind b_opA b_opW b_len) (I : pg_inv g pc H) (hp : p < pg_n g) (M : qy_Ms g pc H b_s) {post : Int32 → SY → Prop}
    (hpost : ∀ S, qy_Ms g (pg_spf g pc H p).2.1 (pg_spf g pc H p).2.2 S → ((pg_spf g pc H p).1 ≠ 0 → S = b_s) → post (pg_spf g pc H p).1 ((nI (pg_n g)), k_cells, (nI (pg_d g)), k_orderN, k_workN, b_len, b_kind, b_opA, b_opW, S, b_order, b_made, b_codes, b_stack, b_choice, b_work, b_rd)) : wpY_step post ((nI (pg_n g)), k_cells, (nI (pg_d g)), k_orderN, k_workN, b_len, b_kind, b_opA, b_opW, b_s, b_order, b_made, b_codes, b_stack, b_choice, b_work, b_rd) (nI p) := by
  have hn3 := hw.2.1
  have hd := I.2.2.2.2.1 p
  have hd3 := hw.2.2.2.2.1
  have h5 := pg_pc5 hw I p
  have hL5 := hw.2.2.2.2.2.1 p
  have hwk := hw.2.2.2.2.2.2.2.2.1
  have M' := M
  obtain ⟨M1, M2, M3, M4, M5, M6, M7⟩ := M'
  have ep : b_s ((0 : Int32) + nI p).toNatClampNeg = nI (pc p) := by rw [qa_i0, nI_clamp (by omega)]; exact M1 p (by omega)
  have eb : b_s ((12 : Int32) + nI p).toNatClampNeg = nI (pg_ov g H (8 * p) (pc p)) := by rw [qa_i12, nI_clamp (by omega)]; exact M4 p (by omega)
  have p0 : vp_in ((0 : Int32) + nI p) 32 := pk_in p 32 (by omega) (qa_i0 p)
  have p3 : vp_in (nI p) 3 := pk_in p 3 (by omega)
  refine br_f (nI_pos (by omega)) (br_t (nI_lt hp (by omega)) ⟨p0, p3, pk_lt (pc p) (pg_L g p) (fun hL => ?_) (fun hL => ?_) ep (qa_ln P (by omega))⟩)
  · have e1 : (8 : Int32) * nI p + b_s ((0 : Int32) + nI p).toNatClampNeg = nI (8 * p + pc p) := by rw [ep, qa_8]
    have i24 : vp_in (nI (8 * p + pc p)) 24 := pk_in (8 * p + pc p) 24 (by omega)
    have hA := pg_A3 hw (8 * p + pc p)
    obtain ⟨k0, k1, k2, k3, k4, k5, k6⟩ := hwk (8 * p + pc p)
    have ea : b_opA (nI (8 * p + pc p)).toNatClampNeg = nI (pg_A g (8 * p + pc p)) := qa_oa P (by omega)
    have ew : b_opW (nI (8 * p + pc p)).toNatClampNeg = nI (pg_W g (8 * p + pc p)) := qa_ow P (by omega)
    have hni : ¬ (8 * p + pc p) ∈ H := pg_nin I (Nat.le_refl _) (by omega)
    have sp : b_s p = nI (pc p) := M1 p (by omega)
    have er : (3 : Int32) + (2 : Int32) * nI p + (nI (pg_W g (8 * p + pc p)) &&& 1) = nI (3 + 2 * p + pg_W g (8 * p + pc p) % 2) := by rw [qa_w1 _ (by omega), qa_i3]
    have ec : b_s ((9 : Int32) + nI (pg_A g (8 * p + pc p))).toNatClampNeg = nI (pg_mem g H (pg_A g (8 * p + pc p))) := by rw [qa_i9, nI_clamp (by omega)]; exact M3 _ hA
    have i9 : vp_in ((9 : Int32) + nI (pg_A g (8 * p + pc p))) 32 := pk_in (9 + pg_A g (8 * p + pc p)) 32 (by omega) (qa_i9 _)
    have u9 : ∀ (f : Nat → Int32) (v : Int32), upd f ((9 : Int32) + nI (pg_A g (8 * p + pc p))).toNatClampNeg v = upd f (9 + pg_A g (8 * p + pc p)) v := fun f v => by rw [qa_i9, qa_u (by omega)]
    have e8 : (8 * p + pc p) / 8 = p := by omega
    have em : (8 * p + pc p) % 8 = pc p := by omega
    refine ⟨p0, nm_r e1 ⟨i24, nm_r (qa_kd P (by omega)) ⟨i24, nm_r ea ⟨i24, nm_r ew ⟨pk_in (12 + p) 32 (by omega) (qa_i12 p), nm_r eb ?_⟩⟩⟩⟩⟩
    rcases pg_kinds hw hL with k | k | k | k | k
    · rw [k]
      have hl := pg_okl hw I.1 (pg_okL hw I hL k)
      have hwr : ∀ q x, x ∈ pg_pd g H (8 * q) (pc q) → pg_wr g (pg_rd g ((8 * p + pc p) :: H)) x = pg_wr g (pg_rd g H) x := fun q x hx => pg_vwr hw I hx
      have Mn := qy_Mlog (p := p) (S1 := upd b_s (3 + 2 * p + pg_W g (8 * p + pc p) % 2) (nI (pg_rd g ((8 * p + pc p) :: H) (8 * p + pc p)))) hw I (by omega) hl M (fun q r hq hr => by
        rw [pg_vrR hw I (Or.inl k)]
        by_cases c : q = p ∧ r = pg_W g (8 * p + pc p) % 2
        · rw [if_pos c, c.1, c.2, pk_us]
        · rw [if_neg c, pk_un (by intro z; apply c; omega)]; exact M2 q r hq hr) (fun a ha => by rw [pk_un (by omega), pg_memR I.1 hni k]; exact M3 a ha) (fun j hj => pk_un (by omega)) hwr
      have := hpost _ (by rw [pg_sp1 hL k]; exact Mn) (fun z => absurd (by rw [pg_sp1 hL k]) z)
      rw [pg_sp1 hL k] at this
      refine br_f (by decide) (nm_r er (br_f (by decide) (br_f (by decide) (br_t rfl ⟨i9, nm_r ec ⟨5, ?_⟩⟩))))
      refine qy_sl143 hw P I (by omega) k M hl rfl rfl this (pg_ov g H (8 * p) (pc p)) 5 0 _ (by omega) (by omega) ?_
      rw [List.drop_zero]; exact (pg_vld hw I k).symm
    · have n1 : ¬ nI (pg_K g (8 * p + pc p)) = 1 := fun z => pg_Sn1 k ((nI_eq (by omega) (by omega)).mp z)
      have n4 : ¬ nI (pg_K g (8 * p + pc p)) = 4 := fun z => by have := (nI_eq (b := 4) (by omega) (by omega)).mp z; rcases k with k | k <;> omega
      have n5 : ¬ nI (pg_K g (8 * p + pc p)) = 5 := fun z => by have := (nI_eq (b := 5) (by omega) (by omega)).mp z; rcases k with k | k <;> omega
      have n6 : ¬ nI (pg_K g (8 * p + pc p)) = 6 := fun z => by have := (nI_eq (b := 6) (by omega) (by omega)).mp z; rcases k with k | k <;> omega
      have hvl := pg_wrL hwk H (8 * p + pc p)
      have main : wY_step_238 post (nI p) (nI (8 * p + pc p)) (nI (pg_A g (8 * p + pc p))) (nI (pg_ov g H (8 * p) (pc p))) (nI (pg_wr g (pg_rd g H) (8 * p + pc p))) (nI (pg_n g)) k_cells (nI (pg_d g)) k_orderN k_workN b_len b_kind b_opA b_opW b_s b_order b_made b_codes b_stack b_choice b_work b_rd := by
        refine pk_eq (pg_d g) 0 (fun d => ?_) (fun d => pk_lt (pg_ov g H (8 * p) (pc p)) (pg_d g) (fun o => ?_) (fun o => ?_))
        · have o0 : pg_ov g H (8 * p) (pc p) = 0 := by omega
          have hok := pg_okC hw I hL (pg_SM k) (pg_Sn1 k) o0
          have hl := pg_okl hw I.1 hok
          have Mn := qy_Mlog (p := p) (S1 := upd b_s (9 + pg_A g (8 * p + pc p)) (nI (pg_wr g (pg_rd g H) (8 * p + pc p)))) hw I (by omega) hl M (fun q r hq hr => by
            rw [pk_un (by omega), pg_rgS (pg_SnR k), pg_vrN (pg_SnR k) (by rcases k with k | k <;> omega)]; exact M2 q r hq hr) (fun a ha => by
            rw [pg_memS I.1 hni k]
            by_cases c : pg_A g (8 * p + pc p) = a
            · rw [if_pos c, ← c, pk_us]
            · rw [if_neg c, pk_un (by omega)]; exact M3 a ha) (fun j hj => pk_un (by omega)) (fun q x hx => by rw [pg_rds (pg_SnR k)])
          have := hpost _ (by rw [pg_spS0 hL k d]; exact Mn) (fun z => absurd (by rw [pg_spS0 hL k d]) z)
          rw [pg_spS0 hL k d] at this
          refine ⟨i9, nm_r (u9 _ _) (qy_log hl ?_ ?_)⟩
          · rw [pk_un (by omega)]; exact M6
          · refine qy_401 (by omega) ?_ this
            rw [pk_un (by omega), pk_un (by omega), pk_un (by omega)]; exact sp
        · have Mn := qy_MB (p := p) hw I (by omega) k hni (by omega) M
          have := hpost _ (by rw [pg_spS1 hL k d o]; exact Mn) (fun z => absurd (by rw [pg_spS1 hL k d o]) z)
          rw [pg_spS1 hL k d o] at this
          have e3 : upd b_s ((15 : Int32) + (3 : Int32) * nI p + nI (pg_ov g H (8 * p) (pc p))).toNatClampNeg (nI (8 * p + pc p) + (32 : Int32) * nI (pg_wr g (pg_rd g H) (8 * p + pc p))) = upd b_s (15 + 3 * p + pg_ov g H (8 * p) (pc p)) (nI (8 * p + pc p + 32 * pg_wr g (pg_rd g H) (8 * p + pc p))) := by
            rw [qa_i15k, qa_u (by omega), show (32 : Int32) = nI 32 from rfl, pk_mul, nI_add]
          have e4 : upd (upd b_s (15 + 3 * p + pg_ov g H (8 * p) (pc p)) (nI (8 * p + pc p + 32 * pg_wr g (pg_rd g H) (8 * p + pc p)))) ((12 : Int32) + nI p).toNatClampNeg ((upd b_s (15 + 3 * p + pg_ov g H (8 * p) (pc p)) (nI (8 * p + pc p + 32 * pg_wr g (pg_rd g H) (8 * p + pc p)))) ((12 : Int32) + nI p).toNatClampNeg + 1) = upd (upd b_s (15 + 3 * p + pg_ov g H (8 * p) (pc p)) (nI (8 * p + pc p + 32 * pg_wr g (pg_rd g H) (8 * p + pc p)))) (12 + p) (nI (pg_ov g H (8 * p) (pc p) + 1)) := by
            rw [qa_i12, nI_clamp (by omega), pk_un (by omega), M4 p (by omega), nI_1]
          refine ⟨pk_in (15 + 3 * p + pg_ov g H (8 * p) (pc p)) 32 (by omega) (qa_i15k p _), nm_r e3 ⟨pk_in (12 + p) 32 (by omega) (qa_i12 p), pk_in (12 + p) 32 (by omega) (qa_i12 p), nm_r e4 (qy_401 (by omega) ?_ this)⟩⟩
          rw [pk_un (by omega), pk_un (by omega)]; exact sp
        · have := hpost b_s (by rw [pg_spS2 hL k d (by omega)]; exact M) (fun _ => rfl)
          rw [pg_spS2 hL k d (by omega)] at this
          exact this
      have e3 : b_s (nI (3 + 2 * p + pg_W g (8 * p + pc p) % 2)).toNatClampNeg = nI (pg_reg g H p (pg_W g (8 * p + pc p) % 2) (pc p)) := by rw [nI_clamp (by omega)]; exact M2 p _ (by omega) (by omega)
      have m221 : wY_step_221 post (nI p) (nI (8 * p + pc p)) (nI (pg_K g (8 * p + pc p))) (nI (pg_A g (8 * p + pc p))) (nI (pg_W g (8 * p + pc p))) (nI (pg_ov g H (8 * p) (pc p))) (nI (3 + 2 * p + pg_W g (8 * p + pc p) % 2)) (nI (pg_n g)) k_cells (nI (pg_d g)) k_orderN k_workN b_len b_kind b_opA b_opW b_s b_order b_made b_codes b_stack b_choice b_work b_rd := by
        refine pk_eq (pg_K g (8 * p + pc p)) 2 (fun c => ?_) (fun c => ⟨pk_in (3 + 2 * p + pg_W g (8 * p + pc p) % 2) 32 (by omega), ?_⟩)
        · have e4 : pg_W g (8 * p + pc p) = pg_wr g (pg_rd g H) (8 * p + pc p) := by unfold pg_wr; rw [if_pos c]
          rw [e4]
          exact main
        · have c3 : pg_K g (8 * p + pc p) = 3 := by rcases k with z | z <;> omega
          have hW := k3 (Or.inr c3)
          have e4 : pg_reg g H p (pg_W g (8 * p + pc p) % 2) (pc p) = pg_wr g (pg_rd g H) (8 * p + pc p) := by
            unfold pg_wr
            rw [if_neg (by omega), if_neg (by omega), e8, em, Nat.mod_eq_of_lt (by omega)]
            rfl
          rw [e3, e4]
          exact main
      refine br_f n6 (nm_r er (br_f n4 (br_f n5 (br_f n1 (br_c (fun _ => m221) (fun c2 => br_t ?_ m221))))))
      rcases k with z | z
      · exact absurd (by rw [z]; rfl) c2
      · rw [z]; rfl
    · rw [k]
      refine br_f (by decide) (nm_r er (br_t rfl (pk_le (pg_ov g H (8 * p) (pc p)) 0 (fun o => ?_) (fun o => ?_))))
      · have o0 : pg_ov g H (8 * p) (pc p) = 0 := by omega
        have Mn := qy_MQ (p := p) (S1 := b_s) (by omega) (by rw [k]; decide) M (fun q r hq hr => by rw [pg_vrN (by rw [k]; decide) (by rw [k]; decide)]; exact M2 q r hq hr) (fun j hj => rfl)
        have := hpost _ (by rw [pg_sp40 hL k o0]; exact Mn) (fun z => absurd (by rw [pg_sp40 hL k o0]) z)
        rw [pg_sp40 hL k o0] at this
        exact br_f (by decide) (br_f (by decide) (br_f (by decide) (br_f (by decide) (br_f (by decide) (qy_401 (by omega) sp this)))))
      · have := hpost b_s (by rw [pg_sp41 hL k (by omega)]; exact M) (fun _ => rfl)
        rw [pg_sp41 hL k (by omega)] at this
        exact this
    · rw [k]
      refine br_f (by decide) (nm_r er (br_f (by decide) (br_t rfl (pk_le (pg_ov g H (8 * p) (pc p)) 0 (fun o => ?_) (fun o => ?_)))))
      · have o0 : pg_ov g H (8 * p) (pc p) = 0 := by omega
        have hok := pg_okC hw I hL (Or.inr (Or.inl k)) (by omega) o0
        have hl := pg_okl hw I.1 hok
        have hwr : ∀ q x, x ∈ pg_pd g H (8 * q) (pc q) → pg_wr g (pg_rd g ((8 * p + pc p) :: H)) x = pg_wr g (pg_rd g H) x := fun q x hx => pg_vwr hw I hx
        have l1 := pg_memL hwk H (pg_A g (8 * p + pc p))
        have l2 := pg_regL hwk H p (pg_W g (8 * p + pc p) % 2) (pc p)
        have eg : b_s (nI (3 + 2 * p + pg_W g (8 * p + pc p) % 2)).toNatClampNeg = nI (pg_reg g H p (pg_W g (8 * p + pc p) % 2) (pc p)) := by rw [nI_clamp (by omega)]; exact M2 p _ (by omega) (by omega)
        have i7 : vp_in (nI (3 + 2 * p + pg_W g (8 * p + pc p) % 2)) 32 := pk_in (3 + 2 * p + pg_W g (8 * p + pc p) % 2) 32 (by omega)
        refine br_f (by decide) (br_f (by decide) (br_f (by decide) (br_t rfl ⟨i9, nm_r ec ⟨i7, pk_eq (pg_mem g H (pg_A g (8 * p + pc p))) (pg_reg g H p (pg_W g (8 * p + pc p) % 2) (pc p)) (fun c => ⟨by decide, i9, ?_⟩) (fun c => ?_) rfl eg⟩⟩)))
        · have Mn := qy_Mlog (p := p) (S1 := upd (upd b_s (9 + pg_A g (8 * p + pc p)) (nI (pg_W g (8 * p + pc p) / 2))) (3 + 2 * p + pg_W g (8 * p + pc p) % 2) (nI (pg_rd g ((8 * p + pc p) :: H) (8 * p + pc p)))) hw I (by omega) hl M (fun q r hq hr => by
            rw [pg_vrR hw I (Or.inr k)]
            by_cases y : q = p ∧ r = pg_W g (8 * p + pc p) % 2
            · rw [if_pos y, y.1, y.2, pk_us]
            · rw [if_neg y, pk_un (by intro z; apply y; omega), pk_un (by omega)]; exact M2 q r hq hr) (fun a ha => by
            rw [pk_un (by omega), pg_memC I.1 hok.2.1 k, e8, em]
            by_cases y : pg_A g (8 * p + pc p) = a
            · rw [if_pos ⟨y, c⟩, ← y, pk_us]
            · rw [if_neg (fun z => y z.1), pk_un (by omega)]; exact M3 a ha) (fun j hj => by rw [pk_un (by omega), pk_un (by omega)]) hwr
          have := hpost _ (by rw [pg_sp50 hL k o0]; exact Mn) (fun z => absurd (by rw [pg_sp50 hL k o0]) z)
          rw [pg_sp50 hL k o0, pg_rdC k] at this
          have e3 : upd b_s ((9 : Int32) + nI (pg_A g (8 * p + pc p))).toNatClampNeg (nI (pg_W g (8 * p + pc p)) / 2) = upd b_s (9 + pg_A g (8 * p + pc p)) (nI (pg_W g (8 * p + pc p) / 2)) := by rw [u9, qa_h2 _ (by omega)]
          refine nm_r e3 ⟨i7, nm_r (qa_u (by omega)) (qy_log hl ?_ (qy_401 (by omega) ?_ this))⟩
          · rw [pk_un (by omega), pk_un (by omega)]; exact M6
          · rw [pk_un (by omega), pk_un (by omega), pk_un (by omega), pk_un (by omega)]; exact sp
        · have Mn := qy_Mlog (p := p) (S1 := upd b_s (3 + 2 * p + pg_W g (8 * p + pc p) % 2) (nI (pg_rd g ((8 * p + pc p) :: H) (8 * p + pc p)))) hw I (by omega) hl M (fun q r hq hr => by
            rw [pg_vrR hw I (Or.inr k)]
            by_cases y : q = p ∧ r = pg_W g (8 * p + pc p) % 2
            · rw [if_pos y, y.1, y.2, pk_us]
            · rw [if_neg y, pk_un (by intro z; apply y; omega)]; exact M2 q r hq hr) (fun a ha => by
            rw [pk_un (by omega), pg_memC I.1 hok.2.1 k, e8, em, if_neg (fun z => c z.2)]; exact M3 a ha) (fun j hj => pk_un (by omega)) hwr
          have := hpost _ (by rw [pg_sp50 hL k o0]; exact Mn) (fun z => absurd (by rw [pg_sp50 hL k o0]) z)
          rw [pg_sp50 hL k o0, pg_rdC k] at this
          refine ⟨i7, nm_r (qa_u (by omega)) (qy_log hl ?_ (qy_401 (by omega) ?_ this))⟩
          · rw [pk_un (by omega)]; exact M6
          · rw [pk_un (by omega), pk_un (by omega), pk_un (by omega)]; exact sp
      · have := hpost b_s (by rw [pg_sp51 hL k (by omega)]; exact M) (fun _ => rfl)
        rw [pg_sp51 hL k (by omega)] at this
        exact this
    · rw [k]
      obtain ⟨hA1, hW3⟩ := k5 k
      have er6 : (3 : Int32) + (2 : Int32) * nI p + nI (pg_A g (8 * p + pc p)) = nI (3 + 2 * p + pg_A g (8 * p + pc p)) := qa_i3 _ _
      have l2 := pg_regL hwk H p (pg_A g (8 * p + pc p)) (pc p)
      have i7 : vp_in (nI (3 + 2 * p + pg_A g (8 * p + pc p))) 32 := pk_in (3 + 2 * p + pg_A g (8 * p + pc p)) 32 (by omega)
      have ev : upd b_s (nI (3 + 2 * p + pg_A g (8 * p + pc p))).toNatClampNeg ((b_s (nI (3 + 2 * p + pg_A g (8 * p + pc p))).toNatClampNeg + nI (pg_W g (8 * p + pc p))) - (b_s (nI (3 + 2 * p + pg_A g (8 * p + pc p))).toNatClampNeg + nI (pg_W g (8 * p + pc p))) / 4 * 4) = upd b_s (3 + 2 * p + pg_A g (8 * p + pc p)) (nI ((pg_reg g H p (pg_A g (8 * p + pc p)) (pc p) + pg_W g (8 * p + pc p)) % 4)) := by
        rw [nI_clamp (by omega), M2 p _ (by omega) (by omega), nI_add, qa_r4 _ (by omega)]
      have Mn := qy_MQ (p := p) (S1 := upd b_s (3 + 2 * p + pg_A g (8 * p + pc p)) (nI ((pg_reg g H p (pg_A g (8 * p + pc p)) (pc p) + pg_W g (8 * p + pc p)) % 4))) (by omega) (by rw [k]; decide) M (fun q r hq hr => by
        rw [pg_vrA k]
        by_cases y : q = p ∧ r = pg_A g (8 * p + pc p)
        · rw [if_pos y, y.1, y.2, pk_us]
        · rw [if_neg y, pk_un (by intro z; apply y; omega)]; exact M2 q r hq hr) (fun j hj => pk_un (by omega))
      have := hpost _ (by rw [pg_sp6 hL k]; exact Mn) (fun z => absurd (by rw [pg_sp6 hL k]) z)
      rw [pg_sp6 hL k] at this
      refine br_t rfl (nm_r er6 (br_f (by decide) (br_f (by decide) (br_f (by decide) (br_f (by decide) (br_f (by decide) (br_f (by decide) (br_t rfl ⟨i7, by decide, i7, nm_r ev (qy_401 (by omega) ?_ this)⟩))))))))
      rw [pk_un (by omega)]; exact sp
  · have := hpost b_s (by rw [pg_sp3 hL]; exact M) (fun _ => rfl)
    rw [pg_sp3 hL] at this
    exact this
theorem qy_dr56 (P : qx_P g b_kind b_opA b_opW b_len) {b e v : Nat} (hp : p < 3) (hb : b < 3) (he : e < 24) (hv : v < 4) (hA : pg_A g e < 3) (hlen : H.length < 6) (hz : b_s (12 + p) = nI b) (hsl : b_s 24 = nI H.length) {post : Int32 → SY → Prop}
    (fin : ∀ S1, (∀ k, k < b → S1 (15 + 3 * p + k) = b_s (15 + 3 * p + k + 1)) → (∀ j, (j < 15 + 3 * p ∨ 15 + 3 * p + 3 ≤ j) → S1 j = b_s j) → post 0 (k_procs, k_cells, k_deep, k_orderN, k_workN, b_len, b_kind, b_opA, b_opW, (upd (upd (upd S1 (9 + pg_A g e) (nI v)) (25 + H.length) (nI e)) 24 (nI (H.length + 1))), b_order, b_made, b_codes, b_stack, b_choice, b_work, b_rd)) :
    ∀ m n k S1, k + m = b → m < n → (∀ j, j < k → S1 (15 + 3 * p + j) = b_s (15 + 3 * p + j + 1)) → (∀ j, (j < 15 + 3 * p ∨ 15 + 3 * p + k ≤ j) → S1 j = b_s j) → wY_drain_56 post (nI p) (nI (e + 32 * v)) k_procs k_cells k_deep k_orderN k_workN n (nI k) b_len b_kind b_opA b_opW S1 b_order b_made b_codes b_stack b_choice b_work b_rd := by
  intro m
  induction m with
  | zero =>
    intro n k S1 hk hn h1 h2
    obtain ⟨n, rfl⟩ : ∃ k, n = k + 1 := ⟨n - 1, by omega⟩
    obtain rfl : k = b := by omega
    have eb : S1 ((12 : Int32) + nI p).toNatClampNeg = nI k := by rw [qa_i12, nI_clamp (by omega), h2 _ (by omega)]; exact hz
    have e2 : nI (e + 32 * v) - nI (e + 32 * v) / 32 * 32 = nI e := by rw [qa_r32 _ (by omega), show (e + 32 * v) % 32 = e by omega]
    have e3 : nI (e + 32 * v) / 32 = nI v := by rw [qa_d32 _ (by omega), show (e + 32 * v) / 32 = v by omega]
    have ea : (9 : Int32) + b_opA (nI e).toNatClampNeg = nI (9 + pg_A g e) := by rw [qa_oa P (by omega), qa_i9]
    have e4 : upd S1 ((9 : Int32) + b_opA (nI e).toNatClampNeg).toNatClampNeg (nI (e + 32 * v) / 32) = upd S1 (9 + pg_A g e) (nI v) := by rw [ea, qa_u (by omega), e3]
    refine ⟨pk_in (12 + p) 32 (by omega) (qa_i12 p), pk_le k k (fun _ => ⟨by decide, nm_r e2 ⟨pk_in e 24 he, by decide, pk_in (9 + pg_A g e) 32 (by omega) ea, nm_r e4 (qy_log hlen ?_ (fin S1 h1 (fun j hj => h2 j (by omega))))⟩⟩) (fun z => absurd z (by omega)) eb rfl⟩
    rw [pk_un (by omega), h2 _ (by omega)]; exact hsl
  | succ m ih =>
    intro n k S1 hk hn h1 h2
    obtain ⟨n, rfl⟩ : ∃ k, n = k + 1 := ⟨n - 1, by omega⟩
    have eb : S1 ((12 : Int32) + nI p).toNatClampNeg = nI b := by rw [qa_i12, nI_clamp (by omega), h2 _ (by omega)]; exact hz
    have e0 := qa_i15k p k
    have e1 : (15 : Int32) + (3 : Int32) * nI p + nI k + 1 = nI (15 + 3 * p + k + 1) := by rw [e0, nI_1]
    have e2 : upd S1 ((15 : Int32) + (3 : Int32) * nI p + nI k).toNatClampNeg (S1 ((15 : Int32) + (3 : Int32) * nI p + nI k + 1).toNatClampNeg) = upd S1 (15 + 3 * p + k) (S1 (15 + 3 * p + k + 1)) := by rw [e1, e0, nI_clamp (by omega), nI_clamp (by omega)]
    refine ⟨pk_in (12 + p) 32 (by omega) (qa_i12 p), pk_le b k (fun z => absurd z (by omega)) (fun _ => ⟨pk_in (15 + 3 * p + k + 1) 32 (by omega) e1, pk_in (15 + 3 * p + k) 32 (by omega) e0, nm_r e2 (nm_r (nI_1 k) ?_)⟩) eb rfl⟩
    refine ih n (k + 1) _ (by omega) (by omega) (fun j hj => ?_) (fun j hj => ?_)
    · by_cases c : j = k
      · subst c; rw [pk_us]; exact h2 _ (by omega)
      · rw [pk_un (by omega)]; exact h1 j (by omega)
    · rw [pk_un (by omega)]; exact h2 j (by omega)
theorem qy_drain (hw : pg_wf g) (P : qx_P g b_kind b_opA b_opW b_len) (I : pg_inv g pc H) (hp : p < pg_n g) (M : qy_Ms g pc H b_s) {post : Int32 → SY → Prop}
    (hpost : ∀ S, qy_Ms g (pg_dpf g pc H p).2.1 (pg_dpf g pc H p).2.2 S → ((pg_dpf g pc H p).1 ≠ 0 → S = b_s) → post (pg_dpf g pc H p).1 ((nI (pg_n g)), k_cells, k_deep, k_orderN, k_workN, b_len, b_kind, b_opA, b_opW, S, b_order, b_made, b_codes, b_stack, b_choice, b_work, b_rd)) : wpY_drain post ((nI (pg_n g)), k_cells, k_deep, k_orderN, k_workN, b_len, b_kind, b_opA, b_opW, b_s, b_order, b_made, b_codes, b_stack, b_choice, b_work, b_rd) (nI p) := by
  have hn3 := hw.2.1
  have hd := I.2.2.2.2.1 p
  have hd3 := hw.2.2.2.2.1
  have hwk := hw.2.2.2.2.2.2.2.2.1
  have M' := M
  obtain ⟨M1, M2, M3, M4, M5, M6, M7⟩ := M'
  have eb : b_s ((12 : Int32) + nI p).toNatClampNeg = nI (pg_ov g H (8 * p) (pc p)) := by rw [qa_i12, nI_clamp (by omega)]; exact M4 p (by omega)
  have i12 : vp_in ((12 : Int32) + nI p) 32 := pk_in (12 + p) 32 (by omega) (qa_i12 p)
  refine br_f (nI_pos (by omega)) (br_t (nI_lt hp (by omega)) ⟨i12, pk_eq (pg_ov g H (8 * p) (pc p)) 0 (fun o => ?_) (fun o => ?_) eb rfl⟩)
  · have := hpost b_s (by rw [pg_dp0 o]; exact M) (fun _ => rfl)
    rw [pg_dp0 o] at this
    exact this
  · cases hq : pg_pd g H (8 * p) (pc p) with
    | nil => rw [← pg_pdl, hq] at o; exact absurd rfl o
    | cons e R =>
      have hok := pg_okD hw I hq
      have hl := pg_okl hw I.1 hok
      have h24 := pg_ev24 hw hok.1
      have hA := pg_A3 hw e
      have hvl := pg_wrL hwk H e
      have b1 := M5 p 0 (by omega) (by omega)
      rw [hq] at b1
      have e1 : b_s ((15 : Int32) + (3 : Int32) * nI p).toNatClampNeg = nI (e + 32 * pg_wr g (pg_rd g H) e) := by rw [qa_i15, nI_clamp (by omega)]; exact b1
      have e4 : upd b_s ((12 : Int32) + nI p).toNatClampNeg (b_s ((12 : Int32) + nI p).toNatClampNeg - 1) = upd b_s (12 + p) (nI (pg_ov g H (8 * p) (pc p) - 1)) := by
        rw [eb, qa_i12, qa_u (by omega)]
        obtain ⟨b, hb⟩ : ∃ b, pg_ov g H (8 * p) (pc p) = b + 1 := ⟨pg_ov g H (8 * p) (pc p) - 1, by omega⟩
        rw [hb, nI_pred]; rfl
      refine ⟨pk_in (15 + 3 * p) 32 (by omega) (qa_i15 p), nm_r e1 ⟨i12, i12, nm_r e4 ⟨4, ?_⟩⟩⟩
      refine qy_dr56 P (b := pg_ov g H (8 * p) (pc p) - 1) (by omega) (by omega) h24 hvl hA hl pk_us (by rw [pk_un (by omega)]; exact M6) (fun S1 f1 f2 => ?_) (pg_ov g H (8 * p) (pc p) - 1) 4 0 _ (by omega) (by omega) (fun j hj => absurd hj (by omega)) (fun j _ => rfl)
      have Mn := qy_MD (p := p) (S1 := S1) hw I (by omega) hl hq M (fun k hk => by rw [f1 k (by omega), pk_un (by omega)]) (by rw [f2 _ (by omega), pk_us]) (fun j hj hne => by rw [f2 j hj, pk_un hne])
      have := hpost _ (by rw [pg_dp1 hq]; exact Mn) (fun z => absurd (by rw [pg_dp1 hq]) z)
      rw [pg_dp1 hq] at this
      exact this
end
end
section
/-! Y: outcome, judgeOrder, source, witness, replay -/
theorem pg_rdx {g : pg_T} : ∀ {Q T : List Nat}, (Q ++ T).Nodup → ∀ {x : Nat}, x ∈ T → pg_rd g (Q ++ T) x = pg_rd g T x
  | [], _, _, _, _ => rfl
  | e :: Q, T, hn, x, hx => by
    have hn' := List.nodup_cons.mp hn
    have hne : x ≠ e := fun z => hn'.1 (z ▸ List.mem_append_right _ hx)
    show pg_rd g (e :: (Q ++ T)) x = _
    rw [pg_rdn hne, pg_rdx hn'.2 hx]
theorem pg_rdsf {g : pg_T} {H : List Nat} (hn : H.Nodup) {k x : Nat} (hx : x ∈ qa_sf H k) : pg_rd g H x = pg_rd g (qa_sf H k) x := by
  obtain ⟨Q, e⟩ := qa_sfx H k
  have h2 : (Q ++ qa_sf H k).Nodup := e ▸ hn
  have := pg_rdx (g := g) h2 hx
  rw [← e] at this
  exact this
theorem pg_sox {g : pg_T} : ∀ {Q T : List Nat} {e : Nat}, (Q ++ e :: T).Nodup → pg_so g (Q ++ e :: T) e = pg_sr g (pg_rd g T) T e
  | [], _, _, _ => pg_so1
  | a :: Q, T, e, hn => by
    have hn' := List.nodup_cons.mp hn
    have hne : e ≠ a := fun z => hn'.1 (z ▸ List.mem_append_right _ List.mem_cons_self)
    show pg_so g (a :: (Q ++ e :: T)) e = _
    rw [pg_so2 hne, pg_sox hn'.2]
theorem pg_sosf {g : pg_T} {H : List Nat} (hn : H.Nodup) {k : Nat} (hk : k < H.length) : pg_so g H (qa_rg H k) = pg_sr g (pg_rd g (qa_sf H k)) (qa_sf H k) (qa_rg H k) := by
  obtain ⟨Q, e⟩ := qa_sfx H (k + 1)
  rw [qa_sfS hk] at e
  have h2 : (Q ++ qa_rg H k :: qa_sf H k).Nodup := e ▸ hn
  have := pg_sox (g := g) h2
  rw [← e] at this
  exact this
section
variable {k_procs k_cells k_deep k_orderN k_workN : Int32} {b_len b_kind b_opA b_opW b_s b_order b_made b_codes b_stack b_choice b_work b_rd : Nat → Int32}
variable {g : pg_T} {pc : Nat → Nat} {H : List Nat}
theorem qy_oc81 (hw : pg_wf g) {post : Int32 → Prop} (hm : ∀ a, a < 3 → b_s (9 + a) = nI (pg_mem g H a)) (hp : post (nI (pg_code g H))) : ∀ m n i, i + m = 3 → m < n → wY_outcome_81 post k_procs k_cells k_deep k_orderN k_workN b_len b_kind b_opA b_opW b_s b_order b_made b_codes b_stack b_choice b_work b_rd n (nI (pg_sm (pg_cf g H) (6 + i))) (nI i) := by
  intro m
  induction m with
  | zero =>
    intro n i hi hn
    obtain ⟨n, rfl⟩ : ∃ k, n = k + 1 := ⟨n - 1, by omega⟩
    obtain rfl : i = 3 := by omega
    exact br_t (by decide) hp
  | succ m ih =>
    intro n i hi hn
    obtain ⟨n, rfl⟩ : ∃ k, n = k + 1 := ⟨n - 1, by omega⟩
    have hl := pg_memL hw.2.2.2.2.2.2.2.2.1 H i
    have h := ih n (i + 1) (by omega) (by omega)
    have e1 : nI (pg_sm (pg_cf g H) (6 + i)) + (b_s ((9 : Int32) + nI i).toNatClampNeg <<< (((12 : Int32) + (2 : Int32) * nI i) &&& 31)) = nI (pg_sm (pg_cf g H) (6 + (i + 1))) := by
      rw [qa_i9, nI_clamp (by omega), hm i (by omega), qa_sm hl (by omega), ← pg_cfm (g := g) (H := H)]
      rfl
    exact br_f (nI_ge (b := 3) (by omega) (by decide)) ⟨pk_in (9 + i) 32 (by omega) (qa_i9 i), nm_r e1 (nm_r (nI_1 i) h)⟩
theorem qy_oc52 (hw : pg_wf g) {post : Int32 → Prop} (hr : ∀ p r, p < 3 → r < 2 → b_s (3 + 2 * p + r) = nI (pg_reg g H p r (pg_L g p))) (hm : ∀ a, a < 3 → b_s (9 + a) = nI (pg_mem g H a)) (hp : post (nI (pg_code g H))) : ∀ m n i, i + m = 6 → m < n → wY_outcome_52 post k_procs k_cells k_deep k_orderN k_workN b_len b_kind b_opA b_opW b_s b_order b_made b_codes b_stack b_choice b_work b_rd n (nI (pg_sm (pg_cf g H) i)) (nI i) := by
  intro m
  induction m with
  | zero =>
    intro n i hi hn
    obtain ⟨n, rfl⟩ : ∃ k, n = k + 1 := ⟨n - 1, by omega⟩
    obtain rfl : i = 6 := by omega
    exact br_t (by decide) ⟨4, qy_oc81 hw hm hp 3 4 0 (by omega) (by omega)⟩
  | succ m ih =>
    intro n i hi hn
    obtain ⟨n, rfl⟩ : ∃ k, n = k + 1 := ⟨n - 1, by omega⟩
    have hl := pg_regL hw.2.2.2.2.2.2.2.2.1 H (i / 2) (i % 2) (pg_L g (i / 2))
    have h := ih n (i + 1) (by omega) (by omega)
    have e3 : (3 : Int32) + nI i = nI (3 + i) := by rw [show (3 : Int32) = nI 3 from rfl, nI_add]
    have e0 : b_s (3 + i) = nI (pg_reg g H (i / 2) (i % 2) (pg_L g (i / 2))) := by
      have := hr (i / 2) (i % 2) (by omega) (by omega)
      rw [show 3 + 2 * (i / 2) + i % 2 = 3 + i by omega] at this; exact this
    have e1 : nI (pg_sm (pg_cf g H) i) + (b_s ((3 : Int32) + nI i).toNatClampNeg <<< (((2 : Int32) * nI i) &&& 31)) = nI (pg_sm (pg_cf g H) (i + 1)) := by
      rw [e3, nI_clamp (by omega), e0, qa_sr hl (by omega), ← pg_cfr (g := g) (H := H) (by omega)]
      rfl
    exact br_f (nI_ge (b := 6) (by omega) (by decide)) ⟨pk_in (3 + i) 32 (by omega) e3, nm_r e1 (nm_r (nI_1 i) h)⟩
theorem qy_outc (hw : pg_wf g) (P : qx_P g b_kind b_opA b_opW b_len) (I : pg_inv g pc H) (M : qy_Ms g pc H b_s) {post : Int32 → Prop}
    (h1 : (∀ p, p < pg_n g → pc p = pg_L g p ∧ pg_ov g H (8 * p) (pc p) = 0) → post (nI (pg_code g H))) (h0 : ¬ (∀ p, p < pg_n g → pc p = pg_L g p ∧ pg_ov g H (8 * p) (pc p) = 0) → post (-8)) : wpY_outcome post ((nI (pg_n g)), k_cells, k_deep, k_orderN, k_workN, b_len, b_kind, b_opA, b_opW, b_s, b_order, b_made, b_codes, b_stack, b_choice, b_work, b_rd) := by
  have hn3 := hw.2.1
  obtain ⟨M1, M2, M3, M4, M5, M6, M7⟩ := M
  refine ⟨pg_n g + 1, ?_⟩
  suffices ∀ m n i, i + m = pg_n g → m < n → (∀ p, p < i → pc p = pg_L g p ∧ pg_ov g H (8 * p) (pc p) = 0) → wY_outcome_4 post 0 (nI (pg_n g)) k_cells k_deep k_orderN k_workN b_len b_kind b_opA b_opW b_s b_order b_made b_codes b_stack b_choice b_work b_rd n (nI i) from this (pg_n g) (pg_n g + 1) 0 (by omega) (by omega) (fun p hp => absurd hp (by omega))
  intro m
  induction m with
  | zero =>
    intro n i hi hn hf
    obtain ⟨n, rfl⟩ : ∃ k, n = k + 1 := ⟨n - 1, by omega⟩
    obtain rfl : i = pg_n g := by omega
    have e := pg_pcL hw I hf
    exact br_t (nI_le (Nat.le_refl _) (by omega)) ⟨7, qy_oc52 hw (fun p r hp hr => by rw [← e]; exact M2 p r hp hr) M3 (h1 hf) 6 7 0 (by omega) (by omega)⟩
  | succ m ih =>
    intro n i hi hn hf
    obtain ⟨n, rfl⟩ : ∃ k, n = k + 1 := ⟨n - 1, by omega⟩
    have hpc := I.2.1 i
    have h5 := hw.2.2.2.2.2.1 i
    have hd := I.2.2.2.2.1 i
    have hd3 := hw.2.2.2.2.1
    have e0 : b_s ((0 : Int32) + nI i).toNatClampNeg = nI (pc i) := by rw [qa_i0, nI_clamp (by omega)]; exact M1 i (by omega)
    have e12 : b_s ((12 : Int32) + nI i).toNatClampNeg = nI (pg_ov g H (8 * i) (pc i)) := by rw [qa_i12, nI_clamp (by omega)]; exact M4 i (by omega)
    refine br_f (nI_ge (by omega) (by omega)) ⟨pk_in i 32 (by omega) (qa_i0 i), pk_in i 3 (by omega), pk_eq (pc i) (pg_L g i) (fun z => ⟨pk_in (12 + i) 32 (by omega) (qa_i12 i), pk_eq (pg_ov g H (8 * i) (pc i)) 0 (fun w => nm_r (nI_1 i) (ih n (i + 1) (by omega) (by omega) (fun p hp => ?_))) (fun w => h0 (fun y => w (y i (by omega)).2)) e12 rfl⟩) (fun z => h0 (fun y => z (y i (by omega)).1)) e0 (qa_ln P (by omega))⟩
    by_cases c : p = i
    · subst c; exact ⟨z, w⟩
    · exact hf p (by omega)
theorem qy_jo (hw : pg_wf g) (P : qx_P g b_kind b_opA b_opW b_len) (hn' : H.Nodup) (he : ∀ x, x ∈ H → pg_ev g x) (hA : qa_Ar H b_order) {post : Int32 → SY → Prop}
    (h8 : H.length < pg_N g → ∀ WK, qa_Ar H WK → post (-8) ((nI (pg_n g)), (nI (pg_c g)), (nI (pg_d g)), (nI H.length), (nI H.length), b_len, b_kind, b_opA, b_opW, b_s, b_order, b_made, b_codes, b_stack, b_choice, WK, b_rd))
    (h9 : pg_N g ≤ H.length → pg_ab g H → ∀ WK, qa_Ar H WK → post (-9) ((nI (pg_n g)), (nI (pg_c g)), (nI (pg_d g)), (nI H.length), (nI H.length), b_len, b_kind, b_opA, b_opW, b_s, b_order, b_made, b_codes, b_stack, b_choice, WK, b_rd))
    (h10 : pg_N g ≤ H.length → ¬ pg_ab g H → pg_ad g H → ∀ WK, qa_Ar H WK → post (-10) ((nI (pg_n g)), (nI (pg_c g)), (nI (pg_d g)), (nI H.length), (nI H.length), b_len, b_kind, b_opA, b_opW, b_s, b_order, b_made, b_codes, b_stack, b_choice, WK, b_rd))
    (hc : pg_cp g H → ∀ WK RD, qa_Ar H WK → (∀ x, x ∈ H → pg_R (pg_K g x) → RD x = nI (pg_rd g H x)) → post (nI (pg_code g H)) ((nI (pg_n g)), (nI (pg_c g)), (nI (pg_d g)), (nI H.length), (nI H.length), b_len, b_kind, b_opA, b_opW, b_s, b_order, b_made, b_codes, b_stack, b_choice, WK, RD)) :
    wpY_judgeOrder post ((nI (pg_n g)), (nI (pg_c g)), (nI (pg_d g)), (nI H.length), k_workN, b_len, b_kind, b_opA, b_opW, b_s, b_order, b_made, b_codes, b_stack, b_choice, b_work, b_rd) := by
  have hlN := pg_len hw hn' he
  have h6 : pg_N g ≤ 6 := hw.2.2.2.2.2.2.2.2.2
  refine ⟨H.length + 1, ?_⟩
  suffices ∀ m n k WK, k + m = H.length → m < n → (∀ i, i < k → WK i = nI (qa_rg H i)) → wY_judgeOrder_10 post (nI (pg_n g)) (nI (pg_c g)) (nI (pg_d g)) (nI H.length) (nI H.length) n (nI k) b_len b_kind b_opA b_opW b_s b_order b_made b_codes b_stack b_choice WK b_rd from this H.length (H.length + 1) 0 b_work (by omega) (by omega) (fun i hi => absurd hi (by omega))
  intro m
  induction m with
  | zero =>
    intro n k WK hk hn hs
    obtain ⟨n, rfl⟩ : ∃ k, n = k + 1 := ⟨n - 1, by omega⟩
    obtain rfl : k = H.length := by omega
    have hW := qa_Ari hs
    exact br_t (nI_le (Nat.le_refl _) (by omega)) (qy_verdict hw P hn' he hW (fun a => h8 a WK hW) (fun a b => h9 a b WK hW) (fun a b c => h10 a b c WK hW) (fun a RD b => hc a WK RD hW b))
  | succ m ih =>
    intro n k WK hk hn hs
    obtain ⟨n, rfl⟩ : ∃ k, n = k + 1 := ⟨n - 1, by omega⟩
    have e1 : upd WK (nI k).toNatClampNeg (b_order (nI k).toNatClampNeg) = upd WK k (nI (qa_rg H k)) := by rw [nI_clamp (by omega), qa_Arg hA (by omega)]
    refine br_f (nI_ge (by omega) (by omega)) ⟨pk_in k 6 (by omega), pk_in k 6 (by omega), nm_r e1 (nm_r (nI_1 k) (ih n (k + 1) _ (by omega) (by omega) (fun i hi => ?_)))⟩
    by_cases c : i = k
    · subst c; exact pk_us
    · rw [pk_un c]; exact hs i (by omega)
theorem qy_s14 (q : Nat) : qa_s14 q = if q = 0 then -14 else nI (q - 1) := by
  cases q with
  | zero => rfl
  | succ x => rw [if_neg (by omega)]; rfl
theorem qy_src58 (hw : pg_wf g) (P : qx_P g b_kind b_opA b_opW b_len) (hn' : H.Nodup) (he : ∀ x, x ∈ H → pg_ev g x) (hA : qa_Ar H b_order) {post : Int32 → SY → Prop} {e : Nat} (hev : pg_ev g e)
    (h8 : H.length < pg_N g → ∀ WK, post (-8) ((nI (pg_n g)), (nI (pg_c g)), (nI (pg_d g)), (nI H.length), (nI H.length), b_len, b_kind, b_opA, b_opW, b_s, b_order, b_made, b_codes, b_stack, b_choice, WK, b_rd))
    (h9 : pg_N g ≤ H.length → pg_ab g H → ∀ WK, post (-9) ((nI (pg_n g)), (nI (pg_c g)), (nI (pg_d g)), (nI H.length), (nI H.length), b_len, b_kind, b_opA, b_opW, b_s, b_order, b_made, b_codes, b_stack, b_choice, WK, b_rd))
    (h10 : pg_N g ≤ H.length → ¬ pg_ab g H → pg_ad g H → ∀ WK, post (-10) ((nI (pg_n g)), (nI (pg_c g)), (nI (pg_d g)), (nI H.length), (nI H.length), b_len, b_kind, b_opA, b_opW, b_s, b_order, b_made, b_codes, b_stack, b_choice, WK, b_rd))
    (hc : pg_cp g H → ∀ WK RD, post (if pg_so g H e = 0 then -14 else nI (pg_so g H e - 1)) ((nI (pg_n g)), (nI (pg_c g)), (nI (pg_d g)), (nI H.length), (nI H.length), b_len, b_kind, b_opA, b_opW, b_s, b_order, b_made, b_codes, b_stack, b_choice, WK, RD)) :
    wY_source_58 post (nI e) (nI (pg_n g)) (nI (pg_c g)) (nI (pg_d g)) (nI H.length) k_workN b_len b_kind b_opA b_opW b_s b_order b_made b_codes b_stack b_choice b_work b_rd := by
  have h24 := pg_ev24 hw hev
  unfold wY_source_58
  refine qy_jo hw P hn' he hA (fun a WK _ => br_f (by decide) (h8 a WK)) (fun a b WK _ => br_f (by decide) (h9 a b WK)) (fun a b c WK _ => br_f (by decide) (h10 a b c WK)) (fun hcp WK RD hW hRD => ?_)
  have hcl := pg_codeL hw H
  have hl : H.length ≤ 6 := by rw [hcp.2]; exact hw.2.2.2.2.2.2.2.2.2
  obtain ⟨k0, k1, k2⟩ := qa_mem (pg_cpa hw hcp hev)
  refine br_t (nI_pos' (by omega)) ⟨H.length + 1, ?_⟩
  suffices ∀ m n k at_, k + m = H.length → m < n → (k0 < k → at_ = k0) → wY_source_78 post (nI e) (nI (pg_n g)) (nI (pg_c g)) (nI (pg_d g)) (nI H.length) (nI H.length) b_len b_kind b_opA b_opW b_s b_order b_made b_codes b_stack b_choice WK RD n (nI at_) (nI k) from this H.length (H.length + 1) 0 0 (by omega) (by omega) (fun z => absurd z (by omega))
  intro m
  induction m with
  | zero =>
    intro n k at_ hk hn hat
    obtain ⟨n, rfl⟩ : ∃ k, n = k + 1 := ⟨n - 1, by omega⟩
    obtain rfl : k = H.length := by omega
    obtain rfl := hat k1
    refine br_t (nI_le (Nat.le_refl _) (by omega)) (qy_so hw P hcp hW k1 (pg_rdl hw.2.2.2.2.2.2.2.2.1 (qa_sf H at_)) (fun x hx hr => ?_) ?_)
    · rw [hRD x ((qa_sfx H at_).elim (fun Q e' => e' ▸ List.mem_append_right _ hx)) hr, pg_rdsf hn' hx]
    · rw [← pg_sosf hn' k1, k2, qy_s14]
      exact hc hcp WK RD
  | succ m ih =>
    intro n k at_ hk hn hat
    obtain ⟨n, rfl⟩ : ∃ k, n = k + 1 := ⟨n - 1, by omega⟩
    have e1 : WK (nI k).toNatClampNeg = nI (qa_rg H k) := by rw [nI_clamp (by omega)]; exact qa_Arg hW (by omega)
    have hx24 := pg_ev24 hw (he _ (qa_rgm (H := H) (i := k) (by omega)))
    refine br_f (nI_ge (by omega) (by omega)) ⟨pk_in k 6 (by omega), pk_eq (qa_rg H k) e (fun z => nm_r (nI_1 k) (ih n (k + 1) k (by omega) (by omega) (fun _ => ?_))) (fun z => nm_r (nI_1 k) (ih n (k + 1) at_ (by omega) (by omega) (fun y => ?_))) e1 rfl⟩
    · exact qa_inj hn' (by omega) k1 (by rw [z, k2])
    · by_cases w : k0 = k
      · subst w; exact absurd k2 z
      · exact hat (by omega)
end
section
variable {k_procs k_cells k_deep k_orderN k_workN : Int32} {b_len b_kind b_opA b_opW b_s b_order b_made b_codes b_stack b_choice b_work b_rd : Nat → Int32}
variable {g : pg_T}
theorem qy_wi47 {T : List Nat} (hT : T.length ≤ 6) (hS : qa_Ar T b_work) {post : Int32 → SY → Prop} (hp : ∀ OR, qa_Ar T OR → post 0 (k_procs, k_cells, k_deep, k_orderN, (nI T.length), b_len, b_kind, b_opA, b_opW, b_s, OR, b_made, b_codes, b_stack, b_choice, b_work, b_rd)) :
    ∀ m n k OR, k + m = T.length → m < n → (∀ i, i < k → OR i = nI (qa_rg T i)) → wY_witness_47 post k_procs k_cells k_deep k_orderN (nI T.length) n (nI k) b_len b_kind b_opA b_opW b_s OR b_made b_codes b_stack b_choice b_work b_rd := by
  intro m
  induction m with
  | zero =>
    intro n k OR hk hn hs
    obtain ⟨n, rfl⟩ : ∃ k, n = k + 1 := ⟨n - 1, by omega⟩
    obtain rfl : k = T.length := by omega
    exact br_t (nI_le (Nat.le_refl _) (by omega)) (hp OR (qa_Ari hs))
  | succ m ih =>
    intro n k OR hk hn hs
    obtain ⟨n, rfl⟩ : ∃ k, n = k + 1 := ⟨n - 1, by omega⟩
    have e1 : upd OR (nI k).toNatClampNeg (b_work (nI k).toNatClampNeg) = upd OR k (nI (qa_rg T k)) := by rw [nI_clamp (by omega), qa_Arg hS (by omega)]
    refine br_f (nI_ge (by omega) (by omega)) ⟨pk_in k 6 (by omega), pk_in k 6 (by omega), nm_r e1 (nm_r (nI_1 k) (ih n (k + 1) _ (by omega) (by omega) (fun i hi => ?_)))⟩
    by_cases c : i = k
    · subst c; exact pk_us
    · rw [pk_un c]; exact hs i (by omega)
theorem qy_wi8 (hw : pg_wf g) (P : qx_P g b_kind b_opA b_opW b_len) {w : Int32} {post : Int32 → SY → Prop}
    (hEnd : (∀ O, pg_cp g O → nI (pg_code g O) ≠ w) → ∀ WK RD, post (-11) ((nI (pg_n g)), (nI (pg_c g)), (nI (pg_d g)), k_orderN, (nI (pg_N g)), b_len, b_kind, b_opA, b_opW, b_s, b_order, b_made, b_codes, b_stack, b_choice, WK, RD))
    (hF : ∀ T, pg_cp g T → nI (pg_code g T) = w → (∀ O, pg_cp g O → pg_lx O T → nI (pg_code g O) ≠ w) → ∀ WK RD OR, qa_Ar T OR → post 0 ((nI (pg_n g)), (nI (pg_c g)), (nI (pg_d g)), (nI T.length), (nI (pg_N g)), b_len, b_kind, b_opA, b_opW, b_s, OR, b_made, b_codes, b_stack, b_choice, WK, RD)) :
    ∀ m f t H WK RD, pg_rk g H < m → m < f → t + pg_rk g H + 1 ≤ 720 → pg_pm g H → qa_Ar H WK → (∀ O, pg_cp g O → pg_lx O H → nI (pg_code g O) ≠ w) → wY_witness_8 post w f 1 (nI t) (nI (pg_n g)) (nI (pg_c g)) (nI (pg_d g)) k_orderN (nI (pg_N g)) b_len b_kind b_opA b_opW b_s b_order b_made b_codes b_stack b_choice WK RD := by
  intro m
  induction m with
  | zero => intro f t H WK RD h; omega
  | succ m ih =>
    intro f t H WK RD hm hf ht hH hwk hG
    obtain ⟨f, rfl⟩ : ∃ k, f = k + 1 := ⟨f - 1, by omega⟩
    have hlen : pg_N g = H.length := hH.2.2.symm
    have hl6 : H.length ≤ 6 := by rw [← hlen]; exact hw.2.2.2.2.2.2.2.2.2
    have go : ∀ RD, (∀ O, pg_cp g O → O = H → nI (pg_code g O) ≠ w) → wY_witness_78 post (wY_witness_8 post w f) w (nI t) (nI (pg_n g)) (nI (pg_c g)) (nI (pg_d g)) k_orderN (nI (pg_N g)) b_len b_kind b_opA b_opW b_s b_order b_made b_codes b_stack b_choice WK RD := by
      intro RD hno
      unfold wY_witness_78
      rw [hlen]
      refine qy_next hw hH hwk (fun hall => nm_r (nI_1 t) ?_) (fun H' WK' hH' hlx hsc hA => nm_r (nI_1 t) ?_)
      · rw [← hlen]
        obtain ⟨f, rfl⟩ : ∃ k, f = k + 1 := ⟨f - 1, by omega⟩
        have hall' : ∀ O, pg_cp g O → nI (pg_code g O) ≠ w := by
          intro O ho
          rcases hall O (pg_cpp ho) with z | z
          · exact hG O ho z
          · exact hno O ho z
        exact br_c (fun _ => hEnd hall' WK RD) (fun _ => br_t rfl (hEnd hall' WK RD))
      · rw [← hlen]
        have hr := pg_rkS hw hH hH' hlx
        refine ih f (t + 1) H' WK' RD (by omega) (by omega) (by omega) hH' hA (fun O ho hl' => ?_)
        rcases hsc O (pg_cpp ho) hl' with z | z
        · exact hG O ho z
        · exact hno O ho z
    refine br_f (nI_ge (b := 720) (by omega) (by decide)) (br_f qa_10 ?_)
    have key : wpY_verdict (fun r_21 u => match u with | (k_procs, k_cells, k_deep, k_orderN, k_workN, b_len, b_kind, b_opA, b_opW, b_s, b_order, b_made, b_codes, b_stack, b_choice, b_work, b_rd) => (((r_21 < 0 → (wY_witness_78 post (wY_witness_8 post w f) w (nI t) k_procs k_cells k_deep k_orderN k_workN b_len b_kind b_opA b_opW b_s b_order b_made b_codes b_stack b_choice b_work b_rd)) ∧ (¬ r_21 < 0 → (((r_21 = w → (∃ n47 : Nat, wY_witness_47 post k_procs k_cells k_deep k_workN k_workN n47 0 b_len b_kind b_opA b_opW b_s b_order b_made b_codes b_stack b_choice b_work b_rd)) ∧ (¬ r_21 = w → (wY_witness_78 post (wY_witness_8 post w f) w (nI t) k_procs k_cells k_deep k_orderN k_workN b_len b_kind b_opA b_opW b_s b_order b_made b_codes b_stack b_choice b_work b_rd)))))))) ((nI (pg_n g)), (nI (pg_c g)), (nI (pg_d g)), k_orderN, (nI H.length), b_len, b_kind, b_opA, b_opW, b_s, b_order, b_made, b_codes, b_stack, b_choice, WK, RD) := by
      refine qy_verdict hw P hH.1 hH.2.1 hwk (fun a => by omega) (fun _ a => br_t (by decide) ?_) (fun _ _ a => br_t (by decide) ?_) (fun hcp RD' hRD => br_f (nI_pos (by have := pg_codeL hw H; omega)) (br_c (fun z => ⟨H.length + 1, ?_⟩) (fun z => ?_)))
      · rw [← hlen]; exact go RD (fun O ho e => by rw [e] at ho; exact absurd a (pg_abv ho.1).1)
      · rw [← hlen]; exact go RD (fun O ho e => by rw [e] at ho; exact absurd a (pg_abv ho.1).2)
      · refine qy_wi47 hl6 hwk (fun OR hOR => ?_) H.length (H.length + 1) 0 _ (by omega) (by omega) (fun i hi => absurd hi (by omega))
        have := hF H hcp z hG WK RD' OR hOR
        rw [hlen] at this
        exact this
      · rw [← hlen]; exact go RD' (fun O ho e => by rw [e]; exact z)
    rw [← hlen] at key
    exact key
theorem qy_witness (hw : pg_wf g) (P : qx_P g b_kind b_opA b_opW b_len) {w : Int32} {post : Int32 → SY → Prop}
    (hEnd : (∀ O, pg_cp g O → nI (pg_code g O) ≠ w) → ∀ WK RD, post (-11) ((nI (pg_n g)), (nI (pg_c g)), (nI (pg_d g)), k_orderN, (nI (pg_N g)), b_len, b_kind, b_opA, b_opW, b_s, b_order, b_made, b_codes, b_stack, b_choice, WK, RD))
    (hF : ∀ T, pg_cp g T → nI (pg_code g T) = w → (∀ O, pg_cp g O → pg_lx O T → nI (pg_code g O) ≠ w) → ∀ WK RD OR, qa_Ar T OR → post 0 ((nI (pg_n g)), (nI (pg_c g)), (nI (pg_d g)), (nI T.length), (nI (pg_N g)), b_len, b_kind, b_opA, b_opW, b_s, OR, b_made, b_codes, b_stack, b_choice, WK, RD)) :
    wpY_witness post ((nI (pg_n g)), (nI (pg_c g)), (nI (pg_d g)), k_orderN, k_workN, b_len, b_kind, b_opA, b_opW, b_s, b_order, b_made, b_codes, b_stack, b_choice, b_work, b_rd) w := by
  unfold wpY_witness
  refine qy_first hw P (fun WK hA => ⟨722, ?_⟩)
  have hr := pg_rk720 hw (pg_pm0 (g := g))
  exact qy_wi8 hw P hEnd hF 721 722 0 (pg_es g 24) WK b_rd (by omega) (by omega) (by omega) pg_pm0 hA (fun O ho hd => absurd hd (pg_first hw (pg_cpp ho)))
end
end
section
/-! Y: replay -/
theorem pg_smd {f : Nat → Nat} (hf : ∀ i, f i < 4) : ∀ i, i < 9 → pg_sm f 9 / 4 ^ i % 4 = f i := by
  intro i hi
  have h0 := hf 0
  have h1 := hf 1
  have h2 := hf 2
  have h3 := hf 3
  have h4 := hf 4
  have h5 := hf 5
  have h6 := hf 6
  have h7 := hf 7
  have h8 := hf 8
  have e : pg_sm f 9 = f 0 + f 1 * 4 + f 2 * 16 + f 3 * 64 + f 4 * 256 + f 5 * 1024 + f 6 * 4096 + f 7 * 16384 + f 8 * 65536 := by
    simp [pg_sm]
  rw [e]
  rcases (show i = 0 ∨ i = 1 ∨ i = 2 ∨ i = 3 ∨ i = 4 ∨ i = 5 ∨ i = 6 ∨ i = 7 ∨ i = 8 by omega) with h | h | h | h | h | h | h | h | h <;> subst h
  · have : (4 : Nat) ^ 0 = 1 := by decide
    rw [this]
    omega
  · have : (4 : Nat) ^ 1 = 4 := by decide
    rw [this]
    omega
  · have : (4 : Nat) ^ 2 = 16 := by decide
    rw [this]
    omega
  · have : (4 : Nat) ^ 3 = 64 := by decide
    rw [this]
    omega
  · have : (4 : Nat) ^ 4 = 256 := by decide
    rw [this]
    omega
  · have : (4 : Nat) ^ 5 = 1024 := by decide
    rw [this]
    omega
  · have : (4 : Nat) ^ 6 = 4096 := by decide
    rw [this]
    omega
  · have : (4 : Nat) ^ 7 = 16384 := by decide
    rw [this]
    omega
  · have : (4 : Nat) ^ 8 = 65536 := by decide
    rw [this]
    omega
theorem qa_bits {c : Nat} (hc : c < 2 ^ 31) {i : Nat} (hi : i < 9) : (nI c >>> (nI (2 * i) &&& 31)) &&& 3 = nI (c / 4 ^ i % 4) := by
  have e : 4 ^ i = 2 ^ (2 * i) := by rw [Nat.pow_mul]
  have h2 : c / 2 ^ (2 * i) ≤ c := Nat.div_le_self _ _
  rw [pk_shrN hc (nI (2 * i) &&& 31) (2 * i) (s_l (2 * i) (by omega)), pk_andN (by omega) 2 (by decide), e]
section
variable {k_procs k_cells k_deep k_orderN k_workN : Int32} {b_len b_kind b_opA b_opW b_s b_order b_made b_codes b_stack b_choice b_work b_rd : Nat → Int32}
variable {g : pg_T} {H : List Nat}
theorem qy_re108 {x : Int32} (hH : H.length ≤ 6) (hA : qa_Ar H b_order) {S0 : Nat → Int32} {post : Int32 → SY → Prop} (hp : ∀ S, (∀ j, j < 24 → S j = S0 j) → S 24 = nI H.length → (∀ i, i < H.length → S (25 + i) = nI (qa_rg H i)) → post x (k_procs, k_cells, k_deep, (nI H.length), k_workN, b_len, b_kind, b_opA, b_opW, S, b_order, b_made, b_codes, b_stack, b_choice, b_work, b_rd)) :
    ∀ m n k S, k + m = H.length → m < n → (∀ j, j < 24 → S j = S0 j) → S 24 = nI k → (∀ i, i < k → S (25 + i) = nI (qa_rg H i)) → wY_replay_108 post x n (nI k) k_procs k_cells k_deep (nI H.length) k_workN b_len b_kind b_opA b_opW S b_order b_made b_codes b_stack b_choice b_work b_rd := by
  intro m
  induction m with
  | zero =>
    intro n k S hk hn h1 h2 h3
    obtain ⟨n, rfl⟩ : ∃ k, n = k + 1 := ⟨n - 1, by omega⟩
    obtain rfl : k = H.length := by omega
    exact br_t (nI_le (Nat.le_refl _) (by omega)) (hp S h1 h2 h3)
  | succ m ih =>
    intro n k S hk hn h1 h2 h3
    obtain ⟨n, rfl⟩ : ∃ k, n = k + 1 := ⟨n - 1, by omega⟩
    have e1 : b_order (nI k).toNatClampNeg = nI (qa_rg H k) := by rw [nI_clamp (by omega)]; exact qa_Arg hA (by omega)
    refine br_f (nI_ge (by omega) (by omega)) ⟨pk_in k 6 (by omega), ?_⟩
    rw [e1]
    refine qy_log (n := k) (by omega) h2 (nm_r (nI_1 k) (ih n (k + 1) _ (by omega) (by omega) (fun j hj => ?_) pk_us (fun i hi => ?_)))
    · rw [pk_un (by omega), pk_un (by omega)]; exact h1 j hj
    · rw [pk_un (by omega)]
      by_cases c : i = k
      · subst c; exact pk_us
      · rw [pk_un (by omega)]; exact h3 i (by omega)
theorem qy_re76 {c : Nat} (hc : c < 2 ^ 31) (hH : H.length ≤ 6) (hA : qa_Ar H b_order) {S0 : Nat → Int32} {post : Int32 → SY → Prop} (hp : ∀ S, (∀ j, j < 9 → S j = S0 j) → (∀ a, a < 3 → S (9 + a) = nI (c / 4 ^ (6 + a) % 4)) → (∀ j, 12 ≤ j → j < 24 → S j = 0) → S 24 = nI H.length → (∀ i, i < H.length → S (25 + i) = nI (qa_rg H i)) → post (nI c) (k_procs, k_cells, k_deep, (nI H.length), k_workN, b_len, b_kind, b_opA, b_opW, S, b_order, b_made, b_codes, b_stack, b_choice, b_work, b_rd)) :
    ∀ m n k S, k + m = 3 → m < n → (∀ j, j < 9 → S j = S0 j) → (∀ a, a < k → S (9 + a) = nI (c / 4 ^ (6 + a) % 4)) → (∀ j, 12 ≤ j → j < 32 → S j = 0) → wY_replay_76 post (nI c) k_procs k_cells k_deep (nI H.length) k_workN n (nI k) b_len b_kind b_opA b_opW S b_order b_made b_codes b_stack b_choice b_work b_rd := by
  intro m
  induction m with
  | zero =>
    intro n k S hk hn h1 h2 h3
    obtain ⟨n, rfl⟩ : ∃ k, n = k + 1 := ⟨n - 1, by omega⟩
    obtain rfl : k = 3 := by omega
    exact br_t (by decide) ⟨H.length + 1, qy_re108 hH hA (S0 := S) (fun S' a b d => hp S' (fun j hj => by rw [a j (by omega)]; exact h1 j hj) (fun t ht => by rw [a _ (by omega)]; exact h2 t ht) (fun j j1 j2 => by rw [a j j2]; exact h3 j j1 (by omega)) b d) H.length (H.length + 1) 0 S (by omega) (by omega) (fun _ _ => rfl) (h3 24 (by omega) (by omega)) (fun i hi => absurd hi (by omega))⟩
  | succ m ih =>
    intro n k S hk hn h1 h2 h3
    obtain ⟨n, rfl⟩ : ∃ k, n = k + 1 := ⟨n - 1, by omega⟩
    have e1 : upd S ((9 : Int32) + nI k).toNatClampNeg ((nI c >>> (((12 : Int32) + (2 : Int32) * nI k) &&& 31)) &&& 3) = upd S (9 + k) (nI (c / 4 ^ (6 + k) % 4)) := by
      rw [qa_i9, qa_u (by omega), qa_2p, qa_i12, show 12 + 2 * k = 2 * (6 + k) by omega, qa_bits hc (by omega)]
    refine br_f (nI_ge (b := 3) (by omega) (by decide)) ⟨pk_in (9 + k) 32 (by omega) (qa_i9 k), nm_r e1 (nm_r (nI_1 k) (ih n (k + 1) _ (by omega) (by omega) (fun j hj => ?_) (fun a ha => ?_) (fun j j1 j2 => ?_)))⟩
    · rw [pk_un (by omega)]; exact h1 j hj
    · by_cases z : a = k
      · subst z; exact pk_us
      · rw [pk_un (by omega)]; exact h2 a (by omega)
    · rw [pk_un (by omega)]; exact h3 j j1 j2
theorem qy_re47 {c : Nat} (hc : c < 2 ^ 31) (hH : H.length ≤ 6) (hA : qa_Ar H b_order) {S0 : Nat → Int32} {post : Int32 → SY → Prop} (hp : ∀ S, (∀ j, j < 3 → S j = S0 j) → (∀ i, i < 9 → S (3 + i) = nI (c / 4 ^ i % 4)) → (∀ j, 12 ≤ j → j < 24 → S j = 0) → S 24 = nI H.length → (∀ i, i < H.length → S (25 + i) = nI (qa_rg H i)) → post (nI c) (k_procs, k_cells, k_deep, (nI H.length), k_workN, b_len, b_kind, b_opA, b_opW, S, b_order, b_made, b_codes, b_stack, b_choice, b_work, b_rd)) :
    ∀ m n k S, k + m = 6 → m < n → (∀ j, j < 3 → S j = S0 j) → (∀ i, i < k → S (3 + i) = nI (c / 4 ^ i % 4)) → (∀ j, 9 ≤ j → j < 32 → S j = 0) → wY_replay_47 post (nI c) k_procs k_cells k_deep (nI H.length) k_workN n (nI k) b_len b_kind b_opA b_opW S b_order b_made b_codes b_stack b_choice b_work b_rd := by
  intro m
  induction m with
  | zero =>
    intro n k S hk hn h1 h2 h3
    obtain ⟨n, rfl⟩ : ∃ k, n = k + 1 := ⟨n - 1, by omega⟩
    obtain rfl : k = 6 := by omega
    refine br_t (by decide) ⟨4, qy_re76 hc hH hA (S0 := S) (fun S' a b d e f => hp S' (fun j hj => by rw [a j (by omega)]; exact h1 j hj) (fun i hi => ?_) d e f) 3 4 0 S (by omega) (by omega) (fun _ _ => rfl) (fun i hi => absurd hi (by omega)) (fun j j1 j2 => h3 j (by omega) j2)⟩
    by_cases z : i < 6
    · rw [a _ (by omega)]; exact h2 i z
    · obtain ⟨t, rfl⟩ : ∃ t, i = 6 + t := ⟨i - 6, by omega⟩
      rw [show 3 + (6 + t) = 9 + t by omega]; exact b t (by omega)
  | succ m ih =>
    intro n k S hk hn h1 h2 h3
    obtain ⟨n, rfl⟩ : ∃ k, n = k + 1 := ⟨n - 1, by omega⟩
    have e3 : (3 : Int32) + nI k = nI (3 + k) := by rw [show (3 : Int32) = nI 3 from rfl, nI_add]
    have e1 : upd S ((3 : Int32) + nI k).toNatClampNeg ((nI c >>> (((2 : Int32) * nI k) &&& 31)) &&& 3) = upd S (3 + k) (nI (c / 4 ^ k % 4)) := by
      rw [e3, qa_u (by omega), qa_2p, qa_bits hc (by omega)]
    refine br_f (nI_ge (b := 6) (by omega) (by decide)) ⟨pk_in (3 + k) 32 (by omega) e3, nm_r e1 (nm_r (nI_1 k) (ih n (k + 1) _ (by omega) (by omega) (fun j hj => ?_) (fun a ha => ?_) (fun j j1 j2 => ?_)))⟩
    · rw [pk_un (by omega)]; exact h1 j hj
    · by_cases z : a = k
      · subst z; exact pk_us
      · rw [pk_un (by omega)]; exact h2 a (by omega)
    · rw [pk_un (by omega)]; exact h3 j j1 j2
theorem qy_re17 (hw : pg_wf g) (P : qx_P g b_kind b_opA b_opW b_len) {c : Nat} (hc : c < 2 ^ 31) (hH : H.length ≤ 6) (hA : qa_Ar H b_order) {post : Int32 → SY → Prop} (hp : ∀ S, (∀ p, p < 3 → S p = nI (pg_L g p)) → (∀ i, i < 9 → S (3 + i) = nI (c / 4 ^ i % 4)) → (∀ j, 12 ≤ j → j < 24 → S j = 0) → S 24 = nI H.length → (∀ i, i < H.length → S (25 + i) = nI (qa_rg H i)) → post (nI c) ((nI (pg_n g)), k_cells, k_deep, (nI H.length), k_workN, b_len, b_kind, b_opA, b_opW, S, b_order, b_made, b_codes, b_stack, b_choice, b_work, b_rd)) :
    ∀ m n k S, k + m = pg_n g → m < n → (∀ p, p < k → S p = nI (pg_L g p)) → (∀ j, k ≤ j → j < 32 → S j = 0) → wY_replay_17 post (nI c) (nI (pg_n g)) k_cells k_deep (nI H.length) k_workN n (nI k) b_len b_kind b_opA b_opW S b_order b_made b_codes b_stack b_choice b_work b_rd := by
  have hn3 := hw.2.1
  intro m
  induction m with
  | zero =>
    intro n k S hk hn h1 h2
    obtain ⟨n, rfl⟩ : ∃ k, n = k + 1 := ⟨n - 1, by omega⟩
    obtain rfl : k = pg_n g := by omega
    refine br_t (nI_le (Nat.le_refl _) (by omega)) ⟨7, qy_re47 hc hH hA (S0 := S) (fun S' a b d e f => hp S' (fun p hp' => ?_) b d e f) 6 7 0 S (by omega) (by omega) (fun _ _ => rfl) (fun i hi => absurd hi (by omega)) (fun j j1 j2 => h2 j (by omega) j2)⟩
    rw [a p hp']
    by_cases z : p < pg_n g
    · exact h1 p z
    · rw [h2 p (by omega) (by omega), hw.2.2.2.2.2.2.1 p (by omega)]; rfl
  | succ m ih =>
    intro n k S hk hn h1 h2
    obtain ⟨n, rfl⟩ : ∃ k, n = k + 1 := ⟨n - 1, by omega⟩
    have e1 : upd S ((0 : Int32) + nI k).toNatClampNeg (b_len (nI k).toNatClampNeg) = upd S k (nI (pg_L g k)) := by rw [qa_ln P (by omega), qa_i0, qa_u (by omega)]
    refine br_f (nI_ge (by omega) (by omega)) ⟨pk_in k 3 (by omega), pk_in k 32 (by omega) (qa_i0 k), nm_r e1 (nm_r (nI_1 k) (ih n (k + 1) _ (by omega) (by omega) (fun p hp' => ?_) (fun j j1 j2 => ?_)))⟩
    · by_cases z : p = k
      · subst z; exact pk_us
      · rw [pk_un z]; exact h1 p (by omega)
    · rw [pk_un (by omega)]; exact h2 j (by omega) j2
theorem qy_replay (hw : pg_wf g) (P : qx_P g b_kind b_opA b_opW b_len) (hn' : H.Nodup) (he : ∀ x, x ∈ H → pg_ev g x) (hA : qa_Ar H b_order) {post : Int32 → SY → Prop}
    (h8 : H.length < pg_N g → ∀ WK, post (-8) ((nI (pg_n g)), (nI (pg_c g)), (nI (pg_d g)), (nI H.length), (nI H.length), b_len, b_kind, b_opA, b_opW, b_s, b_order, b_made, b_codes, b_stack, b_choice, WK, b_rd))
    (h9 : pg_N g ≤ H.length → pg_ab g H → ∀ WK, post (-9) ((nI (pg_n g)), (nI (pg_c g)), (nI (pg_d g)), (nI H.length), (nI H.length), b_len, b_kind, b_opA, b_opW, b_s, b_order, b_made, b_codes, b_stack, b_choice, WK, b_rd))
    (h10 : pg_N g ≤ H.length → ¬ pg_ab g H → pg_ad g H → ∀ WK, post (-10) ((nI (pg_n g)), (nI (pg_c g)), (nI (pg_d g)), (nI H.length), (nI H.length), b_len, b_kind, b_opA, b_opW, b_s, b_order, b_made, b_codes, b_stack, b_choice, WK, b_rd))
    (hc : pg_cp g H → ∀ WK RD S, qy_Ms g (pg_L g) H S → post (nI (pg_code g H)) ((nI (pg_n g)), (nI (pg_c g)), (nI (pg_d g)), (nI H.length), (nI H.length), b_len, b_kind, b_opA, b_opW, S, b_order, b_made, b_codes, b_stack, b_choice, WK, RD)) :
    wpY_replay post ((nI (pg_n g)), (nI (pg_c g)), (nI (pg_d g)), (nI H.length), k_workN, b_len, b_kind, b_opA, b_opW, b_s, b_order, b_made, b_codes, b_stack, b_choice, b_work, b_rd) := by
  unfold wpY_replay
  refine qy_jo hw P hn' he hA (fun a WK _ => br_f (by decide) (h8 a WK)) (fun a b WK _ => br_f (by decide) (h9 a b WK)) (fun a b c WK _ => br_f (by decide) (h10 a b c WK)) (fun hcp WK RD hW hRD => ?_)
  have hcl := pg_codeL hw H
  have hl : H.length ≤ 6 := by rw [hcp.2]; exact hw.2.2.2.2.2.2.2.2.2
  have hfl := pg_cfL hw.2.2.2.2.2.2.2.2.1 H
  refine br_t (nI_pos' (by omega)) (qy_restart (fun S0 hS0 => ⟨pg_n g + 1, ?_⟩))
  refine qy_re17 hw P (by omega) hl hA (fun S a b d e f => hc hcp WK RD S ⟨a, fun p r hp hr => ?_, fun t ht => ?_, fun p hp => ?_, fun p k hp hk => ?_, e, f⟩) (pg_n g) (pg_n g + 1) 0 S0 (by omega) (by omega) (fun p hp => absurd hp (by omega)) (fun j _ j2 => hS0 j j2)
  · rw [show 3 + 2 * p + r = 3 + (2 * p + r) by omega, b _ (by omega)]
    unfold pg_code
    rw [pg_smd hfl _ (by omega), pg_cfr (by omega), show (2 * p + r) / 2 = p by omega, show (2 * p + r) % 2 = r by omega]
  · have := b (6 + t) (by omega)
    rw [show 3 + (6 + t) = 9 + t by omega] at this
    rw [this]
    unfold pg_code
    rw [pg_smd hfl _ (by omega), pg_cfm]
  · rw [d _ (by omega) (by omega), pg_cpo hw hcp]; rfl
  · rw [pg_cpo hw hcp] at hk; exact absurd hk (Nat.not_lt_zero _)
end
end
section
/-! the count of moves -/
def pg_cm (g : pg_T) (p : Nat) : Nat → Nat
  | 0 => 0
  | j + 1 => if pg_M (pg_K g (8 * p + j)) then pg_cm g p j + 1 else pg_cm g p j
theorem pg_cmT {g : pg_T} {p j : Nat} (h : pg_M (pg_K g (8 * p + j))) : pg_cm g p (j + 1) = pg_cm g p j + 1 := by simp only [pg_cm]; exact if_pos h
theorem pg_cmF {g : pg_T} {p j : Nat} (h : ¬ pg_M (pg_K g (8 * p + j))) : pg_cm g p (j + 1) = pg_cm g p j := by simp only [pg_cm]; exact if_neg h
theorem pg_cmm {g : pg_T} {p i : Nat} : ∀ {d : Nat}, pg_cm g p i ≤ pg_cm g p (i + d) ∧ pg_cm g p (i + d) ≤ pg_cm g p i + d
  | 0 => ⟨Nat.le_refl _, Nat.le_refl _⟩
  | d + 1 => by
    have ih := pg_cmm (g := g) (p := p) (i := i) (d := d)
    rw [← Nat.add_assoc]
    simp only [pg_cm]
    split <;> omega
theorem pg_cml {g : pg_T} {p i j : Nat} (h : i ≤ j) : pg_cm g p i ≤ pg_cm g p j ∧ pg_cm g p j ≤ pg_cm g p i + (j - i) := by
  have := pg_cmm (g := g) (p := p) (i := i) (d := j - i)
  rw [show i + (j - i) = j by omega] at this
  exact this
def pg_us (g : pg_T) (pc : Nat → Nat) (p : Nat) : Nat := pg_cm g p (pg_L g p) - pg_cm g p (pc p)
def pg_qu (g : pg_T) (pc : Nat → Nat) (p : Nat) : Nat := pg_L g p - pc p - pg_us g pc p
def pg_s3 (f : Nat → Nat) : Nat := f 0 + f 1 + f 2
def pg_sS (g : pg_T) (pc : Nat → Nat) : Nat := pg_s3 (pg_us g pc)
def pg_sQ (g : pg_T) (pc : Nat → Nat) : Nat := pg_s3 (pg_qu g pc)
def pg_sB (g : pg_T) (pc : Nat → Nat) (H : List Nat) : Nat := pg_s3 (fun p => pg_ov g H (8 * p) (pc p))
def pg_gr (pv : Nat → Nat) (m : Nat) : Nat → Nat
  | 0 => 1 + m * pv 1
  | b + 1 => 1 + m * pv (b + 2) + min 3 (b + 1) * pg_gr pv m b
def pg_gg : Nat → Nat → Nat
  | 0 => pg_gr (fun _ => 0) 0
  | s + 1 => pg_gr (pg_gg s) (min 3 (s + 1))
theorem pg_grm {pv : Nat → Nat} {m : Nat} (h : ∀ b, pv b ≤ pv (b + 1)) : ∀ b, pg_gr pv m b ≤ pg_gr pv m (b + 1)
  | 0 => by
    have h1 : m * pv 1 ≤ m * pv 2 := Nat.mul_le_mul_left m (h 1)
    show 1 + m * pv 1 ≤ 1 + m * pv 2 + min 3 (0 + 1) * (1 + m * pv 1)
    omega
  | b + 1 => by
    have ih := pg_grm (m := m) h b
    have h1 : m * pv (b + 2) ≤ m * pv (b + 3) := Nat.mul_le_mul_left m (h (b + 2))
    have h2 := Nat.mul_le_mul (show min 3 (b + 1) ≤ min 3 (b + 2) by omega) ih
    show 1 + m * pv (b + 2) + min 3 (b + 1) * pg_gr pv m b ≤ 1 + m * pv (b + 3) + min 3 (b + 2) * pg_gr pv m (b + 1)
    omega
theorem pg_ggm : ∀ s b, pg_gg s b ≤ pg_gg s (b + 1)
  | 0 => pg_grm (fun _ => Nat.le_refl _)
  | s + 1 => pg_grm (pg_ggm s)
theorem pg_ggM {s b b' : Nat} (h : b ≤ b') : pg_gg s b ≤ pg_gg s b' := by
  obtain ⟨d, rfl⟩ : ∃ d, b' = b + d := ⟨b' - b, by omega⟩
  induction d with
  | zero => exact Nat.le_refl _
  | succ d ih => exact Nat.le_trans (ih (by omega)) (pg_ggm s (b + d))
theorem pg_ggE (s b : Nat) : pg_gg s b = 1 + min 3 s * pg_gg (s - 1) (b + 1) + min 3 b * pg_gg s (b - 1) := by
  cases s with
  | zero =>
    cases b with
    | zero => simp [pg_gg, pg_gr]
    | succ b => simp [pg_gg, pg_gr]
  | succ s =>
    cases b with
    | zero => simp [pg_gg, pg_gr]
    | succ b => simp [pg_gg, pg_gr]
theorem pg_gg6 : ∀ s, s ≤ 6 → pg_gg s 0 ≤ 3047479 := by decide +kernel
def pg_co (g : pg_T) (pc : Nat → Nat) (H : List Nat) : Nat := 8 * (pg_sQ g pc + 1) * pg_gg (pg_sS g pc) (pg_sB g pc H)
def pg_rm (g : pg_T) (pc : Nat → Nat) (H : List Nat) : Nat := 2 * pg_sS g pc + pg_sB g pc H + pg_sQ g pc
def pg_Q (g : pg_T) (pc : Nat → Nat) (H : List Nat) (p : Nat) : Prop := pc p < pg_L g p ∧ (pg_K g (8 * p + pc p) = 6 ∨ (pg_K g (8 * p + pc p) = 4 ∧ pg_ov g H (8 * p) (pc p) = 0))
section
variable {g : pg_T} {pc : Nat → Nat} {H : List Nat} {p : Nat}
theorem pg_s3o {f f' : Nat → Nat} (hp : p < 3) (h : ∀ q, q ≠ p → f' q = f q) : pg_s3 f' + f p = pg_s3 f + f' p := by
  unfold pg_s3
  rcases (show p = 0 ∨ p = 1 ∨ p = 2 by omega) with c | c | c
  · subst c; rw [h 1 (by omega), h 2 (by omega)]; omega
  · subst c; rw [h 0 (by omega), h 2 (by omega)]; omega
  · subst c; rw [h 0 (by omega), h 1 (by omega)]; omega
theorem pg_usN {q : Nat} (h : q ≠ p) : pg_us g (pg_up pc p) q = pg_us g pc q := by unfold pg_us; rw [pg_upN h]
theorem pg_quN {q : Nat} (h : q ≠ p) : pg_qu g (pg_up pc p) q = pg_qu g pc q := by unfold pg_qu; rw [pg_usN h, pg_upN h]
theorem pg_usM (hL : pc p < pg_L g p) (h : pg_M (pg_K g (8 * p + pc p))) : pg_us g pc p = pg_us g (pg_up pc p) p + 1 ∧ pg_qu g (pg_up pc p) p = pg_qu g pc p := by
  unfold pg_qu pg_us
  have a := pg_cml (g := g) (p := p) (i := pc p + 1) (j := pg_L g p) (by omega)
  rw [pg_cmT h] at a
  rw [pg_upS, pg_cmT h]
  omega
theorem pg_usF (hL : pc p < pg_L g p) (h : ¬ pg_M (pg_K g (8 * p + pc p))) : pg_us g (pg_up pc p) p = pg_us g pc p ∧ pg_qu g pc p = pg_qu g (pg_up pc p) p + 1 := by
  unfold pg_qu pg_us
  have a := pg_cml (g := g) (p := p) (i := pc p + 1) (j := pg_L g p) (by omega)
  rw [pg_cmF h] at a
  rw [pg_upS, pg_cmF h]
  omega
/-- a step by a memory instruction -/
theorem pg_stM (hp : p < 3) (hL : pc p < pg_L g p) (h : pg_M (pg_K g (8 * p + pc p))) : 1 ≤ pg_us g pc p ∧ pg_sS g pc = pg_sS g (pg_up pc p) + 1 ∧ pg_sQ g (pg_up pc p) = pg_sQ g pc := by
  obtain ⟨a, b⟩ := pg_usM hL h
  have c := pg_s3o (f := pg_us g pc) (f' := pg_us g (pg_up pc p)) hp (fun q hq => pg_usN hq)
  have d := pg_s3o (f := pg_qu g pc) (f' := pg_qu g (pg_up pc p)) hp (fun q hq => pg_quN hq)
  unfold pg_sS pg_sQ
  omega
theorem pg_stF (hp : p < 3) (hL : pc p < pg_L g p) (h : ¬ pg_M (pg_K g (8 * p + pc p))) : pg_sS g (pg_up pc p) = pg_sS g pc ∧ pg_sQ g pc = pg_sQ g (pg_up pc p) + 1 := by
  obtain ⟨a, b⟩ := pg_usF hL h
  have c := pg_s3o (f := pg_us g pc) (f' := pg_us g (pg_up pc p)) hp (fun q hq => pg_usN hq)
  have d := pg_s3o (f := pg_qu g pc) (f' := pg_qu g (pg_up pc p)) hp (fun q hq => pg_quN hq)
  unfold pg_sS pg_sQ
  omega
theorem pg_sBl (hw : pg_wf g) (I : pg_inv g pc H) : pg_sB g (pg_up pc p) ((8 * p + pc p) :: H) = pg_sB g pc H := by
  unfold pg_sB pg_s3
  dsimp only
  rw [pg_vov hw I, pg_vov hw I, pg_vov hw I]
theorem pg_sBi (hp : p < 3) : pg_sB g (pg_up pc p) H ≤ pg_sB g pc H + 1 := by
  have c := pg_s3o (f := fun q => pg_ov g H (8 * q) (pc q)) (f' := fun q => pg_ov g H (8 * q) (pg_up pc p q)) hp (fun q hq => by rw [pg_upN hq])
  have d : pg_ov g H (8 * p) (pg_up pc p p) ≤ pg_ov g H (8 * p) (pc p) + 1 := by
    rw [pg_upS]
    simp only [pg_ov]
    split <;> omega
  unfold pg_sB
  omega
theorem pg_sBq (hS : ¬ pg_S (pg_K g (8 * p + pc p))) : pg_sB g (pg_up pc p) H = pg_sB g pc H := by
  unfold pg_sB pg_s3
  dsimp only
  rw [pg_voN hS, pg_voN hS, pg_voN hS]
theorem pg_sBd (hw : pg_wf g) (I : pg_inv g pc H) (hp : p < 3) {e : Nat} {R : List Nat} (h : pg_pd g H (8 * p) (pc p) = e :: R) : pg_sB g pc H = pg_sB g pc (e :: H) + 1 := by
  have c := pg_s3o (f := fun q => pg_ov g H (8 * q) (pc q)) (f' := fun q => pg_ov g (e :: H) (8 * q) (pc q)) hp (fun q hq => by
    show pg_ov g (e :: H) (8 * q) (pc q) = pg_ov g H (8 * q) (pc q)
    rw [← pg_pdl, pg_dpd hw I h, if_neg hq, pg_pdl])
  have d : pg_ov g H (8 * p) (pc p) = R.length + 1 := by rw [← pg_pdl, h]; rfl
  have d2 : pg_ov g (e :: H) (8 * p) (pc p) = R.length := by rw [← pg_pdl, pg_dpd hw I h, if_pos rfl]
  unfold pg_sB
  omega
/-! the six moves -/
def pg_mv (g : pg_T) (pc : Nat → Nat) (H : List Nat) (c : Nat) : Int32 × (Nat → Nat) × List Nat :=
  if c < 3 then (if c < pg_n g then pg_spf g pc H c else (-1, pc, H)) else (if c - 3 < pg_n g then pg_dpf g pc H (c - 3) else (-1, pc, H))
theorem pg_mvS {c : Nat} (h : c < 3) (hn : c < pg_n g) : pg_mv g pc H c = pg_spf g pc H c := by unfold pg_mv; rw [if_pos h, if_pos hn]
theorem pg_mvB {c : Nat} (h : c < 3) (hn : ¬ c < pg_n g) : pg_mv g pc H c = (-1, pc, H) := by unfold pg_mv; rw [if_pos h, if_neg hn]
theorem pg_mvT {c : Nat} (hn : c < pg_n g) : pg_mv g pc H (c + 3) = pg_dpf g pc H c := by unfold pg_mv; rw [if_neg (by omega), Nat.add_sub_cancel, if_pos hn]
theorem pg_mvC {c : Nat} (hn : ¬ c < pg_n g) : pg_mv g pc H (c + 3) = (-1, pc, H) := by unfold pg_mv; rw [if_neg (by omega), Nat.add_sub_cancel, if_neg hn]
theorem pg_mvi (hw : pg_wf g) (I : pg_inv g pc H) (c : Nat) : pg_inv g (pg_mv g pc H c).2.1 (pg_mv g pc H c).2.2 := by
  unfold pg_mv
  split
  · split
    · exact pg_spi hw I c
    · exact I
  · split
    · exact pg_dpi hw I (c - 3)
    · exact I
/-- an OK step: what it costs -/
theorem pg_okst (hw : pg_wf g) (I : pg_inv g pc H) (hp : p < 3) (h : (pg_spf g pc H p).1 = 0) :
    (1 ≤ pg_us g pc p ∧ pg_sS g pc = pg_sS g (pg_spf g pc H p).2.1 + 1 ∧ pg_sQ g (pg_spf g pc H p).2.1 = pg_sQ g pc ∧ pg_sB g (pg_spf g pc H p).2.1 (pg_spf g pc H p).2.2 ≤ pg_sB g pc H + 1) ∨
    (pg_Q g pc H p ∧ pg_sS g (pg_spf g pc H p).2.1 = pg_sS g pc ∧ pg_sQ g pc = pg_sQ g (pg_spf g pc H p).2.1 + 1 ∧ pg_sB g (pg_spf g pc H p).2.1 (pg_spf g pc H p).2.2 = pg_sB g pc H ∧ (pg_spf g pc H p).2.2 = H) := by
  by_cases hL : pg_L g p ≤ pc p
  · rw [pg_sp3 hL] at h; exact absurd h (show ¬ (-3 : Int32) = 0 by decide)
  · have hL' : pc p < pg_L g p := by omega
    rcases pg_kinds hw hL' with k | k | k | k | k
    · rw [pg_sp1 hL' k]
      obtain ⟨a, b, c⟩ := pg_stM hp hL' (Or.inl k)
      exact Or.inl ⟨a, b, c, by rw [pg_sBl hw I]; omega⟩
    · obtain ⟨a, b, c⟩ := pg_stM hp hL' (pg_SM k)
      by_cases d : pg_d g = 0
      · rw [pg_spS0 hL' k d]
        exact Or.inl ⟨a, b, c, by rw [pg_sBl hw I]; omega⟩
      · by_cases o : pg_ov g H (8 * p) (pc p) < pg_d g
        · rw [pg_spS1 hL' k d o]
          exact Or.inl ⟨a, b, c, pg_sBi hp⟩
        · rw [pg_spS2 hL' k d o] at h; exact absurd h (show ¬ (-2 : Int32) = 0 by decide)
    · by_cases o : pg_ov g H (8 * p) (pc p) = 0
      · rw [pg_sp40 hL' k o]
        obtain ⟨a, b⟩ := pg_stF hp hL' (by rw [k]; decide)
        exact Or.inr ⟨⟨hL', Or.inr ⟨k, o⟩⟩, a, b, pg_sBq (by rw [k]; decide), rfl⟩
      · rw [pg_sp41 hL' k o] at h; exact absurd h (show ¬ (-4 : Int32) = 0 by decide)
    · obtain ⟨a, b, c⟩ := pg_stM hp hL' (Or.inr (Or.inl k))
      by_cases o : pg_ov g H (8 * p) (pc p) = 0
      · rw [pg_sp50 hL' k o]
        exact Or.inl ⟨a, b, c, by rw [pg_sBl hw I]; omega⟩
      · rw [pg_sp51 hL' k o] at h; exact absurd h (show ¬ (-4 : Int32) = 0 by decide)
    · rw [pg_sp6 hL' k]
      obtain ⟨a, b⟩ := pg_stF hp hL' (by rw [k]; decide)
      exact Or.inr ⟨⟨hL', Or.inl k⟩, a, b, pg_sBq (by rw [k]; decide), rfl⟩
theorem pg_okdr (hw : pg_wf g) (I : pg_inv g pc H) (hp : p < 3) (h : (pg_dpf g pc H p).1 = 0) :
    1 ≤ pg_ov g H (8 * p) (pc p) ∧ pg_sS g (pg_dpf g pc H p).2.1 = pg_sS g pc ∧ pg_sQ g (pg_dpf g pc H p).2.1 = pg_sQ g pc ∧ pg_sB g pc H = pg_sB g (pg_dpf g pc H p).2.1 (pg_dpf g pc H p).2.2 + 1 := by
  cases hq : pg_pd g H (8 * p) (pc p) with
  | nil => rw [pg_dp0 (by rw [← pg_pdl, hq]; rfl)] at h; exact absurd h (show ¬ (-5 : Int32) = 0 by decide)
  | cons e R =>
    rw [pg_dp1 hq]
    refine ⟨?_, rfl, rfl, pg_sBd hw I hp hq⟩
    rw [← pg_pdl, hq]; simp
theorem pg_quiet (hw : pg_wf g) (h : pg_Q g pc H p) : pg_spf g pc H p = (0, pg_up pc p, H) := by
  rcases h.2 with k | ⟨k, o⟩
  · exact pg_sp6 h.1 k
  · exact pg_sp40 h.1 k o
/-- every move lowers what is left -/
theorem pg_mvr (hw : pg_wf g) (I : pg_inv g pc H) {c : Nat} (hc : c < 6) (h : (pg_mv g pc H c).1 = 0) : pg_rm g (pg_mv g pc H c).2.1 (pg_mv g pc H c).2.2 + 1 ≤ pg_rm g pc H := by
  have hn3 := hw.2.1
  by_cases a : c < 3
  · by_cases b : c < pg_n g
    · rw [pg_mvS a b] at h ⊢
      unfold pg_rm
      rcases pg_okst hw I a h with ⟨_, x, y, z⟩ | ⟨_, x, y, z, _⟩ <;> omega
    · rw [pg_mvB a b] at h; exact absurd h (show ¬ (-1 : Int32) = 0 by decide)
  · obtain ⟨d, rfl⟩ : ∃ d, c = d + 3 := ⟨c - 3, by omega⟩
    by_cases b : d < pg_n g
    · rw [pg_mvT b] at h ⊢
      unfold pg_rm
      obtain ⟨_, x, y, z⟩ := pg_okdr hw I (p := d) (by omega) h
      omega
    · rw [pg_mvC b] at h; exact absurd h (show ¬ (-1 : Int32) = 0 by decide)
theorem pg_coQ (hw : pg_wf g) (I : pg_inv g pc H) (hp : p < 3) (hq : pg_Q g pc H p) : pg_co g (pg_up pc p) H + 2 ≤ pg_co g pc H := by
  have e := pg_quiet hw hq
  have h : (pg_spf g pc H p).1 = 0 := by rw [e]
  have key : pg_sS g (pg_up pc p) = pg_sS g pc ∧ pg_sQ g pc = pg_sQ g (pg_up pc p) + 1 ∧ pg_sB g (pg_up pc p) H = pg_sB g pc H := by
    have hM : ¬ pg_M (pg_K g (8 * p + pc p)) := by
      intro z
      rcases hq.2 with k | ⟨k, _⟩ <;> (rw [k] at z; exact absurd z (by decide))
    have hS : ¬ pg_S (pg_K g (8 * p + pc p)) := fun z => hM (pg_SM z)
    obtain ⟨a, b⟩ := pg_stF hp hq.1 hM
    exact ⟨a, b, pg_sBq hS⟩
  obtain ⟨a, b, c⟩ := key
  unfold pg_co
  rw [a, b, c]
  have h1 : 1 ≤ pg_gg (pg_sS g pc) (pg_sB g pc H) := by rw [pg_ggE]; omega
  generalize pg_gg (pg_sS g pc) (pg_sB g pc H) = G at h1
  generalize pg_sQ g (pg_up pc p) = Q
  have : 8 * (Q + 1 + 1) * G = 8 * (Q + 1) * G + 8 * G := by rw [show 8 * (Q + 1 + 1) = 8 * (Q + 1) + 8 by omega, Nat.add_mul]
  omega
def pg_mc (g : pg_T) (pc : Nat → Nat) (H : List Nat) (c : Nat) : Nat := if (pg_mv g pc H c).1 = 0 then pg_co g (pg_mv g pc H c).2.1 (pg_mv g pc H c).2.2 else 0
def pg_bd (g : pg_T) (pc : Nat → Nat) (H : List Nat) : Nat → Nat
  | 0 => 0
  | c + 1 => pg_bd g pc H c + 1 + pg_mc g pc H c
theorem pg_mcS (hw : pg_wf g) (I : pg_inv g pc H) (hnq : ∀ p, p < pg_n g → ¬ pg_Q g pc H p) {c : Nat} (hc : c < 3) : pg_mc g pc H c ≤ min 1 (pg_us g pc c) * (8 * (pg_sQ g pc + 1) * pg_gg (pg_sS g pc - 1) (pg_sB g pc H + 1)) := by
  unfold pg_mc
  split
  · rename_i h
    by_cases b : c < pg_n g
    · rw [pg_mvS hc b] at h ⊢
      rcases pg_okst hw I hc h with ⟨x, y, z, w⟩ | ⟨x, _⟩
      · unfold pg_co
        rw [show min 1 (pg_us g pc c) = 1 by omega, Nat.one_mul, z, show pg_sS g (pg_spf g pc H c).2.1 = pg_sS g pc - 1 by omega]
        exact Nat.mul_le_mul_left _ (pg_ggM w)
      · exact absurd x (hnq c b)
    · rw [pg_mvB hc b] at h; exact absurd h (show ¬ (-1 : Int32) = 0 by decide)
  · exact Nat.zero_le _
theorem pg_mcT (hw : pg_wf g) (I : pg_inv g pc H) {c : Nat} (hc : c < 3) : pg_mc g pc H (c + 3) ≤ min 1 (pg_ov g H (8 * c) (pc c)) * (8 * (pg_sQ g pc + 1) * pg_gg (pg_sS g pc) (pg_sB g pc H - 1)) := by
  unfold pg_mc
  split
  · rename_i h
    by_cases b : c < pg_n g
    · rw [pg_mvT b] at h ⊢
      obtain ⟨x, y, z, w⟩ := pg_okdr hw I hc h
      unfold pg_co
      rw [show min 1 (pg_ov g H (8 * c) (pc c)) = 1 by omega, Nat.one_mul, y, z, show pg_sB g (pg_dpf g pc H c).2.1 (pg_dpf g pc H c).2.2 = pg_sB g pc H - 1 by omega]
      exact Nat.le_refl _
    · rw [pg_mvC b] at h; exact absurd h (show ¬ (-1 : Int32) = 0 by decide)
  · exact Nat.zero_le _
theorem pg_bd6 (hw : pg_wf g) (I : pg_inv g pc H) (hnq : ∀ p, p < pg_n g → ¬ pg_Q g pc H p) : pg_bd g pc H 6 + 1 ≤ pg_co g pc H := by
  have a0 := pg_mcS hw I hnq (c := 0) (by omega)
  have a1 := pg_mcS hw I hnq (c := 1) (by omega)
  have a2 := pg_mcS hw I hnq (c := 2) (by omega)
  have b0 : pg_mc g pc H 3 ≤ _ := pg_mcT hw I (c := 0) (by omega)
  have b1 : pg_mc g pc H 4 ≤ _ := pg_mcT hw I (c := 1) (by omega)
  have b2 : pg_mc g pc H 5 ≤ _ := pg_mcT hw I (c := 2) (by omega)
  have e : pg_co g pc H = 8 * (pg_sQ g pc + 1) + min 3 (pg_sS g pc) * (8 * (pg_sQ g pc + 1) * pg_gg (pg_sS g pc - 1) (pg_sB g pc H + 1)) + min 3 (pg_sB g pc H) * (8 * (pg_sQ g pc + 1) * pg_gg (pg_sS g pc) (pg_sB g pc H - 1)) := by
    unfold pg_co
    rw [pg_ggE (pg_sS g pc) (pg_sB g pc H), Nat.mul_add, Nat.mul_add, Nat.mul_one, Nat.mul_left_comm, Nat.mul_left_comm (8 * (pg_sQ g pc + 1)) (min 3 (pg_sB g pc H))]
  have u : min 1 (pg_us g pc 0) + min 1 (pg_us g pc 1) + min 1 (pg_us g pc 2) ≤ min 3 (pg_sS g pc) := by unfold pg_sS pg_s3; omega
  have v : min 1 (pg_ov g H (8 * 0) (pc 0)) + min 1 (pg_ov g H (8 * 1) (pc 1)) + min 1 (pg_ov g H (8 * 2) (pc 2)) ≤ min 3 (pg_sB g pc H) := by unfold pg_sB pg_s3; dsimp only; omega
  rw [e]
  generalize 8 * (pg_sQ g pc + 1) * pg_gg (pg_sS g pc - 1) (pg_sB g pc H + 1) = X at a0 a1 a2 ⊢
  generalize 8 * (pg_sQ g pc + 1) * pg_gg (pg_sS g pc) (pg_sB g pc H - 1) = Y at b0 b1 b2 ⊢
  have uX := Nat.mul_le_mul_right X u
  have vY := Nat.mul_le_mul_right Y v
  rw [Nat.add_mul, Nat.add_mul] at uX vY
  simp only [pg_bd]
  omega
end
/-! the root -/
theorem pg_cme {g : pg_T} (hw : pg_wf g) {p : Nat} (hp : p < pg_n g) : ∀ j, j ≤ pg_L g p → (pg_es g (8 * p + j)).length = (pg_es g (8 * p)).length + pg_cm g p j
  | 0, _ => rfl
  | j + 1, h => by
    have ih := pg_cme hw hp j (by omega)
    have h5 := hw.2.2.2.2.2.1 p
    by_cases c : pg_M (pg_K g (8 * p + j))
    · rw [pg_cmT c, show 8 * p + (j + 1) = 8 * p + j + 1 from rfl, pg_esT (pg_evp hw (by omega) c), List.length_cons]; omega
    · rw [pg_cmF c, show 8 * p + (j + 1) = 8 * p + j + 1 from rfl, pg_esF (fun z => c z.2.2)]; exact ih
theorem pg_cmt {g : pg_T} (hw : pg_wf g) (p : Nat) : (pg_es g (8 * (p + 1))).length = (pg_es g (8 * p)).length + pg_cm g p (pg_L g p) := by
  rw [pg_esp hw]
  by_cases hp : p < pg_n g
  · exact pg_cme hw hp _ (Nat.le_refl _)
  · rw [hw.2.2.2.2.2.2.1 p (by omega)]; rfl
theorem pg_root {g : pg_T} (hw : pg_wf g) : pg_sS g (fun _ => 0) ≤ 6 ∧ pg_sB g (fun _ => 0) [] = 0 ∧ pg_sS g (fun _ => 0) + pg_sQ g (fun _ => 0) ≤ 15 := by
  have c0 := pg_cmt hw 0
  have c1 := pg_cmt hw 1
  have c2 := pg_cmt hw 2
  have h6 := hw.2.2.2.2.2.2.2.2.2
  have l0 := hw.2.2.2.2.2.1 0
  have l1 := hw.2.2.2.2.2.1 1
  have l2 := hw.2.2.2.2.2.1 2
  have m0 := pg_cml (g := g) (p := 0) (i := 0) (j := pg_L g 0) (by omega)
  have m1 := pg_cml (g := g) (p := 1) (i := 0) (j := pg_L g 1) (by omega)
  have m2 := pg_cml (g := g) (p := 2) (i := 0) (j := pg_L g 2) (by omega)
  simp only [show 8 * (0 + 1) = 8 * 1 from rfl, show 8 * (1 + 1) = 8 * 2 from rfl, show 8 * (2 + 1) = 24 from rfl] at c0 c1 c2
  have z0 : (pg_es g (8 * 0)).length = 0 := rfl
  unfold pg_sS pg_sQ pg_sB pg_qu pg_us pg_s3
  simp only [pg_cm, Nat.sub_zero, Nat.zero_add] at m0 m1 m2
  have o : ∀ q, pg_ov g [] q 0 = 0 := fun _ => rfl
  have z : ∀ q, pg_cm g q 0 = 0 := fun _ => rfl
  dsimp only
  rw [o, o, o, z, z, z]
  omega
theorem pg_rootc {g : pg_T} (hw : pg_wf g) : pg_co g (fun _ => 0) [] ≤ 390077312 ∧ pg_rm g (fun _ => 0) [] ≤ 21 := by
  obtain ⟨a, b, c⟩ := pg_root hw
  have d := pg_gg6 _ a
  unfold pg_co pg_rm
  rw [b]
  have e := Nat.mul_le_mul (show 8 * (pg_sQ g (fun _ => 0) + 1) ≤ 128 by omega) d
  omega
end
section
/-! Y: explore: keep, fetch, quiet, and the rules of its loop -/
theorem qa_32 (p i : Nat) : (32 : Int32) * nI p + nI i = nI (32 * p + i) := by
  rw [show (32 : Int32) = nI 32 from rfl, pk_mul, nI_add]
section
variable {k_procs k_cells k_deep k_orderN k_workN : Int32} {b_len b_kind b_opA b_opW b_s b_order b_made b_codes b_stack b_choice b_work b_rd : Nat → Int32}
variable {g : pg_T} {pc : Nat → Nat} {H : List Nat}
theorem qy_keep {post : SY → Prop} {l : Nat} (hl : l < 24) (hp : ∀ ST, (∀ i, i < 32 → ST (32 * l + i) = b_s i) → (∀ j, (j < 32 * l ∨ 32 * l + 32 ≤ j) → ST j = b_stack j) → post (k_procs, k_cells, k_deep, k_orderN, k_workN, b_len, b_kind, b_opA, b_opW, b_s, b_order, b_made, b_codes, ST, b_choice, b_work, b_rd)) : wpY_keep post (k_procs, k_cells, k_deep, k_orderN, k_workN, b_len, b_kind, b_opA, b_opW, b_s, b_order, b_made, b_codes, b_stack, b_choice, b_work, b_rd) (nI l) := by
  refine ⟨33, ?_⟩
  suffices ∀ m n k ST, k + m = 32 → m < n → (∀ i, i < k → ST (32 * l + i) = b_s i) → (∀ j, (j < 32 * l ∨ 32 * l + 32 ≤ j) → ST j = b_stack j) → wY_keep_2 post (nI l) k_procs k_cells k_deep k_orderN k_workN n (nI k) b_len b_kind b_opA b_opW b_s b_order b_made b_codes ST b_choice b_work b_rd from this 32 33 0 b_stack (by omega) (by omega) (fun i hi => absurd hi (by omega)) (fun _ _ => rfl)
  intro m
  induction m with
  | zero =>
    intro n k ST hk hn h1 h2
    obtain ⟨n, rfl⟩ : ∃ k, n = k + 1 := ⟨n - 1, by omega⟩
    obtain rfl : k = 32 := by omega
    exact br_t (by decide) (hp ST h1 h2)
  | succ m ih =>
    intro n k ST hk hn h1 h2
    obtain ⟨n, rfl⟩ : ∃ k, n = k + 1 := ⟨n - 1, by omega⟩
    have e1 : upd ST ((32 : Int32) * nI l + nI k).toNatClampNeg (b_s (nI k).toNatClampNeg) = upd ST (32 * l + k) (b_s k) := by rw [qa_32, nI_clamp (by omega), nI_clamp (by omega)]
    refine br_f (nI_ge (b := 32) (by omega) (by decide)) ⟨pk_in k 32 (by omega), pk_in (32 * l + k) 768 (by omega) (qa_32 l k), nm_r e1 (nm_r (nI_1 k) (ih n (k + 1) _ (by omega) (by omega) (fun i hi => ?_) (fun j hj => ?_)))⟩
    · by_cases c : i = k
      · subst c; exact pk_us
      · rw [pk_un (by omega)]; exact h1 i (by omega)
    · rw [pk_un (by omega)]; exact h2 j hj
theorem qy_fetch {post : SY → Prop} {l : Nat} (hl : l < 24) (hp : ∀ S, (∀ i, i < 32 → S i = b_stack (32 * l + i)) → post (k_procs, k_cells, k_deep, k_orderN, k_workN, b_len, b_kind, b_opA, b_opW, S, b_order, b_made, b_codes, b_stack, b_choice, b_work, b_rd)) : wpY_fetch post (k_procs, k_cells, k_deep, k_orderN, k_workN, b_len, b_kind, b_opA, b_opW, b_s, b_order, b_made, b_codes, b_stack, b_choice, b_work, b_rd) (nI l) := by
  refine ⟨33, ?_⟩
  suffices ∀ m n k S, k + m = 32 → m < n → (∀ i, i < k → S i = b_stack (32 * l + i)) → wY_fetch_2 post (nI l) k_procs k_cells k_deep k_orderN k_workN n (nI k) b_len b_kind b_opA b_opW S b_order b_made b_codes b_stack b_choice b_work b_rd from this 32 33 0 b_s (by omega) (by omega) (fun i hi => absurd hi (by omega))
  intro m
  induction m with
  | zero =>
    intro n k S hk hn h1
    obtain ⟨n, rfl⟩ : ∃ k, n = k + 1 := ⟨n - 1, by omega⟩
    obtain rfl : k = 32 := by omega
    exact br_t (by decide) (hp S h1)
  | succ m ih =>
    intro n k S hk hn h1
    obtain ⟨n, rfl⟩ : ∃ k, n = k + 1 := ⟨n - 1, by omega⟩
    have e1 : upd S (nI k).toNatClampNeg (b_stack ((32 : Int32) * nI l + nI k).toNatClampNeg) = upd S k (b_stack (32 * l + k)) := by rw [qa_32, nI_clamp (by omega), nI_clamp (by omega)]
    refine br_f (nI_ge (b := 32) (by omega) (by decide)) ⟨pk_in (32 * l + k) 768 (by omega) (qa_32 l k), pk_in k 32 (by omega), nm_r e1 (nm_r (nI_1 k) (ih n (k + 1) _ (by omega) (by omega) (fun i hi => ?_)))⟩
    by_cases c : i = k
    · subst c; exact pk_us
    · rw [pk_un c]; exact h1 i (by omega)
theorem qy_quiet (hw : pg_wf g) (P : qx_P g b_kind b_opA b_opW b_len) (I : pg_inv g pc H) (M : qy_Ms g pc H b_s) {post : Int32 → Prop} (hq : ∀ p, p < pg_n g → pg_Q g pc H p → post (nI p)) (hn' : (∀ p, p < pg_n g → ¬ pg_Q g pc H p) → post (-1)) : wpY_quiet post ((nI (pg_n g)), k_cells, k_deep, k_orderN, k_workN, b_len, b_kind, b_opA, b_opW, b_s, b_order, b_made, b_codes, b_stack, b_choice, b_work, b_rd) := by
  have hn3 := hw.2.1
  obtain ⟨M1, M2, M3, M4, M5, M6, M7⟩ := M
  refine ⟨pg_n g + 1, ?_⟩
  suffices ∀ m n i, i + m = pg_n g → m < n → (∀ p, p < i → ¬ pg_Q g pc H p) → wY_quiet_2 post (nI (pg_n g)) k_cells k_deep k_orderN k_workN b_len b_kind b_opA b_opW b_s b_order b_made b_codes b_stack b_choice b_work b_rd n (nI i) from this (pg_n g) (pg_n g + 1) 0 (by omega) (by omega) (fun p hp => absurd hp (by omega))
  intro m
  induction m with
  | zero =>
    intro n i hi hn hf
    obtain ⟨n, rfl⟩ : ∃ k, n = k + 1 := ⟨n - 1, by omega⟩
    obtain rfl : i = pg_n g := by omega
    exact br_t (nI_le (Nat.le_refl _) (by omega)) (hn' hf)
  | succ m ih =>
    intro n i hi hn hf
    obtain ⟨n, rfl⟩ : ∃ k, n = k + 1 := ⟨n - 1, by omega⟩
    have hpc := I.2.1 i
    have h5 := hw.2.2.2.2.2.1 i
    have hd := I.2.2.2.2.1 i
    have hd3 := hw.2.2.2.2.1
    have e0 : b_s ((0 : Int32) + nI i).toNatClampNeg = nI (pc i) := by rw [qa_i0, nI_clamp (by omega)]; exact M1 i (by omega)
    have e12 : b_s ((12 : Int32) + nI i).toNatClampNeg = nI (pg_ov g H (8 * i) (pc i)) := by rw [qa_i12, nI_clamp (by omega)]; exact M4 i (by omega)
    have i0 : vp_in ((0 : Int32) + nI i) 32 := pk_in i 32 (by omega) (qa_i0 i)
    have e8 : (8 : Int32) * nI i + b_s ((0 : Int32) + nI i).toNatClampNeg = nI (8 * i + pc i) := by rw [e0, qa_8]
    have ek : b_kind ((8 : Int32) * nI i + b_s ((0 : Int32) + nI i).toNatClampNeg).toNatClampNeg = nI (pg_K g (8 * i + pc i)) := by rw [e8]; exact qa_kd P (by omega)
    have kl := (qa_kl hw (8 * i + pc i)).1
    have nx : ¬ pg_Q g pc H i → wY_quiet_2 post (nI (pg_n g)) k_cells k_deep k_orderN k_workN b_len b_kind b_opA b_opW b_s b_order b_made b_codes b_stack b_choice b_work b_rd n (nI (i + 1)) := by
      intro hno
      refine ih n (i + 1) (by omega) (by omega) (fun p hp => ?_)
      by_cases c : p = i
      · subst c; exact hno
      · exact hf p (by omega)
    refine br_f (nI_ge (by omega) (by omega)) ⟨i0, pk_in i 3 (by omega), pk_le (pg_L g i) (pc i) (fun z => nm_r (nI_1 i) (nx (fun y => by have := y.1; omega))) (fun z => ⟨i0, pk_in (8 * i + pc i) 24 (by omega) e8, nm_r ek ?_⟩) (qa_ln P (by omega)) e0⟩
    refine pk_eq (pg_K g (8 * i + pc i)) 6 (fun k => hq i (by omega) ⟨z, Or.inl k⟩) (fun k6 => pk_eq (pg_K g (8 * i + pc i)) 4 (fun k => ⟨pk_in (12 + i) 32 (by omega) (qa_i12 i), pk_eq (pg_ov g H (8 * i) (pc i)) 0 (fun o => hq i (by omega) ⟨z, Or.inr ⟨k, o⟩⟩) (fun o => nm_r (nI_1 i) (nx ?_)) e12 rfl⟩) (fun k4 => nm_r (nI_1 i) (nx ?_)))
    · intro y
      rcases y.2 with w | w
      · omega
      · exact o w.2
    · intro y
      rcases y.2 with w | w
      · exact k6 w
      · exact k4 w.1
theorem qy_stB {post : Int32 → SY → Prop} {p m : Nat} (hp : m ≤ p) (hm : p < 2 ^ 31) (h : post (-1) ((nI m), k_cells, k_deep, k_orderN, k_workN, b_len, b_kind, b_opA, b_opW, b_s, b_order, b_made, b_codes, b_stack, b_choice, b_work, b_rd)) : wpY_step post ((nI m), k_cells, k_deep, k_orderN, k_workN, b_len, b_kind, b_opA, b_opW, b_s, b_order, b_made, b_codes, b_stack, b_choice, b_work, b_rd) (nI p) :=
  br_f (nI_pos hm) (br_f (nI_nlt hp hm) h)
theorem qy_drB {post : Int32 → SY → Prop} {p m : Nat} (hp : m ≤ p) (hm : p < 2 ^ 31) (h : post (-1) ((nI m), k_cells, k_deep, k_orderN, k_workN, b_len, b_kind, b_opA, b_opW, b_s, b_order, b_made, b_codes, b_stack, b_choice, b_work, b_rd)) : wpY_drain post ((nI m), k_cells, k_deep, k_orderN, k_workN, b_len, b_kind, b_opA, b_opW, b_s, b_order, b_made, b_codes, b_stack, b_choice, b_work, b_rd) (nI p) :=
  br_f (nI_pos hm) (br_f (nI_nlt hp hm) h)
theorem qy_ex140 {post : Int32 → SY → Prop} {n l t : Nat} {r : Int32} {S MD CS ST CH : Nat → Int32} (hl : l < 23) (bad : r ≠ 0 → wY_explore_27 post n (nI l) (nI (t + 1)) (nI (pg_n g)) (nI (pg_c g)) (nI (pg_d g)) k_orderN k_workN b_len b_kind b_opA b_opW S b_order MD CS ST CH b_work b_rd) (good : r = 0 → wY_explore_27 post n (nI (l + 1)) (nI (t + 1)) (nI (pg_n g)) (nI (pg_c g)) (nI (pg_d g)) k_orderN k_workN b_len b_kind b_opA b_opW S b_order MD CS ST (upd CH (l + 1) 0) b_work b_rd) :
    wY_explore_140 post (wY_explore_27 post n) (nI l) (nI t) r (nI (pg_n g)) (nI (pg_c g)) (nI (pg_d g)) k_orderN k_workN b_len b_kind b_opA b_opW S b_order MD CS ST CH b_work b_rd :=
  br_c (fun z => br_f (nI_ge (b := 23) hl (by decide)) (nm_r (nI_1 l) ⟨pk_in (l + 1) 24 (by omega), nm_r (qa_u (by omega)) (nm_r (nI_1 t) (good z))⟩)) (fun z => nm_r (nI_1 t) (bad z))
theorem qy_ex120 (hw : pg_wf g) (P : qx_P g b_kind b_opA b_opW b_len) {post : Int32 → SY → Prop} {n l t c : Nat} {S MD CS ST CH : Nat → Int32} (I : pg_inv g pc H) (M : qy_Ms g pc H S) (hc : c < 6) (hl : l < 23)
    (bad : (pg_mv g pc H c).1 ≠ 0 → wY_explore_27 post n (nI l) (nI (t + 1)) (nI (pg_n g)) (nI (pg_c g)) (nI (pg_d g)) k_orderN k_workN b_len b_kind b_opA b_opW S b_order MD CS ST CH b_work b_rd)
    (good : (pg_mv g pc H c).1 = 0 → ∀ S', qy_Ms g (pg_mv g pc H c).2.1 (pg_mv g pc H c).2.2 S' → wY_explore_27 post n (nI (l + 1)) (nI (t + 1)) (nI (pg_n g)) (nI (pg_c g)) (nI (pg_d g)) k_orderN k_workN b_len b_kind b_opA b_opW S' b_order MD CS ST (upd CH (l + 1) 0) b_work b_rd) :
    wY_explore_120 post (wY_explore_27 post n) (nI l) (nI t) (nI c) (nI (pg_n g)) (nI (pg_c g)) (nI (pg_d g)) k_orderN k_workN b_len b_kind b_opA b_opW S b_order MD CS ST CH b_work b_rd := by
  refine pk_le 3 c (fun z => ?_) (fun z => ?_)
  · obtain ⟨d, rfl⟩ : ∃ d, c = d + 3 := ⟨c - 3, by omega⟩
    have e3 : nI (d + 3) - 3 = nI d := by rw [show (3 : Int32) = nI 3 from rfl, pk_sub (by omega), Nat.add_sub_cancel]
    rw [e3]
    by_cases hd : d < pg_n g
    · rw [pg_mvT hd] at bad good
      refine qy_drain hw P I hd M (fun S' M' hS' => qy_ex140 hl (fun y => ?_) (fun y => good y S' M'))
      rw [hS' y]; exact bad y
    · rw [pg_mvC hd] at bad
      exact qy_drB (by omega) (by omega) (qy_ex140 hl (fun _ => bad (show ¬ (-1 : Int32) = 0 by decide)) (fun y => absurd y (by decide)))
  · by_cases hd : c < pg_n g
    · rw [pg_mvS z hd] at bad good
      refine qy_step hw P I hd M (fun S' M' hS' => qy_ex140 hl (fun y => ?_) (fun y => good y S' M'))
      rw [hS' y]; exact bad y
    · rw [pg_mvB z hd] at bad
      exact qy_stB (by omega) (by omega) (qy_ex140 hl (fun _ => bad (show ¬ (-1 : Int32) = 0 by decide)) (fun y => absurd y (by decide)))
/-- a turn at choice 6: one level up -/
theorem qy_exF {post : Int32 → SY → Prop} {n l t : Nat} {S MD CS ST CH : Nat → Int32} (hl1 : 1 ≤ l) (hl : l < 24) (ht : t < 1000000000) (hc : CH l = nI 6) (h : ∀ S', (∀ i, i < 32 → S' i = ST (32 * (l - 1) + i)) → wY_explore_27 post n (nI (l - 1)) (nI (t + 1)) (nI (pg_n g)) (nI (pg_c g)) (nI (pg_d g)) k_orderN k_workN b_len b_kind b_opA b_opW S' b_order MD CS ST CH b_work b_rd) : wY_explore_27 post (n + 1) (nI l) (nI t) (nI (pg_n g)) (nI (pg_c g)) (nI (pg_d g)) k_orderN k_workN b_len b_kind b_opA b_opW S b_order MD CS ST CH b_work b_rd := by
  have e1 : nI l + (-1) = nI (l - 1) := by
    have := pk_m1 (l - 1)
    rw [show l - 1 + 1 = l by omega] at this
    exact this
  refine br_f (nI_ge (b := 1000000000) ht (by decide)) (br_f (nI_nlt (b := 1) hl1 (by omega)) ⟨pk_in l 24 hl, nm_r ((qa_rd (by omega)).trans hc) (br_f (by decide) (nm_r e1 (qy_fetch (by omega) (fun S' hS' => nm_r (nI_1 t) (h S' hS')))))⟩)
/-- a turn at a later choice -/
theorem qy_exM (hw : pg_wf g) (P : qx_P g b_kind b_opA b_opW b_len) {post : Int32 → SY → Prop} {n l t c : Nat} {S MD CS ST CH : Nat → Int32} (I : pg_inv g pc H) (M : qy_Ms g pc H S) (hl1 : 1 ≤ l) (hl : l < 23) (ht : t < 1000000000) (hc0 : 1 ≤ c) (hc : c < 6) (hch : CH l = nI c)
    (bad : (pg_mv g pc H c).1 ≠ 0 → wY_explore_27 post n (nI l) (nI (t + 1)) (nI (pg_n g)) (nI (pg_c g)) (nI (pg_d g)) k_orderN k_workN b_len b_kind b_opA b_opW S b_order MD CS ST (upd CH l (nI (c + 1))) b_work b_rd)
    (good : (pg_mv g pc H c).1 = 0 → ∀ S', qy_Ms g (pg_mv g pc H c).2.1 (pg_mv g pc H c).2.2 S' → wY_explore_27 post n (nI (l + 1)) (nI (t + 1)) (nI (pg_n g)) (nI (pg_c g)) (nI (pg_d g)) k_orderN k_workN b_len b_kind b_opA b_opW S' b_order MD CS ST (upd (upd CH l (nI (c + 1))) (l + 1) 0) b_work b_rd) : wY_explore_27 post (n + 1) (nI l) (nI t) (nI (pg_n g)) (nI (pg_c g)) (nI (pg_d g)) k_orderN k_workN b_len b_kind b_opA b_opW S b_order MD CS ST CH b_work b_rd := by
  have e1 : upd CH (nI l).toNatClampNeg (nI c + 1) = upd CH l (nI (c + 1)) := by rw [nI_1, qa_u (by omega)]
  exact br_f (nI_ge (b := 1000000000) ht (by decide)) (br_f (nI_nlt (b := 1) hl1 (by omega)) ⟨pk_in l 24 (by omega), nm_r ((qa_rd (by omega)).trans hch) (br_t (nI_lt (b := 6) hc (by decide)) ⟨pk_in l 24 (by omega), nm_r e1 (br_f (nI_ne0 hc0 (by omega)) (qy_ex120 hw P I M hc hl bad good))⟩)⟩)
/-- the first turn at a level -/
theorem qy_ex1 (hw : pg_wf g) (P : qx_P g b_kind b_opA b_opW b_len) {post : Int32 → SY → Prop} {n l t : Nat} {S MD CS ST CH : Nat → Int32} {Hd : List Nat → Prop} (I : pg_inv g pc H) (M : qy_Ms g pc H S) (hl1 : 1 ≤ l) (hl : l < 23) (ht : t < 1000000000) (hch : CH l = 0) (hL : qy_L g 0 Hd MD CS)
    (h : ∀ ST' MD' CS' Hd', (∀ i, i < 32 → ST' (32 * l + i) = S i) → (∀ j, j < 32 * l → ST' j = ST j) → qy_L g 0 Hd' MD' CS' → (∀ O, pg_cp g O → Hd O → Hd' O) → ((∀ p, p < pg_n g → pc p = pg_L g p ∧ pg_ov g H (8 * p) (pc p) = 0) → Hd' H) → (∀ j, j ≠ 0 → MD' j = MD j) → (∀ j, 256 ≤ j → CS' j = CS j) →
      ((∀ p, p < pg_n g → ¬ pg_Q g pc H p) → ((pg_mv g pc H 0).1 ≠ 0 → wY_explore_27 post n (nI l) (nI (t + 1)) (nI (pg_n g)) (nI (pg_c g)) (nI (pg_d g)) k_orderN k_workN b_len b_kind b_opA b_opW S b_order MD' CS' ST' (upd CH l (nI 1)) b_work b_rd) ∧ ((pg_mv g pc H 0).1 = 0 → ∀ S', qy_Ms g (pg_mv g pc H 0).2.1 (pg_mv g pc H 0).2.2 S' → wY_explore_27 post n (nI (l + 1)) (nI (t + 1)) (nI (pg_n g)) (nI (pg_c g)) (nI (pg_d g)) k_orderN k_workN b_len b_kind b_opA b_opW S' b_order MD' CS' ST' (upd (upd CH l (nI 1)) (l + 1) 0) b_work b_rd)) ∧
      (∀ p, p < pg_n g → pg_Q g pc H p → ∀ S', qy_Ms g (pg_up pc p) H S' → wY_explore_27 post n (nI (l + 1)) (nI (t + 1)) (nI (pg_n g)) (nI (pg_c g)) (nI (pg_d g)) k_orderN k_workN b_len b_kind b_opA b_opW S' b_order MD' CS' ST' (upd (upd (upd CH l (nI 1)) l (nI 6)) (l + 1) 0) b_work b_rd)) : wY_explore_27 post (n + 1) (nI l) (nI t) (nI (pg_n g)) (nI (pg_c g)) (nI (pg_d g)) k_orderN k_workN b_len b_kind b_opA b_opW S b_order MD CS ST CH b_work b_rd := by
  have hn3 := hw.2.1
  have e1 : upd CH (nI l).toNatClampNeg ((0 : Int32) + 1) = upd CH l (nI 1) := by rw [qa_u (by omega)]; rfl
  refine br_f (nI_ge (b := 1000000000) ht (by decide)) (br_f (nI_nlt (b := 1) hl1 (by omega)) ⟨pk_in l 24 (by omega), nm_r ((qa_rd (by omega)).trans hch) (br_t (by decide) ⟨pk_in l 24 (by omega), nm_r e1 (br_t rfl ?_)⟩)⟩)
  refine qy_keep (by omega) (fun ST' k1 k2 => ?_)
  have q98 : ∀ MD' CS' Hd', qy_L g 0 Hd' MD' CS' → (∀ O, pg_cp g O → Hd O → Hd' O) → ((∀ p, p < pg_n g → pc p = pg_L g p ∧ pg_ov g H (8 * p) (pc p) = 0) → Hd' H) → (∀ j, j ≠ 0 → MD' j = MD j) → (∀ j, 256 ≤ j → CS' j = CS j) → wY_explore_98 post (wY_explore_27 post n) (nI l) (nI t) 0 (nI (pg_n g)) (nI (pg_c g)) (nI (pg_d g)) k_orderN k_workN b_len b_kind b_opA b_opW S b_order MD' CS' ST' (upd CH l (nI 1)) b_work b_rd := by
    intro MD' CS' Hd' a1 a2 a3 a4 a5
    obtain ⟨h1, h2⟩ := h ST' MD' CS' Hd' k1 (fun j hj => k2 j (Or.inl hj)) a1 a2 a3 a4 a5
    unfold wY_explore_98
    refine qy_quiet hw P I M (fun p hp hq => ?_) (fun hnq => br_t (by decide) ?_)
    · have e := pg_quiet hw hq
      refine br_f (nI_pos (by omega)) ⟨pk_in l 24 (by omega), nm_r (qa_u (by omega)) (qy_ex120 hw P I M (by omega) hl (fun y => ?_) (fun y S' M' => ?_))⟩
      · rw [pg_mvS (by omega) hp, e] at y; exact absurd rfl y
      · rw [pg_mvS (by omega) hp, e] at M'
        exact h2 p hp hq S' M'
    · obtain ⟨b1, b2⟩ := h1 hnq
      exact qy_ex120 (c := 0) hw P I M (by omega) hl b1 b2
  refine qy_outc hw P I M (fun hf => ?_) (fun hf => ?_)
  · have hcp := pg_fin hw I hf
    have hcl := pg_codeL hw H
    refine br_f (nI_pos (by omega)) (qy_insL (q := 0) hw (by omega) hL hcp (fun MD' CS' hL' f1 f2 => ?_))
    exact q98 MD' CS' _ hL' (fun O _ hd => Or.inl hd) (fun _ => Or.inr rfl) f1 (fun j hj => f2 j (Or.inr (by omega)))
  · exact br_t (by decide) (q98 MD CS Hd hL (fun O _ hd => hd) (fun z => absurd z hf) (fun _ _ => rfl) (fun _ _ => rfl))
end
end
section
/-! Y: explore visits every valid order -/
theorem pg_some {g : pg_T} (hw : pg_wf g) {pc : Nat → Nat} {H : List Nat} (I : pg_inv g pc H) (hnq : ∀ p, p < pg_n g → ¬ pg_Q g pc H p) (hl : H.length < pg_N g) {O : List Nat} (hO : pg_cp g O) (hx : pg_xt H O) : ∃ c, c < 6 ∧ (pg_mv g pc H c).1 = 0 ∧ pg_xt (pg_mv g pc H c).2.2 O := by
  have hn3 := hw.2.1
  obtain ⟨e, he⟩ := pg_xtn hx (by rw [hO.2]; exact hl)
  have hok := pg_xto he hO.1
  have hp := hok.1.1
  have hp3 : e / 8 < 3 := by omega
  have st : ∀ H', pg_spf g pc H (e / 8) = (0, pg_up pc (e / 8), H') → pg_xt H' O → ∃ c, c < 6 ∧ (pg_mv g pc H c).1 = 0 ∧ pg_xt (pg_mv g pc H c).2.2 O := by
    intro H' h1 h2
    refine ⟨e / 8, by omega, ?_, ?_⟩
    · rw [pg_mvS hp3 hp, h1]
    · rw [pg_mvS hp3 hp, h1]; exact h2
  rcases pg_child hw I hok with ⟨R, hR⟩ | ⟨hL, h⟩
  · refine ⟨e / 8 + 3, by omega, ?_, ?_⟩
    · rw [pg_mvT hp, pg_dp1 hR]
    · rw [pg_mvT hp, pg_dp1 hR]; exact he
  · rcases h with ⟨a, b⟩ | ⟨a, b, c⟩ | ⟨a, b, c⟩ | ⟨a, b, c⟩ | a | ⟨a, b⟩
    · exact st _ (pg_sp1 hL (by rw [a]; exact b)) (by rw [a]; exact he)
    · exact st _ (pg_sp50 hL (by rw [a]; exact b) c) (by rw [a]; exact he)
    · exact st _ (pg_spS0 hL (by rw [a]; exact b) c) (by rw [a]; exact he)
    · exact st _ (pg_spS1 hL a (Nat.pos_iff_ne_zero.mp b) c) hx
    · exact absurd ⟨hL, Or.inl a⟩ (hnq _ hp)
    · exact absurd ⟨hL, Or.inr ⟨a, b⟩⟩ (hnq _ hp)
theorem pg_bdm {g : pg_T} {pc : Nat → Nat} {H : List Nat} : ∀ {c : Nat}, c ≤ 6 → pg_bd g pc H c ≤ pg_bd g pc H 6 := by
  have st : ∀ c, pg_bd g pc H c ≤ pg_bd g pc H (c + 1) := fun c => by simp only [pg_bd]; omega
  intro c hc
  obtain ⟨d, hd⟩ : ∃ d, c + d = 6 := ⟨6 - c, by omega⟩
  rw [← hd]
  clear hd hc
  induction d with
  | zero => exact Nat.le_refl _
  | succ d ih => exact Nat.le_trans ih (st (c + d))
section
variable {k_procs k_cells k_deep k_orderN k_workN : Int32} {b_len b_kind b_opA b_opW b_s b_order b_made b_codes b_stack b_choice b_work b_rd : Nat → Int32}
variable {g : pg_T}
theorem qy_visit (hw : pg_wf g) (P : qx_P g b_kind b_opA b_opW b_len) {post : Int32 → SY → Prop} :
    ∀ (μ n t l : Nat) (pc : Nat → Nat) (H : List Nat) (S MD CS ST CH : Nat → Int32) (Hd : List Nat → Prop), pg_rm g pc H < μ → pg_inv g pc H → qy_Ms g pc H S → 1 ≤ l → l + pg_rm g pc H ≤ 22 → CH l = 0 → qy_L g 0 Hd MD CS → t + pg_co g pc H ≤ 1000000000 → 1000000000 < n + t →
      (∀ n' t' S' MD' CS' ST' CH', t' ≤ t + pg_co g pc H → 1000000000 < n' + t' → (∀ i, i < 32 → S' i = ST (32 * (l - 1) + i)) → (∀ j, j < 32 * l → ST' j = ST j) → (∀ j, j < l → CH' j = CH j) → qy_L g 0 (fun O => Hd O ∨ pg_xt H O) MD' CS' → (∀ j, j ≠ 0 → MD' j = MD j) → (∀ j, 256 ≤ j → CS' j = CS j) → wY_explore_27 post n' (nI (l - 1)) (nI t') (nI (pg_n g)) (nI (pg_c g)) (nI (pg_d g)) k_orderN k_workN b_len b_kind b_opA b_opW S' b_order MD' CS' ST' CH' b_work b_rd) →
      wY_explore_27 post n (nI l) (nI t) (nI (pg_n g)) (nI (pg_c g)) (nI (pg_d g)) k_orderN k_workN b_len b_kind b_opA b_opW S b_order MD CS ST CH b_work b_rd := by
  have hn3 := hw.2.1
  intro μ
  induction μ with
  | zero => intro n t l pc H S MD CS ST CH Hd h; omega
  | succ μ ih =>
    intro n t l pc H S MD CS ST CH Hd hμ I M hl1 hl hch hL ht hn CONT
    have hrow : ∀ (k c n' t' : Nat) (S' MD' CS' ST' CH' : Nat → Int32) (Hd' : List Nat → Prop), c + k = 6 → 1 ≤ c → qy_Ms g pc H S' → qy_Ms g pc H (fun i => ST' (32 * l + i)) → (∀ j, j < 32 * l → ST' j = ST j) → CH' l = nI c → (∀ j, j < l → CH' j = CH j) → qy_L g 0 Hd' MD' CS' → (∀ j, j ≠ 0 → MD' j = MD j) → (∀ j, 256 ≤ j → CS' j = CS j) →
        (∀ O, pg_cp g O → (Hd O ∨ pg_xt H O) → (Hd' O ∨ ∃ c', c ≤ c' ∧ c' < 6 ∧ (pg_mv g pc H c').1 = 0 ∧ pg_xt (pg_mv g pc H c').2.2 O)) → t' + (pg_bd g pc H 6 - pg_bd g pc H c) + 1 ≤ t + pg_co g pc H → 1000000000 < n' + t' → wY_explore_27 post n' (nI l) (nI t') (nI (pg_n g)) (nI (pg_c g)) (nI (pg_d g)) k_orderN k_workN b_len b_kind b_opA b_opW S' b_order MD' CS' ST' CH' b_work b_rd := by
      intro k
      induction k with
      | zero =>
        intro c n' t' S' MD' CS' ST' CH' Hd' hk hc1 M' Mr hST hCl hCj hL' f1 f2 hob hb hn'
        obtain rfl : c = 6 := by omega
        obtain ⟨n', rfl⟩ : ∃ k, n' = k + 1 := ⟨n' - 1, by omega⟩
        refine qy_exF hl1 (by omega) (by omega) hCl (fun S'' hS'' => CONT n' (t' + 1) S'' MD' CS' ST' CH' (by omega) (by omega) (fun i hi => ?_) hST hCj (qy_Lm hL' (fun O ho hd => ?_)) f1 f2)
        · rw [hS'' i hi]; exact hST _ (by omega)
        · rcases hob O ho hd with z | ⟨c', a, b, _⟩
          · exact z
          · exact absurd b (Nat.not_lt.mpr a)
      | succ k ihk =>
        intro c n' t' S' MD' CS' ST' CH' Hd' hk hc1 M' Mr hST hCl hCj hL' f1 f2 hob hb hn'
        obtain ⟨n', rfl⟩ : ∃ k, n' = k + 1 := ⟨n' - 1, by omega⟩
        have hc6 : c < 6 := by omega
        have bm : pg_bd g pc H (c + 1) ≤ pg_bd g pc H 6 := pg_bdm (by omega)
        have bs : pg_bd g pc H (c + 1) = pg_bd g pc H c + 1 + pg_mc g pc H c := rfl
        have ht9 : t' < 1000000000 := by omega
        have hn9 : 1000000000 < n' + (t' + 1) := by omega
        have hk' : c + 1 + k = 6 := by omega
        refine qy_exM hw P I M' hl1 (by omega) ht9 hc1 hc6 hCl (fun bad => ?_) (fun good Sc Mc => ?_)
        · have m0 : pg_mc g pc H c = 0 := if_neg bad
          have hb' : t' + 1 + (pg_bd g pc H 6 - pg_bd g pc H (c + 1)) + 1 ≤ t + pg_co g pc H := by omega
          refine ihk (c + 1) n' (t' + 1) S' MD' CS' ST' _ Hd' hk' (Nat.succ_le_succ (Nat.zero_le c)) M' Mr hST pk_us (fun j hj => by rw [pk_un (Nat.ne_of_lt hj)]; exact hCj j hj) hL' f1 f2 (fun O ho hd => ?_) hb' hn9
          rcases hob O ho hd with z | ⟨c', a, b, d, e⟩
          · exact Or.inl z
          · refine Or.inr ⟨c', ?_, b, d, e⟩
            rcases Nat.lt_or_ge c c' with w | w
            · exact w
            · have : c' = c := Nat.le_antisymm w a
              subst this; exact absurd d bad
        · have m0 : pg_mc g pc H c = pg_co g (pg_mv g pc H c).2.1 (pg_mv g pc H c).2.2 := if_pos good
          have hr := pg_mvr hw I hc6 good
          refine ih n' (t' + 1) (l + 1) (pg_mv g pc H c).2.1 (pg_mv g pc H c).2.2 Sc MD' CS' ST' _ Hd' (by omega) (pg_mvi hw I c) Mc (by omega) (by omega) pk_us hL' (by omega) hn9 ?_
          intro n'' t'' S'' MD'' CS'' ST'' CH'' u1 u2 u3 u4 u5 u6 u7 u8
          have hl11 : l + 1 - 1 = l := rfl
          rw [hl11] at u3 ⊢
          refine ihk (c + 1) n'' t'' S'' MD'' CS'' ST'' CH'' _ hk' (by omega) (qy_Mx Mr hw I u3) (qy_Mx Mr hw I (fun i hi => u4 _ (by omega))) (fun j hj => by rw [u4 j (by omega)]; exact hST j hj) ?_ (fun j hj => ?_) u6 (fun j hj => by rw [u7 j hj]; exact f1 j hj) (fun j hj => by rw [u8 j hj]; exact f2 j hj) (fun O ho hd => ?_) (by omega) u2
          · rw [u5 l (by omega), pk_un (by omega), pk_us]
          · rw [u5 j (by omega), pk_un (by omega), pk_un (by omega)]; exact hCj j hj
          · rcases hob O ho hd with z | ⟨c', a, b, d, e⟩
            · exact Or.inl (Or.inl z)
            · rcases Nat.lt_or_ge c c' with w | w
              · exact Or.inr ⟨c', w, b, d, e⟩
              · have : c' = c := Nat.le_antisymm w a
                subst this; exact Or.inl (Or.inr e)
    obtain ⟨n, rfl⟩ : ∃ k, n = k + 1 := ⟨n - 1, by omega⟩
    have co1 : 1 ≤ pg_co g pc H := by
      unfold pg_co
      have h1 : 1 ≤ pg_gg (pg_sS g pc) (pg_sB g pc H) := by rw [pg_ggE]; omega
      exact Nat.le_trans h1 (Nat.le_mul_of_pos_left _ (by omega))
    refine qy_ex1 hw P I M hl1 (by omega) (by omega) hch hL (fun ST' MD' CS' Hd' k1 k2 hL' d1 d2 f1 f2 => ⟨fun hnq => ?_, fun p hp hq Sc Mc => ?_⟩)
    · have Mr : qy_Ms g pc H (fun i => ST' (32 * l + i)) := qy_Mx M hw I k1
      have b6 := pg_bd6 hw I hnq
      have ob : ∀ O, pg_cp g O → (Hd O ∨ pg_xt H O) → (Hd' O ∨ ∃ c', 0 ≤ c' ∧ c' < 6 ∧ (pg_mv g pc H c').1 = 0 ∧ pg_xt (pg_mv g pc H c').2.2 O) := by
        intro O ho hd
        rcases hd with hd | hd
        · exact Or.inl (d1 O ho hd)
        · by_cases hlen : H.length < pg_N g
          · obtain ⟨c, a, b, d⟩ := pg_some hw I hnq hlen ho hd
            exact Or.inr ⟨c, Nat.zero_le _, a, b, d⟩
          · left
            have e : O = H := pg_xte hd (by rw [ho.2]; omega)
            rw [e]
            apply d2
            intro p hp
            apply Classical.byContradiction
            intro z
            exact hnq p hp (pg_unf hw I (by omega) z)
      have bm : pg_bd g pc H 1 ≤ pg_bd g pc H 6 := pg_bdm (by omega)
      have bs : pg_bd g pc H 1 = 0 + 1 + pg_mc g pc H 0 := rfl
      have hn9 : 1000000000 < n + (t + 1) := by omega
      refine ⟨fun bad => ?_, fun good Sc Mc => ?_⟩
      · have m0 : pg_mc g pc H 0 = 0 := if_neg bad
        have hb' : t + 1 + (pg_bd g pc H 6 - pg_bd g pc H 1) + 1 ≤ t + pg_co g pc H := by omega
        refine hrow 5 1 n (t + 1) S MD' CS' ST' _ Hd' rfl (Nat.le_refl _) M Mr k2 pk_us (fun j hj => pk_un (Nat.ne_of_lt hj)) hL' f1 f2 (fun O ho hd => ?_) hb' hn9
        rcases ob O ho hd with z | ⟨c', a, b, d, e⟩
        · exact Or.inl z
        · refine Or.inr ⟨c', ?_, b, d, e⟩
          rcases Nat.eq_zero_or_pos c' with w | w
          · subst w; exact absurd d bad
          · exact w
      · have m0 : pg_mc g pc H 0 = pg_co g (pg_mv g pc H 0).2.1 (pg_mv g pc H 0).2.2 := if_pos good
        have hr := pg_mvr hw I (c := 0) (by omega) good
        refine ih n (t + 1) (l + 1) (pg_mv g pc H 0).2.1 (pg_mv g pc H 0).2.2 Sc MD' CS' ST' _ Hd' (by omega) (pg_mvi hw I 0) Mc (by omega) (by omega) pk_us hL' (by omega) hn9 ?_
        intro n'' t'' S'' MD'' CS'' ST'' CH'' u1 u2 u3 u4 u5 u6 u7 u8
        have hl11 : l + 1 - 1 = l := rfl
        rw [hl11] at u3 ⊢
        refine hrow 5 1 n'' t'' S'' MD'' CS'' ST'' CH'' _ rfl (Nat.le_refl _) (qy_Mx Mr hw I u3) (qy_Mx Mr hw I (fun i hi => u4 _ (by omega))) (fun j hj => by rw [u4 j (by omega)]; exact k2 j hj) ?_ (fun j hj => ?_) u6 (fun j hj => by rw [u7 j hj]; exact f1 j hj) (fun j hj => by rw [u8 j hj]; exact f2 j hj) (fun O ho hd => ?_) (by omega) u2
        · rw [u5 l (by omega), pk_un (by omega), pk_us]
        · rw [u5 j (by omega), pk_un (by omega), pk_un (by omega)]
        · rcases ob O ho hd with z | ⟨c', a, b, d, e⟩
          · exact Or.inl (Or.inl z)
          · rcases Nat.eq_zero_or_pos c' with w | w
            · subst w; exact Or.inl (Or.inr e)
            · exact Or.inr ⟨c', w, b, d, e⟩
    · have Mr : qy_Ms g pc H (fun i => ST' (32 * l + i)) := qy_Mx M hw I k1
      have cq := pg_coQ hw I (by omega) hq
      have e := pg_quiet hw hq
      have good : (pg_mv g pc H p).1 = 0 := by rw [pg_mvS (by omega) hp, e]
      have hr := pg_mvr hw I (c := p) (by omega) good
      have hi := pg_mvi hw I p
      rw [pg_mvS (by omega) hp, e] at hr hi
      dsimp only at hr hi
      refine ih n (t + 1) (l + 1) (pg_up pc p) H Sc MD' CS' ST' _ Hd' (by omega) hi Mc (by omega) (by omega) pk_us hL' (by omega) (by omega) ?_
      intro n'' t'' S'' MD'' CS'' ST'' CH'' u1 u2 u3 u4 u5 u6 u7 u8
      have hl11 : l + 1 - 1 = l := rfl
      rw [hl11] at u3 ⊢
      refine hrow 0 6 n'' t'' S'' MD'' CS'' ST'' CH'' _ rfl (by omega) (qy_Mx Mr hw I u3) (qy_Mx Mr hw I (fun i hi => u4 _ (by omega))) (fun j hj => by rw [u4 j (by omega)]; exact k2 j hj) ?_ (fun j hj => ?_) u6 (fun j hj => by rw [u7 j hj]; exact f1 j hj) (fun j hj => by rw [u8 j hj]; exact f2 j hj) (fun O ho hd => ?_) (by omega) u2
      · rw [u5 l (by omega), pk_un (by omega), pk_us]
      · rw [u5 j (by omega), pk_un (by omega), pk_un (by omega), pk_un (by omega)]
      · rcases hd with hd | hd
        · exact Or.inl (Or.inl (d1 O ho hd))
        · exact Or.inl (Or.inr hd)
theorem qy_explore (hw : pg_wf g) (P : qx_P g b_kind b_opA b_opW b_len) {post : Int32 → SY → Prop}
    (hN : ∀ n c, qc_I g n c → (∀ O, pg_cp g O → qc_in n c (pg_code g O)) → ∀ S ST CH MD CS, (∀ i, i < 32 → S i = b_s i) → (∀ i, i < n → CS (256 * 0 + i) = nI (c i)) → MD 0 = nI n → (∀ j, j ≠ 0 → MD j = b_made j) → (∀ j, 256 ≤ j → CS j = b_codes j) → post (nI n) ((nI (pg_n g)), (nI (pg_c g)), (nI (pg_d g)), k_orderN, k_workN, b_len, b_kind, b_opA, b_opW, S, b_order, MD, CS, ST, CH, b_work, b_rd))
    (hO : qc_ov g → ∀ S ST CH MD CS, (∀ i, i < 32 → S i = b_s i) → MD 0 = -1 → (∀ j, j ≠ 0 → MD j = b_made j) → (∀ j, 256 ≤ j → CS j = b_codes j) → post (-12) ((nI (pg_n g)), (nI (pg_c g)), (nI (pg_d g)), k_orderN, k_workN, b_len, b_kind, b_opA, b_opW, S, b_order, MD, CS, ST, CH, b_work, b_rd)) :
    wpY_explore post ((nI (pg_n g)), (nI (pg_c g)), (nI (pg_d g)), k_orderN, k_workN, b_len, b_kind, b_opA, b_opW, b_s, b_order, b_made, b_codes, b_stack, b_choice, b_work, b_rd) := by
  obtain ⟨rc, rr⟩ := pg_rootc hw
  refine nm_e (qy_keep (l := 0) (by omega) (fun ST k1 k2 => qy_restart (fun S hS => nm_e ⟨1000000001, ?_⟩)))
  refine qy_visit hw P 22 1000000001 0 1 (fun _ => 0) [] S (upd b_made 0 0) b_codes ST (upd b_choice 1 0) (fun _ => False) (by omega) pg_inv0 (qy_Mz hS) (by omega) (by omega) pk_us (Or.inl ⟨0, fun _ => 0, pk_us, ⟨by omega, fun i j _ h => absurd h (by omega), fun i h => absurd h (by omega)⟩, fun i h => absurd h (by omega), fun O _ hd => hd.elim⟩) (by omega) (by omega) ?_
  intro n' t' S' MD' CS' ST' CH' u1 u2 u3 u4 u5 u6 u7 u8
  obtain ⟨n', rfl⟩ : ∃ k, n' = k + 1 := ⟨n' - 1, by omega⟩
  have hLT : qy_L g 0 (fun _ => True) MD' CS' := qy_Lm u6 (fun O _ _ => Or.inr ⟨O, by simp⟩)
  have hS' : ∀ i, i < 32 → S' i = b_s i := fun i hi => by rw [u3 i hi]; exact k1 i hi
  have hM' : ∀ j, j ≠ 0 → MD' j = b_made j := fun j hj => by rw [u7 j hj, pk_un hj]
  refine br_f (nI_ge (b := 1000000000) (by omega) (by decide)) (br_t (by decide) ?_)
  unfold wY_explore_169
  exact qy_fin (q := 0) (by omega) hLT (fun n c a b d e => hN n c a b S' ST' CH' MD' CS' hS' d e hM' u8) (fun a MD'' b d => hO a S' ST' CH' MD'' CS' hS' b (fun j hj => by rw [d j hj]; exact hM' j hj) u8)
end
end
section
/-! the relation -/
def qr_L (a_codes a_codeCount a_made b_codes b_made : Nat → Int32) : Prop :=
  ∀ q, q < 2 → (a_made q = 0 ∧ b_made q = -1) ∨ (a_made q = 1 ∧ ∃ n, n ≤ 256 ∧ a_codeCount q = nI n ∧ b_made q = nI n ∧ ∀ i, i < n → a_codes (256 * q + i) = b_codes (256 * q + i))
def qr_F (g : pg_T) (pc : Nat → Nat) (H Ho : List Nat) (f_logSize : Int32) (a_kindAt a_opA a_opW a_length a_events a_pcOf a_regs a_cells a_bufEvent a_bufValue a_bufSize a_log a_order a_codes a_codeCount a_made b_len b_kind b_opA b_opW b_s b_order b_made b_codes : Nat → Int32) : Prop :=
  pg_wf g ∧ pg_inv g pc H ∧ Ho.Nodup ∧ (∀ x, x ∈ Ho → pg_ev g x) ∧ qx_P g a_kindAt a_opA a_opW a_length ∧ qa_Ar (pg_es g 24) a_events ∧ qx_Mc g pc H a_pcOf a_regs a_cells a_bufEvent a_bufValue a_bufSize a_log f_logSize ∧ qa_Ar Ho a_order ∧
  qx_P g b_kind b_opA b_opW b_len ∧ qy_Ms g pc H b_s ∧ qa_Ar Ho b_order ∧ qr_L a_codes a_codeCount a_made b_codes b_made
def i_Rel (_ : Nat) (u : SX) (v : SY) : Prop := match u, v with
  | (f_procs, f_addrs, f_bufferDepth, f_eventCount, f_logSize, f_orderSize, f_seqLen, f_searchMask, f_searchStarted, a_kindAt, a_opA, a_opW, a_length, a_events, a_pcOf, a_regs, a_cells, a_bufEvent, a_bufValue, a_bufSize, a_log, a_order, a_codes, a_codeCount, a_made, a_seq, a_picked, a_runPc, a_runReg, a_runMem, a_runLast, a_runValue, a_runSource), (k_procs, k_cells, k_deep, k_orderN, k_workN, b_len, b_kind, b_opA, b_opW, b_s, b_order, b_made, b_codes, b_stack, b_choice, b_work, b_rd) => ∃ g pc H Ho, f_procs = nI (pg_n g) ∧ f_addrs = nI (pg_c g) ∧ f_bufferDepth = nI (pg_d g) ∧ f_eventCount = nI (pg_N g) ∧ f_orderSize = nI Ho.length ∧ k_procs = nI (pg_n g) ∧ k_cells = nI (pg_c g) ∧ k_deep = nI (pg_d g) ∧ k_orderN = nI Ho.length ∧
    qr_F g pc H Ho f_logSize a_kindAt a_opA a_opW a_length a_events a_pcOf a_regs a_cells a_bufEvent a_bufValue a_bufSize a_log a_order a_codes a_codeCount a_made b_len b_kind b_opA b_opW b_s b_order b_made b_codes
theorem i_up {k : Nat} {u : SX} {v : SY} (h : i_Rel k u v) : i_Rel (k + 5) u v := h
theorem qr_el {P : SX → SY → Prop} (h : ∀ (g : pg_T) (pc : Nat → Nat) (H Ho : List Nat) (f_logSize f_seqLen f_searchMask f_searchStarted k_workN : Int32) (a_kindAt a_opA a_opW a_length a_events a_pcOf a_regs a_cells a_bufEvent a_bufValue a_bufSize a_log a_order a_codes a_codeCount a_made a_seq a_picked a_runPc a_runReg a_runMem a_runLast a_runValue a_runSource b_len b_kind b_opA b_opW b_s b_order b_made b_codes b_stack b_choice b_work b_rd : Nat → Int32),
    qr_F g pc H Ho f_logSize a_kindAt a_opA a_opW a_length a_events a_pcOf a_regs a_cells a_bufEvent a_bufValue a_bufSize a_log a_order a_codes a_codeCount a_made b_len b_kind b_opA b_opW b_s b_order b_made b_codes → P ((nI (pg_n g)), (nI (pg_c g)), (nI (pg_d g)), (nI (pg_N g)), f_logSize, (nI Ho.length), f_seqLen, f_searchMask, f_searchStarted, a_kindAt, a_opA, a_opW, a_length, a_events, a_pcOf, a_regs, a_cells, a_bufEvent, a_bufValue, a_bufSize, a_log, a_order, a_codes, a_codeCount, a_made, a_seq, a_picked, a_runPc, a_runReg, a_runMem, a_runLast, a_runValue, a_runSource) ((nI (pg_n g)), (nI (pg_c g)), (nI (pg_d g)), (nI Ho.length), k_workN, b_len, b_kind, b_opA, b_opW, b_s, b_order, b_made, b_codes, b_stack, b_choice, b_work, b_rd)) {k : Nat} {u : SX} {v : SY} (I : i_Rel k u v) : P u v := by
  obtain ⟨f_procs, f_addrs, f_bufferDepth, f_eventCount, f_logSize, f_orderSize, f_seqLen, f_searchMask, f_searchStarted, a_kindAt, a_opA, a_opW, a_length, a_events, a_pcOf, a_regs, a_cells, a_bufEvent, a_bufValue, a_bufSize, a_log, a_order, a_codes, a_codeCount, a_made, a_seq, a_picked, a_runPc, a_runReg, a_runMem, a_runLast, a_runValue, a_runSource⟩ := u
  obtain ⟨k_procs, k_cells, k_deep, k_orderN, k_workN, b_len, b_kind, b_opA, b_opW, b_s, b_order, b_made, b_codes, b_stack, b_choice, b_work, b_rd⟩ := v
  obtain ⟨g, pc, H, Ho, e1, e2, e3, e4, e5, e6, e7, e8, e9, F⟩ := I
  subst e1 e2 e3 e4 e5 e6 e7 e8 e9
  exact h g pc H Ho f_logSize f_seqLen f_searchMask f_searchStarted k_workN a_kindAt a_opA a_opW a_length a_events a_pcOf a_regs a_cells a_bufEvent a_bufValue a_bufSize a_log a_order a_codes a_codeCount a_made a_seq a_picked a_runPc a_runReg a_runMem a_runLast a_runValue a_runSource b_len b_kind b_opA b_opW b_s b_order b_made b_codes b_stack b_choice b_work b_rd F
section
variable {f_procs f_addrs f_bufferDepth f_eventCount f_logSize f_orderSize f_seqLen f_searchMask f_searchStarted : Int32} {a_kindAt a_opA a_opW a_length a_events a_pcOf a_regs a_cells a_bufEvent a_bufValue a_bufSize a_log a_order a_codes a_codeCount a_made a_seq a_picked a_runPc a_runReg a_runMem a_runLast a_runValue a_runSource : Nat → Int32}
variable {k_procs k_cells k_deep k_orderN k_workN : Int32} {b_len b_kind b_opA b_opW b_s b_order b_made b_codes b_stack b_choice b_work b_rd : Nat → Int32}
variable {g : pg_T} {pc : Nat → Nat} {H Ho : List Nat} {k : Nat}
theorem qr_in (F : qr_F g pc H Ho f_logSize a_kindAt a_opA a_opW a_length a_events a_pcOf a_regs a_cells a_bufEvent a_bufValue a_bufSize a_log a_order a_codes a_codeCount a_made b_len b_kind b_opA b_opW b_s b_order b_made b_codes) : i_Rel k ((nI (pg_n g)), (nI (pg_c g)), (nI (pg_d g)), (nI (pg_N g)), f_logSize, (nI Ho.length), f_seqLen, f_searchMask, f_searchStarted, a_kindAt, a_opA, a_opW, a_length, a_events, a_pcOf, a_regs, a_cells, a_bufEvent, a_bufValue, a_bufSize, a_log, a_order, a_codes, a_codeCount, a_made, a_seq, a_picked, a_runPc, a_runReg, a_runMem, a_runLast, a_runValue, a_runSource) ((nI (pg_n g)), (nI (pg_c g)), (nI (pg_d g)), (nI Ho.length), k_workN, b_len, b_kind, b_opA, b_opW, b_s, b_order, b_made, b_codes, b_stack, b_choice, b_work, b_rd) :=
  ⟨g, pc, H, Ho, rfl, rfl, rfl, rfl, rfl, rfl, rfl, rfl, rfl, F⟩
end
theorem qa_yF {x y : Int32} {A B : Prop} (h : x < 0 ∨ y ≤ x) (a : A) : (x < 0 → A) ∧ (¬ x < 0 → ((y ≤ x → A) ∧ (¬ y ≤ x → B))) := br_c (fun _ => a) (fun z => br_t (h.resolve_left z) a)
theorem qa_yG {x y : Int32} {A B : Prop} (h : x < 0 ∨ y ≤ x) (a : A) : (x < 0 → A) ∧ (¬ x < 0 → ((x < y → B) ∧ (¬ x < y → A))) := br_c (fun _ => a) (fun z => br_f (Int32.not_lt.mpr (h.resolve_left z)) a)
theorem qa_yT {x y : Nat} {A B : Prop} (h : x < y) (hy : y < 2 ^ 31) (b : B) : (nI x < 0 → A) ∧ (¬ nI x < 0 → ((nI y ≤ nI x → A) ∧ (¬ nI y ≤ nI x → B))) := br_f (nI_pos (by omega)) (br_f (nI_ge h hy) b)
theorem qa_yU {x y : Nat} {A B : Prop} (h : x < y) (hy : y < 2 ^ 31) (b : B) : (nI x < 0 → A) ∧ (¬ nI x < 0 → ((nI x < nI y → B) ∧ (¬ nI x < nI y → A))) := br_f (nI_pos (by omega)) (br_t (nI_lt h hy) b)
end
section
/-! the calls: readers and the stepped machine -/
theorem qa_yP {m p i l : Nat} {ln : Nat → Int32} {A B : Prop} (hp : p < m) (hm : m ≤ 3) (hl : ln p = nI l) (hi : i < l) (hl' : l < 2 ^ 31) (b : B) : (nI p < 0 → A) ∧ (¬ nI p < 0 → ((nI m ≤ nI p → A) ∧ (¬ nI m ≤ nI p → ((nI i < 0 → A) ∧ (¬ nI i < 0 → (vp_in (nI p) 3 ∧ ((nI i < ln (nI p).toNatClampNeg → B) ∧ (¬ nI i < ln (nI p).toNatClampNeg → A)))))))) := by
  refine br_f (nI_pos (by omega)) (br_f (nI_ge hp (by omega)) (br_f (nI_pos (by omega)) ⟨pk_in p 3 (by omega), br_t ?_ b⟩))
  rw [nI_clamp (by omega), hl]; exact nI_lt hi hl'
theorem qa_yN {m p l : Nat} {ln : Nat → Int32} {y : Int32} {A B : Prop} (hp : p < m) (hm : m ≤ 3) (hl : ln p = nI l) (hy : y < 0 ∨ nI l ≤ y) (a : A) : (nI p < 0 → A) ∧ (¬ nI p < 0 → ((nI m ≤ nI p → A) ∧ (¬ nI m ≤ nI p → ((y < 0 → A) ∧ (¬ y < 0 → (vp_in (nI p) 3 ∧ ((y < ln (nI p).toNatClampNeg → B) ∧ (¬ y < ln (nI p).toNatClampNeg → A)))))))) := by
  refine br_f (nI_pos (by omega)) (br_f (nI_ge hp (by omega)) (br_c (fun _ => a) (fun z => ⟨pk_in p 3 (by omega), br_f ?_ a⟩)))
  rw [nI_clamp (by omega), hl]; exact Int32.not_lt.mpr (hy.resolve_left z)
theorem i_vc_depth {k : Nat} {u : SX} {v : SY} (I : i_Rel k u v) (hk : k + 5 ≤ 2563) : wpX_depth (fun r => wpY_depth (fun r' => r' = r ∧ i_Rel (k + 5) u v) v) u := by
  refine qr_el (P := fun u v => wpX_depth (fun r => wpY_depth (fun r' => r' = r ∧ i_Rel (k + 5) u v) v) u) ?_ I
  intro g pc H Ho f_logSize f_seqLen f_searchMask f_searchStarted k_workN a_kindAt a_opA a_opW a_length a_events a_pcOf a_regs a_cells a_bufEvent a_bufValue a_bufSize a_log a_order a_codes a_codeCount a_made a_seq a_picked a_runPc a_runReg a_runMem a_runLast a_runValue a_runSource b_len b_kind b_opA b_opW b_s b_order b_made b_codes b_stack b_choice b_work b_rd F
  obtain ⟨hw, hI, hn, he, PX, hE, MX, aX, PY, MY, aY, hL⟩ := id F
  have hn3 := hw.2.1
  have hc3 := hw.2.2.2.1
  have hd3 := hw.2.2.2.2.1
  have hN6 : pg_N g ≤ 6 := hw.2.2.2.2.2.2.2.2.2
  exact ⟨rfl, qr_in F⟩
theorem i_vc_instr {k : Nat} {u : SX} {v : SY} (I : i_Rel k u v) (hk : k + 5 ≤ 2563) (v1 : Int32) (v2 : Int32) : wpX_instr (fun r => wpY_instr (fun r' => r' = r ∧ i_Rel (k + 5) u v) v v1 v2) u v1 v2 := by
  refine qr_el (P := fun u v => wpX_instr (fun r => wpY_instr (fun r' => r' = r ∧ i_Rel (k + 5) u v) v v1 v2) u v1 v2) ?_ I
  intro g pc H Ho f_logSize f_seqLen f_searchMask f_searchStarted k_workN a_kindAt a_opA a_opW a_length a_events a_pcOf a_regs a_cells a_bufEvent a_bufValue a_bufSize a_log a_order a_codes a_codeCount a_made a_seq a_picked a_runPc a_runReg a_runMem a_runLast a_runValue a_runSource b_len b_kind b_opA b_opW b_s b_order b_made b_codes b_stack b_choice b_work b_rd F
  obtain ⟨hw, hI, hn, he, PX, hE, MX, aX, PY, MY, aY, hL⟩ := id F
  have hn3 := hw.2.1
  have hc3 := hw.2.2.2.1
  have hd3 := hw.2.2.2.2.1
  have hN6 : pg_N g ≤ 6 := hw.2.2.2.2.2.2.2.2.2
  unfold wpX_instr
  rcases (or_assoc.mpr (pk_ix v1 (n := pg_n g) (by omega))) with h | ⟨p, hp, rfl⟩
  · exact qx_isN1 h (br_t rfl (qa_yF h ⟨rfl, qr_in F⟩))
  · have hL5 := hw.2.2.2.2.2.1 p
    rcases (or_assoc.mpr (pk_ix v2 (n := pg_L g p) (by omega))) with h | ⟨i, hi, rfl⟩
    · exact qx_isN2 (by omega) hp (PX p).2.2.2 h (br_t rfl (qa_yN hp (by omega) (PY p).2.2.2 h ⟨rfl, qr_in F⟩))
    · have i24 : vp_in (nI (8 * p + i)) 24 := pk_in (8 * p + i) 24 (by omega)
      refine qx_isP (by omega) hp hi (by omega) (PX p).2.2.2 (br_f qa_10 (nm_r (qa_8 p i) ⟨i24, i24, i24, ?_⟩))
      refine qa_yP hp (by omega) (PY p).2.2.2 hi (by omega) (nm_r (qa_8 p i) ⟨i24, i24, i24, ?_, qr_in F⟩)
      rw [qa_kd PX (by omega), qa_oa PX (by omega), qa_ow PX (by omega), qa_kd PY (by omega), qa_oa PY (by omega), qa_ow PY (by omega)]
theorem i_vc_restart {k : Nat} {u : SX} {v : SY} (I : i_Rel k u v) (hk : k + 5 ≤ 2563) : wpX_restart (fun u' => wpY_restart (fun v' => i_Rel (k + 5) u' v') v) u := by
  refine qr_el (P := fun u v => wpX_restart (fun u' => wpY_restart (fun v' => i_Rel (k + 5) u' v') v) u) ?_ I
  intro g pc H Ho f_logSize f_seqLen f_searchMask f_searchStarted k_workN a_kindAt a_opA a_opW a_length a_events a_pcOf a_regs a_cells a_bufEvent a_bufValue a_bufSize a_log a_order a_codes a_codeCount a_made a_seq a_picked a_runPc a_runReg a_runMem a_runLast a_runValue a_runSource b_len b_kind b_opA b_opW b_s b_order b_made b_codes b_stack b_choice b_work b_rd F
  obtain ⟨hw, hI, hn, he, PX, hE, MX, aX, PY, MY, aY, hL⟩ := id F
  have hn3 := hw.2.1
  have hc3 := hw.2.2.2.1
  have hd3 := hw.2.2.2.2.1
  have hN6 : pg_N g ≤ 6 := hw.2.2.2.2.2.2.2.2.2
  exact qx_restart (fun PO RE CE BS h1 h2 => qy_restart (fun S hS => qr_in (pc := fun _ => 0) (H := []) ⟨hw, pg_inv0, hn, he, PX, hE, qx_Mz h1 h2, aX, PY, qy_Mz hS, aY, hL⟩))
theorem i_vc_step {k : Nat} {u : SX} {v : SY} (I : i_Rel k u v) (hk : k + 5 ≤ 2563) (v1 : Int32) : wpX_step (fun r u' => wpY_step (fun r' v' => r' = r ∧ i_Rel (k + 5) u' v') v v1) u v1 := by
  refine qr_el (P := fun u v => wpX_step (fun r u' => wpY_step (fun r' v' => r' = r ∧ i_Rel (k + 5) u' v') v v1) u v1) ?_ I
  intro g pc H Ho f_logSize f_seqLen f_searchMask f_searchStarted k_workN a_kindAt a_opA a_opW a_length a_events a_pcOf a_regs a_cells a_bufEvent a_bufValue a_bufSize a_log a_order a_codes a_codeCount a_made a_seq a_picked a_runPc a_runReg a_runMem a_runLast a_runValue a_runSource b_len b_kind b_opA b_opW b_s b_order b_made b_codes b_stack b_choice b_work b_rd F
  obtain ⟨hw, hI, hn, he, PX, hE, MX, aX, PY, MY, aY, hL⟩ := id F
  have hn3 := hw.2.1
  have hc3 := hw.2.2.2.1
  have hd3 := hw.2.2.2.2.1
  have hN6 : pg_N g ≤ 6 := hw.2.2.2.2.2.2.2.2.2
  rcases (or_assoc.mpr (pk_ix v1 (n := pg_n g) (by omega))) with h | ⟨p, hp, rfl⟩
  · unfold wpX_step
    exact qx_bF h (br_t rfl (qa_yG h ⟨rfl, qr_in F⟩))
  · exact qx_step hw PX hI hp MX (fun PO RE CE BE BV BS LG ls M1 => qy_step hw PY hI hp MY (fun S M2 _ => ⟨rfl, qr_in ⟨hw, pg_spi hw hI p, hn, he, PX, hE, M1, aX, PY, M2, aY, hL⟩⟩))
theorem i_vc_drain {k : Nat} {u : SX} {v : SY} (I : i_Rel k u v) (hk : k + 5 ≤ 2563) (v1 : Int32) : wpX_drain (fun r u' => wpY_drain (fun r' v' => r' = r ∧ i_Rel (k + 5) u' v') v v1) u v1 := by
  refine qr_el (P := fun u v => wpX_drain (fun r u' => wpY_drain (fun r' v' => r' = r ∧ i_Rel (k + 5) u' v') v v1) u v1) ?_ I
  intro g pc H Ho f_logSize f_seqLen f_searchMask f_searchStarted k_workN a_kindAt a_opA a_opW a_length a_events a_pcOf a_regs a_cells a_bufEvent a_bufValue a_bufSize a_log a_order a_codes a_codeCount a_made a_seq a_picked a_runPc a_runReg a_runMem a_runLast a_runValue a_runSource b_len b_kind b_opA b_opW b_s b_order b_made b_codes b_stack b_choice b_work b_rd F
  obtain ⟨hw, hI, hn, he, PX, hE, MX, aX, PY, MY, aY, hL⟩ := id F
  have hn3 := hw.2.1
  have hc3 := hw.2.2.2.1
  have hd3 := hw.2.2.2.2.1
  have hN6 : pg_N g ≤ 6 := hw.2.2.2.2.2.2.2.2.2
  rcases (or_assoc.mpr (pk_ix v1 (n := pg_n g) (by omega))) with h | ⟨p, hp, rfl⟩
  · unfold wpX_drain
    exact qx_bF h (br_t rfl (qa_yG h ⟨rfl, qr_in F⟩))
  · exact qx_drain hw PX hI hp MX (fun PO RE CE BE BV BS LG ls M1 => qy_drain hw PY hI hp MY (fun S M2 _ => ⟨rfl, qr_in ⟨hw, pg_dpi hw hI p, hn, he, PX, hE, M1, aX, PY, M2, aY, hL⟩⟩))
theorem i_vc_pc {k : Nat} {u : SX} {v : SY} (I : i_Rel k u v) (hk : k + 5 ≤ 2563) (v1 : Int32) : wpX_pc (fun r => wpY_pc (fun r' => r' = r ∧ i_Rel (k + 5) u v) v v1) u v1 := by
  refine qr_el (P := fun u v => wpX_pc (fun r => wpY_pc (fun r' => r' = r ∧ i_Rel (k + 5) u v) v v1) u v1) ?_ I
  intro g pc H Ho f_logSize f_seqLen f_searchMask f_searchStarted k_workN a_kindAt a_opA a_opW a_length a_events a_pcOf a_regs a_cells a_bufEvent a_bufValue a_bufSize a_log a_order a_codes a_codeCount a_made a_seq a_picked a_runPc a_runReg a_runMem a_runLast a_runValue a_runSource b_len b_kind b_opA b_opW b_s b_order b_made b_codes b_stack b_choice b_work b_rd F
  obtain ⟨hw, hI, hn, he, PX, hE, MX, aX, PY, MY, aY, hL⟩ := id F
  have hn3 := hw.2.1
  have hc3 := hw.2.2.2.1
  have hd3 := hw.2.2.2.2.1
  have hN6 : pg_N g ≤ 6 := hw.2.2.2.2.2.2.2.2.2
  unfold wpX_pc
  rcases (or_assoc.mpr (pk_ix v1 (n := pg_n g) (by omega))) with h | ⟨p, hp, rfl⟩
  · exact qx_bF h (br_t rfl (qa_yG h ⟨rfl, qr_in F⟩))
  · refine qx_bT hp (by omega) (br_f qa_10 ⟨pk_in p 3 (by omega), qa_yU hp (by omega) ⟨pk_in p 32 (by omega) (qa_i0 p), ?_, qr_in F⟩⟩)
    rw [qa_i0, nI_clamp (by omega), MX.1 p (by omega), MY.1 p (by omega)]
theorem i_vc_reg {k : Nat} {u : SX} {v : SY} (I : i_Rel k u v) (hk : k + 5 ≤ 2563) (v1 : Int32) (v2 : Int32) : wpX_reg (fun r => wpY_reg (fun r' => r' = r ∧ i_Rel (k + 5) u v) v v1 v2) u v1 v2 := by
  refine qr_el (P := fun u v => wpX_reg (fun r => wpY_reg (fun r' => r' = r ∧ i_Rel (k + 5) u v) v v1 v2) u v1 v2) ?_ I
  intro g pc H Ho f_logSize f_seqLen f_searchMask f_searchStarted k_workN a_kindAt a_opA a_opW a_length a_events a_pcOf a_regs a_cells a_bufEvent a_bufValue a_bufSize a_log a_order a_codes a_codeCount a_made a_seq a_picked a_runPc a_runReg a_runMem a_runLast a_runValue a_runSource b_len b_kind b_opA b_opW b_s b_order b_made b_codes b_stack b_choice b_work b_rd F
  obtain ⟨hw, hI, hn, he, PX, hE, MX, aX, PY, MY, aY, hL⟩ := id F
  have hn3 := hw.2.1
  have hc3 := hw.2.2.2.1
  have hd3 := hw.2.2.2.2.1
  have hN6 : pg_N g ≤ 6 := hw.2.2.2.2.2.2.2.2.2
  unfold wpX_reg
  rcases (or_assoc.mpr (pk_ix v1 (n := pg_n g) (by omega))) with h | ⟨p, hp, rfl⟩
  · exact qx_bF h (br_t rfl (qa_yF h ⟨rfl, qr_in F⟩))
  · rcases (or_assoc.mpr (pk_ix v2 (n := 2) (by omega))) with h | ⟨r, hr, rfl⟩
    · refine qx_bT hp (by omega) (br_f qa_10 (qx_bF h (br_t rfl (qa_yT hp (by omega) (br_c (fun _ => ⟨rfl, qr_in F⟩) (fun z => br_f ?_ ⟨rfl, qr_in F⟩))))))
      intro y
      have h2 := h.resolve_left z
      exact absurd (Int32.le_trans h2 y) (by decide)
    · refine qx_bT hp (by omega) (br_f qa_10 (qx_bT hr (by decide) (br_f qa_10 ⟨pk_in (2 * p + r) 6 (by omega) (qa_2 p r), qa_yT hp (by omega) (br_f (nI_pos (by omega)) (br_t (nI_le (b := 1) (by omega) (by decide)) ⟨pk_in (3 + 2 * p + r) 32 (by omega) (qa_i3 p r), ?_, qr_in F⟩))⟩)))
      rw [qa_i3, qa_2, nI_clamp (by omega), nI_clamp (by omega), MX.2.1 p r (by omega) hr, MY.2.1 p r (by omega) hr]
theorem i_vc_mem {k : Nat} {u : SX} {v : SY} (I : i_Rel k u v) (hk : k + 5 ≤ 2563) (v1 : Int32) : wpX_mem (fun r => wpY_mem (fun r' => r' = r ∧ i_Rel (k + 5) u v) v v1) u v1 := by
  refine qr_el (P := fun u v => wpX_mem (fun r => wpY_mem (fun r' => r' = r ∧ i_Rel (k + 5) u v) v v1) u v1) ?_ I
  intro g pc H Ho f_logSize f_seqLen f_searchMask f_searchStarted k_workN a_kindAt a_opA a_opW a_length a_events a_pcOf a_regs a_cells a_bufEvent a_bufValue a_bufSize a_log a_order a_codes a_codeCount a_made a_seq a_picked a_runPc a_runReg a_runMem a_runLast a_runValue a_runSource b_len b_kind b_opA b_opW b_s b_order b_made b_codes b_stack b_choice b_work b_rd F
  obtain ⟨hw, hI, hn, he, PX, hE, MX, aX, PY, MY, aY, hL⟩ := id F
  have hn3 := hw.2.1
  have hc3 := hw.2.2.2.1
  have hd3 := hw.2.2.2.2.1
  have hN6 : pg_N g ≤ 6 := hw.2.2.2.2.2.2.2.2.2
  unfold wpX_mem
  rcases (or_assoc.mpr (pk_ix v1 (n := pg_c g) (by omega))) with h | ⟨p, hp, rfl⟩
  · exact qx_bF h (br_t rfl (qa_yG h ⟨rfl, qr_in F⟩))
  · refine qx_bT hp (by omega) (br_f qa_10 ⟨pk_in p 3 (by omega), qa_yU hp (by omega) ⟨pk_in (9 + p) 32 (by omega) (qa_i9 p), ?_, qr_in F⟩⟩)
    rw [qa_i9, nI_clamp (by omega), nI_clamp (by omega), MX.2.2.1 p (by omega), MY.2.2.1 p (by omega)]
theorem i_vc_pendingAt {k : Nat} {u : SX} {v : SY} (I : i_Rel k u v) (hk : k + 5 ≤ 2563) (v1 : Int32) (v2 : Int32) : wpX_pendingAt (fun r => wpY_pendingAt (fun r' => r' = r ∧ i_Rel (k + 5) u v) v v1 v2) u v1 v2 := by
  refine qr_el (P := fun u v => wpX_pendingAt (fun r => wpY_pendingAt (fun r' => r' = r ∧ i_Rel (k + 5) u v) v v1 v2) u v1 v2) ?_ I
  intro g pc H Ho f_logSize f_seqLen f_searchMask f_searchStarted k_workN a_kindAt a_opA a_opW a_length a_events a_pcOf a_regs a_cells a_bufEvent a_bufValue a_bufSize a_log a_order a_codes a_codeCount a_made a_seq a_picked a_runPc a_runReg a_runMem a_runLast a_runValue a_runSource b_len b_kind b_opA b_opW b_s b_order b_made b_codes b_stack b_choice b_work b_rd F
  obtain ⟨hw, hI, hn, he, PX, hE, MX, aX, PY, MY, aY, hL⟩ := id F
  have hn3 := hw.2.1
  have hc3 := hw.2.2.2.1
  have hd3 := hw.2.2.2.2.1
  have hN6 : pg_N g ≤ 6 := hw.2.2.2.2.2.2.2.2.2
  unfold wpX_pendingAt
  rcases (or_assoc.mpr (pk_ix v1 (n := pg_n g) (by omega))) with h | ⟨p, hp, rfl⟩
  · exact qx_bF h (br_t rfl (qa_yF h ⟨rfl, qr_in F⟩))
  · have hd := hI.2.2.2.2.1 p
    have eb : a_bufSize (nI p).toNatClampNeg = nI (pg_ov g H (8 * p) (pc p)) := by rw [nI_clamp (by omega)]; exact MX.2.2.2.1 p (by omega)
    have eb' : b_s ((12 : Int32) + nI p).toNatClampNeg = nI (pg_ov g H (8 * p) (pc p)) := by rw [qa_i12, nI_clamp (by omega)]; exact MY.2.2.2.1 p (by omega)
    have i12 : vp_in ((12 : Int32) + nI p) 32 := pk_in (12 + p) 32 (by omega) (qa_i12 p)
    refine qx_bT hp (by omega) (br_f qa_10 ⟨pk_in p 3 (by omega), ?_⟩)
    rw [eb]
    rcases (or_assoc.mpr (pk_ix v2 (n := pg_ov g H (8 * p) (pc p)) (by omega))) with h | ⟨r, hr, rfl⟩
    · refine qx_bF h (br_t rfl (qa_yT hp (by omega) (br_c (fun _ => ⟨rfl, qr_in F⟩) (fun z => ⟨i12, br_f ?_ ⟨rfl, qr_in F⟩⟩))))
      rw [eb']; exact Int32.not_lt.mpr (h.resolve_left z)
    · have i9 : vp_in ((3 : Int32) * nI p + nI r) 9 := pk_in (3 * p + r) 9 (by omega) (qa_3 p r)
      obtain ⟨m1, m2⟩ := MX.2.2.2.2.1 p r (by omega) hr
      have m3 := MY.2.2.2.2.1 p r (by omega) hr
      refine qx_bT hr (by omega) (br_f qa_10 ⟨i9, i9, qa_yT hp (by omega) (br_f (nI_pos (by omega)) ⟨i12, br_t ?_ ⟨pk_in (15 + 3 * p + r) 32 (by omega) (qa_i15k p r), ?_, qr_in F⟩⟩)⟩)
      · rw [eb']; exact nI_lt hr (by omega)
      · rw [qa_i15k, qa_3, nI_clamp (by omega), nI_clamp (by omega), m1, m2, m3, show (32 : Int32) = nI 32 from rfl, pk_mul, nI_add]
theorem i_vc_outcome {k : Nat} {u : SX} {v : SY} (I : i_Rel k u v) (hk : k + 5 ≤ 2563) : wpX_outcome (fun r => wpY_outcome (fun r' => r' = r ∧ i_Rel (k + 5) u v) v) u := by
  refine qr_el (P := fun u v => wpX_outcome (fun r => wpY_outcome (fun r' => r' = r ∧ i_Rel (k + 5) u v) v) u) ?_ I
  intro g pc H Ho f_logSize f_seqLen f_searchMask f_searchStarted k_workN a_kindAt a_opA a_opW a_length a_events a_pcOf a_regs a_cells a_bufEvent a_bufValue a_bufSize a_log a_order a_codes a_codeCount a_made a_seq a_picked a_runPc a_runReg a_runMem a_runLast a_runValue a_runSource b_len b_kind b_opA b_opW b_s b_order b_made b_codes b_stack b_choice b_work b_rd F
  obtain ⟨hw, hI, hn, he, PX, hE, MX, aX, PY, MY, aY, hL⟩ := id F
  have hn3 := hw.2.1
  have hc3 := hw.2.2.2.1
  have hd3 := hw.2.2.2.2.1
  have hN6 : pg_N g ≤ 6 := hw.2.2.2.2.2.2.2.2.2
  exact qx_outc hw PX hI MX (fun hf => qy_outc hw PY hI MY (fun _ => ⟨rfl, qr_in F⟩) (fun z => absurd hf z)) (fun hf => qy_outc hw PY hI MY (fun z => absurd z hf) (fun _ => ⟨rfl, qr_in F⟩))
theorem i_vc_dropOrder {k : Nat} {u : SX} {v : SY} (I : i_Rel k u v) (hk : k + 5 ≤ 2563) : wpX_dropOrder (fun u' => wpY_dropOrder (fun v' => i_Rel (k + 5) u' v') v) u := by
  refine qr_el (P := fun u v => wpX_dropOrder (fun u' => wpY_dropOrder (fun v' => i_Rel (k + 5) u' v') v) u) ?_ I
  intro g pc H Ho f_logSize f_seqLen f_searchMask f_searchStarted k_workN a_kindAt a_opA a_opW a_length a_events a_pcOf a_regs a_cells a_bufEvent a_bufValue a_bufSize a_log a_order a_codes a_codeCount a_made a_seq a_picked a_runPc a_runReg a_runMem a_runLast a_runValue a_runSource b_len b_kind b_opA b_opW b_s b_order b_made b_codes b_stack b_choice b_work b_rd F
  obtain ⟨hw, hI, hn, he, PX, hE, MX, aX, PY, MY, aY, hL⟩ := id F
  have hn3 := hw.2.1
  have hc3 := hw.2.2.2.1
  have hd3 := hw.2.2.2.2.1
  have hN6 : pg_N g ≤ 6 := hw.2.2.2.2.2.2.2.2.2
  show i_Rel (k + 5) ((nI (pg_n g)), (nI (pg_c g)), (nI (pg_d g)), (nI (pg_N g)), f_logSize, 0, f_seqLen, f_searchMask, f_searchStarted, a_kindAt, a_opA, a_opW, a_length, a_events, a_pcOf, a_regs, a_cells, a_bufEvent, a_bufValue, a_bufSize, a_log, a_order, a_codes, a_codeCount, a_made, a_seq, a_picked, a_runPc, a_runReg, a_runMem, a_runLast, a_runValue, a_runSource) ((nI (pg_n g)), (nI (pg_c g)), (nI (pg_d g)), 0, k_workN, b_len, b_kind, b_opA, b_opW, b_s, b_order, b_made, b_codes, b_stack, b_choice, b_work, b_rd)
  exact qr_in (Ho := []) ⟨hw, hI, List.nodup_nil, fun x hx => absurd hx (by simp), PX, hE, MX, trivial, PY, MY, trivial, hL⟩
end
section
/-! the calls: orders and lists -/
def pg_vd (g : pg_T) (Ho : List Nat) (r : Int32) : Prop := (Ho.length < pg_N g ∧ r = -8) ∨ (pg_N g ≤ Ho.length ∧ pg_ab g Ho ∧ r = -9) ∨ (pg_N g ≤ Ho.length ∧ ¬ pg_ab g Ho ∧ pg_ad g Ho ∧ r = -10)
theorem pg_vdd {g : pg_T} {Ho : List Nat} {r r' : Int32} (h : pg_vd g Ho r) (h' : pg_vd g Ho r') : r = r' := by
  rcases h with ⟨a, b⟩ | ⟨a, b, c⟩ | ⟨a, b, c, d⟩ <;> rcases h' with ⟨x, y⟩ | ⟨x, y, z⟩ | ⟨x, y, z, w⟩ <;> (first | (exact absurd x (by omega)) | (exact absurd y b) | (exact absurd b y) | (subst_vars; rfl))
theorem pg_vdn {g : pg_T} {Ho : List Nat} {r : Int32} (h : pg_vd g Ho r) : ¬ pg_cp g Ho := by
  intro hcp
  have l := hcp.2
  have v := pg_abv hcp.1
  rcases h with ⟨a, b⟩ | ⟨a, b, c⟩ | ⟨a, b, c, d⟩
  · omega
  · exact v.1 b
  · exact v.2 c
theorem i_vc_judgeOrder {k : Nat} {u : SX} {v : SY} (I : i_Rel k u v) (hk : k + 5 ≤ 2563) : wpX_judgeOrder (fun r u' => wpY_judgeOrder (fun r' v' => r' = r ∧ i_Rel (k + 5) u' v') v) u := by
  refine qr_el (P := fun u v => wpX_judgeOrder (fun r u' => wpY_judgeOrder (fun r' v' => r' = r ∧ i_Rel (k + 5) u' v') v) u) ?_ I
  intro g pc H Ho f_logSize f_seqLen f_searchMask f_searchStarted k_workN a_kindAt a_opA a_opW a_length a_events a_pcOf a_regs a_cells a_bufEvent a_bufValue a_bufSize a_log a_order a_codes a_codeCount a_made a_seq a_picked a_runPc a_runReg a_runMem a_runLast a_runValue a_runSource b_len b_kind b_opA b_opW b_s b_order b_made b_codes b_stack b_choice b_work b_rd F
  obtain ⟨hw, hI, hn, he, PX, hE, MX, aX, PY, MY, aY, hL⟩ := id F
  have hn3 := hw.2.1
  have hc3 := hw.2.2.2.1
  have hd3 := hw.2.2.2.2.1
  have hN6 : pg_N g ≤ 6 := hw.2.2.2.2.2.2.2.2.2
  have bad : ∀ r, pg_vd g Ho r → wpY_judgeOrder (fun r' v' => r' = r ∧ i_Rel (k + 5) ((nI (pg_n g)), (nI (pg_c g)), (nI (pg_d g)), (nI (pg_N g)), f_logSize, (nI Ho.length), f_seqLen, f_searchMask, f_searchStarted, a_kindAt, a_opA, a_opW, a_length, a_events, a_pcOf, a_regs, a_cells, a_bufEvent, a_bufValue, a_bufSize, a_log, a_order, a_codes, a_codeCount, a_made, a_seq, a_picked, a_runPc, a_runReg, a_runMem, a_runLast, a_runValue, a_runSource) v') ((nI (pg_n g)), (nI (pg_c g)), (nI (pg_d g)), (nI Ho.length), k_workN, b_len, b_kind, b_opA, b_opW, b_s, b_order, b_made, b_codes, b_stack, b_choice, b_work, b_rd) := fun r vd =>
    qy_jo hw PY hn he aY (fun a WK _ => ⟨pg_vdd (Or.inl ⟨a, rfl⟩) vd, qr_in F⟩) (fun a b WK _ => ⟨pg_vdd (Or.inr (Or.inl ⟨a, b, rfl⟩)) vd, qr_in F⟩) (fun a b c WK _ => ⟨pg_vdd (Or.inr (Or.inr ⟨a, b, c, rfl⟩)) vd, qr_in F⟩) (fun hcp => absurd hcp (pg_vdn vd))
  exact qx_jo hw PX aX hn he (fun a => bad _ (Or.inl ⟨a, rfl⟩)) (fun a b => bad _ (Or.inr (Or.inl ⟨a, b, rfl⟩))) (fun a b c => bad _ (Or.inr (Or.inr ⟨a, b, c, rfl⟩))) (fun hcp SQ PC RG ME LA VA SO R =>
    qy_jo hw PY hn he aY (fun a => absurd hcp (pg_vdn (Or.inl ⟨a, rfl⟩))) (fun a b => absurd hcp (pg_vdn (Or.inr (Or.inl ⟨a, b, rfl⟩)))) (fun a b c => absurd hcp (pg_vdn (Or.inr (Or.inr ⟨a, b, c, rfl⟩)))) (fun _ WK RD _ _ => ⟨rfl, qr_in F⟩))
theorem i_vc_source {k : Nat} {u : SX} {v : SY} (I : i_Rel k u v) (hk : k + 5 ≤ 2563) (v1 : Int32) (v2 : Int32) : wpX_source (fun r u' => wpY_source (fun r' v' => r' = r ∧ i_Rel (k + 5) u' v') v v1 v2) u v1 v2 := by
  refine qr_el (P := fun u v => wpX_source (fun r u' => wpY_source (fun r' v' => r' = r ∧ i_Rel (k + 5) u' v') v v1 v2) u v1 v2) ?_ I
  intro g pc H Ho f_logSize f_seqLen f_searchMask f_searchStarted k_workN a_kindAt a_opA a_opW a_length a_events a_pcOf a_regs a_cells a_bufEvent a_bufValue a_bufSize a_log a_order a_codes a_codeCount a_made a_seq a_picked a_runPc a_runReg a_runMem a_runLast a_runValue a_runSource b_len b_kind b_opA b_opW b_s b_order b_made b_codes b_stack b_choice b_work b_rd F
  obtain ⟨hw, hI, hn, he, PX, hE, MX, aX, PY, MY, aY, hL⟩ := id F
  have hn3 := hw.2.1
  have hc3 := hw.2.2.2.1
  have hd3 := hw.2.2.2.2.1
  have hN6 : pg_N g ≤ 6 := hw.2.2.2.2.2.2.2.2.2
  unfold wpX_source
  rcases (or_assoc.mpr (pk_ix v1 (n := pg_n g) (by omega))) with h | ⟨p, hp, rfl⟩
  · exact qx_isN1 h (br_t rfl (qa_yF h ⟨rfl, qr_in F⟩))
  · have hL5 := hw.2.2.2.2.2.1 p
    rcases (or_assoc.mpr (pk_ix v2 (n := pg_L g p) (by omega))) with h | ⟨i, hi, rfl⟩
    · exact qx_isN2 (by omega) hp (PX p).2.2.2 h (br_t rfl (qa_yN hp (by omega) (PY p).2.2.2 h ⟨rfl, qr_in F⟩))
    · have i24 : vp_in (nI (8 * p + i)) 24 := pk_in (8 * p + i) 24 (by omega)
      have ekx : a_kindAt (nI (8 * p + i)).toNatClampNeg = nI (pg_K g (8 * p + i)) := qa_kd PX (by omega)
      have eky : b_kind (nI (8 * p + i)).toNatClampNeg = nI (pg_K g (8 * p + i)) := qa_kd PY (by omega)
      have kl := (qa_kl hw (8 * p + i)).1
      have main : pg_R (pg_K g (8 * p + i)) → wX_source_41 (fun r u' => wpY_source (fun r' v' => r' = r ∧ i_Rel (k + 5) u' v') ((nI (pg_n g)), (nI (pg_c g)), (nI (pg_d g)), (nI Ho.length), k_workN, b_len, b_kind, b_opA, b_opW, b_s, b_order, b_made, b_codes, b_stack, b_choice, b_work, b_rd) (nI p) (nI i)) (nI (8 * p + i)) (nI (pg_n g)) (nI (pg_c g)) (nI (pg_d g)) (nI (pg_N g)) f_logSize (nI Ho.length) f_seqLen f_searchMask f_searchStarted a_kindAt a_opA a_opW a_length a_events a_pcOf a_regs a_cells a_bufEvent a_bufValue a_bufSize a_log a_order a_codes a_codeCount a_made a_seq a_picked a_runPc a_runReg a_runMem a_runLast a_runValue a_runSource := by
        intro hR
        have hev : pg_ev g (8 * p + i) := pg_evp hw hi (pg_RM hR)
        have yy : ∀ {post : Int32 → SY → Prop}, wY_source_58 post (nI (8 * p + i)) (nI (pg_n g)) (nI (pg_c g)) (nI (pg_d g)) (nI Ho.length) k_workN b_len b_kind b_opA b_opW b_s b_order b_made b_codes b_stack b_choice b_work b_rd → wpY_source post ((nI (pg_n g)), (nI (pg_c g)), (nI (pg_d g)), (nI Ho.length), k_workN, b_len, b_kind, b_opA, b_opW, b_s, b_order, b_made, b_codes, b_stack, b_choice, b_work, b_rd) (nI p) (nI i) := fun h =>
          qa_yP hp (by omega) (PY p).2.2.2 hi (by omega) (nm_r (qa_8 p i) ⟨i24, br_c (fun _ => h) (fun z => ⟨i24, br_t (by
            rw [eky] at z ⊢
            rcases hR with w | w
            · rw [w] at z; exact absurd rfl z
            · rw [w]; rfl) h⟩)⟩)
        have bad : ∀ r, pg_vd g Ho r → wpY_source (fun r' v' => r' = r ∧ i_Rel (k + 5) ((nI (pg_n g)), (nI (pg_c g)), (nI (pg_d g)), (nI (pg_N g)), f_logSize, (nI Ho.length), f_seqLen, f_searchMask, f_searchStarted, a_kindAt, a_opA, a_opW, a_length, a_events, a_pcOf, a_regs, a_cells, a_bufEvent, a_bufValue, a_bufSize, a_log, a_order, a_codes, a_codeCount, a_made, a_seq, a_picked, a_runPc, a_runReg, a_runMem, a_runLast, a_runValue, a_runSource) v') ((nI (pg_n g)), (nI (pg_c g)), (nI (pg_d g)), (nI Ho.length), k_workN, b_len, b_kind, b_opA, b_opW, b_s, b_order, b_made, b_codes, b_stack, b_choice, b_work, b_rd) (nI p) (nI i) := fun r vd =>
          yy (qy_src58 hw PY hn he aY hev (fun a WK => ⟨pg_vdd (Or.inl ⟨a, rfl⟩) vd, qr_in F⟩) (fun a b WK => ⟨pg_vdd (Or.inr (Or.inl ⟨a, b, rfl⟩)) vd, qr_in F⟩) (fun a b c WK => ⟨pg_vdd (Or.inr (Or.inr ⟨a, b, c, rfl⟩)) vd, qr_in F⟩) (fun hcp => absurd hcp (pg_vdn vd)))
        exact qx_src41 hw PX aX hn he hev hR (fun a => bad _ (Or.inl ⟨a, rfl⟩)) (fun a b => bad _ (Or.inr (Or.inl ⟨a, b, rfl⟩))) (fun a b c => bad _ (Or.inr (Or.inr ⟨a, b, c, rfl⟩))) (fun hcp SQ PC RG ME LA VA SO =>
          yy (qy_src58 hw PY hn he aY hev (fun a => absurd hcp (pg_vdn (Or.inl ⟨a, rfl⟩))) (fun a b => absurd hcp (pg_vdn (Or.inr (Or.inl ⟨a, b, rfl⟩)))) (fun a b c => absurd hcp (pg_vdn (Or.inr (Or.inr ⟨a, b, c, rfl⟩)))) (fun _ WK RD => ⟨rfl, qr_in F⟩))) (fun hcp => pg_soL hw hcp.1 _)
      refine qx_isP (by omega) hp hi (by omega) (PX p).2.2.2 (br_f qa_10 (nm_r (qa_8 p i) ⟨i24, pk_eq (pg_K g (8 * p + i)) 1 (fun c => main (Or.inl c)) (fun c1 => ⟨i24, pk_eq (pg_K g (8 * p + i)) 5 (fun c => main (Or.inr c)) (fun c5 => ?_) ekx rfl kl⟩) ekx rfl kl⟩))
      exact qa_yP hp (by omega) (PY p).2.2.2 hi (by omega) (nm_r (qa_8 p i) ⟨i24, pk_eq (pg_K g (8 * p + i)) 1 (fun c => absurd c c1) (fun _ => ⟨i24, pk_eq (pg_K g (8 * p + i)) 5 (fun c => absurd c c5) (fun _ => ⟨rfl, qr_in F⟩) eky rfl kl⟩) eky rfl kl⟩)
theorem i_vc_replay {k : Nat} {u : SX} {v : SY} (I : i_Rel k u v) (hk : k + 5 ≤ 2563) : wpX_replay (fun r u' => wpY_replay (fun r' v' => r' = r ∧ i_Rel (k + 5) u' v') v) u := by
  refine qr_el (P := fun u v => wpX_replay (fun r u' => wpY_replay (fun r' v' => r' = r ∧ i_Rel (k + 5) u' v') v) u) ?_ I
  intro g pc H Ho f_logSize f_seqLen f_searchMask f_searchStarted k_workN a_kindAt a_opA a_opW a_length a_events a_pcOf a_regs a_cells a_bufEvent a_bufValue a_bufSize a_log a_order a_codes a_codeCount a_made a_seq a_picked a_runPc a_runReg a_runMem a_runLast a_runValue a_runSource b_len b_kind b_opA b_opW b_s b_order b_made b_codes b_stack b_choice b_work b_rd F
  obtain ⟨hw, hI, hn, he, PX, hE, MX, aX, PY, MY, aY, hL⟩ := id F
  have hn3 := hw.2.1
  have hc3 := hw.2.2.2.1
  have hd3 := hw.2.2.2.2.1
  have hN6 : pg_N g ≤ 6 := hw.2.2.2.2.2.2.2.2.2
  have bad : ∀ r, pg_vd g Ho r → wpY_replay (fun r' v' => r' = r ∧ i_Rel (k + 5) ((nI (pg_n g)), (nI (pg_c g)), (nI (pg_d g)), (nI (pg_N g)), f_logSize, (nI Ho.length), f_seqLen, f_searchMask, f_searchStarted, a_kindAt, a_opA, a_opW, a_length, a_events, a_pcOf, a_regs, a_cells, a_bufEvent, a_bufValue, a_bufSize, a_log, a_order, a_codes, a_codeCount, a_made, a_seq, a_picked, a_runPc, a_runReg, a_runMem, a_runLast, a_runValue, a_runSource) v') ((nI (pg_n g)), (nI (pg_c g)), (nI (pg_d g)), (nI Ho.length), k_workN, b_len, b_kind, b_opA, b_opW, b_s, b_order, b_made, b_codes, b_stack, b_choice, b_work, b_rd) := fun r vd =>
    qy_replay hw PY hn he aY (fun a WK => ⟨pg_vdd (Or.inl ⟨a, rfl⟩) vd, qr_in F⟩) (fun a b WK => ⟨pg_vdd (Or.inr (Or.inl ⟨a, b, rfl⟩)) vd, qr_in F⟩) (fun a b c WK => ⟨pg_vdd (Or.inr (Or.inr ⟨a, b, c, rfl⟩)) vd, qr_in F⟩) (fun hcp => absurd hcp (pg_vdn vd))
  exact qx_replay hw PX aX hn he (fun a => bad _ (Or.inl ⟨a, rfl⟩)) (fun a b => bad _ (Or.inr (Or.inl ⟨a, b, rfl⟩))) (fun a b c => bad _ (Or.inr (Or.inr ⟨a, b, c, rfl⟩))) (fun hcp SQ PC RG ME LA VA SO PO RE CE BE BV BS LG ls M1 =>
    qy_replay hw PY hn he aY (fun a => absurd hcp (pg_vdn (Or.inl ⟨a, rfl⟩))) (fun a b => absurd hcp (pg_vdn (Or.inr (Or.inl ⟨a, b, rfl⟩)))) (fun a b c => absurd hcp (pg_vdn (Or.inr (Or.inr ⟨a, b, c, rfl⟩)))) (fun _ WK RD S M2 => ⟨rfl, qr_in ⟨hw, pg_cpi hw hcp, hn, he, PX, hE, M1, aX, PY, M2, aY, hL⟩⟩))
theorem pg_lxt {g : pg_T} {O T : List Nat} (ho : pg_cp g O) (ht : pg_cp g T) : pg_lx O T ∨ O = T ∨ pg_lx T O := by
  have hl : O.length = T.length := by rw [ho.2, ht.2]
  have key : ∀ k, k ≤ T.length → (∀ t, t < k → qa_rg O t = qa_rg T t) ∨ pg_lx O T ∨ pg_lx T O := by
    intro k
    induction k with
    | zero => intro _; exact Or.inl (fun t ht => absurd ht (Nat.not_lt_zero _))
    | succ k ih =>
      intro hk
      rcases ih (by omega) with a | a
      · rcases Nat.lt_trichotomy (qa_rg O k) (qa_rg T k) with z | z | z
        · exact Or.inr (Or.inl ⟨k, hk, a, z⟩)
        · left
          intro t ht
          by_cases w : t = k
          · subst w; exact z
          · exact a t (by omega)
        · exact Or.inr (Or.inr ⟨k, by omega, fun j hj => (a j hj).symm, z⟩)
      · exact Or.inr a
  rcases key T.length (Nat.le_refl _) with a | a | a
  · exact Or.inr (Or.inl (qa_eq hl.symm a))
  · exact Or.inl a
  · exact Or.inr (Or.inr a)
theorem i_vc_witness {k : Nat} {u : SX} {v : SY} (I : i_Rel k u v) (hk : k + 5 ≤ 2563) (v1 : Int32) : wpX_witness (fun r u' => wpY_witness (fun r' v' => r' = r ∧ i_Rel (k + 5) u' v') v v1) u v1 := by
  refine qr_el (P := fun u v => wpX_witness (fun r u' => wpY_witness (fun r' v' => r' = r ∧ i_Rel (k + 5) u' v') v v1) u v1) ?_ I
  intro g pc H Ho f_logSize f_seqLen f_searchMask f_searchStarted k_workN a_kindAt a_opA a_opW a_length a_events a_pcOf a_regs a_cells a_bufEvent a_bufValue a_bufSize a_log a_order a_codes a_codeCount a_made a_seq a_picked a_runPc a_runReg a_runMem a_runLast a_runValue a_runSource b_len b_kind b_opA b_opW b_s b_order b_made b_codes b_stack b_choice b_work b_rd F
  obtain ⟨hw, hI, hn, he, PX, hE, MX, aX, PY, MY, aY, hL⟩ := id F
  have hn3 := hw.2.1
  have hc3 := hw.2.2.2.1
  have hd3 := hw.2.2.2.2.1
  have hN6 : pg_N g ≤ 6 := hw.2.2.2.2.2.2.2.2.2
  refine qx_witness hw PX hE (fun hall sl MS SQ PK PC RG ME LA VA SO => qy_witness hw PY (fun _ WK RD => ⟨rfl, qr_in F⟩) (fun T hcp e => absurd e (hall T hcp))) (fun T hcp e hmin MS SQ PK PC RG ME LA VA SO OR hOR => qy_witness hw PY (fun hall => absurd e (hall T hcp)) (fun T' hcp' e' hmin' WK RD OR' hOR' => ?_))
  have eT : T' = T := by
    rcases pg_lxt hcp' hcp with z | z | z
    · exact absurd e' (hmin T' hcp' z)
    · exact z
    · exact absurd e (hmin' T hcp z)
  subst eT
  exact ⟨rfl, qr_in (Ho := T') ⟨hw, hI, (pg_vod hcp.1).1, (pg_vod hcp.1).2, PX, hE, MX, hOR, PY, MY, hOR', hL⟩⟩
theorem i_vc_adopt {k : Nat} {u : SX} {v : SY} (I : i_Rel k u v) (hk : k + 5 ≤ 2563) : wpX_adopt (fun r u' => wpY_adopt (fun r' v' => r' = r ∧ i_Rel (k + 5) u' v') v) u := by
  refine qr_el (P := fun u v => wpX_adopt (fun r u' => wpY_adopt (fun r' v' => r' = r ∧ i_Rel (k + 5) u' v') v) u) ?_ I
  intro g pc H Ho f_logSize f_seqLen f_searchMask f_searchStarted k_workN a_kindAt a_opA a_opW a_length a_events a_pcOf a_regs a_cells a_bufEvent a_bufValue a_bufSize a_log a_order a_codes a_codeCount a_made a_seq a_picked a_runPc a_runReg a_runMem a_runLast a_runValue a_runSource b_len b_kind b_opA b_opW b_s b_order b_made b_codes b_stack b_choice b_work b_rd F
  obtain ⟨hw, hI, hn, he, PX, hE, MX, aX, PY, MY, aY, hL⟩ := id F
  have hn3 := hw.2.1
  have hc3 := hw.2.2.2.1
  have hd3 := hw.2.2.2.2.1
  have hN6 : pg_N g ≤ 6 := hw.2.2.2.2.2.2.2.2.2
  have hl := pg_invl hw hI
  obtain ⟨_, _, _, _, _, M6, M7⟩ := id MX
  obtain ⟨_, _, _, _, _, N6, N7⟩ := id MY
  subst M6
  have yy : ∀ OX, qa_Ar H OX → wpY_adopt (fun r' v' => r' = nI H.length ∧ i_Rel (k + 5) ((nI (pg_n g)), (nI (pg_c g)), (nI (pg_d g)), (nI (pg_N g)), (nI H.length), (nI H.length), f_seqLen, f_searchMask, f_searchStarted, a_kindAt, a_opA, a_opW, a_length, a_events, a_pcOf, a_regs, a_cells, a_bufEvent, a_bufValue, a_bufSize, a_log, OX, a_codes, a_codeCount, a_made, a_seq, a_picked, a_runPc, a_runReg, a_runMem, a_runLast, a_runValue, a_runSource) v') ((nI (pg_n g)), (nI (pg_c g)), (nI (pg_d g)), (nI Ho.length), k_workN, b_len, b_kind, b_opA, b_opW, b_s, b_order, b_made, b_codes, b_stack, b_choice, b_work, b_rd) := by
    intro OX hOX
    refine nm_r N6 ⟨H.length + 1, ?_⟩
    suffices ∀ m n j OR, j + m = H.length → m < n → (∀ i, i < j → OR i = nI (qa_rg H i)) → wY_adopt_13 (fun r' v' => r' = nI H.length ∧ i_Rel (k + 5) ((nI (pg_n g)), (nI (pg_c g)), (nI (pg_d g)), (nI (pg_N g)), (nI H.length), (nI H.length), f_seqLen, f_searchMask, f_searchStarted, a_kindAt, a_opA, a_opW, a_length, a_events, a_pcOf, a_regs, a_cells, a_bufEvent, a_bufValue, a_bufSize, a_log, OX, a_codes, a_codeCount, a_made, a_seq, a_picked, a_runPc, a_runReg, a_runMem, a_runLast, a_runValue, a_runSource) v') (nI (pg_n g)) (nI (pg_c g)) (nI (pg_d g)) (nI H.length) k_workN n (nI j) b_len b_kind b_opA b_opW b_s OR b_made b_codes b_stack b_choice b_work b_rd from this H.length (H.length + 1) 0 b_order (by omega) (by omega) (fun i hi => absurd hi (by omega))
    intro m
    induction m with
    | zero =>
      intro n j OR hj hn' hs
      obtain ⟨n, rfl⟩ : ∃ k, n = k + 1 := ⟨n - 1, by omega⟩
      obtain rfl : j = H.length := by omega
      exact br_t (nI_le (Nat.le_refl _) (by omega)) ⟨rfl, qr_in (Ho := H) ⟨hw, hI, (pg_vod hI.1).1, (pg_vod hI.1).2, PX, hE, MX, hOX, PY, MY, qa_Ari hs, hL⟩⟩
    | succ m ih =>
      intro n j OR hj hn' hs
      obtain ⟨n, rfl⟩ : ∃ k, n = k + 1 := ⟨n - 1, by omega⟩
      have e1 : upd OR (nI j).toNatClampNeg (b_s ((25 : Int32) + nI j).toNatClampNeg) = upd OR j (nI (qa_rg H j)) := by rw [qa_i25, nI_clamp (by omega), nI_clamp (by omega), N7 j (by omega)]
      refine br_f (nI_ge (by omega) (by omega)) ⟨pk_in (25 + j) 32 (by omega) (qa_i25 j), pk_in j 6 (by omega), nm_r e1 (nm_r (nI_1 j) (ih n (j + 1) _ (by omega) (by omega) (fun i hi => ?_)))⟩
      by_cases c : i = j
      · subst c; exact pk_us
      · rw [pk_un c]; exact hs i (by omega)
  refine ⟨H.length + 1, ?_⟩
  suffices ∀ m n j OR, j + m = H.length → m < n → (∀ i, i < j → OR i = nI (qa_rg H i)) → wX_adopt_2 (fun r u' => wpY_adopt (fun r' v' => r' = r ∧ i_Rel (k + 5) u' v') ((nI (pg_n g)), (nI (pg_c g)), (nI (pg_d g)), (nI Ho.length), k_workN, b_len, b_kind, b_opA, b_opW, b_s, b_order, b_made, b_codes, b_stack, b_choice, b_work, b_rd)) (nI (pg_n g)) (nI (pg_c g)) (nI (pg_d g)) (nI (pg_N g)) (nI H.length) (nI Ho.length) f_seqLen f_searchMask f_searchStarted n (nI j) a_kindAt a_opA a_opW a_length a_events a_pcOf a_regs a_cells a_bufEvent a_bufValue a_bufSize a_log OR a_codes a_codeCount a_made a_seq a_picked a_runPc a_runReg a_runMem a_runLast a_runValue a_runSource from this H.length (H.length + 1) 0 a_order (by omega) (by omega) (fun i hi => absurd hi (by omega))
  intro m
  induction m with
  | zero =>
    intro n j OR hj hn' hs
    obtain ⟨n, rfl⟩ : ∃ k, n = k + 1 := ⟨n - 1, by omega⟩
    obtain rfl : j = H.length := by omega
    exact br_t (nI_le (Nat.le_refl _) (by omega)) (yy OR (qa_Ari hs))
  | succ m ih =>
    intro n j OR hj hn' hs
    obtain ⟨n, rfl⟩ : ∃ k, n = k + 1 := ⟨n - 1, by omega⟩
    have e1 : upd OR (nI j).toNatClampNeg (a_log (nI j).toNatClampNeg) = upd OR j (nI (qa_rg H j)) := by rw [nI_clamp (by omega), qa_Arg M7 (by omega)]
    refine br_f (nI_ge (by omega) (by omega)) ⟨pk_in j 6 (by omega), pk_in j 6 (by omega), nm_r e1 (nm_r (nI_1 j) (ih n (j + 1) _ (by omega) (by omega) (fun i hi => ?_)))⟩
    by_cases c : i = j
    · subst c; exact pk_us
    · rw [pk_un c]; exact hs i (by omega)
theorem i_vc_place {k : Nat} {u : SX} {v : SY} (I : i_Rel k u v) (hk : k + 5 ≤ 2563) (v1 : Int32) (v2 : Int32) : wpX_place (fun r u' => wpY_place (fun r' v' => r' = r ∧ i_Rel (k + 5) u' v') v v1 v2) u v1 v2 := by
  refine qr_el (P := fun u v => wpX_place (fun r u' => wpY_place (fun r' v' => r' = r ∧ i_Rel (k + 5) u' v') v v1 v2) u v1 v2) ?_ I
  intro g pc H Ho f_logSize f_seqLen f_searchMask f_searchStarted k_workN a_kindAt a_opA a_opW a_length a_events a_pcOf a_regs a_cells a_bufEvent a_bufValue a_bufSize a_log a_order a_codes a_codeCount a_made a_seq a_picked a_runPc a_runReg a_runMem a_runLast a_runValue a_runSource b_len b_kind b_opA b_opW b_s b_order b_made b_codes b_stack b_choice b_work b_rd F
  obtain ⟨hw, hI, hn, he, PX, hE, MX, aX, PY, MY, aY, hL⟩ := id F
  have hn3 := hw.2.1
  have hc3 := hw.2.2.2.1
  have hd3 := hw.2.2.2.2.1
  have hN6 : pg_N g ≤ 6 := hw.2.2.2.2.2.2.2.2.2
  unfold wpX_place
  rcases (or_assoc.mpr (pk_ix v1 (n := pg_n g) (by omega))) with h | ⟨p, hp, rfl⟩
  · exact qx_isN1 h (br_t rfl (qa_yF h ⟨rfl, qr_in F⟩))
  · have hL5 := hw.2.2.2.2.2.1 p
    have hol := pg_len hw hn he
    rcases (or_assoc.mpr (pk_ix v2 (n := pg_L g p) (by omega))) with h | ⟨i, hi, rfl⟩
    · exact qx_isN2 (by omega) hp (PX p).2.2.2 h (br_t rfl (qa_yN hp (by omega) (PY p).2.2.2 h ⟨rfl, qr_in F⟩))
    · have i24 : vp_in (nI (8 * p + i)) 24 := pk_in (8 * p + i) 24 (by omega)
      have ekx : a_kindAt (nI (8 * p + i)).toNatClampNeg = nI (pg_K g (8 * p + i)) := qa_kd PX (by omega)
      have eky : b_kind (nI (8 * p + i)).toNatClampNeg = nI (pg_K g (8 * p + i)) := qa_kd PY (by omega)
      have kl := (qa_kl hw (8 * p + i)).1
      have nM := pg_nM hw hi
      refine qx_isP (by omega) hp hi (by omega) (PX p).2.2.2 (br_f qa_10 (nm_r (qa_8 p i) ⟨i24, ?_⟩))
      by_cases hM : pg_M (pg_K g (8 * p + i))
      · have hev : pg_ev g (8 * p + i) := pg_evp hw hi hM
        obtain ⟨n4, n6⟩ := nM.mp hM
        have yy : ∀ {post : Int32 → SY → Prop}, (∃ n, wY_place_62 post (nI (8 * p + i)) (nI (pg_n g)) (nI (pg_c g)) (nI (pg_d g)) (nI Ho.length) k_workN b_len b_kind b_opA b_opW b_s b_order b_made b_codes b_stack b_choice b_work b_rd n 0) → wpY_place post ((nI (pg_n g)), (nI (pg_c g)), (nI (pg_d g)), (nI Ho.length), k_workN, b_len, b_kind, b_opA, b_opW, b_s, b_order, b_made, b_codes, b_stack, b_choice, b_work, b_rd) (nI p) (nI i) := fun h =>
          qa_yP hp (by omega) (PY p).2.2.2 hi (by omega) (nm_r (qa_8 p i) ⟨i24, pk_eq (pg_K g (8 * p + i)) 4 (fun c => absurd c n4) (fun _ => ⟨i24, pk_eq (pg_K g (8 * p + i)) 6 (fun c => absurd c n6) (fun _ => h) eky rfl kl⟩) eky rfl kl⟩)
        have h24 : ∀ j, j < Ho.length → qa_rg Ho j < 24 := fun j hj => pg_ev24 hw (he _ (qa_rgm hj))
        refine qx_M1 ekx hM (br_f qa_10 ⟨Ho.length + 1, ?_⟩)
        by_cases hin : (8 * p + i) ∈ Ho
        · obtain ⟨j0, j1, j2⟩ := qa_mem hin
          have ly : wpY_place (fun r' v' => r' = -6 ∧ i_Rel (k + 5) ((nI (pg_n g)), (nI (pg_c g)), (nI (pg_d g)), (nI (pg_N g)), f_logSize, (nI Ho.length), f_seqLen, f_searchMask, f_searchStarted, a_kindAt, a_opA, a_opW, a_length, a_events, a_pcOf, a_regs, a_cells, a_bufEvent, a_bufValue, a_bufSize, a_log, a_order, a_codes, a_codeCount, a_made, a_seq, a_picked, a_runPc, a_runReg, a_runMem, a_runLast, a_runValue, a_runSource) v') ((nI (pg_n g)), (nI (pg_c g)), (nI (pg_d g)), (nI Ho.length), k_workN, b_len, b_kind, b_opA, b_opW, b_s, b_order, b_made, b_codes, b_stack, b_choice, b_work, b_rd) (nI p) (nI i) := by
            refine yy ⟨Ho.length + 1, ?_⟩
            suffices ∀ m n j, j + m = Ho.length → m < n → j ≤ j0 → wY_place_62 (fun r' v' => r' = -6 ∧ i_Rel (k + 5) ((nI (pg_n g)), (nI (pg_c g)), (nI (pg_d g)), (nI (pg_N g)), f_logSize, (nI Ho.length), f_seqLen, f_searchMask, f_searchStarted, a_kindAt, a_opA, a_opW, a_length, a_events, a_pcOf, a_regs, a_cells, a_bufEvent, a_bufValue, a_bufSize, a_log, a_order, a_codes, a_codeCount, a_made, a_seq, a_picked, a_runPc, a_runReg, a_runMem, a_runLast, a_runValue, a_runSource) v') (nI (8 * p + i)) (nI (pg_n g)) (nI (pg_c g)) (nI (pg_d g)) (nI Ho.length) k_workN b_len b_kind b_opA b_opW b_s b_order b_made b_codes b_stack b_choice b_work b_rd n (nI j) from this Ho.length (Ho.length + 1) 0 (by omega) (by omega) (by omega)
            intro m
            induction m with
            | zero => intro n j h1 h2 h3; omega
            | succ m ih =>
              intro n j h1 h2 h3
              obtain ⟨n, rfl⟩ : ∃ k, n = k + 1 := ⟨n - 1, by omega⟩
              have hj := h24 j (by omega)
              refine br_f (nI_ge (by omega) (by omega)) ⟨pk_in j 6 (by omega), pk_eq (qa_rg Ho j) (8 * p + i) (fun _ => ⟨rfl, qr_in F⟩) (fun z => nm_r (nI_1 j) (ih n (j + 1) (by omega) (by omega) ?_)) (by rw [nI_clamp (by omega)]; exact qa_Arg aY (by omega)) rfl⟩
              by_cases w : j = j0
              · subst w; exact absurd j2 z
              · omega
          suffices ∀ m n j, j + m = Ho.length → m < n → j ≤ j0 → wX_place_37 (fun r u' => wpY_place (fun r' v' => r' = r ∧ i_Rel (k + 5) u' v') ((nI (pg_n g)), (nI (pg_c g)), (nI (pg_d g)), (nI Ho.length), k_workN, b_len, b_kind, b_opA, b_opW, b_s, b_order, b_made, b_codes, b_stack, b_choice, b_work, b_rd) (nI p) (nI i)) (nI (8 * p + i)) (nI (pg_n g)) (nI (pg_c g)) (nI (pg_d g)) (nI (pg_N g)) f_logSize (nI Ho.length) f_seqLen f_searchMask f_searchStarted a_kindAt a_opA a_opW a_length a_events a_pcOf a_regs a_cells a_bufEvent a_bufValue a_bufSize a_log a_order a_codes a_codeCount a_made a_seq a_picked a_runPc a_runReg a_runMem a_runLast a_runValue a_runSource n (nI j) from this Ho.length (Ho.length + 1) 0 (by omega) (by omega) (by omega)
          intro m
          induction m with
          | zero => intro n j h1 h2 h3; omega
          | succ m ih =>
            intro n j h1 h2 h3
            obtain ⟨n, rfl⟩ : ∃ k, n = k + 1 := ⟨n - 1, by omega⟩
            have hj := h24 j (by omega)
            refine br_f (nI_ge (by omega) (by omega)) ⟨pk_in j 6 (by omega), pk_eq (qa_rg Ho j) (8 * p + i) (fun _ => ly) (fun z => nm_r (nI_1 j) (ih n (j + 1) (by omega) (by omega) ?_)) (by rw [nI_clamp (by omega)]; exact qa_Arg aX (by omega)) rfl⟩
            by_cases w : j = j0
            · subst w; exact absurd j2 z
            · omega
        · have hne : ∀ j, j < Ho.length → qa_rg Ho j ≠ 8 * p + i := fun j hj z => hin (z ▸ qa_rgm hj)
          have hnd : ((8 * p + i) :: Ho).Nodup := List.nodup_cons.mpr ⟨hin, hn⟩
          have hevs : ∀ x, x ∈ (8 * p + i) :: Ho → pg_ev g x := fun x hx => by
            rcases List.mem_cons.mp hx with z | z
            · rw [z]; exact hev
            · exact he x z
          have hl6 : Ho.length < 6 := by
            have := pg_len hw hnd hevs
            simp only [List.length_cons] at this
            omega
          have ly : wpY_place (fun r' v' => r' = 0 ∧ i_Rel (k + 5) ((nI (pg_n g)), (nI (pg_c g)), (nI (pg_d g)), (nI (pg_N g)), f_logSize, (nI (Ho.length + 1)), f_seqLen, f_searchMask, f_searchStarted, a_kindAt, a_opA, a_opW, a_length, a_events, a_pcOf, a_regs, a_cells, a_bufEvent, a_bufValue, a_bufSize, a_log, (upd a_order Ho.length (nI (8 * p + i))), a_codes, a_codeCount, a_made, a_seq, a_picked, a_runPc, a_runReg, a_runMem, a_runLast, a_runValue, a_runSource) v') ((nI (pg_n g)), (nI (pg_c g)), (nI (pg_d g)), (nI Ho.length), k_workN, b_len, b_kind, b_opA, b_opW, b_s, b_order, b_made, b_codes, b_stack, b_choice, b_work, b_rd) (nI p) (nI i) := by
            refine yy ⟨Ho.length + 1, ?_⟩
            suffices ∀ m n j, j + m = Ho.length → m < n → wY_place_62 (fun r' v' => r' = 0 ∧ i_Rel (k + 5) ((nI (pg_n g)), (nI (pg_c g)), (nI (pg_d g)), (nI (pg_N g)), f_logSize, (nI (Ho.length + 1)), f_seqLen, f_searchMask, f_searchStarted, a_kindAt, a_opA, a_opW, a_length, a_events, a_pcOf, a_regs, a_cells, a_bufEvent, a_bufValue, a_bufSize, a_log, (upd a_order Ho.length (nI (8 * p + i))), a_codes, a_codeCount, a_made, a_seq, a_picked, a_runPc, a_runReg, a_runMem, a_runLast, a_runValue, a_runSource) v') (nI (8 * p + i)) (nI (pg_n g)) (nI (pg_c g)) (nI (pg_d g)) (nI Ho.length) k_workN b_len b_kind b_opA b_opW b_s b_order b_made b_codes b_stack b_choice b_work b_rd n (nI j) from this Ho.length (Ho.length + 1) 0 (by omega) (by omega)
            intro m
            induction m with
            | zero =>
              intro n j h1 h2
              obtain ⟨n, rfl⟩ : ∃ k, n = k + 1 := ⟨n - 1, by omega⟩
              obtain rfl : j = Ho.length := by omega
              exact br_t (nI_le (Nat.le_refl _) (by omega)) ⟨pk_in Ho.length 6 hl6, nm_r (qa_u (by omega)) (nm_r (nI_1 _) ⟨rfl, qr_in (Ho := (8 * p + i) :: Ho) ⟨hw, hI, hnd, hevs, PX, hE, MX, qa_Arc aX, PY, MY, qa_Arc aY, hL⟩⟩)⟩
            | succ m ih =>
              intro n j h1 h2
              obtain ⟨n, rfl⟩ : ∃ k, n = k + 1 := ⟨n - 1, by omega⟩
              have hj := h24 j (by omega)
              exact br_f (nI_ge (by omega) (by omega)) ⟨pk_in j 6 (by omega), pk_eq (qa_rg Ho j) (8 * p + i) (fun z => absurd z (hne j (by omega))) (fun z => nm_r (nI_1 j) (ih n (j + 1) (by omega) (by omega))) (by rw [nI_clamp (by omega)]; exact qa_Arg aY (by omega)) rfl⟩
          suffices ∀ m n j, j + m = Ho.length → m < n → wX_place_37 (fun r u' => wpY_place (fun r' v' => r' = r ∧ i_Rel (k + 5) u' v') ((nI (pg_n g)), (nI (pg_c g)), (nI (pg_d g)), (nI Ho.length), k_workN, b_len, b_kind, b_opA, b_opW, b_s, b_order, b_made, b_codes, b_stack, b_choice, b_work, b_rd) (nI p) (nI i)) (nI (8 * p + i)) (nI (pg_n g)) (nI (pg_c g)) (nI (pg_d g)) (nI (pg_N g)) f_logSize (nI Ho.length) f_seqLen f_searchMask f_searchStarted a_kindAt a_opA a_opW a_length a_events a_pcOf a_regs a_cells a_bufEvent a_bufValue a_bufSize a_log a_order a_codes a_codeCount a_made a_seq a_picked a_runPc a_runReg a_runMem a_runLast a_runValue a_runSource n (nI j) from this Ho.length (Ho.length + 1) 0 (by omega) (by omega)
          intro m
          induction m with
          | zero =>
            intro n j h1 h2
            obtain ⟨n, rfl⟩ : ∃ k, n = k + 1 := ⟨n - 1, by omega⟩
            obtain rfl : j = Ho.length := by omega
            exact br_t (nI_le (Nat.le_refl _) (by omega)) (br_f (nI_ge (b := 6) hl6 (by decide)) ⟨pk_in Ho.length 6 hl6, nm_r (qa_u (by omega)) (nm_r (nI_1 _) ly)⟩)
          | succ m ih =>
            intro n j h1 h2
            obtain ⟨n, rfl⟩ : ∃ k, n = k + 1 := ⟨n - 1, by omega⟩
            have hj := h24 j (by omega)
            exact br_f (nI_ge (by omega) (by omega)) ⟨pk_in j 6 (by omega), pk_eq (qa_rg Ho j) (8 * p + i) (fun z => absurd z (hne j (by omega))) (fun z => nm_r (nI_1 j) (ih n (j + 1) (by omega) (by omega))) (by rw [nI_clamp (by omega)]; exact qa_Arg aX (by omega)) rfl⟩
      · refine qx_M0 ekx kl hM (br_t rfl (qa_yP hp (by omega) (PY p).2.2.2 hi (by omega) (nm_r (qa_8 p i) ⟨i24, pk_eq (pg_K g (8 * p + i)) 4 (fun c => ⟨rfl, qr_in F⟩) (fun n4 => ⟨i24, pk_eq (pg_K g (8 * p + i)) 6 (fun c => ⟨rfl, qr_in F⟩) (fun n6 => absurd (nM.mpr ⟨n4, n6⟩) hM) eky rfl kl⟩) eky rfl kl⟩)))
end
section
/-! the calls: the lists of codes -/
theorem qc_eq {g : pg_T} {n n' : Nat} {c c' : Nat → Nat} (h : qc_I g n c) (ha : ∀ O, pg_cp g O → qc_in n c (pg_code g O)) (h' : qc_I g n' c') (ha' : ∀ O, pg_cp g O → qc_in n' c' (pg_code g O)) : n = n' ∧ ∀ i, i < n → c i = c' i := by
  refine qc_uq h.2.1 h'.2.1 (fun w => ⟨fun z => ?_, fun z => ?_⟩)
  · obtain ⟨i, hi, e⟩ := z
    obtain ⟨O, ho, e2⟩ := h.2.2 i hi
    rw [← e, e2]; exact ha' O ho
  · obtain ⟨i, hi, e⟩ := z
    obtain ⟨O, ho, e2⟩ := h'.2.2 i hi
    rw [← e, e2]; exact ha O ho
theorem qc_no {g : pg_T} {n : Nat} {c : Nat → Nat} (ho : qc_ov g) (h : qc_I g n c) (ha : ∀ O, pg_cp g O → qc_in n c (pg_code g O)) : False := by
  obtain ⟨d, d1, d2⟩ := ho
  have := qc_len d1 h.2.1 (fun i hi => by
    obtain ⟨O, hO, e⟩ := d2 i hi
    rw [e]; exact ha O hO)
  have := h.1
  omega
theorem qr_Lu {cs ct md cs' md' CS CT MD CS' MD' : Nat → Int32} (hL : qr_L cs ct md cs' md') {q : Nat} (hq : q < 2) (h1 : ∀ j, j ≠ q → CT j = ct j ∧ MD j = md j) (h2 : ∀ j, (j < 256 * q ∨ 256 * q + 256 ≤ j) → CS j = cs j) (h3 : ∀ j, j ≠ q → MD' j = md' j) (h4 : ∀ j, (j < 256 * q ∨ 256 * q + 256 ≤ j) → CS' j = cs' j)
    (hn : (MD q = 0 ∧ MD' q = -1) ∨ (MD q = 1 ∧ ∃ n, n ≤ 256 ∧ CT q = nI n ∧ MD' q = nI n ∧ ∀ i, i < n → CS (256 * q + i) = CS' (256 * q + i))) : qr_L CS CT MD CS' MD' := by
  intro q' hq'
  by_cases c : q' = q
  · subst c; exact hn
  · obtain ⟨a, b⟩ := h1 q' c
    rw [a, b, h3 q' c]
    rcases hL q' hq' with z | ⟨z, n, y1, y2, y3, y4⟩
    · exact Or.inl z
    · refine Or.inr ⟨z, n, y1, y2, y3, fun i hi => ?_⟩
      rw [h2 _ (by omega), h4 _ (by omega)]; exact y4 i hi
theorem i_vc_explore {k : Nat} {u : SX} {v : SY} (I : i_Rel k u v) (hk : k + 5 ≤ 2563) : wpX_explore (fun r u' => wpY_explore (fun r' v' => r' = r ∧ i_Rel (k + 5) u' v') v) u := by
  refine qr_el (P := fun u v => wpX_explore (fun r u' => wpY_explore (fun r' v' => r' = r ∧ i_Rel (k + 5) u' v') v) u) ?_ I
  intro g pc H Ho f_logSize f_seqLen f_searchMask f_searchStarted k_workN a_kindAt a_opA a_opW a_length a_events a_pcOf a_regs a_cells a_bufEvent a_bufValue a_bufSize a_log a_order a_codes a_codeCount a_made a_seq a_picked a_runPc a_runReg a_runMem a_runLast a_runValue a_runSource b_len b_kind b_opA b_opW b_s b_order b_made b_codes b_stack b_choice b_work b_rd F
  obtain ⟨hw, hI, hn, he, PX, hE, MX, aX, PY, MY, aY, hL⟩ := id F
  have hn3 := hw.2.1
  have hc3 := hw.2.2.2.1
  have hd3 := hw.2.2.2.2.1
  have hN6 : pg_N g ≤ 6 := hw.2.2.2.2.2.2.2.2.2
  unfold wpX_explore
  refine qx_collect (q := 0) hw PX hE (by omega) (fun nn c hc ha sl MS SQ PK PC RG ME LA VA SO CS CT MD x1 x2 x3 x4 x5 => ?_) (fun ho sl MS SQ PK PC RG ME LA VA SO CS CT MD x1 x2 x3 x4 => ?_)
  · refine qy_explore hw PY (fun n' c' hc' ha' S ST CH MD' CS' y0 y1 y2 y3 y4 => ?_) (fun ho => absurd ho (fun z => qc_no z hc ha))
    obtain ⟨e1, e2⟩ := qc_eq hc ha hc' ha'
    subst e1
    refine ⟨rfl, qr_in ⟨hw, hI, hn, he, PX, hE, MX, aX, PY, qy_Mx MY hw hI y0, aY, qr_Lu hL (q := 0) (by omega) x5 x4 y3 (fun j hj => y4 j (by omega)) (Or.inr ⟨x3, nn, hc.1, x2, y2, fun i hi => ?_⟩)⟩⟩
    rw [x1 i hi, y1 i hi, e2 i hi]
  · refine qy_explore hw PY (fun n' c' hc' ha' => absurd ho (fun z => qc_no z hc' ha')) (fun _ S ST CH MD' CS' y0 y1 y2 y3 => ?_)
    exact ⟨rfl, qr_in ⟨hw, hI, hn, he, PX, hE, MX, aX, PY, qy_Mx MY hw hI y0, aY, qr_Lu hL (q := 0) (by omega) x4 x3 y2 (fun j hj => y3 j (by omega)) (Or.inl ⟨x2, y1⟩)⟩⟩
theorem i_vc_judge {k : Nat} {u : SX} {v : SY} (I : i_Rel k u v) (hk : k + 5 ≤ 2563) : wpX_judge (fun r u' => wpY_judge (fun r' v' => r' = r ∧ i_Rel (k + 5) u' v') v) u := by
  refine qr_el (P := fun u v => wpX_judge (fun r u' => wpY_judge (fun r' v' => r' = r ∧ i_Rel (k + 5) u' v') v) u) ?_ I
  intro g pc H Ho f_logSize f_seqLen f_searchMask f_searchStarted k_workN a_kindAt a_opA a_opW a_length a_events a_pcOf a_regs a_cells a_bufEvent a_bufValue a_bufSize a_log a_order a_codes a_codeCount a_made a_seq a_picked a_runPc a_runReg a_runMem a_runLast a_runValue a_runSource b_len b_kind b_opA b_opW b_s b_order b_made b_codes b_stack b_choice b_work b_rd F
  obtain ⟨hw, hI, hn, he, PX, hE, MX, aX, PY, MY, aY, hL⟩ := id F
  have hn3 := hw.2.1
  have hc3 := hw.2.2.2.1
  have hd3 := hw.2.2.2.2.1
  have hN6 : pg_N g ≤ 6 := hw.2.2.2.2.2.2.2.2.2
  unfold wpX_judge
  refine qx_collect (q := 1) hw PX hE (by omega) (fun nn c hc ha sl MS SQ PK PC RG ME LA VA SO CS CT MD x1 x2 x3 x4 x5 => ?_) (fun ho sl MS SQ PK PC RG ME LA VA SO CS CT MD x1 x2 x3 x4 => ?_)
  · refine qy_judge hw PY (fun n' c' hc' ha' WK RD MD' CS' y1 y2 y3 y4 => ?_) (fun ho => absurd ho (fun z => qc_no z hc ha))
    obtain ⟨e1, e2⟩ := qc_eq hc ha hc' ha'
    subst e1
    refine ⟨rfl, qr_in ⟨hw, hI, hn, he, PX, hE, MX, aX, PY, MY, aY, qr_Lu hL (q := 1) (by omega) x5 x4 y3 y4 (Or.inr ⟨x3, nn, hc.1, x2, y2, fun i hi => ?_⟩)⟩⟩
    rw [x1 i hi, y1 i hi, e2 i hi]
  · refine qy_judge hw PY (fun n' c' hc' ha' => absurd ho (fun z => qc_no z hc' ha')) (fun _ WK RD MD' CS' y1 y2 y3 => ?_)
    exact ⟨rfl, qr_in ⟨hw, hI, hn, he, PX, hE, MX, aX, PY, MY, aY, qr_Lu hL (q := 1) (by omega) x4 x3 y2 y3 (Or.inl ⟨x2, y1⟩)⟩⟩
section
variable {f_procs f_addrs f_bufferDepth f_eventCount f_logSize f_orderSize f_seqLen f_searchMask f_searchStarted : Int32} {a_kindAt a_opA a_opW a_length a_events a_pcOf a_regs a_cells a_bufEvent a_bufValue a_bufSize a_log a_order a_codes a_codeCount a_made a_seq a_picked a_runPc a_runReg a_runMem a_runLast a_runValue a_runSource : Nat → Int32}
variable {k_procs k_cells k_deep k_orderN k_workN : Int32} {b_len b_kind b_opA b_opW b_s b_order b_made b_codes b_stack b_choice b_work b_rd : Nat → Int32}
variable {g : pg_T} {pc : Nat → Nat} {H Ho : List Nat}
/-- size, on both sides -/
theorem qr_size (F : qr_F g pc H Ho f_logSize a_kindAt a_opA a_opW a_length a_events a_pcOf a_regs a_cells a_bufEvent a_bufValue a_bufSize a_log a_order a_codes a_codeCount a_made b_len b_kind b_opA b_opW b_s b_order b_made b_codes) (v1 : Int32) :
    ∃ r : Int32, (∀ post : Int32 → Prop, post r → wpX_size post ((nI (pg_n g)), (nI (pg_c g)), (nI (pg_d g)), (nI (pg_N g)), f_logSize, (nI Ho.length), f_seqLen, f_searchMask, f_searchStarted, a_kindAt, a_opA, a_opW, a_length, a_events, a_pcOf, a_regs, a_cells, a_bufEvent, a_bufValue, a_bufSize, a_log, a_order, a_codes, a_codeCount, a_made, a_seq, a_picked, a_runPc, a_runReg, a_runMem, a_runLast, a_runValue, a_runSource) v1) ∧ (∀ post : Int32 → Prop, post r → wpY_size post ((nI (pg_n g)), (nI (pg_c g)), (nI (pg_d g)), (nI Ho.length), k_workN, b_len, b_kind, b_opA, b_opW, b_s, b_order, b_made, b_codes, b_stack, b_choice, b_work, b_rd) v1) ∧ (¬ 0 ≤ r ∨ ∃ m, r = nI m ∧ m ≤ 256 ∧ ((v1 = nI 2 ∧ m = H.length) ∨ (v1 = nI 3 ∧ m = Ho.length) ∨ (∃ q, q < 2 ∧ v1 = nI q ∧ ∀ i, i < m → a_codes (256 * q + i) = b_codes (256 * q + i)))) := by
  obtain ⟨hw, hI, hn, he, PX, hE, MX, aX, PY, MY, aY, hL⟩ := id F
  have hl := pg_invl hw hI
  have hol := pg_len hw hn he
  have hN6 : pg_N g ≤ 6 := hw.2.2.2.2.2.2.2.2.2
  rcases (or_assoc.mpr (pk_ix v1 (n := 4) (by omega))) with h | ⟨q, hq, rfl⟩
  · refine ⟨-1, fun post hp => ?_, fun post hp => br_c (fun _ => hp) (fun z => br_f (fun y => ?_) hp), Or.inl (by decide)⟩
    · unfold wpX_size
      exact qx_bF h (br_t rfl hp)
    · exact absurd (Int32.le_trans (h.resolve_left z) y) (by decide)
  · by_cases q2 : q = 2
    · subst q2
      refine ⟨nI H.length, fun post hp => ?_, fun post hp => br_f (by decide) (br_t (by decide) (br_t rfl ?_)), Or.inr ⟨_, rfl, by omega, Or.inl ⟨rfl, rfl⟩⟩⟩
      · unfold wpX_size
        refine qx_bT (a := 2) (b := 4) (by omega) (by decide) (br_f qa_10 (br_t rfl ?_))
        rw [MX.2.2.2.2.2.1]; exact hp
      · rw [MY.2.2.2.2.2.1]; exact hp
    · by_cases q3 : q = 3
      · subst q3
        refine ⟨nI Ho.length, fun post hp => ?_, fun post hp => br_f (by decide) (br_t (by decide) (br_f (by decide) (br_t rfl hp))), Or.inr ⟨_, rfl, by omega, Or.inr (Or.inl ⟨rfl, rfl⟩)⟩⟩
        unfold wpX_size
        exact qx_bT (a := 3) (b := 4) (by omega) (by decide) (br_f qa_10 (br_f (by decide) (br_t rfl hp)))
      · have hq2 : q < 2 := by omega
        have n2 : ¬ nI q = 2 := fun z => q2 ((nI_eq (b := 2) (by omega) (by decide)).mp z)
        have n3 : ¬ nI q = 3 := fun z => q3 ((nI_eq (b := 3) (by omega) (by decide)).mp z)
        have i2 : vp_in (nI q) 2 := pk_in q 2 hq2
        have ex : a_made (nI q).toNatClampNeg = a_made q := qa_rd (by omega)
        have ec : a_codeCount (nI q).toNatClampNeg = a_codeCount q := qa_rd (by omega)
        have ey : b_made (nI q).toNatClampNeg = b_made q := qa_rd (by omega)
        rcases hL q hq2 with ⟨z1, z2⟩ | ⟨z, n, y1, y2, y3, y4⟩
        · refine ⟨-13, fun post hp => ?_, fun post hp => br_f (nI_pos (by omega)) (br_t (nI_le (b := 3) (by omega) (by decide)) (br_f n2 (br_f n3 ⟨i2, br_f ?_ hp⟩))), Or.inl (by decide)⟩
          · unfold wpX_size
            exact qx_bT hq (by decide) (br_f qa_10 (br_f n2 (br_f n3 ⟨i2, br_t (ex.trans z1) hp⟩)))
          · rw [ey, z2]; decide
        · refine ⟨nI n, fun post hp => ?_, fun post hp => br_f (nI_pos (by omega)) (br_t (nI_le (b := 3) (by omega) (by decide)) (br_f n2 (br_f n3 ⟨i2, br_t ?_ ⟨i2, ?_⟩⟩))), Or.inr ⟨n, rfl, y1, Or.inr (Or.inr ⟨q, hq2, rfl, y4⟩)⟩⟩
          · unfold wpX_size
            refine qx_bT hq (by decide) (br_f qa_10 (br_f n2 (br_f n3 ⟨i2, br_f ?_ ⟨i2, ?_⟩⟩)))
            · rw [ex, z]; decide
            · rw [ec, y2]; exact hp
          · rw [ey, y3]; exact nI_pos' (by omega)
          · rw [ey, y3]; exact hp
end
theorem i_vc_size {k : Nat} {u : SX} {v : SY} (I : i_Rel k u v) (hk : k + 5 ≤ 2563) (v1 : Int32) : wpX_size (fun r => wpY_size (fun r' => r' = r ∧ i_Rel (k + 5) u v) v v1) u v1 := by
  refine qr_el (P := fun u v => wpX_size (fun r => wpY_size (fun r' => r' = r ∧ i_Rel (k + 5) u v) v v1) u v1) ?_ I
  intro g pc H Ho f_logSize f_seqLen f_searchMask f_searchStarted k_workN a_kindAt a_opA a_opW a_length a_events a_pcOf a_regs a_cells a_bufEvent a_bufValue a_bufSize a_log a_order a_codes a_codeCount a_made a_seq a_picked a_runPc a_runReg a_runMem a_runLast a_runValue a_runSource b_len b_kind b_opA b_opW b_s b_order b_made b_codes b_stack b_choice b_work b_rd F
  obtain ⟨hw, hI, hn, he, PX, hE, MX, aX, PY, MY, aY, hL⟩ := id F
  have hn3 := hw.2.1
  have hc3 := hw.2.2.2.1
  have hd3 := hw.2.2.2.2.1
  have hN6 : pg_N g ≤ 6 := hw.2.2.2.2.2.2.2.2.2
  obtain ⟨r, hX, hY, _⟩ := qr_size (f_logSize := f_logSize) (f_seqLen := f_seqLen) (f_searchMask := f_searchMask) (f_searchStarted := f_searchStarted) (a_kindAt := a_kindAt) (a_opA := a_opA) (a_opW := a_opW) (a_length := a_length) (a_events := a_events) (a_pcOf := a_pcOf) (a_regs := a_regs) (a_cells := a_cells) (a_bufEvent := a_bufEvent) (a_bufValue := a_bufValue) (a_bufSize := a_bufSize) (a_log := a_log) (a_order := a_order) (a_codes := a_codes) (a_codeCount := a_codeCount) (a_made := a_made) (a_seq := a_seq) (a_picked := a_picked) (a_runPc := a_runPc) (a_runReg := a_runReg) (a_runMem := a_runMem) (a_runLast := a_runLast) (a_runValue := a_runValue) (a_runSource := a_runSource) (k_workN := k_workN) (b_len := b_len) (b_kind := b_kind) (b_opA := b_opA) (b_opW := b_opW) (b_s := b_s) (b_order := b_order) (b_made := b_made) (b_codes := b_codes) (b_stack := b_stack) (b_choice := b_choice) (b_work := b_work) (b_rd := b_rd) F v1
  exact hX _ (hY _ ⟨rfl, qr_in F⟩)
theorem i_vc_item {k : Nat} {u : SX} {v : SY} (I : i_Rel k u v) (hk : k + 5 ≤ 2563) (v1 : Int32) (v2 : Int32) : wpX_item (fun r => wpY_item (fun r' => r' = r ∧ i_Rel (k + 5) u v) v v1 v2) u v1 v2 := by
  refine qr_el (P := fun u v => wpX_item (fun r => wpY_item (fun r' => r' = r ∧ i_Rel (k + 5) u v) v v1 v2) u v1 v2) ?_ I
  intro g pc H Ho f_logSize f_seqLen f_searchMask f_searchStarted k_workN a_kindAt a_opA a_opW a_length a_events a_pcOf a_regs a_cells a_bufEvent a_bufValue a_bufSize a_log a_order a_codes a_codeCount a_made a_seq a_picked a_runPc a_runReg a_runMem a_runLast a_runValue a_runSource b_len b_kind b_opA b_opW b_s b_order b_made b_codes b_stack b_choice b_work b_rd F
  obtain ⟨hw, hI, hn, he, PX, hE, MX, aX, PY, MY, aY, hL⟩ := id F
  have hn3 := hw.2.1
  have hc3 := hw.2.2.2.1
  have hd3 := hw.2.2.2.2.1
  have hN6 : pg_N g ≤ 6 := hw.2.2.2.2.2.2.2.2.2
  have hl := pg_invl hw hI
  have hol := pg_len hw hn he
  obtain ⟨r, hX, hY, hr⟩ := qr_size (f_logSize := f_logSize) (f_seqLen := f_seqLen) (f_searchMask := f_searchMask) (f_searchStarted := f_searchStarted) (a_kindAt := a_kindAt) (a_opA := a_opA) (a_opW := a_opW) (a_length := a_length) (a_events := a_events) (a_pcOf := a_pcOf) (a_regs := a_regs) (a_cells := a_cells) (a_bufEvent := a_bufEvent) (a_bufValue := a_bufValue) (a_bufSize := a_bufSize) (a_log := a_log) (a_order := a_order) (a_codes := a_codes) (a_codeCount := a_codeCount) (a_made := a_made) (a_seq := a_seq) (a_picked := a_picked) (a_runPc := a_runPc) (a_runReg := a_runReg) (a_runMem := a_runMem) (a_runLast := a_runLast) (a_runValue := a_runValue) (a_runSource := a_runSource) (k_workN := k_workN) (b_len := b_len) (b_kind := b_kind) (b_opA := b_opA) (b_opW := b_opW) (b_s := b_s) (b_order := b_order) (b_made := b_made) (b_codes := b_codes) (b_stack := b_stack) (b_choice := b_choice) (b_work := b_work) (b_rd := b_rd) F v1
  unfold wpX_item
  refine hX _ ?_
  have yy : ∀ {post : Int32 → Prop}, (((0 ≤ r → (((v2 < 0 → (post (-1))) ∧ (¬ v2 < 0 → (((v2 < r → (((v1 = 2 → (vp_in (25 + v2) 32 ∧ (post (b_s (25 + v2).toNatClampNeg)))) ∧ (¬ v1 = 2 → (((v1 = 3 → (vp_in v2 6 ∧ (post (b_order v2.toNatClampNeg)))) ∧ (¬ v1 = 3 → (vp_in ((256 * v1) + v2) 512 ∧ (post (b_codes ((256 * v1) + v2).toNatClampNeg)))))))))) ∧ (¬ v2 < r → (post (-1))))))))) ∧ (¬ 0 ≤ r → (post r)))) → wpY_item post ((nI (pg_n g)), (nI (pg_c g)), (nI (pg_d g)), (nI Ho.length), k_workN, b_len, b_kind, b_opA, b_opW, b_s, b_order, b_made, b_codes, b_stack, b_choice, b_work, b_rd) v1 v2 := by
    intro post h
    unfold wpY_item
    exact hY _ h
  rcases hr with hr | ⟨m, rfl, hm, hcase⟩
  · exact br_f hr (yy (br_f hr ⟨rfl, qr_in F⟩))
  · refine br_t (nI_pos' (by omega)) ?_
    rcases (or_assoc.mpr (pk_ix v2 (n := m) (by omega))) with h | ⟨j, hj, rfl⟩
    · exact qx_bF h (br_t rfl (yy (br_t (nI_pos' (by omega)) (qa_yG h ⟨rfl, qr_in F⟩))))
    · refine qx_bT hj (by omega) (br_f qa_10 ?_)
      rcases hcase with ⟨e1, e2⟩ | ⟨e1, e2⟩ | ⟨q, hq, e1, e2⟩
      · subst e1 e2
        refine br_t rfl ⟨pk_in j 6 (by omega), yy (br_t (nI_pos' (by omega)) (qa_yU hj (by omega) (br_t rfl ⟨pk_in (25 + j) 32 (by omega) (qa_i25 j), ?_, qr_in F⟩)))⟩
        rw [qa_i25, nI_clamp (by omega), nI_clamp (by omega), MY.2.2.2.2.2.2 j hj, qa_Arg MX.2.2.2.2.2.2 hj]
      · subst e1 e2
        refine br_f (by decide) (br_t rfl ⟨pk_in j 6 (by omega), yy (br_t (nI_pos' (by omega)) (qa_yU hj (by omega) (br_f (by decide) (br_t rfl ⟨pk_in j 6 (by omega), ?_, qr_in F⟩))))⟩)
        rw [nI_clamp (by omega), qa_Arg aY hj, qa_Arg aX hj]
      · subst e1
        have n2 : ¬ nI q = 2 := fun z => by have := (nI_eq (b := 2) (by omega) (by decide)).mp z; omega
        have n3 : ¬ nI q = 3 := fun z => by have := (nI_eq (b := 3) (by omega) (by decide)).mp z; omega
        refine br_f n2 (br_f n3 ⟨pk_in (256 * q + j) 512 (by omega) (qa_256 q j), yy (br_t (nI_pos' (by omega)) (qa_yU hj (by omega) (br_f n2 (br_f n3 ⟨pk_in (256 * q + j) 512 (by omega) (qa_256 q j), ?_, qr_in F⟩))))⟩)
        rw [qa_256, nI_clamp (by omega), e2 j hj]
def qa_ct (cs : Nat → Int32) (b : Nat) (m w : Int32) : Nat → Int32
  | 0 => 0
  | i + 1 => if (cs (b + i) &&& m) = w then qa_ct cs b m w i + 1 else qa_ct cs b m w i
theorem qa_ctT {cs : Nat → Int32} {b i : Nat} {m w : Int32} (h : (cs (b + i) &&& m) = w) : qa_ct cs b m w (i + 1) = qa_ct cs b m w i + 1 := by simp only [qa_ct]; exact if_pos h
theorem qa_ctF {cs : Nat → Int32} {b i : Nat} {m w : Int32} (h : ¬ (cs (b + i) &&& m) = w) : qa_ct cs b m w (i + 1) = qa_ct cs b m w i := by simp only [qa_ct]; exact if_neg h
theorem qa_ctx {cs cs' : Nat → Int32} {b : Nat} {m w : Int32} : ∀ {n : Nat}, (∀ i, i < n → cs (b + i) = cs' (b + i)) → qa_ct cs b m w n = qa_ct cs' b m w n
  | 0, _ => rfl
  | n + 1, h => by
    simp only [qa_ct]
    rw [h n (by omega), qa_ctx (fun i hi => h i (by omega))]
theorem i_vc_matches {k : Nat} {u : SX} {v : SY} (I : i_Rel k u v) (hk : k + 5 ≤ 2563) (v1 : Int32) (v2 : Int32) (v3 : Int32) : wpX_matches (fun r => wpY_matches (fun r' => r' = r ∧ i_Rel (k + 5) u v) v v1 v2 v3) u v1 v2 v3 := by
  refine qr_el (P := fun u v => wpX_matches (fun r => wpY_matches (fun r' => r' = r ∧ i_Rel (k + 5) u v) v v1 v2 v3) u v1 v2 v3) ?_ I
  intro g pc H Ho f_logSize f_seqLen f_searchMask f_searchStarted k_workN a_kindAt a_opA a_opW a_length a_events a_pcOf a_regs a_cells a_bufEvent a_bufValue a_bufSize a_log a_order a_codes a_codeCount a_made a_seq a_picked a_runPc a_runReg a_runMem a_runLast a_runValue a_runSource b_len b_kind b_opA b_opW b_s b_order b_made b_codes b_stack b_choice b_work b_rd F
  obtain ⟨hw, hI, hn, he, PX, hE, MX, aX, PY, MY, aY, hL⟩ := id F
  have hn3 := hw.2.1
  have hc3 := hw.2.2.2.1
  have hd3 := hw.2.2.2.2.1
  have hN6 : pg_N g ≤ 6 := hw.2.2.2.2.2.2.2.2.2
  unfold wpX_matches
  rcases (or_assoc.mpr (pk_ix v1 (n := 2) (by omega))) with h | ⟨q, hq, rfl⟩
  · refine qx_bF h (br_t rfl (br_f (fun z => ?_) (br_f (fun z => ?_) ⟨rfl, qr_in F⟩)))
    · subst z; exact absurd h (by decide)
    · subst z; exact absurd h (by decide)
  · have i2 : vp_in (nI q) 2 := pk_in q 2 hq
    have ex : a_made (nI q).toNatClampNeg = a_made q := qa_rd (by omega)
    have ec : a_codeCount (nI q).toNatClampNeg = a_codeCount q := qa_rd (by omega)
    have ey : b_made (nI q).toNatClampNeg = b_made q := qa_rd (by omega)
    have yy : ∀ {post : Int32 → Prop}, wY_matches_11 post (nI q) v2 v3 (nI (pg_n g)) (nI (pg_c g)) (nI (pg_d g)) (nI Ho.length) k_workN b_len b_kind b_opA b_opW b_s b_order b_made b_codes b_stack b_choice b_work b_rd → wpY_matches post ((nI (pg_n g)), (nI (pg_c g)), (nI (pg_d g)), (nI Ho.length), k_workN, b_len, b_kind, b_opA, b_opW, b_s, b_order, b_made, b_codes, b_stack, b_choice, b_work, b_rd) (nI q) v2 v3 := fun h => br_c (fun _ => h) (fun z => br_t (by
      rcases (show q = 0 ∨ q = 1 by omega) with w | w
      · subst w; exact absurd rfl z
      · subst w; rfl) h)
    rcases hL q hq with ⟨z1, z2⟩ | ⟨z, n, y1, y2, y3, y4⟩
    · refine qx_bT hq (by decide) (br_f qa_10 ⟨i2, br_t (ex.trans z1) (yy ⟨i2, br_f ?_ ⟨rfl, qr_in F⟩⟩)⟩)
      rw [ey, z2]; decide
    · refine qx_bT hq (by decide) (br_f qa_10 ⟨i2, br_f ?_ (nm_r (qa_256p q) ⟨n + 1, ?_⟩)⟩)
      · rw [ex, z]; decide
      · have ly : wpY_matches (fun r' => r' = qa_ct a_codes (256 * q) v2 v3 n ∧ i_Rel (k + 5) ((nI (pg_n g)), (nI (pg_c g)), (nI (pg_d g)), (nI (pg_N g)), f_logSize, (nI Ho.length), f_seqLen, f_searchMask, f_searchStarted, a_kindAt, a_opA, a_opW, a_length, a_events, a_pcOf, a_regs, a_cells, a_bufEvent, a_bufValue, a_bufSize, a_log, a_order, a_codes, a_codeCount, a_made, a_seq, a_picked, a_runPc, a_runReg, a_runMem, a_runLast, a_runValue, a_runSource) ((nI (pg_n g)), (nI (pg_c g)), (nI (pg_d g)), (nI Ho.length), k_workN, b_len, b_kind, b_opA, b_opW, b_s, b_order, b_made, b_codes, b_stack, b_choice, b_work, b_rd)) ((nI (pg_n g)), (nI (pg_c g)), (nI (pg_d g)), (nI Ho.length), k_workN, b_len, b_kind, b_opA, b_opW, b_s, b_order, b_made, b_codes, b_stack, b_choice, b_work, b_rd) (nI q) v2 v3 := by
          refine yy ⟨i2, br_t ?_ ⟨n + 1, ?_⟩⟩
          · rw [ey, y3]; exact nI_pos' (by omega)
          · suffices ∀ m f j, j + m = n → m < f → wY_matches_29 (fun r' => r' = qa_ct a_codes (256 * q) v2 v3 n ∧ i_Rel (k + 5) ((nI (pg_n g)), (nI (pg_c g)), (nI (pg_d g)), (nI (pg_N g)), f_logSize, (nI Ho.length), f_seqLen, f_searchMask, f_searchStarted, a_kindAt, a_opA, a_opW, a_length, a_events, a_pcOf, a_regs, a_cells, a_bufEvent, a_bufValue, a_bufSize, a_log, a_order, a_codes, a_codeCount, a_made, a_seq, a_picked, a_runPc, a_runReg, a_runMem, a_runLast, a_runValue, a_runSource) ((nI (pg_n g)), (nI (pg_c g)), (nI (pg_d g)), (nI Ho.length), k_workN, b_len, b_kind, b_opA, b_opW, b_s, b_order, b_made, b_codes, b_stack, b_choice, b_work, b_rd)) (nI q) v2 v3 (nI (pg_n g)) (nI (pg_c g)) (nI (pg_d g)) (nI Ho.length) k_workN b_len b_kind b_opA b_opW b_s b_order b_made b_codes b_stack b_choice b_work b_rd f (qa_ct b_codes (256 * q) v2 v3 j) (nI j) from this n (n + 1) 0 (by omega) (by omega)
            intro m
            induction m with
            | zero =>
              intro f j h1 h2
              obtain ⟨f, rfl⟩ : ∃ k, f = k + 1 := ⟨f - 1, by omega⟩
              obtain rfl : j = n := by omega
              exact ⟨i2, pk_le j j (fun _ => ⟨(qa_ctx y4).symm, qr_in F⟩) (fun z => absurd z (by omega)) (ey.trans y3) rfl⟩
            | succ m ih =>
              intro f j h1 h2
              obtain ⟨f, rfl⟩ : ∃ k, f = k + 1 := ⟨f - 1, by omega⟩
              have h := ih f (j + 1) (by omega) (by omega)
              have e5 : b_codes ((256 : Int32) * nI q + nI j).toNatClampNeg = b_codes (256 * q + j) := by rw [qa_256, nI_clamp (by omega)]
              refine ⟨i2, pk_le n j (fun z => absurd z (by omega)) (fun _ => ⟨pk_in (256 * q + j) 512 (by omega) (qa_256 q j), br_c (fun z => nm_e (nm_r (nI_1 j) ?_)) (fun z => nm_r (nI_1 j) ?_)⟩) (ey.trans y3) rfl⟩
              · rw [e5] at z; rw [qa_ctT z] at h; exact h
              · rw [e5] at z; rw [qa_ctF z] at h; exact h
        suffices ∀ m f j, j + m = n → m < f → wX_matches_36 (fun r => wpY_matches (fun r' => r' = r ∧ i_Rel (k + 5) ((nI (pg_n g)), (nI (pg_c g)), (nI (pg_d g)), (nI (pg_N g)), f_logSize, (nI Ho.length), f_seqLen, f_searchMask, f_searchStarted, a_kindAt, a_opA, a_opW, a_length, a_events, a_pcOf, a_regs, a_cells, a_bufEvent, a_bufValue, a_bufSize, a_log, a_order, a_codes, a_codeCount, a_made, a_seq, a_picked, a_runPc, a_runReg, a_runMem, a_runLast, a_runValue, a_runSource) ((nI (pg_n g)), (nI (pg_c g)), (nI (pg_d g)), (nI Ho.length), k_workN, b_len, b_kind, b_opA, b_opW, b_s, b_order, b_made, b_codes, b_stack, b_choice, b_work, b_rd)) ((nI (pg_n g)), (nI (pg_c g)), (nI (pg_d g)), (nI Ho.length), k_workN, b_len, b_kind, b_opA, b_opW, b_s, b_order, b_made, b_codes, b_stack, b_choice, b_work, b_rd) (nI q) v2 v3) (nI q) v2 v3 (nI (256 * q)) (nI (pg_n g)) (nI (pg_c g)) (nI (pg_d g)) (nI (pg_N g)) f_logSize (nI Ho.length) f_seqLen f_searchMask f_searchStarted a_kindAt a_opA a_opW a_length a_events a_pcOf a_regs a_cells a_bufEvent a_bufValue a_bufSize a_log a_order a_codes a_codeCount a_made a_seq a_picked a_runPc a_runReg a_runMem a_runLast a_runValue a_runSource f (qa_ct a_codes (256 * q) v2 v3 j) (nI j) from this n (n + 1) 0 (by omega) (by omega)
        intro m
        induction m with
        | zero =>
          intro f j h1 h2
          obtain ⟨f, rfl⟩ : ∃ k, f = k + 1 := ⟨f - 1, by omega⟩
          obtain rfl : j = n := by omega
          exact ⟨i2, pk_le j j (fun _ => ly) (fun z => absurd z (by omega)) (ec.trans y2) rfl⟩
        | succ m ih =>
          intro f j h1 h2
          obtain ⟨f, rfl⟩ : ∃ k, f = k + 1 := ⟨f - 1, by omega⟩
          have h := ih f (j + 1) (by omega) (by omega)
          have e5 : a_codes (nI (256 * q) + nI j).toNatClampNeg = a_codes (256 * q + j) := by rw [nI_add, nI_clamp (by omega)]
          refine ⟨i2, pk_le n j (fun z => absurd z (by omega)) (fun _ => ⟨pk_in (256 * q + j) 512 (by omega) (nI_add _ _), br_c (fun z => nm_e (nm_r (nI_1 j) ?_)) (fun z => nm_r (nI_1 j) ?_)⟩) (ec.trans y2) rfl⟩
          · rw [e5] at z; rw [qa_ctT z] at h; exact h
          · rw [e5] at z; rw [qa_ctF z] at h; exact h
end
section
/-! the calls that change programs; the constructors -/
def pg_sd (g : pg_T) (d : Nat) : pg_T := (g.1, g.2.1, g.2.2.1, g.2.2.2.1, g.2.2.2.2.1, g.2.2.2.2.2.1, d)
theorem pg_sde {g : pg_T} {d : Nat} : ∀ n, pg_es (pg_sd g d) n = pg_es g n
  | 0 => rfl
  | n + 1 => by
    show (if pg_ev (pg_sd g d) n then n :: pg_es (pg_sd g d) n else pg_es (pg_sd g d) n) = _
    rw [pg_sde n]
    rfl
theorem pg_sdw {g : pg_T} {d : Nat} (hw : pg_wf g) (hd : d ≤ 3) : pg_wf (pg_sd g d) := by
  obtain ⟨h1, h2, h3, h4, h5, h6, h7, h8, h9, h10⟩ := hw
  exact ⟨h1, h2, h3, h4, hd, h6, h7, h8, h9, by rw [pg_sde]; exact h10⟩
theorem qr_L0 {cs ct md cs' md' : Nat → Int32} (h : ∀ q, q < 2 → md q = 0 ∧ ct q = 0) (h' : ∀ q, q < 2 → md' q = -1) : qr_L cs ct md cs' md' := fun q hq => Or.inl ⟨(h q hq).1, h' q hq⟩
theorem i_vc_setDepth {k : Nat} {u : SX} {v : SY} (I : i_Rel k u v) (hk : k + 5 ≤ 2563) (v1 : Int32) : wpX_setDepth (fun r u' => wpY_setDepth (fun r' v' => r' = r ∧ i_Rel (k + 5) u' v') v v1) u v1 := by
  refine qr_el (P := fun u v => wpX_setDepth (fun r u' => wpY_setDepth (fun r' v' => r' = r ∧ i_Rel (k + 5) u' v') v v1) u v1) ?_ I
  intro g pc H Ho f_logSize f_seqLen f_searchMask f_searchStarted k_workN a_kindAt a_opA a_opW a_length a_events a_pcOf a_regs a_cells a_bufEvent a_bufValue a_bufSize a_log a_order a_codes a_codeCount a_made a_seq a_picked a_runPc a_runReg a_runMem a_runLast a_runValue a_runSource b_len b_kind b_opA b_opW b_s b_order b_made b_codes b_stack b_choice b_work b_rd F
  obtain ⟨hw, hI, hn, he, PX, hE, MX, aX, PY, MY, aY, hL⟩ := id F
  have hn3 := hw.2.1
  have hc3 := hw.2.2.2.1
  have hd3 := hw.2.2.2.2.1
  have hN6 : pg_N g ≤ 6 := hw.2.2.2.2.2.2.2.2.2
  unfold wpX_setDepth
  rcases (or_assoc.mpr (pk_ix v1 (n := 4) (by omega))) with h | ⟨d, hd, rfl⟩
  · refine qx_bF h (br_t rfl (br_c (fun _ => ⟨rfl, qr_in F⟩) (fun z => br_f (fun y => ?_) ⟨rfl, qr_in F⟩)))
    exact absurd (Int32.le_trans (h.resolve_left z) y) (by decide)
  · refine qx_bT hd (by decide) (br_f qa_10 (qx_restart (fun PO RE CE BS h1 h2 => qx_unmake (fun M N h3 => ?_))))
    refine br_f (nI_pos (by omega)) (br_t (nI_le (b := 3) (by omega) (by decide)) (qy_forget (fun S M' hS hM => ⟨rfl, ?_⟩)))
    have eN : pg_N (pg_sd g d) = pg_N g := by unfold pg_N; rw [pg_sde]
    have := qr_in (k := k + 5) (g := pg_sd g d) (pc := fun _ => 0) (H := []) (Ho := Ho) (f_logSize := 0) (f_seqLen := f_seqLen) (f_searchMask := f_searchMask) (f_searchStarted := f_searchStarted) (a_kindAt := a_kindAt) (a_opA := a_opA) (a_opW := a_opW) (a_length := a_length) (a_events := a_events) (a_pcOf := PO) (a_regs := RE) (a_cells := CE) (a_bufEvent := a_bufEvent) (a_bufValue := a_bufValue) (a_bufSize := BS) (a_log := a_log) (a_order := a_order) (a_codes := a_codes) (a_codeCount := N) (a_made := M) (a_seq := a_seq) (a_picked := a_picked) (a_runPc := a_runPc) (a_runReg := a_runReg) (a_runMem := a_runMem) (a_runLast := a_runLast) (a_runValue := a_runValue) (a_runSource := a_runSource) (k_workN := k_workN) (b_len := b_len) (b_kind := b_kind) (b_opA := b_opA) (b_opW := b_opW) (b_s := S) (b_order := b_order) (b_made := M') (b_codes := b_codes) (b_stack := b_stack) (b_choice := b_choice) (b_work := b_work) (b_rd := b_rd) ⟨pg_sdw hw (by omega), pg_inv0, hn, he, PX, by rw [pg_sde]; exact hE, qx_Mz h1 h2, aX, PY, qy_Mz hS, aY, qr_L0 h3 hM⟩
    rw [eN] at this
    exact this
def pg_sl (g : pg_T) : pg_T := (g.1, g.2.1, g.2.2.1, fun _ => 0, g.2.2.2.2.1, g.2.2.2.2.2.1, g.2.2.2.2.2.2)
theorem pg_sle {g : pg_T} : ∀ n, pg_es (pg_sl g) n = []
  | 0 => rfl
  | n + 1 => by
    rw [pg_esF (fun z => absurd z.2.1 (Nat.not_lt_zero _))]
    exact pg_sle n
theorem pg_slw {g : pg_T} (hw : pg_wf g) : pg_wf (pg_sl g) := by
  obtain ⟨h1, h2, h3, h4, h5, h6, h7, h8, h9, h10⟩ := hw
  exact ⟨h1, h2, h3, h4, h5, fun _ => Nat.zero_le _, fun _ _ => rfl, fun p i hi => absurd hi (Nat.not_lt_zero _), h9, by rw [pg_sle]; exact Nat.zero_le _⟩
section
variable {f_procs f_addrs f_bufferDepth f_eventCount f_logSize f_orderSize f_seqLen f_searchMask f_searchStarted : Int32} {a_kindAt a_opA a_opW a_length a_events a_pcOf a_regs a_cells a_bufEvent a_bufValue a_bufSize a_log a_order a_codes a_codeCount a_made a_seq a_picked a_runPc a_runReg a_runMem a_runLast a_runValue a_runSource : Nat → Int32}
theorem qx_cl2 {post : SX → Prop} (hp : ∀ LN : Nat → Int32, (∀ p, p < 3 → LN p = 0) → (∀ p, 3 ≤ p → LN p = a_length p) → wpX_programsChanged (fun u => match u with | (f_procs, f_addrs, f_bufferDepth, f_eventCount, f_logSize, f_orderSize, f_seqLen, f_searchMask, f_searchStarted, a_kindAt, a_opA, a_opW, a_length, a_events, a_pcOf, a_regs, a_cells, a_bufEvent, a_bufValue, a_bufSize, a_log, a_order, a_codes, a_codeCount, a_made, a_seq, a_picked, a_runPc, a_runReg, a_runMem, a_runLast, a_runValue, a_runSource) => post (f_procs, f_addrs, f_bufferDepth, f_eventCount, f_logSize, f_orderSize, f_seqLen, f_searchMask, f_searchStarted, a_kindAt, a_opA, a_opW, a_length, a_events, a_pcOf, a_regs, a_cells, a_bufEvent, a_bufValue, a_bufSize, a_log, a_order, a_codes, a_codeCount, a_made, a_seq, a_picked, a_runPc, a_runReg, a_runMem, a_runLast, a_runValue, a_runSource)) (f_procs, f_addrs, f_bufferDepth, f_eventCount, f_logSize, f_orderSize, f_seqLen, f_searchMask, f_searchStarted, a_kindAt, a_opA, a_opW, LN, a_events, a_pcOf, a_regs, a_cells, a_bufEvent, a_bufValue, a_bufSize, a_log, a_order, a_codes, a_codeCount, a_made, a_seq, a_picked, a_runPc, a_runReg, a_runMem, a_runLast, a_runValue, a_runSource)) : ∀ (m n i : Nat) (LN : Nat → Int32), i + m = 3 → m < n → (∀ p, p < i → LN p = 0) → (∀ p, 3 ≤ p → LN p = a_length p) → wX_clear_2 post f_procs f_addrs f_bufferDepth f_eventCount f_logSize f_orderSize f_seqLen f_searchMask f_searchStarted n (nI i) a_kindAt a_opA a_opW LN a_events a_pcOf a_regs a_cells a_bufEvent a_bufValue a_bufSize a_log a_order a_codes a_codeCount a_made a_seq a_picked a_runPc a_runReg a_runMem a_runLast a_runValue a_runSource := by
  intro m
  induction m with
  | zero =>
    intro n i LN hi hn h1 h2
    obtain ⟨n, rfl⟩ : ∃ k, n = k + 1 := ⟨n - 1, by omega⟩
    obtain rfl : i = 3 := by omega
    exact br_t (by decide) (hp LN h1 h2)
  | succ m ih =>
    intro n i LN hi hn h1 h2
    obtain ⟨n, rfl⟩ : ∃ k, n = k + 1 := ⟨n - 1, by omega⟩
    refine br_f (nI_ge (b := 3) (by omega) (by decide)) ⟨pk_in i 3 (by omega), nm_r (qa_u (by omega)) (nm_r (nI_1 i) (ih n (i + 1) _ (by omega) (by omega) (fun p hp' => ?_) (fun p hp' => ?_)))⟩
    · by_cases c : p = i
      · subst c; exact pk_us
      · rw [pk_un c]; exact h1 p (by omega)
    · rw [pk_un (by omega)]; exact h2 p hp'
end
section
variable {k_procs k_cells k_deep k_orderN k_workN : Int32} {b_len b_kind b_opA b_opW b_s b_order b_made b_codes b_stack b_choice b_work b_rd : Nat → Int32}
theorem qy_cl2 {post : SY → Prop} (hp : ∀ LN S M : Nat → Int32, (∀ p, p < 3 → LN p = 0) → (∀ p, 3 ≤ p → LN p = b_len p) → (∀ j, j < 32 → S j = 0) → (∀ q, q < 2 → M q = -1) → post (k_procs, k_cells, k_deep, 0, k_workN, LN, b_kind, b_opA, b_opW, S, b_order, M, b_codes, b_stack, b_choice, b_work, b_rd)) : wpY_clear post (k_procs, k_cells, k_deep, k_orderN, k_workN, b_len, b_kind, b_opA, b_opW, b_s, b_order, b_made, b_codes, b_stack, b_choice, b_work, b_rd) := by
  refine ⟨4, ?_⟩
  suffices ∀ (m n i : Nat) (LN : Nat → Int32), i + m = 3 → m < n → (∀ p, p < i → LN p = 0) → (∀ p, 3 ≤ p → LN p = b_len p) → wY_clear_2 post k_procs k_cells k_deep k_orderN k_workN n (nI i) LN b_kind b_opA b_opW b_s b_order b_made b_codes b_stack b_choice b_work b_rd from this 3 4 0 b_len rfl (by omega) (fun p h => absurd h (by omega)) (fun _ _ => rfl)
  intro m
  induction m with
  | zero =>
    intro n i LN hi hn h1 h2
    obtain ⟨n, rfl⟩ : ∃ k, n = k + 1 := ⟨n - 1, by omega⟩
    obtain rfl : i = 3 := by omega
    exact br_t (by decide) (qy_forget (fun S M hS hM => hp LN S M h1 h2 hS hM))
  | succ m ih =>
    intro n i LN hi hn h1 h2
    obtain ⟨n, rfl⟩ : ∃ k, n = k + 1 := ⟨n - 1, by omega⟩
    refine br_f (nI_ge (b := 3) (by omega) (by decide)) ⟨pk_in i 3 (by omega), nm_r (qa_u (by omega)) (nm_r (nI_1 i) (ih n (i + 1) _ (by omega) (by omega) (fun p hp' => ?_) (fun p hp' => ?_)))⟩
    · by_cases c : p = i
      · subst c; exact pk_us
      · rw [pk_un c]; exact h1 p (by omega)
    · rw [pk_un (by omega)]; exact h2 p hp'
end
theorem qx_Pl {g : pg_T} {kd oa ow ln LN : Nat → Int32} (P : qx_P g kd oa ow ln) (hw : pg_wf g) (h1 : ∀ p, p < 3 → LN p = 0) (h2 : ∀ p, 3 ≤ p → LN p = ln p) : qx_P (pg_sl g) kd oa ow LN := by
  intro j
  obtain ⟨a, b, c, d⟩ := P j
  refine ⟨a, b, c, ?_⟩
  by_cases z : j < 3
  · exact h1 j z
  · rw [h2 j (by omega), d, hw.2.2.2.2.2.2.1 j (by have := hw.2.1; omega)]; rfl
theorem i_vc_clear {k : Nat} {u : SX} {v : SY} (I : i_Rel k u v) (hk : k + 5 ≤ 2563) : wpX_clear (fun u' => wpY_clear (fun v' => i_Rel (k + 5) u' v') v) u := by
  refine qr_el (P := fun u v => wpX_clear (fun u' => wpY_clear (fun v' => i_Rel (k + 5) u' v') v) u) ?_ I
  intro g pc H Ho f_logSize f_seqLen f_searchMask f_searchStarted k_workN a_kindAt a_opA a_opW a_length a_events a_pcOf a_regs a_cells a_bufEvent a_bufValue a_bufSize a_log a_order a_codes a_codeCount a_made a_seq a_picked a_runPc a_runReg a_runMem a_runLast a_runValue a_runSource b_len b_kind b_opA b_opW b_s b_order b_made b_codes b_stack b_choice b_work b_rd F
  obtain ⟨hw, hI, hn, he, PX, hE, MX, aX, PY, MY, aY, hL⟩ := id F
  have hn3 := hw.2.1
  have hc3 := hw.2.2.2.1
  have hd3 := hw.2.2.2.2.1
  have hN6 : pg_N g ≤ 6 := hw.2.2.2.2.2.2.2.2.2
  refine ⟨4, qx_cl2 (fun LN h1 h2 => ?_) 3 4 0 _ rfl (by omega) (fun p h => absurd h (by omega)) (fun _ _ => rfl)⟩
  have PX' := qx_Pl PX hw h1 h2
  have hw' := pg_slw hw
  refine qx_pch (g := pg_sl g) hw' PX' (fun E PO RE CE BS M N e1 e2 e3 e4 => ?_)
  refine qy_cl2 (fun LN' S M' h1' h2' hS hM => ?_)
  have PY' := qx_Pl PY hw h1' h2'
  exact qr_in (g := pg_sl g) (pc := fun _ => 0) (H := []) (Ho := []) ⟨hw', pg_inv0, List.nodup_nil, fun x hx => absurd hx (by simp), PX', e1, qx_Mz e2 e3, trivial, PY', qy_Mz hS, trivial, qr_L0 e4 hM⟩
/-! emit -/
def qa_un (f : Nat → Nat) (i v : Nat) : Nat → Nat := fun j => if j = i then v else f j
theorem qa_uns {f : Nat → Nat} {i v : Nat} : qa_un f i v i = v := if_pos rfl
theorem qa_unn {f : Nat → Nat} {i v j : Nat} (h : j ≠ i) : qa_un f i v j = f j := if_neg h
def pg_em (g : pg_T) (p k a w : Nat) : pg_T := (qa_un (pg_K g) (8 * p + pg_L g p) k, qa_un (pg_A g) (8 * p + pg_L g p) a, qa_un (pg_W g) (8 * p + pg_L g p) w, qa_un (pg_L g) p (pg_L g p + 1), pg_n g, pg_c g, pg_d g)
theorem pg_emP {g : pg_T} {p k a w : Nat} {kd oa ow ln : Nat → Int32} (P : qx_P g kd oa ow ln) : qx_P (pg_em g p k a w) (upd kd (8 * p + pg_L g p) (nI k)) (upd oa (8 * p + pg_L g p) (nI a)) (upd ow (8 * p + pg_L g p) (nI w)) (upd ln p (nI (pg_L g p + 1))) := by
  intro j
  obtain ⟨h1, h2, h3, h4⟩ := P j
  refine ⟨?_, ?_, ?_, ?_⟩
  · show _ = nI (qa_un (pg_K g) (8 * p + pg_L g p) k j)
    by_cases c : j = 8 * p + pg_L g p
    · subst c; rw [pk_us, qa_uns]
    · rw [pk_un c, qa_unn c]; exact h1
  · show _ = nI (qa_un (pg_A g) (8 * p + pg_L g p) a j)
    by_cases c : j = 8 * p + pg_L g p
    · subst c; rw [pk_us, qa_uns]
    · rw [pk_un c, qa_unn c]; exact h2
  · show _ = nI (qa_un (pg_W g) (8 * p + pg_L g p) w j)
    by_cases c : j = 8 * p + pg_L g p
    · subst c; rw [pk_us, qa_uns]
    · rw [pk_un c, qa_unn c]; exact h3
  · show _ = nI (qa_un (pg_L g) p (pg_L g p + 1) j)
    by_cases c : j = p
    · subst c; rw [pk_us, qa_uns]
    · rw [pk_un c, qa_unn c]; exact h4
theorem pg_emE {g : pg_T} (hw : pg_wf g) {p k a w : Nat} (hp5 : pg_L g p < 5) {x : Nat} (h : pg_ev (pg_em g p k a w) x) : (x = 8 * p + pg_L g p ∧ pg_M k) ∨ pg_ev g x := by
  obtain ⟨h1, h2, h3⟩ := h
  by_cases c : x = 8 * p + pg_L g p
  · left
    refine ⟨c, ?_⟩
    have : pg_K (pg_em g p k a w) x = k := by
      show qa_un (pg_K g) (8 * p + pg_L g p) k x = k
      rw [c, qa_uns]
    rw [this] at h3
    exact h3
  · right
    have eK : pg_K (pg_em g p k a w) x = pg_K g x := by
      show qa_un (pg_K g) (8 * p + pg_L g p) k x = _
      rw [qa_unn c]
    rw [eK] at h3
    refine ⟨h1, ?_, h3⟩
    have h2' : x % 8 < qa_un (pg_L g) p (pg_L g p + 1) (x / 8) := h2
    by_cases d : x / 8 = p
    · rw [d, qa_uns] at h2'
      rw [d]; omega
    · rw [qa_unn d] at h2'; exact h2'
theorem pg_emw {g : pg_T} (hw : pg_wf g) {p k a w : Nat} (hp : p < pg_n g) (hp5 : pg_L g p < 5) (hk1 : 1 ≤ k) (C : k ≤ 6 ∧ a ≤ 2 ∧ w ≤ 7 ∧ (k = 1 ∨ k = 3 → w ≤ 1) ∧ (k = 2 → w ≤ 3) ∧ (k = 6 → a ≤ 1 ∧ w ≤ 3) ∧ (k ≠ 6 → a < pg_c g)) (hN : pg_M k → pg_N g < 6) : pg_wf (pg_em g p k a w) := by
  obtain ⟨h1, h2, h3, h4, h5, h6, h7, h8, h9, h10⟩ := id hw
  refine ⟨h1, h2, h3, h4, h5, fun q => ?_, fun q hq => ?_, fun q i hi => ?_, fun e => ?_, ?_⟩
  · show qa_un (pg_L g) p (pg_L g p + 1) q ≤ 5
    by_cases c : q = p
    · subst c; rw [qa_uns]; omega
    · rw [qa_unn c]; exact h6 q
  · have hq' : pg_n g ≤ q := hq
    show qa_un (pg_L g) p (pg_L g p + 1) q = 0
    rw [qa_unn (by omega)]; exact h7 q hq'
  · have hi' : i < qa_un (pg_L g) p (pg_L g p + 1) q := hi
    show 1 ≤ qa_un (pg_K g) (8 * p + pg_L g p) k (8 * q + i)
    by_cases c : 8 * q + i = 8 * p + pg_L g p
    · rw [c, qa_uns]; exact hk1
    · rw [qa_unn c]
      by_cases d : q = p
      · subst d; rw [qa_uns] at hi'; exact h8 q i (by omega)
      · rw [qa_unn d] at hi'; exact h8 q i hi'
  · show qa_un (pg_K g) (8 * p + pg_L g p) k e ≤ 6 ∧ qa_un (pg_A g) (8 * p + pg_L g p) a e ≤ 2 ∧ qa_un (pg_W g) (8 * p + pg_L g p) w e ≤ 7 ∧ (qa_un (pg_K g) (8 * p + pg_L g p) k e = 1 ∨ qa_un (pg_K g) (8 * p + pg_L g p) k e = 3 → qa_un (pg_W g) (8 * p + pg_L g p) w e ≤ 1) ∧ (qa_un (pg_K g) (8 * p + pg_L g p) k e = 2 → qa_un (pg_W g) (8 * p + pg_L g p) w e ≤ 3) ∧ (qa_un (pg_K g) (8 * p + pg_L g p) k e = 6 → qa_un (pg_A g) (8 * p + pg_L g p) a e ≤ 1 ∧ qa_un (pg_W g) (8 * p + pg_L g p) w e ≤ 3) ∧ (qa_un (pg_K g) (8 * p + pg_L g p) k e ≠ 6 → qa_un (pg_A g) (8 * p + pg_L g p) a e < pg_c g)
    by_cases c : e = 8 * p + pg_L g p
    · rw [c, qa_uns, qa_uns, qa_uns]; exact C
    · rw [qa_unn c, qa_unn c, qa_unn c]; exact h9 e
  · by_cases m : pg_M k
    · have hN' := hN m
      have := (pg_esd (g := pg_em g p k a w) 24).length_le_of_subset (l₂ := (8 * p + pg_L g p) :: pg_es g 24) (fun x hx => by
        obtain ⟨x1, x2⟩ := pg_esm.mp hx
        rcases pg_emE hw hp5 x2 with ⟨z, _⟩ | z
        · rw [z]; exact List.mem_cons_self
        · exact List.mem_cons_of_mem _ (pg_esm.mpr ⟨x1, z⟩))
      unfold pg_N at hN'
      simp only [List.length_cons] at this
      omega
    · have := (pg_esd (g := pg_em g p k a w) 24).length_le_of_subset (l₂ := pg_es g 24) (fun x hx => by
        obtain ⟨x1, x2⟩ := pg_esm.mp hx
        rcases pg_emE hw hp5 x2 with ⟨_, z⟩ | z
        · exact absurd z m
        · exact pg_esm.mpr ⟨x1, z⟩)
      omega
def qe_A (g : pg_T) (k : Nat) : Nat := if k = 6 then 2 else pg_c g
def qe_W (k : Nat) : Nat := if k = 1 ∨ k = 3 then 2 else if k = 5 then 8 else 4
section
variable {f_procs f_addrs f_bufferDepth f_eventCount f_logSize f_orderSize f_seqLen f_searchMask f_searchStarted : Int32} {a_kindAt a_opA a_opW a_length a_events a_pcOf a_regs a_cells a_bufEvent a_bufValue a_bufSize a_log a_order a_codes a_codeCount a_made a_seq a_picked a_runPc a_runReg a_runMem a_runLast a_runValue a_runSource : Nat → Int32}
variable {g : pg_T}
theorem qx_fit1 (hc3 : pg_c g ≤ 3) {post : Int32 → Prop} {k a w : Nat} (hk : k = 1 ∨ k = 2 ∨ k = 3 ∨ k = 5 ∨ k = 6) (ha : a < qe_A g k) (hw : w < qe_W k) (hp : post 1) : wpX_operandsFit post (f_procs, (nI (pg_c g)), f_bufferDepth, f_eventCount, f_logSize, f_orderSize, f_seqLen, f_searchMask, f_searchStarted, a_kindAt, a_opA, a_opW, a_length, a_events, a_pcOf, a_regs, a_cells, a_bufEvent, a_bufValue, a_bufSize, a_log, a_order, a_codes, a_codeCount, a_made, a_seq, a_picked, a_runPc, a_runReg, a_runMem, a_runLast, a_runValue, a_runSource) (nI k) (nI a) (nI w) := by
  rcases hk with h | h | h | h | h <;> subst h
  · exact br_f (by decide) (br_f (by decide) (qx_bT ha (by simp [qe_A]; omega) (br_f qa_10 (br_f (by decide) (br_f (by decide) (qx_bT (b := 2) hw (by decide) ⟨narrow_b1, hp⟩))))))
  · exact br_f (by decide) (br_f (by decide) (qx_bT ha (by simp [qe_A]; omega) (br_f qa_10 (br_f (by decide) (br_t rfl (qx_bT (b := 4) hw (by decide) ⟨narrow_b1, hp⟩))))))
  · exact br_f (by decide) (br_f (by decide) (qx_bT ha (by simp [qe_A]; omega) (br_f qa_10 (br_f (by decide) (br_f (by decide) (qx_bT (b := 2) hw (by decide) ⟨narrow_b1, hp⟩))))))
  · exact br_f (by decide) (br_f (by decide) (qx_bT ha (by simp [qe_A]; omega) (br_f qa_10 (br_t rfl (qx_bT (b := 8) hw (by decide) ⟨narrow_b1, hp⟩)))))
  · exact br_f (by decide) (br_t rfl (qx_bT (b := 2) ha (by decide) (br_f qa_10 (qx_bT (b := 4) hw (by decide) (br_f qa_10 hp)))))
theorem qx_fitA {post : Int32 → Prop} {k : Nat} {a w : Int32} (hk : k = 1 ∨ k = 2 ∨ k = 3 ∨ k = 5 ∨ k = 6) (ha : a < 0 ∨ nI (qe_A g k) ≤ a) (hp : post 0) : wpX_operandsFit post (f_procs, (nI (pg_c g)), f_bufferDepth, f_eventCount, f_logSize, f_orderSize, f_seqLen, f_searchMask, f_searchStarted, a_kindAt, a_opA, a_opW, a_length, a_events, a_pcOf, a_regs, a_cells, a_bufEvent, a_bufValue, a_bufSize, a_log, a_order, a_codes, a_codeCount, a_made, a_seq, a_picked, a_runPc, a_runReg, a_runMem, a_runLast, a_runValue, a_runSource) (nI k) a w := by
  rcases hk with h | h | h | h | h <;> subst h
  · exact br_f (by decide) (br_f (by decide) (qx_bF ha (br_t rfl hp)))
  · exact br_f (by decide) (br_f (by decide) (qx_bF ha (br_t rfl hp)))
  · exact br_f (by decide) (br_f (by decide) (qx_bF ha (br_t rfl hp)))
  · exact br_f (by decide) (br_f (by decide) (qx_bF ha (br_t rfl hp)))
  · exact br_f (by decide) (br_t rfl (qx_bF ha (br_t rfl hp)))
theorem qx_fitW (hc3 : pg_c g ≤ 3) {post : Int32 → Prop} {k a : Nat} {w : Int32} (hk : k = 1 ∨ k = 2 ∨ k = 3 ∨ k = 5 ∨ k = 6) (ha : a < qe_A g k) (hw : w < 0 ∨ nI (qe_W k) ≤ w) (hp : post 0) : wpX_operandsFit post (f_procs, (nI (pg_c g)), f_bufferDepth, f_eventCount, f_logSize, f_orderSize, f_seqLen, f_searchMask, f_searchStarted, a_kindAt, a_opA, a_opW, a_length, a_events, a_pcOf, a_regs, a_cells, a_bufEvent, a_bufValue, a_bufSize, a_log, a_order, a_codes, a_codeCount, a_made, a_seq, a_picked, a_runPc, a_runReg, a_runMem, a_runLast, a_runValue, a_runSource) (nI k) (nI a) w := by
  rcases hk with h | h | h | h | h <;> subst h
  · exact br_f (by decide) (br_f (by decide) (qx_bT ha (by simp [qe_A]; omega) (br_f qa_10 (br_f (by decide) (br_f (by decide) (qx_bF hw ⟨narrow_b0, hp⟩))))))
  · exact br_f (by decide) (br_f (by decide) (qx_bT ha (by simp [qe_A]; omega) (br_f qa_10 (br_f (by decide) (br_t rfl (qx_bF hw ⟨narrow_b0, hp⟩))))))
  · exact br_f (by decide) (br_f (by decide) (qx_bT ha (by simp [qe_A]; omega) (br_f qa_10 (br_f (by decide) (br_f (by decide) (qx_bF hw ⟨narrow_b0, hp⟩))))))
  · exact br_f (by decide) (br_f (by decide) (qx_bT ha (by simp [qe_A]; omega) (br_f qa_10 (br_t rfl (qx_bF hw ⟨narrow_b0, hp⟩)))))
  · exact br_f (by decide) (br_t rfl (qx_bT (b := 2) ha (by decide) (br_f qa_10 (qx_bF hw (br_t rfl hp)))))
/-- X writes an instruction -/
theorem qx_em71 (hw : pg_wf g) (P : qx_P g a_kindAt a_opA a_opW a_length) {post : Int32 → SX → Prop} {p k a w : Nat} {va vw : Int32} (hp : p < pg_n g) (hp5 : pg_L g p < 5) (hk : k ≤ 6) (ha : k ≠ 4 → va = nI a) (hw' : k ≠ 4 → vw = nI w) (h4 : k = 4 → a = 0 ∧ w = 0) (hwf : pg_wf (pg_em g p k a w))
    (h : ∀ E PO RE CE BS M N, qa_Ar (pg_es (pg_em g p k a w) 24) E → (∀ p, p < 3 → PO p = 0 ∧ CE p = 0 ∧ BS p = 0) → (∀ r, r < 6 → RE r = 0) → (∀ q, q < 2 → M q = 0 ∧ N q = 0) → post 0 ((nI (pg_n g)), f_addrs, f_bufferDepth, (nI (pg_N (pg_em g p k a w))), 0, 0, f_seqLen, f_searchMask, f_searchStarted, (upd a_kindAt (8 * p + pg_L g p) (nI k)), (upd a_opA (8 * p + pg_L g p) (nI a)), (upd a_opW (8 * p + pg_L g p) (nI w)), (upd a_length p (nI (pg_L g p + 1))), E, PO, RE, CE, a_bufEvent, a_bufValue, BS, a_log, a_order, a_codes, N, M, a_seq, a_picked, a_runPc, a_runReg, a_runMem, a_runLast, a_runValue, a_runSource)) :
    wX_emit_71 post (nI p) (nI k) va vw (nI (pg_n g)) f_addrs f_bufferDepth f_eventCount f_logSize f_orderSize f_seqLen f_searchMask f_searchStarted a_kindAt a_opA a_opW a_length a_events a_pcOf a_regs a_cells a_bufEvent a_bufValue a_bufSize a_log a_order a_codes a_codeCount a_made a_seq a_picked a_runPc a_runReg a_runMem a_runLast a_runValue a_runSource := by
  have hn3 := hw.2.1
  have el : a_length (nI p).toNatClampNeg = nI (pg_L g p) := qa_ln P (by omega)
  have es : (8 : Int32) * nI p + a_length (nI p).toNatClampNeg = nI (8 * p + pg_L g p) := by rw [el, qa_8]
  have i24 : vp_in (nI (8 * p + pg_L g p)) 24 := pk_in (8 * p + pg_L g p) 24 (by omega)
  have p3 : vp_in (nI p) 3 := pk_in p 3 (by omega)
  have e126 : ∀ z : Int32, z = nI w → wX_emit_126 post (nI p) z (nI (8 * p + pg_L g p)) (nI (pg_n g)) f_addrs f_bufferDepth f_eventCount f_logSize f_orderSize f_seqLen f_searchMask f_searchStarted (upd a_kindAt (8 * p + pg_L g p) (nI k)) (upd a_opA (8 * p + pg_L g p) (nI a)) a_opW a_length a_events a_pcOf a_regs a_cells a_bufEvent a_bufValue a_bufSize a_log a_order a_codes a_codeCount a_made a_seq a_picked a_runPc a_runReg a_runMem a_runLast a_runValue a_runSource := by
    intro z hz
    subst hz
    have e5 : upd a_length (nI p).toNatClampNeg (a_length (nI p).toNatClampNeg + 1) = upd a_length p (nI (pg_L g p + 1)) := by rw [el, nI_1, qa_u (by omega)]
    exact ⟨i24, nm_r (qa_u (by omega)) ⟨p3, p3, nm_r e5 (qx_pch (g := pg_em g p k a w) hwf (pg_emP P) (fun E PO RE CE BS M N a b c d => h E PO RE CE BS M N a b c d))⟩⟩
  have e108 : ∀ z : Int32, z = nI a → wX_emit_108 post (nI p) (nI k) vw (nI (8 * p + pg_L g p)) z (nI (8 * p + pg_L g p)) (nI (pg_n g)) f_addrs f_bufferDepth f_eventCount f_logSize f_orderSize f_seqLen f_searchMask f_searchStarted (upd a_kindAt (8 * p + pg_L g p) (nI k)) a_opA a_opW a_length a_events a_pcOf a_regs a_cells a_bufEvent a_bufValue a_bufSize a_log a_order a_codes a_codeCount a_made a_seq a_picked a_runPc a_runReg a_runMem a_runLast a_runValue a_runSource := by
    intro z hz
    subst hz
    exact ⟨i24, nm_r (qa_u (by omega)) (pk_eq k 4 (fun c => e126 0 (by rw [(h4 c).2]; rfl)) (fun c => e126 vw (hw' c)))⟩
  exact ⟨p3, nm_r es ⟨i24, nm_r (qa_u (by omega)) (pk_eq k 4 (fun c => e108 0 (by rw [(h4 c).1]; rfl)) (fun c => e108 va (ha c)))⟩⟩
end
section
variable {k_procs k_cells k_deep k_orderN k_workN : Int32} {b_len b_kind b_opA b_opW b_s b_order b_made b_codes b_stack b_choice b_work b_rd : Nat → Int32}
variable {g : pg_T}
theorem qy_em35 (hw : pg_wf g) {post : Int32 → SY → Prop} {p k : Nat} {a w : Int32} (hk : 1 ≤ k) (hk6 : k ≤ 6) (h : wY_emit_78 post (nI p) (nI k) a w (nI (qe_A g k - 1)) (nI (qe_W k - 1)) k_procs (nI (pg_c g)) k_deep k_orderN k_workN b_len b_kind b_opA b_opW b_s b_order b_made b_codes b_stack b_choice b_work b_rd) : wY_emit_35 post (nI p) (nI k) a w k_procs (nI (pg_c g)) k_deep k_orderN k_workN b_len b_kind b_opA b_opW b_s b_order b_made b_codes b_stack b_choice b_work b_rd := by
  have hc1 := hw.2.2.1
  have ec : nI (pg_c g) - 1 = nI (pg_c g - 1) := by
    have := nI_pred (pg_c g - 1)
    rw [show pg_c g - 1 + 1 = pg_c g by omega] at this
    exact this
  rcases (show k = 1 ∨ k = 2 ∨ k = 3 ∨ k = 4 ∨ k = 5 ∨ k = 6 by omega) with c | c | c | c | c | c <;> subst c
  · refine br_f (by decide) ?_
    rw [ec]; exact br_t rfl h
  · refine br_f (by decide) ?_
    rw [ec]; exact br_f (by decide) (br_f (by decide) (br_f (by decide) h))
  · refine br_f (by decide) ?_
    rw [ec]; exact br_f (by decide) (br_t rfl h)
  · refine br_f (by decide) ?_
    rw [ec]; exact br_f (by decide) (br_f (by decide) (br_f (by decide) h))
  · refine br_f (by decide) ?_
    rw [ec]; exact br_f (by decide) (br_f (by decide) (br_t rfl h))
  · exact br_t rfl (br_f (by decide) (br_f (by decide) (br_f (by decide) h)))
theorem qy_em140 (hw : pg_wf g) (P : qx_P g b_kind b_opA b_opW b_len) {post : Int32 → SY → Prop} {p k a w : Nat} (hp : p < pg_n g) (hp5 : pg_L g p < 5)
    (h : ∀ S M, (∀ j, j < 32 → S j = 0) → (∀ q, q < 2 → M q = -1) → post 0 (k_procs, k_cells, k_deep, 0, k_workN, (upd b_len p (nI (pg_L g p + 1))), (upd b_kind (8 * p + pg_L g p) (nI k)), (upd b_opA (8 * p + pg_L g p) (nI a)), (upd b_opW (8 * p + pg_L g p) (nI w)), S, b_order, M, b_codes, b_stack, b_choice, b_work, b_rd)) : wY_emit_140 post (nI p) (nI k) (nI a) (nI w) k_procs k_cells k_deep k_orderN k_workN b_len b_kind b_opA b_opW b_s b_order b_made b_codes b_stack b_choice b_work b_rd := by
  have hn3 := hw.2.1
  have el : b_len (nI p).toNatClampNeg = nI (pg_L g p) := qa_ln P (by omega)
  have es : (8 : Int32) * nI p + b_len (nI p).toNatClampNeg = nI (8 * p + pg_L g p) := by rw [el, qa_8]
  have i24 : vp_in (nI (8 * p + pg_L g p)) 24 := pk_in (8 * p + pg_L g p) 24 (by omega)
  have p3 : vp_in (nI p) 3 := pk_in p 3 (by omega)
  have e5 : upd b_len (nI p).toNatClampNeg (b_len (nI p).toNatClampNeg + 1) = upd b_len p (nI (pg_L g p + 1)) := by rw [el, nI_1, qa_u (by omega)]
  exact ⟨p3, nm_r es ⟨i24, nm_r (qa_u (by omega)) ⟨i24, nm_r (qa_u (by omega)) ⟨i24, nm_r (qa_u (by omega)) ⟨p3, p3, nm_r e5 (qy_forget (fun S M hS hM => h S M hS hM))⟩⟩⟩⟩⟩
end
end
section
/-! emit; the constructors -/
theorem qe_C {g : pg_T} (hw : pg_wf g) {k a w : Nat} (hk : k = 1 ∨ k = 2 ∨ k = 3 ∨ k = 5 ∨ k = 6) (ha : a < qe_A g k) (hw' : w < qe_W k) : k ≤ 6 ∧ a ≤ 2 ∧ w ≤ 7 ∧ (k = 1 ∨ k = 3 → w ≤ 1) ∧ (k = 2 → w ≤ 3) ∧ (k = 6 → a ≤ 1 ∧ w ≤ 3) ∧ (k ≠ 6 → a < pg_c g) := by
  have hc3 := hw.2.2.2.1
  rcases hk with h | h | h | h | h <;> subst h <;> simp [qe_A, qe_W] at ha hw' <;> omega
theorem qe_C4 {g : pg_T} (hw : pg_wf g) : (4 : Nat) ≤ 6 ∧ 0 ≤ 2 ∧ 0 ≤ 7 ∧ ((4 : Nat) = 1 ∨ (4 : Nat) = 3 → 0 ≤ 1) ∧ ((4 : Nat) = 2 → 0 ≤ 3) ∧ ((4 : Nat) = 6 → 0 ≤ 1 ∧ 0 ≤ 3) ∧ ((4 : Nat) ≠ 6 → 0 < pg_c g) := by
  have hc1 := hw.2.2.1
  omega
section
variable {f_procs f_addrs f_bufferDepth f_eventCount f_logSize f_orderSize f_seqLen f_searchMask f_searchStarted : Int32} {a_kindAt a_opA a_opW a_length a_events a_pcOf a_regs a_cells a_bufEvent a_bufValue a_bufSize a_log a_order a_codes a_codeCount a_made a_seq a_picked a_runPc a_runReg a_runMem a_runLast a_runValue a_runSource : Nat → Int32}
variable {k_procs k_cells k_deep k_orderN k_workN : Int32} {b_len b_kind b_opA b_opW b_s b_order b_made b_codes b_stack b_choice b_work b_rd : Nat → Int32}
variable {g : pg_T} {pc : Nat → Nat} {H Ho : List Nat} {k : Nat}
/-- both sides, behind the checks of p and of the operands -/
theorem qr_em (F : qr_F g pc H Ho f_logSize a_kindAt a_opA a_opW a_length a_events a_pcOf a_regs a_cells a_bufEvent a_bufValue a_bufSize a_log a_order a_codes a_codeCount a_made b_len b_kind b_opA b_opW b_s b_order b_made b_codes) {p kd a w : Nat} {va vw : Int32} (hp : p < pg_n g) (hk1 : 1 ≤ kd) (ha : kd ≠ 4 → va = nI a) (hw' : kd ≠ 4 → vw = nI w) (h4 : kd = 4 → a = 0 ∧ w = 0)
    (C : kd ≤ 6 ∧ a ≤ 2 ∧ w ≤ 7 ∧ (kd = 1 ∨ kd = 3 → w ≤ 1) ∧ (kd = 2 → w ≤ 3) ∧ (kd = 6 → a ≤ 1 ∧ w ≤ 3) ∧ (kd ≠ 6 → a < pg_c g)) (hA : a < qe_A g kd) (hW : w < qe_W kd)
    (yy : ∀ post : Int32 → SY → Prop, wY_emit_35 post (nI p) (nI kd) (nI a) (nI w) (nI (pg_n g)) (nI (pg_c g)) (nI (pg_d g)) (nI Ho.length) k_workN b_len b_kind b_opA b_opW b_s b_order b_made b_codes b_stack b_choice b_work b_rd → wpY_emit post ((nI (pg_n g)), (nI (pg_c g)), (nI (pg_d g)), (nI Ho.length), k_workN, b_len, b_kind, b_opA, b_opW, b_s, b_order, b_made, b_codes, b_stack, b_choice, b_work, b_rd) (nI p) (nI kd) va vw) :
    vp_in (nI p) 3 ∧ ((((a_length (nI p).toNatClampNeg) < 5 → (wpX_isMemory (fun r_75 => (((r_75 = 0 → (wX_emit_71 (fun r u' => wpY_emit (fun r' v' => r' = r ∧ i_Rel (k + 5) u' v') ((nI (pg_n g)), (nI (pg_c g)), (nI (pg_d g)), (nI Ho.length), k_workN, b_len, b_kind, b_opA, b_opW, b_s, b_order, b_made, b_codes, b_stack, b_choice, b_work, b_rd) (nI p) (nI kd) va vw) (nI p) (nI kd) va vw (nI (pg_n g)) (nI (pg_c g)) (nI (pg_d g)) (nI (pg_N g)) f_logSize (nI Ho.length) f_seqLen f_searchMask f_searchStarted a_kindAt a_opA a_opW a_length a_events a_pcOf a_regs a_cells a_bufEvent a_bufValue a_bufSize a_log a_order a_codes a_codeCount a_made a_seq a_picked a_runPc a_runReg a_runMem a_runLast a_runValue a_runSource)) ∧ (¬ r_75 = 0 → (((nI (pg_N g) < 6 → (wX_emit_71 (fun r u' => wpY_emit (fun r' v' => r' = r ∧ i_Rel (k + 5) u' v') ((nI (pg_n g)), (nI (pg_c g)), (nI (pg_d g)), (nI Ho.length), k_workN, b_len, b_kind, b_opA, b_opW, b_s, b_order, b_made, b_codes, b_stack, b_choice, b_work, b_rd) (nI p) (nI kd) va vw) (nI p) (nI kd) va vw (nI (pg_n g)) (nI (pg_c g)) (nI (pg_d g)) (nI (pg_N g)) f_logSize (nI Ho.length) f_seqLen f_searchMask f_searchStarted a_kindAt a_opA a_opW a_length a_events a_pcOf a_regs a_cells a_bufEvent a_bufValue a_bufSize a_log a_order a_codes a_codeCount a_made a_seq a_picked a_runPc a_runReg a_runMem a_runLast a_runValue a_runSource)) ∧ (¬ nI (pg_N g) < 6 → (wpY_emit (fun r' v' => r' = -2 ∧ i_Rel (k + 5) ((nI (pg_n g)), (nI (pg_c g)), (nI (pg_d g)), (nI (pg_N g)), f_logSize, (nI Ho.length), f_seqLen, f_searchMask, f_searchStarted, a_kindAt, a_opA, a_opW, a_length, a_events, a_pcOf, a_regs, a_cells, a_bufEvent, a_bufValue, a_bufSize, a_log, a_order, a_codes, a_codeCount, a_made, a_seq, a_picked, a_runPc, a_runReg, a_runMem, a_runLast, a_runValue, a_runSource) v') ((nI (pg_n g)), (nI (pg_c g)), (nI (pg_d g)), (nI Ho.length), k_workN, b_len, b_kind, b_opA, b_opW, b_s, b_order, b_made, b_codes, b_stack, b_choice, b_work, b_rd) (nI p) (nI kd) va vw)))))))) ((nI (pg_n g)), (nI (pg_c g)), (nI (pg_d g)), (nI (pg_N g)), f_logSize, (nI Ho.length), f_seqLen, f_searchMask, f_searchStarted, a_kindAt, a_opA, a_opW, a_length, a_events, a_pcOf, a_regs, a_cells, a_bufEvent, a_bufValue, a_bufSize, a_log, a_order, a_codes, a_codeCount, a_made, a_seq, a_picked, a_runPc, a_runReg, a_runMem, a_runLast, a_runValue, a_runSource) (nI kd))) ∧ (¬ (a_length (nI p).toNatClampNeg) < 5 → (wpY_emit (fun r' v' => r' = -2 ∧ i_Rel (k + 5) ((nI (pg_n g)), (nI (pg_c g)), (nI (pg_d g)), (nI (pg_N g)), f_logSize, (nI Ho.length), f_seqLen, f_searchMask, f_searchStarted, a_kindAt, a_opA, a_opW, a_length, a_events, a_pcOf, a_regs, a_cells, a_bufEvent, a_bufValue, a_bufSize, a_log, a_order, a_codes, a_codeCount, a_made, a_seq, a_picked, a_runPc, a_runReg, a_runMem, a_runLast, a_runValue, a_runSource) v') ((nI (pg_n g)), (nI (pg_c g)), (nI (pg_d g)), (nI Ho.length), k_workN, b_len, b_kind, b_opA, b_opW, b_s, b_order, b_made, b_codes, b_stack, b_choice, b_work, b_rd) (nI p) (nI kd) va vw)))) := by
  obtain ⟨hw, hI, hn, he, PX, hE, MX, aX, PY, MY, aY, hL⟩ := id F
  have hn3 := hw.2.1
  have hc3 := hw.2.2.2.1
  have hL5 := hw.2.2.2.2.2.1 p
  have hN6 : pg_N g ≤ 6 := hw.2.2.2.2.2.2.2.2.2
  have p3 : vp_in (nI p) 3 := pk_in p 3 (by omega)
  have elx : a_length (nI p).toNatClampNeg = nI (pg_L g p) := qa_ln PX (by omega)
  have ely : b_len (nI p).toNatClampNeg = nI (pg_L g p) := qa_ln PY (by omega)
  have hqW : qe_W kd ≤ 8 := by unfold qe_W; split <;> (try split) <;> omega
  have hqA : qe_A g kd ≤ 3 := by unfold qe_A; split <;> omega
  -- Y up to the length check
  have y78 : ∀ post : Int32 → SY → Prop, (((b_len (nI p).toNatClampNeg) < 5 → (((nI kd = 4 → (wY_emit_140 post (nI p) (nI kd) (nI a) (nI w) (nI (pg_n g)) (nI (pg_c g)) (nI (pg_d g)) (nI Ho.length) k_workN b_len b_kind b_opA b_opW b_s b_order b_made b_codes b_stack b_choice b_work b_rd)) ∧ (¬ nI kd = 4 → (((nI kd = 6 → (wY_emit_140 post (nI p) (nI kd) (nI a) (nI w) (nI (pg_n g)) (nI (pg_c g)) (nI (pg_d g)) (nI Ho.length) k_workN b_len b_kind b_opA b_opW b_s b_order b_made b_codes b_stack b_choice b_work b_rd)) ∧ (¬ nI kd = 6 → (wpY_events (fun r_45 => (((r_45 < 6 → (wY_emit_140 post (nI p) (nI kd) (nI a) (nI w) (nI (pg_n g)) (nI (pg_c g)) (nI (pg_d g)) (nI Ho.length) k_workN b_len b_kind b_opA b_opW b_s b_order b_made b_codes b_stack b_choice b_work b_rd)) ∧ (¬ r_45 < 6 → (post (-2) ((nI (pg_n g)), (nI (pg_c g)), (nI (pg_d g)), (nI Ho.length), k_workN, b_len, b_kind, b_opA, b_opW, b_s, b_order, b_made, b_codes, b_stack, b_choice, b_work, b_rd)))))) ((nI (pg_n g)), (nI (pg_c g)), (nI (pg_d g)), (nI Ho.length), k_workN, b_len, b_kind, b_opA, b_opW, b_s, b_order, b_made, b_codes, b_stack, b_choice, b_work, b_rd))))))))) ∧ (¬ (b_len (nI p).toNatClampNeg) < 5 → (post (-2) ((nI (pg_n g)), (nI (pg_c g)), (nI (pg_d g)), (nI Ho.length), k_workN, b_len, b_kind, b_opA, b_opW, b_s, b_order, b_made, b_codes, b_stack, b_choice, b_work, b_rd)))) → wpY_emit post ((nI (pg_n g)), (nI (pg_c g)), (nI (pg_d g)), (nI Ho.length), k_workN, b_len, b_kind, b_opA, b_opW, b_s, b_order, b_made, b_codes, b_stack, b_choice, b_work, b_rd) (nI p) (nI kd) va vw := by
    intro post h
    refine yy post (qy_em35 hw hk1 C.1 ?_)
    exact br_f (nI_pos (by omega)) (br_f (nI_nlt (by omega) (by omega)) (br_f (nI_pos (by omega)) (br_t (nI_le (by omega) (by omega)) ⟨p3, h⟩)))
  refine ⟨p3, pk_lt (pg_L g p) 5 (fun hp5 => ?_) (fun hp5 => ?_) elx rfl⟩
  · have fin : (pg_M kd → pg_N g < 6) → wX_emit_71 (fun r u' => wpY_emit (fun r' v' => r' = r ∧ i_Rel (k + 5) u' v') ((nI (pg_n g)), (nI (pg_c g)), (nI (pg_d g)), (nI Ho.length), k_workN, b_len, b_kind, b_opA, b_opW, b_s, b_order, b_made, b_codes, b_stack, b_choice, b_work, b_rd) (nI p) (nI kd) va vw) (nI p) (nI kd) va vw (nI (pg_n g)) (nI (pg_c g)) (nI (pg_d g)) (nI (pg_N g)) f_logSize (nI Ho.length) f_seqLen f_searchMask f_searchStarted a_kindAt a_opA a_opW a_length a_events a_pcOf a_regs a_cells a_bufEvent a_bufValue a_bufSize a_log a_order a_codes a_codeCount a_made a_seq a_picked a_runPc a_runReg a_runMem a_runLast a_runValue a_runSource := by
      intro hMN
      have hwf := pg_emw hw hp hp5 hk1 C hMN
      refine qx_em71 hw PX hp hp5 C.1 ha hw' h4 hwf (fun E PO RE CE BS M N e1 e2 e3 e4 => ?_)
      have y140 : wY_emit_140 (fun r' v' => r' = 0 ∧ i_Rel (k + 5) ((nI (pg_n g)), (nI (pg_c g)), (nI (pg_d g)), (nI (pg_N (pg_em g p kd a w))), 0, 0, f_seqLen, f_searchMask, f_searchStarted, (upd a_kindAt (8 * p + pg_L g p) (nI kd)), (upd a_opA (8 * p + pg_L g p) (nI a)), (upd a_opW (8 * p + pg_L g p) (nI w)), (upd a_length p (nI (pg_L g p + 1))), E, PO, RE, CE, a_bufEvent, a_bufValue, BS, a_log, a_order, a_codes, N, M, a_seq, a_picked, a_runPc, a_runReg, a_runMem, a_runLast, a_runValue, a_runSource) v') (nI p) (nI kd) (nI a) (nI w) (nI (pg_n g)) (nI (pg_c g)) (nI (pg_d g)) (nI Ho.length) k_workN b_len b_kind b_opA b_opW b_s b_order b_made b_codes b_stack b_choice b_work b_rd := by
        refine qy_em140 hw PY hp hp5 (fun S M' hS hM => ⟨rfl, ?_⟩)
        exact qr_in (k := k + 5) (g := pg_em g p kd a w) (pc := fun _ => 0) (H := []) (Ho := []) ⟨hwf, pg_inv0, List.nodup_nil, fun x hx => absurd hx (by simp), pg_emP PX, e1, qx_Mz e2 e3, trivial, pg_emP PY, qy_Mz hS, trivial, qr_L0 e4 hM⟩
      refine y78 _ (br_t (by rw [ely]; exact nI_lt (b := 5) hp5 (by decide)) (pk_eq kd 4 (fun _ => y140) (fun n4 => pk_eq kd 6 (fun _ => y140) (fun n6 => qy_events hw PY (br_t (nI_lt (b := 6) (hMN ?_) (by decide)) y140)))))
      rcases (show kd = 1 ∨ kd = 5 ∨ kd = 2 ∨ kd = 3 by omega) with z | z | z | z
      · exact Or.inl z
      · exact Or.inr (Or.inl z)
      · exact Or.inr (Or.inr (Or.inl z))
      · exact Or.inr (Or.inr (Or.inr z))
    by_cases hM : pg_M kd
    · have hkl : kd < 2 ^ 31 := by omega
      refine qx_M1 rfl hM (br_f qa_10 (pk_lt (pg_N g) 6 (fun z => fin (fun _ => z)) (fun z => ?_)))
      have n4 : kd ≠ 4 := by rcases hM with z | z | z | z <;> omega
      have n6 : kd ≠ 6 := by rcases hM with z | z | z | z <;> omega
      exact y78 _ (br_t (by rw [ely]; exact nI_lt (b := 5) hp5 (by decide)) (pk_eq kd 4 (fun c => absurd c n4) (fun _ => pk_eq kd 6 (fun c => absurd c n6) (fun _ => qy_events hw PY (br_f (nI_nlt (b := 6) z (by omega)) ⟨rfl, qr_in F⟩)))))
    · exact qx_M0 rfl (by omega) hM (br_t rfl (fin (fun z => absurd z hM)))
  · exact y78 _ (br_f (by rw [ely]; exact nI_nlt (b := 5) hp5 (by omega)) ⟨rfl, qr_in F⟩)
end
theorem i_vc_emit {k : Nat} {u : SX} {v : SY} (I : i_Rel k u v) (hk : k + 5 ≤ 2563) (v1 : Int32) (v2 : Int32) (v3 : Int32) (v4 : Int32) : wpX_emit (fun r u' => wpY_emit (fun r' v' => r' = r ∧ i_Rel (k + 5) u' v') v v1 v2 v3 v4) u v1 v2 v3 v4 := by
  refine qr_el (P := fun u v => wpX_emit (fun r u' => wpY_emit (fun r' v' => r' = r ∧ i_Rel (k + 5) u' v') v v1 v2 v3 v4) u v1 v2 v3 v4) ?_ I
  intro g pc H Ho f_logSize f_seqLen f_searchMask f_searchStarted k_workN a_kindAt a_opA a_opW a_length a_events a_pcOf a_regs a_cells a_bufEvent a_bufValue a_bufSize a_log a_order a_codes a_codeCount a_made a_seq a_picked a_runPc a_runReg a_runMem a_runLast a_runValue a_runSource b_len b_kind b_opA b_opW b_s b_order b_made b_codes b_stack b_choice b_work b_rd F
  obtain ⟨hw, hI, hn, he, PX, hE, MX, aX, PY, MY, aY, hL⟩ := id F
  have hn3 := hw.2.1
  have hc3 := hw.2.2.2.1
  have hd3 := hw.2.2.2.2.1
  have hN6 : pg_N g ≤ 6 := hw.2.2.2.2.2.2.2.2.2
  unfold wpX_emit
  rcases (or_assoc.mpr (pk_ix v1 (n := pg_n g) (by omega))) with h | ⟨p, hp, rfl⟩
  · exact qx_bF h (br_t rfl (qa_yF h ⟨rfl, qr_in F⟩))
  refine qx_bT hp (by omega) (br_f qa_10 ?_)
  have y1 : ∀ {post : Int32 → SY → Prop}, v2 < 1 → post (-1) ((nI (pg_n g)), (nI (pg_c g)), (nI (pg_d g)), (nI Ho.length), k_workN, b_len, b_kind, b_opA, b_opW, b_s, b_order, b_made, b_codes, b_stack, b_choice, b_work, b_rd) → wpY_emit post ((nI (pg_n g)), (nI (pg_c g)), (nI (pg_d g)), (nI Ho.length), k_workN, b_len, b_kind, b_opA, b_opW, b_s, b_order, b_made, b_codes, b_stack, b_choice, b_work, b_rd) (nI p) v2 v3 v4 := fun z h => qa_yT hp (by omega) (br_t z h)
  have y6 : ∀ {post : Int32 → SY → Prop}, ¬ v2 < 1 → ¬ v2 ≤ 6 → post (-1) ((nI (pg_n g)), (nI (pg_c g)), (nI (pg_d g)), (nI Ho.length), k_workN, b_len, b_kind, b_opA, b_opW, b_s, b_order, b_made, b_codes, b_stack, b_choice, b_work, b_rd) → wpY_emit post ((nI (pg_n g)), (nI (pg_c g)), (nI (pg_d g)), (nI Ho.length), k_workN, b_len, b_kind, b_opA, b_opW, b_s, b_order, b_made, b_codes, b_stack, b_choice, b_work, b_rd) (nI p) v2 v3 v4 := fun z z' h => qa_yT hp (by omega) (br_f z (br_f z' h))
  by_cases z1 : v2 < 1
  · exact br_t z1 (y1 z1 ⟨rfl, qr_in F⟩)
  by_cases z6 : v2 ≤ 6
  · obtain ⟨kd, hkd6, rfl⟩ := nI_of2 (M := 6) (n := 6) (by decide) (fun z => z1 (Int32.lt_of_lt_of_le z (by decide))) z6
    have hkd1 : 1 ≤ kd := by
      rcases Nat.eq_zero_or_pos kd with z | z
      · subst z; exact absurd (by decide) z1
      · exact z
    have y0 : ∀ {post : Int32 → SY → Prop}, (((nI kd = 4 → (wY_emit_35 post (nI p) (nI kd) 0 0 (nI (pg_n g)) (nI (pg_c g)) (nI (pg_d g)) (nI Ho.length) k_workN b_len b_kind b_opA b_opW b_s b_order b_made b_codes b_stack b_choice b_work b_rd)) ∧ (¬ nI kd = 4 → (wY_emit_35 post (nI p) (nI kd) v3 v4 (nI (pg_n g)) (nI (pg_c g)) (nI (pg_d g)) (nI Ho.length) k_workN b_len b_kind b_opA b_opW b_s b_order b_made b_codes b_stack b_choice b_work b_rd)))) → wpY_emit post ((nI (pg_n g)), (nI (pg_c g)), (nI (pg_d g)), (nI Ho.length), k_workN, b_len, b_kind, b_opA, b_opW, b_s, b_order, b_made, b_codes, b_stack, b_choice, b_work, b_rd) (nI p) (nI kd) v3 v4 := fun h => qa_yT hp (by omega) (br_f z1 (br_t z6 h))
    refine br_f z1 (br_t z6 ?_)
    by_cases k4 : kd = 4
    · subst k4
      refine br_t rfl (br_f qa_10 ?_)
      refine qr_em (f_logSize := f_logSize) (f_seqLen := f_seqLen) (f_searchMask := f_searchMask) (f_searchStarted := f_searchStarted) (a_kindAt := a_kindAt) (a_opA := a_opA) (a_opW := a_opW) (a_length := a_length) (a_events := a_events) (a_pcOf := a_pcOf) (a_regs := a_regs) (a_cells := a_cells) (a_bufEvent := a_bufEvent) (a_bufValue := a_bufValue) (a_bufSize := a_bufSize) (a_log := a_log) (a_order := a_order) (a_codes := a_codes) (a_codeCount := a_codeCount) (a_made := a_made) (a_seq := a_seq) (a_picked := a_picked) (a_runPc := a_runPc) (a_runReg := a_runReg) (a_runMem := a_runMem) (a_runLast := a_runLast) (a_runValue := a_runValue) (a_runSource := a_runSource) (k_workN := k_workN) (b_len := b_len) (b_kind := b_kind) (b_opA := b_opA) (b_opW := b_opW) (b_s := b_s) (b_order := b_order) (b_made := b_made) (b_codes := b_codes) (b_stack := b_stack) (b_choice := b_choice) (b_work := b_work) (b_rd := b_rd) (k := k) F (a := 0) (w := 0) hp (by omega) (fun z => absurd rfl z) (fun z => absurd rfl z) (fun _ => ⟨rfl, rfl⟩) (qe_C4 hw) ?_ (by decide) (fun post h => y0 (br_t rfl h))
      have hc1 := hw.2.2.1
      simp [qe_A]; omega
    · have n4 : ¬ nI kd = 4 := fun z => k4 ((nI_eq (b := 4) (by omega) (by decide)).mp z)
      have hkk : kd = 1 ∨ kd = 2 ∨ kd = 3 ∨ kd = 5 ∨ kd = 6 := by omega
      have hqA : 1 ≤ qe_A g kd ∧ qe_A g kd ≤ 3 := by have hc1 := hw.2.2.1; unfold qe_A; split <;> omega
      have hqW : 1 ≤ qe_W kd ∧ qe_W kd ≤ 8 := by unfold qe_W; split <;> (try split) <;> omega
      rcases (or_assoc.mpr (pk_ix v3 (n := qe_A g kd) (by omega))) with h | ⟨a, hA, rfl⟩
      · refine qx_fitA hkk h (br_t rfl (y0 (br_f n4 (qy_em35 hw hkd1 hkd6 (br_c (fun _ => ⟨rfl, qr_in F⟩) (fun z => br_t ?_ ⟨rfl, qr_in F⟩))))))
        have h2 := h.resolve_left z
        exact Int32.lt_of_lt_of_le (nI_lt (by omega) (by omega)) h2
      · rcases (or_assoc.mpr (pk_ix v4 (n := qe_W kd) (by omega))) with h | ⟨w, hW, rfl⟩
        · refine qx_fitW hc3 hkk hA h (br_t rfl (y0 (br_f n4 (qy_em35 hw hkd1 hkd6 (br_f (nI_pos (by omega)) (br_f (nI_nlt (by omega) (by omega)) (br_c (fun _ => ⟨rfl, qr_in F⟩) (fun z => br_f ?_ ⟨rfl, qr_in F⟩))))))))
          have h2 := h.resolve_left z
          exact Int32.not_le.mpr (Int32.lt_of_lt_of_le (nI_lt (by omega) (by omega)) h2)
        · exact qx_fit1 hc3 hkk hA hW (br_f qa_10 (qr_em (f_logSize := f_logSize) (f_seqLen := f_seqLen) (f_searchMask := f_searchMask) (f_searchStarted := f_searchStarted) (a_kindAt := a_kindAt) (a_opA := a_opA) (a_opW := a_opW) (a_length := a_length) (a_events := a_events) (a_pcOf := a_pcOf) (a_regs := a_regs) (a_cells := a_cells) (a_bufEvent := a_bufEvent) (a_bufValue := a_bufValue) (a_bufSize := a_bufSize) (a_log := a_log) (a_order := a_order) (a_codes := a_codes) (a_codeCount := a_codeCount) (a_made := a_made) (a_seq := a_seq) (a_picked := a_picked) (a_runPc := a_runPc) (a_runReg := a_runReg) (a_runMem := a_runMem) (a_runLast := a_runLast) (a_runValue := a_runValue) (a_runSource := a_runSource) (k_workN := k_workN) (b_len := b_len) (b_kind := b_kind) (b_opA := b_opA) (b_opW := b_opW) (b_s := b_s) (b_order := b_order) (b_made := b_made) (b_codes := b_codes) (b_stack := b_stack) (b_choice := b_choice) (b_work := b_work) (b_rd := b_rd) (k := k) F hp hkd1 (fun _ => rfl) (fun _ => rfl) (fun z => absurd z k4) (qe_C hw hkk hA hW) hA hW (fun post h => y0 (br_f n4 h))))
  · exact br_f z1 (br_f z6 (y6 z1 z6 ⟨rfl, qr_in F⟩))
theorem qr_clamp (lo hi : Nat) (hlh : lo ≤ hi) (hh : hi < 2 ^ 31) (x : Int32) : ∃ a, lo ≤ a ∧ a ≤ hi ∧ (∀ (post : Int32 → Prop) (u : SX), post (nI a) → wpX_clamp post u x (nI lo) (nI hi)) ∧ (∀ A : Int32 → Prop, A (nI a) → ((nI lo ≤ x → ((x ≤ nI hi → A x) ∧ (¬ x ≤ nI hi → A (nI hi)))) ∧ (¬ nI lo ≤ x → A (nI lo)))) := by
  by_cases h1 : nI lo ≤ x
  · by_cases h2 : x ≤ nI hi
    · have h0 : ¬ x < 0 := fun z => absurd (Int32.lt_of_le_of_lt h1 z) (nI_pos (by omega))
      obtain ⟨j, hj, rfl⟩ := nI_of h0
      exact ⟨j, (nI_leI (by omega) hj).mp h1, (nI_leI hj hh).mp h2, fun post u h => br_t h1 (br_t h2 h), fun A h => br_t h1 (br_t h2 h)⟩
    · exact ⟨hi, hlh, Nat.le_refl _, fun post u h => br_t h1 (br_f h2 h), fun A h => br_t h1 (br_f h2 h)⟩
  · exact ⟨lo, Nat.le_refl _, hlh, fun post u h => br_f h1 h, fun A h => br_f h1 h⟩
theorem qy_ini {post : SY → Prop} {k0 k1 k2 : Int32} {a b c : Nat} (aY : ∀ A : Int32 → Prop, A (nI a) → ((nI 1 ≤ k0 → ((k0 ≤ nI 3 → A k0) ∧ (¬ k0 ≤ nI 3 → A (nI 3)))) ∧ (¬ nI 1 ≤ k0 → A (nI 1)))) (bY : ∀ A : Int32 → Prop, A (nI b) → ((nI 1 ≤ k1 → ((k1 ≤ nI 3 → A k1) ∧ (¬ k1 ≤ nI 3 → A (nI 3)))) ∧ (¬ nI 1 ≤ k1 → A (nI 1)))) (cY : ∀ A : Int32 → Prop, A (nI c) → ((nI 0 ≤ k2 → ((k2 ≤ nI 3 → A k2) ∧ (¬ k2 ≤ nI 3 → A (nI 3)))) ∧ (¬ nI 0 ≤ k2 → A (nI 0))))
    (h : wY_init_165 post (nI c) (nI a) (nI b) 0 0 0 (fun _ => 0) (fun _ => 0) (fun _ => 0) (fun _ => 0) (fun _ => 0) (fun _ => 0) (fun _ => 0) (fun _ => 0) (fun _ => 0) (fun _ => 0) (fun _ => 0) (fun _ => 0)) : wpY_init post k0 k1 k2 := by
  have h143 : wY_init_143 post k2 (nI b) (nI a) 0 0 0 0 (fun _ => 0) (fun _ => 0) (fun _ => 0) (fun _ => 0) (fun _ => 0) (fun _ => 0) (fun _ => 0) (fun _ => 0) (fun _ => 0) (fun _ => 0) (fun _ => 0) (fun _ => 0) := cY (fun z => wY_init_165 post z (nI a) (nI b) 0 0 0 (fun _ => 0) (fun _ => 0) (fun _ => 0) (fun _ => 0) (fun _ => 0) (fun _ => 0) (fun _ => 0) (fun _ => 0) (fun _ => 0) (fun _ => 0) (fun _ => 0) (fun _ => 0)) h
  have h120 : wY_init_120 post k1 k2 (nI a) 0 0 0 0 0 (fun _ => 0) (fun _ => 0) (fun _ => 0) (fun _ => 0) (fun _ => 0) (fun _ => 0) (fun _ => 0) (fun _ => 0) (fun _ => 0) (fun _ => 0) (fun _ => 0) (fun _ => 0) := bY (fun z => wY_init_143 post k2 z (nI a) 0 0 0 0 (fun _ => 0) (fun _ => 0) (fun _ => 0) (fun _ => 0) (fun _ => 0) (fun _ => 0) (fun _ => 0) (fun _ => 0) (fun _ => 0) (fun _ => 0) (fun _ => 0) (fun _ => 0)) h143
  exact aY (fun z => wY_init_120 post k1 k2 z 0 0 0 0 0 (fun _ => 0) (fun _ => 0) (fun _ => 0) (fun _ => 0) (fun _ => 0) (fun _ => 0) (fun _ => 0) (fun _ => 0) (fun _ => 0) (fun _ => 0) (fun _ => 0) (fun _ => 0)) h120
theorem i_vc0 (k0 : Int32) (k1 : Int32) (k2 : Int32) : wpX_init (fun u => wpY_init (fun v => i_Rel 3 u v) k0 k1 k2) k0 k1 k2 := by
  obtain ⟨a, a1, a2, aX, aY⟩ := qr_clamp 1 3 (by omega) (by omega) k0
  obtain ⟨b, b1, b2, bX, bY⟩ := qr_clamp 1 3 (by omega) (by omega) k1
  obtain ⟨c, c1, c2, cX, cY⟩ := qr_clamp 0 3 (by omega) (by omega) k2
  refine aX _ _ (bX _ _ (cX _ _ ?_))
  let g : pg_T := (fun _ => 0, fun _ => 0, fun _ => 0, fun _ => 0, a, b, c)
  have ne : ∀ n, pg_es g n = [] := by
    intro n
    induction n with
    | zero => rfl
    | succ n ih => rw [pg_esF (fun z => absurd z.2.1 (Nat.not_lt_zero _))]; exact ih
  have hw : pg_wf g := ⟨a1, a2, b1, b2, c2, fun _ => Nat.zero_le _, fun _ _ => rfl, fun p i hi => absurd hi (Nat.not_lt_zero _), fun e => ⟨Nat.zero_le _, Nat.zero_le _, Nat.zero_le _, fun _ => Nat.zero_le _, fun _ => Nat.zero_le _, fun _ => ⟨Nat.zero_le _, Nat.zero_le _⟩, fun _ => b1⟩, by rw [ne]; exact Nat.zero_le _⟩
  have eN : pg_N g = 0 := by unfold pg_N; rw [ne]; rfl
  refine qy_ini aY bY cY ?_
  refine qy_cl2 (fun LN S M h1 h2 hS hM => ?_)
  have hLN : ∀ j, LN j = nI 0 := by
    intro j
    by_cases z : j < 3
    · exact h1 j z
    · exact h2 j (by omega)
  have := qr_in (k := 3) (g := g) (pc := fun _ => 0) (H := []) (Ho := []) (f_logSize := 0) (f_seqLen := 0) (f_searchMask := 0) (f_searchStarted := 0) (k_workN := 0) (a_kindAt := fun _ => 0) (a_opA := fun _ => 0) (a_opW := fun _ => 0) (a_length := fun _ => 0) (a_events := fun _ => 0) (a_pcOf := fun _ => 0) (a_regs := fun _ => 0) (a_cells := fun _ => 0) (a_bufEvent := fun _ => 0) (a_bufValue := fun _ => 0) (a_bufSize := fun _ => 0) (a_log := fun _ => 0) (a_order := fun _ => 0) (a_codes := fun _ => 0) (a_codeCount := fun _ => 0) (a_made := fun _ => 0) (a_seq := fun _ => 0) (a_picked := fun _ => 0) (a_runPc := fun _ => 0) (a_runReg := fun _ => 0) (a_runMem := fun _ => 0) (a_runLast := fun _ => 0) (a_runValue := fun _ => 0) (a_runSource := fun _ => 0) (b_len := LN) (b_kind := fun _ => 0) (b_opA := fun _ => 0) (b_opW := fun _ => 0) (b_s := S) (b_order := fun _ => 0) (b_made := M) (b_codes := fun _ => 0) (b_stack := fun _ => 0) (b_choice := fun _ => 0) (b_work := fun _ => 0) (b_rd := fun _ => 0)
    ⟨hw, pg_inv0, List.nodup_nil, fun x hx => absurd hx (by simp), fun j => ⟨rfl, rfl, rfl, rfl⟩, by rw [ne]; trivial, qx_Mz (fun p _ => ⟨rfl, rfl, rfl⟩) (fun r _ => rfl), trivial, fun j => ⟨rfl, rfl, rfl, hLN j⟩, qy_Mz hS, trivial, qr_L0 (fun q _ => ⟨rfl, rfl⟩) hM⟩
  rw [eN] at this
  exact this
end
