section
/-! pure rows to paste: stores, nI and lN arithmetic, masks, shifts, narrowing, branches by naturals (pk_le, pk_lt, pk_eq), loops (lp1 .. lp16: the measure of the state; rp1 ..: recursion), negatives. Take what you need -/
theorem pk_us {f : Nat → Int32} {k : Nat} {x : Int32} : upd f k x k = x := if_pos rfl
theorem pk_un {f : Nat → Int32} {k j : Nat} {x : Int32} (h : j ≠ k) : upd f k x j = f j := if_neg h
theorem pk_uLs {f : Nat → Int64} {k : Nat} {x : Int64} : vp_updL f k x k = x := if_pos rfl
theorem pk_uLn {f : Nat → Int64} {k j : Nat} {x : Int64} (h : j ≠ k) : vp_updL f k x j = f j := if_neg h
theorem pk_sub {a b : Nat} (h : b ≤ a) : nI a - nI b = nI (a - b) := by
  obtain ⟨c, rfl⟩ : ∃ c, a = c + b := ⟨a - b, by omega⟩
  rw [← nI_add, Int32.add_sub_cancel, Nat.add_sub_cancel]
theorem pk_m1 (n : Nat) : nI (n + 1) + (-1) = nI n := by
  rw [← nI_1, Int32.add_assoc, show (1 : Int32) + (-1) = 0 from rfl, Int32.add_zero]
theorem pk_mul (a b : Nat) : nI a * nI b = nI (a * b) := (Int32.ofNat_mul a b).symm
theorem pk_div {a d : Nat} (ha : a < 2 ^ 31) (h0 : 0 < d) (hd : d < 2 ^ 31) : nI a / nI d = nI (a / d) := by
  apply Int32.toInt_inj.mp
  rw [lg_idiv_nonneg (by rw [nI_toInt ha]; omega) (by rw [nI_toInt hd]; omega), nI_toInt ha, nI_toInt hd, nI_toInt (Nat.lt_of_le_of_lt (Nat.div_le_self a d) ha)]
  first | rfl | exact (Int.natCast_ediv _ _).symm
theorem pk_rem {a d : Nat} (ha : a < 2 ^ 31) (h0 : 0 < d) (hd : d < 2 ^ 31) : nI a - nI a / nI d * nI d = nI (a % d) := by
  rw [pk_div ha h0 hd, pk_mul, pk_sub (Nat.div_mul_le_self a d)]
  exact congrArg nI (by have := Nat.div_add_mod' a d; omega)
theorem pk_sub_toInt {a b : Nat} (ha : a < 2 ^ 30) (hb : b < 2 ^ 30) : (nI a - nI b).toInt = (a : Int) - b := by
  rw [Int32.toInt_sub, nI_toInt (by omega), nI_toInt (by omega)]
  exact Int.bmod_eq_of_le (by omega) (by omega)
theorem pk_sneg {a b : Nat} (hb : b < 2 ^ 30) (h : a < b) : nI a - nI b < 0 := by
  rw [Int32.lt_iff_toInt_lt, pk_sub_toInt (by omega) hb, show (0 : Int32).toInt = 0 from by decide]
  omega
theorem pk_ix (x : Int32) {n : Nat} (hn : n < 2 ^ 31) : x < 0 ∨ nI n ≤ x ∨ ∃ j : Nat, j < n ∧ x = nI j := by
  by_cases h : x < 0
  · exact Or.inl h
  · obtain ⟨j, hj, rfl⟩ := nI_of h
    by_cases h2 : j < n
    · exact Or.inr (Or.inr ⟨j, h2, rfl⟩)
    · exact Or.inr (Or.inl (nI_le (by omega) hj))
theorem pk_le {x y : Int32} {A B : Prop} (a b : Nat) (f : a ≤ b → A) (g : b < a → B) (hx : x = nI a := by rfl) (hy : y = nI b := by rfl) (ha : a < 2 ^ 31 := by omega) (hb : b < 2 ^ 31 := by omega) : (x ≤ y → A) ∧ (¬ x ≤ y → B) := by
  subst hx hy
  rw [nI_leI ha hb]
  exact ⟨f, fun z => g (by omega)⟩
theorem pk_lt {x y : Int32} {A B : Prop} (a b : Nat) (f : a < b → A) (g : b ≤ a → B) (hx : x = nI a := by rfl) (hy : y = nI b := by rfl) (ha : a < 2 ^ 31 := by omega) (hb : b < 2 ^ 31 := by omega) : (x < y → A) ∧ (¬ x < y → B) := by
  subst hx hy
  rw [nI_ltI ha hb]
  exact ⟨f, fun z => g (by omega)⟩
theorem pk_eq {x y : Int32} {A B : Prop} (a b : Nat) (f : a = b → A) (g : a ≠ b → B) (hx : x = nI a := by rfl) (hy : y = nI b := by rfl) (ha : a < 2 ^ 31 := by omega) (hb : b < 2 ^ 31 := by omega) : (x = y → A) ∧ (¬ x = y → B) := by
  subst hx hy
  rw [nI_eq ha hb]
  exact ⟨f, g⟩
theorem pk_in {x : Int32} (n N : Nat) (h : n < N) (hx : x = nI n := by rfl) (hN : N < 2 ^ 31 := by omega) : vp_in x N := by
  subst hx
  exact vp_in_nI h hN
theorem pk_cl {x : Int32} (n : Nat) (hx : x = nI n := by rfl) (h : n < 2 ^ 31 := by omega) : x.toNatClampNeg = n := by
  subst hx
  exact nI_clamp h
theorem pk_tn {n : Nat} (h : n < 2 ^ 32) : (nI n).toBitVec.toNat = n := Nat.mod_eq_of_lt h
theorem pk_and (x : Int32) {m : Int32} (k : Nat) (hm : m.toBitVec.toNat = 2 ^ k - 1) : x &&& m = nI (x.toBitVec.toNat % 2 ^ k) := by
  apply Int32.toBitVec_inj.mp
  apply BitVec.eq_of_toNat_eq
  rw [Int32.toBitVec_and, BitVec.toNat_and, hm, Nat.and_two_pow_sub_one_eq_mod]
  show _ = (BitVec.ofNat 32 _).toNat
  rw [BitVec.toNat_ofNat]
  exact (Nat.mod_eq_of_lt (Nat.lt_of_le_of_lt (Nat.mod_le _ _) x.toBitVec.isLt)).symm
theorem pk_andN {n : Nat} (h : n < 2 ^ 32) {m : Int32} (k : Nat) (hm : m.toBitVec.toNat = 2 ^ k - 1) : nI n &&& m = nI (n % 2 ^ k) := by
  rw [pk_and _ k hm, pk_tn h]
theorem pk_andE (x : Int32) {m : Int32} (k : Nat) (hm : m.toBitVec.toNat = 2 ^ k - 1) : ∃ j : Nat, j < 2 ^ k ∧ x &&& m = nI j := ⟨_, Nat.mod_lt _ (Nat.two_pow_pos k), pk_and x k hm⟩
theorem pk_andIn (x : Int32) {m : Int32} (k : Nat) (hm : m.toBitVec.toNat = 2 ^ k - 1) (hk : k ≤ 30) : vp_in (x &&& m) (2 ^ k) := by
  obtain ⟨j, hj, e⟩ := pk_andE x k hm
  rw [e]
  exact vp_in_nI hj (Nat.lt_of_le_of_lt (Nat.pow_le_pow_right (by decide) hk) (by decide))
theorem pk_shl (a s : Int32) (k : Nat) (hs : (s.toBitVec.smod 32).toNat = k) : (a <<< s).toBitVec.toNat = a.toBitVec.toNat * 2 ^ k % 2 ^ 32 := by
  show (a.toBitVec <<< (s.toBitVec.smod 32).toNat).toNat = _
  rw [hs, BitVec.toNat_shiftLeft, Nat.shiftLeft_eq]
theorem pk_shlN {n : Nat} (s : Int32) (k : Nat) (hs : (s.toBitVec.smod 32).toNat = k) (h : n * 2 ^ k < 2 ^ 32) : nI n <<< s = nI (n * 2 ^ k) := by
  apply Int32.toBitVec_inj.mp
  apply BitVec.eq_of_toNat_eq
  have hn : n < 2 ^ 32 := Nat.lt_of_le_of_lt (Nat.le_mul_of_pos_right n (Nat.two_pow_pos k)) h
  rw [pk_shl _ _ k hs, pk_tn hn, pk_tn h, Nat.mod_eq_of_lt h]
theorem pk_shr (a s : Int32) (k : Nat) (hs : (s.toBitVec.smod 32).toNat = k) : (a >>> s).toInt = a.toInt >>> k := by
  show (a.toBitVec.sshiftRight (s.toBitVec.smod 32).toNat).toInt = _
  rw [hs, BitVec.toInt_sshiftRight]
  rfl
theorem pk_shrN {n : Nat} (h : n < 2 ^ 31) (s : Int32) (k : Nat) (hs : (s.toBitVec.smod 32).toNat = k) : nI n >>> s = nI (n / 2 ^ k) := by
  apply Int32.toInt_inj.mp
  have h2 : n / 2 ^ k ≤ n := Nat.div_le_self _ _
  rw [pk_shr _ _ k hs, nI_toInt h, nI_toInt (by omega), Int.shiftRight_eq_div_pow]
  rfl
theorem pk_ushr (x s : Int32) (k : Nat) (hs : ((s.toUInt32 &&& Int32.toUInt32 31).toBitVec % 32).toNat = k) : (x.toUInt32 >>> (s.toUInt32 &&& Int32.toUInt32 31)).toInt32.toBitVec.toNat = x.toBitVec.toNat / 2 ^ k := by
  have e : (x.toUInt32 >>> (s.toUInt32 &&& Int32.toUInt32 31)).toInt32.toBitVec = x.toBitVec >>> k := by
    rw [← hs]
    exact UInt32.toBitVec_shiftRight _ _
  rw [e, BitVec.toNat_ushiftRight, Nat.shiftRight_eq_div_pow]
theorem pk_ushrN {n : Nat} (hn : n < 2 ^ 32) (s : Int32) (k : Nat) (hs : ((s.toUInt32 &&& Int32.toUInt32 31).toBitVec % 32).toNat = k) : ((nI n).toUInt32 >>> (s.toUInt32 &&& Int32.toUInt32 31)).toInt32 = nI (n / 2 ^ k) := by
  apply Int32.toBitVec_inj.mp
  apply BitVec.eq_of_toNat_eq
  rw [pk_ushr _ s k hs, pk_tn hn, pk_tn (Nat.lt_of_le_of_lt (Nat.div_le_self _ _) hn)]
theorem pk_nb (z : Int32) : narrow .byte (.int z.toInt8.toInt32) = .int z.toInt8.toInt32 := congrArg Value.int (by simp)
theorem pk_ns (z : Int32) : narrow .short (.int z.toInt16.toInt32) = .int z.toInt16.toInt32 := congrArg Value.int (by simp)
theorem pk_fb (r : Int32) : fits .byte (.int r.toInt8.toInt32) = true := by
  have ⟨a, b⟩ := lg_i2b_range r
  have h1 : (-128 : Int32).toInt = -128 := by decide
  have h2 : (127 : Int32).toInt = 127 := by decide
  simp only [fits, Bool.and_eq_true, decide_eq_true_eq, Int32.le_iff_toInt_le, h1, h2]
  omega
theorem pk_fs (r : Int32) : fits .short (.int r.toInt16.toInt32) = true := by
  have ⟨a, b⟩ := lg_i2s_range r
  have h1 : (-32768 : Int32).toInt = -32768 := by decide
  have h2 : (32767 : Int32).toInt = 32767 := by decide
  simp only [fits, Bool.and_eq_true, decide_eq_true_eq, Int32.le_iff_toInt_le, h1, h2]
  omega
theorem pk_charN {q : Nat} (hq : q < 65536) : narrow .char (.int (nI q)) = .int (nI q) ∧ fits .char (.int (nI q)) = true := by
  constructor
  · have e : (nI q).toUInt32.toUInt16.toUInt32.toInt32 = nI q := by
      apply Int32.toBitVec_inj.mp
      apply BitVec.eq_of_toNat_eq
      show (nI q).toUInt32.toUInt16.toUInt32.toNat = q % 2 ^ 32
      rw [UInt16.toNat_toUInt32, UInt32.toNat_toUInt16, show (nI q).toUInt32.toNat = q % 2 ^ 32 from rfl]
      omega
    exact congrArg Value.int e
  · have a : (0 : Int32) ≤ nI q := nI_pos' (by omega)
    have b : nI q ≤ 65535 := nI_le (b := 65535) (by omega) (by decide)
    show (decide ((0 : Int32) ≤ nI q) && decide (nI q ≤ 65535)) = true
    rw [decide_eq_true a, decide_eq_true b]
    rfl
theorem pk_char (x : Int32) : (x.toUInt32 % 65536).toInt32 = nI (x.toBitVec.toNat % 65536) := by
  apply Int32.toBitVec_inj.mp
  apply BitVec.eq_of_toNat_eq
  rw [pk_tn (by omega)]
  show (x.toUInt32 % 65536).toNat = _
  rw [UInt32.toNat_mod]
  rfl
theorem pk_nc (x : Int32) : narrow .char (.int (x.toUInt32 % 65536).toInt32) = .int (x.toUInt32 % 65536).toInt32 := by
  rw [pk_char]
  exact (pk_charN (Nat.mod_lt _ (by decide))).1
theorem pk_fc (x : Int32) : fits .char (.int (x.toUInt32 % 65536).toInt32) = true := by
  rw [pk_char]
  exact (pk_charN (Nat.mod_lt _ (by decide))).2
theorem pk_vb (z : Int32) : vp_nar .byte z.toInt8.toInt32 = z.toInt8.toInt32 := by rw [vp_nar_byte]; simp
theorem pk_vs (z : Int32) : vp_nar .short z.toInt16.toInt32 = z.toInt16.toInt32 := by rw [vp_nar_short]; simp
theorem pk_vc (z : Int32) : vp_nar .char (z.toUInt32 % 65536).toInt32 = (z.toUInt32 % 65536).toInt32 := Value.int.inj (pk_nc z)
theorem pk_lT {n : Nat} (h : n < 2 ^ 63) : (lN n).toInt = (n : Int) := lg_ofNat_toInt h
theorem pk_lLT {a b : Nat} (ha : a < 2 ^ 63) (hb : b < 2 ^ 63) : lN a < lN b ↔ a < b := by
  rw [Int64.lt_iff_toInt_lt, pk_lT ha, pk_lT hb]; omega
theorem pk_lLE {a b : Nat} (ha : a < 2 ^ 63) (hb : b < 2 ^ 63) : lN a ≤ lN b ↔ a ≤ b := by
  rw [Int64.le_iff_toInt_le, pk_lT ha, pk_lT hb]; omega
theorem pk_lEQ {a b : Nat} (ha : a < 2 ^ 63) (hb : b < 2 ^ 63) : lN a = lN b ↔ a = b := by
  rw [← Int64.toInt_inj, pk_lT ha, pk_lT hb]; omega
theorem pk_lOf {x : Int64} (h : ¬ x < 0) : ∃ k : Nat, k < 2 ^ 63 ∧ x = lN k := by
  rw [Int64.lt_iff_toInt_lt] at h
  have h0 : (0 : Int64).toInt = 0 := by decide
  have hx := Int64.toInt_lt x
  refine ⟨x.toInt.toNat, by omega, Int64.toInt_inj.mp ?_⟩
  rw [pk_lT (by omega)]
  omega
theorem pk_lDiv {a b : Nat} (ha : a < 2 ^ 63) (h0 : 0 < b) (hb : b < 2 ^ 63) : lN a / lN b = lN (a / b) := by
  apply Int64.toInt_inj.mp
  rw [lg_ldiv_nonneg (by rw [pk_lT ha]; omega) (by rw [pk_lT hb]; omega), pk_lT ha, pk_lT hb, pk_lT (Nat.lt_of_le_of_lt (Nat.div_le_self a b) ha)]
  rfl
theorem pk_lRem {a b : Nat} (ha : a < 2 ^ 63) (h0 : 0 < b) (hb : b < 2 ^ 63) : lN a - lN a / lN b * lN b = lN (a % b) := by
  rw [pk_lDiv ha h0 hb, lN_mul, lN_sub (Nat.div_mul_le_self a b)]
  exact congrArg lN (by have := Nat.div_add_mod' a b; omega)
theorem pk_loop {σ : Type} (W : Nat → Nat → σ → Prop) (I : Nat → σ → Prop) (e i0 : Nat) (s : σ) (hi : i0 ≤ e) (h0 : I i0 s) (hx : ∀ n s, I e s → W (n + 1) e s)
    (hs : ∀ n i s, i < e → I i s → (∀ s', I (i + 1) s' → W n (i + 1) s') → W (n + 1) i s) : ∃ n, W n i0 s :=
  ⟨e + 1, loop_i W I e hx hs (e + 1) i0 s hi (by omega) h0⟩
theorem pk_loopD {σ : Type} (W : Nat → Nat → σ → Prop) (I : Nat → σ → Prop) (hx : ∀ n s, I 0 s → W (n + 1) 0 s)
    (hs : ∀ n i s, I (i + 1) s → (∀ s', I i s' → W n i s') → W (n + 1) (i + 1) s) : ∀ (e : Nat) (s : σ), I e s → W (e + 1) e s := by
  intro e
  induction e with
  | zero => exact fun s h => hx 0 s h
  | succ e ih => exact fun s h => hs (e + 1) e s h (fun s' h' => ih s' h')
theorem lp1 {A1 : Type} (W : Nat → A1 → Prop) (I : A1 → Prop) (μ : A1 → Nat) (hs : ∀ (n : Nat) (a1 : A1), I a1 → (∀ (b1 : A1), I b1 → μ b1 < μ a1 → W n b1) → W (n + 1) a1) (a1 : A1) (h : I a1) : ∃ n, W n a1 :=
  loop_m (σ := A1) (fun n s => W n s) (fun s => I s) (fun s => μ s) (fun n s hI hk => hs n s hI (fun b1 h9 hm => hk b1 h9 hm)) a1 h
theorem lp2 {A1 A2 : Type} (W : Nat → A1 → A2 → Prop) (I : A1 → A2 → Prop) (μ : A1 → A2 → Nat) (hs : ∀ (n : Nat) (a1 : A1) (a2 : A2), I a1 a2 → (∀ (b1 : A1) (b2 : A2), I b1 b2 → μ b1 b2 < μ a1 a2 → W n b1 b2) → W (n + 1) a1 a2) (a1 : A1) (a2 : A2) (h : I a1 a2) : ∃ n, W n a1 a2 :=
  loop_m (σ := A1 × A2) (fun n s => W n s.1 s.2) (fun s => I s.1 s.2) (fun s => μ s.1 s.2) (fun n s hI hk => hs n s.1 s.2 hI (fun b1 b2 h9 hm => hk (b1, b2) h9 hm)) (a1, a2) h
theorem lp3 {A1 A2 A3 : Type} (W : Nat → A1 → A2 → A3 → Prop) (I : A1 → A2 → A3 → Prop) (μ : A1 → A2 → A3 → Nat) (hs : ∀ (n : Nat) (a1 : A1) (a2 : A2) (a3 : A3), I a1 a2 a3 → (∀ (b1 : A1) (b2 : A2) (b3 : A3), I b1 b2 b3 → μ b1 b2 b3 < μ a1 a2 a3 → W n b1 b2 b3) → W (n + 1) a1 a2 a3) (a1 : A1) (a2 : A2) (a3 : A3) (h : I a1 a2 a3) : ∃ n, W n a1 a2 a3 :=
  loop_m (σ := A1 × A2 × A3) (fun n s => W n s.1 s.2.1 s.2.2) (fun s => I s.1 s.2.1 s.2.2) (fun s => μ s.1 s.2.1 s.2.2) (fun n s hI hk => hs n s.1 s.2.1 s.2.2 hI (fun b1 b2 b3 h9 hm => hk (b1, b2, b3) h9 hm)) (a1, a2, a3) h
theorem lp4 {A1 A2 A3 A4 : Type} (W : Nat → A1 → A2 → A3 → A4 → Prop) (I : A1 → A2 → A3 → A4 → Prop) (μ : A1 → A2 → A3 → A4 → Nat) (hs : ∀ (n : Nat) (a1 : A1) (a2 : A2) (a3 : A3) (a4 : A4), I a1 a2 a3 a4 → (∀ (b1 : A1) (b2 : A2) (b3 : A3) (b4 : A4), I b1 b2 b3 b4 → μ b1 b2 b3 b4 < μ a1 a2 a3 a4 → W n b1 b2 b3 b4) → W (n + 1) a1 a2 a3 a4) (a1 : A1) (a2 : A2) (a3 : A3) (a4 : A4) (h : I a1 a2 a3 a4) : ∃ n, W n a1 a2 a3 a4 :=
  loop_m (σ := A1 × A2 × A3 × A4) (fun n s => W n s.1 s.2.1 s.2.2.1 s.2.2.2) (fun s => I s.1 s.2.1 s.2.2.1 s.2.2.2) (fun s => μ s.1 s.2.1 s.2.2.1 s.2.2.2) (fun n s hI hk => hs n s.1 s.2.1 s.2.2.1 s.2.2.2 hI (fun b1 b2 b3 b4 h9 hm => hk (b1, b2, b3, b4) h9 hm)) (a1, a2, a3, a4) h
theorem lp5 {A1 A2 A3 A4 A5 : Type} (W : Nat → A1 → A2 → A3 → A4 → A5 → Prop) (I : A1 → A2 → A3 → A4 → A5 → Prop) (μ : A1 → A2 → A3 → A4 → A5 → Nat) (hs : ∀ (n : Nat) (a1 : A1) (a2 : A2) (a3 : A3) (a4 : A4) (a5 : A5), I a1 a2 a3 a4 a5 → (∀ (b1 : A1) (b2 : A2) (b3 : A3) (b4 : A4) (b5 : A5), I b1 b2 b3 b4 b5 → μ b1 b2 b3 b4 b5 < μ a1 a2 a3 a4 a5 → W n b1 b2 b3 b4 b5) → W (n + 1) a1 a2 a3 a4 a5) (a1 : A1) (a2 : A2) (a3 : A3) (a4 : A4) (a5 : A5) (h : I a1 a2 a3 a4 a5) : ∃ n, W n a1 a2 a3 a4 a5 :=
  loop_m (σ := A1 × A2 × A3 × A4 × A5) (fun n s => W n s.1 s.2.1 s.2.2.1 s.2.2.2.1 s.2.2.2.2) (fun s => I s.1 s.2.1 s.2.2.1 s.2.2.2.1 s.2.2.2.2) (fun s => μ s.1 s.2.1 s.2.2.1 s.2.2.2.1 s.2.2.2.2) (fun n s hI hk => hs n s.1 s.2.1 s.2.2.1 s.2.2.2.1 s.2.2.2.2 hI (fun b1 b2 b3 b4 b5 h9 hm => hk (b1, b2, b3, b4, b5) h9 hm)) (a1, a2, a3, a4, a5) h
theorem lp6 {A1 A2 A3 A4 A5 A6 : Type} (W : Nat → A1 → A2 → A3 → A4 → A5 → A6 → Prop) (I : A1 → A2 → A3 → A4 → A5 → A6 → Prop) (μ : A1 → A2 → A3 → A4 → A5 → A6 → Nat) (hs : ∀ (n : Nat) (a1 : A1) (a2 : A2) (a3 : A3) (a4 : A4) (a5 : A5) (a6 : A6), I a1 a2 a3 a4 a5 a6 → (∀ (b1 : A1) (b2 : A2) (b3 : A3) (b4 : A4) (b5 : A5) (b6 : A6), I b1 b2 b3 b4 b5 b6 → μ b1 b2 b3 b4 b5 b6 < μ a1 a2 a3 a4 a5 a6 → W n b1 b2 b3 b4 b5 b6) → W (n + 1) a1 a2 a3 a4 a5 a6) (a1 : A1) (a2 : A2) (a3 : A3) (a4 : A4) (a5 : A5) (a6 : A6) (h : I a1 a2 a3 a4 a5 a6) : ∃ n, W n a1 a2 a3 a4 a5 a6 :=
  loop_m (σ := A1 × A2 × A3 × A4 × A5 × A6) (fun n s => W n s.1 s.2.1 s.2.2.1 s.2.2.2.1 s.2.2.2.2.1 s.2.2.2.2.2) (fun s => I s.1 s.2.1 s.2.2.1 s.2.2.2.1 s.2.2.2.2.1 s.2.2.2.2.2) (fun s => μ s.1 s.2.1 s.2.2.1 s.2.2.2.1 s.2.2.2.2.1 s.2.2.2.2.2) (fun n s hI hk => hs n s.1 s.2.1 s.2.2.1 s.2.2.2.1 s.2.2.2.2.1 s.2.2.2.2.2 hI (fun b1 b2 b3 b4 b5 b6 h9 hm => hk (b1, b2, b3, b4, b5, b6) h9 hm)) (a1, a2, a3, a4, a5, a6) h
theorem lp7 {A1 A2 A3 A4 A5 A6 A7 : Type} (W : Nat → A1 → A2 → A3 → A4 → A5 → A6 → A7 → Prop) (I : A1 → A2 → A3 → A4 → A5 → A6 → A7 → Prop) (μ : A1 → A2 → A3 → A4 → A5 → A6 → A7 → Nat) (hs : ∀ (n : Nat) (a1 : A1) (a2 : A2) (a3 : A3) (a4 : A4) (a5 : A5) (a6 : A6) (a7 : A7), I a1 a2 a3 a4 a5 a6 a7 → (∀ (b1 : A1) (b2 : A2) (b3 : A3) (b4 : A4) (b5 : A5) (b6 : A6) (b7 : A7), I b1 b2 b3 b4 b5 b6 b7 → μ b1 b2 b3 b4 b5 b6 b7 < μ a1 a2 a3 a4 a5 a6 a7 → W n b1 b2 b3 b4 b5 b6 b7) → W (n + 1) a1 a2 a3 a4 a5 a6 a7) (a1 : A1) (a2 : A2) (a3 : A3) (a4 : A4) (a5 : A5) (a6 : A6) (a7 : A7) (h : I a1 a2 a3 a4 a5 a6 a7) : ∃ n, W n a1 a2 a3 a4 a5 a6 a7 :=
  loop_m (σ := A1 × A2 × A3 × A4 × A5 × A6 × A7) (fun n s => W n s.1 s.2.1 s.2.2.1 s.2.2.2.1 s.2.2.2.2.1 s.2.2.2.2.2.1 s.2.2.2.2.2.2) (fun s => I s.1 s.2.1 s.2.2.1 s.2.2.2.1 s.2.2.2.2.1 s.2.2.2.2.2.1 s.2.2.2.2.2.2) (fun s => μ s.1 s.2.1 s.2.2.1 s.2.2.2.1 s.2.2.2.2.1 s.2.2.2.2.2.1 s.2.2.2.2.2.2) (fun n s hI hk => hs n s.1 s.2.1 s.2.2.1 s.2.2.2.1 s.2.2.2.2.1 s.2.2.2.2.2.1 s.2.2.2.2.2.2 hI (fun b1 b2 b3 b4 b5 b6 b7 h9 hm => hk (b1, b2, b3, b4, b5, b6, b7) h9 hm)) (a1, a2, a3, a4, a5, a6, a7) h
theorem lp8 {A1 A2 A3 A4 A5 A6 A7 A8 : Type} (W : Nat → A1 → A2 → A3 → A4 → A5 → A6 → A7 → A8 → Prop) (I : A1 → A2 → A3 → A4 → A5 → A6 → A7 → A8 → Prop) (μ : A1 → A2 → A3 → A4 → A5 → A6 → A7 → A8 → Nat) (hs : ∀ (n : Nat) (a1 : A1) (a2 : A2) (a3 : A3) (a4 : A4) (a5 : A5) (a6 : A6) (a7 : A7) (a8 : A8), I a1 a2 a3 a4 a5 a6 a7 a8 → (∀ (b1 : A1) (b2 : A2) (b3 : A3) (b4 : A4) (b5 : A5) (b6 : A6) (b7 : A7) (b8 : A8), I b1 b2 b3 b4 b5 b6 b7 b8 → μ b1 b2 b3 b4 b5 b6 b7 b8 < μ a1 a2 a3 a4 a5 a6 a7 a8 → W n b1 b2 b3 b4 b5 b6 b7 b8) → W (n + 1) a1 a2 a3 a4 a5 a6 a7 a8) (a1 : A1) (a2 : A2) (a3 : A3) (a4 : A4) (a5 : A5) (a6 : A6) (a7 : A7) (a8 : A8) (h : I a1 a2 a3 a4 a5 a6 a7 a8) : ∃ n, W n a1 a2 a3 a4 a5 a6 a7 a8 :=
  loop_m (σ := A1 × A2 × A3 × A4 × A5 × A6 × A7 × A8) (fun n s => W n s.1 s.2.1 s.2.2.1 s.2.2.2.1 s.2.2.2.2.1 s.2.2.2.2.2.1 s.2.2.2.2.2.2.1 s.2.2.2.2.2.2.2) (fun s => I s.1 s.2.1 s.2.2.1 s.2.2.2.1 s.2.2.2.2.1 s.2.2.2.2.2.1 s.2.2.2.2.2.2.1 s.2.2.2.2.2.2.2) (fun s => μ s.1 s.2.1 s.2.2.1 s.2.2.2.1 s.2.2.2.2.1 s.2.2.2.2.2.1 s.2.2.2.2.2.2.1 s.2.2.2.2.2.2.2) (fun n s hI hk => hs n s.1 s.2.1 s.2.2.1 s.2.2.2.1 s.2.2.2.2.1 s.2.2.2.2.2.1 s.2.2.2.2.2.2.1 s.2.2.2.2.2.2.2 hI (fun b1 b2 b3 b4 b5 b6 b7 b8 h9 hm => hk (b1, b2, b3, b4, b5, b6, b7, b8) h9 hm)) (a1, a2, a3, a4, a5, a6, a7, a8) h
theorem lp9 {A1 A2 A3 A4 A5 A6 A7 A8 A9 : Type} (W : Nat → A1 → A2 → A3 → A4 → A5 → A6 → A7 → A8 → A9 → Prop) (I : A1 → A2 → A3 → A4 → A5 → A6 → A7 → A8 → A9 → Prop) (μ : A1 → A2 → A3 → A4 → A5 → A6 → A7 → A8 → A9 → Nat) (hs : ∀ (n : Nat) (a1 : A1) (a2 : A2) (a3 : A3) (a4 : A4) (a5 : A5) (a6 : A6) (a7 : A7) (a8 : A8) (a9 : A9), I a1 a2 a3 a4 a5 a6 a7 a8 a9 → (∀ (b1 : A1) (b2 : A2) (b3 : A3) (b4 : A4) (b5 : A5) (b6 : A6) (b7 : A7) (b8 : A8) (b9 : A9), I b1 b2 b3 b4 b5 b6 b7 b8 b9 → μ b1 b2 b3 b4 b5 b6 b7 b8 b9 < μ a1 a2 a3 a4 a5 a6 a7 a8 a9 → W n b1 b2 b3 b4 b5 b6 b7 b8 b9) → W (n + 1) a1 a2 a3 a4 a5 a6 a7 a8 a9) (a1 : A1) (a2 : A2) (a3 : A3) (a4 : A4) (a5 : A5) (a6 : A6) (a7 : A7) (a8 : A8) (a9 : A9) (h : I a1 a2 a3 a4 a5 a6 a7 a8 a9) : ∃ n, W n a1 a2 a3 a4 a5 a6 a7 a8 a9 :=
  loop_m (σ := A1 × A2 × A3 × A4 × A5 × A6 × A7 × A8 × A9) (fun n s => W n s.1 s.2.1 s.2.2.1 s.2.2.2.1 s.2.2.2.2.1 s.2.2.2.2.2.1 s.2.2.2.2.2.2.1 s.2.2.2.2.2.2.2.1 s.2.2.2.2.2.2.2.2) (fun s => I s.1 s.2.1 s.2.2.1 s.2.2.2.1 s.2.2.2.2.1 s.2.2.2.2.2.1 s.2.2.2.2.2.2.1 s.2.2.2.2.2.2.2.1 s.2.2.2.2.2.2.2.2) (fun s => μ s.1 s.2.1 s.2.2.1 s.2.2.2.1 s.2.2.2.2.1 s.2.2.2.2.2.1 s.2.2.2.2.2.2.1 s.2.2.2.2.2.2.2.1 s.2.2.2.2.2.2.2.2) (fun n s hI hk => hs n s.1 s.2.1 s.2.2.1 s.2.2.2.1 s.2.2.2.2.1 s.2.2.2.2.2.1 s.2.2.2.2.2.2.1 s.2.2.2.2.2.2.2.1 s.2.2.2.2.2.2.2.2 hI (fun b1 b2 b3 b4 b5 b6 b7 b8 b9 h9 hm => hk (b1, b2, b3, b4, b5, b6, b7, b8, b9) h9 hm)) (a1, a2, a3, a4, a5, a6, a7, a8, a9) h
theorem lp10 {A1 A2 A3 A4 A5 A6 A7 A8 A9 A10 : Type} (W : Nat → A1 → A2 → A3 → A4 → A5 → A6 → A7 → A8 → A9 → A10 → Prop) (I : A1 → A2 → A3 → A4 → A5 → A6 → A7 → A8 → A9 → A10 → Prop) (μ : A1 → A2 → A3 → A4 → A5 → A6 → A7 → A8 → A9 → A10 → Nat) (hs : ∀ (n : Nat) (a1 : A1) (a2 : A2) (a3 : A3) (a4 : A4) (a5 : A5) (a6 : A6) (a7 : A7) (a8 : A8) (a9 : A9) (a10 : A10), I a1 a2 a3 a4 a5 a6 a7 a8 a9 a10 → (∀ (b1 : A1) (b2 : A2) (b3 : A3) (b4 : A4) (b5 : A5) (b6 : A6) (b7 : A7) (b8 : A8) (b9 : A9) (b10 : A10), I b1 b2 b3 b4 b5 b6 b7 b8 b9 b10 → μ b1 b2 b3 b4 b5 b6 b7 b8 b9 b10 < μ a1 a2 a3 a4 a5 a6 a7 a8 a9 a10 → W n b1 b2 b3 b4 b5 b6 b7 b8 b9 b10) → W (n + 1) a1 a2 a3 a4 a5 a6 a7 a8 a9 a10) (a1 : A1) (a2 : A2) (a3 : A3) (a4 : A4) (a5 : A5) (a6 : A6) (a7 : A7) (a8 : A8) (a9 : A9) (a10 : A10) (h : I a1 a2 a3 a4 a5 a6 a7 a8 a9 a10) : ∃ n, W n a1 a2 a3 a4 a5 a6 a7 a8 a9 a10 :=
  loop_m (σ := A1 × A2 × A3 × A4 × A5 × A6 × A7 × A8 × A9 × A10) (fun n s => W n s.1 s.2.1 s.2.2.1 s.2.2.2.1 s.2.2.2.2.1 s.2.2.2.2.2.1 s.2.2.2.2.2.2.1 s.2.2.2.2.2.2.2.1 s.2.2.2.2.2.2.2.2.1 s.2.2.2.2.2.2.2.2.2) (fun s => I s.1 s.2.1 s.2.2.1 s.2.2.2.1 s.2.2.2.2.1 s.2.2.2.2.2.1 s.2.2.2.2.2.2.1 s.2.2.2.2.2.2.2.1 s.2.2.2.2.2.2.2.2.1 s.2.2.2.2.2.2.2.2.2) (fun s => μ s.1 s.2.1 s.2.2.1 s.2.2.2.1 s.2.2.2.2.1 s.2.2.2.2.2.1 s.2.2.2.2.2.2.1 s.2.2.2.2.2.2.2.1 s.2.2.2.2.2.2.2.2.1 s.2.2.2.2.2.2.2.2.2) (fun n s hI hk => hs n s.1 s.2.1 s.2.2.1 s.2.2.2.1 s.2.2.2.2.1 s.2.2.2.2.2.1 s.2.2.2.2.2.2.1 s.2.2.2.2.2.2.2.1 s.2.2.2.2.2.2.2.2.1 s.2.2.2.2.2.2.2.2.2 hI (fun b1 b2 b3 b4 b5 b6 b7 b8 b9 b10 h9 hm => hk (b1, b2, b3, b4, b5, b6, b7, b8, b9, b10) h9 hm)) (a1, a2, a3, a4, a5, a6, a7, a8, a9, a10) h
theorem lp11 {A1 A2 A3 A4 A5 A6 A7 A8 A9 A10 A11 : Type} (W : Nat → A1 → A2 → A3 → A4 → A5 → A6 → A7 → A8 → A9 → A10 → A11 → Prop) (I : A1 → A2 → A3 → A4 → A5 → A6 → A7 → A8 → A9 → A10 → A11 → Prop) (μ : A1 → A2 → A3 → A4 → A5 → A6 → A7 → A8 → A9 → A10 → A11 → Nat) (hs : ∀ (n : Nat) (a1 : A1) (a2 : A2) (a3 : A3) (a4 : A4) (a5 : A5) (a6 : A6) (a7 : A7) (a8 : A8) (a9 : A9) (a10 : A10) (a11 : A11), I a1 a2 a3 a4 a5 a6 a7 a8 a9 a10 a11 → (∀ (b1 : A1) (b2 : A2) (b3 : A3) (b4 : A4) (b5 : A5) (b6 : A6) (b7 : A7) (b8 : A8) (b9 : A9) (b10 : A10) (b11 : A11), I b1 b2 b3 b4 b5 b6 b7 b8 b9 b10 b11 → μ b1 b2 b3 b4 b5 b6 b7 b8 b9 b10 b11 < μ a1 a2 a3 a4 a5 a6 a7 a8 a9 a10 a11 → W n b1 b2 b3 b4 b5 b6 b7 b8 b9 b10 b11) → W (n + 1) a1 a2 a3 a4 a5 a6 a7 a8 a9 a10 a11) (a1 : A1) (a2 : A2) (a3 : A3) (a4 : A4) (a5 : A5) (a6 : A6) (a7 : A7) (a8 : A8) (a9 : A9) (a10 : A10) (a11 : A11) (h : I a1 a2 a3 a4 a5 a6 a7 a8 a9 a10 a11) : ∃ n, W n a1 a2 a3 a4 a5 a6 a7 a8 a9 a10 a11 :=
  loop_m (σ := A1 × A2 × A3 × A4 × A5 × A6 × A7 × A8 × A9 × A10 × A11) (fun n s => W n s.1 s.2.1 s.2.2.1 s.2.2.2.1 s.2.2.2.2.1 s.2.2.2.2.2.1 s.2.2.2.2.2.2.1 s.2.2.2.2.2.2.2.1 s.2.2.2.2.2.2.2.2.1 s.2.2.2.2.2.2.2.2.2.1 s.2.2.2.2.2.2.2.2.2.2) (fun s => I s.1 s.2.1 s.2.2.1 s.2.2.2.1 s.2.2.2.2.1 s.2.2.2.2.2.1 s.2.2.2.2.2.2.1 s.2.2.2.2.2.2.2.1 s.2.2.2.2.2.2.2.2.1 s.2.2.2.2.2.2.2.2.2.1 s.2.2.2.2.2.2.2.2.2.2) (fun s => μ s.1 s.2.1 s.2.2.1 s.2.2.2.1 s.2.2.2.2.1 s.2.2.2.2.2.1 s.2.2.2.2.2.2.1 s.2.2.2.2.2.2.2.1 s.2.2.2.2.2.2.2.2.1 s.2.2.2.2.2.2.2.2.2.1 s.2.2.2.2.2.2.2.2.2.2) (fun n s hI hk => hs n s.1 s.2.1 s.2.2.1 s.2.2.2.1 s.2.2.2.2.1 s.2.2.2.2.2.1 s.2.2.2.2.2.2.1 s.2.2.2.2.2.2.2.1 s.2.2.2.2.2.2.2.2.1 s.2.2.2.2.2.2.2.2.2.1 s.2.2.2.2.2.2.2.2.2.2 hI (fun b1 b2 b3 b4 b5 b6 b7 b8 b9 b10 b11 h9 hm => hk (b1, b2, b3, b4, b5, b6, b7, b8, b9, b10, b11) h9 hm)) (a1, a2, a3, a4, a5, a6, a7, a8, a9, a10, a11) h
theorem lp12 {A1 A2 A3 A4 A5 A6 A7 A8 A9 A10 A11 A12 : Type} (W : Nat → A1 → A2 → A3 → A4 → A5 → A6 → A7 → A8 → A9 → A10 → A11 → A12 → Prop) (I : A1 → A2 → A3 → A4 → A5 → A6 → A7 → A8 → A9 → A10 → A11 → A12 → Prop) (μ : A1 → A2 → A3 → A4 → A5 → A6 → A7 → A8 → A9 → A10 → A11 → A12 → Nat) (hs : ∀ (n : Nat) (a1 : A1) (a2 : A2) (a3 : A3) (a4 : A4) (a5 : A5) (a6 : A6) (a7 : A7) (a8 : A8) (a9 : A9) (a10 : A10) (a11 : A11) (a12 : A12), I a1 a2 a3 a4 a5 a6 a7 a8 a9 a10 a11 a12 → (∀ (b1 : A1) (b2 : A2) (b3 : A3) (b4 : A4) (b5 : A5) (b6 : A6) (b7 : A7) (b8 : A8) (b9 : A9) (b10 : A10) (b11 : A11) (b12 : A12), I b1 b2 b3 b4 b5 b6 b7 b8 b9 b10 b11 b12 → μ b1 b2 b3 b4 b5 b6 b7 b8 b9 b10 b11 b12 < μ a1 a2 a3 a4 a5 a6 a7 a8 a9 a10 a11 a12 → W n b1 b2 b3 b4 b5 b6 b7 b8 b9 b10 b11 b12) → W (n + 1) a1 a2 a3 a4 a5 a6 a7 a8 a9 a10 a11 a12) (a1 : A1) (a2 : A2) (a3 : A3) (a4 : A4) (a5 : A5) (a6 : A6) (a7 : A7) (a8 : A8) (a9 : A9) (a10 : A10) (a11 : A11) (a12 : A12) (h : I a1 a2 a3 a4 a5 a6 a7 a8 a9 a10 a11 a12) : ∃ n, W n a1 a2 a3 a4 a5 a6 a7 a8 a9 a10 a11 a12 :=
  loop_m (σ := A1 × A2 × A3 × A4 × A5 × A6 × A7 × A8 × A9 × A10 × A11 × A12) (fun n s => W n s.1 s.2.1 s.2.2.1 s.2.2.2.1 s.2.2.2.2.1 s.2.2.2.2.2.1 s.2.2.2.2.2.2.1 s.2.2.2.2.2.2.2.1 s.2.2.2.2.2.2.2.2.1 s.2.2.2.2.2.2.2.2.2.1 s.2.2.2.2.2.2.2.2.2.2.1 s.2.2.2.2.2.2.2.2.2.2.2) (fun s => I s.1 s.2.1 s.2.2.1 s.2.2.2.1 s.2.2.2.2.1 s.2.2.2.2.2.1 s.2.2.2.2.2.2.1 s.2.2.2.2.2.2.2.1 s.2.2.2.2.2.2.2.2.1 s.2.2.2.2.2.2.2.2.2.1 s.2.2.2.2.2.2.2.2.2.2.1 s.2.2.2.2.2.2.2.2.2.2.2) (fun s => μ s.1 s.2.1 s.2.2.1 s.2.2.2.1 s.2.2.2.2.1 s.2.2.2.2.2.1 s.2.2.2.2.2.2.1 s.2.2.2.2.2.2.2.1 s.2.2.2.2.2.2.2.2.1 s.2.2.2.2.2.2.2.2.2.1 s.2.2.2.2.2.2.2.2.2.2.1 s.2.2.2.2.2.2.2.2.2.2.2) (fun n s hI hk => hs n s.1 s.2.1 s.2.2.1 s.2.2.2.1 s.2.2.2.2.1 s.2.2.2.2.2.1 s.2.2.2.2.2.2.1 s.2.2.2.2.2.2.2.1 s.2.2.2.2.2.2.2.2.1 s.2.2.2.2.2.2.2.2.2.1 s.2.2.2.2.2.2.2.2.2.2.1 s.2.2.2.2.2.2.2.2.2.2.2 hI (fun b1 b2 b3 b4 b5 b6 b7 b8 b9 b10 b11 b12 h9 hm => hk (b1, b2, b3, b4, b5, b6, b7, b8, b9, b10, b11, b12) h9 hm)) (a1, a2, a3, a4, a5, a6, a7, a8, a9, a10, a11, a12) h
theorem lp13 {A1 A2 A3 A4 A5 A6 A7 A8 A9 A10 A11 A12 A13 : Type} (W : Nat → A1 → A2 → A3 → A4 → A5 → A6 → A7 → A8 → A9 → A10 → A11 → A12 → A13 → Prop) (I : A1 → A2 → A3 → A4 → A5 → A6 → A7 → A8 → A9 → A10 → A11 → A12 → A13 → Prop) (μ : A1 → A2 → A3 → A4 → A5 → A6 → A7 → A8 → A9 → A10 → A11 → A12 → A13 → Nat) (hs : ∀ (n : Nat) (a1 : A1) (a2 : A2) (a3 : A3) (a4 : A4) (a5 : A5) (a6 : A6) (a7 : A7) (a8 : A8) (a9 : A9) (a10 : A10) (a11 : A11) (a12 : A12) (a13 : A13), I a1 a2 a3 a4 a5 a6 a7 a8 a9 a10 a11 a12 a13 → (∀ (b1 : A1) (b2 : A2) (b3 : A3) (b4 : A4) (b5 : A5) (b6 : A6) (b7 : A7) (b8 : A8) (b9 : A9) (b10 : A10) (b11 : A11) (b12 : A12) (b13 : A13), I b1 b2 b3 b4 b5 b6 b7 b8 b9 b10 b11 b12 b13 → μ b1 b2 b3 b4 b5 b6 b7 b8 b9 b10 b11 b12 b13 < μ a1 a2 a3 a4 a5 a6 a7 a8 a9 a10 a11 a12 a13 → W n b1 b2 b3 b4 b5 b6 b7 b8 b9 b10 b11 b12 b13) → W (n + 1) a1 a2 a3 a4 a5 a6 a7 a8 a9 a10 a11 a12 a13) (a1 : A1) (a2 : A2) (a3 : A3) (a4 : A4) (a5 : A5) (a6 : A6) (a7 : A7) (a8 : A8) (a9 : A9) (a10 : A10) (a11 : A11) (a12 : A12) (a13 : A13) (h : I a1 a2 a3 a4 a5 a6 a7 a8 a9 a10 a11 a12 a13) : ∃ n, W n a1 a2 a3 a4 a5 a6 a7 a8 a9 a10 a11 a12 a13 :=
  loop_m (σ := A1 × A2 × A3 × A4 × A5 × A6 × A7 × A8 × A9 × A10 × A11 × A12 × A13) (fun n s => W n s.1 s.2.1 s.2.2.1 s.2.2.2.1 s.2.2.2.2.1 s.2.2.2.2.2.1 s.2.2.2.2.2.2.1 s.2.2.2.2.2.2.2.1 s.2.2.2.2.2.2.2.2.1 s.2.2.2.2.2.2.2.2.2.1 s.2.2.2.2.2.2.2.2.2.2.1 s.2.2.2.2.2.2.2.2.2.2.2.1 s.2.2.2.2.2.2.2.2.2.2.2.2) (fun s => I s.1 s.2.1 s.2.2.1 s.2.2.2.1 s.2.2.2.2.1 s.2.2.2.2.2.1 s.2.2.2.2.2.2.1 s.2.2.2.2.2.2.2.1 s.2.2.2.2.2.2.2.2.1 s.2.2.2.2.2.2.2.2.2.1 s.2.2.2.2.2.2.2.2.2.2.1 s.2.2.2.2.2.2.2.2.2.2.2.1 s.2.2.2.2.2.2.2.2.2.2.2.2) (fun s => μ s.1 s.2.1 s.2.2.1 s.2.2.2.1 s.2.2.2.2.1 s.2.2.2.2.2.1 s.2.2.2.2.2.2.1 s.2.2.2.2.2.2.2.1 s.2.2.2.2.2.2.2.2.1 s.2.2.2.2.2.2.2.2.2.1 s.2.2.2.2.2.2.2.2.2.2.1 s.2.2.2.2.2.2.2.2.2.2.2.1 s.2.2.2.2.2.2.2.2.2.2.2.2) (fun n s hI hk => hs n s.1 s.2.1 s.2.2.1 s.2.2.2.1 s.2.2.2.2.1 s.2.2.2.2.2.1 s.2.2.2.2.2.2.1 s.2.2.2.2.2.2.2.1 s.2.2.2.2.2.2.2.2.1 s.2.2.2.2.2.2.2.2.2.1 s.2.2.2.2.2.2.2.2.2.2.1 s.2.2.2.2.2.2.2.2.2.2.2.1 s.2.2.2.2.2.2.2.2.2.2.2.2 hI (fun b1 b2 b3 b4 b5 b6 b7 b8 b9 b10 b11 b12 b13 h9 hm => hk (b1, b2, b3, b4, b5, b6, b7, b8, b9, b10, b11, b12, b13) h9 hm)) (a1, a2, a3, a4, a5, a6, a7, a8, a9, a10, a11, a12, a13) h
theorem lp14 {A1 A2 A3 A4 A5 A6 A7 A8 A9 A10 A11 A12 A13 A14 : Type} (W : Nat → A1 → A2 → A3 → A4 → A5 → A6 → A7 → A8 → A9 → A10 → A11 → A12 → A13 → A14 → Prop) (I : A1 → A2 → A3 → A4 → A5 → A6 → A7 → A8 → A9 → A10 → A11 → A12 → A13 → A14 → Prop) (μ : A1 → A2 → A3 → A4 → A5 → A6 → A7 → A8 → A9 → A10 → A11 → A12 → A13 → A14 → Nat) (hs : ∀ (n : Nat) (a1 : A1) (a2 : A2) (a3 : A3) (a4 : A4) (a5 : A5) (a6 : A6) (a7 : A7) (a8 : A8) (a9 : A9) (a10 : A10) (a11 : A11) (a12 : A12) (a13 : A13) (a14 : A14), I a1 a2 a3 a4 a5 a6 a7 a8 a9 a10 a11 a12 a13 a14 → (∀ (b1 : A1) (b2 : A2) (b3 : A3) (b4 : A4) (b5 : A5) (b6 : A6) (b7 : A7) (b8 : A8) (b9 : A9) (b10 : A10) (b11 : A11) (b12 : A12) (b13 : A13) (b14 : A14), I b1 b2 b3 b4 b5 b6 b7 b8 b9 b10 b11 b12 b13 b14 → μ b1 b2 b3 b4 b5 b6 b7 b8 b9 b10 b11 b12 b13 b14 < μ a1 a2 a3 a4 a5 a6 a7 a8 a9 a10 a11 a12 a13 a14 → W n b1 b2 b3 b4 b5 b6 b7 b8 b9 b10 b11 b12 b13 b14) → W (n + 1) a1 a2 a3 a4 a5 a6 a7 a8 a9 a10 a11 a12 a13 a14) (a1 : A1) (a2 : A2) (a3 : A3) (a4 : A4) (a5 : A5) (a6 : A6) (a7 : A7) (a8 : A8) (a9 : A9) (a10 : A10) (a11 : A11) (a12 : A12) (a13 : A13) (a14 : A14) (h : I a1 a2 a3 a4 a5 a6 a7 a8 a9 a10 a11 a12 a13 a14) : ∃ n, W n a1 a2 a3 a4 a5 a6 a7 a8 a9 a10 a11 a12 a13 a14 :=
  loop_m (σ := A1 × A2 × A3 × A4 × A5 × A6 × A7 × A8 × A9 × A10 × A11 × A12 × A13 × A14) (fun n s => W n s.1 s.2.1 s.2.2.1 s.2.2.2.1 s.2.2.2.2.1 s.2.2.2.2.2.1 s.2.2.2.2.2.2.1 s.2.2.2.2.2.2.2.1 s.2.2.2.2.2.2.2.2.1 s.2.2.2.2.2.2.2.2.2.1 s.2.2.2.2.2.2.2.2.2.2.1 s.2.2.2.2.2.2.2.2.2.2.2.1 s.2.2.2.2.2.2.2.2.2.2.2.2.1 s.2.2.2.2.2.2.2.2.2.2.2.2.2) (fun s => I s.1 s.2.1 s.2.2.1 s.2.2.2.1 s.2.2.2.2.1 s.2.2.2.2.2.1 s.2.2.2.2.2.2.1 s.2.2.2.2.2.2.2.1 s.2.2.2.2.2.2.2.2.1 s.2.2.2.2.2.2.2.2.2.1 s.2.2.2.2.2.2.2.2.2.2.1 s.2.2.2.2.2.2.2.2.2.2.2.1 s.2.2.2.2.2.2.2.2.2.2.2.2.1 s.2.2.2.2.2.2.2.2.2.2.2.2.2) (fun s => μ s.1 s.2.1 s.2.2.1 s.2.2.2.1 s.2.2.2.2.1 s.2.2.2.2.2.1 s.2.2.2.2.2.2.1 s.2.2.2.2.2.2.2.1 s.2.2.2.2.2.2.2.2.1 s.2.2.2.2.2.2.2.2.2.1 s.2.2.2.2.2.2.2.2.2.2.1 s.2.2.2.2.2.2.2.2.2.2.2.1 s.2.2.2.2.2.2.2.2.2.2.2.2.1 s.2.2.2.2.2.2.2.2.2.2.2.2.2) (fun n s hI hk => hs n s.1 s.2.1 s.2.2.1 s.2.2.2.1 s.2.2.2.2.1 s.2.2.2.2.2.1 s.2.2.2.2.2.2.1 s.2.2.2.2.2.2.2.1 s.2.2.2.2.2.2.2.2.1 s.2.2.2.2.2.2.2.2.2.1 s.2.2.2.2.2.2.2.2.2.2.1 s.2.2.2.2.2.2.2.2.2.2.2.1 s.2.2.2.2.2.2.2.2.2.2.2.2.1 s.2.2.2.2.2.2.2.2.2.2.2.2.2 hI (fun b1 b2 b3 b4 b5 b6 b7 b8 b9 b10 b11 b12 b13 b14 h9 hm => hk (b1, b2, b3, b4, b5, b6, b7, b8, b9, b10, b11, b12, b13, b14) h9 hm)) (a1, a2, a3, a4, a5, a6, a7, a8, a9, a10, a11, a12, a13, a14) h
theorem lp15 {A1 A2 A3 A4 A5 A6 A7 A8 A9 A10 A11 A12 A13 A14 A15 : Type} (W : Nat → A1 → A2 → A3 → A4 → A5 → A6 → A7 → A8 → A9 → A10 → A11 → A12 → A13 → A14 → A15 → Prop) (I : A1 → A2 → A3 → A4 → A5 → A6 → A7 → A8 → A9 → A10 → A11 → A12 → A13 → A14 → A15 → Prop) (μ : A1 → A2 → A3 → A4 → A5 → A6 → A7 → A8 → A9 → A10 → A11 → A12 → A13 → A14 → A15 → Nat) (hs : ∀ (n : Nat) (a1 : A1) (a2 : A2) (a3 : A3) (a4 : A4) (a5 : A5) (a6 : A6) (a7 : A7) (a8 : A8) (a9 : A9) (a10 : A10) (a11 : A11) (a12 : A12) (a13 : A13) (a14 : A14) (a15 : A15), I a1 a2 a3 a4 a5 a6 a7 a8 a9 a10 a11 a12 a13 a14 a15 → (∀ (b1 : A1) (b2 : A2) (b3 : A3) (b4 : A4) (b5 : A5) (b6 : A6) (b7 : A7) (b8 : A8) (b9 : A9) (b10 : A10) (b11 : A11) (b12 : A12) (b13 : A13) (b14 : A14) (b15 : A15), I b1 b2 b3 b4 b5 b6 b7 b8 b9 b10 b11 b12 b13 b14 b15 → μ b1 b2 b3 b4 b5 b6 b7 b8 b9 b10 b11 b12 b13 b14 b15 < μ a1 a2 a3 a4 a5 a6 a7 a8 a9 a10 a11 a12 a13 a14 a15 → W n b1 b2 b3 b4 b5 b6 b7 b8 b9 b10 b11 b12 b13 b14 b15) → W (n + 1) a1 a2 a3 a4 a5 a6 a7 a8 a9 a10 a11 a12 a13 a14 a15) (a1 : A1) (a2 : A2) (a3 : A3) (a4 : A4) (a5 : A5) (a6 : A6) (a7 : A7) (a8 : A8) (a9 : A9) (a10 : A10) (a11 : A11) (a12 : A12) (a13 : A13) (a14 : A14) (a15 : A15) (h : I a1 a2 a3 a4 a5 a6 a7 a8 a9 a10 a11 a12 a13 a14 a15) : ∃ n, W n a1 a2 a3 a4 a5 a6 a7 a8 a9 a10 a11 a12 a13 a14 a15 :=
  loop_m (σ := A1 × A2 × A3 × A4 × A5 × A6 × A7 × A8 × A9 × A10 × A11 × A12 × A13 × A14 × A15) (fun n s => W n s.1 s.2.1 s.2.2.1 s.2.2.2.1 s.2.2.2.2.1 s.2.2.2.2.2.1 s.2.2.2.2.2.2.1 s.2.2.2.2.2.2.2.1 s.2.2.2.2.2.2.2.2.1 s.2.2.2.2.2.2.2.2.2.1 s.2.2.2.2.2.2.2.2.2.2.1 s.2.2.2.2.2.2.2.2.2.2.2.1 s.2.2.2.2.2.2.2.2.2.2.2.2.1 s.2.2.2.2.2.2.2.2.2.2.2.2.2.1 s.2.2.2.2.2.2.2.2.2.2.2.2.2.2) (fun s => I s.1 s.2.1 s.2.2.1 s.2.2.2.1 s.2.2.2.2.1 s.2.2.2.2.2.1 s.2.2.2.2.2.2.1 s.2.2.2.2.2.2.2.1 s.2.2.2.2.2.2.2.2.1 s.2.2.2.2.2.2.2.2.2.1 s.2.2.2.2.2.2.2.2.2.2.1 s.2.2.2.2.2.2.2.2.2.2.2.1 s.2.2.2.2.2.2.2.2.2.2.2.2.1 s.2.2.2.2.2.2.2.2.2.2.2.2.2.1 s.2.2.2.2.2.2.2.2.2.2.2.2.2.2) (fun s => μ s.1 s.2.1 s.2.2.1 s.2.2.2.1 s.2.2.2.2.1 s.2.2.2.2.2.1 s.2.2.2.2.2.2.1 s.2.2.2.2.2.2.2.1 s.2.2.2.2.2.2.2.2.1 s.2.2.2.2.2.2.2.2.2.1 s.2.2.2.2.2.2.2.2.2.2.1 s.2.2.2.2.2.2.2.2.2.2.2.1 s.2.2.2.2.2.2.2.2.2.2.2.2.1 s.2.2.2.2.2.2.2.2.2.2.2.2.2.1 s.2.2.2.2.2.2.2.2.2.2.2.2.2.2) (fun n s hI hk => hs n s.1 s.2.1 s.2.2.1 s.2.2.2.1 s.2.2.2.2.1 s.2.2.2.2.2.1 s.2.2.2.2.2.2.1 s.2.2.2.2.2.2.2.1 s.2.2.2.2.2.2.2.2.1 s.2.2.2.2.2.2.2.2.2.1 s.2.2.2.2.2.2.2.2.2.2.1 s.2.2.2.2.2.2.2.2.2.2.2.1 s.2.2.2.2.2.2.2.2.2.2.2.2.1 s.2.2.2.2.2.2.2.2.2.2.2.2.2.1 s.2.2.2.2.2.2.2.2.2.2.2.2.2.2 hI (fun b1 b2 b3 b4 b5 b6 b7 b8 b9 b10 b11 b12 b13 b14 b15 h9 hm => hk (b1, b2, b3, b4, b5, b6, b7, b8, b9, b10, b11, b12, b13, b14, b15) h9 hm)) (a1, a2, a3, a4, a5, a6, a7, a8, a9, a10, a11, a12, a13, a14, a15) h
theorem lp16 {A1 A2 A3 A4 A5 A6 A7 A8 A9 A10 A11 A12 A13 A14 A15 A16 : Type} (W : Nat → A1 → A2 → A3 → A4 → A5 → A6 → A7 → A8 → A9 → A10 → A11 → A12 → A13 → A14 → A15 → A16 → Prop) (I : A1 → A2 → A3 → A4 → A5 → A6 → A7 → A8 → A9 → A10 → A11 → A12 → A13 → A14 → A15 → A16 → Prop) (μ : A1 → A2 → A3 → A4 → A5 → A6 → A7 → A8 → A9 → A10 → A11 → A12 → A13 → A14 → A15 → A16 → Nat) (hs : ∀ (n : Nat) (a1 : A1) (a2 : A2) (a3 : A3) (a4 : A4) (a5 : A5) (a6 : A6) (a7 : A7) (a8 : A8) (a9 : A9) (a10 : A10) (a11 : A11) (a12 : A12) (a13 : A13) (a14 : A14) (a15 : A15) (a16 : A16), I a1 a2 a3 a4 a5 a6 a7 a8 a9 a10 a11 a12 a13 a14 a15 a16 → (∀ (b1 : A1) (b2 : A2) (b3 : A3) (b4 : A4) (b5 : A5) (b6 : A6) (b7 : A7) (b8 : A8) (b9 : A9) (b10 : A10) (b11 : A11) (b12 : A12) (b13 : A13) (b14 : A14) (b15 : A15) (b16 : A16), I b1 b2 b3 b4 b5 b6 b7 b8 b9 b10 b11 b12 b13 b14 b15 b16 → μ b1 b2 b3 b4 b5 b6 b7 b8 b9 b10 b11 b12 b13 b14 b15 b16 < μ a1 a2 a3 a4 a5 a6 a7 a8 a9 a10 a11 a12 a13 a14 a15 a16 → W n b1 b2 b3 b4 b5 b6 b7 b8 b9 b10 b11 b12 b13 b14 b15 b16) → W (n + 1) a1 a2 a3 a4 a5 a6 a7 a8 a9 a10 a11 a12 a13 a14 a15 a16) (a1 : A1) (a2 : A2) (a3 : A3) (a4 : A4) (a5 : A5) (a6 : A6) (a7 : A7) (a8 : A8) (a9 : A9) (a10 : A10) (a11 : A11) (a12 : A12) (a13 : A13) (a14 : A14) (a15 : A15) (a16 : A16) (h : I a1 a2 a3 a4 a5 a6 a7 a8 a9 a10 a11 a12 a13 a14 a15 a16) : ∃ n, W n a1 a2 a3 a4 a5 a6 a7 a8 a9 a10 a11 a12 a13 a14 a15 a16 :=
  loop_m (σ := A1 × A2 × A3 × A4 × A5 × A6 × A7 × A8 × A9 × A10 × A11 × A12 × A13 × A14 × A15 × A16) (fun n s => W n s.1 s.2.1 s.2.2.1 s.2.2.2.1 s.2.2.2.2.1 s.2.2.2.2.2.1 s.2.2.2.2.2.2.1 s.2.2.2.2.2.2.2.1 s.2.2.2.2.2.2.2.2.1 s.2.2.2.2.2.2.2.2.2.1 s.2.2.2.2.2.2.2.2.2.2.1 s.2.2.2.2.2.2.2.2.2.2.2.1 s.2.2.2.2.2.2.2.2.2.2.2.2.1 s.2.2.2.2.2.2.2.2.2.2.2.2.2.1 s.2.2.2.2.2.2.2.2.2.2.2.2.2.2.1 s.2.2.2.2.2.2.2.2.2.2.2.2.2.2.2) (fun s => I s.1 s.2.1 s.2.2.1 s.2.2.2.1 s.2.2.2.2.1 s.2.2.2.2.2.1 s.2.2.2.2.2.2.1 s.2.2.2.2.2.2.2.1 s.2.2.2.2.2.2.2.2.1 s.2.2.2.2.2.2.2.2.2.1 s.2.2.2.2.2.2.2.2.2.2.1 s.2.2.2.2.2.2.2.2.2.2.2.1 s.2.2.2.2.2.2.2.2.2.2.2.2.1 s.2.2.2.2.2.2.2.2.2.2.2.2.2.1 s.2.2.2.2.2.2.2.2.2.2.2.2.2.2.1 s.2.2.2.2.2.2.2.2.2.2.2.2.2.2.2) (fun s => μ s.1 s.2.1 s.2.2.1 s.2.2.2.1 s.2.2.2.2.1 s.2.2.2.2.2.1 s.2.2.2.2.2.2.1 s.2.2.2.2.2.2.2.1 s.2.2.2.2.2.2.2.2.1 s.2.2.2.2.2.2.2.2.2.1 s.2.2.2.2.2.2.2.2.2.2.1 s.2.2.2.2.2.2.2.2.2.2.2.1 s.2.2.2.2.2.2.2.2.2.2.2.2.1 s.2.2.2.2.2.2.2.2.2.2.2.2.2.1 s.2.2.2.2.2.2.2.2.2.2.2.2.2.2.1 s.2.2.2.2.2.2.2.2.2.2.2.2.2.2.2) (fun n s hI hk => hs n s.1 s.2.1 s.2.2.1 s.2.2.2.1 s.2.2.2.2.1 s.2.2.2.2.2.1 s.2.2.2.2.2.2.1 s.2.2.2.2.2.2.2.1 s.2.2.2.2.2.2.2.2.1 s.2.2.2.2.2.2.2.2.2.1 s.2.2.2.2.2.2.2.2.2.2.1 s.2.2.2.2.2.2.2.2.2.2.2.1 s.2.2.2.2.2.2.2.2.2.2.2.2.1 s.2.2.2.2.2.2.2.2.2.2.2.2.2.1 s.2.2.2.2.2.2.2.2.2.2.2.2.2.2.1 s.2.2.2.2.2.2.2.2.2.2.2.2.2.2.2 hI (fun b1 b2 b3 b4 b5 b6 b7 b8 b9 b10 b11 b12 b13 b14 b15 b16 h9 hm => hk (b1, b2, b3, b4, b5, b6, b7, b8, b9, b10, b11, b12, b13, b14, b15, b16) h9 hm)) (a1, a2, a3, a4, a5, a6, a7, a8, a9, a10, a11, a12, a13, a14, a15, a16) h
theorem pk_least (P : Nat → Prop) (h : ∃ k, P k) : ∃ k, P k ∧ ∀ j, j < k → ¬ P j := by
  obtain ⟨k, hk⟩ := h
  induction k using Nat.strongRecOn with
  | ind k ih =>
    by_cases e : ∃ j, j < k ∧ P j
    · obtain ⟨j, hj, pj⟩ := e
      exact ih j hj pj
    · exact ⟨k, hk, fun j hj pj => e ⟨j, hj, pj⟩⟩
theorem rp1 {ρ A1 : Type} (W : Nat → (ρ → Prop) → A1 → Prop) (ok : A1 → Prop) (μ : A1 → Nat) (val : A1 → ρ)
    (hs : ∀ (d : Nat) (post : ρ → Prop) (a1 : A1), ok a1 → post (val a1) → (∀ (post' : ρ → Prop) (b1 : A1), ok b1 → μ b1 < μ a1 → post' (val b1) → W d post' b1) → W (d + 1) post a1) :
    ∀ (d : Nat) (post : ρ → Prop) (a1 : A1), ok a1 → μ a1 < d → post (val a1) → W d post a1 := by
  intro d
  induction d with
  | zero => intro post a1 _ h; omega
  | succ d ih =>
    intro post a1 ho hm hp
    exact hs d post a1 ho hp (fun post' b1 ho' hm' hp' => ih post' b1 ho' (by omega) hp')
theorem rp2 {ρ A1 A2 : Type} (W : Nat → (ρ → Prop) → A1 → A2 → Prop) (ok : A1 → A2 → Prop) (μ : A1 → A2 → Nat) (val : A1 → A2 → ρ)
    (hs : ∀ (d : Nat) (post : ρ → Prop) (a1 : A1) (a2 : A2), ok a1 a2 → post (val a1 a2) → (∀ (post' : ρ → Prop) (b1 : A1) (b2 : A2), ok b1 b2 → μ b1 b2 < μ a1 a2 → post' (val b1 b2) → W d post' b1 b2) → W (d + 1) post a1 a2) :
    ∀ (d : Nat) (post : ρ → Prop) (a1 : A1) (a2 : A2), ok a1 a2 → μ a1 a2 < d → post (val a1 a2) → W d post a1 a2 := by
  intro d
  induction d with
  | zero => intro post a1 a2 _ h; omega
  | succ d ih =>
    intro post a1 a2 ho hm hp
    exact hs d post a1 a2 ho hp (fun post' b1 b2 ho' hm' hp' => ih post' b1 b2 ho' (by omega) hp')
theorem rp3 {ρ A1 A2 A3 : Type} (W : Nat → (ρ → Prop) → A1 → A2 → A3 → Prop) (ok : A1 → A2 → A3 → Prop) (μ : A1 → A2 → A3 → Nat) (val : A1 → A2 → A3 → ρ)
    (hs : ∀ (d : Nat) (post : ρ → Prop) (a1 : A1) (a2 : A2) (a3 : A3), ok a1 a2 a3 → post (val a1 a2 a3) → (∀ (post' : ρ → Prop) (b1 : A1) (b2 : A2) (b3 : A3), ok b1 b2 b3 → μ b1 b2 b3 < μ a1 a2 a3 → post' (val b1 b2 b3) → W d post' b1 b2 b3) → W (d + 1) post a1 a2 a3) :
    ∀ (d : Nat) (post : ρ → Prop) (a1 : A1) (a2 : A2) (a3 : A3), ok a1 a2 a3 → μ a1 a2 a3 < d → post (val a1 a2 a3) → W d post a1 a2 a3 := by
  intro d
  induction d with
  | zero => intro post a1 a2 a3 _ h; omega
  | succ d ih =>
    intro post a1 a2 a3 ho hm hp
    exact hs d post a1 a2 a3 ho hp (fun post' b1 b2 b3 ho' hm' hp' => ih post' b1 b2 b3 ho' (by omega) hp')
theorem rp4 {ρ A1 A2 A3 A4 : Type} (W : Nat → (ρ → Prop) → A1 → A2 → A3 → A4 → Prop) (ok : A1 → A2 → A3 → A4 → Prop) (μ : A1 → A2 → A3 → A4 → Nat) (val : A1 → A2 → A3 → A4 → ρ)
    (hs : ∀ (d : Nat) (post : ρ → Prop) (a1 : A1) (a2 : A2) (a3 : A3) (a4 : A4), ok a1 a2 a3 a4 → post (val a1 a2 a3 a4) → (∀ (post' : ρ → Prop) (b1 : A1) (b2 : A2) (b3 : A3) (b4 : A4), ok b1 b2 b3 b4 → μ b1 b2 b3 b4 < μ a1 a2 a3 a4 → post' (val b1 b2 b3 b4) → W d post' b1 b2 b3 b4) → W (d + 1) post a1 a2 a3 a4) :
    ∀ (d : Nat) (post : ρ → Prop) (a1 : A1) (a2 : A2) (a3 : A3) (a4 : A4), ok a1 a2 a3 a4 → μ a1 a2 a3 a4 < d → post (val a1 a2 a3 a4) → W d post a1 a2 a3 a4 := by
  intro d
  induction d with
  | zero => intro post a1 a2 a3 a4 _ h; omega
  | succ d ih =>
    intro post a1 a2 a3 a4 ho hm hp
    exact hs d post a1 a2 a3 a4 ho hp (fun post' b1 b2 b3 b4 ho' hm' hp' => ih post' b1 b2 b3 b4 ho' (by omega) hp')
theorem rp5 {ρ A1 A2 A3 A4 A5 : Type} (W : Nat → (ρ → Prop) → A1 → A2 → A3 → A4 → A5 → Prop) (ok : A1 → A2 → A3 → A4 → A5 → Prop) (μ : A1 → A2 → A3 → A4 → A5 → Nat) (val : A1 → A2 → A3 → A4 → A5 → ρ)
    (hs : ∀ (d : Nat) (post : ρ → Prop) (a1 : A1) (a2 : A2) (a3 : A3) (a4 : A4) (a5 : A5), ok a1 a2 a3 a4 a5 → post (val a1 a2 a3 a4 a5) → (∀ (post' : ρ → Prop) (b1 : A1) (b2 : A2) (b3 : A3) (b4 : A4) (b5 : A5), ok b1 b2 b3 b4 b5 → μ b1 b2 b3 b4 b5 < μ a1 a2 a3 a4 a5 → post' (val b1 b2 b3 b4 b5) → W d post' b1 b2 b3 b4 b5) → W (d + 1) post a1 a2 a3 a4 a5) :
    ∀ (d : Nat) (post : ρ → Prop) (a1 : A1) (a2 : A2) (a3 : A3) (a4 : A4) (a5 : A5), ok a1 a2 a3 a4 a5 → μ a1 a2 a3 a4 a5 < d → post (val a1 a2 a3 a4 a5) → W d post a1 a2 a3 a4 a5 := by
  intro d
  induction d with
  | zero => intro post a1 a2 a3 a4 a5 _ h; omega
  | succ d ih =>
    intro post a1 a2 a3 a4 a5 ho hm hp
    exact hs d post a1 a2 a3 a4 a5 ho hp (fun post' b1 b2 b3 b4 b5 ho' hm' hp' => ih post' b1 b2 b3 b4 b5 ho' (by omega) hp')
theorem rp6 {ρ A1 A2 A3 A4 A5 A6 : Type} (W : Nat → (ρ → Prop) → A1 → A2 → A3 → A4 → A5 → A6 → Prop) (ok : A1 → A2 → A3 → A4 → A5 → A6 → Prop) (μ : A1 → A2 → A3 → A4 → A5 → A6 → Nat) (val : A1 → A2 → A3 → A4 → A5 → A6 → ρ)
    (hs : ∀ (d : Nat) (post : ρ → Prop) (a1 : A1) (a2 : A2) (a3 : A3) (a4 : A4) (a5 : A5) (a6 : A6), ok a1 a2 a3 a4 a5 a6 → post (val a1 a2 a3 a4 a5 a6) → (∀ (post' : ρ → Prop) (b1 : A1) (b2 : A2) (b3 : A3) (b4 : A4) (b5 : A5) (b6 : A6), ok b1 b2 b3 b4 b5 b6 → μ b1 b2 b3 b4 b5 b6 < μ a1 a2 a3 a4 a5 a6 → post' (val b1 b2 b3 b4 b5 b6) → W d post' b1 b2 b3 b4 b5 b6) → W (d + 1) post a1 a2 a3 a4 a5 a6) :
    ∀ (d : Nat) (post : ρ → Prop) (a1 : A1) (a2 : A2) (a3 : A3) (a4 : A4) (a5 : A5) (a6 : A6), ok a1 a2 a3 a4 a5 a6 → μ a1 a2 a3 a4 a5 a6 < d → post (val a1 a2 a3 a4 a5 a6) → W d post a1 a2 a3 a4 a5 a6 := by
  intro d
  induction d with
  | zero => intro post a1 a2 a3 a4 a5 a6 _ h; omega
  | succ d ih =>
    intro post a1 a2 a3 a4 a5 a6 ho hm hp
    exact hs d post a1 a2 a3 a4 a5 a6 ho hp (fun post' b1 b2 b3 b4 b5 b6 ho' hm' hp' => ih post' b1 b2 b3 b4 b5 b6 ho' (by omega) hp')
theorem rec_p {σ ρ : Type} (W : Nat → (ρ → Prop) → σ → Prop) (ok : σ → Prop) (μ : σ → Nat) (val : σ → ρ)
    (hs : ∀ d s post, ok s → post (val s) → (∀ s' post', ok s' → μ s' < μ s → post' (val s') → W d post' s') → W (d + 1) post s) :
    ∀ d s post, ok s → μ s < d → post (val s) → W d post s := by
  intro d
  induction d with
  | zero => intro s post _ h; omega
  | succ d ih =>
    intro s post ho hm hp
    exact hs d s post ho hp (fun s' post' ho' hm' hp' => ih s' post' ho' (by omega) hp')
theorem rec_q {σ ρ : Type} (W : Nat → (ρ → Prop) → σ → Prop) (ok : σ → Prop) (μ : σ → Nat) (Q : σ → ρ → Prop)
    (hs : ∀ d s post, ok s → (∀ r, Q s r → post r) → (∀ s' post', ok s' → μ s' < μ s → (∀ r, Q s' r → post' r) → W d post' s') → W (d + 1) post s) :
    ∀ d s post, ok s → μ s < d → (∀ r, Q s r → post r) → W d post s := by
  intro d
  induction d with
  | zero => intro s post _ h; omega
  | succ d ih =>
    intro s post ho hm hp
    exact hs d s post ho hp (fun s' post' ho' hm' hp' => ih s' post' ho' (by omega) hp')
def bx_sum (f : Nat → Int32) : Nat → Int32
  | 0 => 0
  | n + 1 => bx_sum f n + f n
theorem ek_u {A : Prop} {B : Nat → Prop} {k N : Nat} (hk : k < N) (h : B k) : (some k = none → A) ∧ (∀ y : Nat, some k = some y → (y < N ∧ B y)) :=
  ⟨fun z => absurd z (Option.some_ne_none k), fun _ e => (by cases e; exact ⟨hk, h⟩)⟩
theorem ek_nu {A : Prop} {B : Nat → Prop} (h : A) : ((none : Option Nat) = none → A) ∧ (∀ y : Nat, (none : Option Nat) = some y → B y) :=
  ⟨fun _ => h, fun _ e => (by cases e)⟩
theorem ek_if {c d A B : Prop} (e : c ↔ d) (f : d → A) (g : ¬ d → B) : (c → A) ∧ (¬ c → B) :=
  ⟨fun z => f (e.mp z), fun z => g (fun y => z (e.mpr y))⟩
theorem ek_v {α : Sort _} {P : α → Prop} {a b : α} (e : a = b) (h : P b) : P a := e ▸ h
theorem co_some {x : Option Nat} {A : Prop} {B : Nat → Prop} (i : Nat) (h : B i) (hx : x = some i := by rfl) : (x = none → A) ∧ (∀ y : Nat, x = some y → B y) := by
  subst hx
  exact ⟨fun e => (nomatch e), fun y e => Option.some.inj e ▸ h⟩
theorem co_none {x : Option Nat} {A : Prop} {B : Nat → Prop} (h : A) (hx : x = none := by rfl) : (x = none → A) ∧ (∀ y : Nat, x = some y → B y) := by
  subst hx
  exact ⟨fun _ => h, fun y e => (nomatch e)⟩
theorem co_any {x : Option Nat} {A : Prop} {B : Nat → Prop} (hn : x = none → A) (hs : ∀ i : Nat, x = some i → B i) : (x = none → A) ∧ (∀ y : Nat, x = some y → B y) := ⟨hn, hs⟩
theorem co_2 {P : Nat → Prop} (h0 : P 0) (h1 : P 1) {i : Nat} (hi : i < 2) : P i :=
  match i, hi with
  | 0, _ => h0
  | 1, _ => h1
theorem co_3 {P : Nat → Prop} (h0 : P 0) (h1 : P 1) (h2 : P 2) {i : Nat} (hi : i < 3) : P i :=
  match i, hi with
  | 0, _ => h0
  | 1, _ => h1
  | 2, _ => h2
theorem co_4 {P : Nat → Prop} (h0 : P 0) (h1 : P 1) (h2 : P 2) (h3 : P 3) {i : Nat} (hi : i < 4) : P i :=
  match i, hi with
  | 0, _ => h0
  | 1, _ => h1
  | 2, _ => h2
  | 3, _ => h3
theorem co_dec {N : Nat} {P : Nat → Prop} [DecidablePred P] (h : (List.range N).all (fun i => decide (P i)) = true) {i : Nat} (hi : i < N) : P i := by
  have := List.all_eq_true.mp h i (List.mem_range.mpr hi)
  exact of_decide_eq_true this
theorem co_tab {α : Type} {l : List α} {d : α} {P : α → Prop} (h : ∀ a, a ∈ l → P a) {i : Nat} (hi : i < l.length) : P (l.getD i d) := by
  rw [List.getD_eq_getElem?_getD, List.getElem?_eq_getElem hi]
  exact h _ (List.getElem_mem hi)
theorem pk_mu {x : Int32} {L : Nat} (h0 : ¬ x < 0) (h : ¬ nI L ≤ x) (hL : L < 2 ^ 31) : ∃ j : Nat, j < L ∧ x = nI j ∧ x + 1 = nI (j + 1) ∧ x.toNatClampNeg = j ∧ L - (x + 1).toNatClampNeg < L - x.toNatClampNeg := by
  obtain ⟨j, hj, rfl⟩ := nI_of h0
  have hl : j < L := Nat.not_le.mp fun q => h (nI_le q hj)
  refine ⟨j, hl, rfl, nI_1 j, nI_clamp hj, ?_⟩
  rw [nI_1, nI_clamp (by omega), nI_clamp hj]
  omega
theorem op_s {α : Type} {r : Option α} {A : Prop} {B : α → Prop} {y : α} (h : r = some y) (b : B y) : (r = none → A) ∧ ∀ z, r = some z → B z :=
  ⟨fun e => (by rw [h] at e; cases e), fun z e => (by rw [h] at e; cases e; exact b)⟩
def l_holds {α : Type} (a : Nat → Option Nat) (LP : List Nat) (p : Nat → α) (c : Nat) (b : Nat → α) : Prop :=
  ∀ j, j < c → ∃ y, a j = some y ∧ y ∈ LP ∧ p y = b j
theorem l_holds_0 {α : Type} {a : Nat → Option Nat} {LP : List Nat} {p b : Nat → α} : l_holds a LP p 0 b := fun j h => absurd h (Nat.not_lt_zero j)
theorem l_in_new (LP : List Nat) (q : Nat) : q ∈ LP ++ [q] := List.mem_append.mpr (Or.inr (List.mem_singleton.mpr rfl))
def l_sum (b : Nat → Int32) : Nat → Int32
  | 0 => 0
  | k + 1 => l_sum b k + b k
theorem sb_shr0 (x : Int32) : x >>> ((0 : Int32) &&& 31) = x := by
  rw [show ((0 : Int32) &&& 31) = 0 by decide]
  simp
theorem sb_shl0 (x : Int32) : x <<< ((0 : Int32) &&& 31) = x := by
  rw [show ((0 : Int32) &&& 31) = 0 by decide]
  simp
theorem sb_cl0 : (0 : Int32).toNatClampNeg = 0 := by decide
theorem sb_m1 {p : Nat} (h : 0 < p) : nI p + (-1) = nI (p - 1) := by
  obtain ⟨q, rfl⟩ : ∃ q, p = q + 1 := ⟨p - 1, by omega⟩
  exact pk_m1 q
def sb_b (c : Nat) : Int32 := (nI c).toInt8.toInt32
theorem sb_byte : ∀ c, c < 256 → sb_b c &&& 255 = nI c ∧ ((nI c).toUInt32 % 65536).toInt32 = nI c ∧ nI c ≤ 255 := by decide +kernel
def sb_Fit (a : Nat → Int32) : Prop := ∀ j, fits .byte (.int (a j)) = true
def sb_Lat (t : Nat → Nat) (n : Nat) (a : Nat → Int32) : Prop := ∀ j, j < n → t j < 256 ∧ a j = sb_b (t j)
theorem sb_fitB (c : Nat) : fits .byte (.int (sb_b c)) = true := pk_fb _
theorem sb_fit0 : sb_Fit (fun _ => 0) := fun _ => by
  show fits .byte (.int 0) = true
  decide
theorem sb_fitU {a : Nat → Int32} {k : Nat} {x : Int32} (h : sb_Fit a) (hx : fits .byte (.int x) = true) : sb_Fit (upd a k x) := by
  intro j
  by_cases e : j = k
  · subst e
    rw [pk_us]
    exact hx
  · rw [pk_un e]
    exact h j
def sb_cat (t : Nat → Nat) (n : Nat) (s : Nat → Nat) : Nat → Nat := fun j => if j < n then t j else s (j - n)
theorem sb_cat_lo {t s : Nat → Nat} {n j : Nat} (h : j < n) : sb_cat t n s j = t j := if_pos h
theorem sb_cat_hi {t s : Nat → Nat} {n j : Nat} : sb_cat t n s (n + j) = s j := by
  show (if n + j < n then t (n + j) else s (n + j - n)) = s j
  rw [if_neg (by omega), Nat.add_sub_cancel_left]
theorem sb_latPut {t s : Nat → Nat} {n w : Nat} {a a' : Nat → Int32} (h : sb_Lat t n a) (hk : ∀ j, j < n → a' j = a j) (hs : ∀ i, i < w → s i < 256 ∧ a' (n + i) = sb_b (s i)) : sb_Lat (sb_cat t n s) (n + w) a' := by
  intro j hj
  by_cases e : j < n
  · rw [sb_cat_lo e, hk j e]
    exact h j e
  · obtain ⟨i, rfl⟩ : ∃ i, j = n + i := ⟨j - n, by omega⟩
    rw [sb_cat_hi]
    exact hs i (by omega)
theorem sb_latKeep {t : Nat → Nat} {n : Nat} {a a' : Nat → Int32} (h : sb_Lat t n a) (hk : ∀ j, j < n → a' j = a j) : sb_Lat t n a' := fun j hj => by
  rw [hk j hj]
  exact h j hj
def sb_cap (q m : Nat) : Nat := if q ≤ m then m else if 2 * m + 2 < q then q else 2 * m + 2
def sb_Room (q m mc ms : Nat) : Prop := q ≤ m ∨ (1 ≤ mc ∧ sb_cap q m ≤ ms ∧ sb_cap q m ≤ 65536)
theorem sb_cap_ge (q m : Nat) : q ≤ sb_cap q m := by
  unfold sb_cap
  split
  · omega
  · split <;> omega
theorem sb_cap_gem (q m : Nat) : m ≤ sb_cap q m := by
  unfold sb_cap
  split
  · omega
  · split <;> omega
theorem sb_cap_le {q m mc ms : Nat} (hm : m ≤ 65536) (hr : sb_Room q m mc ms) : sb_cap q m ≤ 65536 := by
  rcases hr with h | h
  · rw [sb_cap, if_pos h]
    exact hm
  · exact h.2.2
theorem sb_at {P : Int32 → Prop} {x y : Int32} (e : x = y) (h : P y) : P x := e ▸ h
def sb_dg (w : Nat) : Nat := if w < 10 then 1 else if w < 100 then 2 else if w < 1000 then 3 else if w < 10000 then 4 else if w < 100000 then 5 else if w < 1000000 then 6 else if w < 10000000 then 7 else if w < 100000000 then 8 else if w < 1000000000 then 9 else 10
def sb_dec (v : Nat) : Nat → Nat := fun i => 48 + v / 10 ^ (sb_dg v - 1 - i) % 10
theorem sb_dg_in (w : Nat) : 1 ≤ sb_dg w ∧ sb_dg w ≤ 10 := by
  unfold sb_dg
  constructor <;> (repeat' split) <;> omega
theorem sb_dg100 {w : Nat} (h : 100 ≤ w) (hw : w < 2 ^ 31) : sb_dg w = sb_dg (w / 100) + 2 := by
  rw [sb_dg, sb_dg, if_neg (show ¬ w < 10 by omega), if_neg (show ¬ w < 100 by omega)]
  by_cases h3 : w < 1000
  · rw [if_pos h3, if_pos (show w / 100 < 10 by omega)]
  rw [if_neg h3, if_neg (show ¬ w / 100 < 10 by omega)]
  by_cases h4 : w < 10000
  · rw [if_pos h4, if_pos (show w / 100 < 100 by omega)]
  rw [if_neg h4, if_neg (show ¬ w / 100 < 100 by omega)]
  by_cases h5 : w < 100000
  · rw [if_pos h5, if_pos (show w / 100 < 1000 by omega)]
  rw [if_neg h5, if_neg (show ¬ w / 100 < 1000 by omega)]
  by_cases h6 : w < 1000000
  · rw [if_pos h6, if_pos (show w / 100 < 10000 by omega)]
  rw [if_neg h6, if_neg (show ¬ w / 100 < 10000 by omega)]
  by_cases h7 : w < 10000000
  · rw [if_pos h7, if_pos (show w / 100 < 100000 by omega)]
  rw [if_neg h7, if_neg (show ¬ w / 100 < 100000 by omega)]
  by_cases h8 : w < 100000000
  · rw [if_pos h8, if_pos (show w / 100 < 1000000 by omega)]
  rw [if_neg h8, if_neg (show ¬ w / 100 < 1000000 by omega)]
  by_cases h9 : w < 1000000000
  · rw [if_pos h9, if_pos (show w / 100 < 10000000 by omega)]
  rw [if_neg h9, if_neg (show ¬ w / 100 < 10000000 by omega)]
  rw [if_pos (show w / 100 < 100000000 by omega)]
theorem sb_negT {w : Nat} (h : w < 2 ^ 31) : (-nI w).toInt = -(w : Int) := by
  rw [Int32.toInt_neg, nI_toInt h]
  exact Int.bmod_eq_of_le (by omega) (by omega)
theorem sb_nle {a b : Nat} (ha : a < 2 ^ 31) (hb : b < 2 ^ 31) : -nI a ≤ -nI b ↔ b ≤ a := by
  rw [Int32.le_iff_toInt_le, sb_negT ha, sb_negT hb]
  omega
theorem sb_nlt {a b : Nat} (ha : a < 2 ^ 31) (hb : b < 2 ^ 31) : -nI a < -nI b ↔ b < a := by
  rw [Int32.lt_iff_toInt_lt, sb_negT ha, sb_negT hb]
  omega
theorem sb_cmp {A B : Prop} {x : Int32} (v c : Nat) (f : c ≤ v → A) (g : v < c → B) (hv : v < 2 ^ 31) (hx : x = -nI c := by rfl) (hc : c < 2 ^ 31 := by omega) : (-nI v ≤ x → A) ∧ (¬ -nI v ≤ x → B) := by
  subst hx
  rw [sb_nle hv hc]
  exact ⟨f, fun z => g (by omega)⟩
theorem sb_ndiv {w : Nat} (hw : w < 2 ^ 31) : (-nI w) / 100 = -nI (w / 100) := by
  apply Int32.toInt_inj.mp
  have h100 : (100 : Int32).toInt = 100 := by decide
  rw [Int32.toInt_div, sb_negT hw, h100, sb_negT (by omega), Int.neg_tdiv, Int.tdiv_eq_ediv_of_nonneg (by omega), Int.bmod_eq_of_le (by omega) (by omega)]
  omega
theorem sb_nrem {w : Nat} (hw : w < 2 ^ 31) : (-nI (w / 100)) * 100 - (-nI w) = nI (w % 100) := by
  have h := pk_rem (a := w) (d := 100) hw (by decide) (by decide)
  rw [pk_div hw (by decide) (by decide)] at h
  rw [← h]
  show (-nI (w / 100)) * nI 100 - (-nI w) = nI w - nI (w / 100) * nI 100
  rw [Int32.neg_mul, Int32.sub_neg, Int32.add_comm, ← Int32.sub_eq_add_neg]
/-! ===== lN n to 2^64: shifts, and, or, masks, one bit ===== -/
theorem wb_tb (n : Nat) : (lN n).toBitVec = BitVec.ofNat 64 n := rfl
theorem wb_inj {a b : Int64} (h : a.toBitVec = b.toBitVec) : a = b := Int64.toBitVec_inj.mp h
theorem wb_tn {n : Nat} (h : n < 2 ^ 64) : (lN n).toBitVec.toNat = n := by rw [wb_tb, BitVec.toNat_ofNat, Nat.mod_eq_of_lt h]
theorem wb_of (x : Int64) : ∃ n, n < 2 ^ 64 ∧ x = lN n := ⟨x.toBitVec.toNat, x.toBitVec.isLt, wb_inj (by rw [wb_tb]; simp)⟩
theorem wb_of32 (x : Int32) : ∃ n, n < 2 ^ 32 ∧ x = nI n := ⟨x.toBitVec.toNat, x.toBitVec.isLt, Int32.toBitVec_inj.mp (by show _ = BitVec.ofNat 32 _; simp)⟩
theorem wb_c : ∀ k, k < 64 → ((nI k).toInt64 &&& 63) = lN k := by decide +kernel
theorem wb_cu : ∀ k, k < 64 → ((nI k).toInt64.toUInt64 &&& Int64.toUInt64 63) = UInt64.ofNat k := by decide +kernel
theorem wb_sm : ∀ k, k < 64 → (BitVec.ofNat 64 k).smod 64 = BitVec.ofNat 64 k := by decide +kernel
theorem wb_pw {a b : Nat} (h : a ≤ b) : 2 ^ b = 2 ^ a * 2 ^ (b - a) := by rw [← Nat.pow_add]; congr 1; omega
theorem wb_lt2 {a b : Nat} (h : a < b) : 2 ^ a < 2 ^ b := Nat.pow_lt_pow_right (by decide) h
theorem wb_mod (n : Nat) : lN n = lN (n % 2 ^ 64) := wb_inj (by rw [wb_tb, wb_tb]; apply BitVec.eq_of_toNat_eq; rw [BitVec.toNat_ofNat, BitVec.toNat_ofNat, Nat.mod_mod])
theorem wb_shr {n k : Nat} (hn : n < 2 ^ 64) (hk : k < 64) : ((lN n).toUInt64 >>> ((nI k).toInt64.toUInt64 &&& Int64.toUInt64 63)).toInt64 = lN (n / 2 ^ k) := by
  rw [wb_cu k hk]
  apply wb_inj
  apply BitVec.eq_of_toNat_eq
  show ((lN n).toUInt64 >>> UInt64.ofNat k).toNat = (BitVec.ofNat 64 _).toNat
  have h1 : (UInt64.ofNat k).toNat = k := by
    show (BitVec.ofNat 64 k).toNat = k
    rw [BitVec.toNat_ofNat, Nat.mod_eq_of_lt (by omega)]
  have h2 : (lN n).toUInt64.toNat = n := wb_tn hn
  rw [UInt64.toNat_shiftRight, h1, h2, Nat.mod_eq_of_lt hk, Nat.shiftRight_eq_div_pow, BitVec.toNat_ofNat, Nat.mod_eq_of_lt (Nat.lt_of_le_of_lt (Nat.div_le_self _ _) hn)]
theorem wb_shl (n : Nat) {k : Nat} (hk : k < 64) : lN n <<< ((nI k).toInt64 &&& 63) = lN (n * 2 ^ k) := by
  rw [wb_c k hk]
  apply wb_inj
  rw [Int64.toBitVec_shiftLeft, wb_tb, wb_tb, wb_tb, wb_sm k hk]
  apply BitVec.eq_of_toNat_eq
  rw [BitVec.shiftLeft_eq', BitVec.toNat_shiftLeft, BitVec.toNat_ofNat, BitVec.toNat_ofNat, BitVec.toNat_ofNat, Nat.mod_eq_of_lt (show k < 2 ^ 64 by omega), Nat.shiftLeft_eq, Nat.mul_mod, Nat.mod_mod, ← Nat.mul_mod]
theorem wb_and {a b : Nat} (ha : a < 2 ^ 64) (hb : b < 2 ^ 64) : lN a &&& lN b = lN (a &&& b) := by
  apply wb_inj
  rw [Int64.toBitVec_and, wb_tb, wb_tb, wb_tb]
  apply BitVec.eq_of_toNat_eq
  rw [BitVec.toNat_and, BitVec.toNat_ofNat, BitVec.toNat_ofNat, BitVec.toNat_ofNat, Nat.mod_eq_of_lt ha, Nat.mod_eq_of_lt hb, Nat.mod_eq_of_lt (Nat.and_lt_two_pow _ hb)]
theorem wb_or {a b : Nat} (ha : a < 2 ^ 64) (hb : b < 2 ^ 64) : lN a ||| lN b = lN (a ||| b) := by
  apply wb_inj
  rw [Int64.toBitVec_or, wb_tb, wb_tb, wb_tb]
  apply BitVec.eq_of_toNat_eq
  rw [BitVec.toNat_or, BitVec.toNat_ofNat, BitVec.toNat_ofNat, BitVec.toNat_ofNat, Nat.mod_eq_of_lt ha, Nat.mod_eq_of_lt hb, Nat.mod_eq_of_lt (Nat.or_lt_two_pow ha hb)]
theorem wb_mask {n k : Nat} (hn : n < 2 ^ 64) (hk : k < 64) : lN n &&& lN (2 ^ k - 1) = lN (n % 2 ^ k) := by
  rw [wb_and hn (by have := wb_lt2 hk; omega), Nat.and_two_pow_sub_one_eq_mod]
theorem wb_a1 {n : Nat} (hn : n < 2 ^ 64) : lN n &&& 1 = lN (n % 2) := wb_mask (k := 1) hn (by decide)
theorem wb_bit {n k : Nat} (hn : n < 2 ^ 64) (hk : k < 64) : ((lN n).toUInt64 >>> ((nI k).toInt64.toUInt64 &&& Int64.toUInt64 63)).toInt64 &&& 1 = lN (n / 2 ^ k % 2) := by
  rw [wb_shr hn hk, wb_a1 (Nat.lt_of_le_of_lt (Nat.div_le_self _ _) hn)]
theorem wb_xor {q k : Nat} (hk : k < 63) (h : 2 ^ k ≤ q) (h2 : q < 2 ^ (k + 1)) : lN q ^^^ lN (2 ^ k) = lN (q - 2 ^ k) := by
  obtain ⟨r, rfl⟩ : ∃ r, q = 2 ^ k + r := ⟨q - 2 ^ k, by omega⟩
  have hr : r < 2 ^ k := by rw [Nat.pow_succ] at h2; omega
  have hx : (2 ^ k + r) ^^^ 2 ^ k = r := by
    apply Nat.eq_of_testBit_eq
    intro i
    rw [Nat.testBit_xor, Nat.testBit_two_pow]
    rcases Nat.lt_trichotomy i k with h | h | h
    · rw [Nat.testBit_two_pow_add_gt h]
      simp [show ¬ k = i by omega]
    · subst h
      rw [Nat.testBit_two_pow_add_eq]
      simp
    · have a1 : 2 ^ (k + 1) ≤ 2 ^ i := Nat.pow_le_pow_right (by decide) h
      rw [Nat.testBit_lt_two_pow (show 2 ^ k + r < 2 ^ i by omega), Nat.testBit_lt_two_pow (show r < 2 ^ i by omega)]
      simp [show ¬ k = i by omega]
  have b1 := wb_lt2 (show k + 1 < 64 by omega)
  have b2 := wb_lt2 (show k < 64 by omega)
  apply wb_inj
  rw [Int64.toBitVec_xor, wb_tb, wb_tb, wb_tb]
  apply BitVec.eq_of_toNat_eq
  rw [BitVec.toNat_xor, BitVec.toNat_ofNat, BitVec.toNat_ofNat, BitVec.toNat_ofNat, Nat.mod_eq_of_lt (by omega : 2 ^ k + r < 2 ^ 64), Nat.mod_eq_of_lt b2, hx, Nat.add_sub_cancel_left, Nat.mod_eq_of_lt (by omega)]
/-! ===== lN to 2^62 under >> and >>> ===== -/
theorem pf_lI {a : Nat} (h : a < 2 ^ 63) : (lN a).toInt = (a : Int) := lg_ofNat_toInt h
theorem pf_shr {a d : Nat} {D : Int64} (hD : (D.toBitVec.smod 64).toNat = d) (h : a < 2 ^ 62) : lN a >>> D = lN (a / 2 ^ d) := by
  have hd : a / 2 ^ d ≤ a := Nat.div_le_self _ _
  apply Int64.toInt_inj.mp
  have e : (lN a >>> D).toInt = (lN a).toInt >>> d := by
    rw [← hD]
    exact BitVec.toInt_sshiftRight ..
  rw [e, Int.shiftRight_eq_div_pow, pf_lI (by omega), pf_lI (by omega)]
  rfl
theorem pf_ushr {a d : Nat} {D : UInt64} (hD : D.toNat % 64 = d) (h : a < 2 ^ 62) : ((lN a).toUInt64 >>> D).toInt64 = lN (a / 2 ^ d) := by
  have hd : a / 2 ^ d ≤ a := Nat.div_le_self _ _
  have e : (lN a).toUInt64 >>> D = UInt64.ofNat (a / 2 ^ d) := UInt64.toNat_inj.mp (by
    rw [UInt64.toNat_shiftRight, hD, Nat.shiftRight_eq_div_pow, UInt64.toNat_ofNat']
    show (UInt64.ofNat a).toNat / 2 ^ d = _
    rw [UInt64.toNat_ofNat', Nat.mod_eq_of_lt (by omega), Nat.mod_eq_of_lt (by omega)])
  rw [e]
  rfl
theorem pf_andw (x : Int64) : ∃ m, m < 2 ^ 32 ∧ x &&& 4294967295 = lN m := ⟨x.toBitVec.toNat % 2 ^ 32, Nat.mod_lt _ (by decide), Int64.toBitVec_inj.mp (BitVec.eq_of_toNat_eq (by
  show (x.toBitVec &&& 4294967295#64).toNat = (BitVec.ofNat 64 (x.toBitVec.toNat % 2 ^ 32)).toNat
  rw [BitVec.toNat_and, show (4294967295#64).toNat = 2 ^ 32 - 1 from by decide, Nat.and_two_pow_sub_one_eq_mod, BitVec.toNat_ofNat]
  omega))⟩
end
section
/-! codes of maps of n points: digits, products, words -/
/-- the image of point p under the map with code c -/
def mo_d (n c p : Nat) : Nat := c / n ^ (n - 1 - p) % n
/-- a code out of its digits, the first one highest -/
def mo_z (n : Nat) (h : Nat → Nat) : Nat → Nat
  | 0 => 0
  | m + 1 => n * mo_z n h m + h m
/-- first f, then g -/
def mo_m (n f g : Nat) : Nat := mo_z n (fun p => mo_d n g (mo_d n f p)) n
def mo_e (n : Nat) : Nat := mo_z n (fun p => p) n
theorem mo_z_lt {n : Nat} {h : Nat → Nat} : ∀ m, (∀ p, p < m → h p < n) → mo_z n h m < n ^ m
  | 0, _ => by show 0 < n ^ 0; rw [Nat.pow_zero]; exact Nat.one_pos
  | m + 1, hh => by
    have h1 := mo_z_lt m (fun p hp => hh p (by omega))
    have h2 := hh m (by omega)
    have h3 : n * (mo_z n h m + 1) ≤ n * n ^ m := Nat.mul_le_mul_left _ h1
    show n * mo_z n h m + h m < n ^ (m + 1)
    rw [Nat.pow_succ, Nat.mul_comm (n ^ m) n]
    rw [Nat.mul_add, Nat.mul_one] at h3
    omega
theorem mo_z_d {n : Nat} {h : Nat → Nat} (hn : 0 < n) : ∀ m p, p < m → (∀ q, q < m → h q < n) → mo_z n h m / n ^ (m - 1 - p) % n = h p
  | 0, p, hp, _ => by omega
  | m + 1, p, hp, hh => by
    show (n * mo_z n h m + h m) / n ^ (m + 1 - 1 - p) % n = h p
    by_cases e : p = m
    · subst e
      rw [show p + 1 - 1 - p = 0 by omega, Nat.pow_zero, Nat.div_one, Nat.mul_add_mod, Nat.mod_eq_of_lt (hh p hp)]
    · rw [show m + 1 - 1 - p = (m - 1 - p) + 1 by omega, Nat.pow_succ, Nat.mul_comm (n ^ _) n, ← Nat.div_div_eq_div_mul]
      have h2 : (n * mo_z n h m + h m) / n = mo_z n h m := by
        rw [Nat.mul_add_div hn, Nat.div_eq_of_lt (hh m (by omega)), Nat.add_zero]
      rw [h2]
      exact mo_z_d hn m p (by omega) (fun q hq => hh q (by omega))
theorem mo_z_cg {n : Nat} {h h' : Nat → Nat} : ∀ m, (∀ p, p < m → h p = h' p) → mo_z n h m = mo_z n h' m
  | 0, _ => rfl
  | m + 1, hh => by
    show n * mo_z n h m + h m = n * mo_z n h' m + h' m
    rw [mo_z_cg m (fun p hp => hh p (by omega)), hh m (by omega)]
theorem mo_z_c {n : Nat} (hn : 0 < n) : ∀ m c, c < n ^ m → mo_z n (fun p => c / n ^ (m - 1 - p) % n) m = c
  | 0, c, h => by
    rw [Nat.pow_zero] at h
    show 0 = c
    omega
  | m + 1, c, h => by
    show n * mo_z n (fun p => c / n ^ (m + 1 - 1 - p) % n) m + c / n ^ (m + 1 - 1 - m) % n = c
    have e : mo_z n (fun p => c / n ^ (m + 1 - 1 - p) % n) m = mo_z n (fun p => (c / n) / n ^ (m - 1 - p) % n) m := by
      refine mo_z_cg m (fun p hp => ?_)
      show c / n ^ (m + 1 - 1 - p) % n = (c / n) / n ^ (m - 1 - p) % n
      rw [show m + 1 - 1 - p = (m - 1 - p) + 1 by omega, Nat.pow_succ, Nat.mul_comm (n ^ _) n, Nat.div_div_eq_div_mul]
    rw [e, mo_z_c hn m (c / n) (by rw [Nat.pow_succ, Nat.mul_comm] at h; exact Nat.div_lt_of_lt_mul h)]
    rw [show m + 1 - 1 - m = 0 by omega, Nat.pow_zero, Nat.div_one]
    exact Nat.div_add_mod c n
theorem mo_d_lt {n : Nat} (hn : 0 < n) (c p : Nat) : mo_d n c p < n := Nat.mod_lt _ hn
theorem mo_ext {n : Nat} (hn : 0 < n) {c c' : Nat} (h : c < n ^ n) (h' : c' < n ^ n) (e : ∀ p, p < n → mo_d n c p = mo_d n c' p) : c = c' := by
  rw [← mo_z_c hn n c h, ← mo_z_c hn n c' h']
  exact mo_z_cg n e
theorem mo_m_lt {n : Nat} (hn : 0 < n) (f g : Nat) : mo_m n f g < n ^ n := mo_z_lt n (fun p _ => mo_d_lt hn _ _)
theorem mo_e_lt {n : Nat} : mo_e n < n ^ n := mo_z_lt n (fun p hp => hp)
theorem mo_m_d {n : Nat} (hn : 0 < n) (f g : Nat) {p : Nat} (hp : p < n) : mo_d n (mo_m n f g) p = mo_d n g (mo_d n f p) :=
  mo_z_d hn n p hp (fun q _ => mo_d_lt hn _ _)
theorem mo_e_d {n : Nat} {p : Nat} (hp : p < n) : mo_d n (mo_e n) p = p := mo_z_d (by omega) n p hp (fun q hq => hq)
theorem mo_as {n : Nat} (hn : 0 < n) (f g h : Nat) : mo_m n (mo_m n f g) h = mo_m n f (mo_m n g h) := by
  refine mo_ext hn (mo_m_lt hn _ _) (mo_m_lt hn _ _) (fun p hp => ?_)
  rw [mo_m_d hn _ _ hp, mo_m_d hn _ _ hp, mo_m_d hn _ _ hp, mo_m_d hn _ _ (mo_d_lt hn _ _)]
theorem mo_me {n : Nat} (hn : 0 < n) {f : Nat} (hf : f < n ^ n) : mo_m n f (mo_e n) = f := by
  refine mo_ext hn (mo_m_lt hn _ _) hf (fun p hp => ?_)
  rw [mo_m_d hn _ _ hp, mo_e_d (mo_d_lt hn _ _)]
theorem mo_em {n : Nat} (hn : 0 < n) {f : Nat} (hf : f < n ^ n) : mo_m n (mo_e n) f = f := by
  refine mo_ext hn (mo_m_lt hn _ _) hf (fun p hp => ?_)
  rw [mo_m_d hn _ _ hp, mo_e_d hp]
/-- a word of length l whose numbers, two bits each, read v, gives c -/
def mo_w (n k : Nat) (gs : Nat → Nat) : Nat → Nat → Nat → Prop
  | 0, v, c => v = 0 ∧ c = mo_e n
  | l + 1, v, c => ∃ v' c' g, mo_w n k gs l v' c' ∧ g < k ∧ v = 4 * v' + g ∧ c = mo_m n c' (gs g)
/-- c is made by the generators -/
def mo_M (n k : Nat) (gs : Nat → Nat) (c : Nat) : Prop := ∃ l v, mo_w n k gs l v c
theorem mo_M0 (n k : Nat) (gs : Nat → Nat) : mo_M n k gs (mo_e n) := ⟨0, 0, rfl, rfl⟩
theorem mo_Ms {n k : Nat} {gs : Nat → Nat} {c g : Nat} (h : mo_M n k gs c) (hg : g < k) : mo_M n k gs (mo_m n c (gs g)) := by
  obtain ⟨l, v, hw⟩ := h
  exact ⟨l + 1, 4 * v + g, v, c, g, hw, hg, rfl, rfl⟩
/-- what holds of e and goes on with every generator holds of all -/
theorem mo_ind {n k : Nat} {gs : Nat → Nat} {P : Nat → Prop} (h0 : P (mo_e n)) (hs : ∀ c g, mo_M n k gs c → P c → g < k → P (mo_m n c (gs g))) : ∀ c, mo_M n k gs c → P c := by
  have H : ∀ l v c, mo_w n k gs l v c → P c := by
    intro l
    induction l with
    | zero => intro v c h; rw [h.2]; exact h0
    | succ l ih =>
      intro v c h
      obtain ⟨v', c', g, hw, hg, _, rfl⟩ := h
      exact hs c' g ⟨l, v', hw⟩ (ih v' c' hw) hg
  intro c hc
  obtain ⟨l, v, h⟩ := hc
  exact H l v c h
theorem mo_M_lt {n k : Nat} (hn : 0 < n) {gs : Nat → Nat} {c : Nat} (h : mo_M n k gs c) : c < n ^ n :=
  mo_ind (P := fun c => c < n ^ n) mo_e_lt (fun _ _ _ _ _ => mo_m_lt hn _ _) c h
theorem mo_Mg {n k : Nat} (hn : 0 < n) {gs : Nat → Nat} (hg : ∀ g, g < k → gs g < n ^ n) {g : Nat} (h : g < k) : mo_M n k gs (gs g) := by
  have := mo_Ms (mo_M0 n k gs) h
  rwa [mo_em hn (hg g h)] at this
theorem mo_Mm {n k : Nat} (hn : 0 < n) {gs : Nat → Nat} {a b : Nat} (ha : mo_M n k gs a) (hb : mo_M n k gs b) : mo_M n k gs (mo_m n a b) := by
  refine mo_ind (P := fun b => mo_M n k gs (mo_m n a b)) ?_ ?_ b hb
  · rw [mo_me hn (mo_M_lt hn ha)]; exact ha
  · intro c g _ hc hg
    rw [← mo_as hn]
    exact mo_Ms hc hg
end
section
/-! counting: cn P n, the number of i < n with P i -/
noncomputable def cn_b (P : Prop) : Nat := @ite Nat P (Classical.propDecidable P) 1 0
theorem cn_b1 {P : Prop} (h : P) : cn_b P = 1 := @if_pos P (Classical.propDecidable P) h Nat 1 0
theorem cn_b0 {P : Prop} (h : ¬ P) : cn_b P = 0 := @if_neg P (Classical.propDecidable P) h Nat 1 0
theorem cn_b_le (P : Prop) : cn_b P ≤ 1 := by
  by_cases h : P
  · rw [cn_b1 h]; omega
  · rw [cn_b0 h]; omega
theorem cn_b_cg {P Q : Prop} (h : P ↔ Q) : cn_b P = cn_b Q := by rw [propext h]
noncomputable def cn (P : Nat → Prop) : Nat → Nat
  | 0 => 0
  | n + 1 => cn P n + cn_b (P n)
theorem cn_s (P : Nat → Prop) (n : Nat) : cn P (n + 1) = cn P n + cn_b (P n) := rfl
theorem cn_s1 {P : Nat → Prop} {n : Nat} (h : P n) : cn P (n + 1) = cn P n + 1 := by rw [cn_s, cn_b1 h]
theorem cn_s0 {P : Nat → Prop} {n : Nat} (h : ¬ P n) : cn P (n + 1) = cn P n := by rw [cn_s, cn_b0 h]; rfl
theorem cn_le (P : Nat → Prop) : ∀ n, cn P n ≤ n
  | 0 => Nat.le_refl _
  | n + 1 => by have := cn_le P n; have := cn_b_le (P n); rw [cn_s]; omega
theorem cn_cg {P Q : Nat → Prop} : ∀ n, (∀ i, i < n → (P i ↔ Q i)) → cn P n = cn Q n
  | 0, _ => rfl
  | n + 1, h => by rw [cn_s, cn_s, cn_cg n (fun i hi => h i (by omega)), cn_b_cg (h n (by omega))]
theorem cn_all {P : Nat → Prop} : ∀ n, (∀ i, i < n → P i) → cn P n = n
  | 0, _ => rfl
  | n + 1, h => by rw [cn_s1 (h n (by omega)), cn_all n (fun i hi => h i (by omega))]
theorem cn_none {P : Nat → Prop} : ∀ n, (∀ i, i < n → ¬ P i) → cn P n = 0
  | 0, _ => rfl
  | n + 1, h => by rw [cn_s0 (h n (by omega)), cn_none n (fun i hi => h i (by omega))]
theorem cn_rm {B : Nat → Prop} {y : Nat} (hy : B y) : ∀ M, y < M → cn B M = cn (fun x => B x ∧ x ≠ y) M + 1
  | 0, h => by omega
  | M + 1, h => by
    by_cases e : y = M
    · subst e
      rw [cn_s1 hy, cn_s0 (P := fun x => B x ∧ x ≠ y) (fun z => z.2 rfl)]
      rw [cn_cg (P := fun x => B x ∧ x ≠ y) (Q := B) y (fun i hi => ⟨fun z => z.1, fun z => ⟨z, by omega⟩⟩)]
    · rw [cn_s, cn_s, cn_rm hy M (by omega)]
      rw [cn_b_cg (P := B M ∧ M ≠ y) (Q := B M) ⟨fun z => z.1, fun z => ⟨z, fun q => e q.symm⟩⟩]
      omega
/-- an injection gives ≤ -/
theorem cn_inj {A : Nat → Prop} {M : Nat} {R : Nat → Nat → Prop} : ∀ (N : Nat) (B : Nat → Prop), (∀ x, x < N → A x → ∃ y, y < M ∧ B y ∧ R x y) → (∀ x x' y, x < N → x' < N → A x → A x' → R x y → R x' y → x = x') → cn A N ≤ cn B M
  | 0, _, _, _ => Nat.zero_le _
  | N + 1, B, h, hi => by
    by_cases a : A N
    · obtain ⟨y, hy, hB, hR⟩ := h N (by omega) a
      have := cn_inj (A := A) (M := M) (R := R) N (fun x => B x ∧ x ≠ y) (fun x hx ax => by
        obtain ⟨z, hz, hBz, hRz⟩ := h x (by omega) ax
        refine ⟨z, hz, ⟨hBz, fun e => ?_⟩, hRz⟩
        subst e
        have := hi x N z (by omega) (by omega) ax a hRz hR
        omega) (fun x x' y hx hx' => hi x x' y (by omega) (by omega))
      rw [cn_s1 a, cn_rm hB M hy]
      omega
    · rw [cn_s0 a]
      exact cn_inj N B (fun x hx => h x (by omega)) (fun x x' y hx hx' => hi x x' y (by omega) (by omega))
theorem cn_fun {A B : Nat → Prop} {N M : Nat} (f : Nat → Nat) (h : ∀ x, x < N → A x → f x < M ∧ B (f x)) (hi : ∀ x x', x < N → x' < N → A x → A x' → f x = f x' → x = x') : cn A N ≤ cn B M :=
  cn_inj (R := fun x y => f x = y) N B (fun x hx ax => ⟨f x, (h x hx ax).1, (h x hx ax).2, rfl⟩) (fun x x' y hx hx' ax ax' e e' => hi x x' hx hx' ax ax' (e.trans e'.symm))
theorem cn_sub {A B : Nat → Prop} {N : Nat} (h : ∀ x, x < N → A x → B x) : cn A N ≤ cn B N :=
  cn_fun (fun x => x) (fun x hx ax => ⟨hx, h x hx ax⟩) (fun _ _ _ _ _ _ e => e)
/-- pigeonhole -/
theorem cn_pg {m N : Nat} (f : Nat → Nat) (h : ∀ x, x < m → f x < N) (hi : ∀ x x', x < m → x' < m → f x = f x' → x = x') : m ≤ N := by
  have := cn_fun (A := fun _ => True) (B := fun _ => True) (N := m) (M := N) f (fun x hx _ => ⟨h x hx, trivial⟩) (fun x x' hx hx' _ _ => hi x x' hx hx')
  rw [cn_all m (fun _ _ => trivial), cn_all N (fun _ _ => trivial)] at this
  exact this
/-- an enumeration without repeats counts what it lists -/
theorem cn_enum {s N : Nat} {Q : Nat → Prop} {P : Nat → Prop} (f : Nat → Nat) (hf : ∀ i, i < s → f i < N ∧ P (f i)) (hi : ∀ i j, i < s → j < s → f i = f j → i = j) (hs : ∀ c, c < N → P c → ∃ i, i < s ∧ f i = c) : cn (fun i => Q (f i)) s = cn (fun c => P c ∧ Q c) N := by
  apply Nat.le_antisymm
  · exact cn_fun f (fun x hx q => ⟨(hf x hx).1, (hf x hx).2, q⟩) (fun x x' hx hx' _ _ => hi x x' hx hx')
  · refine cn_inj (R := fun c i => f i = c) N _ (fun c hc h => ?_) (fun x x' y _ _ _ _ e e' => e.symm.trans e')
    obtain ⟨i, h1, h2⟩ := hs c hc h.1
    exact ⟨i, h1, by rw [h2]; exact h.2, h2⟩
theorem cn_enum1 {s N : Nat} {P : Nat → Prop} (f : Nat → Nat) (hf : ∀ i, i < s → f i < N ∧ P (f i)) (hi : ∀ i j, i < s → j < s → f i = f j → i = j) (hs : ∀ c, c < N → P c → ∃ i, i < s ∧ f i = c) : s = cn P N := by
  have := cn_enum (Q := fun _ => True) f hf hi hs
  rw [cn_all s (fun _ _ => trivial)] at this
  rw [this]
  exact cn_cg N (fun i _ => ⟨fun z => z.1, fun z => ⟨z, trivial⟩⟩)
/-- a computed count -/
def cn_c (p : Nat → Bool) : Nat → Nat
  | 0 => 0
  | n + 1 => cn_c p n + cond (p n) 1 0
theorem cn_c_eq (p : Nat → Bool) : ∀ n, cn (fun i => p i = true) n = cn_c p n
  | 0 => rfl
  | n + 1 => by
    show cn _ (n + 1) = cn_c p n + cond (p n) 1 0
    cases h : p n with
    | true => rw [cn_s1 (P := fun i => p i = true) h, cn_c_eq p n]; rfl
    | false => rw [cn_s0 (P := fun i => p i = true) (by rw [h]; decide), cn_c_eq p n]; rfl
theorem cn_mono (P : Nat → Prop) {m n : Nat} (h : m ≤ n) : cn P m ≤ cn P n := by
  induction n with
  | zero => have : m = 0 := by omega
            subst this; exact Nat.le_refl _
  | succ n ih =>
    by_cases e : m = n + 1
    · subst e; exact Nat.le_refl _
    · have := ih (by omega)
      rw [cn_s]; omega
/-- the number of earlier ones tells two of a kind apart -/
theorem cn_ix {P : Nat → Prop} {x y : Nat} (hx : P x) (h : x < y) : cn P x < cn P y := by
  have h1 := cn_mono P (show x + 1 ≤ y from h)
  rw [cn_s1 hx] at h1
  omega
/-- if every one counted is there and the counts agree, nothing more is -/
theorem cn_eq_sub {A B : Nat → Prop} {N : Nat} (h : ∀ x, x < N → A x → B x) (e : cn B N ≤ cn A N) : ∀ x, x < N → B x → A x := by
  intro x hx hB
  apply Classical.byContradiction
  intro hA
  have h1 := cn_rm (B := B) hB N hx
  have h2 : cn A N ≤ cn (fun z => B z ∧ z ≠ x) N := cn_sub (fun z hz az => ⟨h z hz az, fun q => hA (q ▸ az)⟩)
  omega
end
section
/-! no shortest word over maps of four points is longer than 31 (the proof: NOTES.md, (A)) -/
def de_a (gs : Nat → Nat) (w : List Nat) (p : Nat) : Nat := w.foldl (fun q g => mo_d 4 (gs g) q) p
theorem de_a_app (gs : Nat → Nat) (u v : List Nat) (p : Nat) : de_a gs (u ++ v) p = de_a gs v (de_a gs u p) := List.foldl_append
theorem de_a_lt {gs : Nat → Nat} : ∀ (w : List Nat) {p : Nat}, p < 4 → de_a gs w p < 4
  | [], _, h => h
  | g :: w, _, _ => de_a_lt (gs := gs) w (mo_d_lt (by decide) _ _)
/-- keys along a word of length l, and how a stretch of it moves points -/
def de_J (l : Nat) (K : Nat → Nat → Nat) (F : Nat → Nat → Nat → Nat) : Prop :=
  (∀ i q, K i q ≤ 4) ∧ (∀ i q, K i q ≠ 0 → q < 4) ∧ (∀ i j q, i ≤ j → j ≤ l → K i q ≠ 0 → K j (F i j q) = K i q) ∧ (∀ i j q', i ≤ j → j ≤ l → K j q' ≠ 0 → ∃ q, K i q = K j q' ∧ F i j q = q') ∧ (∀ i j k m, i ≤ j → j ≤ l → k ≤ l → m ≤ l → (∀ q, K k q ≠ 0 → K m (F i j q) = K k q) → m ≤ k + (j - i)) ∧ (∀ i q, F i i q = q)
def de_K (P S : Nat → Nat → Nat) (i q : Nat) : Nat := if P i 0 = q ∨ P i 1 = q ∨ P i 2 = q ∨ P i 3 = q then S i q + 1 else 0
theorem de_p4 {P : Nat → Prop} (h0 : P 0) (h1 : P 1) (h2 : P 2) (h3 : P 3) : ∀ p, p < 4 → P p := by
  intro p hp
  rcases (by omega : p = 0 ∨ p = 1 ∨ p = 2 ∨ p = 3) with h | h | h | h <;> subst h <;> assumption
theorem de_K1 {P S : Nat → Nat → Nat} {i p : Nat} (hp : p < 4) : de_K P S i (P i p) = S i (P i p) + 1 := by
  refine if_pos ?_
  revert p
  exact fun hp => de_p4 (P := fun p => P i 0 = P i p ∨ P i 1 = P i p ∨ P i 2 = P i p ∨ P i 3 = P i p) (Or.inl rfl) (Or.inr (Or.inl rfl)) (Or.inr (Or.inr (Or.inl rfl))) (Or.inr (Or.inr (Or.inr rfl))) _ hp
theorem de_K2 {P S : Nat → Nat → Nat} {i q : Nat} (h : de_K P S i q ≠ 0) : ∃ p, p < 4 ∧ P i p = q ∧ de_K P S i q = S i q + 1 := by
  by_cases c : P i 0 = q ∨ P i 1 = q ∨ P i 2 = q ∨ P i 3 = q
  · have e : de_K P S i q = S i q + 1 := if_pos c
    rcases c with c | c | c | c
    · exact ⟨0, by decide, c, e⟩
    · exact ⟨1, by decide, c, e⟩
    · exact ⟨2, by decide, c, e⟩
    · exact ⟨3, by decide, c, e⟩
  · exact absurd (if_neg c) h
theorem de_mkJ {gs : Nat → Nat} {k : Nat} {w : List Nat} (hw : ∀ x, x ∈ w → x < k) (hm : ∀ u : List Nat, (∀ x, x ∈ u → x < k) → (∀ p, p < 4 → de_a gs u p = de_a gs w p) → w.length ≤ u.length) :
    de_J w.length (de_K (fun i p => de_a gs (w.take i) p) (fun i q => de_a gs (w.drop i) q)) (fun i j q => de_a gs ((w.drop i).take (j - i)) q) := by
  have hS : ∀ i p, de_a gs (w.drop i) (de_a gs (w.take i) p) = de_a gs w p := by
    intro i p
    rw [← de_a_app, List.take_append_drop]
  have hF : ∀ i j p, i ≤ j → de_a gs ((w.drop i).take (j - i)) (de_a gs (w.take i) p) = de_a gs (w.take j) p := by
    intro i j p h
    rw [← de_a_app]
    congr 1
    have := List.take_add (l := w) (i := i) (j := j - i)
    rw [show i + (j - i) = j by omega] at this
    exact this.symm
  have hK : ∀ i q, de_K (fun i p => de_a gs (w.take i) p) (fun i q => de_a gs (w.drop i) q) i q ≠ 0 → ∃ p, p < 4 ∧ de_a gs (w.take i) p = q ∧ de_K (fun i p => de_a gs (w.take i) p) (fun i q => de_a gs (w.drop i) q) i q = de_a gs w p + 1 := by
    intro i q h
    obtain ⟨p, hp, e, e2⟩ := de_K2 h
    refine ⟨p, hp, e, ?_⟩
    rw [e2, ← e]
    show de_a gs (w.drop i) (de_a gs (w.take i) p) + 1 = _
    rw [hS]
  have hK1 : ∀ i p, p < 4 → de_K (fun i p => de_a gs (w.take i) p) (fun i q => de_a gs (w.drop i) q) i (de_a gs (w.take i) p) = de_a gs w p + 1 := by
    intro i p hp
    have := de_K1 (P := fun i p => de_a gs (w.take i) p) (S := fun i q => de_a gs (w.drop i) q) (i := i) hp
    rw [hS] at this
    exact this
  refine ⟨?_, ?_, ?_, ?_, ?_, ?_⟩
  · intro i q
    by_cases h : de_K (fun i p => de_a gs (w.take i) p) (fun i q => de_a gs (w.drop i) q) i q = 0
    · rw [h]; omega
    · obtain ⟨p, hp, _, e⟩ := hK i q h
      have := de_a_lt (gs := gs) w hp
      omega
  · intro i q h
    obtain ⟨p, hp, e, _⟩ := hK i q h
    rw [← e]
    exact de_a_lt _ hp
  · intro i j q hij hj h
    obtain ⟨p, hp, e, e2⟩ := hK i q h
    rw [e2, ← e]
    show de_K _ _ j (de_a gs ((w.drop i).take (j - i)) (de_a gs (w.take i) p)) = _
    rw [hF i j p hij]
    exact hK1 j p hp
  · intro i j q hij hj h
    obtain ⟨p, hp, e, e2⟩ := hK j q h
    refine ⟨de_a gs (w.take i) p, ?_, ?_⟩
    · rw [e2]; exact hK1 i p hp
    · rw [← e]; exact hF i j p hij
  · intro i j k' m hij hj hk hm' h
    have h1 := hm (w.take k' ++ ((w.drop i).take (j - i) ++ w.drop m)) (by
      intro x hx
      rcases List.mem_append.mp hx with z | z
      · exact hw x (List.mem_of_mem_take z)
      · rcases List.mem_append.mp z with z | z
        · exact hw x (List.mem_of_mem_drop (List.mem_of_mem_take z))
        · exact hw x (List.mem_of_mem_drop z)) (by
      intro p hp
      rw [de_a_app, de_a_app]
      have e1 := hK1 k' p hp
      have e2 := h _ (by rw [e1]; omega)
      have e3 := e2.trans e1
      obtain ⟨p', hp', e4, e5⟩ := de_K2 (P := fun i p => de_a gs (w.take i) p) (S := fun i q => de_a gs (w.drop i) q) (i := m) (q := de_a gs ((w.drop i).take (j - i)) (de_a gs (w.take k') p)) (by rw [e3]; omega)
      have e6 := e5.symm.trans e3
      exact Nat.succ.inj e6)
    rw [List.length_append, List.length_append, List.length_take, List.length_take, List.length_drop, List.length_drop] at h1
    omega
  · intro i q
    show de_a gs ((w.drop i).take (i - i)) q = q
    rw [Nat.sub_self]
    rfl
/-! types of keys: a code x < 625 in base 5 -/
def de_g (x q : Nat) : Nat := x / 5 ^ q % 5
def de_t (k : Nat) : Nat := match k with | 1 => 1 | 2 => 5 | 3 => 25 | 4 => 125 | _ => 0
def de_ty (x : Nat) : Nat := de_t (x % 5) + de_t (x / 5 % 5) + de_t (x / 25 % 5) + de_t (x / 125 % 5)
def de_sm (T : Nat) : Nat := T % 5 + T / 5 % 5 + T / 25 % 5 + T / 125 % 5
def de_1 (a : Nat) : Nat := match a with | 0 => 0 | _ => 1
def de_rr (T : Nat) : Nat := de_1 (T % 5) + de_1 (T / 5 % 5) + de_1 (T / 25 % 5) + de_1 (T / 125 % 5)
/-- how many keys of one type, by rank r and size z -/
def de_n (r z : Nat) : Nat := match r, z with | 1, 4 => 1 | 1, 3 => 4 | 1, 2 => 6 | 1, 1 => 4 | 2, 4 => 6 | 2, 3 => 12 | 2, 2 => 12 | 3, 4 => 12 | 3, 3 => 24 | 4, 4 => 24 | _, _ => 0
def de_o (r z : Nat) : Nat := match r, z with | 1, 3 => 1 | 1, 2 => 5 | 1, 1 => 11 | 2, 3 => 6 | 2, 2 => 18 | 3, 3 => 12 | _, _ => 0
theorem de_cnt : ∀ T, T < 625 → (de_sm T = 0 ∨ 4 < de_sm T) ∨ cn_c (fun x => de_ty x == T) 625 ≤ de_n (de_rr T) (de_sm T) := by decide +kernel
theorem de_off : ∀ r, r < 5 → ∀ z, z < 5 → ∀ z', z' < z → (r = 0 ∨ z' < r) ∨ de_o r z + de_n r z ≤ de_o r z' := by decide +kernel
theorem de_tot : ∀ r, r < 5 → ∀ z, z < 5 → de_o r z + de_n r z ≤ 36 ∧ (r = 3 ∨ de_o r z + de_n r z ≤ 30) := by decide +kernel
end
section
/-! the keys along a shortest word counted by their types -/
theorem cn_pos {P : Nat → Prop} {n : Nat} (h : 0 < cn P n) : ∃ i, i < n ∧ P i := by
  apply Classical.byContradiction
  intro z
  rw [cn_none n (fun i hi hp => z ⟨i, hi, hp⟩)] at h
  omega
theorem cn_pos' {P : Nat → Prop} {n i : Nat} (hi : i < n) (h : P i) : 0 < cn P n := by
  rw [cn_rm h n hi]; omega
theorem cn_4 (P : Nat → Prop) : cn P 4 = cn_b (P 0) + cn_b (P 1) + cn_b (P 2) + cn_b (P 3) := by
  show (((0 + cn_b (P 0)) + cn_b (P 1)) + cn_b (P 2)) + cn_b (P 3) = _
  omega
theorem cn_bF : cn_b False = 0 := cn_b0 id
theorem cn_bT : cn_b True = 1 := cn_b1 trivial
noncomputable def de_c (K : Nat → Nat → Nat) (i v : Nat) : Nat := cn (fun q => K i q = v) 4
def de_k (K : Nat → Nat → Nat) (i : Nat) : Nat := K i 0 + 5 * K i 1 + 25 * K i 2 + 125 * K i 3
noncomputable def de_T (K : Nat → Nat → Nat) (i : Nat) : Nat := de_c K i 1 + 5 * de_c K i 2 + 25 * de_c K i 3 + 125 * de_c K i 4
theorem de_te : ∀ k, k ≤ 4 → de_t k = cn_b (k = 1) + 5 * cn_b (k = 2) + 25 * cn_b (k = 3) + 125 * cn_b (k = 4) ∧ cn_b (k = 1) + cn_b (k = 2) + cn_b (k = 3) + cn_b (k = 4) ≤ 1 := by
  intro k hk
  rcases (by omega : k = 0 ∨ k = 1 ∨ k = 2 ∨ k = 3 ∨ k = 4) with h | h | h | h | h <;> subst h <;> simp [de_t, cn_bF, cn_bT]
section
variable {l : Nat} {K : Nat → Nat → Nat} {F : Nat → Nat → Nat → Nat}
theorem de_c_le (J : de_J l K F) {i j v : Nat} (hij : i ≤ j) (hj : j ≤ l) (hv : v ≠ 0) : de_c K j v ≤ de_c K i v := by
  refine cn_inj (R := fun q' q => F i j q = q') 4 _ (fun q' _ e => ?_) (fun x x' y _ _ _ _ e e' => e.symm.trans e')
  have e0 : K j q' = v := e
  obtain ⟨q, e1, e2⟩ := J.2.2.2.1 i j q' hij hj (by rw [e0]; exact hv)
  exact ⟨q, J.2.1 i q (by rw [e1, e0]; exact hv), e1.trans e0, e2⟩
theorem de_c_po (J : de_J l K F) {i j v : Nat} (hij : i ≤ j) (hj : j ≤ l) (hv : v ≠ 0) (h : 0 < de_c K i v) : 0 < de_c K j v := by
  obtain ⟨q, hq, e⟩ := cn_pos h
  have e0 : K i q = v := e
  have e1 := J.2.2.1 i j q hij hj (by rw [e0]; exact hv)
  exact cn_pos' (P := fun q => K j q = v) (J.2.1 j _ (by rw [e1, e0]; exact hv)) (e1.trans e0)
theorem de_1eq {a b : Nat} (h : a ≤ b) (h2 : 0 < b → 0 < a) : de_1 a = de_1 b := by
  cases a with
  | zero =>
    cases b with
    | zero => rfl
    | succ b => exact absurd (h2 (by omega)) (by omega)
  | succ a =>
    cases b with
    | zero => omega
    | succ b => rfl
theorem de_1le (a : Nat) : de_1 a ≤ a := by
  cases a with
  | zero => exact Nat.le_refl 0
  | succ a => show 1 ≤ a + 1; omega
theorem de_cs (J : de_J l K F) (i : Nat) : de_c K i 1 + de_c K i 2 + de_c K i 3 + de_c K i 4 ≤ 4 := by
  unfold de_c
  rw [cn_4, cn_4, cn_4, cn_4]
  have h0 := (de_te _ (J.1 i 0)).2
  have h1 := (de_te _ (J.1 i 1)).2
  have h2 := (de_te _ (J.1 i 2)).2
  have h3 := (de_te _ (J.1 i 3)).2
  omega
theorem de_dig (J : de_J l K F) (i : Nat) : de_k K i % 5 = K i 0 ∧ de_k K i / 5 % 5 = K i 1 ∧ de_k K i / 25 % 5 = K i 2 ∧ de_k K i / 125 % 5 = K i 3 ∧ de_k K i < 625 := by
  have h0 := J.1 i 0
  have h1 := J.1 i 1
  have h2 := J.1 i 2
  have h3 := J.1 i 3
  unfold de_k
  omega
theorem de_tyk (J : de_J l K F) (i : Nat) : de_ty (de_k K i) = de_T K i := by
  obtain ⟨e0, e1, e2, e3, _⟩ := de_dig J i
  unfold de_ty de_T de_c
  rw [e0, e1, e2, e3, cn_4, cn_4, cn_4, cn_4, (de_te _ (J.1 i 0)).1, (de_te _ (J.1 i 1)).1, (de_te _ (J.1 i 2)).1, (de_te _ (J.1 i 3)).1]
  omega
theorem de_Td (J : de_J l K F) (i : Nat) : de_T K i % 5 = de_c K i 1 ∧ de_T K i / 5 % 5 = de_c K i 2 ∧ de_T K i / 25 % 5 = de_c K i 3 ∧ de_T K i / 125 % 5 = de_c K i 4 ∧ de_T K i < 625 := by
  have h := de_cs J i
  unfold de_T
  omega
theorem de_sme (J : de_J l K F) (i : Nat) : de_sm (de_T K i) = de_c K i 1 + de_c K i 2 + de_c K i 3 + de_c K i 4 := by
  obtain ⟨e0, e1, e2, e3, _⟩ := de_Td J i
  unfold de_sm
  rw [e0, e1, e2, e3]
theorem de_rre (J : de_J l K F) (i : Nat) : de_rr (de_T K i) = de_1 (de_c K i 1) + de_1 (de_c K i 2) + de_1 (de_c K i 3) + de_1 (de_c K i 4) := by
  obtain ⟨e0, e1, e2, e3, _⟩ := de_Td J i
  unfold de_rr
  rw [e0, e1, e2, e3]
theorem de_step (J : de_J l K F) {i j : Nat} (hij : i ≤ j) (hj : j ≤ l) : de_sm (de_T K j) ≤ de_sm (de_T K i) ∧ (de_sm (de_T K j) = de_sm (de_T K i) → de_T K j = de_T K i) ∧ de_rr (de_T K j) = de_rr (de_T K i) := by
  have h1 := de_c_le J hij hj (v := 1) (by decide)
  have h2 := de_c_le J hij hj (v := 2) (by decide)
  have h3 := de_c_le J hij hj (v := 3) (by decide)
  have h4 := de_c_le J hij hj (v := 4) (by decide)
  rw [de_sme J, de_sme J, de_rre J, de_rre J]
  refine ⟨by omega, fun e => ?_, ?_⟩
  · unfold de_T; omega
  · rw [de_1eq h1 (de_c_po J hij hj (by decide)), de_1eq h2 (de_c_po J hij hj (by decide)), de_1eq h3 (de_c_po J hij hj (by decide)), de_1eq h4 (de_c_po J hij hj (by decide))]
theorem de_nz (J : de_J l K F) (hl : 0 < l) {i : Nat} (hi : i ≤ l) : 1 ≤ de_sm (de_T K i) := by
  have h0 : ∃ q, K 0 q ≠ 0 := by
    apply Classical.byContradiction
    intro z
    have := J.2.2.2.2.1 0 0 0 l (Nat.le_refl _) (Nat.zero_le _) (Nat.zero_le _) (Nat.le_refl _) (fun q hq => absurd ⟨q, hq⟩ z)
    omega
  obtain ⟨q, hq⟩ := h0
  have e := J.2.2.1 0 i q (Nat.zero_le _) hi hq
  have hv := J.1 0 q
  have hp : 0 < de_c K i (K 0 q) := cn_pos' (P := fun z => K i z = K 0 q) (J.2.1 i _ (by rw [e]; exact hq)) e
  rw [de_sme J]
  rcases (by omega : K 0 q = 1 ∨ K 0 q = 2 ∨ K 0 q = 3 ∨ K 0 q = 4) with h | h | h | h <;> rw [h] at hp <;> omega
noncomputable def de_s (K : Nat → Nat → Nat) (i : Nat) : Nat := de_o (de_rr (de_T K i)) (de_sm (de_T K i)) + cn (fun y => de_ty y = de_T K i) (de_k K i)
theorem de_cn (x : Nat) (hx : x < 625) (h1 : 1 ≤ de_sm (de_ty x)) (h4 : de_sm (de_ty x) ≤ 4) (hT : de_ty x < 625) : cn (fun y => de_ty y = de_ty x) x < de_n (de_rr (de_ty x)) (de_sm (de_ty x)) := by
  have a := cn_ix (P := fun y => de_ty y = de_ty x) rfl hx
  have b := cn_c_eq (fun y => de_ty y == de_ty x) 625
  rw [cn_cg (P := fun i => (de_ty i == de_ty x) = true) (Q := fun y => de_ty y = de_ty x) 625 (fun i _ => by simp)] at b
  rcases de_cnt (de_ty x) hT with z | z <;> omega
theorem de_sb (J : de_J l K F) (hl : 0 < l) {i : Nat} (hi : i ≤ l) : cn (fun y => de_ty y = de_T K i) (de_k K i) < de_n (de_rr (de_T K i)) (de_sm (de_T K i)) := by
  have h1 := de_nz J hl hi
  have h4 := de_cs J i
  rw [← de_sme J] at h4
  rw [← de_tyk J] at h1 h4 ⊢
  exact de_cn _ (de_dig J i).2.2.2.2 h1 h4 (by rw [de_tyk J]; exact (de_Td J i).2.2.2.2)
theorem de_rb (J : de_J l K F) (hl : 0 < l) {i : Nat} (hi : i ≤ l) : 1 ≤ de_rr (de_T K i) ∧ de_rr (de_T K i) ≤ de_sm (de_T K i) ∧ de_sm (de_T K i) ≤ 4 := by
  have h1 := de_nz J hl hi
  have h4 := de_cs J i
  rw [de_sme J] at h1 ⊢
  rw [de_rre J]
  have a1 := de_1le (de_c K i 1)
  have a2 := de_1le (de_c K i 2)
  have a3 := de_1le (de_c K i 3)
  have a4 := de_1le (de_c K i 4)
  refine ⟨?_, by omega, h4⟩
  have b : ∀ a, 0 < a → de_1 a = 1 := by
    intro a ha
    cases a with
    | zero => omega
    | succ a => rfl
  rcases (by omega : 0 < de_c K i 1 ∨ 0 < de_c K i 2 ∨ 0 < de_c K i 3 ∨ 0 < de_c K i 4) with h | h | h | h <;> rw [b _ h] <;> omega
theorem de_ne (J : de_J l K F) {i j : Nat} (hij : i < j) (hj : j ≤ l) : de_k K i ≠ de_k K j := by
  intro e
  have a := de_dig J i
  have b := de_dig J j
  rw [e] at a
  have h : ∀ q, q < 4 → K i q = K j q := de_p4 (P := fun q => K i q = K j q) (by omega) (by omega) (by omega) (by omega)
  have := J.2.2.2.2.1 0 0 i j (Nat.le_refl _) (Nat.zero_le _) (by omega) hj (fun q hq => by rw [J.2.2.2.2.2]; exact (h q (J.2.1 i q hq)).symm)
  omega
theorem de_si (J : de_J l K F) (hl : 0 < l) {i j : Nat} (hij : i < j) (hj : j ≤ l) : de_s K i ≠ de_s K j := by
  intro e
  obtain ⟨s1, s2, s3⟩ := de_step J (Nat.le_of_lt hij) hj
  by_cases z : de_sm (de_T K j) = de_sm (de_T K i)
  · have t := s2 z
    unfold de_s at e
    rw [t] at e
    have e2 : cn (fun y => de_ty y = de_T K i) (de_k K i) = cn (fun y => de_ty y = de_T K i) (de_k K j) := by omega
    have n := de_ne J hij hj
    rcases (by omega : de_k K i < de_k K j ∨ de_k K j < de_k K i) with c | c
    · have := cn_ix (P := fun y => de_ty y = de_T K i) (de_tyk J i) c
      omega
    · have := cn_ix (P := fun y => de_ty y = de_T K i) ((de_tyk J j).trans t) c
      omega
  · have b := de_sb J hl (i := i) (by omega)
    have r := de_rb J hl (i := i) (by omega)
    have r' := de_rb J hl hj
    unfold de_s at e
    rw [s3] at e r'
    rcases de_off (de_rr (de_T K i)) (by omega) (de_sm (de_T K i)) (by omega) (de_sm (de_T K j)) (by omega) with o | o <;> omega
theorem de_30 (J : de_J l K F) (hl : 0 < l) (h3 : de_rr (de_T K 0) ≠ 3) : l + 1 ≤ 30 := by
  refine cn_pg (de_s K) (fun i hi => ?_) (fun i j hi hj e => ?_)
  · have b := de_sb J hl (i := i) (by omega)
    have r := de_rb J hl (i := i) (by omega)
    have s := (de_step J (Nat.zero_le i) (by omega)).2.2
    rw [s] at b r
    rcases (de_tot (de_rr (de_T K 0)) (by omega) (de_sm (de_T K i)) (by omega)).2 with t | t
    · exact absurd t h3
    · unfold de_s; rw [s]; omega
  · rcases (by omega : i = j ∨ i < j ∨ j < i) with c | c | c
    · exact c
    · exact absurd e (de_si J hl c (by omega))
    · exact absurd e.symm (de_si J hl c (by omega))
end
end
section
/-! rank three: the six orders of a three-subset aren't all met -/
theorem de_quad {E0 E1 E2 A B C : Int} (h1 : (E0 - A) * (E0 - A) = (E1 - B) * (E1 - B)) (h2 : (E0 - A) * (E0 - A) = (E2 - C) * (E2 - C)) (h3 : (E0 - B) * (E0 - B) = (E1 - C) * (E1 - C)) (h4 : (E0 - B) * (E0 - B) = (E2 - A) * (E2 - A)) (h5 : (E0 - C) * (E0 - C) = (E1 - A) * (E1 - A)) (h6 : (E0 - C) * (E0 - C) = (E2 - B) * (E2 - B)) (n1 : E0 ≠ E1) (n2 : E0 ≠ E2) (n3 : E1 ≠ E2) : False := by
  have k1 : (E0 - E1) * (3 * (E0 + E1) - 2 * (A + B + C)) = 0 := by grind
  have k2 : (E0 - E2) * (3 * (E0 + E2) - 2 * (A + B + C)) = 0 := by grind
  rcases Int.mul_eq_zero.mp k1 with z | z
  · omega
  · rcases Int.mul_eq_zero.mp k2 with y | y <;> omega
theorem de_sq {a b c d : Nat} (h1 : a ≤ b → d ≤ c + (b - a) ∧ c ≤ d + (b - a)) (h2 : b ≤ a → d ≤ c + (a - b) ∧ c ≤ d + (a - b)) (h3 : c ≤ d → b ≤ a + (d - c) ∧ a ≤ b + (d - c)) (h4 : d ≤ c → b ≤ a + (c - d) ∧ a ≤ b + (c - d)) : ((a : Int) - b) * ((a : Int) - b) = ((c : Int) - d) * ((c : Int) - d) := by
  have h : (a : Int) - b = (c : Int) - d ∨ (a : Int) - b = -((c : Int) - d) := by
    rcases Nat.le_total a b with x | x <;> rcases Nat.le_total c d with y | y
    · have := h1 x; have := h3 y; omega
    · have := h1 x; have := h4 y; omega
    · have := h2 x; have := h3 y; omega
    · have := h2 x; have := h4 y; omega
  rcases h with h | h
  · rw [h]
  · rw [h, Int.neg_mul_neg]
section
variable {l : Nat} {K : Nat → Nat → Nat} {F : Nat → Nat → Nat → Nat}
/-- at time t the three points q0, q1, q2 go to a, b, c, all else is off -/
def de_bj (l : Nat) (K : Nat → Nat → Nat) (q0 q1 q2 a b c t : Nat) : Prop := t ≤ l ∧ K t q0 = a ∧ K t q1 = b ∧ K t q2 = c ∧ ∀ q, K t q ≠ 0 → q = q0 ∨ q = q1 ∨ q = q2
theorem de_ex (J : de_J l K F) {q0 q1 q2 r0 r1 r2 : Nat} {i j k m : Nat} (hij : i ≤ j) (hj : j ≤ l) (hk : k ≤ l) (hm : m ≤ l)
    (inj : ∀ q r, K j q ≠ 0 → K j q = K j r → q = r) (n0 : K i q0 ≠ 0) (n1 : K i q1 ≠ 0) (n2 : K i q2 ≠ 0)
    (h0 : K i q0 = K j r0) (h1 : K i q1 = K j r1) (h2 : K i q2 = K j r2) (hq : ∀ q, K k q ≠ 0 → q = q0 ∨ q = q1 ∨ q = q2)
    (e0 : K m r0 = K k q0) (e1 : K m r1 = K k q1) (e2 : K m r2 = K k q2) : m ≤ k + (j - i) := by
  have f : ∀ q r, K i q ≠ 0 → K i q = K j r → F i j q = r := by
    intro q r n h
    have a := J.2.2.1 i j q hij hj n
    exact inj _ _ (by rw [a]; exact n) (a.trans h)
  refine J.2.2.2.2.1 i j k m hij hj hk hm (fun q h => ?_)
  rcases hq q h with z | z | z <;> subst z
  · rw [f _ _ n0 h0]; exact e0
  · rw [f _ _ n1 h1]; exact e1
  · rw [f _ _ n2 h2]; exact e2
theorem de_inj {q0 q1 q2 a b c t : Nat} (h : de_bj l K q0 q1 q2 a b c t) (hab : a ≠ b) (hac : a ≠ c) (hbc : b ≠ c) : ∀ q r, K t q ≠ 0 → K t q = K t r → q = r := by
  intro q r n e
  obtain ⟨_, h0, h1, h2, hh⟩ := h
  have n' : K t r ≠ 0 := by rw [← e]; exact n
  rcases hh q n with z | z | z <;> rcases hh r n' with y | y | y <;> subst z <;> subst y <;> first | rfl | omega
theorem de_s01 (J : de_J l K F) {q0 q1 q2 a b c a' b' c' s t s' t' : Nat} (hs : de_bj l K q0 q1 q2 a b c s) (ht : de_bj l K q0 q1 q2 b a c t) (hs' : de_bj l K q0 q1 q2 a' b' c' s') (ht' : de_bj l K q0 q1 q2 b' a' c' t') (hab : a ≠ b) (hac : a ≠ c) (hbc : b ≠ c) (ha : a ≠ 0) (hb : b ≠ 0) (hc : c ≠ 0) :
    (s ≤ t → t' ≤ s' + (t - s) ∧ s' ≤ t' + (t - s)) ∧ (t ≤ s → t' ≤ s' + (s - t) ∧ s' ≤ t' + (s - t)) := by
  have is := de_inj hs hab hac hbc
  have it := de_inj ht hab.symm hbc hac
  obtain ⟨ls, s0, s1, s2, sh⟩ := hs
  obtain ⟨lt, t0, t1, t2, th⟩ := ht
  obtain ⟨ls', s0', s1', s2', sh'⟩ := hs'
  obtain ⟨lt', t0', t1', t2', th'⟩ := ht'
  refine ⟨fun h => ⟨?_, ?_⟩, fun h => ⟨?_, ?_⟩⟩
  · exact de_ex J (q0 := q0) (q1 := q1) (q2 := q2) (r0 := q1) (r1 := q0) (r2 := q2) h lt ls' lt' it (by omega) (by omega) (by omega) (by omega) (by omega) (by omega) sh' (by omega) (by omega) (by omega)
  · exact de_ex J (q0 := q0) (q1 := q1) (q2 := q2) (r0 := q1) (r1 := q0) (r2 := q2) h lt lt' ls' it (by omega) (by omega) (by omega) (by omega) (by omega) (by omega) th' (by omega) (by omega) (by omega)
  · exact de_ex J (q0 := q0) (q1 := q1) (q2 := q2) (r0 := q1) (r1 := q0) (r2 := q2) h ls ls' lt' is (by omega) (by omega) (by omega) (by omega) (by omega) (by omega) sh' (by omega) (by omega) (by omega)
  · exact de_ex J (q0 := q0) (q1 := q1) (q2 := q2) (r0 := q1) (r1 := q0) (r2 := q2) h ls lt' ls' is (by omega) (by omega) (by omega) (by omega) (by omega) (by omega) th' (by omega) (by omega) (by omega)
theorem de_bj12 {q0 q1 q2 a b c t : Nat} (h : de_bj l K q0 q1 q2 a b c t) : de_bj l K q1 q0 q2 b a c t := ⟨h.1, h.2.2.1, h.2.1, h.2.2.2.1, fun q n => by rcases h.2.2.2.2 q n with z | z | z; exact Or.inr (Or.inl z); exact Or.inl z; exact Or.inr (Or.inr z)⟩
theorem de_bj23 {q0 q1 q2 a b c t : Nat} (h : de_bj l K q0 q1 q2 a b c t) : de_bj l K q0 q2 q1 a c b t := ⟨h.1, h.2.1, h.2.2.2.1, h.2.2.1, fun q n => by rcases h.2.2.2.2 q n with z | z | z; exact Or.inl z; exact Or.inr (Or.inr z); exact Or.inr (Or.inl z)⟩
theorem de_q01 (J : de_J l K F) {q0 q1 q2 a b c a' b' c' s t s' t' : Nat} (hs : de_bj l K q0 q1 q2 a b c s) (ht : de_bj l K q0 q1 q2 b a c t) (hs' : de_bj l K q0 q1 q2 a' b' c' s') (ht' : de_bj l K q0 q1 q2 b' a' c' t') (hab : a ≠ b) (hac : a ≠ c) (hbc : b ≠ c) (ha : a ≠ 0) (hb : b ≠ 0) (hc : c ≠ 0) (hab' : a' ≠ b') (hac' : a' ≠ c') (hbc' : b' ≠ c') (ha' : a' ≠ 0) (hb' : b' ≠ 0) (hc' : c' ≠ 0) :
    ((s : Int) - t) * ((s : Int) - t) = ((s' : Int) - t') * ((s' : Int) - t') := by
  have x := de_s01 J hs ht hs' ht' hab hac hbc ha hb hc
  have y := de_s01 J hs' ht' hs ht hab' hac' hbc' ha' hb' hc'
  exact de_sq x.1 x.2 y.1 y.2
theorem de_no6 (J : de_J l K F) {q0 q1 q2 a b c E0 E1 E2 A B C : Nat} (hab : a ≠ b) (hac : a ≠ c) (hbc : b ≠ c) (ha : a ≠ 0) (hb : b ≠ 0) (hc : c ≠ 0)
    (h0 : de_bj l K q0 q1 q2 a b c E0) (h1 : de_bj l K q0 q1 q2 b c a E1) (h2 : de_bj l K q0 q1 q2 c a b E2)
    (hA : de_bj l K q0 q1 q2 b a c A) (hB : de_bj l K q0 q1 q2 c b a B) (hC : de_bj l K q0 q1 q2 a c b C) : False := by
  have n1 : E0 ≠ E1 := fun e => hab (by have x := h0.2.1; have y := h1.2.1; subst e; omega)
  have n2 : E0 ≠ E2 := fun e => hac (by have x := h0.2.1; have y := h2.2.1; subst e; omega)
  have n3 : E1 ≠ E2 := fun e => hbc (by have x := h1.2.1; have y := h2.2.1; subst e; omega)
  -- swap of q0, q1: (E0, A), (E1, B), (E2, C)
  have k1 := de_q01 J h0 hA h1 hB hab hac hbc ha hb hc hbc hab.symm hac.symm hb hc ha
  have k2 := de_q01 J h0 hA h2 hC hab hac hbc ha hb hc hac.symm hbc.symm hab hc ha hb
  -- swap of q0, q2: (E0, B), (E1, C), (E2, A)
  have g : ∀ {x y z t : Nat}, de_bj l K q0 q1 q2 x y z t → de_bj l K q0 q2 q1 x z y t := fun h => de_bj23 h
  have k3 := de_q01 J (g h0) (g hB) (g h1) (g hC) hac hab hbc.symm ha hc hb hab.symm hbc hac hb ha hc
  have k4 := de_q01 J (g h0) (g hB) (g h2) (g hA) hac hab hbc.symm ha hc hb hbc.symm hac.symm hab.symm hc hb ha
  -- swap of q1, q2: (E0, C), (E1, A), (E2, B)
  have f : ∀ {x y z t : Nat}, de_bj l K q0 q1 q2 x y z t → de_bj l K q1 q2 q0 y z x t := fun h => de_bj23 (de_bj12 h)
  have k5 := de_q01 J (f h0) (f hC) (f h1) (f hA) hbc hab.symm hac.symm hb hc ha hac.symm hbc.symm hab hc ha hb
  have k6 := de_q01 J (f h0) (f hC) (f h2) (f hB) hbc hab.symm hac.symm hb hc ha hab hac hbc ha hb hc
  exact de_quad k1 k2 k3 k4 k5 k6 (by omega) (by omega) (by omega)
end
end
section
/-! at most 32 keys: the bound on words -/
section
variable {l : Nat} {K : Nat → Nat → Nat} {F : Nat → Nat → Nat → Nat}
theorem de_m0 (J : de_J l K F) {a b c : Nat} (hab : a ≠ b) (hac : a ≠ c) (hbc : b ≠ c) (ha : a ≠ 0) (hb : b ≠ 0) (hc : c ≠ 0) (la : a ≤ 4) (lb : b ≤ 4) (lc : c ≤ 4) (H : ∀ x, x < 625 → de_ty x = de_t a + de_t b + de_t c → de_g x 0 = 0 → ∃ i, i ≤ l ∧ de_k K i = x) : False := by
  have G : ∀ x y z, x ≤ 4 → y ≤ 4 → z ≤ 4 → de_t x + de_t y + de_t z = de_t a + de_t b + de_t c → ∃ i, de_bj l K 1 2 3 x y z i := by
    intro x y z hx hy hz e
    obtain ⟨i, hi, hk⟩ := H (5 * x + 25 * y + 125 * z) (by omega) (by
      unfold de_ty
      have e0 : (5 * x + 25 * y + 125 * z) % 5 = 0 := by omega
      have e1 : (5 * x + 25 * y + 125 * z) / 5 % 5 = x := by omega
      have e2 : (5 * x + 25 * y + 125 * z) / 25 % 5 = y := by omega
      have e3 : (5 * x + 25 * y + 125 * z) / 125 % 5 = z := by omega
      rw [e0, e1, e2, e3, ← e, show de_t 0 = 0 from rfl]
      omega) (by unfold de_g; simp only [Nat.reducePow]; omega)
    have d := de_dig J i
    rw [hk] at d
    refine ⟨i, hi, by omega, by omega, by omega, fun q hq => ?_⟩
    have h4 := J.2.1 i q hq
    have hz : K i 0 = 0 := by omega
    have : q ≠ 0 := fun e => hq (e ▸ hz)
    omega
  obtain ⟨E0, h0⟩ := G a b c la lb lc rfl
  obtain ⟨E1, h1⟩ := G b c a lb lc la (by omega)
  obtain ⟨E2, h2⟩ := G c a b lc la lb (by omega)
  obtain ⟨A, hA⟩ := G b a c lb la lc (by omega)
  obtain ⟨B, hB⟩ := G c b a lc lb la (by omega)
  obtain ⟨C, hC⟩ := G a c b la lc lb (by omega)
  exact de_no6 J hab hac hbc ha hb hc h0 h1 h2 hA hB hC
theorem de_m1 (J : de_J l K F) {a b c : Nat} (hab : a ≠ b) (hac : a ≠ c) (hbc : b ≠ c) (ha : a ≠ 0) (hb : b ≠ 0) (hc : c ≠ 0) (la : a ≤ 4) (lb : b ≤ 4) (lc : c ≤ 4) (H : ∀ x, x < 625 → de_ty x = de_t a + de_t b + de_t c → de_g x 1 = 0 → ∃ i, i ≤ l ∧ de_k K i = x) : False := by
  have G : ∀ x y z, x ≤ 4 → y ≤ 4 → z ≤ 4 → de_t x + de_t y + de_t z = de_t a + de_t b + de_t c → ∃ i, de_bj l K 0 2 3 x y z i := by
    intro x y z hx hy hz e
    obtain ⟨i, hi, hk⟩ := H (x + 25 * y + 125 * z) (by omega) (by
      unfold de_ty
      have e0 : (x + 25 * y + 125 * z) % 5 = x := by omega
      have e1 : (x + 25 * y + 125 * z) / 5 % 5 = 0 := by omega
      have e2 : (x + 25 * y + 125 * z) / 25 % 5 = y := by omega
      have e3 : (x + 25 * y + 125 * z) / 125 % 5 = z := by omega
      rw [e0, e1, e2, e3, ← e, show de_t 0 = 0 from rfl]
      omega) (by unfold de_g; simp only [Nat.reducePow]; omega)
    have d := de_dig J i
    rw [hk] at d
    refine ⟨i, hi, by omega, by omega, by omega, fun q hq => ?_⟩
    have h4 := J.2.1 i q hq
    have hz : K i 1 = 0 := by omega
    have : q ≠ 1 := fun e => hq (e ▸ hz)
    omega
  obtain ⟨E0, h0⟩ := G a b c la lb lc rfl
  obtain ⟨E1, h1⟩ := G b c a lb lc la (by omega)
  obtain ⟨E2, h2⟩ := G c a b lc la lb (by omega)
  obtain ⟨A, hA⟩ := G b a c lb la lc (by omega)
  obtain ⟨B, hB⟩ := G c b a lc lb la (by omega)
  obtain ⟨C, hC⟩ := G a c b la lc lb (by omega)
  exact de_no6 J hab hac hbc ha hb hc h0 h1 h2 hA hB hC
theorem de_m2 (J : de_J l K F) {a b c : Nat} (hab : a ≠ b) (hac : a ≠ c) (hbc : b ≠ c) (ha : a ≠ 0) (hb : b ≠ 0) (hc : c ≠ 0) (la : a ≤ 4) (lb : b ≤ 4) (lc : c ≤ 4) (H : ∀ x, x < 625 → de_ty x = de_t a + de_t b + de_t c → de_g x 2 = 0 → ∃ i, i ≤ l ∧ de_k K i = x) : False := by
  have G : ∀ x y z, x ≤ 4 → y ≤ 4 → z ≤ 4 → de_t x + de_t y + de_t z = de_t a + de_t b + de_t c → ∃ i, de_bj l K 0 1 3 x y z i := by
    intro x y z hx hy hz e
    obtain ⟨i, hi, hk⟩ := H (x + 5 * y + 125 * z) (by omega) (by
      unfold de_ty
      have e0 : (x + 5 * y + 125 * z) % 5 = x := by omega
      have e1 : (x + 5 * y + 125 * z) / 5 % 5 = y := by omega
      have e2 : (x + 5 * y + 125 * z) / 25 % 5 = 0 := by omega
      have e3 : (x + 5 * y + 125 * z) / 125 % 5 = z := by omega
      rw [e0, e1, e2, e3, ← e, show de_t 0 = 0 from rfl]
      omega) (by unfold de_g; simp only [Nat.reducePow]; omega)
    have d := de_dig J i
    rw [hk] at d
    refine ⟨i, hi, by omega, by omega, by omega, fun q hq => ?_⟩
    have h4 := J.2.1 i q hq
    have hz : K i 2 = 0 := by omega
    have : q ≠ 2 := fun e => hq (e ▸ hz)
    omega
  obtain ⟨E0, h0⟩ := G a b c la lb lc rfl
  obtain ⟨E1, h1⟩ := G b c a lb lc la (by omega)
  obtain ⟨E2, h2⟩ := G c a b lc la lb (by omega)
  obtain ⟨A, hA⟩ := G b a c lb la lc (by omega)
  obtain ⟨B, hB⟩ := G c b a lc lb la (by omega)
  obtain ⟨C, hC⟩ := G a c b la lc lb (by omega)
  exact de_no6 J hab hac hbc ha hb hc h0 h1 h2 hA hB hC
theorem de_m3 (J : de_J l K F) {a b c : Nat} (hab : a ≠ b) (hac : a ≠ c) (hbc : b ≠ c) (ha : a ≠ 0) (hb : b ≠ 0) (hc : c ≠ 0) (la : a ≤ 4) (lb : b ≤ 4) (lc : c ≤ 4) (H : ∀ x, x < 625 → de_ty x = de_t a + de_t b + de_t c → de_g x 3 = 0 → ∃ i, i ≤ l ∧ de_k K i = x) : False := by
  have G : ∀ x y z, x ≤ 4 → y ≤ 4 → z ≤ 4 → de_t x + de_t y + de_t z = de_t a + de_t b + de_t c → ∃ i, de_bj l K 0 1 2 x y z i := by
    intro x y z hx hy hz e
    obtain ⟨i, hi, hk⟩ := H (x + 5 * y + 25 * z) (by omega) (by
      unfold de_ty
      have e0 : (x + 5 * y + 25 * z) % 5 = x := by omega
      have e1 : (x + 5 * y + 25 * z) / 5 % 5 = y := by omega
      have e2 : (x + 5 * y + 25 * z) / 25 % 5 = z := by omega
      have e3 : (x + 5 * y + 25 * z) / 125 % 5 = 0 := by omega
      rw [e0, e1, e2, e3, ← e, show de_t 0 = 0 from rfl]
      omega) (by unfold de_g; simp only [Nat.reducePow]; omega)
    have d := de_dig J i
    rw [hk] at d
    refine ⟨i, hi, by omega, by omega, by omega, fun q hq => ?_⟩
    have h4 := J.2.1 i q hq
    have hz : K i 3 = 0 := by omega
    have : q ≠ 3 := fun e => hq (e ▸ hz)
    omega
  obtain ⟨E0, h0⟩ := G a b c la lb lc rfl
  obtain ⟨E1, h1⟩ := G b c a lb lc la (by omega)
  obtain ⟨E2, h2⟩ := G c a b lc la lb (by omega)
  obtain ⟨A, hA⟩ := G b a c lb la lc (by omega)
  obtain ⟨B, hB⟩ := G c b a lc lb la (by omega)
  obtain ⟨C, hC⟩ := G a c b la lc lb (by omega)
  exact de_no6 J hab hac hbc ha hb hc h0 h1 h2 hA hB hC
theorem de_mm (J : de_J l K F) {a b c m : Nat} (hm : m < 4) (hab : a ≠ b) (hac : a ≠ c) (hbc : b ≠ c) (ha : a ≠ 0) (hb : b ≠ 0) (hc : c ≠ 0) (la : a ≤ 4) (lb : b ≤ 4) (lc : c ≤ 4) (H : ∀ x, x < 625 → de_ty x = de_t a + de_t b + de_t c → de_g x m = 0 → ∃ i, i ≤ l ∧ de_k K i = x) : False := by
  rcases (by omega : m = 0 ∨ m = 1 ∨ m = 2 ∨ m = 3) with h | h | h | h <;> subst h
  · exact de_m0 J hab hac hbc ha hb hc la lb lc H
  · exact de_m1 J hab hac hbc ha hb hc la lb lc H
  · exact de_m2 J hab hac hbc ha hb hc la lb lc H
  · exact de_m3 J hab hac hbc ha hb hc la lb lc H
theorem de_3y : ∀ x, x < 625 → ¬ (de_ty x = 31 ∨ de_ty x = 131 ∨ de_ty x = 151 ∨ de_ty x = 155) ∨ ∀ m, m < 4 → ∀ m', m' < 4 → de_g x m ≠ 0 ∨ de_g x m' ≠ 0 ∨ m = m' := by decide +kernel
theorem de_3x (x : Nat) (hx : x < 625) (h : de_ty x = 31 ∨ de_ty x = 131 ∨ de_ty x = 151 ∨ de_ty x = 155) (m : Nat) (hm : m < 4) (m' : Nat) (hm' : m' < 4) (g : de_g x m = 0) (g' : de_g x m' = 0) : m = m' := by
  rcases de_3y x hx with z | z
  · exact absurd h z
  · rcases z m hm m' hm' with y | y | y
    · exact absurd g y
    · exact absurd g' y
    · exact y
theorem de_3T {a b c d : Nat} (h : de_1 a + de_1 b + de_1 c + de_1 d = 3) : (de_1 a + 5 * de_1 b + 25 * de_1 c + 125 * de_1 d = 31 ∨ de_1 a + 5 * de_1 b + 25 * de_1 c + 125 * de_1 d = 131 ∨ de_1 a + 5 * de_1 b + 25 * de_1 c + 125 * de_1 d = 151 ∨ de_1 a + 5 * de_1 b + 25 * de_1 c + 125 * de_1 d = 155) := by
  have e : ∀ a, de_1 a ≤ 1 := by
    intro a
    cases a with
    | zero => exact Nat.zero_le _
    | succ a => exact Nat.le_refl _
  have := e a; have := e b; have := e c; have := e d
  omega
theorem de_vis (J : de_J l K F) (hl : 0 < l) {T x : Nat} (h3 : de_rr (de_T K 0) = 3) (hT : T = de_1 (de_c K 0 1) + 5 * de_1 (de_c K 0 2) + 25 * de_1 (de_c K 0 3) + 125 * de_1 (de_c K 0 4)) (hx : de_ty x = T) {i : Nat} (hi : i ≤ l) (e : de_s K i = 12 + cn (fun y => de_ty y = T) x) : de_k K i = x := by
  have b := de_sb J hl hi
  have r := de_rb J hl hi
  have s := (de_step J (Nat.zero_le i) hi).2.2
  rw [h3] at s
  rw [s] at b r
  unfold de_s at e
  rw [s] at e
  by_cases z : de_sm (de_T K i) = 4
  · rw [z] at b e
    have : de_n 3 4 = 12 := rfl
    have : de_o 3 4 = 0 := rfl
    omega
  · have z3 : de_sm (de_T K i) = 3 := by omega
    rw [z3] at e
    have o : de_o 3 3 = 12 := rfl
    have q := de_sme J i
    have p := de_rre J i
    rw [z3] at q
    rw [s] at p
    have a1 := de_1le (de_c K i 1)
    have a2 := de_1le (de_c K i 2)
    have a3 := de_1le (de_c K i 3)
    have a4 := de_1le (de_c K i 4)
    have f : ∀ v, v ≠ 0 → de_1 (de_c K i v) = de_1 (de_c K 0 v) := fun v hv => de_1eq (de_c_le J (Nat.zero_le i) hi hv) (de_c_po J (Nat.zero_le i) hi hv)
    have f1 := f 1 (by decide)
    have f2 := f 2 (by decide)
    have f3 := f 3 (by decide)
    have f4 := f 4 (by decide)
    have t : de_T K i = T := by rw [hT]; unfold de_T; omega
    rw [t] at e
    rcases (by omega : de_k K i = x ∨ de_k K i < x ∨ x < de_k K i) with c | c | c
    · exact c
    · have := cn_ix (P := fun y => de_ty y = T) ((de_tyk J i).trans t) c
      omega
    · have := cn_ix (P := fun y => de_ty y = T) hx c
      omega
theorem de_31 (J : de_J l K F) (hl : 0 < l) (h3 : de_rr (de_T K 0) = 3) : l ≤ 31 := by
  apply Classical.byContradiction
  intro hbig
  have p := de_rre J 0
  rw [h3] at p
  have hT := de_3T p.symm
  generalize eT : de_1 (de_c K 0 1) + 5 * de_1 (de_c K 0 2) + 25 * de_1 (de_c K 0 3) + 125 * de_1 (de_c K 0 4) = T at hT
  have M : ∃ m, m < 4 ∧ ∀ x, x < 625 → de_ty x = T → de_g x m = 0 → ∃ i, i ≤ l ∧ de_k K i = x := by
    apply Classical.byContradiction
    intro z
    have z' : ∀ m, m < 4 → ∃ x, x < 625 ∧ de_ty x = T ∧ de_g x m = 0 ∧ ∀ i, i ≤ l → de_k K i ≠ x := by
      intro m hm
      apply Classical.byContradiction
      intro y
      refine z ⟨m, hm, fun x hx h1 h2 => ?_⟩
      apply Classical.byContradiction
      intro u
      exact y ⟨x, hx, h1, h2, fun i hi e => u ⟨i, hi, e⟩⟩
    obtain ⟨x0, l0, t0, g0, v0⟩ := z' 0 (by decide)
    obtain ⟨x1, l1, t1, g1, v1⟩ := z' 1 (by decide)
    obtain ⟨x2, l2, t2, g2, v2⟩ := z' 2 (by decide)
    obtain ⟨x3, l3, t3, g3, v3⟩ := z' 3 (by decide)
    have sd : ∀ x y, de_ty x = T → de_ty y = T → x ≠ y → 12 + cn (fun y => de_ty y = T) x ≠ 12 + cn (fun y => de_ty y = T) y := by
      intro x y hx hy n e
      rcases (by omega : x < y ∨ y < x) with c | c
      · have := cn_ix (P := fun y => de_ty y = T) hx c
        omega
      · have := cn_ix (P := fun y => de_ty y = T) hy c
        omega
    have nx : ∀ x y m m', m < 4 → m' < 4 → x < 625 → de_ty x = T → de_g x m = 0 → de_g y m' = 0 → m ≠ m' → x ≠ y := by
      intro x y m m' hm hm' hx ht h1 h2 hn e
      subst e
      exact hn (de_3x x hx (by rw [ht]; exact hT) m hm m' hm' h1 h2)
    have lt : ∀ x, x < 625 → de_ty x = T → 12 + cn (fun y => de_ty y = T) x < 36 := by
      intro x hx ht
      have q : 1 ≤ de_sm T ∧ de_sm T ≤ 4 ∧ T < 625 ∧ de_rr T = 3 ∧ de_sm T = 3 := by
        rcases hT with h | h | h | h <;> subst h <;> decide
      have := de_cn x hx (by rw [ht]; exact q.1) (by rw [ht]; exact q.2.1) (by rw [ht]; exact q.2.2.1)
      rw [ht, q.2.2.2.1, q.2.2.2.2] at this
      have : de_n 3 3 = 24 := rfl
      omega
    have c36 := cn_all (P := fun _ => True) 36 (fun _ _ => trivial)
    have r0 := cn_rm (B := fun _ => True) (y := 12 + cn (fun y => de_ty y = T) x0) trivial 36 (lt x0 l0 t0)
    have r1 := cn_rm (B := fun x => True ∧ x ≠ 12 + cn (fun y => de_ty y = T) x0) (y := 12 + cn (fun y => de_ty y = T) x1) ⟨trivial, sd _ _ t1 t0 (nx x1 x0 1 0 (by decide) (by decide) l1 t1 g1 g0 (by decide))⟩ 36 (lt x1 l1 t1)
    have r2 := cn_rm (B := fun x => (True ∧ x ≠ 12 + cn (fun y => de_ty y = T) x0) ∧ x ≠ 12 + cn (fun y => de_ty y = T) x1) (y := 12 + cn (fun y => de_ty y = T) x2) ⟨⟨trivial, sd _ _ t2 t0 (nx x2 x0 2 0 (by decide) (by decide) l2 t2 g2 g0 (by decide))⟩, sd _ _ t2 t1 (nx x2 x1 2 1 (by decide) (by decide) l2 t2 g2 g1 (by decide))⟩ 36 (lt x2 l2 t2)
    have r3 := cn_rm (B := fun x => ((True ∧ x ≠ 12 + cn (fun y => de_ty y = T) x0) ∧ x ≠ 12 + cn (fun y => de_ty y = T) x1) ∧ x ≠ 12 + cn (fun y => de_ty y = T) x2) (y := 12 + cn (fun y => de_ty y = T) x3) ⟨⟨⟨trivial, sd _ _ t3 t0 (nx x3 x0 3 0 (by decide) (by decide) l3 t3 g3 g0 (by decide))⟩, sd _ _ t3 t1 (nx x3 x1 3 1 (by decide) (by decide) l3 t3 g3 g1 (by decide))⟩, sd _ _ t3 t2 (nx x3 x2 3 2 (by decide) (by decide) l3 t3 g3 g2 (by decide))⟩ 36 (lt x3 l3 t3)
    have big := cn_fun (A := fun _ => True) (B := fun x => (((True ∧ x ≠ 12 + cn (fun y => de_ty y = T) x0) ∧ x ≠ 12 + cn (fun y => de_ty y = T) x1) ∧ x ≠ 12 + cn (fun y => de_ty y = T) x2) ∧ x ≠ 12 + cn (fun y => de_ty y = T) x3) (N := l + 1) (M := 36) (de_s K) (fun i hi _ => by
      refine ⟨?_, ⟨⟨⟨trivial, fun e => ?_⟩, fun e => ?_⟩, fun e => ?_⟩, fun e => ?_⟩
      · have b := de_sb J hl (i := i) (by omega)
        have r := de_rb J hl (i := i) (by omega)
        have := (de_tot (de_rr (de_T K i)) (by omega) (de_sm (de_T K i)) (by omega)).1
        unfold de_s; omega
      · exact v0 i (by omega) (de_vis J hl h3 eT.symm t0 (by omega) e)
      · exact v1 i (by omega) (de_vis J hl h3 eT.symm t1 (by omega) e)
      · exact v2 i (by omega) (de_vis J hl h3 eT.symm t2 (by omega) e)
      · exact v3 i (by omega) (de_vis J hl h3 eT.symm t3 (by omega) e)) (fun i j hi hj _ _ e => by
      rcases (by omega : i = j ∨ i < j ∨ j < i) with c | c | c
      · exact c
      · exact absurd e (de_si J hl c (by omega))
      · exact absurd e.symm (de_si J hl c (by omega)))
    rw [cn_all (l + 1) (fun _ _ => trivial)] at big
    omega
  obtain ⟨m, hm, H⟩ := M
  rcases hT with h | h | h | h <;> subst h
  · exact de_mm J (a := 1) (b := 2) (c := 3) hm (by decide) (by decide) (by decide) (by decide) (by decide) (by decide) (by decide) (by decide) (by decide) H
  · exact de_mm J (a := 1) (b := 2) (c := 4) hm (by decide) (by decide) (by decide) (by decide) (by decide) (by decide) (by decide) (by decide) (by decide) H
  · exact de_mm J (a := 1) (b := 3) (c := 4) hm (by decide) (by decide) (by decide) (by decide) (by decide) (by decide) (by decide) (by decide) (by decide) H
  · exact de_mm J (a := 2) (b := 3) (c := 4) hm (by decide) (by decide) (by decide) (by decide) (by decide) (by decide) (by decide) (by decide) (by decide) H
theorem de_l31 (J : de_J l K F) : l ≤ 31 := by
  by_cases hl : 0 < l
  · by_cases h3 : de_rr (de_T K 0) = 3
    · exact de_31 J hl h3
    · have := de_30 J hl h3
      omega
  · omega
end
/-! words as lists -/
theorem de_of_w {k : Nat} {gs : Nat → Nat} : ∀ l v c, mo_w 4 k gs l v c → ∃ w : List Nat, w.length = l ∧ (∀ x, x ∈ w → x < k) ∧ ∀ p, p < 4 → de_a gs w p = mo_d 4 c p
  | 0, v, c, h => ⟨[], rfl, (fun x hx => by cases hx), (fun p hp => by rw [h.2, mo_e_d hp]; rfl)⟩
  | l + 1, v, c, h => by
    obtain ⟨v', c', g, hw, hg, _, rfl⟩ := h
    obtain ⟨w, e, hl, ha⟩ := de_of_w l v' c' hw
    refine ⟨w ++ [g], by rw [List.length_append, e]; rfl, fun x hx => ?_, fun p hp => ?_⟩
    · rcases List.mem_append.mp hx with z | z
      · exact hl x z
      · rw [List.mem_singleton] at z; rw [z]; exact hg
    · rw [de_a_app, ha p hp, mo_m_d (by decide) _ _ hp]
      rfl
theorem de_to_w {k : Nat} {gs : Nat → Nat} : ∀ (n : Nat) (w : List Nat), w.length = n → (∀ x, x ∈ w → x < k) → ∃ v c, mo_w 4 k gs n v c ∧ ∀ p, p < 4 → mo_d 4 c p = de_a gs w p
  | 0, w, e, _ => ⟨0, mo_e 4, ⟨rfl, rfl⟩, fun p hp => by rw [List.eq_nil_of_length_eq_zero e, mo_e_d hp]; rfl⟩
  | n + 1, w, e, h => by
    have hne : w ≠ [] := fun z => by rw [z] at e; cases e
    have hw := List.dropLast_concat_getLast hne
    obtain ⟨v, c, h1, h2⟩ := de_to_w n w.dropLast (by rw [List.length_dropLast, e]; rfl) (fun x hx => h x (List.dropLast_subset w hx))
    refine ⟨4 * v + w.getLast hne, mo_m 4 c (gs (w.getLast hne)), ⟨v, c, w.getLast hne, h1, h _ (List.getLast_mem hne), rfl, rfl⟩, fun p hp => ?_⟩
    rw [mo_m_d (by decide) _ _ hp, h2 p hp]
    conv => rhs; rw [← hw]
    rw [de_a_app]
    rfl
theorem de_4 {k : Nat} {gs : Nat → Nat} {c : Nat} (h : mo_M 4 k gs c) : ∃ l v, l ≤ 31 ∧ mo_w 4 k gs l v c := by
  obtain ⟨l0, hl, hmin⟩ := pk_least (fun l => ∃ v, mo_w 4 k gs l v c) h
  obtain ⟨v, hw⟩ := hl
  obtain ⟨w, e, hk, ha⟩ := de_of_w l0 v c hw
  have J := de_mkJ (gs := gs) (k := k) (w := w) hk (fun u hu hp => by
    obtain ⟨v', c', h1, h2⟩ := de_to_w (gs := gs) u.length u rfl hu
    have hc : c' = c := by
      refine mo_ext (n := 4) (by decide) (mo_M_lt (by decide) ⟨_, _, h1⟩) (mo_M_lt (by decide) h) (fun p hp' => ?_)
      rw [h2 p hp', hp p hp', ha p hp']
    subst hc
    rw [e]
    apply Nat.le_of_not_lt
    intro z
    exact hmin _ z ⟨v', h1⟩)
  have := de_l31 J
  exact ⟨l0, v, by omega, hw⟩
/-- few points: no more letters than elements -/
theorem de_small {n k N : Nat} (hn : 0 < n) {gs : Nat → Nat} (hN : n ^ n ≤ N) {c : Nat} (h : mo_M n k gs c) : ∃ l v, l < N ∧ mo_w n k gs l v c := by
  obtain ⟨l0, ⟨v, hw⟩, hmin⟩ := pk_least (fun l => ∃ v, mo_w n k gs l v c) h
  refine ⟨l0, v, ?_, hw⟩
  -- every element on the way has its own least length
  have H : ∀ l v c, mo_w n k gs l v c → (∀ j, j < l → ¬ ∃ v, mo_w n k gs j v c) → ∃ f : Nat → Nat, ∀ i, i ≤ l → f i < n ^ n ∧ (∃ v, mo_w n k gs i v (f i)) ∧ ∀ j, j < i → ¬ ∃ v, mo_w n k gs j v (f i) := by
    intro l
    induction l with
    | zero => exact fun v c hw hm => ⟨fun _ => c, fun i hi => by
        have : i = 0 := by omega
        subst this
        exact ⟨mo_M_lt hn ⟨_, _, hw⟩, ⟨v, hw⟩, fun j hj => by omega⟩⟩
    | succ l ih =>
      intro v c hw hm
      obtain ⟨v', c', g, hw', hg, e1, e2⟩ := id hw
      obtain ⟨f, hf⟩ := ih v' c' hw' (fun j hj hz => by
        obtain ⟨v2, h2⟩ := hz
        exact hm (j + 1) (by omega) ⟨4 * v2 + g, v2, c', g, h2, hg, rfl, e2⟩)
      refine ⟨fun i => if i = l + 1 then c else f i, fun i hi => ?_⟩
      by_cases z : i = l + 1
      · subst z
        dsimp only
        rw [if_pos rfl]
        exact ⟨mo_M_lt hn ⟨_, _, hw⟩, ⟨v, hw⟩, hm⟩
      · dsimp only
        rw [if_neg z]
        exact hf i (by omega)
  obtain ⟨f, hf⟩ := H l0 v c hw hmin
  have := cn_pg (m := l0 + 1) (N := N) f (fun i hi => by have := (hf i (by omega)).1; omega) (fun i j hi hj e => by
    rcases (by omega : i = j ∨ i < j ∨ j < i) with z | z | z
    · exact z
    · exact absurd (e ▸ (hf i (by omega)).2.1) ((hf j (by omega)).2.2 i z)
    · exact absurd (e ▸ (hf j (by omega)).2.1) ((hf i (by omega)).2.2 j z))
  omega
/-- every element has a word of at most 31 letters -/
theorem de_all {n k : Nat} (h2 : 2 ≤ n) (h4 : n ≤ 4) {gs : Nat → Nat} {c : Nat} (h : mo_M n k gs c) : ∃ l v, l ≤ 31 ∧ mo_w n k gs l v c := by
  rcases (by omega : n = 2 ∨ n = 3 ∨ n = 4) with e | e | e <;> subst e
  · obtain ⟨l, v, hl, hw⟩ := de_small (N := 4) (by decide) (by decide) h
    exact ⟨l, v, by omega, hw⟩
  · obtain ⟨l, v, hl, hw⟩ := de_small (N := 27) (by decide) (by decide) h
    exact ⟨l, v, by omega, hw⟩
  · exact de_4 h
end
section
/-! X: codes, images, products -/
section
variable {fm fc fz fu : Int32} {ga nu co be la le ri lf pa rd rg qu : Nat → Int32} {n : Nat}
theorem xw_im10 {post : Int32 → Prop} (h2 : 2 ≤ n) (h4 : n ≤ 4) {p : Nat} : ∀ d c, c < 2 ^ 31 → p + d < 4 → post (nI (c / n ^ d % n)) → wX_imageOf_10 post (nI p) (nI n) fm fc fz fu ga nu co be la le ri lf pa rd rg qu (d + 1) (nI c) (nI (p + d))
  | 0, c, hc, hd, hp => by
    refine br_t (nI_le (by omega) (by omega)) ⟨nI_ne0 (by omega) (by omega), ?_⟩
    rw [pk_rem hc (by omega) (by omega)]
    rw [Nat.pow_zero, Nat.div_one] at hp
    exact hp
  | d + 1, c, hc, hd, hp => by
    refine br_f (nI_ge (by omega) (by omega)) ⟨nI_ne0 (by omega) (by omega), nm_r (pk_div hc (by omega) (by omega)) (nm_r (pk_m1 (p + d)) ?_)⟩
    refine xw_im10 h2 h4 d (c / n) (Nat.lt_of_le_of_lt (Nat.div_le_self _ _) hc) (by omega) ?_
    rw [Nat.div_div_eq_div_mul, ← Nat.pow_add_one']
    exact hp
theorem xw_image {post : Int32 → Prop} (h2 : 2 ≤ n) (h4 : n ≤ 4) {c p : Nat} (hc : c < 2 ^ 31) (hp : p < n) (h : post (nI (mo_d n c p))) : wpX_imageOf post (nI n, fm, fc, fz, fu, ga, nu, co, be, la, le, ri, lf, pa, rd, rg, qu) (nI c) (nI p) := by
  refine nm_r (e' := nI (p + (n - 1 - p))) ?_ ⟨n - 1 - p + 1, xw_im10 h2 h4 (n - 1 - p) c hc (by omega) h⟩
  rw [show p + (n - 1 - p) = n - 1 by omega]
  exact pk_sub (a := n) (b := 1) (by omega)
theorem xw_c5 {post : Int32 → Prop} (h2 : 2 ≤ n) (h4 : n ≤ 4) {f g : Nat} (hf : f < 2 ^ 31) (hg : g < 2 ^ 31) (h : post (nI (mo_m n f g))) : ∀ d p, p + d = n → wX_compose_5 post (nI f) (nI g) (nI n) fm fc fz fu ga nu co be la le ri lf pa rd rg qu (d + 1) (nI (mo_z n (fun p => mo_d n g (mo_d n f p)) p)) (nI p)
  | 0, p, e => by
    have e' : p = n := by omega
    subst e'
    exact br_t (nI_le (by omega) (by omega)) h
  | d + 1, p, e => by
    refine br_f (nI_ge (by omega) (by omega)) ?_
    refine xw_image h2 h4 hf (by omega) (xw_image h2 h4 hg (mo_d_lt (by omega) _ _) ?_)
    refine nm_r (e' := nI (mo_z n (fun p => mo_d n g (mo_d n f p)) (p + 1))) ?_ (nm_r (nI_1 p) (xw_c5 h2 h4 hf hg h d (p + 1) (by omega)))
    rw [pk_mul, nI_add]
    rfl
theorem xw_compose {post : Int32 → Prop} (h2 : 2 ≤ n) (h4 : n ≤ 4) {f g : Nat} (hf : f < 2 ^ 31) (hg : g < 2 ^ 31) (h : post (nI (mo_m n f g))) : wpX_compose post (nI n, fm, fc, fz, fu, ga, nu, co, be, la, le, ri, lf, pa, rd, rg, qu) (nI f) (nI g) :=
  ⟨n + 1, xw_c5 h2 h4 hf hg h n 0 (by omega)⟩
theorem xw_isCode {post : Int32 → Prop} {c : Nat} {fn : Int32} {N : Nat} (hN : N ≤ 256) (hc : c < N) (h : post 1) : wpX_isCode post (fn, nI N, fc, fz, fu, ga, nu, co, be, la, le, ri, lf, pa, rd, rg, qu) (nI c) :=
  br_f (nI_pos (by omega)) (br_f (nI_ge hc (by omega)) h)
/-- a code or none -/
theorem xw_isCode2 {post : Int32 → Prop} {x : Int32} {fn : Int32} {N : Nat} (hN : N ≤ 256) (h0 : (x < 0 ∨ nI N ≤ x) → post 0) (h1 : ∀ c, c < N → x = nI c → post 1) : wpX_isCode post (fn, nI N, fc, fz, fu, ga, nu, co, be, la, le, ri, lf, pa, rd, rg, qu) x := by
  rcases pk_ix x (n := N) (by omega) with h | h | ⟨j, hj, e⟩
  · exact br_t h (h0 (Or.inl h))
  · by_cases z : x < 0
    · exact br_t z (h0 (Or.inl z))
    · exact br_f z (br_t h (h0 (Or.inr h)))
  · subst e
    exact xw_isCode (fn := fn) hN hj (h1 j hj rfl)
end
end
section
/-! Y: codes, images, products, the unit -/
section
variable {gd gc : Int32} {gg th ln ne : Nat → Int32} {wo se : Nat → Int64} {n : Nat}
theorem yw_im5 {post : Int32 → Prop} (h2 : 2 ≤ n) (h4 : n ≤ 4) : ∀ d c p, c < 2 ^ 31 → p + d = n - 1 → post (nI (c / n ^ d % n)) → wY_image_5 post (nI n) gd gc gg th ln wo ne se (d + 1) (nI c) (nI p)
  | 0, c, p, hc, hd, hp => by
    have hs : nI n - 1 = nI (n - 1) := pk_sub (a := n) (b := 1) (by omega)
    refine br_t (by rw [hs]; exact nI_le (by omega) (by omega)) (br_t (nI_le (a := 1) (by omega) (by omega)) ⟨nI_ne0 (by omega) (by omega), ?_⟩)
    rw [pk_rem hc (by omega) (by omega)]
    rw [Nat.pow_zero, Nat.div_one] at hp
    exact hp
  | d + 1, c, p, hc, hd, hp => by
    have hs : nI n - 1 = nI (n - 1) := pk_sub (a := n) (b := 1) (by omega)
    refine br_f (by rw [hs]; exact nI_ge (by omega) (by omega)) (br_t (nI_le (a := 1) (by omega) (by omega)) ⟨nI_ne0 (by omega) (by omega), nm_r (pk_div hc (by omega) (by omega)) (nm_r (nI_1 p) ?_)⟩)
    refine yw_im5 h2 h4 d (c / n) (p + 1) (Nat.lt_of_le_of_lt (Nat.div_le_self _ _) hc) (by omega) ?_
    rw [Nat.div_div_eq_div_mul, ← Nat.pow_add_one']
    exact hp
theorem yw_image {post : Int32 → Prop} (h2 : 2 ≤ n) (h4 : n ≤ 4) {c p : Nat} (hc : c < 2 ^ 31) (hp : p < n) (h : post (nI (mo_d n c p))) : wpY_image post (nI n, gd, gc, gg, th, ln, wo, ne, se) (nI c) (nI p) :=
  ⟨n - 1 - p + 1, yw_im5 h2 h4 (n - 1 - p) c p hc (by omega) h⟩
theorem yw_t5 {post : Int32 → Prop} (h2 : 2 ≤ n) (h4 : n ≤ 4) {f g : Nat} (hf : f < 2 ^ 31) (hg : g < 2 ^ 31) (h : post (nI (mo_m n f g))) : ∀ d p, p + d = n → wY_times_5 post (nI f) (nI g) (nI n) gd gc gg th ln wo ne se (d + 1) (nI (mo_z n (fun p => mo_d n g (mo_d n f p)) p)) (nI p)
  | 0, p, e => by
    have e' : p = n := by omega
    subst e'
    exact br_t (nI_le (by omega) (by omega)) h
  | d + 1, p, e => by
    refine br_f (nI_ge (by omega) (by omega)) ?_
    refine yw_image h2 h4 hf (by omega) (yw_image h2 h4 hg (mo_d_lt (by omega) _ _) ?_)
    refine nm_r (e' := nI (mo_z n (fun p => mo_d n g (mo_d n f p)) (p + 1))) ?_ (nm_r (nI_1 p) (yw_t5 h2 h4 hf hg h d (p + 1) (by omega)))
    rw [pk_mul, nI_add]
    rfl
theorem yw_times {post : Int32 → Prop} (h2 : 2 ≤ n) (h4 : n ≤ 4) {f g : Nat} (hf : f < 2 ^ 31) (hg : g < 2 ^ 31) (h : post (nI (mo_m n f g))) : wpY_times post (nI n, gd, gc, gg, th, ln, wo, ne, se) (nI f) (nI g) :=
  ⟨n + 1, yw_t5 h2 h4 hf hg h n 0 (by omega)⟩
theorem yw_u4 {post : Int32 → Prop} (h4 : n ≤ 4) (h : post (nI (mo_e n))) : ∀ d p, p + d = n → wY_unit_4 post (nI n) gd gc gg th ln wo ne se (d + 1) (nI (mo_z n (fun p => p) p)) (nI p)
  | 0, p, e => by
    have e' : p = n := by omega
    subst e'
    exact br_t (nI_le (by omega) (by omega)) h
  | d + 1, p, e => by
    refine br_f (nI_ge (by omega) (by omega)) ?_
    refine nm_r (e' := nI (mo_z n (fun p => p) (p + 1))) ?_ (nm_r (nI_1 p) (yw_u4 h4 h d (p + 1) (by omega)))
    rw [pk_mul, nI_add]
    rfl
theorem yw_unit {post : Int32 → Prop} (h4 : n ≤ 4) (h : post (nI (mo_e n))) : wpY_unit post (nI n, gd, gc, gg, th, ln, wo, ne, se) :=
  ⟨n + 1, yw_u4 h4 h n 0 (by omega)⟩
theorem yw_bad {post : Int32 → Prop} {c : Nat} {gn : Int32} {N : Nat} (hN : N ≤ 256) (hc : c < N) (h : post 0) : wpY_bad post (gn, nI N, gc, gg, th, ln, wo, ne, se) (nI c) :=
  br_f (nI_pos (by omega)) (br_t (nI_lt hc (by omega)) h)
theorem yw_bad0 {post : Int32 → Prop} {x : Int32} {gn : Int32} {N : Nat} (hx : x < 0 ∨ nI N ≤ x) (h : post 1) : wpY_bad post (gn, nI N, gc, gg, th, ln, wo, ne, se) x := by
  by_cases z : x < 0
  · exact br_t z h
  · rcases hx with y | y
    · exact absurd y z
    · exact br_f z (br_f (Int32.not_lt.mpr y) h)
end
end
section
/-! X's search: the tables as they grow -/
def bf_u (f : Nat → Nat) (k x : Nat) : Nat → Nat := fun j => if j = k then x else f j
theorem bf_us {f : Nat → Nat} {k x : Nat} : bf_u f k x k = x := if_pos rfl
theorem bf_un {f : Nat → Nat} {k x j : Nat} (h : j ≠ k) : bf_u f k x j = f j := if_neg h
theorem bf_m1 {i : Nat} (h : i < 2 ^ 31) : nI i ≠ -1 := fun e => by
  have a := nI_pos h
  rw [e] at a
  exact a (by decide)
theorem bf_N {n : Nat} (h2 : 2 ≤ n) (h4 : n ≤ 4) : n ^ n ≤ 256 := by
  rcases (by omega : n = 2 ∨ n = 3 ∨ n = 4) with e | e | e <;> subst e <;> decide
/-- s elements cd i, element i > 0 entered at place pf i = 4 * before + last -/
def bf_E (n k : Nat) (gs : Nat → Nat) (s : Nat) (cd pf L : Nat → Nat) (nu co be la le : Nat → Int32) : Prop :=
  (0 < s ∧ s ≤ n ^ n) ∧ (cd 0 = mo_e n ∧ L 0 = 0) ∧
  (∀ i, i < s → cd i < n ^ n ∧ nu (cd i) = nI i ∧ co i = nI (cd i) ∧ le i = nI (L i)) ∧
  (∀ c, c < n ^ n → nu c = -1 ∨ ∃ i, i < s ∧ cd i = c) ∧
  (∀ i, 0 < i → i < s → pf i / 4 < i ∧ pf i % 4 < k ∧ cd i = mo_m n (cd (pf i / 4)) (gs (pf i % 4)) ∧ be i = nI (pf i / 4) ∧ la i = nI (pf i % 4) ∧ L i = L (pf i / 4) + 1) ∧
  (∀ i j, 0 < i → i < j → j < s → pf i < pf j)
/-- the places below q are worked -/
def bf_R (n k : Nat) (gs : Nat → Nat) (q s : Nat) (cd pf R : Nat → Nat) (ri : Nat → Int32) : Prop :=
  ∀ x, x < q → x % 4 < k → ri x = nI (R x) ∧ R x < s ∧ cd (R x) = mo_m n (cd (x / 4)) (gs (x % 4)) ∧ (R x = 0 ∨ pf (R x) ≤ x)
def bf_I (n k : Nat) (gs : Nat → Nat) (q s : Nat) (cd pf L R : Nat → Nat) (nu co be la le ri : Nat → Int32) : Prop :=
  bf_E n k gs s cd pf L nu co be la le ∧ bf_R n k gs q s cd pf R ri ∧ ∀ i, 0 < i → i < s → pf i < q
section
variable {n k : Nat} {gs : Nat → Nat} {q s : Nat} {cd pf L R : Nat → Nat} {nu co be la le ri : Nat → Int32}
theorem bf_inj (h2 : 2 ≤ n) (h4 : n ≤ 4) (E : bf_E n k gs s cd pf L nu co be la le) {i j : Nat} (hi : i < s) (hj : j < s) (e : cd i = cd j) : i = j := by
  have hN := bf_N h2 h4
  have hs := E.1.2
  have a := (E.2.2.1 i hi).2.1
  have b := (E.2.2.1 j hj).2.1
  rw [e] at a
  exact (nI_eq (by omega) (by omega)).mp (a.symm.trans b)
theorem bf_room (h2 : 2 ≤ n) (h4 : n ≤ 4) (E : bf_E n k gs s cd pf L nu co be la le) {c : Nat} (hc : c < n ^ n) (hn : nu c = -1) : s + 1 ≤ n ^ n := by
  have hN := bf_N h2 h4
  have hs := E.1.2
  have hne : ∀ i, i < s → cd i ≠ c := by
    intro i hi e
    have a := (E.2.2.1 i hi).2.1
    rw [e, hn] at a
    exact bf_m1 (i := i) (by omega) a.symm
  refine cn_pg (bf_u cd s c) (fun i hi => ?_) (fun i j hi hj e => ?_)
  · by_cases z : i = s
    · rw [z, bf_us]; exact hc
    · rw [bf_un z]; exact (E.2.2.1 i (by omega)).1
  · by_cases z : i = s
    · by_cases y : j = s
      · omega
      · rw [z, bf_us, bf_un y] at e
        exact absurd e.symm (hne j (by omega))
    · by_cases y : j = s
      · rw [y, bf_us, bf_un z] at e
        exact absurd e (hne i (by omega))
      · rw [bf_un z, bf_un y] at e
        exact bf_inj h2 h4 E (by omega) (by omega) e
theorem bf_new (h2 : 2 ≤ n) (h4 : n ≤ 4) (hk : k ≤ 4) (I : bf_I n k gs q s cd pf L R nu co be la le ri) {a g c : Nat} (hq : q = 4 * a + g) (ha : a < s) (hg : g < k) (hc : c = mo_m n (cd a) (gs g)) (hn : nu c = -1) :
    bf_I n k gs (q + 1) (s + 1) (bf_u cd s c) (bf_u pf s q) (bf_u L s (L a + 1)) (bf_u R q s) (upd nu c (nI s)) (upd co s (nI c)) (upd be s (nI a)) (upd la s (nI g)) (upd le s (nI (L a + 1))) (upd ri q (nI s)) := by
  obtain ⟨E, HR, HF⟩ := I
  have hN := bf_N h2 h4
  have hcl : c < n ^ n := by rw [hc]; exact mo_m_lt (by omega) _ _
  have room := bf_room h2 h4 E hcl hn
  have hne : ∀ i, i < s → cd i ≠ c := by
    intro i hi e
    have a := (E.2.2.1 i hi).2.1
    rw [e, hn] at a
    exact bf_m1 (i := i) (by omega) a.symm
  obtain ⟨⟨hs, hs2⟩, ⟨h0, hL⟩, hE, hC, hP, hM⟩ := E
  have q4 : q / 4 = a := by omega
  have qm : q % 4 = g := by omega
  refine ⟨⟨⟨by omega, room⟩, ⟨?_, ?_⟩, ?_, ?_, ?_, ?_⟩, ?_, ?_⟩
  · rw [bf_un (by omega)]; exact h0
  · rw [bf_un (by omega)]; exact hL
  · intro i hi
    by_cases z : i = s
    · subst z
      rw [bf_us, bf_us, pk_us, pk_us, pk_us]
      exact ⟨hcl, rfl, rfl, rfl⟩
    · obtain ⟨e1, e2, e3, e4⟩ := hE i (by omega)
      rw [bf_un z, bf_un z, pk_un (hne i (by omega)), pk_un z, pk_un z]
      exact ⟨e1, e2, e3, e4⟩
  · intro c' hc'
    by_cases z : c' = c
    · exact Or.inr ⟨s, by omega, by rw [bf_us, z]⟩
    · rw [pk_un z]
      rcases hC c' hc' with y | ⟨i, hi, e⟩
      · exact Or.inl y
      · exact Or.inr ⟨i, by omega, by rw [bf_un (by omega)]; exact e⟩
  · intro i hi0 hi
    by_cases z : i = s
    · subst z
      rw [bf_us, bf_us, bf_us, pk_us, pk_us, q4, qm, bf_un (show a ≠ i by omega), bf_un (show a ≠ i by omega)]
      exact ⟨ha, hg, hc, rfl, rfl, rfl⟩
    · obtain ⟨e1, e2, e3, e4, e5, e6⟩ := hP i hi0 (by omega)
      rw [bf_un z, bf_un z, bf_un z, pk_un z, pk_un z, bf_un (show pf i / 4 ≠ s by omega), bf_un (show pf i / 4 ≠ s by omega)]
      exact ⟨e1, e2, e3, e4, e5, e6⟩
  · intro i j hi0 hij hj
    by_cases z : j = s
    · rw [z, bf_us, bf_un (by omega)]
      exact HF i hi0 (by omega)
    · rw [bf_un z, bf_un (by omega)]
      exact hM i j hi0 hij (by omega)
  · intro x hx hxk
    by_cases z : x = q
    · subst z
      rw [bf_us, pk_us, bf_us, bf_us, q4, qm, bf_un (by omega)]
      exact ⟨rfl, by omega, hc, Or.inr (Nat.le_refl _)⟩
    · obtain ⟨e1, e2, e3, e4⟩ := HR x (by omega) hxk
      rw [bf_un z, pk_un z, bf_un (show R x ≠ s by omega), bf_un (show R x ≠ s by omega), bf_un (show x / 4 ≠ s by omega)]
      exact ⟨e1, by omega, e3, e4⟩
  · intro i hi0 hi
    by_cases z : i = s
    · rw [z, bf_us]; omega
    · rw [bf_un z]
      have := HF i hi0 (by omega)
      omega
theorem bf_old (h2 : 2 ≤ n) (h4 : n ≤ 4) (hk : k ≤ 4) (I : bf_I n k gs q s cd pf L R nu co be la le ri) {a g c : Nat} (hq : q = 4 * a + g) (ha : a < s) (hg : g < k) (hc : c = mo_m n (cd a) (gs g)) (hn : nu c ≠ -1) :
    ∃ i, i < s ∧ nu c = nI i ∧ bf_I n k gs (q + 1) s cd pf L (bf_u R q i) nu co be la le (upd ri q (nI i)) := by
  obtain ⟨E, HR, HF⟩ := I
  have hcl : c < n ^ n := by rw [hc]; exact mo_m_lt (by omega) _ _
  rcases E.2.2.2.1 c hcl with z | ⟨i, hi, e⟩
  · exact absurd z hn
  · refine ⟨i, hi, by rw [← e]; exact (E.2.2.1 i hi).2.1, E, ?_, fun j hj0 hj => by have := HF j hj0 hj; omega⟩
    intro x hx hxk
    by_cases z : x = q
    · subst z
      rw [bf_us, pk_us, show x / 4 = a by omega, show x % 4 = g by omega]
      refine ⟨rfl, hi, e.trans hc, ?_⟩
      by_cases y : i = 0
      · exact Or.inl y
      · exact Or.inr (by have := HF i (by omega) hi; omega)
    · rw [bf_un z, pk_un z]
      exact HR x (by omega) hxk
theorem bf_row (I : bf_I n k gs q s cd pf L R nu co be la le ri) {a : Nat} (hq : q = 4 * a + k) (hk : k ≤ 4) : bf_I n k gs (4 * (a + 1)) s cd pf L R nu co be la le ri := by
  obtain ⟨E, HR, HF⟩ := I
  refine ⟨E, fun x hx hxk => HR x (by omega) hxk, fun i hi0 hi => ?_⟩
  have := HF i hi0 hi
  omega
/-- the first element -/
theorem bf_0 {nu co be la le ri : Nat → Int32} {x y : Int32} (h : ∀ c, c < n ^ n → nu c = -1) (hn : 0 < n) : bf_I n k gs 0 1 (fun _ => mo_e n) (fun _ => 0) (fun _ => 0) (fun _ => 0) (upd nu (mo_e n) (nI 0)) (upd co 0 (nI (mo_e n))) (upd be 0 x) (upd la 0 y) (upd le 0 (nI 0)) ri := by
  refine ⟨⟨⟨by omega, by have := mo_e_lt (n := n); omega⟩, ⟨rfl, rfl⟩, ?_, ?_, ?_, ?_⟩, ?_, ?_⟩
  · intro i hi
    have z : i = 0 := by omega
    subst z
    exact ⟨mo_e_lt, pk_us, pk_us, pk_us⟩
  · intro c hc
    by_cases z : c = mo_e n
    · exact Or.inr ⟨0, by omega, z.symm⟩
    · rw [pk_un z]; exact Or.inl (h c hc)
  · intro i h0 h1; omega
  · intro i j h0 h1 h2; omega
  · intro x hx; omega
  · intro i h0 h1; omega
end
/-- the finished tables -/
def bf_X (n k : Nat) (gs : Nat → Nat) (s : Nat) (cd pf L R Q : Nat → Nat) (nu co be la le ri lf : Nat → Int32) : Prop :=
  bf_E n k gs s cd pf L nu co be la le ∧ bf_R n k gs (4 * s) s cd pf R ri ∧ ∀ x, x < 4 * s → x % 4 < k → lf x = nI (Q x) ∧ Q x < s ∧ cd (Q x) = mo_m n (gs (x % 4)) (cd (x / 4))
end
section
/-! X: refresh -/
theorem bf_ix (a g : Nat) : (4 : Int32) * nI a + nI g = nI (4 * a + g) := by
  show nI 4 * nI a + nI g = _
  rw [pk_mul, nI_add]
section
variable {fn fm fc fz fu : Int32} {ga nu co be la le ri lf pa rd rg qu : Nat → Int32}
theorem xw_enter {post : SX → Prop} {c s a : Nat} {x : Int32} (hc : c < 256) (hs : s < 256) (ha : a < 256) (h : post (fn, fm, fc, nI (s + 1), fu, ga, upd nu c (nI s), upd co s (nI c), upd be s (nI a), upd la s x, upd le s (le a + 1), ri, lf, pa, rd, rg, qu)) : wpX_enter post (fn, fm, fc, nI s, fu, ga, nu, co, be, la, le, ri, lf, pa, rd, rg, qu) (nI c) (nI a) x := by
  have cs := nI_clamp (n := s) (by omega)
  have cc := nI_clamp (n := c) (by omega)
  have ca := nI_clamp (n := a) (by omega)
  unfold wpX_enter
  dsimp only
  rw [cs, cc, ca]
  refine ⟨vp_in_nI hc (by omega), nm_e ⟨vp_in_nI hs (by omega), nm_e ⟨vp_in_nI hs (by omega), nm_e ⟨vp_in_nI hs (by omega), nm_e (br_f (bf_m1 (by omega)) ⟨vp_in_nI ha (by omega), ?_⟩)⟩⟩⟩⟩
  unfold wX_enter_65
  rw [cs]
  exact ⟨vp_in_nI hs (by omega), nm_e (nm_r (nI_1 s) h)⟩
theorem xw_enter0 {post : SX → Prop} {c : Nat} (hc : c < 256) (h : post (fn, fm, fc, nI 1, fu, ga, upd nu c (nI 0), upd co 0 (nI c), upd be 0 (-1), upd la 0 (-1), upd le 0 (nI 0), ri, lf, pa, rd, rg, qu)) : wpX_enter post (fn, fm, fc, 0, fu, ga, nu, co, be, la, le, ri, lf, pa, rd, rg, qu) (nI c) (-1) (-1) := by
  have cs := nI_clamp (n := 0) (by omega)
  have cc := nI_clamp (n := c) (by omega)
  rw [show (0 : Int32) = nI 0 from rfl]
  unfold wpX_enter
  dsimp only
  rw [cs, cc]
  refine ⟨vp_in_nI hc (by omega), nm_e ⟨vp_in_nI (by omega) (by omega), nm_e ⟨vp_in_nI (by omega) (by omega), nm_e ⟨vp_in_nI (by omega) (by omega), nm_e (br_t rfl ?_)⟩⟩⟩⟩
  unfold wX_enter_65
  rw [cs]
  exact ⟨vp_in_nI (by omega) (by omega), nm_e (nm_r (nI_1 0) h)⟩
theorem xw_leftOf {post : Int32 → Prop} {a b g h t : Nat} (ha : a < 256) (hb : b < 256) (ht : t < 256) (hg : g < 4) (hh : h < 4) (eb : be a = nI b) (eh : la a = nI h) (et : lf (4 * b + g) = nI t) (hp : post (ri (4 * t + h))) : wpX_leftOf post (fn, fm, fc, fz, fu, ga, nu, co, be, la, le, ri, lf, pa, rd, rg, qu) (nI a) (nI g) := by
  unfold wpX_leftOf
  dsimp only
  rw [nI_clamp (n := a) (by omega), eb, eh, bf_ix, nI_clamp (n := 4 * b + g) (by omega), et]
  refine ⟨vp_in_nI ha (by omega), vp_in_nI (by omega) (by omega), nm_e ⟨vp_in_nI ha (by omega), ?_⟩⟩
  rw [bf_ix, nI_clamp (n := 4 * t + h) (by omega)]
  exact ⟨vp_in_nI (by omega) (by omega), hp⟩
end
section
variable {n k s : Nat} {gs cd pf L R : Nat → Nat} {ga nu co be la le ri pa rd rg qu : Nat → Int32}
def bf_Q (n k : Nat) (gs : Nat → Nat) (q s : Nat) (cd Q : Nat → Nat) (lf : Nat → Int32) : Prop :=
  ∀ x, x < q → x % 4 < k → lf x = nI (Q x) ∧ Q x < s ∧ cd (Q x) = mo_m n (gs (x % 4)) (cd (x / 4))
theorem bf_Qs {q y t : Nat} {Q : Nat → Nat} {lf : Nat → Int32} (h : bf_Q n k gs q s cd Q lf) (ht : t < s) (e : cd t = mo_m n (gs (q % 4)) (cd (q / 4))) : bf_Q n k gs (q + 1) s cd (bf_u Q q t) (upd lf q (nI t)) := by
  intro x hx hk
  by_cases z : x = q
  · subst z
    rw [bf_us, pk_us]
    exact ⟨rfl, ht, e⟩
  · rw [bf_un z, pk_un z]
    exact h x (by omega) hk
theorem xw_r180 {post : SX → Prop} (h2 : 2 ≤ n) (h4 : n ≤ 4) (hk : k ≤ 4) (hg : ∀ g, g < k → gs g < n ^ n) (E : bf_E n k gs s cd pf L nu co be la le) (HR : bf_R n k gs (4 * s) s cd pf R ri) {a : Nat} (ha : a < s) {J : Int32 → (Nat → Int32) → (Nat → Int32) → (Nat → Int32) → (Nat → Int32) → (Nat → Int32) → (Nat → Int32) → (Nat → Int32) → (Nat → Int32) → (Nat → Int32) → (Nat → Int32) → (Nat → Int32) → (Nat → Int32) → Prop}
    (hJ : ∀ lf Q, bf_Q n k gs (4 * (a + 1)) s cd Q lf → J (nI (a + 1)) ga nu co be la le ri lf pa rd rg qu) : ∀ d g lf Q, g + d = k → bf_Q n k gs (4 * a + g) s cd Q lf → wX_refresh_180 post J (nI a) (nI n) (nI (n ^ n)) (nI k) (nI s) 1 (d + 1) (nI g) ga nu co be la le ri lf pa rd rg qu
  | 0, g, lf, Q, e, h => by
    refine br_t (nI_le (by omega) (by omega)) (nm_r (nI_1 a) (hJ lf Q (fun x hx hxk => h x (by omega) hxk)))
  | d + 1, g, lf, Q, e, h => by
    have hN := bf_N h2 h4
    have hs := E.1.2
    have q4 : (4 * a + g) / 4 = a := by omega
    have qm : (4 * a + g) % 4 = g := by omega
    refine br_f (nI_ge (by omega) (by omega)) (br_c (fun z => ?_) (fun z => ?_))
    · have a0 : a = 0 := (nI_eq (by omega) (by omega)).mp z
      obtain ⟨e1, e2, e3, _⟩ := HR (4 * a + g) (by omega) (by omega)
      rw [bf_ix, nI_clamp (n := 4 * a + g) (by omega), nI_clamp (n := g) (by omega)]
      refine ⟨vp_in_nI (by omega) (by omega), vp_in_nI (by omega) (by omega), nm_r (e' := upd lf (4 * a + g) (nI (R (4 * a + g)))) (by rw [← e1, a0, show 4 * 0 + g = g by omega]) (nm_r (nI_1 g) ?_)⟩
      refine xw_r180 h2 h4 hk hg E HR ha hJ d (g + 1) _ _ (by omega) (bf_Qs (q := 4 * a + g) (y := 0) h e2 ?_)
      rw [e3, q4, qm, a0, E.2.1.1, mo_em (by omega) (hg g (by omega)), mo_me (by omega) (hg g (by omega))]
    · have a0 : 0 < a := by
        rcases Nat.eq_zero_or_pos a with y | y
        · exact absurd (by rw [y]; rfl) z
        · exact y
      obtain ⟨p1, p2, p3, p4, p5, p6⟩ := E.2.2.2.2.1 a a0 ha
      obtain ⟨f1, f2, f3⟩ := h (4 * (pf a / 4) + g) (by omega) (by omega)
      obtain ⟨e1, e2, e3, _⟩ := HR (4 * Q (4 * (pf a / 4) + g) + pf a % 4) (by omega) (by omega)
      refine xw_leftOf (t := Q (4 * (pf a / 4) + g)) (b := pf a / 4) (h := pf a % 4) (by omega) (by omega) (by omega) (by omega) (by omega) p4 p5 f1 ?_
      rw [bf_ix, nI_clamp (n := 4 * a + g) (by omega), e1]
      refine ⟨vp_in_nI (by omega) (by omega), nm_e (nm_r (nI_1 g) ?_)⟩
      refine xw_r180 h2 h4 hk hg E HR ha hJ d (g + 1) _ _ (by omega) (bf_Qs (q := 4 * a + g) (y := 0) h e2 ?_)
      rw [e3, q4, qm, show (4 * Q (4 * (pf a / 4) + g) + pf a % 4) / 4 = Q (4 * (pf a / 4) + g) by omega, show (4 * Q (4 * (pf a / 4) + g) + pf a % 4) % 4 = pf a % 4 by omega, f3, show (4 * (pf a / 4) + g) / 4 = pf a / 4 by omega, show (4 * (pf a / 4) + g) % 4 = g by omega, mo_as (by omega), ← p3]
theorem xw_r170 {post : SX → Prop} (h2 : 2 ≤ n) (h4 : n ≤ 4) (hk : k ≤ 4) (hg : ∀ g, g < k → gs g < n ^ n) (E : bf_E n k gs s cd pf L nu co be la le) (HR : bf_R n k gs (4 * s) s cd pf R ri)
    (hp : ∀ lf Q, bf_Q n k gs (4 * s) s cd Q lf → post (nI n, nI (n ^ n), nI k, nI s, 1, ga, nu, co, be, la, le, ri, lf, pa, rd, rg, qu)) : ∀ d a lf Q, a + d = s → bf_Q n k gs (4 * a) s cd Q lf → wX_refresh_170 post (nI n) (nI (n ^ n)) (nI k) (nI s) 1 (d + 1) (nI a) ga nu co be la le ri lf pa rd rg qu
  | 0, a, lf, Q, e, h => by
    have hN := bf_N h2 h4
    have hs := E.1.2
    have e' : a = s := by omega
    subst e'
    exact br_t (nI_le (by omega) (by omega)) (hp lf Q h)
  | d + 1, a, lf, Q, e, h => by
    have hN := bf_N h2 h4
    have hs := E.1.2
    exact br_f (nI_ge (by omega) (by omega)) ⟨k + 1, xw_r180 h2 h4 hk hg E HR (by omega) (fun lf Q h => xw_r170 h2 h4 hk hg E HR hp d (a + 1) lf Q (by omega) h) k 0 lf Q (by omega) h⟩
end
section
variable {n k : Nat} {gs : Nat → Nat} {ga pa rd rg qu lf : Nat → Int32}
theorem xw_r94 {post : SX → Prop} (h2 : 2 ≤ n) (h4 : n ≤ 4) (hk : k ≤ 4) (hg : ∀ g, g < k → gs g < n ^ n ∧ ga g = nI (gs g)) {a : Nat} {J : Int32 → Int32 → Int32 → Int32 → Int32 → Int32 → (Nat → Int32) → (Nat → Int32) → (Nat → Int32) → (Nat → Int32) → (Nat → Int32) → (Nat → Int32) → (Nat → Int32) → (Nat → Int32) → (Nat → Int32) → (Nat → Int32) → (Nat → Int32) → (Nat → Int32) → Prop}
    (hJ : ∀ s cd pf L R nu co be la le ri, a < s → bf_I n k gs (4 * (a + 1)) s cd pf L R nu co be la le ri → J (nI (a + 1)) (nI n) (nI (n ^ n)) (nI k) (nI s) 1 ga nu co be la le ri lf pa rd rg qu) : ∀ d g s cd pf L R nu co be la le ri, g + d = k → a < s → bf_I n k gs (4 * a + g) s cd pf L R nu co be la le ri → wX_refresh_94 post J (nI a) (d + 1) (nI g) (nI n) (nI (n ^ n)) (nI k) (nI s) 1 ga nu co be la le ri lf pa rd rg qu
  | 0, g, s, cd, pf, L, R, nu, co, be, la, le, ri, e, ha, I => by
    refine br_t (nI_le (by omega) (by omega)) (nm_r (nI_1 a) (hJ s cd pf L R nu co be la le ri ha (bf_row I (by omega) hk)))
  | d + 1, g, s, cd, pf, L, R, nu, co, be, la, le, ri, e, ha, I => by
    have hN := bf_N h2 h4
    have hs := I.1.1.2
    obtain ⟨c1, c2, c3, c4⟩ := I.1.2.2.1 a ha
    obtain ⟨g1, g2⟩ := hg g (by omega)
    have hm : mo_m n (cd a) (gs g) < n ^ n := mo_m_lt (by omega) _ _
    refine br_f (nI_ge (by omega) (by omega)) ?_
    rw [nI_clamp (n := a) (by omega), nI_clamp (n := g) (by omega), c3, g2]
    refine ⟨vp_in_nI (by omega) (by omega), vp_in_nI (by omega) (by omega), xw_compose h2 h4 (by omega) (by omega) ?_⟩
    rw [nI_clamp (n := mo_m n (cd a) (gs g)) (by omega)]
    refine ⟨vp_in_nI (by omega) (by omega), br_c (fun z => ?_) (fun z => ?_)⟩
    · have room := bf_room h2 h4 I.1 hm z
      refine xw_enter (by omega) (by omega) (by omega) ?_
      show wX_refresh_139 post J _ (nI a) (nI g) (nI (mo_m n (cd a) (gs g))) _ _ _ _ _ _ _ _ _ _ _ _ _ _ _ _ _
      unfold wX_refresh_139
      rw [bf_ix, nI_clamp (n := 4 * a + g) (by omega), nI_clamp (n := mo_m n (cd a) (gs g)) (by omega), pk_us, c4, nI_1 (L a)]
      exact ⟨vp_in_nI (by omega) (by omega), vp_in_nI (by omega) (by omega), nm_e (nm_r (nI_1 g) (xw_r94 h2 h4 hk hg hJ d (g + 1) (s + 1) _ _ _ _ _ _ _ _ _ _ (by omega) (by omega) (bf_new h2 h4 hk I rfl ha (by omega) rfl z)))⟩
    · obtain ⟨i, hi, ei, I'⟩ := bf_old h2 h4 hk I rfl ha (by omega) rfl z
      unfold wX_refresh_139
      rw [bf_ix, nI_clamp (n := 4 * a + g) (by omega), nI_clamp (n := mo_m n (cd a) (gs g)) (by omega), ei]
      exact ⟨vp_in_nI (by omega) (by omega), vp_in_nI (by omega) (by omega), nm_e (nm_r (nI_1 g) (xw_r94 h2 h4 hk hg hJ d (g + 1) s _ _ _ _ _ _ _ _ _ _ (by omega) ha I'))⟩
end
section
variable {n k : Nat} {gs : Nat → Nat} {ga pa rd rg qu lf : Nat → Int32}
theorem xw_r77 {post : SX → Prop} (h2 : 2 ≤ n) (h4 : n ≤ 4) (hk : k ≤ 4) (hg : ∀ g, g < k → gs g < n ^ n ∧ ga g = nI (gs g))
    (hp : ∀ s cd pf L R Q nu co be la le ri lf, bf_X n k gs s cd pf L R Q nu co be la le ri lf → post (nI n, nI (n ^ n), nI k, nI s, 1, ga, nu, co, be, la, le, ri, lf, pa, rd, rg, qu)) : ∀ d a s cd pf L R nu co be la le ri, a + d = 256 → a ≤ s → bf_I n k gs (4 * a) s cd pf L R nu co be la le ri → wX_refresh_77 post (d + 1) (nI a) (nI n) (nI (n ^ n)) (nI k) (nI s) 1 ga nu co be la le ri lf pa rd rg qu := by
  have hN := bf_N h2 h4
  have hend : ∀ s cd pf L R nu co be la le ri, bf_I n k gs (4 * s) s cd pf L R nu co be la le ri → ∃ n170, wX_refresh_170 post (nI n) (nI (n ^ n)) (nI k) (nI s) 1 n170 (nI 0) ga nu co be la le ri lf pa rd rg qu := by
    intro s cd pf L R nu co be la le ri I
    exact ⟨s + 1, xw_r170 h2 h4 hk (fun g h => (hg g h).1) I.1 I.2.1 (fun lf Q h => hp s cd pf L R Q nu co be la le ri lf ⟨I.1, I.2.1, h⟩) s 0 lf (fun _ => 0) (by omega) (fun x hx => by omega)⟩
  intro d
  induction d with
  | zero =>
    intro a s cd pf L R nu co be la le ri e has I
    have hs := I.1.1.2
    have e' : a = s := by omega
    subst e'
    exact br_t (nI_le (a := 256) (by omega) (by omega)) (hend a cd pf L R nu co be la le ri I)
  | succ d ih =>
    intro a s cd pf L R nu co be la le ri e has I
    have hs := I.1.1.2
    refine br_f (nI_ge (b := 256) (by omega) (by omega)) (br_c (fun z => ?_) (fun z => ?_))
    · have e' : s ≤ a := (nI_leI (by omega) (by omega)).mp z
      have e' : a = s := by omega
      subst e'
      exact hend a cd pf L R nu co be la le ri I
    · have e' : ¬ s ≤ a := fun y => z ((nI_leI (by omega) (by omega)).mpr y)
      refine ⟨k + 1, xw_r94 h2 h4 hk hg (fun s' cd pf L R nu co be la le ri hs' I' => ?_) k 0 s cd pf L R nu co be la le ri (by omega) (by omega) I⟩
      exact ih (a + 1) s' cd pf L R nu co be la le ri (by omega) hs' I'
theorem xw_r40 {post : SX → Prop} (h2 : 2 ≤ n) (h4 : n ≤ 4) (hk : k ≤ 4) (hg : ∀ g, g < k → gs g < n ^ n ∧ ga g = nI (gs g)) {fz : Int32} {nu co be la le ri : Nat → Int32} (hn : ∀ c, c < n ^ n → nu c = -1)
    (hp : ∀ s cd pf L R Q nu co be la le ri lf, bf_X n k gs s cd pf L R Q nu co be la le ri lf → post (nI n, nI (n ^ n), nI k, nI s, 1, ga, nu, co, be, la, le, ri, lf, pa, rd, rg, qu)) : ∀ d p, p + d = n → wX_refresh_40 post (nI n) (nI (n ^ n)) (nI k) fz 1 ga nu co be la le ri lf pa rd rg qu (d + 1) (nI (mo_z n (fun p => p) p)) (nI p)
  | 0, p, e => by
    have hN := bf_N h2 h4
    have he := mo_e_lt (n := n)
    have e' : p = n := by omega
    subst e'
    refine br_t (nI_le (by omega) (by omega)) (xw_enter0 (c := mo_e p) (by omega) ?_)
    exact ⟨257, xw_r77 h2 h4 hk hg hp 256 0 1 _ _ _ _ _ _ _ _ _ ri (by omega) (by omega) (bf_0 hn (by omega))⟩
  | d + 1, p, e => by
    refine br_f (nI_ge (by omega) (by omega)) ?_
    refine nm_r (e' := nI (mo_z n (fun p => p) (p + 1))) ?_ (nm_r (nI_1 p) (xw_r40 h2 h4 hk hg hn hp d (p + 1) (by omega)))
    rw [pk_mul, nI_add]
    rfl
theorem xw_r15 {post : SX → Prop} (h2 : 2 ≤ n) (h4 : n ≤ 4) (hk : k ≤ 4) (hg : ∀ g, g < k → gs g < n ^ n ∧ ga g = nI (gs g)) {fz : Int32} {co be la le ri : Nat → Int32}
    (hp : ∀ s cd pf L R Q nu co be la le ri lf, bf_X n k gs s cd pf L R Q nu co be la le ri lf → post (nI n, nI (n ^ n), nI k, nI s, 1, ga, nu, co, be, la, le, ri, lf, pa, rd, rg, qu)) : ∀ d c nu, c + d = n ^ n → (∀ c', c' < c → nu c' = -1) → wX_refresh_15 post (nI n) (nI (n ^ n)) (nI k) fz 1 (d + 1) (nI c) ga nu co be la le ri lf pa rd rg qu
  | 0, c, nu, e, hn => by
    have hN := bf_N h2 h4
    exact br_t (nI_le (by omega) (by omega)) ⟨n + 1, xw_r40 h2 h4 hk hg (fun c' h => hn c' (by omega)) hp n 0 (by omega)⟩
  | d + 1, c, nu, e, hn => by
    have hN := bf_N h2 h4
    refine br_f (nI_ge (by omega) (by omega)) ⟨vp_in_nI (by omega) (by omega), nm_r (e' := upd nu c (-1)) (by rw [nI_clamp (by omega)]) (nm_r (nI_1 c) ?_)⟩
    refine xw_r15 h2 h4 hk hg hp d (c + 1) _ (by omega) (fun c' h => ?_)
    by_cases z : c' = c
    · rw [z, pk_us]
    · rw [pk_un z]; exact hn c' (by omega)
/-- refresh: the tables stand, whatever stood before -/
theorem xw_refresh {post : SX → Prop} (h2 : 2 ≤ n) (h4 : n ≤ 4) (hk : k ≤ 4) (hg : ∀ g, g < k → gs g < n ^ n ∧ ga g = nI (gs g)) {fz fu : Int32} {nu co be la le ri : Nat → Int32}
    (hc : fu ≠ 0 → fu = 1 ∧ ∃ s cd pf L R Q, fz = nI s ∧ bf_X n k gs s cd pf L R Q nu co be la le ri lf)
    (hp : ∀ s cd pf L R Q nu co be la le ri lf, bf_X n k gs s cd pf L R Q nu co be la le ri lf → post (nI n, nI (n ^ n), nI k, nI s, 1, ga, nu, co, be, la, le, ri, lf, pa, rd, rg, qu)) : wpX_refresh post (nI n, nI (n ^ n), nI k, fz, fu, ga, nu, co, be, la, le, ri, lf, pa, rd, rg, qu) := by
  refine br_c (fun z => ?_) (fun z => ?_)
  · exact ⟨n ^ n + 1, xw_r15 h2 h4 hk hg hp (n ^ n) 0 nu (by omega) (fun c' h => by omega)⟩
  · obtain ⟨e, s, cd, pf, L, R, Q, e2, X⟩ := hc z
    subst e e2
    exact hp s cd pf L R Q nu co be la le ri lf X
end
end
section
/-! the least word of an element: by length, then by its numbers -/
def mo_B (n k : Nat) (gs : Nat → Nat) (c l v : Nat) : Prop := mo_w n k gs l v c ∧ ∀ l' v', mo_w n k gs l' v' c → l < l' ∨ (l = l' ∧ v ≤ v')
section
variable {n k : Nat} {gs : Nat → Nat}
theorem mo_Bu {c l v l' v' : Nat} (h : mo_B n k gs c l v) (h' : mo_B n k gs c l' v') : l = l' ∧ v = v' := by
  have a := h.2 l' v' h'.1
  have b := h'.2 l v h.1
  omega
theorem mo_BM {c l v : Nat} (h : mo_B n k gs c l v) : mo_M n k gs c := ⟨l, v, h.1⟩
theorem mo_Bex {c : Nat} (h : mo_M n k gs c) : ∃ l v, mo_B n k gs c l v := by
  obtain ⟨l, hl, hm⟩ := pk_least (fun l => ∃ v, mo_w n k gs l v c) h
  obtain ⟨v, hv, hm2⟩ := pk_least (fun v => mo_w n k gs l v c) hl
  refine ⟨l, v, hv, fun l' v' hw => ?_⟩
  have a : ¬ l' < l := fun z => hm l' z ⟨v', hw⟩
  by_cases e : l = l'
  · subst e
    have b : ¬ v' < v := fun z => hm2 v' z hw
    exact Or.inr ⟨rfl, by omega⟩
  · exact Or.inl (by omega)
theorem mo_w_lt (hk : k ≤ 4) : ∀ l v c, mo_w n k gs l v c → v < 4 ^ l
  | 0, v, c, h => by rw [h.1]; decide
  | l + 1, v, c, h => by
    obtain ⟨v', c', g, hw, hg, e, _⟩ := h
    have := mo_w_lt hk l v' c' hw
    rw [Nat.pow_succ]
    omega
theorem mo_w_62 (hk : k ≤ 4) {l v c : Nat} (h : mo_w n k gs l v c) (hl : l ≤ 31) : v < 2 ^ 62 := by
  have a := mo_w_lt hk l v c h
  have b : 4 ^ l ≤ 4 ^ 31 := Nat.pow_le_pow_right (by decide) hl
  have c : (4 : Nat) ^ 31 = 2 ^ 62 := by decide
  omega
theorem mo_B31 (h2 : 2 ≤ n) (h4 : n ≤ 4) {c l v : Nat} (h : mo_B n k gs c l v) : l ≤ 31 := by
  obtain ⟨l', v', hl, hw⟩ := de_all h2 h4 (mo_BM h)
  have := h.2 l' v' hw
  omega
theorem mo_B0 (hn : 0 < n) : mo_B n k gs (mo_e n) 0 0 := ⟨⟨rfl, rfl⟩, fun l' v' _ => by omega⟩
/-- a least word's beginning is least -/
theorem mo_Bp {d l v : Nat} (h : mo_B n k gs d (l + 1) v) : ∃ v' c g, mo_B n k gs c l v' ∧ g < k ∧ v = 4 * v' + g ∧ d = mo_m n c (gs g) := by
  obtain ⟨v', c, g, hw, hg, ev, ed⟩ := id h.1
  refine ⟨v', c, g, ⟨hw, fun l' v'' hw' => ?_⟩, hg, ev, ed⟩
  have := h.2 (l' + 1) (4 * v'' + g) ⟨v'', c, g, hw', hg, rfl, ed⟩
  omega
end
/-! what X's tables say -/
def bf_v (pf : Nat → Nat) : Nat → Nat → Nat
  | 0, _ => 0
  | l + 1, i => 4 * bf_v pf l (pf i / 4) + pf i % 4
section
variable {n k : Nat} {gs : Nat → Nat} {s : Nat} {cd pf L R Q : Nat → Nat} {nu co be la le ri lf : Nat → Int32}
theorem bf_vs (E : bf_E n k gs s cd pf L nu co be la le) {i : Nat} (h0 : 0 < i) (hi : i < s) : bf_v pf (L i) i = 4 * bf_v pf (L (pf i / 4)) (pf i / 4) + pf i % 4 := by
  rw [(E.2.2.2.2.1 i h0 hi).2.2.2.2.2]
  rfl
theorem bf_v0 (E : bf_E n k gs s cd pf L nu co be la le) : bf_v pf (L 0) 0 = 0 := by rw [E.2.1.2]; rfl
theorem bf_w (E : bf_E n k gs s cd pf L nu co be la le) : ∀ i, i < s → mo_w n k gs (L i) (bf_v pf (L i) i) (cd i) := by
  intro i
  induction i using Nat.strongRecOn with
  | ind i ih =>
    intro hi
    by_cases z : i = 0
    · subst z
      rw [E.2.1.2, E.2.1.1]
      exact ⟨rfl, rfl⟩
    · have h0 : 0 < i := by omega
      obtain ⟨p1, p2, p3, p4, p5, p6⟩ := E.2.2.2.2.1 i h0 hi
      rw [bf_vs E h0 hi, p6, p3]
      exact ⟨_, _, _, ih _ p1 (by omega), p2, rfl, rfl⟩
theorem bf_mono (E : bf_E n k gs s cd pf L nu co be la le) : ∀ j, j < s → ∀ i, i < j → L i < L j ∨ (L i = L j ∧ bf_v pf (L i) i < bf_v pf (L j) j) := by
  intro j
  induction j using Nat.strongRecOn with
  | ind j ih =>
    intro hj i hij
    have j0 : 0 < j := by omega
    obtain ⟨p1, p2, p3, p4, p5, p6⟩ := E.2.2.2.2.1 j j0 hj
    by_cases z : i = 0
    · subst z
      left
      rw [E.2.1.2, p6]
      omega
    · have i0 : 0 < i := by omega
      obtain ⟨q1, q2, q3, q4, q5, q6⟩ := E.2.2.2.2.1 i i0 (by omega)
      have m := E.2.2.2.2.2 i j i0 hij hj
      have vi := bf_vs E i0 (by omega)
      have vj := bf_vs E j0 hj
      by_cases y : pf i / 4 = pf j / 4
      · rw [y] at q6 vi
        right
        omega
      · have := ih (pf j / 4) p1 (by omega) (pf i / 4) (by omega)
        omega
theorem bf_least (E : bf_E n k gs s cd pf L nu co be la le) (HR : bf_R n k gs (4 * s) s cd pf R ri) (hk : k ≤ 4) : ∀ l v c, mo_w n k gs l v c → ∃ r, r < s ∧ cd r = c ∧ (L r < l ∨ (L r = l ∧ bf_v pf (L r) r ≤ v))
  | 0, v, c, h => ⟨0, E.1.1, by rw [h.2, E.2.1.1], Or.inr ⟨E.2.1.2, by rw [bf_v0 E]; omega⟩⟩
  | l + 1, v, c, h => by
    obtain ⟨v', c', g, hw, hg, ev, ec⟩ := h
    obtain ⟨b, hb, eb, lb⟩ := bf_least E HR hk l v' c' hw
    obtain ⟨e1, e2, e3, e4⟩ := HR (4 * b + g) (by omega) (by omega)
    rw [show (4 * b + g) / 4 = b by omega, show (4 * b + g) % 4 = g by omega] at e3
    refine ⟨R (4 * b + g), e2, by rw [e3, eb, ec], ?_⟩
    generalize R (4 * b + g) = r at *
    by_cases z : r = 0
    · left
      rw [z, E.2.1.2]
      omega
    · rcases e4 with y | y
      · exact absurd y z
      · obtain ⟨p1, p2, p3, p4, p5, p6⟩ := E.2.2.2.2.1 r (by omega) e2
        have vr := bf_vs E (i := r) (by omega) e2
        by_cases x : pf r / 4 = b
        · rw [x] at p6 vr
          omega
        · have := bf_mono E b hb (pf r / 4) (by omega)
          omega
theorem bf_B (X : bf_X n k gs s cd pf L R Q nu co be la le ri lf) (hk : k ≤ 4) (h2 : 2 ≤ n) (h4 : n ≤ 4) {i : Nat} (hi : i < s) : mo_B n k gs (cd i) (L i) (bf_v pf (L i) i) := by
  refine ⟨bf_w X.1 i hi, fun l' v' hw => ?_⟩
  obtain ⟨r, hr, e, h⟩ := bf_least X.1 X.2.1 hk l' v' (cd i) hw
  have := bf_inj h2 h4 X.1 hr hi e
  subst this
  omega
theorem bf_M (X : bf_X n k gs s cd pf L R Q nu co be la le ri lf) (hk : k ≤ 4) {c : Nat} : mo_M n k gs c ↔ ∃ i, i < s ∧ cd i = c := by
  constructor
  · intro ⟨l, v, h⟩
    obtain ⟨r, hr, e, _⟩ := bf_least X.1 X.2.1 hk l v c h
    exact ⟨r, hr, e⟩
  · intro ⟨i, hi, e⟩
    rw [← e]
    exact ⟨_, _, bf_w X.1 i hi⟩
/-- a code's number: none, or its place -/
theorem bf_nu (X : bf_X n k gs s cd pf L R Q nu co be la le ri lf) (hk : k ≤ 4) (h2 : 2 ≤ n) (h4 : n ≤ 4) {c : Nat} (hc : c < n ^ n) : (nu c = -1 ∧ ¬ mo_M n k gs c) ∨ (mo_M n k gs c ∧ ∃ i, i < s ∧ cd i = c ∧ nu c = nI i) := by
  have hN := bf_N h2 h4
  have hs := X.1.1.2
  by_cases h : mo_M n k gs c
  · obtain ⟨i, hi, e⟩ := (bf_M X hk).mp h
    exact Or.inr ⟨h, i, hi, e, by rw [← e]; exact (X.1.2.2.1 i hi).2.1⟩
  · rcases X.1.2.2.2.1 c hc with z | ⟨i, hi, e⟩
    · exact Or.inl ⟨z, h⟩
    · exact absurd ((bf_M X hk).mpr ⟨i, hi, e⟩) h
/-- counting over X's elements is counting over the codes -/
theorem bf_cnt (X : bf_X n k gs s cd pf L R Q nu co be la le ri lf) (hk : k ≤ 4) (h2 : 2 ≤ n) (h4 : n ≤ 4) (P : Nat → Prop) : cn (fun i => P (cd i)) s = cn (fun c => mo_M n k gs c ∧ P c) (n ^ n) :=
  cn_enum cd (fun i hi => ⟨(X.1.2.2.1 i hi).1, (bf_M X hk).mpr ⟨i, hi, rfl⟩⟩) (fun i j hi hj e => bf_inj h2 h4 X.1 hi hj e) (fun c _ h => (bf_M X hk).mp h)
theorem bf_size (X : bf_X n k gs s cd pf L R Q nu co be la le ri lf) (hk : k ≤ 4) (h2 : 2 ≤ n) (h4 : n ≤ 4) : s = cn (mo_M n k gs) (n ^ n) :=
  cn_enum1 cd (fun i hi => ⟨(X.1.2.2.1 i hi).1, (bf_M X hk).mpr ⟨i, hi, rfl⟩⟩) (fun i j hi hj e => bf_inj h2 h4 X.1 hi hj e) (fun c _ h => (bf_M X hk).mp h)
end
end
section
/-! Y: grow and work: the least words by relaxing -/
def yg_N (n k : Nat) (gs : Nat → Nat) (ne : Nat → Int32) : Prop := ∀ g, g < k → ∀ c, c < n ^ n → ne (256 * g + c) = nI (mo_m n c (gs g)) ∧ ne (1024 + 256 * g + c) = nI (mo_m n (gs g) c)
/-- c holds its least word -/
def yg_F (n k : Nat) (gs : Nat → Nat) (th ln : Nat → Int32) (wo : Nat → Int64) (c : Nat) : Prop := th c = 1 ∧ ∃ l v, mo_B n k gs c l v ∧ ln c = nI l ∧ wo c = lN v
/-- all that is there holds a word -/
def yg_W (n k : Nat) (gs : Nat → Nat) (B : Nat) (th ln : Nat → Int32) (wo : Nat → Int64) : Prop := ∀ c, c < n ^ n → th c = 0 ∨ (th c = 1 ∧ ∃ l v, mo_w n k gs l v c ∧ l ≤ B ∧ ln c = nI l ∧ wo c = lN v)
/-- a pass, up to place q -/
def yg_P (n k : Nat) (gs : Nat → Nat) (B q : Nat) (th0 ln0 : Nat → Int32) (wo0 : Nat → Int64) (th ln : Nat → Int32) (wo : Nat → Int64) (x : Int32) : Prop :=
  yg_W n k gs (B + q) th ln wo ∧ (∀ c, yg_F n k gs th0 ln0 wo0 c → yg_F n k gs th ln wo c) ∧ (∀ c g l v, 4 * c + g < q → g < k → mo_B n k gs c l v → yg_F n k gs th0 ln0 wo0 c → mo_B n k gs (mo_m n c (gs g)) (l + 1) (4 * v + g) → yg_F n k gs th ln wo (mo_m n c (gs g))) ∧ (x = 1 ∨ (x = 0 ∧ th = th0 ∧ ln = ln0 ∧ wo = wo0))
theorem yg_ix (g c : Nat) : (256 : Int32) * nI g + nI c = nI (256 * g + c) := by
  show nI 256 * nI g + nI c = _
  rw [pk_mul, nI_add]
theorem yg_wd (v : Nat) {g : Nat} (hg : g < 4) : (4 : Int64) * lN v + (nI g).toInt64 = lN (4 * v + g) := by
  rw [nI_l (by omega), show (4 : Int64) = lN 4 from rfl, lN_mul, lN_add]
section
variable {n k : Nat} {gs : Nat → Nat} {B q : Nat} {th0 ln0 th ln : Nat → Int32} {wo0 wo : Nat → Int64} {x : Int32}
theorem yg_Wm {B' : Nat} (h : yg_W n k gs B th ln wo) (hB : B ≤ B') : yg_W n k gs B' th ln wo := by
  intro c hc
  rcases h c hc with z | ⟨z, l, v, h1, h2, h3, h4⟩
  · exact Or.inl z
  · exact Or.inr ⟨z, l, v, h1, by omega, h3, h4⟩
theorem yg_skip (P : yg_P n k gs B q th0 ln0 wo0 th ln wo x) {c g : Nat} (hk : k ≤ 4) (hq : q = 4 * c + g) (h : ∀ l v, mo_B n k gs c l v → yg_F n k gs th ln wo c → mo_B n k gs (mo_m n c (gs g)) (l + 1) (4 * v + g) → yg_F n k gs th ln wo (mo_m n c (gs g))) (hg : g < 4) : yg_P n k gs B (q + 1) th0 ln0 wo0 th ln wo x := by
  refine ⟨yg_Wm P.1 (by omega), P.2.1, fun c' g' l v hl hg' hb hF hd => ?_, P.2.2.2⟩
  by_cases z : 4 * c' + g' < q
  · exact P.2.2.1 c' g' l v z hg' hb hF hd
  · have e1 : c' = c := by omega
    have e2 : g' = g := by omega
    subst e1 e2
    exact h l v hb (P.2.1 c' hF) hd
theorem yg_jump (P : yg_P n k gs B q th0 ln0 wo0 th ln wo x) {c q' : Nat} (hk : k ≤ 4) (hq : 4 * c ≤ q) (hq' : q ≤ q') (hq2 : q' ≤ 4 * c + 4) (h : (∀ g, q ≤ 4 * c + g → k ≤ g) ∨ ¬ yg_F n k gs th ln wo c) : yg_P n k gs B q' th0 ln0 wo0 th ln wo x := by
  refine ⟨yg_Wm P.1 (by omega), P.2.1, fun c' g' l v hl hg' hb hF hd => ?_, P.2.2.2⟩
  by_cases z : 4 * c' + g' < q
  · exact P.2.2.1 c' g' l v z hg' hb hF hd
  · have e1 : c' = c := by omega
    subst e1
    rcases h with h | h
    · have := h g' (by omega)
      omega
    · exact absurd (P.2.1 c' hF) h
theorem yg_upd (P : yg_P n k gs B q th0 ln0 wo0 th ln wo x) {c g d l v : Nat} (hk : k ≤ 4) (hn : 0 < n) (hq : q = 4 * c + g) (hg : g < k) (hw : mo_w n k gs l v c) (hl : l ≤ B + q) (el : ln c = nI l) (ev : wo c = lN v) (ed : d = mo_m n c (gs g)) (hd : ¬ yg_F n k gs th ln wo d) :
    yg_P n k gs B (q + 1) th0 ln0 wo0 (upd th d 1) (upd ln d (nI (l + 1))) (vp_updL wo d (lN (4 * v + g))) 1 := by
  have hF : ∀ c', yg_F n k gs th ln wo c' → yg_F n k gs (upd th d 1) (upd ln d (nI (l + 1))) (vp_updL wo d (lN (4 * v + g))) c' := by
    intro c' h
    have z : c' ≠ d := fun e => hd (e ▸ h)
    unfold yg_F
    rw [pk_un z, pk_un z, pk_uLn z]
    exact h
  refine ⟨fun c' hc' => ?_, fun c' h => hF c' (P.2.1 c' h), fun c' g' l' v' hl' hg' hb hF0 hd' => ?_, Or.inl rfl⟩
  · by_cases z : c' = d
    · subst z
      rw [pk_us, pk_us, pk_uLs]
      exact Or.inr ⟨rfl, l + 1, 4 * v + g, ⟨v, c, g, hw, hg, rfl, ed⟩, by omega, rfl, rfl⟩
    · rw [pk_un z, pk_un z, pk_uLn z]
      exact yg_Wm P.1 (by omega) c' hc'
  · by_cases z : 4 * c' + g' < q
    · exact hF _ (P.2.2.1 c' g' l' v' z hg' hb hF0 hd')
    · have e1 : c' = c := by omega
      have e2 : g' = g := by omega
      subst e1 e2
      obtain ⟨_, l1, v1, b1, x1, y1⟩ := P.2.1 c' hF0
      obtain ⟨r1, r2⟩ := mo_Bu b1 hb
      subst r1 r2
      rw [← ed] at hd' ⊢
      refine ⟨pk_us, l1 + 1, 4 * v1 + g', hd', ?_, ?_⟩
      · rw [pk_us, ← nI_1, ← nI_1, ← el, x1]
      · rw [pk_uLs, ← yg_wd v (by omega), ← yg_wd v1 (by omega), ← ev, y1]
end
section
variable {n k : Nat} {gs : Nat → Nat} {gg ne : Nat → Int32} {se : Nat → Int64} {th0 ln0 : Nat → Int32} {wo0 : Nat → Int64}
theorem yw_g129 {post : Int32 → SY → Prop} {J4 J21 : Int32 → Int32 → (Nat → Int32) → (Nat → Int32) → (Nat → Int32) → (Nat → Int64) → (Nat → Int32) → (Nat → Int64) → Prop} {gn gd gc x2 x7 : Int32} {x5 : Int64} {th ln : Nat → Int32} {wo : Nat → Int64} {g d : Nat} (hd : d < 256) (h : J21 1 (nI (g + 1)) gg (upd th d 1) (upd ln d x7) (vp_updL wo d x5) ne se) : wY_grow_129 post J4 J21 x2 (nI g) (nI d) x5 x7 gn gd gc gg th ln wo ne se := by
  unfold wY_grow_129
  rw [nI_clamp (n := d) (by omega)]
  exact ⟨vp_in_nI hd (by omega), nm_e ⟨vp_in_nI hd (by omega), nm_e ⟨vp_in_nI hd (by omega), nm_e (nm_r (nI_1 g) h)⟩⟩⟩
theorem yw_g21 {post : Int32 → SY → Prop} (h2 : 2 ≤ n) (h4 : n ≤ 4) (hk : k ≤ 4) (hx : yg_N n k gs ne) {c B : Nat} (hB : B + 2000 < 2 ^ 31) (hc : c < n ^ n) {J : Int32 → Int32 → (Nat → Int32) → (Nat → Int32) → (Nat → Int32) → (Nat → Int64) → (Nat → Int32) → (Nat → Int64) → Prop}
    (hJ : ∀ x th ln wo, yg_P n k gs B (4 * (c + 1)) th0 ln0 wo0 th ln wo x → J x (nI (c + 1)) gg th ln wo ne se) : ∀ d g x th ln wo, g + d = k → yg_P n k gs B (4 * c + g) th0 ln0 wo0 th ln wo x → wY_grow_21 post J (nI c) (nI n) (nI (n ^ n)) (nI k) (d + 1) x (nI g) gg th ln wo ne se
  | 0, g, x, th, ln, wo, e, P =>
    br_t (nI_le (by omega) (by omega)) (nm_r (nI_1 c) (hJ x th ln wo (yg_jump (c := c) P hk (by omega) (by omega) (by omega) (Or.inl (fun g' h => by omega)))))
  | d + 1, g, x, th, ln, wo, e, P => by
    have hN := bf_N h2 h4
    have cc := nI_clamp (n := c) (by omega)
    refine br_f (nI_ge (by omega) (by omega)) ?_
    rw [cc]
    refine ⟨vp_in_nI (by omega) (by omega), ?_⟩
    rcases P.1 c hc with z | ⟨z, l, v, hw, hl, el, ev⟩
    · exact br_t z (nm_r (nI_1 c) (hJ x th ln wo (yg_jump (c := c) P hk (by omega) (by omega) (by omega) (Or.inr (fun f => by have := f.1; rw [z] at this; exact absurd this (by decide))))))
    · have hm : mo_m n c (gs g) < n ^ n := mo_m_lt (by omega) _ _
      have cd := nI_clamp (n := mo_m n c (gs g)) (by omega)
      refine br_f (by rw [z]; decide) (br_f (nI_ge (b := 4) (by omega) (by omega)) ⟨by rw [yg_ix]; exact vp_in_nI (by omega) (by omega), nm_r (e' := nI (mo_m n c (gs g))) (by rw [yg_ix, nI_clamp (by omega)]; exact (hx g (by omega) c hc).1) ⟨vp_in_nI (by omega) (by omega), nm_r (e' := lN (4 * v + g)) (by rw [ev]; exact yg_wd v (by omega)) ⟨vp_in_nI (by omega) (by omega), nm_r (e' := nI (l + 1)) (by rw [el]; exact nI_1 l) ⟨vp_in_nI (by omega) (by omega), ?_⟩⟩⟩⟩)
      rw [cd]
      have hwd : mo_w n k gs (l + 1) (4 * v + g) (mo_m n c (gs g)) := ⟨v, c, g, hw, by omega, rfl, rfl⟩
      have up : ¬ yg_F n k gs th ln wo (mo_m n c (gs g)) → wY_grow_129 post J (wY_grow_21 post J (nI c) (nI n) (nI (n ^ n)) (nI k) (d + 1)) (nI c) (nI g) (nI (mo_m n c (gs g))) (lN (4 * v + g)) (nI (l + 1)) (nI n) (nI (n ^ n)) (nI k) gg th ln wo ne se := fun hnf =>
        yw_g129 (by omega) (yw_g21 h2 h4 hk hx hB hc hJ d (g + 1) 1 _ _ _ (by omega) (yg_upd P hk (by omega) rfl (by omega) hw hl el ev rfl hnf))
      rcases P.1 (mo_m n c (gs g)) hm with y | ⟨y, ld, vd, hwd2, hld, eld, evd⟩
      · exact br_t y (up (fun f => by have := f.1; rw [y] at this; exact absurd this (by decide)))
      · refine br_f (by rw [y]; decide) ⟨vp_in_nI (by omega) (by omega), ?_⟩
        rw [eld, evd]
        refine br_c (fun u => up (fun f => ?_)) (fun u => ⟨vp_in_nI (by omega) (by omega), br_c (fun t => ⟨vp_in_nI (by omega) (by omega), br_c (fun r => ?_) (fun r => up (fun f => ?_))⟩) (fun t => ?_)⟩)
        · have u' := (nI_ltI (by omega) (by omega)).mp u
          obtain ⟨_, l1, v1, b1, f1, f2⟩ := f
          have h31 := mo_B31 h2 h4 b1
          have e1 : l1 = ld := (nI_eq (by omega) (by omega)).mp (f1.symm.trans eld)
          have := b1.2 _ _ hwd
          omega
        · have t' : l + 1 = ld := (nI_eq (by omega) (by omega)).mp t
          refine nm_r (nI_1 g) (yw_g21 h2 h4 hk hx hB hc hJ d (g + 1) x th ln wo (by omega) (yg_skip P hk rfl (fun l0 v0 b0 f hbd => ?_) (by omega)))
          obtain ⟨_, l1, v1, b1, f1, f2⟩ := f
          obtain ⟨r1, r2⟩ := mo_Bu b1 b0
          subst r1 r2
          have h31 := mo_B31 h2 h4 b1
          have h31' := mo_B31 h2 h4 hbd
          have e1 : l1 = l := (nI_eq (by omega) (by omega)).mp (f1.symm.trans el)
          subst e1
          have q1 := mo_w_62 hk hw (by omega)
          have q2 := mo_w_62 hk b1.1 (by omega)
          have e2 : v1 = v := (pk_lEQ (by omega) (by omega)).mp (f2.symm.trans ev)
          subst e2
          have q3 := mo_w_62 hk hwd2 (by omega)
          have q4 := mo_w_62 hk hbd.1 (by omega)
          have r' := (pk_lLE (by omega) (by omega)).mp r
          have m1 := hbd.2 _ _ hwd2
          have e3 : vd = 4 * v1 + g := by omega
          exact ⟨y, l1 + 1, 4 * v1 + g, hbd, by rw [eld, t'], by rw [evd, e3]⟩
        · have t' : l + 1 = ld := (nI_eq (by omega) (by omega)).mp t
          obtain ⟨_, l1, v1, b1, f1, f2⟩ := f
          have h31 := mo_B31 h2 h4 b1
          have e1 : l1 = ld := (nI_eq (by omega) (by omega)).mp (f1.symm.trans eld)
          have q1 := mo_w_62 hk b1.1 h31
          have q2 := mo_w_62 hk hwd (by omega)
          have m1 := b1.2 _ _ hwd
          refine r ?_
          rw [← evd, f2]
          exact (pk_lLE (by omega) (by omega)).mpr (by omega)
        · have t' : l + 1 ≠ ld := fun z => t (congrArg nI z)
          have u' : ¬ l + 1 < ld := fun z => u ((nI_ltI (by omega) (by omega)).mpr z)
          refine nm_r (nI_1 g) (yw_g21 h2 h4 hk hx hB hc hJ d (g + 1) x th ln wo (by omega) (yg_skip P hk rfl (fun l0 v0 b0 f hbd => ?_) (by omega)))
          obtain ⟨_, l1, v1, b1, f1, f2⟩ := f
          obtain ⟨r1, r2⟩ := mo_Bu b1 b0
          subst r1 r2
          have h31 := mo_B31 h2 h4 b1
          have e1 : l1 = l := (nI_eq (by omega) (by omega)).mp (f1.symm.trans el)
          have m1 := hbd.2 _ _ hwd2
          omega
end
end
section
/-! Y: grow's outer loop, work -/
section
variable {n k : Nat} {gs : Nat → Nat} {gg ne : Nat → Int32} {se : Nat → Int64}
theorem yw_g4 {post : Int32 → SY → Prop} (h2 : 2 ≤ n) (h4 : n ≤ 4) (hk : k ≤ 4) (hx : yg_N n k gs ne) {th0 ln0 : Nat → Int32} {wo0 : Nat → Int64} {B : Nat} (hB : B + 2000 < 2 ^ 31)
    (hp : ∀ x th ln wo, yg_P n k gs B (4 * n ^ n) th0 ln0 wo0 th ln wo x → post x (nI n, nI (n ^ n), nI k, gg, th, ln, wo, ne, se)) : ∀ d c x th ln wo, c + d = n ^ n → yg_P n k gs B (4 * c) th0 ln0 wo0 th ln wo x → wY_grow_4 post (nI n) (nI (n ^ n)) (nI k) (d + 1) x (nI c) gg th ln wo ne se
  | 0, c, x, th, ln, wo, e, P => by
    have hN := bf_N h2 h4
    have e' : c = n ^ n := by omega
    have hb : narrow .boolean (.int x) = .int x := by
      rcases P.2.2.2 with z | z
      · rw [z]; rfl
      · rw [z.1]; rfl
    rw [e'] at P
    exact br_t (nI_le (by omega) (by omega)) ⟨hb, hp x th ln wo P⟩
  | d + 1, c, x, th, ln, wo, e, P => by
    have hN := bf_N h2 h4
    exact br_f (nI_ge (by omega) (by omega)) (br_f (nI_ge (b := 256) (by omega) (by omega)) ⟨k + 1, yw_g21 h2 h4 hk hx hB (by omega) (fun x th ln wo P => yw_g4 h2 h4 hk hx hB hp d (c + 1) x th ln wo (by omega) P) k 0 x th ln wo (by omega) P⟩)
theorem yw_grow {post : Int32 → SY → Prop} (h2 : 2 ≤ n) (h4 : n ≤ 4) (hk : k ≤ 4) (hx : yg_N n k gs ne) {th0 ln0 : Nat → Int32} {wo0 : Nat → Int64} {B : Nat} (hB : B + 2000 < 2 ^ 31) (hW : yg_W n k gs B th0 ln0 wo0)
    (hp : ∀ x th ln wo, yg_P n k gs B (4 * n ^ n) th0 ln0 wo0 th ln wo x → post x (nI n, nI (n ^ n), nI k, gg, th, ln, wo, ne, se)) : wpY_grow post (nI n, nI (n ^ n), nI k, gg, th0, ln0, wo0, ne, se) :=
  ⟨n ^ n + 1, yw_g4 h2 h4 hk hx hB hp (n ^ n) 0 0 th0 ln0 wo0 (by omega) ⟨hW, fun _ h => h, fun c g l v h => by omega, Or.inr ⟨rfl, rfl, rfl, rfl⟩⟩⟩
/-- all elements with short least words are there, each with its own -/
def yg_R (n k : Nat) (gs : Nat → Nat) (r : Nat) (th ln : Nat → Int32) (wo : Nat → Int64) : Prop := ∀ c l v, mo_B n k gs c l v → l ≤ r → yg_F n k gs th ln wo c
theorem yg_pass (h2 : 2 ≤ n) (h4 : n ≤ 4) (hk : k ≤ 4) {th0 ln0 th ln : Nat → Int32} {wo0 wo : Nat → Int64} {B : Nat} {x : Int32} (P : yg_P n k gs B (4 * n ^ n) th0 ln0 wo0 th ln wo x) {r : Nat} (h : yg_R n k gs r th0 ln0 wo0) : yg_R n k gs (r + 1) th ln wo := by
  intro d l v hb hl
  cases l with
  | zero => exact P.2.1 d (h d 0 v hb (by omega))
  | succ l =>
    obtain ⟨v', c, g, hc, hg, ev, ed⟩ := mo_Bp hb
    have hcl := mo_M_lt (show 0 < n by omega) (mo_BM hc)
    subst ev ed
    exact P.2.2.1 c g l v' (by omega) hg hc (h c l v' hc (by omega)) hb
theorem yg_stop (h2 : 2 ≤ n) (h4 : n ≤ 4) (hk : k ≤ 4) {th ln : Nat → Int32} {wo : Nat → Int64} {B : Nat} {x : Int32} (P : yg_P n k gs B (4 * n ^ n) th ln wo th ln wo x) (h : yg_R n k gs 0 th ln wo) : ∀ r, yg_R n k gs r th ln wo
  | 0 => h
  | r + 1 => yg_pass h2 h4 hk P (yg_stop h2 h4 hk P h r)
/-- the finished words -/
def yg_Y (n k : Nat) (gs : Nat → Nat) (th ln : Nat → Int32) (wo : Nat → Int64) : Prop := ∀ c, c < n ^ n → (th c = 0 ∧ ¬ mo_M n k gs c) ∨ (mo_M n k gs c ∧ yg_F n k gs th ln wo c)
theorem yg_done (h2 : 2 ≤ n) (h4 : n ≤ 4) {th ln : Nat → Int32} {wo : Nat → Int64} {B r : Nat} (W : yg_W n k gs B th ln wo) (hr : 31 ≤ r) (h : yg_R n k gs r th ln wo) : yg_Y n k gs th ln wo := by
  intro c hc
  by_cases m : mo_M n k gs c
  · obtain ⟨l, v, hb⟩ := mo_Bex m
    have := mo_B31 h2 h4 hb
    exact Or.inr ⟨m, h c l v hb (by omega)⟩
  · rcases W c hc with z | ⟨z, l, v, hw, _⟩
    · exact Or.inl ⟨z, m⟩
    · exact absurd ⟨l, v, hw⟩ m
theorem yw_w52 {post : SY → Prop} (h2 : 2 ≤ n) (h4 : n ≤ 4) (hk : k ≤ 4) (hx : yg_N n k gs ne)
    (hp : ∀ th ln wo, yg_Y n k gs th ln wo → post (nI n, nI (n ^ n), nI k, gg, th, ln, wo, ne, se)) : ∀ d r x th ln wo, r + d = 3000 → yg_W n k gs (1024 * r) th ln wo → yg_R n k gs r th ln wo → (x = 1 ∨ (x = 0 ∧ yg_R n k gs 31 th ln wo)) → wY_work_52 post (d + 1) x (nI r) (nI n) (nI (n ^ n)) (nI k) gg th ln wo ne se
  | 0, r, x, th, ln, wo, e, W, H, hx' =>
    br_t (nI_le (a := 3000) (by omega) (by omega)) (hp th ln wo (yg_done h2 h4 W (by omega) H))
  | d + 1, r, x, th, ln, wo, e, W, H, hx' => by
    have hN := bf_N h2 h4
    refine br_f (nI_ge (b := 3000) (by omega) (by omega)) ?_
    rcases hx' with z | ⟨z, H31⟩
    · subst z
      refine br_f (by decide) (yw_grow h2 h4 hk hx (B := 1024 * r) (by omega) W (fun x' th' ln' wo' P => nm_r (nI_1 r) ?_))
      refine yw_w52 h2 h4 hk hx hp d (r + 1) x' th' ln' wo' (by omega) (yg_Wm P.1 (by omega)) (yg_pass h2 h4 hk P H) ?_
      rcases P.2.2.2 with y | ⟨y, e1, e2, e3⟩
      · exact Or.inl y
      · subst e1 e2 e3
        exact Or.inr ⟨y, yg_stop h2 h4 hk P (fun c l v hb hl => H c l v hb (by omega)) 31⟩
    · exact br_t z (hp th ln wo (yg_done h2 h4 W (Nat.le_refl _) H31))
theorem yw_w2 {post : SY → Prop} (h2 : 2 ≤ n) (h4 : n ≤ 4) (hk : k ≤ 4) (hx : yg_N n k gs ne) {ln : Nat → Int32} {wo : Nat → Int64}
    (hp : ∀ th ln wo, yg_Y n k gs th ln wo → post (nI n, nI (n ^ n), nI k, gg, th, ln, wo, ne, se)) : ∀ d c th, c + d = 256 → (∀ c', c' < c → th c' = 0) → wY_work_2 post (nI n) (nI (n ^ n)) (nI k) (d + 1) (nI c) gg th ln wo ne se
  | 0, c, th, e, h => by
    have hN := bf_N h2 h4
    have he := mo_e_lt (n := n)
    refine br_t (nI_le (a := 256) (by omega) (by omega)) (yw_unit h4 ?_)
    rw [nI_clamp (n := mo_e n) (by omega)]
    refine ⟨vp_in_nI (by omega) (by omega), nm_r (e' := upd th (mo_e n) 1) rfl ⟨vp_in_nI (by omega) (by omega), nm_e ⟨vp_in_nI (by omega) (by omega), nm_e ?_⟩⟩⟩
    have hF : yg_F n k gs (upd th (mo_e n) 1) (upd ln (mo_e n) 0) (vp_updL wo (mo_e n) 0) (mo_e n) := ⟨pk_us, 0, 0, mo_B0 (by omega), pk_us, pk_uLs⟩
    refine ⟨3001, yw_w52 h2 h4 hk hx hp 3000 0 1 _ _ _ (by omega) (fun c' hc' => ?_) (fun c' l v hb hl => ?_) (Or.inl rfl)⟩
    · by_cases z : c' = mo_e n
      · subst z
        exact Or.inr ⟨hF.1, 0, 0, ⟨rfl, rfl⟩, by omega, pk_us, pk_uLs⟩
      · rw [pk_un z]
        exact Or.inl (h c' (by omega))
    · have l0 : l = 0 := by omega
      subst l0
      rw [hb.1.2]
      exact hF
  | d + 1, c, th, e, h => by
    refine br_f (nI_ge (b := 256) (by omega) (by omega)) ⟨vp_in_nI (by omega) (by omega), nm_r (e' := upd th c 0) (by rw [nI_clamp (by omega)]; rfl) (nm_r (nI_1 c) ?_)⟩
    refine yw_w2 h2 h4 hk hx hp d (c + 1) _ (by omega) (fun c' hc' => ?_)
    by_cases z : c' = c
    · rw [z, pk_us]
    · rw [pk_un z]; exact h c' (by omega)
/-- work: the words stand -/
theorem yw_work {post : SY → Prop} (h2 : 2 ≤ n) (h4 : n ≤ 4) (hk : k ≤ 4) (hx : yg_N n k gs ne) {th ln : Nat → Int32} {wo : Nat → Int64}
    (hp : ∀ th ln wo, yg_Y n k gs th ln wo → post (nI n, nI (n ^ n), nI k, gg, th, ln, wo, ne, se)) : wpY_work post (nI n, nI (n ^ n), nI k, gg, th, ln, wo, ne, se) :=
  ⟨257, yw_w2 h2 h4 hk hx hp 256 0 th (by omega) (fun c h => by omega)⟩
end
end
section
/-! the relation -/
def re_R (n k : Nat) (gs : Nat → Nat) (fz fu : Int32) (ga nu co be la le ri lf ne : Nat → Int32) : Prop :=
  2 ≤ n ∧ n ≤ 4 ∧ k ≤ 4 ∧ (∀ g, g < k → gs g < n ^ n ∧ ga g = nI (gs g)) ∧ (fu ≠ 0 → fu = 1 ∧ ∃ s cd pf L R Q, fz = nI s ∧ bf_X n k gs s cd pf L R Q nu co be la le ri lf) ∧ yg_N n k gs ne
/-- the same points, generators and count; X's tables, if they are current; Y's products by the generators -/
def i_Rel (_ : Nat) (u : SX) (v : SY) : Prop := ∃ (n k : Nat) (gs : Nat → Nat) (fz fu : Int32) (ga nu co be la le ri lf pa rd rg qu th ln ne : Nat → Int32) (wo se : Nat → Int64), u = (nI n, nI (n ^ n), nI k, fz, fu, ga, nu, co, be, la, le, ri, lf, pa, rd, rg, qu) ∧ v = (nI n, nI (n ^ n), nI k, ga, th, ln, wo, ne, se) ∧ re_R n k gs fz fu ga nu co be la le ri lf ne
theorem re_el {P : SX → SY → Prop} {j : Nat} {u : SX} {v : SY} (h : ∀ (n k : Nat) (gs : Nat → Nat) (fz fu : Int32) (ga nu co be la le ri lf pa rd rg qu th ln ne : Nat → Int32) (wo se : Nat → Int64), re_R n k gs fz fu ga nu co be la le ri lf ne → P (nI n, nI (n ^ n), nI k, fz, fu, ga, nu, co, be, la, le, ri, lf, pa, rd, rg, qu) (nI n, nI (n ^ n), nI k, ga, th, ln, wo, ne, se)) (I : i_Rel j u v) : P u v :=
  Exists.elim I fun n I => Exists.elim I fun k I => Exists.elim I fun gs I => Exists.elim I fun fz I => Exists.elim I fun fu I => Exists.elim I fun ga I => Exists.elim I fun nu I => Exists.elim I fun co I => Exists.elim I fun be I => Exists.elim I fun la I => Exists.elim I fun le I => Exists.elim I fun ri I => Exists.elim I fun lf I => Exists.elim I fun pa I => Exists.elim I fun rd I => Exists.elim I fun rg I => Exists.elim I fun qu I => Exists.elim I fun th I => Exists.elim I fun ln I => Exists.elim I fun ne I => Exists.elim I fun wo I => Exists.elim I fun se I => by
    rw [I.1, I.2.1]
    exact h n k gs fz fu ga nu co be la le ri lf pa rd rg qu th ln ne wo se I.2.2
theorem re_in {j n k : Nat} {gs : Nat → Nat} {fz fu : Int32} {ga nu co be la le ri lf pa rd rg qu th ln ne : Nat → Int32} {wo se : Nat → Int64} (h : re_R n k gs fz fu ga nu co be la le ri lf ne) : i_Rel j (nI n, nI (n ^ n), nI k, fz, fu, ga, nu, co, be, la, le, ri, lf, pa, rd, rg, qu) (nI n, nI (n ^ n), nI k, ga, th, ln, wo, ne, se) :=
  ⟨n, k, gs, fz, fu, ga, nu, co, be, la, le, ri, lf, pa, rd, rg, qu, th, ln, ne, wo, se, rfl, rfl, h⟩
/-- with fresh tables -/
theorem re_inX {j n k s : Nat} {gs cd pf L R Q : Nat → Nat} {ga nu co be la le ri lf pa rd rg qu th ln ne : Nat → Int32} {wo se : Nat → Int64} (h2 : 2 ≤ n) (h4 : n ≤ 4) (hk : k ≤ 4) (hg : ∀ g, g < k → gs g < n ^ n ∧ ga g = nI (gs g)) (X : bf_X n k gs s cd pf L R Q nu co be la le ri lf) (hx : yg_N n k gs ne) : i_Rel j (nI n, nI (n ^ n), nI k, nI s, 1, ga, nu, co, be, la, le, ri, lf, pa, rd, rg, qu) (nI n, nI (n ^ n), nI k, ga, th, ln, wo, ne, se) :=
  re_in ⟨h2, h4, hk, hg, fun _ => ⟨rfl, s, cd, pf, L, R, Q, rfl, X⟩, hx⟩
theorem i_up {k : Nat} {u : SX} {v : SY} (h : i_Rel k u v) : i_Rel (k + 4) u v := h
section
variable {ga nu co be la le ri lf pa rd rg qu : Nat → Int32} {fc fz fu : Int32} {n : Nat}
theorem xw_i144 {post : SX → Prop} (h4 : n ≤ 4) (h : post (nI n, nI (n ^ n), fc, fz, fu, ga, nu, co, be, la, le, ri, lf, pa, rd, rg, qu)) : ∀ d p, p + d = n → wX_init_144 post (nI n) fc fz fu ga nu co be la le ri lf pa rd rg qu (d + 1) (nI p) (nI (n ^ p))
  | 0, p, e => by
    have e' : p = n := by omega
    subst e'
    exact br_t (nI_le (by omega) (by omega)) h
  | d + 1, p, e => by
    refine br_f (nI_ge (by omega) (by omega)) (nm_r (e' := nI (n ^ (p + 1))) ?_ (nm_r (nI_1 p) (xw_i144 h4 h d (p + 1) (by omega))))
    rw [pk_mul, Nat.pow_succ]
end
theorem re_init {j n : Nat} {ga nu co be la le ri lf pa rd rg qu th ln ne : Nat → Int32} {wo se : Nat → Int64} {fz : Int32} (h2 : 2 ≤ n) (h4 : n ≤ 4) : i_Rel j (nI n, nI (n ^ n), 0, fz, 0, ga, nu, co, be, la, le, ri, lf, pa, rd, rg, qu) (nI n, nI (n ^ n), 0, ga, th, ln, wo, ne, se) :=
  re_in (k := 0) (gs := fun _ => 0) ⟨h2, h4, by omega, fun g h => by omega, fun h => absurd rfl h, fun g h => by omega⟩
theorem yw_i76 {post : SY → Prop} {n : Nat} {gn gd gc : Int32} {gg th ln ne : Nat → Int32} {wo se : Nat → Int64} (h2 : 2 ≤ n) (h4 : n ≤ 4) (h : post (nI n, nI (n ^ n), gc, gg, th, ln, wo, ne, se)) : wY_init_76 post (nI n) gn gd gc gg th ln wo ne se := by
  rcases (by omega : n = 2 ∨ n = 3 ∨ n = 4) with e | e | e <;> subst e
  · exact br_t rfl h
  · exact br_f (by decide) (br_t rfl h)
  · exact br_f (by decide) (br_f (by decide) h)
theorem re_z4 {p0 : Int32} (h : 2 ≤ p0) (h' : p0 ≤ 4) : ∃ n, 2 ≤ n ∧ n ≤ 4 ∧ p0 = nI n := by
  obtain ⟨j, hj, e⟩ := nI_of2 (x := p0) (M := 4) (n := 4) (by decide) (fun z => by
    rw [Int32.lt_iff_toInt_lt] at z
    rw [Int32.le_iff_toInt_le] at h
    have a : (2 : Int32).toInt = 2 := by decide
    have b : (0 : Int32).toInt = 0 := by decide
    omega) h'
  subst e
  exact ⟨j, (nI_leI (a := 2) (by omega) (by omega)).mp h, hj, rfl⟩
theorem i_vc0 (k0 : Int32) : wpX_init (fun u => wpY_init (fun v => i_Rel 1 u v) k0) k0 := by
  by_cases h : 2 ≤ k0
  · by_cases h' : k0 ≤ 4
    · obtain ⟨n, n2, n4, e⟩ := re_z4 h h'
      subst e
      refine br_t h (br_t h' ⟨n + 1, xw_i144 n4 ?_ n 0 (by omega)⟩)
      exact br_t h (br_t h' (yw_i76 n2 n4 (re_init n2 n4)))
    · refine br_t h (br_f h' ⟨5, xw_i144 (n := 4) (by omega) ?_ 4 0 (by omega)⟩)
      exact br_t h (br_f h' (yw_i76 (n := 4) (by omega) (by omega) (re_init (n := 4) (by omega) (by omega))))
  · refine br_f h (br_t (by decide) ⟨3, xw_i144 (n := 2) (by omega) ?_ 2 0 (by omega)⟩)
    exact br_f h (yw_i76 (n := 2) (by omega) (by omega) (re_init (n := 2) (by omega) (by omega)))
theorem i_vc_points {k : Nat} {u : SX} {v : SY} (I : i_Rel k u v) (hk : k + 4 ≤ 2049) : wpX_points (fun r => wpY_points (fun r' => r' = r ∧ i_Rel (k + 4) u v) v) u := by
  refine re_el (P := fun u v => wpX_points (fun r => wpY_points (fun r' => r' = r ∧ i_Rel (k + 4) u v) v) u) ?_ I
  intro n k' gs fz fu ga nu co be la le ri lf pa rd rg qu th ln ne wo se h
  exact ⟨rfl, re_in h⟩
end
section
/-! generate, drop, product -/
theorem yl_ix (g c : Nat) : ((1024 : Int32) + (256 : Int32) * nI g) + nI c = nI (1024 + 256 * g + c) := by
  show (nI 1024 + nI 256 * nI g) + nI c = _
  rw [pk_mul, nI_add, nI_add]
def yl_I (n g : Nat) (gs : Nat → Nat) (x c : Nat) (ne : Nat → Int32) : Prop := yg_N n g gs ne ∧ ∀ c', c' < c → ne (256 * g + c') = nI (mo_m n c' x) ∧ ne (1024 + 256 * g + c') = nI (mo_m n x c')
section
variable {n g x : Nat} {gs : Nat → Nat} {gg th ln : Nat → Int32} {wo se : Nat → Int64} {gc : Int32}
theorem yl_s (hN : n ^ n ≤ 256) (hg : g < 4) {c : Nat} {ne : Nat → Int32} (hc : c < n ^ n) (h : yl_I n g gs x c ne) : yl_I n g gs x (c + 1) (upd (upd ne (256 * g + c) (nI (mo_m n c x))) (1024 + 256 * g + c) (nI (mo_m n x c))) := by
  refine ⟨fun g' hg' c' hc' => ?_, fun c' hc' => ?_⟩
  · rw [pk_un (by omega), pk_un (by omega), pk_un (by omega), pk_un (by omega)]
    exact h.1 g' hg' c' hc'
  · by_cases z : c' = c
    · subst z
      rw [pk_un (by omega), pk_us, pk_us]
      exact ⟨rfl, rfl⟩
    · rw [pk_un (by omega), pk_un (by omega), pk_un (by omega), pk_un (by omega)]
      exact h.2 c' (by omega)
theorem yw_l9 {post : SY → Prop} (h2 : 2 ≤ n) (h4 : n ≤ 4) (hg : g < 4) (hx : x < n ^ n) (hp : ∀ ne, yl_I n g gs x (n ^ n) ne → post (nI n, nI (n ^ n), gc, gg, th, ln, wo, ne, se)) : ∀ d c ne, c + d = n ^ n → yl_I n g gs x c ne → wY_learn_9 post (nI g) (nI x) (nI n) (nI (n ^ n)) gc (d + 1) (nI c) gg th ln wo ne se
  | 0, c, ne, e, h => by
    have hN := bf_N h2 h4
    have e' : c = n ^ n := by omega
    rw [e'] at h
    exact br_t (nI_le (by omega) (by omega)) (hp ne h)
  | d + 1, c, ne, e, h => by
    have hN := bf_N h2 h4
    refine br_f (nI_ge (by omega) (by omega)) (br_f (nI_ge (b := 256) (by omega) (by omega)) (yw_times h2 h4 (by omega) (by omega) ?_))
    rw [yg_ix, yl_ix, nI_clamp (n := 256 * g + c) (by omega), nI_clamp (n := 1024 + 256 * g + c) (by omega)]
    exact ⟨vp_in_nI (by omega) (by omega), nm_e (yw_times h2 h4 (by omega) (by omega) ⟨vp_in_nI (by omega) (by omega), nm_e (nm_r (nI_1 c) (yw_l9 h2 h4 hg hx hp d (c + 1) _ (by omega) (yl_s hN hg (by omega) h)))⟩)⟩
theorem yw_learn {post : SY → Prop} (h2 : 2 ≤ n) (h4 : n ≤ 4) (hg : g < 4) (hx : x < n ^ n) {ne : Nat → Int32} (h : yg_N n g gs ne) (hp : ∀ ne, yl_I n g gs x (n ^ n) ne → post (nI n, nI (n ^ n), gc, upd gg g (nI x), th, ln, wo, ne, se)) : wpY_learn post (nI n, nI (n ^ n), gc, gg, th, ln, wo, ne, se) (nI g) (nI x) := by
  refine ⟨vp_in_nI hg (by omega), nm_r (e' := upd gg g (nI x)) (by rw [nI_clamp (by omega)]) ⟨n ^ n + 1, yw_l9 h2 h4 hg hx hp (n ^ n) 0 ne (by omega) ⟨h, fun c' hc' => by omega⟩⟩⟩
end
theorem yl_end {n k x : Nat} {gs : Nat → Nat} {ne : Nat → Int32} (h : yl_I n k gs x (n ^ n) ne) : yg_N n (k + 1) (bf_u gs k x) ne := by
  intro g hg c hc
  by_cases z : g = k
  · subst z
    rw [bf_us]
    exact h.2 c hc
  · rw [bf_un z]
    exact h.1 g (by omega) c hc
theorem i_vc_generate {k : Nat} {u : SX} {v : SY} (I : i_Rel k u v) (hk : k + 4 ≤ 2049) (v1 : Int32) : wpX_generate (fun r u' => wpY_generate (fun r' v' => r' = r ∧ i_Rel (k + 4) u' v') v v1) u v1 := by
  refine re_el (P := fun u v => wpX_generate (fun r u' => wpY_generate (fun r' v' => r' = r ∧ i_Rel (k + 4) u' v') v v1) u v1) ?_ I
  intro n k' gs fz fu ga nu co be la le ri lf pa rd rg qu th ln ne wo se h
  obtain ⟨h2, h4, hk', hg, hc, hx⟩ := id h
  have hN := bf_N h2 h4
  unfold wpX_generate wpY_generate
  dsimp only
  refine xw_isCode2 hN (fun hb => ?_) (fun x hx1 e => ?_)
  · exact br_t rfl (yw_bad0 hb (br_f (by decide) ⟨rfl, re_in h⟩))
  · subst e
    refine br_f (by decide) (br_c (fun z => ?_) (fun z => ?_))
    · have e : k' = 4 := (nI_eq (b := 4) (by omega) (by omega)).mp z
      subst e
      exact yw_bad hN hx1 (br_t rfl (br_f (by decide) ⟨rfl, re_in h⟩))
    · have e : k' ≠ 4 := fun y => z (by rw [y]; rfl)
      refine ⟨vp_in_nI (by omega) (by omega), nm_r (e' := upd ga k' (nI x)) (by rw [nI_clamp (by omega)]) (nm_r (nI_1 k') ?_)⟩
      refine yw_bad hN hx1 (br_t rfl (br_t (nI_le (b := 3) (by omega) (by omega)) (yw_learn h2 h4 (by omega) hx1 hx (fun ne' H => nm_r (nI_1 k') ⟨rfl, ?_⟩))))
      refine re_in (gs := bf_u gs k' x) ⟨h2, h4, by omega, fun g hg' => ?_, fun z => absurd rfl z, yl_end H⟩
      by_cases y : g = k'
      · subst y
        rw [bf_us, pk_us]
        exact ⟨hx1, rfl⟩
      · rw [bf_un y, pk_un y]
        exact hg g (by omega)
theorem i_vc_drop {k : Nat} {u : SX} {v : SY} (I : i_Rel k u v) (hk : k + 4 ≤ 2049) : wpX_drop (fun r u' => wpY_drop (fun r' v' => r' = r ∧ i_Rel (k + 4) u' v') v) u := by
  refine re_el (P := fun u v => wpX_drop (fun r u' => wpY_drop (fun r' v' => r' = r ∧ i_Rel (k + 4) u' v') v) u) ?_ I
  intro n k' gs fz fu ga nu co be la le ri lf pa rd rg qu th ln ne wo se h
  obtain ⟨h2, h4, hk', hg, hc, hx⟩ := id h
  by_cases z : k' = 0
  · subst z
    exact br_t rfl (br_t rfl ⟨rfl, re_in h⟩)
  · have e : nI k' - 1 = nI (k' - 1) := pk_sub (b := 1) (by omega)
    refine br_f (nI_ne0 (by omega) (by omega)) (nm_r e ⟨vp_in_nI (by omega) (by omega), br_f (nI_ne0 (by omega) (by omega)) (nm_r e ⟨vp_in_nI (by omega) (by omega), rfl, ?_⟩)⟩)
    exact re_in ⟨h2, h4, by omega, fun g hg' => hg g (by omega), fun z => absurd rfl z, fun g hg' => hx g (by omega)⟩
theorem i_vc_product {k : Nat} {u : SX} {v : SY} (I : i_Rel k u v) (hk : k + 4 ≤ 2049) (v1 : Int32) (v2 : Int32) : wpX_product (fun r => wpY_product (fun r' => r' = r ∧ i_Rel (k + 4) u v) v v1 v2) u v1 v2 := by
  refine re_el (P := fun u v => wpX_product (fun r => wpY_product (fun r' => r' = r ∧ i_Rel (k + 4) u v) v v1 v2) u v1 v2) ?_ I
  intro n k' gs fz fu ga nu co be la le ri lf pa rd rg qu th ln ne wo se h
  obtain ⟨h2, h4, hk', hg, hc, hx⟩ := id h
  have hN := bf_N h2 h4
  unfold wpX_product wpY_product
  dsimp only
  refine xw_isCode2 hN (fun hb => ?_) (fun f hf e => ?_)
  · exact br_t rfl (yw_bad0 hb (br_f (by decide) ⟨rfl, re_in h⟩))
  · subst e
    refine br_f (by decide) (xw_isCode2 hN (fun hb => ?_) (fun g hg1 e => ?_))
    · exact br_t rfl (yw_bad hN hf (br_t rfl (yw_bad0 hb (br_f (by decide) ⟨rfl, re_in h⟩))))
    · subst e
      refine br_f (by decide) (xw_compose h2 h4 (by omega) (by omega) ?_)
      exact yw_bad hN hf (br_t rfl (yw_bad hN hg1 (br_t rfl (yw_times h2 h4 (by omega) (by omega) ⟨rfl, re_in h⟩))))
end
section
/-! size, has, element, length, letter, longest, idempotents -/
section
variable {n k s : Nat} {gs cd pf L R Q : Nat → Nat} {ga nu co be la le ri lf pa rd rg qu th ln ne : Nat → Int32} {wo se : Nat → Int64}
theorem yg_t {c : Nat} (Y : yg_Y n k gs th ln wo) (hc : c < n ^ n) (h : mo_M n k gs c) : ¬ th c = 0 := by
  rcases Y c hc with z | z
  · exact absurd h z.2
  · rw [z.2.1]; decide
theorem yg_f {c : Nat} (Y : yg_Y n k gs th ln wo) (hc : c < n ^ n) (h : ¬ mo_M n k gs c) : th c = 0 := by
  rcases Y c hc with z | z
  · exact z.1
  · exact absurd z.1 h
theorem yg_iff {c : Nat} (Y : yg_Y n k gs th ln wo) (hc : c < n ^ n) : th c = 0 ↔ ¬ mo_M n k gs c := ⟨fun z h => yg_t Y hc h z, yg_f Y hc⟩
theorem bf_Yl (X : bf_X n k gs s cd pf L R Q nu co be la le ri lf) (Y : yg_Y n k gs th ln wo) (hk : k ≤ 4) (h2 : 2 ≤ n) (h4 : n ≤ 4) {i : Nat} (hi : i < s) : ln (cd i) = nI (L i) ∧ wo (cd i) = lN (bf_v pf (L i) i) ∧ L i ≤ 31 ∧ bf_v pf (L i) i < 2 ^ 62 := by
  have hb := bf_B X hk h2 h4 hi
  have h31 := mo_B31 h2 h4 hb
  rcases Y (cd i) (X.1.2.2.1 i hi).1 with z | ⟨_, _, l, v, hb', e1, e2⟩
  · exact absurd (mo_BM hb) z.2
  · obtain ⟨r1, r2⟩ := mo_Bu hb' hb
    subst r1 r2
    exact ⟨e1, e2, h31, mo_w_62 hk hb.1 h31⟩
theorem yw_tot4 {post : Int32 → Prop} (h2 : 2 ≤ n) (h4 : n ≤ 4) (Y : yg_Y n k gs th ln wo) (h : post (nI (cn (mo_M n k gs) (n ^ n)))) : ∀ d c, c + d = n ^ n → wY_total_4 post (nI n) (nI (n ^ n)) (nI k) ga th ln wo ne se (d + 1) (nI (cn (mo_M n k gs) c)) (nI c)
  | 0, c, e => by
    have hN := bf_N h2 h4
    have e' : c = n ^ n := by omega
    rw [e']
    exact br_t (nI_le (by omega) (by omega)) h
  | d + 1, c, e => by
    have hN := bf_N h2 h4
    refine br_f (nI_ge (by omega) (by omega)) ?_
    rw [nI_clamp (n := c) (by omega)]
    refine ⟨vp_in_nI (by omega) (by omega), br_c (fun z => nm_r (nI_1 c) ?_) (fun z => nm_r (nI_1 _) (nm_r (nI_1 c) ?_))⟩
    · rw [← cn_s0 ((yg_iff Y (by omega)).mp z)]
      exact yw_tot4 h2 h4 Y h d (c + 1) (by omega)
    · rw [← cn_s1 (Classical.byContradiction fun y => z (yg_f Y (by omega) y))]
      exact yw_tot4 h2 h4 Y h d (c + 1) (by omega)
theorem yw_total {post : Int32 → Prop} (h2 : 2 ≤ n) (h4 : n ≤ 4) (Y : yg_Y n k gs th ln wo) (h : post (nI (cn (mo_M n k gs) (n ^ n)))) : wpY_total post (nI n, nI (n ^ n), nI k, ga, th, ln, wo, ne, se) :=
  ⟨n ^ n + 1, yw_tot4 h2 h4 Y h (n ^ n) 0 (by omega)⟩
theorem el_scan (h2 : 2 ≤ n) (h4 : n ≤ 4) (hk : k ≤ 4) (X : bf_X n k gs s cd pf L R Q nu co be la le ri lf) (v1 : Int32) : ∀ d c b, c + d = n ^ n → ∃ r, (∀ post : Int32 → SX → Prop, post r (nI n, nI (n ^ n), nI k, nI s, 1, ga, nu, co, be, la, le, ri, lf, pa, rd, rg, qu) → wX_element_8 post (nI n) (nI (n ^ n)) (nI k) (nI s) 1 ga nu co be la le ri lf pa rd rg qu (d + 1) (v1 - nI b) (nI c)) ∧ (∀ th ln wo, yg_Y n k gs th ln wo → ∀ post : Int32 → SY → Prop, post r (nI n, nI (n ^ n), nI k, ga, th, ln, wo, ne, se) → wY_element_8 post v1 (nI n) (nI (n ^ n)) (nI k) ga th ln wo ne se (d + 1) (nI b) (nI c))
  | 0, c, b, e => by
    have hN := bf_N h2 h4
    have e' : c = n ^ n := by omega
    have h := nI_le (a := n ^ n) (b := c) (by omega) (by omega)
    exact ⟨-1, fun post hp => br_t h hp, fun th ln wo Y post hp => br_t h hp⟩
  | d + 1, c, b, e => by
    have hN := bf_N h2 h4
    have hs := X.1.1.2
    have h := nI_ge (a := c) (b := n ^ n) (by omega) (by omega)
    have hi : vp_in (nI c) 256 := vp_in_nI (by omega) (by omega)
    have cc := nI_clamp (n := c) (by omega)
    rcases bf_nu X hk h2 h4 (show c < n ^ n by omega) with ⟨z1, z2⟩ | ⟨z1, i, hi1, z2, z3⟩
    · obtain ⟨r, hX, hY⟩ := el_scan h2 h4 hk X v1 d (c + 1) b (by omega)
      exact ⟨r, fun post hp => br_f h ⟨hi, br_t (by rw [cc]; exact z1) (nm_r (nI_1 c) (hX post hp))⟩, fun th ln wo Y post hp => br_f h ⟨hi, br_t (by rw [cc]; exact yg_f Y (by omega) z2) (nm_r (nI_1 c) (hY th ln wo Y post hp))⟩⟩
    · have nx : ¬ nu (nI c).toNatClampNeg = -1 := by rw [cc, z3]; exact bf_m1 (by omega)
      have ny : ∀ th ln wo, yg_Y n k gs th ln wo → ¬ th (nI c).toNatClampNeg = 0 := fun th ln wo Y => by rw [cc]; exact yg_t Y (by omega) z1
      by_cases y : nI b = v1
      · have x0 : v1 - nI b = 0 := by rw [y]; exact Int32.sub_self v1
        exact ⟨nI c, fun post hp => br_f h ⟨hi, br_f nx (br_t x0 hp)⟩, fun th ln wo Y post hp => br_f h ⟨hi, br_f (ny th ln wo Y) (br_t y hp)⟩⟩
      · have x0 : ¬ v1 - nI b = 0 := fun z => y (by
          have : v1 - nI b + nI b = 0 + nI b := by rw [z]
          rw [Int32.sub_add_cancel, Int32.zero_add] at this
          exact this.symm)
        obtain ⟨r, hX, hY⟩ := el_scan h2 h4 hk X v1 d (c + 1) (b + 1) (by omega)
        refine ⟨r, fun post hp => br_f h ⟨hi, br_f nx (br_f x0 (nm_r (e' := v1 - nI (b + 1)) ?_ (nm_r (nI_1 c) (hX post hp))))⟩, fun th ln wo Y post hp => br_f h ⟨hi, br_f (ny th ln wo Y) (br_f y (nm_r (nI_1 b) (nm_r (nI_1 c) (hY th ln wo Y post hp))))⟩⟩
        rw [← nI_1]
        grind
theorem xw_l46 {post : Int32 → SX → Prop} (h2 : 2 ≤ n) (h4 : n ≤ 4) (hk : k ≤ 4) (X : bf_X n k gs s cd pf L R Q nu co be la le ri lf) {p : Nat} (hp : p < 1000) : ∀ e i, i < s → L i = p + 1 + e → e < 1000 → post (nI (bf_v pf (L i) i / 4 ^ e % 4)) (nI n, nI (n ^ n), nI k, nI s, 1, ga, nu, co, be, la, le, ri, lf, pa, rd, rg, qu) → wX_letter_46 post (nI p) (nI n) (nI (n ^ n)) (nI k) (nI s) 1 ga nu co be la le ri lf pa rd rg qu (e + 1) (nI i)
  | 0, i, hi, hL, he, h => by
    have hN := bf_N h2 h4
    have hs := X.1.1.2
    have cc := nI_clamp (n := i) (by omega)
    obtain ⟨p1, p2, p3, p4, p5, p6⟩ := X.1.2.2.2.2.1 i (by rcases Nat.eq_zero_or_pos i with z | z; rw [z, X.1.2.1.2] at hL; omega; exact z) hi
    have e4 := (X.1.2.2.1 i hi).2.2.2
    have i0 : 0 < i := by omega
    refine ⟨vp_in_nI (by omega) (by omega), br_t (by rw [cc, e4, hL, nI_1]; exact nI_le (by omega) (by omega)) ⟨vp_in_nI (by omega) (by omega), ?_⟩⟩
    rw [cc, p5]
    rw [bf_vs X.1 i0 hi, Nat.pow_zero, Nat.div_one, Nat.mul_add_mod, Nat.mod_mod] at h
    exact h
  | e + 1, i, hi, hL, he, h => by
    have hN := bf_N h2 h4
    have hs := X.1.1.2
    have cc := nI_clamp (n := i) (by omega)
    obtain ⟨p1, p2, p3, p4, p5, p6⟩ := X.1.2.2.2.2.1 i (by rcases Nat.eq_zero_or_pos i with z | z; rw [z, X.1.2.1.2] at hL; omega; exact z) hi
    have e4 := (X.1.2.2.1 i hi).2.2.2
    have i0 : 0 < i := by omega
    refine ⟨vp_in_nI (by omega) (by omega), br_f (by rw [cc, e4, hL, nI_1]; exact nI_ge (by omega) (by omega)) ⟨vp_in_nI (by omega) (by omega), nm_r (e' := nI (pf i / 4)) (by rw [cc, p4]) ?_⟩⟩
    refine xw_l46 h2 h4 hk X hp e (pf i / 4) (by omega) (by omega) (by omega) ?_
    rw [bf_vs X.1 i0 hi, Nat.pow_succ, Nat.mul_comm (4 ^ e) 4, ← Nat.div_div_eq_div_mul, Nat.mul_add_div (by decide), Nat.div_eq_of_lt (show pf i % 4 < 4 by omega), Nat.add_zero] at h
    exact h
theorem yl_let {v e : Nat} (hv : v < 2 ^ 62) (he : e < 31) : ((lN v >>> ((nI (2 * e)).toInt64 &&& 63)).toInt32) &&& 3 = nI (v / 4 ^ e % 4) := by
  rw [wb_c (2 * e) (by omega), pf_shr (d := 2 * e) (by rw [wb_tb, wb_sm (2 * e) (by omega), BitVec.toNat_ofNat]; omega) hv, lN_i, pk_and _ 2 (by decide)]
  congr 1
  have e1 : (nI (v / 2 ^ (2 * e))).toBitVec.toNat = v / 2 ^ (2 * e) % 2 ^ 32 := BitVec.toNat_ofNat _ _
  rw [e1, Nat.pow_mul, show 2 ^ 2 = 4 from rfl]
  omega
theorem yw_lg8 {post : Int32 → SY → Prop} (h2 : 2 ≤ n) (h4 : n ≤ 4) (hk : k ≤ 4) (X : bf_X n k gs s cd pf L R Q nu co be la le ri lf) (Y : yg_Y n k gs th ln wo) (h : post (nI (L (s - 1))) (nI n, nI (n ^ n), nI k, ga, th, ln, wo, ne, se)) : ∀ d c m, c + d = n ^ n → (∀ i, i < s → cd i < c → L i ≤ m) → m ≤ L (s - 1) → wY_longest_8 post (nI n) (nI (n ^ n)) (nI k) ga th ln wo ne se (d + 1) (nI m) (nI c)
  | 0, c, m, e, h1, h3 => by
    have hN := bf_N h2 h4
    have hs := X.1.1
    have e' : c = n ^ n := by omega
    have a := h1 (s - 1) (by omega) (by rw [e']; exact (X.1.2.2.1 (s - 1) (by omega)).1)
    have b : m = L (s - 1) := by omega
    rw [b]
    exact br_t (nI_le (by omega) (by omega)) h
  | d + 1, c, m, e, h1, h3 => by
    have hN := bf_N h2 h4
    have hs := X.1.1
    have hl := (bf_Yl X Y hk h2 h4 (i := s - 1) (by omega)).2.2.1
    refine br_f (nI_ge (by omega) (by omega)) ?_
    rw [nI_clamp (n := c) (by omega)]
    refine ⟨vp_in_nI (by omega) (by omega), ?_⟩
    by_cases M : mo_M n k gs c
    · obtain ⟨i, hi, ei⟩ := (bf_M X hk).mp M
      obtain ⟨l1, l2, l3, l4⟩ := bf_Yl X Y hk h2 h4 hi
      rw [ei] at l1
      have lm : L i ≤ L (s - 1) := by
        by_cases z : i = s - 1
        · rw [z]; exact Nat.le_refl _
        · have := bf_mono X.1 (s - 1) (by omega) i (by omega)
          omega
      refine br_f (yg_t Y (by omega) M) ⟨vp_in_nI (by omega) (by omega), ?_⟩
      rw [l1]
      refine br_c (fun z => nm_r (nI_1 c) ?_) (fun z => ⟨vp_in_nI (by omega) (by omega), nm_e (nm_r (nI_1 c) ?_)⟩)
      · have z' := (nI_leI (by omega) (by omega)).mp z
        refine yw_lg8 h2 h4 hk X Y h d (c + 1) m (by omega) (fun j hj hjc => ?_) h3
        by_cases y : cd j = c
        · have := bf_inj h2 h4 X.1 hj hi (y.trans ei.symm)
          rw [this]; exact z'
        · exact h1 j hj (by omega)
      · have z' : ¬ L i ≤ m := fun y => z ((nI_leI (by omega) (by omega)).mpr y)
        refine yw_lg8 h2 h4 hk X Y h d (c + 1) (L i) (by omega) (fun j hj hjc => ?_) lm
        by_cases y : cd j = c
        · have := bf_inj h2 h4 X.1 hj hi (y.trans ei.symm)
          rw [this]; exact Nat.le_refl _
        · have := h1 j hj (by omega)
          omega
    · refine br_t (yg_f Y (by omega) M) (nm_r (nI_1 c) (yw_lg8 h2 h4 hk X Y h d (c + 1) m (by omega) (fun j hj hjc => h1 j hj ?_) h3))
      have : cd j ≠ c := fun y => M ((bf_M X hk).mpr ⟨j, hj, y⟩)
      omega
theorem xw_id8 {post : Int32 → SX → Prop} (h2 : 2 ≤ n) (h4 : n ≤ 4) (X : bf_X n k gs s cd pf L R Q nu co be la le ri lf) (h : post (nI (cn (fun i => mo_m n (cd i) (cd i) = cd i) s)) (nI n, nI (n ^ n), nI k, nI s, 1, ga, nu, co, be, la, le, ri, lf, pa, rd, rg, qu)) : ∀ d a, a + d = s → wX_idempotents_8 post (nI n) (nI (n ^ n)) (nI k) (nI s) 1 ga nu co be la le ri lf pa rd rg qu (d + 1) (nI (cn (fun i => mo_m n (cd i) (cd i) = cd i) a)) (nI a)
  | 0, a, e => by
    have hN := bf_N h2 h4
    have hs := X.1.1
    have e' : a = s := by omega
    rw [e']
    exact br_t (nI_le (by omega) (by omega)) h
  | d + 1, a, e => by
    have hN := bf_N h2 h4
    have hs := X.1.1
    obtain ⟨c1, c2, c3, c4⟩ := X.1.2.2.1 a (by omega)
    have hm : mo_m n (cd a) (cd a) < n ^ n := mo_m_lt (by omega) _ _
    refine br_f (nI_ge (by omega) (by omega)) ?_
    rw [nI_clamp (n := a) (by omega), c3]
    refine ⟨vp_in_nI (by omega) (by omega), vp_in_nI (by omega) (by omega), xw_compose h2 h4 (by omega) (by omega) ⟨vp_in_nI (by omega) (by omega), br_c (fun z => nm_r (nI_1 _) (nm_r (nI_1 a) ?_)) (fun z => nm_r (Int32.add_zero _) (nm_r (nI_1 a) ?_))⟩⟩
    · rw [← cn_s1 (P := fun i => mo_m n (cd i) (cd i) = cd i) ((nI_eq (by omega) (by omega)).mp z)]
      exact xw_id8 h2 h4 X h d (a + 1) (by omega)
    · rw [← cn_s0 (P := fun i => mo_m n (cd i) (cd i) = cd i) (fun y => z (congrArg nI y))]
      exact xw_id8 h2 h4 X h d (a + 1) (by omega)
theorem yw_id8 {post : Int32 → SY → Prop} (h2 : 2 ≤ n) (h4 : n ≤ 4) (Y : yg_Y n k gs th ln wo) (h : post (nI (cn (fun c => mo_M n k gs c ∧ mo_m n c c = c) (n ^ n))) (nI n, nI (n ^ n), nI k, ga, th, ln, wo, ne, se)) : ∀ d c, c + d = n ^ n → wY_idempotents_8 post (nI n) (nI (n ^ n)) (nI k) ga th ln wo ne se (d + 1) (nI (cn (fun c => mo_M n k gs c ∧ mo_m n c c = c) c)) (nI c)
  | 0, c, e => by
    have hN := bf_N h2 h4
    have e' : c = n ^ n := by omega
    rw [e']
    exact br_t (nI_le (by omega) (by omega)) h
  | d + 1, c, e => by
    have hN := bf_N h2 h4
    have hm : mo_m n c c < n ^ n := mo_m_lt (by omega) _ _
    refine br_f (nI_ge (by omega) (by omega)) ?_
    rw [nI_clamp (n := c) (by omega)]
    refine ⟨vp_in_nI (by omega) (by omega), br_c (fun z => nm_r (nI_1 c) ?_) (fun z => yw_times h2 h4 (by omega) (by omega) (br_c (fun y => nm_r (nI_1 _) (nm_r (nI_1 c) ?_)) (fun y => nm_r (nI_1 c) ?_)))⟩
    · rw [← cn_s0 (P := fun c => mo_M n k gs c ∧ mo_m n c c = c) (fun y => (yg_iff Y (by omega)).mp z y.1)]
      exact yw_id8 h2 h4 Y h d (c + 1) (by omega)
    · rw [← cn_s1 (P := fun c => mo_M n k gs c ∧ mo_m n c c = c) ⟨Classical.byContradiction fun x => z (yg_f Y (by omega) x), (nI_eq (by omega) (by omega)).mp y⟩]
      exact yw_id8 h2 h4 Y h d (c + 1) (by omega)
    · rw [← cn_s0 (P := fun c => mo_M n k gs c ∧ mo_m n c c = c) (fun x => y (congrArg nI x.2))]
      exact yw_id8 h2 h4 Y h d (c + 1) (by omega)
end
end
section
/-! the owed ones: size, has, element, length, letter, longest, idempotents -/
theorem i_vc_size {k : Nat} {u : SX} {v : SY} (I : i_Rel k u v) (hk : k + 4 ≤ 2049) : wpX_size (fun r u' => wpY_size (fun r' v' => r' = r ∧ i_Rel (k + 4) u' v') v) u := by
  refine re_el (P := fun u v => wpX_size (fun r u' => wpY_size (fun r' v' => r' = r ∧ i_Rel (k + 4) u' v') v) u) ?_ I
  intro n k' gs fz fu ga nu co be la le ri lf pa rd rg qu th ln ne wo se h
  obtain ⟨h2, h4, hk', hg, hc, hx⟩ := h
  unfold wpX_size wpY_size
  dsimp only
  refine xw_refresh h2 h4 hk' hg hc (fun s cd pf L R Q nu co be la le ri lf X => ?_)
  refine yw_work h2 h4 hk' hx (fun th ln wo Y => ?_)
  refine yw_total h2 h4 Y ⟨?_, re_inX h2 h4 hk' hg X hx⟩
  rw [← bf_size X hk' h2 h4]
theorem i_vc_has {k : Nat} {u : SX} {v : SY} (I : i_Rel k u v) (hk : k + 4 ≤ 2049) (v1 : Int32) : wpX_has (fun r u' => wpY_has (fun r' v' => r' = r ∧ i_Rel (k + 4) u' v') v v1) u v1 := by
  refine re_el (P := fun u v => wpX_has (fun r u' => wpY_has (fun r' v' => r' = r ∧ i_Rel (k + 4) u' v') v v1) u v1) ?_ I
  intro n k' gs fz fu ga nu co be la le ri lf pa rd rg qu th ln ne wo se h
  obtain ⟨h2, h4, hk', hg, hc, hx⟩ := id h
  have hN := bf_N h2 h4
  unfold wpX_has wpY_has
  dsimp only
  refine xw_isCode2 hN (fun hb => ?_) (fun x hx1 e => ?_)
  · exact br_t rfl (yw_bad0 hb (br_f (by decide) ⟨rfl, re_in h⟩))
  · subst e
    have cc := nI_clamp (n := x) (by omega)
    have vi : vp_in (nI x) 256 := vp_in_nI (by omega) (by omega)
    refine br_f (by decide) (xw_refresh h2 h4 hk' hg hc (fun s cd pf L R Q nu co be la le ri lf X => ?_))
    have hs := X.1.1
    dsimp only
    rw [cc]
    rcases bf_nu X hk' h2 h4 hx1 with ⟨z1, z2⟩ | ⟨z1, i, hi1, z2, z3⟩
    · exact ⟨vi, br_t z1 (yw_bad hN hx1 (br_t rfl (yw_work h2 h4 hk' hx (fun th ln wo Y => ⟨vi, br_t (yg_f Y hx1 z2) ⟨rfl, re_inX h2 h4 hk' hg X hx⟩⟩))))⟩
    · exact ⟨vi, br_f (by rw [z3]; exact bf_m1 (by omega)) (yw_bad hN hx1 (br_t rfl (yw_work h2 h4 hk' hx (fun th ln wo Y => ⟨vi, br_f (yg_t Y hx1 z1) ⟨rfl, re_inX h2 h4 hk' hg X hx⟩⟩))))⟩
theorem i_vc_element {k : Nat} {u : SX} {v : SY} (I : i_Rel k u v) (hk : k + 4 ≤ 2049) (v1 : Int32) : wpX_element (fun r u' => wpY_element (fun r' v' => r' = r ∧ i_Rel (k + 4) u' v') v v1) u v1 := by
  refine re_el (P := fun u v => wpX_element (fun r u' => wpY_element (fun r' v' => r' = r ∧ i_Rel (k + 4) u' v') v v1) u v1) ?_ I
  intro n k' gs fz fu ga nu co be la le ri lf pa rd rg qu th ln ne wo se h
  obtain ⟨h2, h4, hk', hg, hc, hx⟩ := h
  unfold wpX_element wpY_element
  dsimp only
  refine xw_refresh h2 h4 hk' hg hc (fun s cd pf L R Q nu co be la le ri lf X => ?_)
  dsimp only
  obtain ⟨r, hX, hY⟩ := el_scan (ga := ga) (pa := pa) (rd := rd) (rg := rg) (qu := qu) (ne := ne) (se := se) h2 h4 hk' X v1 (n ^ n) 0 0 (by omega)
  rw [show v1 - nI 0 = v1 from Int32.sub_zero v1] at hX
  exact ⟨n ^ n + 1, hX _ (yw_work h2 h4 hk' hx (fun th ln wo Y => ⟨n ^ n + 1, hY th ln wo Y _ ⟨rfl, re_inX h2 h4 hk' hg X hx⟩⟩))⟩
theorem i_vc_length {k : Nat} {u : SX} {v : SY} (I : i_Rel k u v) (hk : k + 4 ≤ 2049) (v1 : Int32) : wpX_length (fun r u' => wpY_length (fun r' v' => r' = r ∧ i_Rel (k + 4) u' v') v v1) u v1 := by
  refine re_el (P := fun u v => wpX_length (fun r u' => wpY_length (fun r' v' => r' = r ∧ i_Rel (k + 4) u' v') v v1) u v1) ?_ I
  intro n k' gs fz fu ga nu co be la le ri lf pa rd rg qu th ln ne wo se h
  obtain ⟨h2, h4, hk', hg, hc, hx⟩ := id h
  have hN := bf_N h2 h4
  unfold wpX_length wpY_length
  dsimp only
  refine xw_isCode2 hN (fun hb => ?_) (fun x hx1 e => ?_)
  · exact br_t rfl (yw_bad0 hb (br_f (by decide) ⟨rfl, re_in h⟩))
  · subst e
    have cc := nI_clamp (n := x) (by omega)
    have vi : vp_in (nI x) 256 := vp_in_nI (by omega) (by omega)
    refine br_f (by decide) (xw_refresh h2 h4 hk' hg hc (fun s cd pf L R Q nu co be la le ri lf X => ?_))
    have hs := X.1.1
    dsimp only
    rw [cc]
    rcases bf_nu X hk' h2 h4 hx1 with ⟨z1, z2⟩ | ⟨z1, i, hi1, z2, z3⟩
    · exact ⟨vi, br_t z1 (yw_bad hN hx1 (br_t rfl (yw_work h2 h4 hk' hx (fun th ln wo Y => ⟨vi, br_t (yg_f Y hx1 z2) ⟨rfl, re_inX h2 h4 hk' hg X hx⟩⟩))))⟩
    · rw [z3, nI_clamp (n := i) (by omega)]
      refine ⟨vi, br_f (bf_m1 (by omega)) ⟨vi, vp_in_nI (by omega) (by omega), yw_bad hN hx1 (br_t rfl (yw_work h2 h4 hk' hx (fun th ln wo Y => ⟨vi, br_f (yg_t Y hx1 z1) ⟨vi, ?_, re_inX h2 h4 hk' hg X hx⟩⟩)))⟩⟩
      have a := (bf_Yl X Y hk' h2 h4 hi1).1
      rw [z2] at a
      exact a.trans (X.1.2.2.1 i hi1).2.2.2.symm
theorem i_vc_letter {k : Nat} {u : SX} {v : SY} (I : i_Rel k u v) (hk : k + 4 ≤ 2049) (v1 : Int32) (v2 : Int32) : wpX_letter (fun r u' => wpY_letter (fun r' v' => r' = r ∧ i_Rel (k + 4) u' v') v v1 v2) u v1 v2 := by
  refine re_el (P := fun u v => wpX_letter (fun r u' => wpY_letter (fun r' v' => r' = r ∧ i_Rel (k + 4) u' v') v v1 v2) u v1 v2) ?_ I
  intro n k' gs fz fu ga nu co be la le ri lf pa rd rg qu th ln ne wo se h
  obtain ⟨h2, h4, hk', hg, hc, hx⟩ := id h
  have hN := bf_N h2 h4
  unfold wpX_letter wpY_letter
  dsimp only
  refine xw_isCode2 hN (fun hb => ?_) (fun x hx1 e => ?_)
  · exact br_t rfl (yw_bad0 hb (br_f (by decide) ⟨rfl, re_in h⟩))
  · subst e
    have cc := nI_clamp (n := x) (by omega)
    have vi : vp_in (nI x) 256 := vp_in_nI (by omega) (by omega)
    refine br_f (by decide) (xw_refresh h2 h4 hk' hg hc (fun s cd pf L R Q nu co be la le ri lf X => ?_))
    have hs := X.1.1
    dsimp only
    rw [cc]
    rcases bf_nu X hk' h2 h4 hx1 with ⟨z1, z2⟩ | ⟨z1, i, hi1, z2, z3⟩
    · exact ⟨vi, nm_e (br_t z1 (yw_bad hN hx1 (br_t rfl (yw_work h2 h4 hk' hx (fun th ln wo Y => ⟨vi, br_t (yg_f Y hx1 z2) ⟨rfl, re_inX h2 h4 hk' hg X hx⟩⟩)))))⟩
    · have ci := nI_clamp (n := i) (by omega)
      have ei := (X.1.2.2.1 i hi1).2.2.2
      refine ⟨vi, nm_r z3 (br_f (bf_m1 (by omega)) ?_)⟩
      rw [ci, ei]
      by_cases p0 : v2 < 0
      · exact br_t p0 (yw_bad hN hx1 (br_t rfl (yw_work h2 h4 hk' hx (fun th ln wo Y => ⟨vi, br_f (yg_t Y hx1 z1) (br_t p0 ⟨rfl, re_inX h2 h4 hk' hg X hx⟩)⟩))))
      · obtain ⟨p, hp, ep⟩ := nI_of p0
        subst ep
        refine br_f p0 ⟨vp_in_nI (by omega) (by omega), br_c (fun z => ?_) (fun z => ?_)⟩
        · have l31 := mo_B31 h2 h4 (bf_B X hk' h2 h4 hi1)
          have z' := (nI_ltI hp (by omega)).mp z
          refine ⟨L i - 1 - p + 1, xw_l46 h2 h4 hk' X (by omega) (L i - 1 - p) i hi1 (by omega) (by omega) ?_⟩
          refine yw_bad hN hx1 (br_t rfl (yw_work h2 h4 hk' hx (fun th ln wo Y => ⟨vi, br_f (yg_t Y hx1 z1) (br_f p0 ⟨vi, ?_⟩)⟩)))
          dsimp only
          obtain ⟨a1, a2, a3, a4⟩ := bf_Yl X Y hk' h2 h4 hi1
          rw [z2] at a1 a2
          rw [a1, a2]
          refine br_t z ⟨vi, vi, ?_, re_inX h2 h4 hk' hg X hx⟩
          rw [show (2 : Int32) * (nI (L i) - 1 - nI p) = nI (2 * (L i - 1 - p)) by
            rw [show (1 : Int32) = nI 1 from rfl, pk_sub (by omega), pk_sub (by omega), show (2 : Int32) = nI 2 from rfl, pk_mul]]
          exact yl_let a4 (by omega)
        · refine yw_bad hN hx1 (br_t rfl (yw_work h2 h4 hk' hx (fun th ln wo Y => ⟨vi, br_f (yg_t Y hx1 z1) (br_f p0 ⟨vi, ?_⟩)⟩)))
          dsimp only
          obtain ⟨a1, a2, a3, a4⟩ := bf_Yl X Y hk' h2 h4 hi1
          rw [z2] at a1
          rw [a1]
          exact br_f z ⟨rfl, re_inX h2 h4 hk' hg X hx⟩
theorem i_vc_longest {k : Nat} {u : SX} {v : SY} (I : i_Rel k u v) (hk : k + 4 ≤ 2049) : wpX_longest (fun r u' => wpY_longest (fun r' v' => r' = r ∧ i_Rel (k + 4) u' v') v) u := by
  refine re_el (P := fun u v => wpX_longest (fun r u' => wpY_longest (fun r' v' => r' = r ∧ i_Rel (k + 4) u' v') v) u) ?_ I
  intro n k' gs fz fu ga nu co be la le ri lf pa rd rg qu th ln ne wo se h
  obtain ⟨h2, h4, hk', hg, hc, hx⟩ := h
  have hN := bf_N h2 h4
  unfold wpX_longest wpY_longest
  dsimp only
  refine xw_refresh h2 h4 hk' hg hc (fun s cd pf L R Q nu co be la le ri lf X => ?_)
  have hs := X.1.1
  have e : nI s - 1 = nI (s - 1) := pk_sub (b := 1) (by omega)
  dsimp only
  rw [e, nI_clamp (n := s - 1) (by omega), (X.1.2.2.1 (s - 1) (by omega)).2.2.2]
  refine ⟨vp_in_nI (by omega) (by omega), yw_work h2 h4 hk' hx (fun th ln wo Y => ⟨n ^ n + 1, ?_⟩)⟩
  exact yw_lg8 h2 h4 hk' X Y ⟨rfl, re_inX h2 h4 hk' hg X hx⟩ (n ^ n) 0 0 (by omega) (fun i _ z => by omega) (Nat.zero_le _)
theorem i_vc_idempotents {k : Nat} {u : SX} {v : SY} (I : i_Rel k u v) (hk : k + 4 ≤ 2049) : wpX_idempotents (fun r u' => wpY_idempotents (fun r' v' => r' = r ∧ i_Rel (k + 4) u' v') v) u := by
  refine re_el (P := fun u v => wpX_idempotents (fun r u' => wpY_idempotents (fun r' v' => r' = r ∧ i_Rel (k + 4) u' v') v) u) ?_ I
  intro n k' gs fz fu ga nu co be la le ri lf pa rd rg qu th ln ne wo se h
  obtain ⟨h2, h4, hk', hg, hc, hx⟩ := h
  unfold wpX_idempotents wpY_idempotents
  dsimp only
  refine xw_refresh h2 h4 hk' hg hc (fun s cd pf L R Q nu co be la le ri lf X => ⟨s + 1, xw_id8 h2 h4 X ?_ s 0 (by omega)⟩)
  refine yw_work h2 h4 hk' hx (fun th ln wo Y => ⟨n ^ n + 1, yw_id8 h2 h4 Y ⟨?_, re_inX h2 h4 hk' hg X hx⟩ (n ^ n) 0 (by omega)⟩)
  rw [bf_cnt X hk' h2 h4 (fun c => mo_m n c c = c)]
end
section
/-! rank and units -/
def rk_m (n c : Nat) : Nat → Int32
  | 0 => 0
  | p + 1 => rk_m n c p ||| ((1 : Int32) <<< (nI (mo_d n c p) &&& 31))
def rk_s (x : Int32) : Nat → Int32
  | 0 => 0
  | p + 1 => rk_s x p + ((x >>> (nI p &&& 31)) &&& 1)
def rk_i (n c q : Nat) : Bool := (List.range n).any (fun p => mo_d n c p == q)
def rk (n c : Nat) : Nat := cn_c (rk_i n c) n
def rk_y (x : Int32) : Int32 := (((x &&& 1) + ((x >>> ((1 : Int32) &&& 31)) &&& 1)) + ((x >>> ((2 : Int32) &&& 31)) &&& 1)) + ((x >>> ((3 : Int32) &&& 31)) &&& 1)
theorem rk_2 : ∀ c, c < 4 → rk_s (rk_m 2 c 2) 2 = nI (rk 2 c) ∧ rk_y (rk_m 2 c 2) = nI (rk 2 c) := by decide +kernel
theorem rk_3 : ∀ c, c < 27 → rk_s (rk_m 3 c 3) 3 = nI (rk 3 c) ∧ rk_y (rk_m 3 c 3) = nI (rk 3 c) := by decide +kernel
theorem rk_4 : ∀ c, c < 256 → rk_s (rk_m 4 c 4) 4 = nI (rk 4 c) ∧ rk_y (rk_m 4 c 4) = nI (rk 4 c) := by decide +kernel
theorem rk_eq {n c : Nat} (h2 : 2 ≤ n) (h4 : n ≤ 4) (hc : c < n ^ n) : rk_s (rk_m n c n) n = nI (rk n c) ∧ rk_y (rk_m n c n) = nI (rk n c) := by
  rcases (by omega : n = 2 ∨ n = 3 ∨ n = 4) with e | e | e <;> subst e
  · exact rk_2 c hc
  · exact rk_3 c hc
  · exact rk_4 c hc
theorem rk_le (n c : Nat) : rk n c ≤ n := by
  unfold rk
  rw [← cn_c_eq]
  exact cn_le _ _
section
variable {fm fc fz fu : Int32} {ga nu co be la le ri lf pa rd rg qu : Nat → Int32} {n : Nat}
theorem xw_rk34 {post : Int32 → Prop} (h4 : n ≤ 4) {x : Int32} (h : post (rk_s x n)) : ∀ d p, p + d = n → wX_rankOf_34 post x (nI n) fm fc fz fu ga nu co be la le ri lf pa rd rg qu (d + 1) (rk_s x p) (nI p)
  | 0, p, e => by
    have e' : p = n := by omega
    rw [e']
    exact br_t (nI_le (by omega) (by omega)) h
  | d + 1, p, e => br_f (nI_ge (by omega) (by omega)) (nm_e (nm_r (nI_1 p) (xw_rk34 h4 h d (p + 1) (by omega))))
theorem xw_rk4 {post : Int32 → Prop} (h2 : 2 ≤ n) (h4 : n ≤ 4) {c : Nat} (hc : c < 2 ^ 31) (h : post (rk_s (rk_m n c n) n)) : ∀ d p, p + d = n → wX_rankOf_4 post (nI c) (nI n) fm fc fz fu ga nu co be la le ri lf pa rd rg qu (d + 1) (rk_m n c p) (nI p)
  | 0, p, e => by
    have e' : p = n := by omega
    rw [e']
    exact br_t (nI_le (by omega) (by omega)) ⟨n + 1, xw_rk34 h4 h n 0 (by omega)⟩
  | d + 1, p, e => br_f (nI_ge (by omega) (by omega)) (xw_image h2 h4 hc (by omega) (nm_e (nm_r (nI_1 p) (xw_rk4 h2 h4 hc h d (p + 1) (by omega)))))
theorem xw_rank {post : Int32 → Prop} (h2 : 2 ≤ n) (h4 : n ≤ 4) {c : Nat} (hc : c < n ^ n) (h : post (nI (rk n c))) : wpX_rankOf post (nI n, fm, fc, fz, fu, ga, nu, co, be, la, le, ri, lf, pa, rd, rg, qu) (nI c) := by
  have hN := bf_N h2 h4
  rw [← (rk_eq h2 h4 hc).1] at h
  exact ⟨n + 1, xw_rk4 h2 h4 (by omega) h n 0 (by omega)⟩
end
section
variable {gd gc : Int32} {gg th ln ne : Nat → Int32} {wo se : Nat → Int64} {n : Nat}
theorem yw_rk14 {post : Int32 → Prop} (h2 : 2 ≤ n) (h4 : n ≤ 4) {c : Nat} (hc : c < 2 ^ 31) (h : post (rk_y (rk_m n c n))) : ∀ d p, p + d = n → wY_rank_14 post (nI c) (nI n) gd gc gg th ln wo ne se (d + 1) (rk_m n c p) (nI p)
  | 0, p, e => by
    have e' : p = n := by omega
    rw [e']
    exact br_t (nI_le (by omega) (by omega)) h
  | d + 1, p, e => br_f (nI_ge (by omega) (by omega)) (yw_image h2 h4 hc (by omega) (nm_e (nm_r (nI_1 p) (yw_rk14 h2 h4 hc h d (p + 1) (by omega)))))
end
theorem i_vc_rank {k : Nat} {u : SX} {v : SY} (I : i_Rel k u v) (hk : k + 4 ≤ 2049) (v1 : Int32) : wpX_rank (fun r => wpY_rank (fun r' => r' = r ∧ i_Rel (k + 4) u v) v v1) u v1 := by
  refine re_el (P := fun u v => wpX_rank (fun r => wpY_rank (fun r' => r' = r ∧ i_Rel (k + 4) u v) v v1) u v1) ?_ I
  intro n k' gs fz fu ga nu co be la le ri lf pa rd rg qu th ln ne wo se h
  obtain ⟨h2, h4, hk', hg, hc, hx⟩ := id h
  have hN := bf_N h2 h4
  unfold wpX_rank wpY_rank
  dsimp only
  refine xw_isCode2 hN (fun hb => ?_) (fun x hx1 e => ?_)
  · exact br_t rfl (yw_bad0 hb (br_f (by decide) ⟨rfl, re_in h⟩))
  · subst e
    exact br_f (by decide) (xw_rank h2 h4 hx1 (yw_bad hN hx1 (br_t rfl ⟨n + 1, yw_rk14 h2 h4 (by omega) ⟨(rk_eq h2 h4 hx1).2, re_in h⟩ n 0 (by omega)⟩)))
/-! powers -/
def pw (n c : Nat) : Nat → Nat
  | 0 => c
  | j + 1 => mo_m n (pw n c j) c
theorem pw_lt {n c : Nat} (hn : 0 < n) (hc : c < n ^ n) : ∀ j, pw n c j < n ^ n
  | 0 => hc
  | j + 1 => mo_m_lt hn _ _
theorem pw_M {n k c : Nat} {gs : Nat → Nat} (hn : 0 < n) (h : mo_M n k gs c) : ∀ j, mo_M n k gs (pw n c j)
  | 0 => h
  | j + 1 => mo_Mm hn (pw_M hn h j) h
theorem un_2 : ∀ c, c < 4 → rk 2 c ≠ 2 ∨ (mo_m 2 (pw 2 c 10) c = mo_e 2 ∧ mo_m 2 c (pw 2 c 10) = mo_e 2) := by decide +kernel
theorem un_3 : ∀ c, c < 27 → rk 3 c ≠ 3 ∨ (mo_m 3 (pw 3 c 10) c = mo_e 3 ∧ mo_m 3 c (pw 3 c 10) = mo_e 3) := by decide +kernel
theorem un_4 : ∀ c, c < 256 → rk 4 c ≠ 4 ∨ (mo_m 4 (pw 4 c 10) c = mo_e 4 ∧ mo_m 4 c (pw 4 c 10) = mo_e 4) := by decide +kernel
theorem ui_2 : ∀ c, c < 4 → rk 2 c = 2 ∨ ¬ ∀ p, p < 2 → ∀ q, q < p → mo_d 2 c p ≠ mo_d 2 c q := by decide +kernel
theorem ui_3 : ∀ c, c < 27 → rk 3 c = 3 ∨ ¬ ∀ p, p < 3 → ∀ q, q < p → mo_d 3 c p ≠ mo_d 3 c q := by decide +kernel
theorem ui_4 : ∀ c, c < 256 → rk 4 c = 4 ∨ ¬ ∀ p, p < 4 → ∀ q, q < p → mo_d 4 c p ≠ mo_d 4 c q := by decide +kernel
theorem un_all {n c : Nat} (h2 : 2 ≤ n) (h4 : n ≤ 4) (hc : c < n ^ n) (h : rk n c = n) : mo_m n (pw n c 10) c = mo_e n ∧ mo_m n c (pw n c 10) = mo_e n := by
  rcases (by omega : n = 2 ∨ n = 3 ∨ n = 4) with e | e | e <;> subst e
  · exact (un_2 c hc).resolve_left (fun z => z h)
  · exact (un_3 c hc).resolve_left (fun z => z h)
  · exact (un_4 c hc).resolve_left (fun z => z h)
theorem ui_all {n c b : Nat} (h2 : 2 ≤ n) (h4 : n ≤ 4) (hc : c < n ^ n) (h : mo_m n c b = mo_e n) : rk n c = n := by
  have H : ∀ p, p < n → ∀ q, q < p → mo_d n c p ≠ mo_d n c q := by
    intro p hp q hq e
    have a := mo_m_d (show 0 < n by omega) c b hp
    have b' := mo_m_d (show 0 < n by omega) c b (show q < n by omega)
    rw [h, mo_e_d hp] at a
    rw [h, mo_e_d (by omega)] at b'
    rw [e, ← b'] at a
    omega
  rcases (by omega : n = 2 ∨ n = 3 ∨ n = 4) with e | e | e <;> subst e
  · exact (ui_2 c hc).resolve_right (fun z => z H)
  · exact (ui_3 c hc).resolve_right (fun z => z H)
  · exact (ui_4 c hc).resolve_right (fun z => z H)
/-- a unit of the monoid is a map of full rank -/
theorem un_iff {n k c : Nat} {gs : Nat → Nat} (h2 : 2 ≤ n) (h4 : n ≤ 4) (h : mo_M n k gs c) : rk n c = n ↔ ∃ b, mo_M n k gs b ∧ mo_m n c b = mo_e n ∧ mo_m n b c = mo_e n := by
  have hc := mo_M_lt (show 0 < n by omega) h
  constructor
  · intro e
    have a := un_all h2 h4 hc e
    exact ⟨_, pw_M (by omega) h 10, a.2, a.1⟩
  · intro ⟨b, _, e, _⟩
    exact ui_all h2 h4 hc e
section
variable {n k s : Nat} {gs cd pf L R Q : Nat → Nat} {ga nu co be la le ri lf pa rd rg qu th ln ne : Nat → Int32} {wo se : Nat → Int64}
theorem xw_un8 {post : Int32 → SX → Prop} (h2 : 2 ≤ n) (h4 : n ≤ 4) (X : bf_X n k gs s cd pf L R Q nu co be la le ri lf) (h : post (nI (cn (fun i => rk n (cd i) = n) s)) (nI n, nI (n ^ n), nI k, nI s, 1, ga, nu, co, be, la, le, ri, lf, pa, rd, rg, qu)) : ∀ d a, a + d = s → wX_units_8 post (nI n) (nI (n ^ n)) (nI k) (nI s) 1 ga nu co be la le ri lf pa rd rg qu (d + 1) (nI (cn (fun i => rk n (cd i) = n) a)) (nI a)
  | 0, a, e => by
    have hN := bf_N h2 h4
    have hs := X.1.1
    have e' : a = s := by omega
    rw [e']
    exact br_t (nI_le (by omega) (by omega)) h
  | d + 1, a, e => by
    have hN := bf_N h2 h4
    have hs := X.1.1
    obtain ⟨c1, c2, c3, c4⟩ := X.1.2.2.1 a (by omega)
    have hr := rk_le n (cd a)
    refine br_f (nI_ge (by omega) (by omega)) ?_
    rw [nI_clamp (n := a) (by omega), c3]
    refine ⟨vp_in_nI (by omega) (by omega), xw_rank h2 h4 c1 (br_c (fun z => nm_r (nI_1 _) (nm_r (nI_1 a) ?_)) (fun z => nm_r (Int32.add_zero _) (nm_r (nI_1 a) ?_)))⟩
    · rw [← cn_s1 (P := fun i => rk n (cd i) = n) ((nI_eq (by omega) (by omega)).mp z)]
      exact xw_un8 h2 h4 X h d (a + 1) (by omega)
    · rw [← cn_s0 (P := fun i => rk n (cd i) = n) (fun y => z (congrArg nI y))]
      exact xw_un8 h2 h4 X h d (a + 1) (by omega)
theorem yw_inv2 {post : Int32 → Prop} (h2 : 2 ≤ n) (h4 : n ≤ 4) (Y : yg_Y n k gs th ln wo) {a : Nat} (ha : a < n ^ n) (h1 : (∃ b, mo_M n k gs b ∧ mo_m n a b = mo_e n ∧ mo_m n b a = mo_e n) → post 1) (h0 : (¬ ∃ b, mo_M n k gs b ∧ mo_m n a b = mo_e n ∧ mo_m n b a = mo_e n) → post 0) : ∀ d b, b + d = n ^ n → (∀ b', b' < b → ¬ (mo_M n k gs b' ∧ mo_m n a b' = mo_e n ∧ mo_m n b' a = mo_e n)) → wY_inverted_2 post (nI a) (nI (mo_e n)) (nI n) (nI (n ^ n)) (nI k) ga th ln wo ne se (d + 1) (nI b)
  | 0, b, e, hb => by
    have hN := bf_N h2 h4
    refine br_t (nI_le (by omega) (by omega)) (h0 (fun ⟨b', z, y⟩ => hb b' ?_ ⟨z, y⟩))
    have := mo_M_lt (show 0 < n by omega) z
    omega
  | d + 1, b, e, hb => by
    have hN := bf_N h2 h4
    have he := mo_e_lt (n := n)
    have m1 := mo_m_lt (show 0 < n by omega) a b
    have m2 := mo_m_lt (show 0 < n by omega) b a
    have go : ¬ (mo_M n k gs b ∧ mo_m n a b = mo_e n ∧ mo_m n b a = mo_e n) → wY_inverted_2 post (nI a) (nI (mo_e n)) (nI n) (nI (n ^ n)) (nI k) ga th ln wo ne se (d + 1) (nI (b + 1)) := fun z => yw_inv2 h2 h4 Y ha h1 h0 d (b + 1) (by omega) (fun b' hb' => by
      by_cases y : b' = b
      · rw [y]; exact z
      · exact hb b' (by omega))
    refine br_f (nI_ge (by omega) (by omega)) ?_
    rw [nI_clamp (n := b) (by omega)]
    refine ⟨vp_in_nI (by omega) (by omega), br_c (fun z => nm_r (nI_1 b) (go (fun y => (yg_iff Y (by omega)).mp z y.1))) (fun z => yw_times h2 h4 (by omega) (by omega) (br_c (fun y => yw_times h2 h4 (by omega) (by omega) (br_c (fun x => h1 ⟨b, Classical.byContradiction fun t => z (yg_f Y (by omega) t), (nI_eq (by omega) (by omega)).mp y, (nI_eq (by omega) (by omega)).mp x⟩) (fun x => nm_r (nI_1 b) (go (fun t => x (congrArg nI t.2.2)))))) (fun y => nm_r (nI_1 b) (go (fun t => y (congrArg nI t.2.1))))))⟩
theorem yw_un13 {post : Int32 → SY → Prop} (h2 : 2 ≤ n) (h4 : n ≤ 4) (Y : yg_Y n k gs th ln wo) (h : post (nI (cn (fun c => mo_M n k gs c ∧ rk n c = n) (n ^ n))) (nI n, nI (n ^ n), nI k, ga, th, ln, wo, ne, se)) : ∀ d c, c + d = n ^ n → wY_units_13 post (nI (mo_e n)) (nI n) (nI (n ^ n)) (nI k) ga th ln wo ne se (d + 1) (nI (cn (fun c => mo_M n k gs c ∧ rk n c = n) c)) (nI c)
  | 0, c, e => by
    have hN := bf_N h2 h4
    have e' : c = n ^ n := by omega
    rw [e']
    exact br_t (nI_le (by omega) (by omega)) h
  | d + 1, c, e => by
    have hN := bf_N h2 h4
    refine br_f (nI_ge (by omega) (by omega)) ?_
    rw [nI_clamp (n := c) (by omega)]
    refine ⟨vp_in_nI (by omega) (by omega), br_c (fun z => nm_r (nI_1 c) ?_) (fun z => ?_)⟩
    · rw [← cn_s0 (P := fun c => mo_M n k gs c ∧ rk n c = n) (fun y => (yg_iff Y (by omega)).mp z y.1)]
      exact yw_un13 h2 h4 Y h d (c + 1) (by omega)
    · have hM : mo_M n k gs c := Classical.byContradiction fun x => z (yg_f Y (by omega) x)
      refine ⟨n ^ n + 1, yw_inv2 h2 h4 Y (by omega) (fun H => br_f (by decide) (nm_r (nI_1 _) (nm_r (nI_1 c) ?_))) (fun H => br_t rfl (nm_r (nI_1 c) ?_)) (n ^ n) 0 (by omega) (fun b' hb' => by omega)⟩
      · rw [← cn_s1 (P := fun c => mo_M n k gs c ∧ rk n c = n) ⟨hM, (un_iff h2 h4 hM).mpr H⟩]
        exact yw_un13 h2 h4 Y h d (c + 1) (by omega)
      · rw [← cn_s0 (P := fun c => mo_M n k gs c ∧ rk n c = n) (fun t => H ((un_iff h2 h4 hM).mp t.2))]
        exact yw_un13 h2 h4 Y h d (c + 1) (by omega)
end
theorem i_vc_units {k : Nat} {u : SX} {v : SY} (I : i_Rel k u v) (hk : k + 4 ≤ 2049) : wpX_units (fun r u' => wpY_units (fun r' v' => r' = r ∧ i_Rel (k + 4) u' v') v) u := by
  refine re_el (P := fun u v => wpX_units (fun r u' => wpY_units (fun r' v' => r' = r ∧ i_Rel (k + 4) u' v') v) u) ?_ I
  intro n k' gs fz fu ga nu co be la le ri lf pa rd rg qu th ln ne wo se h
  obtain ⟨h2, h4, hk', hg, hc, hx⟩ := h
  unfold wpX_units wpY_units
  dsimp only
  refine xw_refresh h2 h4 hk' hg hc (fun s cd pf L R Q nu co be la le ri lf X => ⟨s + 1, xw_un8 h2 h4 X ?_ s 0 (by omega)⟩)
  refine yw_work h2 h4 hk' hx (fun th ln wo Y => yw_unit h4 ⟨n ^ n + 1, yw_un13 h2 h4 Y ⟨?_, re_inX h2 h4 hk' hg X hx⟩ (n ^ n) 0 (by omega)⟩)
  rw [bf_cnt X hk' h2 h4 (fun c => rk n c = n)]
end
section
/-! index and period -/
theorem pe_2 : ∀ c, c < 4 → pw 2 c 14 = pw 2 c 2 := by decide +kernel
theorem pe_3 : ∀ c, c < 27 → pw 3 c 14 = pw 3 c 2 := by decide +kernel
theorem pe_4 : ∀ c, c < 256 → pw 4 c 14 = pw 4 c 2 := by decide +kernel
section
variable {n c : Nat}
theorem pe_0 (h2 : 2 ≤ n) (h4 : n ≤ 4) (hc : c < n ^ n) : pw n c (2 + 12) = pw n c 2 := by
  rcases (by omega : n = 2 ∨ n = 3 ∨ n = 4) with e | e | e <;> subst e
  · exact pe_2 c hc
  · exact pe_3 c hc
  · exact pe_4 c hc
theorem pe_add {i j : Nat} (h : pw n c i = pw n c j) : ∀ t, pw n c (i + t) = pw n c (j + t)
  | 0 => h
  | t + 1 => by
    show mo_m n (pw n c (i + t)) c = mo_m n (pw n c (j + t)) c
    rw [pe_add h t]
theorem pe_12 (h2 : 2 ≤ n) (h4 : n ≤ 4) (hc : c < n ^ n) {j : Nat} (hj : 2 ≤ j) : pw n c (j + 12) = pw n c j := by
  have := pe_add (pe_0 h2 h4 hc) (j - 2)
  rw [show 2 + 12 + (j - 2) = j + 12 by omega, show 2 + (j - 2) = j by omega] at this
  exact this
theorem pe_mul {j m : Nat} (h : pw n c (j + m) = pw n c j) : ∀ t, pw n c (j + m * t) = pw n c j
  | 0 => rfl
  | t + 1 => by
    have a := pe_add h (m * t)
    rw [pe_mul h t] at a
    rw [← a, Nat.mul_succ]
    congr 1
    omega
/-- the j-th power comes back -/
def pe_C (n c j : Nat) : Prop := ∃ m, 1 ≤ m ∧ m ≤ 12 ∧ pw n c (j + m) = pw n c j
theorem pe_any (h2 : 2 ≤ n) (h4 : n ≤ 4) (hc : c < n ^ n) {j m : Nat} (hm : 1 ≤ m) (h : pw n c (j + m) = pw n c j) : pe_C n c j := by
  refine ⟨12, by decide, by decide, ?_⟩
  have a := pe_mul h 12
  have b := pe_add a 12
  rw [← b]
  have := pe_12 h2 h4 hc (j := j + m * 12) (by omega)
  rw [this, a]
theorem pe_J (h2 : 2 ≤ n) (h4 : n ≤ 4) (hc : c < n ^ n) : ∃ J m, J ≤ 2 ∧ (∀ j, j < J → ¬ pe_C n c j) ∧ 1 ≤ m ∧ m ≤ 12 ∧ pw n c (J + m) = pw n c J ∧ ∀ m', 1 ≤ m' → m' < m → pw n c (J + m') ≠ pw n c J := by
  obtain ⟨J, hJ, hm⟩ := pk_least (pe_C n c) ⟨2, 12, by decide, by decide, pe_0 h2 h4 hc⟩
  have j2 : J ≤ 2 := Nat.le_of_not_lt (fun z => hm 2 z ⟨12, by decide, by decide, pe_0 h2 h4 hc⟩)
  obtain ⟨m, ⟨a1, a2, a3⟩, hm2⟩ := pk_least (fun m => 1 ≤ m ∧ m ≤ 12 ∧ pw n c (J + m) = pw n c J) hJ
  exact ⟨J, m, j2, hm, a1, a2, a3, fun m' h1 h2 e => hm2 m' h2 ⟨h1, by omega, e⟩⟩
end
section
variable {fm fc fz fu : Int32} {ga nu co be la le ri lf pa rd rg qu : Nat → Int32} {n c : Nat}
theorem xw_cb5 {post : Int32 → Prop} (h2 : 2 ≤ n) (h4 : n ≤ 4) (hc : c < n ^ n) {j : Nat} (h1 : pe_C n c j → post 1) (h0 : ¬ pe_C n c j → post 0) : ∀ d t, t + d = 256 → (∀ m, 1 ≤ m → m ≤ t → pw n c (j + m) ≠ pw n c j) → wX_comesBack_5 post (nI (pw n c j)) (nI c) (nI n) fm fc fz fu ga nu co be la le ri lf pa rd rg qu (d + 1) (nI (pw n c (j + t))) (nI t)
  | 0, t, e, h => br_t (nI_le (a := 256) (by omega) (by omega)) (h0 (fun ⟨m, a, b, e⟩ => h m a (by omega) e))
  | d + 1, t, e, h => by
    have hN := bf_N h2 h4
    have l1 := pw_lt (show 0 < n by omega) hc (j + t)
    have l2 := pw_lt (show 0 < n by omega) hc (j + (t + 1))
    have l3 := pw_lt (show 0 < n by omega) hc j
    refine br_f (nI_ge (b := 256) (by omega) (by omega)) (xw_compose h2 h4 (by omega) (by omega) ?_)
    show (nI (pw n c (j + (t + 1))) = nI (pw n c j) → post 1) ∧ _
    refine br_c (fun z => h1 (pe_any h2 h4 hc (m := t + 1) (by omega) ((nI_eq (by omega) (by omega)).mp z))) (fun z => nm_r (nI_1 t) (xw_cb5 h2 h4 hc h1 h0 d (t + 1) (by omega) (fun m a b => ?_)))
    by_cases y : m = t + 1
    · rw [y]; exact fun x => z (congrArg nI x)
    · exact h m a (by omega)
theorem xw_back {post : Int32 → Prop} (h2 : 2 ≤ n) (h4 : n ≤ 4) (hc : c < n ^ n) {j : Nat} (h1 : pe_C n c j → post 1) (h0 : ¬ pe_C n c j → post 0) : wpX_comesBack post (nI n, fm, fc, fz, fu, ga, nu, co, be, la, le, ri, lf, pa, rd, rg, qu) (nI (pw n c j)) (nI c) :=
  ⟨257, xw_cb5 h2 h4 hc h1 h0 256 0 (by omega) (fun m a b => by omega)⟩
theorem xw_ix14 {post : Int32 → Prop} (h2 : 2 ≤ n) (h4 : n ≤ 4) (hc : c < n ^ n) {J : Nat} (hJ : J ≤ 2) (hC : pe_C n c J) (hm : ∀ j, j < J → ¬ pe_C n c j) (h : post (nI (J + 1))) : ∀ d j, j + d = J → wX_index_14 post (nI c) (nI n) fm fc fz fu ga nu co be la le ri lf pa rd rg qu (d + 1) (nI (pw n c j)) (nI (j + 1))
  | 0, j, e => by
    have e' : j = J := by omega
    rw [e']
    exact br_f (nI_nlt (a := 256) (by omega) (by omega)) (xw_back h2 h4 hc (fun _ => br_f (by decide) h) (fun z => absurd hC z))
  | d + 1, j, e => by
    have hN := bf_N h2 h4
    have l1 := pw_lt (show 0 < n by omega) hc j
    exact br_f (nI_nlt (a := 256) (by omega) (by omega)) (xw_back h2 h4 hc (fun z => absurd z (hm j (by omega))) (fun _ => br_t rfl (xw_compose h2 h4 (by omega) (by omega) (nm_r (nI_1 (j + 1)) (xw_ix14 h2 h4 hc hJ hC hm h d (j + 1) (by omega))))))
theorem xw_pd53 {post : Int32 → Prop} (h2 : 2 ≤ n) (h4 : n ≤ 4) (hc : c < n ^ n) {J m : Nat} (hm12 : m ≤ 12) (he : pw n c (J + m) = pw n c J) (hm : ∀ m', 1 ≤ m' → m' < m → pw n c (J + m') ≠ pw n c J) (h : post (nI m)) : ∀ d t, 1 ≤ t → t + d = m → wX_period_53 post (nI c) (nI (pw n c J)) (nI n) fm fc fz fu ga nu co be la le ri lf pa rd rg qu (d + 1) (nI (pw n c (J + t))) (nI t)
  | 0, t, t1, e => by
    have e' : t = m := by omega
    rw [e', he]
    exact br_t rfl h
  | d + 1, t, t1, e => by
    have hN := bf_N h2 h4
    have l1 := pw_lt (show 0 < n by omega) hc (J + t)
    have l2 := pw_lt (show 0 < n by omega) hc J
    exact br_f (fun z => hm t t1 (by omega) ((nI_eq (by omega) (by omega)).mp z)) (br_f (nI_ge (b := 256) (by omega) (by omega)) (xw_compose h2 h4 (by omega) (by omega) (nm_r (nI_1 t) (xw_pd53 h2 h4 hc hm12 he hm h d (t + 1) (by omega) (by omega)))))
theorem xw_pd14 {post : Int32 → Prop} (h2 : 2 ≤ n) (h4 : n ≤ 4) (hc : c < n ^ n) {J m : Nat} (hJ : J ≤ 2) (hm1 : 1 ≤ m) (hm12 : m ≤ 12) (he : pw n c (J + m) = pw n c J) (hm : ∀ m', 1 ≤ m' → m' < m → pw n c (J + m') ≠ pw n c J) (hn : ∀ j, j < J → ¬ pe_C n c j) (h : post (nI m)) : ∀ d j, j + d = J → wX_period_14 post (nI c) (nI n) fm fc fz fu ga nu co be la le ri lf pa rd rg qu (d + 1) (nI (pw n c j)) (nI j)
  | 0, j, e => by
    have hN := bf_N h2 h4
    have e' : j = J := by omega
    have l1 := pw_lt (show 0 < n by omega) hc J
    rw [e']
    refine br_f (nI_ge (b := 256) (by omega) (by omega)) (xw_back h2 h4 hc (fun _ => br_f (by decide) ?_) (fun z => absurd ⟨m, hm1, hm12, he⟩ z))
    exact xw_compose h2 h4 (by omega) (by omega) ⟨m - 1 + 1, xw_pd53 h2 h4 hc hm12 he hm h (m - 1) 1 (by omega) (by omega)⟩
  | d + 1, j, e => by
    have hN := bf_N h2 h4
    have l1 := pw_lt (show 0 < n by omega) hc j
    exact br_f (nI_ge (b := 256) (by omega) (by omega)) (xw_back h2 h4 hc (fun z => absurd z (hn j (by omega))) (fun _ => br_t rfl (xw_compose h2 h4 (by omega) (by omega) (nm_r (nI_1 j) (xw_pd14 h2 h4 hc hJ hm1 hm12 he hm hn h d (j + 1) (by omega))))))
end
section
variable {gd gc : Int32} {gg th ln ne : Nat → Int32} {wo se : Nat → Int64} {n c : Nat}
theorem yw_pw5 {post : Int32 → Prop} (h2 : 2 ≤ n) (h4 : n ≤ 4) (hc : c < n ^ n) {j : Nat} (hj : j < 1000) (h : post (nI (pw n c j))) : ∀ d t, t + d = j → wY_power_5 post (nI c) (nI (j + 1)) (nI n) gd gc gg th ln wo ne se (d + 1) (nI (pw n c t)) (nI (t + 1))
  | 0, t, e => by
    have e' : t = j := by omega
    rw [e']
    exact br_t (nI_le (by omega) (by omega)) h
  | d + 1, t, e => by
    have hN := bf_N h2 h4
    have l1 := pw_lt (show 0 < n by omega) hc t
    exact br_f (nI_ge (by omega) (by omega)) (yw_times h2 h4 (by omega) (by omega) (nm_r (nI_1 (t + 1)) (yw_pw5 h2 h4 hc hj h d (t + 1) (by omega))))
theorem yw_power {post : Int32 → Prop} (h2 : 2 ≤ n) (h4 : n ≤ 4) (hc : c < n ^ n) {j : Nat} (hj : j < 1000) (h : post (nI (pw n c j))) : wpY_power post (nI n, gd, gc, gg, th, ln, wo, ne, se) (nI c) (nI (j + 1)) :=
  ⟨j + 1, yw_pw5 h2 h4 hc hj h j 0 (by omega)⟩
theorem yw_rd2 {post : Int32 → Prop} (h2 : 2 ≤ n) (h4 : n ≤ 4) (hc : c < n ^ n) {j : Nat} (hj : j < 900) (h1 : ∀ m, 1 ≤ m → m ≤ 12 → pw n c (j + m) = pw n c j → (∀ m', 1 ≤ m' → m' < m → pw n c (j + m') ≠ pw n c j) → post (nI m)) (h0 : ¬ pe_C n c j → post 0) : ∀ d m, 1 ≤ m → m + d = 13 → (∀ m', 1 ≤ m' → m' < m → pw n c (j + m') ≠ pw n c j) → wY_round_2 post (nI c) (nI (j + 1)) (nI n) gd gc gg th ln wo ne se (d + 1) (nI m)
  | 0, m, m1, e, h => br_t (nI_le (a := 13) (by omega) (by omega)) (h0 (fun ⟨m', a, b, e⟩ => h m' a (by omega) e))
  | d + 1, m, m1, e, h => by
    have hN := bf_N h2 h4
    have l1 := pw_lt (show 0 < n by omega) hc j
    have l2 := pw_lt (show 0 < n by omega) hc (j + m)
    refine br_f (nI_ge (b := 13) (by omega) (by omega)) (yw_power h2 h4 hc (by omega) ?_)
    rw [show nI (j + 1) + nI m = nI (j + m + 1) by rw [nI_add]; congr 1; omega]
    refine yw_power h2 h4 hc (by omega) (br_c (fun z => h1 m m1 (by omega) ((nI_eq (by omega) (by omega)).mp z).symm h) (fun z => nm_r (nI_1 m) (yw_rd2 h2 h4 hc hj h1 h0 d (m + 1) (by omega) (by omega) (fun m' a b => ?_))))
    by_cases y : m' = m
    · rw [y]; exact fun x => z (congrArg nI x.symm)
    · exact h m' a (by omega)
theorem yw_round {post : Int32 → Prop} (h2 : 2 ≤ n) (h4 : n ≤ 4) (hc : c < n ^ n) {j : Nat} (hj : j < 900) (h1 : ∀ m, 1 ≤ m → m ≤ 12 → pw n c (j + m) = pw n c j → (∀ m', 1 ≤ m' → m' < m → pw n c (j + m') ≠ pw n c j) → post (nI m)) (h0 : ¬ pe_C n c j → post 0) : wpY_round post (nI n, gd, gc, gg, th, ln, wo, ne, se) (nI c) (nI (j + 1)) :=
  ⟨13, yw_rd2 h2 h4 hc hj h1 h0 12 1 (by omega) (by omega) (fun m' a b => by omega)⟩
theorem yw_fs2 {post : Int32 → Prop} (h2 : 2 ≤ n) (h4 : n ≤ 4) (hc : c < n ^ n) {J : Nat} (hJ : J ≤ 2) (hC : pe_C n c J) (hm : ∀ j, j < J → ¬ pe_C n c j) (h : post (nI (J + 1))) : ∀ d j, j + d = J → wY_first_2 post (nI c) (nI n) gd gc gg th ln wo ne se (d + 1) (nI (j + 1))
  | 0, j, e => by
    have e' : j = J := by omega
    rw [e']
    exact br_f (nI_ge (b := 9) (by omega) (by omega)) (yw_round h2 h4 hc (by omega) (fun m a b _ _ => br_f (nI_nle (by omega) (by omega)) h) (fun z => absurd hC z))
  | d + 1, j, e =>
    br_f (nI_ge (b := 9) (by omega) (by omega)) (yw_round h2 h4 hc (by omega) (fun m a b e' _ => absurd ⟨m, a, b, e'⟩ (hm j (by omega))) (fun _ => br_t (by decide) (nm_r (nI_1 (j + 1)) (yw_fs2 h2 h4 hc hJ hC hm h d (j + 1) (by omega)))))
theorem yw_first {post : Int32 → Prop} (h2 : 2 ≤ n) (h4 : n ≤ 4) (hc : c < n ^ n) {J : Nat} (hJ : J ≤ 2) (hC : pe_C n c J) (hm : ∀ j, j < J → ¬ pe_C n c j) (h : post (nI (J + 1))) : wpY_first post (nI n, gd, gc, gg, th, ln, wo, ne, se) (nI c) :=
  ⟨J + 1, yw_fs2 h2 h4 hc hJ hC hm h J 0 (by omega)⟩
end
theorem i_vc_index {k : Nat} {u : SX} {v : SY} (I : i_Rel k u v) (hk : k + 4 ≤ 2049) (v1 : Int32) : wpX_index (fun r => wpY_index (fun r' => r' = r ∧ i_Rel (k + 4) u v) v v1) u v1 := by
  refine re_el (P := fun u v => wpX_index (fun r => wpY_index (fun r' => r' = r ∧ i_Rel (k + 4) u v) v v1) u v1) ?_ I
  intro n k' gs fz fu ga nu co be la le ri lf pa rd rg qu th ln ne wo se h
  obtain ⟨h2, h4, hk', hg, hc, hx⟩ := id h
  have hN := bf_N h2 h4
  unfold wpX_index wpY_index
  dsimp only
  refine xw_isCode2 hN (fun hb => ?_) (fun x hx1 e => ?_)
  · exact br_t rfl (yw_bad0 hb (br_f (by decide) ⟨rfl, re_in h⟩))
  · subst e
    obtain ⟨J, m, hJ, hn, m1, m12, he, hm⟩ := pe_J h2 h4 hx1
    have hC : pe_C n x J := ⟨m, m1, m12, he⟩
    refine br_f (by decide) ⟨J + 1, xw_ix14 h2 h4 hx1 hJ hC hn ?_ J 0 (by omega)⟩
    exact yw_bad hN hx1 (br_t rfl (yw_first h2 h4 hx1 hJ hC hn ⟨rfl, re_in h⟩))
theorem i_vc_period {k : Nat} {u : SX} {v : SY} (I : i_Rel k u v) (hk : k + 4 ≤ 2049) (v1 : Int32) : wpX_period (fun r => wpY_period (fun r' => r' = r ∧ i_Rel (k + 4) u v) v v1) u v1 := by
  refine re_el (P := fun u v => wpX_period (fun r => wpY_period (fun r' => r' = r ∧ i_Rel (k + 4) u v) v v1) u v1) ?_ I
  intro n k' gs fz fu ga nu co be la le ri lf pa rd rg qu th ln ne wo se h
  obtain ⟨h2, h4, hk', hg, hc, hx⟩ := id h
  have hN := bf_N h2 h4
  unfold wpX_period wpY_period
  dsimp only
  refine xw_isCode2 hN (fun hb => ?_) (fun x hx1 e => ?_)
  · exact br_t rfl (yw_bad0 hb (br_f (by decide) ⟨rfl, re_in h⟩))
  · subst e
    obtain ⟨J, m, hJ, hn, m1, m12, he, hm⟩ := pe_J h2 h4 hx1
    have hC : pe_C n x J := ⟨m, m1, m12, he⟩
    refine br_f (by decide) ⟨J + 1, xw_pd14 h2 h4 hx1 hJ m1 m12 he hm hn ?_ J 0 (by omega)⟩
    refine yw_bad hN hx1 (br_t rfl (yw_first h2 h4 hx1 hJ hC hn (yw_round h2 h4 hx1 (by omega) (fun m' a b e' hm' => ⟨?_, re_in h⟩) (fun z => absurd hC z))))
    have : m' = m := by
      rcases (by omega : m' = m ∨ m' < m ∨ m < m') with z | z | z
      · exact z
      · exact absurd e' (hm m' a z)
      · exact absurd he (hm' m m1 z)
    rw [this]
end
section
/-! commutes -/
def cm_A (n k : Nat) (gs : Nat → Nat) : Prop := ∀ a b, mo_M n k gs a → mo_M n k gs b → mo_m n a b = mo_m n b a
theorem cm_gen {n k : Nat} {gs : Nat → Nat} (hn : 0 < n) (hg : ∀ g, g < k → gs g < n ^ n) (h : ∀ g, g < k → ∀ h, h < g → mo_m n (gs g) (gs h) = mo_m n (gs h) (gs g)) : cm_A n k gs := by
  have h1 : ∀ g h', g < k → h' < k → mo_m n (gs g) (gs h') = mo_m n (gs h') (gs g) := by
    intro g h' a b
    rcases (by omega : g = h' ∨ g < h' ∨ h' < g) with z | z | z
    · rw [z]
    · exact (h h' b g z).symm
    · exact h g a h' z
  have h2 : ∀ g, g < k → ∀ a, mo_M n k gs a → mo_m n a (gs g) = mo_m n (gs g) a := by
    intro g hgk
    refine mo_ind ?_ ?_
    · rw [mo_em hn (hg g hgk), mo_me hn (hg g hgk)]
    · intro c g' _ ih hg'
      rw [mo_as hn, h1 g' g hg' hgk, ← mo_as hn, ih, mo_as hn]
  intro a b ha hb
  revert b
  refine mo_ind ?_ ?_
  · rw [mo_em hn (mo_M_lt hn ha), mo_me hn (mo_M_lt hn ha)]
  · intro c g _ ih hgk
    rw [← mo_as hn, ih, mo_as hn, h2 g hgk a ha, mo_as hn]
section
variable {n k s : Nat} {gs cd pf L R Q : Nat → Nat} {ga nu co be la le ri lf pa rd rg qu th ln ne : Nat → Int32} {wo se : Nat → Int64}
theorem xw_cm16 {post : Int32 → SX → Prop} (h2 : 2 ≤ n) (h4 : n ≤ 4) (hk : k ≤ 4) (hg : ∀ g, g < k → gs g < n ^ n ∧ ga g = nI (gs g)) (h0 : ¬ cm_A n k gs → post 0 (nI n, nI (n ^ n), nI k, nI s, 1, ga, nu, co, be, la, le, ri, lf, pa, rd, rg, qu)) {g : Nat} (hgk : g < k) {J : Int32 → Prop} (hJ : (∀ h, h < g → mo_m n (gs g) (gs h) = mo_m n (gs h) (gs g)) → J (nI (g + 1))) : ∀ d h, h + d = g → (∀ h', h' < h → mo_m n (gs g) (gs h') = mo_m n (gs h') (gs g)) → wX_commutes_16 post J (nI g) (nI n) (nI (n ^ n)) (nI k) (nI s) 1 ga nu co be la le ri lf pa rd rg qu (d + 1) (nI h)
  | 0, h, e, H => by
    have e' : h = g := by omega
    rw [e'] at H ⊢
    exact br_t (nI_le (by omega) (by omega)) (nm_r (nI_1 g) (hJ H))
  | d + 1, h, e, H => by
    have hN := bf_N h2 h4
    obtain ⟨g1, g2⟩ := hg g hgk
    obtain ⟨g3, g4⟩ := hg h (by omega)
    have m1 := mo_m_lt (show 0 < n by omega) (gs g) (gs h)
    have m2 := mo_m_lt (show 0 < n by omega) (gs h) (gs g)
    refine br_f (nI_ge (by omega) (by omega)) ?_
    rw [nI_clamp (n := g) (by omega), nI_clamp (n := h) (by omega), g2, g4]
    refine ⟨vp_in_nI (by omega) (by omega), vp_in_nI (by omega) (by omega), xw_compose h2 h4 (by omega) (by omega) ⟨vp_in_nI (by omega) (by omega), vp_in_nI (by omega) (by omega), xw_compose h2 h4 (by omega) (by omega) (br_c (fun z => nm_r (nI_1 h) ?_) (fun z => h0 (fun A => z ?_)))⟩⟩
    · refine xw_cm16 h2 h4 hk hg h0 hgk hJ d (h + 1) (by omega) (fun h' hh => ?_)
      by_cases y : h' = h
      · rw [y]; exact (nI_eq (by omega) (by omega)).mp z
      · exact H h' (by omega)
    · exact congrArg nI (A _ _ (mo_Mg (by omega) (fun g h => (hg g h).1) hgk) (mo_Mg (by omega) (fun g h => (hg g h).1) (by omega)))
theorem xw_cm6 {post : Int32 → SX → Prop} (h2 : 2 ≤ n) (h4 : n ≤ 4) (hk : k ≤ 4) (hg : ∀ g, g < k → gs g < n ^ n ∧ ga g = nI (gs g)) (h1 : cm_A n k gs → post 1 (nI n, nI (n ^ n), nI k, nI s, 1, ga, nu, co, be, la, le, ri, lf, pa, rd, rg, qu)) (h0 : ¬ cm_A n k gs → post 0 (nI n, nI (n ^ n), nI k, nI s, 1, ga, nu, co, be, la, le, ri, lf, pa, rd, rg, qu)) : ∀ d g, g + d = k → (∀ g', g' < g → ∀ h, h < g' → mo_m n (gs g') (gs h) = mo_m n (gs h) (gs g')) → wX_commutes_6 post (nI n) (nI (n ^ n)) (nI k) (nI s) 1 ga nu co be la le ri lf pa rd rg qu (d + 1) (nI g)
  | 0, g, e, H => by
    have e' : g = k := by omega
    rw [e'] at H ⊢
    exact br_t (nI_le (by omega) (by omega)) (h1 (cm_gen (by omega) (fun g h => (hg g h).1) H))
  | d + 1, g, e, H => br_f (nI_ge (by omega) (by omega)) ⟨g + 1, xw_cm16 h2 h4 hk hg h0 (by omega) (fun Hg => xw_cm6 h2 h4 hk hg h1 h0 d (g + 1) (by omega) (fun g' hg' => by
      by_cases y : g' = g
      · rw [y]; exact Hg
      · exact H g' (by omega))) g 0 (by omega) (fun h' hh => by omega)⟩
theorem yw_cm16 {post : Int32 → SY → Prop} (h2 : 2 ≤ n) (h4 : n ≤ 4) (Y : yg_Y n k gs th ln wo) (h0 : ¬ cm_A n k gs → post 0 (nI n, nI (n ^ n), nI k, ga, th, ln, wo, ne, se)) {a : Nat} (ha : a < n ^ n) {J : Int32 → Prop} (hJ : (∀ b, b < a → mo_M n k gs a → mo_M n k gs b → mo_m n a b = mo_m n b a) → J (nI (a + 1))) : ∀ d b, b + d = a → (∀ b', b' < b → mo_M n k gs a → mo_M n k gs b' → mo_m n a b' = mo_m n b' a) → wY_commutes_16 post J (nI a) (nI n) (nI (n ^ n)) (nI k) ga th ln wo ne se (d + 1) (nI b)
  | 0, b, e, H => by
    have hN := bf_N h2 h4
    have e' : b = a := by omega
    rw [e'] at H ⊢
    exact br_t (nI_le (by omega) (by omega)) (nm_r (nI_1 a) (hJ H))
  | d + 1, b, e, H => by
    have hN := bf_N h2 h4
    have m1 := mo_m_lt (show 0 < n by omega) a b
    have m2 := mo_m_lt (show 0 < n by omega) b a
    have go : (mo_M n k gs a → mo_M n k gs b → mo_m n a b = mo_m n b a) → wY_commutes_16 post J (nI a) (nI n) (nI (n ^ n)) (nI k) ga th ln wo ne se (d + 1) (nI (b + 1)) := fun z => yw_cm16 h2 h4 Y h0 ha hJ d (b + 1) (by omega) (fun b' hb' => by
      by_cases y : b' = b
      · rw [y]; exact z
      · exact H b' (by omega))
    refine br_f (nI_ge (by omega) (by omega)) ?_
    rw [nI_clamp (n := a) (by omega), nI_clamp (n := b) (by omega)]
    refine ⟨vp_in_nI (by omega) (by omega), br_c (fun z => nm_r (nI_1 b) (go (fun y => absurd y ((yg_iff Y ha).mp z)))) (fun z => ⟨vp_in_nI (by omega) (by omega), br_c (fun y => nm_r (nI_1 b) (go (fun _ x => absurd x ((yg_iff Y (by omega)).mp y)))) (fun y => yw_times h2 h4 (by omega) (by omega) (yw_times h2 h4 (by omega) (by omega) (br_c (fun x => nm_r (nI_1 b) (go (fun _ _ => (nI_eq (by omega) (by omega)).mp x))) (fun x => h0 (fun A => x (congrArg nI (A _ _ ?_ ?_)))))))⟩)⟩
    · exact Classical.byContradiction fun t => z (yg_f Y ha t)
    · exact Classical.byContradiction fun t => y (yg_f Y (by omega) t)
theorem yw_cm6 {post : Int32 → SY → Prop} (h2 : 2 ≤ n) (h4 : n ≤ 4) (Y : yg_Y n k gs th ln wo) (h1 : cm_A n k gs → post 1 (nI n, nI (n ^ n), nI k, ga, th, ln, wo, ne, se)) (h0 : ¬ cm_A n k gs → post 0 (nI n, nI (n ^ n), nI k, ga, th, ln, wo, ne, se)) : ∀ d a, a + d = n ^ n → (∀ a', a' < a → ∀ b, b < a' → mo_M n k gs a' → mo_M n k gs b → mo_m n a' b = mo_m n b a') → wY_commutes_6 post (nI n) (nI (n ^ n)) (nI k) ga th ln wo ne se (d + 1) (nI a)
  | 0, a, e, H => by
    have hN := bf_N h2 h4
    refine br_t (nI_le (by omega) (by omega)) (h1 (fun a' b ha hb => ?_))
    have l1 := mo_M_lt (show 0 < n by omega) ha
    have l2 := mo_M_lt (show 0 < n by omega) hb
    rcases (by omega : a' = b ∨ a' < b ∨ b < a') with z | z | z
    · rw [z]
    · exact (H b (by omega) a' z hb ha).symm
    · exact H a' (by omega) b z ha hb
  | d + 1, a, e, H => by
    have hN := bf_N h2 h4
    exact br_f (nI_ge (by omega) (by omega)) ⟨a + 1, yw_cm16 h2 h4 Y h0 (by omega) (fun Ha => yw_cm6 h2 h4 Y h1 h0 d (a + 1) (by omega) (fun a' ha' => by
      by_cases y : a' = a
      · rw [y]; exact Ha
      · exact H a' (by omega))) a 0 (by omega) (fun b' hb' => by omega)⟩
end
theorem i_vc_commutes {k : Nat} {u : SX} {v : SY} (I : i_Rel k u v) (hk : k + 4 ≤ 2049) : wpX_commutes (fun r u' => wpY_commutes (fun r' v' => r' = r ∧ i_Rel (k + 4) u' v') v) u := by
  refine re_el (P := fun u v => wpX_commutes (fun r u' => wpY_commutes (fun r' v' => r' = r ∧ i_Rel (k + 4) u' v') v) u) ?_ I
  intro n k' gs fz fu ga nu co be la le ri lf pa rd rg qu th ln ne wo se h
  obtain ⟨h2, h4, hk', hg, hc, hx⟩ := h
  unfold wpX_commutes wpY_commutes
  dsimp only
  refine xw_refresh h2 h4 hk' hg hc (fun s cd pf L R Q nu co be la le ri lf X => ⟨k' + 1, xw_cm6 h2 h4 hk' hg (fun A => ?_) (fun A => ?_) k' 0 (by omega) (fun g' hg' => by omega)⟩)
  · exact yw_work h2 h4 hk' hx (fun th ln wo Y => ⟨n ^ n + 1, yw_cm6 h2 h4 Y (fun _ => ⟨rfl, re_inX h2 h4 hk' hg X hx⟩) (fun z => absurd A z) (n ^ n) 0 (by omega) (fun a' ha' => by omega)⟩)
  · exact yw_work h2 h4 hk' hx (fun th ln wo Y => ⟨n ^ n + 1, yw_cm6 h2 h4 Y (fun z => absurd z A) (fun _ => ⟨rfl, re_inX h2 h4 hk' hg X hx⟩) (n ^ n) 0 (by omega) (fun a' ha' => by omega)⟩)
end
section
/-! what comes of an element by products: on the right (0), on the left (1), both (2) -/
def id_s (n k : Nat) (gs : Nat → Nat) (kd c d : Nat) : Prop := (kd ≠ 1 ∧ ∃ g, g < k ∧ d = mo_m n c (gs g)) ∨ (kd ≠ 0 ∧ ∃ g, g < k ∧ d = mo_m n (gs g) c)
def id_r (n k : Nat) (gs : Nat → Nat) (kd : Nat) : Nat → Nat → Nat → Prop
  | 0, a, c => c = a
  | j + 1, a, c => ∃ b, id_r n k gs kd j a b ∧ id_s n k gs kd b c
def id_I (n k : Nat) (gs : Nat → Nat) (kd a c : Nat) : Prop := ∃ j, id_r n k gs kd j a c
section
variable {n k : Nat} {gs : Nat → Nat} {kd : Nat}
theorem id_0 (a : Nat) : id_I n k gs kd a a := ⟨0, rfl⟩
theorem id_st {a b c : Nat} (h : id_I n k gs kd a b) (hs : id_s n k gs kd b c) : id_I n k gs kd a c := by
  obtain ⟨j, h⟩ := h
  exact ⟨j + 1, b, h, hs⟩
theorem id_ind {a : Nat} {P : Nat → Prop} (h0 : P a) (hs : ∀ b c, id_I n k gs kd a b → P b → id_s n k gs kd b c → P c) : ∀ c, id_I n k gs kd a c → P c := by
  have H : ∀ j c, id_r n k gs kd j a c → P c := by
    intro j
    induction j with
    | zero => intro c h; rw [show c = a from h]; exact h0
    | succ j ih =>
      intro c h
      obtain ⟨b, h1, h2⟩ := h
      exact hs b c ⟨j, h1⟩ (ih b h1) h2
  intro c ⟨j, h⟩
  exact H j c h
theorem id_tr {a b c : Nat} (h : id_I n k gs kd a b) (h' : id_I n k gs kd b c) : id_I n k gs kd a c :=
  id_ind (P := fun c => id_I n k gs kd a c) h (fun _ _ _ hb hs => id_st hb hs) c h'
/-- a path by its first step -/
theorem id_fst : ∀ j a c, id_r n k gs kd (j + 1) a c → ∃ b, id_s n k gs kd a b ∧ id_r n k gs kd j b c
  | 0, a, c, ⟨b, h1, h2⟩ => by
    have e : b = a := h1
    rw [e] at h2
    exact ⟨c, h2, rfl⟩
  | j + 1, a, c, ⟨b, h1, h2⟩ => by
    obtain ⟨b', h3, h4⟩ := id_fst j a b h1
    exact ⟨b', h3, b, h4, h2⟩
theorem id_sM (hn : 0 < n) (hg : ∀ g, g < k → gs g < n ^ n) {c d : Nat} (hc : mo_M n k gs c) (h : id_s n k gs kd c d) : mo_M n k gs d := by
  rcases h with ⟨_, g, hgk, e⟩ | ⟨_, g, hgk, e⟩
  · rw [e]; exact mo_Ms hc hgk
  · rw [e]; exact mo_Mm hn (mo_Mg hn hg hgk) hc
theorem id_M (hn : 0 < n) (hg : ∀ g, g < k → gs g < n ^ n) {a c : Nat} (ha : mo_M n k gs a) (h : id_I n k gs kd a c) : mo_M n k gs c :=
  id_ind (P := fun c => mo_M n k gs c) ha (fun _ _ _ hb hs => id_sM hn hg hb hs) c h
theorem id_slt (hn : 0 < n) {c d : Nat} (h : id_s n k gs kd c d) : d < n ^ n := by
  rcases h with ⟨_, g, hgk, e⟩ | ⟨_, g, hgk, e⟩ <;> (rw [e]; exact mo_m_lt hn _ _)
theorem id_lt (hn : 0 < n) {a c : Nat} (ha : a < n ^ n) (h : id_I n k gs kd a c) : c < n ^ n :=
  id_ind (P := fun c => c < n ^ n) ha (fun _ _ _ _ hs => id_slt hn hs) c h
end
/-! X: an element's edges, by number -/
/-- edge e of element x: on the right if e is even -/
def sp_t (R Q : Nat → Nat) (x e : Nat) : Nat := if e % 2 = 0 then R (4 * x + e / 2) else Q (4 * x + e / 2)
def sp_u (kd e : Nat) : Prop := kd = 2 ∨ (kd = 0 ∧ e % 2 = 0) ∨ (kd = 1 ∧ e % 2 = 1)
section
variable {n k : Nat} {gs : Nat → Nat} {s : Nat} {cd pf L R Q : Nat → Nat} {nu co be la le ri lf : Nat → Int32} {kd : Nat}
theorem sp_tlt (X : bf_X n k gs s cd pf L R Q nu co be la le ri lf) (hk : k ≤ 4) {x e : Nat} (hx : x < s) (he : e < 2 * k) : sp_t R Q x e < s := by
  unfold sp_t
  by_cases z : e % 2 = 0
  · rw [if_pos z]; exact (X.2.1 (4 * x + e / 2) (by omega) (by omega)).2.1
  · rw [if_neg z]; exact (X.2.2 (4 * x + e / 2) (by omega) (by omega)).2.1
/-- a used edge is a product -/
theorem sp_es (X : bf_X n k gs s cd pf L R Q nu co be la le ri lf) (hk : k ≤ 4) {x e : Nat} (hx : x < s) (he : e < 2 * k) (hu : sp_u kd e) : id_s n k gs kd (cd x) (cd (sp_t R Q x e)) := by
  unfold sp_t
  by_cases z : e % 2 = 0
  · rw [if_pos z]
    have a := (X.2.1 (4 * x + e / 2) (by omega) (by omega)).2.2.1
    rw [show (4 * x + e / 2) / 4 = x by omega, show (4 * x + e / 2) % 4 = e / 2 by omega] at a
    refine Or.inl ⟨?_, e / 2, by omega, a⟩
    rcases hu with h | h | h <;> omega
  · rw [if_neg z]
    have a := (X.2.2 (4 * x + e / 2) (by omega) (by omega)).2.2
    rw [show (4 * x + e / 2) / 4 = x by omega, show (4 * x + e / 2) % 4 = e / 2 by omega] at a
    refine Or.inr ⟨?_, e / 2, by omega, a⟩
    rcases hu with h | h | h <;> omega
/-- every product is a used edge -/
theorem sp_se (X : bf_X n k gs s cd pf L R Q nu co be la le ri lf) (hk : k ≤ 4) (hkd : kd ≤ 2) {x d : Nat} (hx : x < s) (h : id_s n k gs kd (cd x) d) : ∃ e, e < 2 * k ∧ sp_u kd e ∧ cd (sp_t R Q x e) = d := by
  rcases h with ⟨hd, g, hg, e⟩ | ⟨hd, g, hg, e⟩
  · refine ⟨2 * g, by omega, ?_, ?_⟩
    · unfold sp_u; omega
    · unfold sp_t
      rw [if_pos (by omega), show 2 * g / 2 = g by omega]
      have a := (X.2.1 (4 * x + g) (by omega) (by omega)).2.2.1
      rw [show (4 * x + g) / 4 = x by omega, show (4 * x + g) % 4 = g by omega] at a
      rw [a, e]
  · refine ⟨2 * g + 1, by omega, ?_, ?_⟩
    · unfold sp_u; omega
    · unfold sp_t
      rw [if_neg (by omega), show (2 * g + 1) / 2 = g by omega]
      have a := (X.2.2 (4 * x + g) (by omega) (by omega)).2.2
      rw [show (4 * x + g) / 4 = x by omega, show (4 * x + g) % 4 = g by omega] at a
      rw [a, e]
end
/-- X's spread: the queue qe of q elements, all edges of those below i and edges below e of element i are in -/
def sp_I (n k : Nat) (gs : Nat → Nat) (s : Nat) (cd R Q : Nat → Nat) (kd i0 i e q : Nat) (qe : Nat → Nat) (rd qu : Nat → Int32) : Prop :=
  (0 < q ∧ q ≤ s ∧ qe 0 = i0) ∧ (∀ j, j < q → qe j < s ∧ qu j = nI (qe j) ∧ rd (qe j) = 1 ∧ id_I n k gs kd (cd i0) (cd (qe j))) ∧ (∀ j j', j < j' → j' < q → qe j ≠ qe j') ∧ (∀ x, x < s → rd x = 0 ∨ ∃ j, j < q ∧ qe j = x) ∧
  (∀ j e', j < q → e' < 2 * k → sp_u kd e' → (j < i ∨ (j = i ∧ e' < e)) → rd (sp_t R Q (qe j) e') = 1)
section
variable {n k : Nat} {gs : Nat → Nat} {s : Nat} {cd pf L R Q : Nat → Nat} {nu co be la le ri lf : Nat → Int32} {kd i0 i e q : Nat} {qe : Nat → Nat} {rd qu : Nat → Int32}
theorem sp_skip (S : sp_I n k gs s cd R Q kd i0 i e q qe rd qu) (h : sp_u kd e → rd (sp_t R Q (qe i) e) = 1) : sp_I n k gs s cd R Q kd i0 i (e + 1) q qe rd qu := by
  refine ⟨S.1, S.2.1, S.2.2.1, S.2.2.2.1, fun j e' hj he hu hh => ?_⟩
  by_cases z : j = i ∧ e' = e
  · rw [z.1, z.2]; exact h (z.2 ▸ hu)
  · exact S.2.2.2.2 j e' hj he hu (by omega)
theorem sp_new (X : bf_X n k gs s cd pf L R Q nu co be la le ri lf) (hk : k ≤ 4) (S : sp_I n k gs s cd R Q kd i0 i e q qe rd qu) (hi : i < q) (he : e < 2 * k) (hu : sp_u kd e) {t : Nat} (ht : t = sp_t R Q (qe i) e) (h0 : rd t = 0) :
    q + 1 ≤ s ∧ sp_I n k gs s cd R Q kd i0 i (e + 1) (q + 1) (bf_u qe q t) (upd rd t 1) (upd qu q (nI t)) := by
  obtain ⟨⟨q0, qs, qi⟩, S2, S3, S4, S5⟩ := S
  have hqi := (S2 i hi).1
  have hts : t < s := by rw [ht]; exact sp_tlt X hk hqi he
  have hne : ∀ j, j < q → qe j ≠ t := by
    intro j hj z
    have := (S2 j hj).2.2.1
    rw [z, h0] at this
    exact absurd this (by decide)
  have dis : ∀ j j', j < j' → j' < q + 1 → bf_u qe q t j ≠ bf_u qe q t j' := by
    intro j j' h1 h2
    rw [bf_un (show j ≠ q by omega)]
    by_cases z : j' = q
    · rw [z, bf_us]; exact hne j (by omega)
    · rw [bf_un z]; exact S3 j j' h1 (by omega)
  have hlt : ∀ j, j < q + 1 → bf_u qe q t j < s := by
    intro j hj
    by_cases z : j = q
    · rw [z, bf_us]; exact hts
    · rw [bf_un z]; exact (S2 j (by omega)).1
  have room : q + 1 ≤ s := cn_pg (bf_u qe q t) hlt (fun a b ha hb e' => by
    rcases (by omega : a = b ∨ a < b ∨ b < a) with z | z | z
    · exact z
    · exact absurd e' (dis a b z hb)
    · exact absurd e'.symm (dis b a z ha))
  have up : ∀ x, rd x = 1 → upd rd t 1 x = 1 := by
    intro x hx
    by_cases z : x = t
    · rw [z, pk_us]
    · rw [pk_un z]; exact hx
  refine ⟨room, ⟨by omega, room, ?_⟩, fun j hj => ?_, dis, fun x hx => ?_, fun j e' hj he' hu' hh => ?_⟩
  · rw [bf_un (by omega)]; exact qi
  · by_cases z : j = q
    · rw [z, bf_us, pk_us, pk_us]
      refine ⟨hts, rfl, rfl, ?_⟩
      have := id_st (S2 i hi).2.2.2 (sp_es X hk hqi he hu)
      rw [← ht] at this
      exact this
    · rw [bf_un z, pk_un z]
      have a := S2 j (by omega)
      exact ⟨a.1, a.2.1, up _ a.2.2.1, a.2.2.2⟩
  · by_cases z : x = t
    · exact Or.inr ⟨q, by omega, by rw [bf_us, z]⟩
    · rw [pk_un z]
      rcases S4 x hx with y | ⟨j, hj, y⟩
      · exact Or.inl y
      · exact Or.inr ⟨j, by omega, by rw [bf_un (by omega)]; exact y⟩
  · have hjq : j ≠ q := by omega
    rw [bf_un hjq]
    by_cases z : j = i ∧ e' = e
    · rw [z.1, z.2, ← ht, pk_us]
    · exact up _ (S5 j e' (by omega) he' hu' (by omega))
theorem sp_row (S : sp_I n k gs s cd R Q kd i0 i e q qe rd qu) (he : 2 * k ≤ e) : sp_I n k gs s cd R Q kd i0 (i + 1) 0 q qe rd qu :=
  ⟨S.1, S.2.1, S.2.2.1, S.2.2.2.1, fun j e' hj he' hu hh => S.2.2.2.2 j e' hj he' hu (by omega)⟩
/-- what spread leaves -/
def sp_Z (n k : Nat) (gs : Nat → Nat) (s : Nat) (cd : Nat → Nat) (kd i0 : Nat) (rd : Nat → Int32) : Prop := ∀ x, x < s → (rd x = 1 ∧ id_I n k gs kd (cd i0) (cd x)) ∨ (rd x = 0 ∧ ¬ id_I n k gs kd (cd i0) (cd x))
theorem sp_end (X : bf_X n k gs s cd pf L R Q nu co be la le ri lf) (hk : k ≤ 4) (h2 : 2 ≤ n) (h4 : n ≤ 4) (hkd : kd ≤ 2) (hi0 : i0 < s) (S : sp_I n k gs s cd R Q kd i0 i 0 q qe rd qu) (hi : q ≤ i) : sp_Z n k gs s cd kd i0 rd ∧ q = cn (id_I n k gs kd (cd i0)) (n ^ n) := by
  obtain ⟨⟨q0, qs, qi⟩, S2, S3, S4, S5⟩ := S
  have full : ∀ c, id_I n k gs kd (cd i0) c → ∃ j, j < q ∧ cd (qe j) = c := by
    refine id_ind ⟨0, q0, by rw [qi]⟩ (fun b c _ hb hs => ?_)
    obtain ⟨j, hj, ej⟩ := hb
    rw [← ej] at hs
    obtain ⟨e', he', hu, ec⟩ := sp_se X hk hkd (S2 j hj).1 hs
    have r := S5 j e' hj he' hu (by omega)
    have tl := sp_tlt X hk (S2 j hj).1 he'
    rcases S4 _ tl with z | ⟨j', hj', z⟩
    · rw [z] at r; exact absurd r (by decide)
    · exact ⟨j', hj', by rw [z]; exact ec⟩
  constructor
  · intro x hx
    rcases S4 x hx with z | ⟨j, hj, z⟩
    · refine Or.inr ⟨z, fun y => ?_⟩
      obtain ⟨j, hj, ej⟩ := full _ y
      have := bf_inj h2 h4 X.1 (S2 j hj).1 hx ej
      have r := (S2 j hj).2.2.1
      rw [this, z] at r
      exact absurd r (by decide)
    · refine Or.inl ?_
      rw [← z]
      exact ⟨(S2 j hj).2.2.1, (S2 j hj).2.2.2⟩
  · refine cn_enum1 (fun j => cd (qe j)) (fun j hj => ⟨(X.1.2.2.1 _ (S2 j hj).1).1, (S2 j hj).2.2.2⟩) (fun a b ha hb e' => ?_) (fun c _ h => full c h)
    have := bf_inj h2 h4 X.1 (S2 a ha).1 (S2 b hb).1 e'
    rcases (by omega : a = b ∨ a < b ∨ b < a) with z | z | z
    · exact z
    · exact absurd this (S3 a b z hb)
    · exact absurd this.symm (S3 b a z ha)
end
end
section
/-! X: spread -/
abbrev xa_J : Type := (Nat → Int32) → (Nat → Int32) → (Nat → Int32) → (Nat → Int32) → (Nat → Int32) → (Nat → Int32) → (Nat → Int32) → (Nat → Int32) → (Nat → Int32) → (Nat → Int32) → (Nat → Int32) → (Nat → Int32) → Prop
section
variable {fn fm fc fz fu : Int32} {ga nu co be la le ri lf pa rd rg qu : Nat → Int32}
theorem xw_sp122 {post : Int32 → SX → Prop} {J42 J59 : Int32 → Int32 → xa_J} {kd e : Nat} {x3 x4 x5 x6 x8 : Int32} (hkd : kd ≤ 2) (h6 : (x6 = 1 ∧ e % 2 = 0) ∨ (x6 = 0 ∧ e % 2 = 1)) (hu : sp_u kd e → wX_spread_148 post J42 J59 (nI kd) x3 x4 x5 x8 1 fn fm fc fz fu ga nu co be la le ri lf pa rd rg qu) (hn : ¬ sp_u kd e → wX_spread_148 post J42 J59 (nI kd) x3 x4 x5 x8 0 fn fm fc fz fu ga nu co be la le ri lf pa rd rg qu) : wX_spread_122 post J42 J59 (nI kd) x3 x4 x5 x6 x8 fn fm fc fz fu ga nu co be la le ri lf pa rd rg qu := by
  rcases (by omega : kd = 0 ∨ kd = 1 ∨ kd = 2) with z | z | z <;> subst z <;> rcases h6 with ⟨y, p⟩ | ⟨y, p⟩ <;> subst y
  · exact br_f (by decide) (br_t rfl (br_t rfl (hu (Or.inr (Or.inl ⟨rfl, p⟩)))))
  · exact br_f (by decide) (br_t rfl (br_f (by decide) (hn (by unfold sp_u; omega))))
  · exact br_f (by decide) (br_f (by decide) (br_f (by decide) (hn (by unfold sp_u; omega))))
  · exact br_f (by decide) (br_f (by decide) (br_t rfl (hu (Or.inr (Or.inr ⟨rfl, p⟩)))))
  · exact br_t rfl (hu (Or.inl rfl))
  · exact br_t rfl (hu (Or.inl rfl))
end
section
variable {n k s : Nat} {gs cd pf L R Q : Nat → Nat} {ga nu co be la le ri lf pa rg : Nat → Int32} {kd i0 : Nat}
theorem xw_sp59 {post : Int32 → SX → Prop} (h2 : 2 ≤ n) (h4 : n ≤ 4) (hk : k ≤ 4) (hkd : kd ≤ 2) (X : bf_X n k gs s cd pf L R Q nu co be la le ri lf) {i : Nat} {J : Int32 → Int32 → xa_J}
    (hJ : ∀ q qe rd qu, i < q → sp_I n k gs s cd R Q kd i0 (i + 1) 0 q qe rd qu → J (nI q) (nI (i + 1)) ga nu co be la le ri lf pa rd rg qu) : ∀ d e q qe rd qu, e + d = 2 * k → i < q → sp_I n k gs s cd R Q kd i0 i e q qe rd qu → wX_spread_59 post J (nI kd) (nI i) (nI n) (nI (n ^ n)) (nI k) (nI s) 1 (d + 1) (nI q) (nI e) ga nu co be la le ri lf pa rd rg qu
  | 0, e, q, qe, rd, qu, ed, hi, S => by
    refine br_t ?_ (nm_r (nI_1 i) (hJ q qe rd qu hi (sp_row S (by omega))))
    show nI 2 * nI k ≤ nI e
    rw [pk_mul]
    exact nI_le (by omega) (by omega)
  | d + 1, e, q, qe, rd, qu, ed, hi, S => by
    have hN := bf_N h2 h4
    have hs := X.1.1
    have hqs := S.1.2.1
    obtain ⟨q1, q2, q3, q4⟩ := S.2.1 i hi
    have htl : sp_t R Q (qe i) e < s := sp_tlt X hk q1 (by omega)
    have ci := nI_clamp (n := i) (by omega)
    have cx := nI_clamp (n := 4 * qe i + e / 2) (by omega)
    have ex : (4 : Int32) * nI (qe i) + (nI e >>> ((1 : Int32) &&& 31)) = nI (4 * qe i + e / 2) := by
      rw [pk_shrN (by omega) _ 1 (by decide), bf_ix]
    have h0 : ¬ sp_u kd e → wX_spread_148 post J (wX_spread_59 post J (nI kd) (nI i) (nI n) (nI (n ^ n)) (nI k) (nI s) 1 (d + 1)) (nI kd) (nI q) (nI i) (nI e) (nI (sp_t R Q (qe i) e)) 0 (nI n) (nI (n ^ n)) (nI k) (nI s) 1 ga nu co be la le ri lf pa rd rg qu := fun nu' =>
      br_t rfl (nm_r (nI_1 e) (xw_sp59 h2 h4 hk hkd X hJ d (e + 1) q qe rd qu (by omega) hi (sp_skip S (fun z => absurd z nu'))))
    have h1 : sp_u kd e → wX_spread_148 post J (wX_spread_59 post J (nI kd) (nI i) (nI n) (nI (n ^ n)) (nI k) (nI s) 1 (d + 1)) (nI kd) (nI q) (nI i) (nI e) (nI (sp_t R Q (qe i) e)) 1 (nI n) (nI (n ^ n)) (nI k) (nI s) 1 ga nu co be la le ri lf pa rd rg qu := fun hu => by
      refine br_f (by decide) ?_
      rw [nI_clamp (n := sp_t R Q (qe i) e) (by omega)]
      rcases S.2.2.2.1 _ htl with z | ⟨j, hj, z⟩
      · obtain ⟨room, S'⟩ := sp_new X hk S hi (by omega) hu rfl z
        refine ⟨vp_in_nI (by omega) (by omega), br_t z ⟨vp_in_nI (by omega) (by omega), nm_r (e' := upd rd (sp_t R Q (qe i) e) 1) rfl ⟨vp_in_nI (by omega) (by omega), nm_r (e' := upd qu q (nI (sp_t R Q (qe i) e))) (by rw [nI_clamp (by omega)]) (nm_r (nI_1 q) (nm_r (nI_1 e) ?_))⟩⟩⟩
        exact xw_sp59 h2 h4 hk hkd X hJ d (e + 1) (q + 1) _ _ _ (by omega) (by omega) S'
      · have z1 := (S.2.1 j hj).2.2.1
        rw [z] at z1
        refine ⟨vp_in_nI (by omega) (by omega), br_f (by rw [z1]; decide) (nm_r (nI_1 e) ?_)⟩
        exact xw_sp59 h2 h4 hk hkd X hJ d (e + 1) q qe rd qu (by omega) hi (sp_skip S (fun _ => z1))
    have hle : ¬ (2 : Int32) * nI k ≤ nI e := by
      show ¬ nI 2 * nI k ≤ nI e
      rw [pk_mul]
      exact nI_ge (by omega) (by omega)
    have hand : nI e &&& 1 = nI (e % 2) := pk_andN (by omega) 1 (by decide)
    by_cases p : e % 2 = 0
    · have et : ri (4 * qe i + e / 2) = nI (sp_t R Q (qe i) e) := by
        rw [(X.2.1 (4 * qe i + e / 2) (by omega) (by omega)).1]
        unfold sp_t
        rw [if_pos p]
      refine br_f hle (br_t (by rw [hand, p]; rfl) ?_)
      unfold wX_spread_82
      rw [ci, q2, ex]
      refine ⟨vp_in_nI (by omega) (by omega), nm_e (br_f (by decide) ⟨vp_in_nI (by omega) (by omega), ?_⟩)⟩
      rw [cx, et]
      exact xw_sp122 hkd (Or.inl ⟨rfl, p⟩) h1 h0
    · have et : lf (4 * qe i + e / 2) = nI (sp_t R Q (qe i) e) := by
        rw [(X.2.2 (4 * qe i + e / 2) (by omega) (by omega)).1]
        unfold sp_t
        rw [if_neg p]
      refine br_f hle (br_f (by rw [hand, show e % 2 = 1 by omega]; decide) ?_)
      unfold wX_spread_82
      rw [ci, q2, ex]
      refine ⟨vp_in_nI (by omega) (by omega), nm_e (br_t rfl ⟨vp_in_nI (by omega) (by omega), ?_⟩)⟩
      rw [cx, et]
      exact xw_sp122 hkd (Or.inr ⟨rfl, by omega⟩) h1 h0
theorem xw_sp42 {post : Int32 → SX → Prop} (h2 : 2 ≤ n) (h4 : n ≤ 4) (hk : k ≤ 4) (hkd : kd ≤ 2) (hi0 : i0 < s) (X : bf_X n k gs s cd pf L R Q nu co be la le ri lf)
    (hp : ∀ rd qu, sp_Z n k gs s cd kd i0 rd → post (nI (cn (id_I n k gs kd (cd i0)) (n ^ n))) (nI n, nI (n ^ n), nI k, nI s, 1, ga, nu, co, be, la, le, ri, lf, pa, rd, rg, qu)) : ∀ d i q qe rd qu, i + d = 256 → i ≤ q → sp_I n k gs s cd R Q kd i0 i 0 q qe rd qu → wX_spread_42 post (nI kd) (nI n) (nI (n ^ n)) (nI k) (nI s) 1 (d + 1) (nI q) (nI i) ga nu co be la le ri lf pa rd rg qu
  | 0, i, q, qe, rd, qu, e, hi, S => by
    have hN := bf_N h2 h4
    have hs := X.1.1
    have hqs := S.1.2.1
    obtain ⟨Z, eq⟩ := sp_end X hk h2 h4 hkd hi0 S (by omega)
    rw [eq]
    exact br_t (nI_le (a := 256) (by omega) (by omega)) (hp rd qu Z)
  | d + 1, i, q, qe, rd, qu, e, hi, S => by
    have hN := bf_N h2 h4
    have hs := X.1.1
    have hqs := S.1.2.1
    refine br_f (nI_ge (b := 256) (by omega) (by omega)) ?_
    by_cases z : q ≤ i
    · obtain ⟨Z, eq⟩ := sp_end X hk h2 h4 hkd hi0 S z
      refine br_t (nI_le (by omega) (by omega)) ?_
      rw [eq]
      exact hp rd qu Z
    · exact br_f (nI_ge (by omega) (by omega)) ⟨2 * k + 1, xw_sp59 h2 h4 hk hkd X (fun q qe rd qu hi S => xw_sp42 h2 h4 hk hkd hi0 X hp d (i + 1) q qe rd qu (by omega) (by omega) S) (2 * k) 0 q qe rd qu (by omega) (by omega) S⟩
theorem xw_sp2 {post : Int32 → SX → Prop} (h2 : 2 ≤ n) (h4 : n ≤ 4) (hk : k ≤ 4) (hkd : kd ≤ 2) (hi0 : i0 < s) (X : bf_X n k gs s cd pf L R Q nu co be la le ri lf) {qu : Nat → Int32}
    (hp : ∀ rd qu, sp_Z n k gs s cd kd i0 rd → post (nI (cn (id_I n k gs kd (cd i0)) (n ^ n))) (nI n, nI (n ^ n), nI k, nI s, 1, ga, nu, co, be, la, le, ri, lf, pa, rd, rg, qu)) : ∀ d a rd, a + d = s → (∀ x, x < a → rd x = 0) → wX_spread_2 post (nI kd) (nI i0) (nI n) (nI (n ^ n)) (nI k) (nI s) 1 (d + 1) (nI a) ga nu co be la le ri lf pa rd rg qu
  | 0, a, rd, e, h => by
    have hN := bf_N h2 h4
    have hs := X.1.1
    refine br_t (nI_le (by omega) (by omega)) ⟨vp_in_nI (by omega) (by omega), nm_r (e' := upd rd i0 1) (by rw [nI_clamp (by omega)]; rfl) (nm_e ⟨257, ?_⟩)⟩
    refine xw_sp42 h2 h4 hk hkd hi0 X hp 256 0 1 (fun _ => i0) (upd rd i0 1) (upd qu 0 (nI i0)) (by omega) (by omega) ⟨⟨by omega, by omega, rfl⟩, fun j hj => ?_, fun j j' h1 h2 => by omega, fun x hx => ?_, fun j e' hj he hu hh => by omega⟩
    · have j0 : j = 0 := by omega
      rw [j0, pk_us, pk_us]
      exact ⟨hi0, rfl, rfl, id_0 _⟩
    · by_cases z : x = i0
      · exact Or.inr ⟨0, by omega, z.symm⟩
      · rw [pk_un z]; exact Or.inl (h x (by omega))
  | d + 1, a, rd, e, h => by
    have hN := bf_N h2 h4
    have hs := X.1.1
    refine br_f (nI_ge (by omega) (by omega)) ⟨vp_in_nI (by omega) (by omega), nm_r (e' := upd rd a 0) (by rw [nI_clamp (by omega)]; rfl) (nm_r (nI_1 a) ?_)⟩
    refine xw_sp2 h2 h4 hk hkd hi0 X hp d (a + 1) _ (by omega) (fun x hx => ?_)
    by_cases z : x = a
    · rw [z, pk_us]
    · rw [pk_un z]; exact h x (by omega)
/-- spread marks what comes of the start and counts it -/
theorem xw_spread {post : Int32 → SX → Prop} (h2 : 2 ≤ n) (h4 : n ≤ 4) (hk : k ≤ 4) (hkd : kd ≤ 2) (hi0 : i0 < s) (X : bf_X n k gs s cd pf L R Q nu co be la le ri lf) {rd qu : Nat → Int32}
    (hp : ∀ rd qu, sp_Z n k gs s cd kd i0 rd → post (nI (cn (id_I n k gs kd (cd i0)) (n ^ n))) (nI n, nI (n ^ n), nI k, nI s, 1, ga, nu, co, be, la, le, ri, lf, pa, rd, rg, qu)) : wpX_spread post (nI n, nI (n ^ n), nI k, nI s, 1, ga, nu, co, be, la, le, ri, lf, pa, rd, rg, qu) (nI kd) (nI i0) :=
  ⟨s + 1, xw_sp2 h2 h4 hk hkd hi0 X hp s 0 rd (by omega) (fun x hx => by omega)⟩
end
end
section
/-! X: leadsOn and findPart -/
section
variable {fn fm fz fu : Int32} {ga nu co be la le ri lf pa rd rg qu : Nat → Int32} {k : Nat}
theorem xw_ld41 {post : Int32 → SX → Prop} {y t : Nat} {x4 : Int32} (hk : k ≤ 4) (hy : y < 1024) (hsel : y % 4 < k → t < 256 ∧ (rg t = 0 ∨ rg t = 1) ∧ ((x4 = 1 ∧ ri y = nI t) ∨ (x4 = 0 ∧ lf y = nI t)))
    (hskip : ¬ (y % 4 < k ∧ rg (y / 4) = 0 ∧ ¬ rd (y / 4) = 0) → post 0 (fn, fm, nI k, fz, fu, ga, nu, co, be, la, le, ri, lf, pa, rd, rg, qu)) (hset : y % 4 < k → rg (y / 4) = 0 → ¬ rd (y / 4) = 0 → post (rg t) (fn, fm, nI k, fz, fu, ga, nu, co, be, la, le, ri, lf, pa, rd, upd rg (y / 4) (rg t), qu)) : wX_leadsOn_41 post (nI y) x4 1 fn fm (nI k) fz fu ga nu co be la le ri lf pa rd rg qu := by
  have e4 : nI y / 4 = nI (y / 4) := pk_div (d := 4) (by omega) (by decide) (by decide)
  have m4 : nI y - nI y / 4 * 4 = nI (y % 4) := pk_rem (d := 4) (by omega) (by decide) (by decide)
  have c4 := nI_clamp (n := y / 4) (by omega)
  have cy := nI_clamp (n := y) (by omega)
  have v4 : vp_in (nI (y / 4)) 256 := vp_in_nI (by omega) (by omega)
  unfold wX_leadsOn_41
  rw [m4, e4]
  refine ⟨by decide, nm_e (br_f (by decide) ⟨by decide, br_c (fun z => ?_) (fun z => ⟨v4, ?_⟩)⟩)⟩
  · have z' := (nI_leI (by omega) (by omega)).mp z
    exact hskip (fun h => by omega)
  · have z' : y % 4 < k := Nat.lt_of_not_le (fun w => z ((nI_leI (by omega) (by omega)).mpr w))
    rw [c4]
    obtain ⟨ht, h01, hs⟩ := hsel z'
    have ct := nI_clamp (n := t) (by omega)
    refine br_c (fun a => ⟨v4, br_c (fun b => hskip (fun h => h.2.2 b)) (fun b => ?_)⟩) (fun a => hskip (fun h => a h.2.1))
    have hb : vp_nar .boolean (rg t) = rg t := by rcases h01 with h | h <;> rw [h] <;> rfl
    have hn : narrow .boolean (.int (upd rg (y / 4) (rg t) (y / 4))) = .int (upd rg (y / 4) (rg t) (y / 4)) := by
      rw [pk_us]; rcases h01 with h | h <;> rw [h] <;> rfl
    have fin : post (upd rg (y / 4) (rg t) (y / 4)) (fn, fm, nI k, fz, fu, ga, nu, co, be, la, le, ri, lf, pa, rd, upd rg (y / 4) (rg t), qu) := by rw [pk_us]; exact hset z' a b
    rcases hs with ⟨s1, s2⟩ | ⟨s1, s2⟩ <;> subst s1
    · refine br_f (by decide) ?_
      rw [cy, s2, ct]
      exact ⟨vp_in_nI hy (by omega), vp_in_nI ht (by omega), v4, nm_r (e' := upd rg (y / 4) (rg t)) (by rw [hb]) ⟨v4, hn, fin⟩⟩
    · refine br_t rfl ?_
      rw [cy, s2, ct]
      exact ⟨vp_in_nI hy (by omega), vp_in_nI ht (by omega), v4, nm_r (e' := upd rg (y / 4) (rg t)) (by rw [hb]) ⟨v4, hn, fin⟩⟩
theorem xw_ld15 {post : Int32 → SX → Prop} {kd e : Nat} {x3 x4 : Int32} {fc : Int32} (hkd : kd ≤ 2) (h6 : (x4 = 1 ∧ e % 2 = 0) ∨ (x4 = 0 ∧ e % 2 = 1)) (hu : sp_u kd e → wX_leadsOn_41 post x3 x4 1 fn fm fc fz fu ga nu co be la le ri lf pa rd rg qu) (hn : ¬ sp_u kd e → post 0 (fn, fm, fc, fz, fu, ga, nu, co, be, la, le, ri, lf, pa, rd, rg, qu)) : wX_leadsOn_15 post (nI kd) x3 x4 fn fm fc fz fu ga nu co be la le ri lf pa rd rg qu := by
  have h0 : ¬ sp_u kd e → wX_leadsOn_41 post x3 x4 0 fn fm fc fz fu ga nu co be la le ri lf pa rd rg qu := fun z => ⟨by decide, nm_e (br_t rfl (hn z))⟩
  rcases (by omega : kd = 0 ∨ kd = 1 ∨ kd = 2) with z | z | z <;> subst z <;> rcases h6 with ⟨y, p⟩ | ⟨y, p⟩ <;> subst y
  · exact br_f (by decide) (br_t rfl (br_t rfl (hu (Or.inr (Or.inl ⟨rfl, p⟩)))))
  · exact br_f (by decide) (br_t rfl (br_f (by decide) (h0 (by unfold sp_u; omega))))
  · exact br_f (by decide) (br_f (by decide) (br_f (by decide) (h0 (by unfold sp_u; omega))))
  · exact br_f (by decide) (br_f (by decide) (br_t rfl (hu (Or.inr (Or.inr ⟨rfl, p⟩)))))
  · exact br_t rfl (hu (Or.inl rfl))
  · exact br_t rfl (hu (Or.inl rfl))
end
section
variable {n k s : Nat} {gs cd pf L R Q : Nat → Nat} {ga nu co be la le ri lf pa rd rg qu : Nat → Int32} {kd : Nat}
theorem xw_leads {post : Int32 → SX → Prop} (h2 : 2 ≤ n) (h4 : n ≤ 4) (hk : k ≤ 4) (hkd : kd ≤ 2) (X : bf_X n k gs s cd pf L R Q nu co be la le ri lf) {w : Nat} (hw : w < 8 * s) (h01 : ∀ x, x < s → rg x = 0 ∨ rg x = 1)
    (hskip : ¬ (sp_u kd (w % 8) ∧ w % 8 < 2 * k ∧ rg (w / 8) = 0 ∧ ¬ rd (w / 8) = 0) → post 0 (nI n, nI (n ^ n), nI k, nI s, 1, ga, nu, co, be, la, le, ri, lf, pa, rd, rg, qu))
    (hset : sp_u kd (w % 8) → w % 8 < 2 * k → rg (w / 8) = 0 → ¬ rd (w / 8) = 0 → post (rg (sp_t R Q (w / 8) (w % 8))) (nI n, nI (n ^ n), nI k, nI s, 1, ga, nu, co, be, la, le, ri, lf, pa, rd, upd rg (w / 8) (rg (sp_t R Q (w / 8) (w % 8))), qu)) : wpX_leadsOn post (nI n, nI (n ^ n), nI k, nI s, 1, ga, nu, co, be, la, le, ri, lf, pa, rd, rg, qu) (nI kd) (nI w) := by
  have hN := bf_N h2 h4
  have hs := X.1.1
  have e1 : nI w >>> ((1 : Int32) &&& 31) = nI (w / 2) := pk_shrN (by omega) _ 1 (by decide)
  have hand : nI w &&& 1 = nI (w % 2) := pk_andN (by omega) 1 (by decide)
  have q4 : w / 2 / 4 = w / 8 := by omega
  have key : ∀ x4 : Int32, (x4 = 1 ∧ w % 8 % 2 = 0) ∨ (x4 = 0 ∧ w % 8 % 2 = 1) → sp_u kd (w % 8) → wX_leadsOn_41 post (nI (w / 2)) x4 1 (nI n) (nI (n ^ n)) (nI k) (nI s) 1 ga nu co be la le ri lf pa rd rg qu := by
    intro x4 h6 hu
    refine xw_ld41 (t := sp_t R Q (w / 8) (w % 8)) hk (by omega) (fun hy => ?_) (fun hy => ?_) (fun hy => ?_)
    · have tl := sp_tlt X hk (x := w / 8) (e := w % 8) (by omega) (by omega)
      refine ⟨by omega, h01 _ tl, ?_⟩
      have ex : 4 * (w / 8) + w % 8 / 2 = w / 2 := by omega
      unfold sp_t
      rw [ex]
      rcases h6 with ⟨a, b⟩ | ⟨a, b⟩
      · rw [if_pos b]
        exact Or.inl ⟨a, (X.2.1 (w / 2) (by omega) hy).1⟩
      · rw [if_neg (by omega)]
        exact Or.inr ⟨a, (X.2.2 (w / 2) (by omega) hy).1⟩
    · rw [q4] at hy
      exact hskip (fun z => hy ⟨by omega, z.2.2.1, z.2.2.2⟩)
    · rw [q4]
      exact hset hu (by omega)
  unfold wpX_leadsOn
  dsimp only
  rw [e1, hand]
  by_cases p : w % 2 = 0
  · have h6 : ((1 : Int32) = 1 ∧ w % 8 % 2 = 0) ∨ ((1 : Int32) = 0 ∧ w % 8 % 2 = 1) := Or.inl ⟨rfl, by omega⟩
    exact nm_e (br_t (by rw [p]; rfl) (xw_ld15 hkd h6 (key 1 h6) (fun z => hskip (fun y => z y.1))))
  · have h6 : ((0 : Int32) = 1 ∧ w % 8 % 2 = 0) ∨ ((0 : Int32) = 0 ∧ w % 8 % 2 = 1) := Or.inr ⟨rfl, by omega⟩
    exact nm_e (br_f (by rw [show w % 2 = 1 by omega]; decide) (xw_ld15 hkd h6 (key 0 h6) (fun z => hskip (fun y => z y.1))))
end
end
section
/-! X: findPart, classes -/
/-- marks: only what is reached and leads back -/
def fp_B (n k : Nat) (gs : Nat → Nat) (s : Nat) (cd : Nat → Nat) (kd st : Nat) (rd rg : Nat → Int32) : Prop := ∀ x, x < s → rg x = 0 ∨ (rg x = 1 ∧ rd x = 1 ∧ id_I n k gs kd (cd x) (cd st))
/-- place w asks nothing more of the marks -/
def fp_S (k : Nat) (R Q : Nat → Nat) (kd : Nat) (rd rg : Nat → Int32) (w : Nat) : Prop := sp_u kd (w % 8) → w % 8 < 2 * k → rd (w / 8) = 1 → rg (sp_t R Q (w / 8) (w % 8)) = 1 → rg (w / 8) = 1
def fp_P (n k : Nat) (gs : Nat → Nat) (s : Nat) (cd R Q : Nat → Nat) (kd st : Nat) (rd : Nat → Int32) (w : Nat) (rg0 rg : Nat → Int32) (x : Int32) : Prop :=
  fp_B n k gs s cd kd st rd rg ∧ (∀ y, y < s → rg0 y = 1 → rg y = 1) ∧ ((x = 1 ∧ ∃ y, y < s ∧ rg y = 1 ∧ rg0 y = 0) ∨ (x = 0 ∧ rg = rg0 ∧ ∀ w', w' < w → fp_S k R Q kd rd rg0 w'))
section
variable {n k s : Nat} {gs cd pf L R Q : Nat → Nat} {ga nu co be la le ri lf pa rd qu : Nat → Int32} {kd st : Nat}
theorem fp_skip {rg0 rg : Nat → Int32} {x : Int32} {w : Nat} (P : fp_P n k gs s cd R Q kd st rd w rg0 rg x) (h : x = 0 → fp_S k R Q kd rd rg w) : fp_P n k gs s cd R Q kd st rd (w + 1) rg0 rg x := by
  refine ⟨P.1, P.2.1, ?_⟩
  rcases P.2.2 with z | ⟨z1, z2, z3⟩
  · exact Or.inl z
  · refine Or.inr ⟨z1, z2, fun w' hw => ?_⟩
    by_cases y : w' = w
    · rw [y, ← z2]; exact h z1
    · exact z3 w' (by omega)
theorem fp_mark (X : bf_X n k gs s cd pf L R Q nu co be la le ri lf) (hk : k ≤ 4) {rg0 rg : Nat → Int32} {x : Int32} {w : Nat} (B0 : fp_B n k gs s cd kd st rd rg0) (P : fp_P n k gs s cd R Q kd st rd w rg0 rg x) (hw : w < 8 * s) (hu : sp_u kd (w % 8)) (he : w % 8 < 2 * k) (h0 : rg (w / 8) = 0) (hr : rd (w / 8) = 1) (ht : rg (sp_t R Q (w / 8) (w % 8)) = 1) :
    fp_P n k gs s cd R Q kd st rd (w + 1) rg0 (upd rg (w / 8) 1) 1 := by
  have ha : w / 8 < s := by omega
  have tl := sp_tlt X hk ha he
  refine ⟨fun y hy => ?_, fun y hy h => ?_, Or.inl ⟨rfl, w / 8, ha, pk_us, ?_⟩⟩
  · by_cases z : y = w / 8
    · rw [z, pk_us]
      refine Or.inr ⟨rfl, hr, ?_⟩
      rcases P.1 _ tl with q | q
      · rw [ht] at q; exact absurd q (by decide)
      · exact id_tr (id_st (id_0 _) (sp_es X hk ha he hu)) q.2.2
    · rw [pk_un z]; exact P.1 y hy
  · by_cases z : y = w / 8
    · rw [z, pk_us]
    · rw [pk_un z]; exact P.2.1 y hy h
  · rcases B0 _ ha with q | q
    · exact q
    · have := P.2.1 _ ha q.1
      rw [h0] at this
      exact absurd this (by decide)
theorem xw_fp61 {post : SX → Prop} (h2 : 2 ≤ n) (h4 : n ≤ 4) (hk : k ≤ 4) (hkd : kd ≤ 2) (X : bf_X n k gs s cd pf L R Q nu co be la le ri lf) (Z : sp_Z n k gs s cd kd st rd) {rg0 : Nat → Int32} (B0 : fp_B n k gs s cd kd st rd rg0) {x2 x4 : Int32} {J : Int32 → Int32 → Int32 → Int32 → Int32 → Int32 → Int32 → xa_J}
    (hJ : ∀ x rg, fp_P n k gs s cd R Q kd st rd (8 * s) rg0 rg x → J x (x4 + 1) (nI n) (nI (n ^ n)) (nI k) (nI s) 1 ga nu co be la le ri lf pa rd rg qu) : ∀ d w x rg, w + d = 8 * s → fp_P n k gs s cd R Q kd st rd w rg0 rg x → wX_findPart_61 post J (nI kd) x2 x4 (d + 1) x (nI w) (nI n) (nI (n ^ n)) (nI k) (nI s) 1 ga nu co be la le ri lf pa rd rg qu
  | 0, w, x, rg, e, P => by
    have hN := bf_N h2 h4
    have hs := X.1.1
    have e' : w = 8 * s := by omega
    rw [e'] at P
    refine br_t ?_ (nm_e (hJ x rg P))
    show nI 8 * nI s ≤ nI w
    rw [pk_mul]
    exact nI_le (by omega) (by omega)
  | d + 1, w, x, rg, e, P => by
    have hN := bf_N h2 h4
    have hs := X.1.1
    have ha : w / 8 < s := by omega
    have hle : ¬ (8 : Int32) * nI s ≤ nI w := by
      show ¬ nI 8 * nI s ≤ nI w
      rw [pk_mul]
      exact nI_ge (by omega) (by omega)
    have rdn : ¬ rd (w / 8) = 0 → rd (w / 8) = 1 := by
      intro z
      rcases Z (w / 8) ha with q | q
      · exact q.1
      · exact absurd q.1 z
    -- going on with the old flag
    have go : fp_P n k gs s cd R Q kd st rd (w + 1) rg0 rg x → ∀ r : Int32, r = 0 → ((x = 0 → ((r = 0 → (∀ y : Int32, y = nI w + 1 → wX_findPart_61 post J (nI kd) x2 x4 (d + 1) 0 y (nI n) (nI (n ^ n)) (nI k) (nI s) 1 ga nu co be la le ri lf pa rd rg qu)) ∧ (¬ r = 0 → (∀ y : Int32, y = nI w + 1 → wX_findPart_61 post J (nI kd) x2 x4 (d + 1) 1 y (nI n) (nI (n ^ n)) (nI k) (nI s) 1 ga nu co be la le ri lf pa rd rg qu)))) ∧ (¬ x = 0 → (∀ y : Int32, y = nI w + 1 → wX_findPart_61 post J (nI kd) x2 x4 (d + 1) 1 y (nI n) (nI (n ^ n)) (nI k) (nI s) 1 ga nu co be la le ri lf pa rd rg qu))) := by
      intro P' r hr
      have rcs := xw_fp61 (post := post) (x2 := x2) h2 h4 hk hkd X Z B0 hJ d (w + 1) x rg (by omega) P'
      rcases P.2.2 with z | z
      · rw [z.1] at rcs ⊢
        exact br_f (by decide) (nm_r (nI_1 w) rcs)
      · rw [z.1] at rcs ⊢
        exact br_t rfl (br_t hr (nm_r (nI_1 w) rcs))
    refine br_f hle (xw_leads h2 h4 hk hkd X (by omega) (fun y hy => ?_) (fun z => ?_) (fun a b c d' => ?_))
    · rcases P.1 y hy with q | q
      · exact Or.inl q
      · exact Or.inr q.1
    · refine go (fp_skip P (fun x0 h1 h2 h3 h4 => ?_)) 0 rfl
      rcases P.1 _ ha with q | q
      · exact absurd ⟨h1, h2, q, by rw [h3]; decide⟩ z
      · exact q.1
    · have tl := sp_tlt X hk ha b
      rcases P.1 _ tl with q | q
      · have er : upd rg (w / 8) (rg (sp_t R Q (w / 8) (w % 8))) = rg := by
          funext y
          by_cases z : y = w / 8
          · rw [z, pk_us, q, c]
          · rw [pk_un z]
        rw [er, q]
        exact go (fp_skip P (fun x0 h1 h2 h3 h4 => by rw [q] at h4; exact absurd h4 (by decide))) 0 rfl
      · rw [q.1]
        have rcs := xw_fp61 (post := post) (x2 := x2) h2 h4 hk hkd X Z B0 hJ d (w + 1) 1 _ (by omega) (fp_mark X hk B0 P (by omega) a b c (rdn d') q.1)
        exact br_c (fun _ => br_f (by decide) (nm_r (nI_1 w) rcs)) (fun _ => nm_r (nI_1 w) rcs)
theorem fp_done (X : bf_X n k gs s cd pf L R Q nu co be la le ri lf) (h2 : 2 ≤ n) (h4 : n ≤ 4) (hk : k ≤ 4) (hkd : kd ≤ 2) (hst : st < s) (Z : sp_Z n k gs s cd kd st rd) {rg : Nat → Int32} (h1 : rg st = 1) (hS : ∀ w, w < 8 * s → fp_S k R Q kd rd rg w) : ∀ j x, x < s → rd x = 1 → id_r n k gs kd j (cd x) (cd st) → rg x = 1
  | 0, x, hx, hr, h => by
    have : st = x := bf_inj h2 h4 X.1 hst hx h
    rw [← this]; exact h1
  | j + 1, x, hx, hr, h => by
    obtain ⟨b, hb, hp⟩ := id_fst j _ _ h
    obtain ⟨e, he, hu, ec⟩ := sp_se X hk hkd hx hb
    have tl := sp_tlt X hk hx he
    have hxI : id_I n k gs kd (cd st) (cd x) := by
      rcases Z x hx with q | q
      · exact q.2
      · rw [hr] at q; exact absurd q.1 (by decide)
    have rt : rd (sp_t R Q x e) = 1 := by
      rcases Z _ tl with q | q
      · exact q.1
      · exact absurd (id_st hxI (sp_es X hk hx he hu)) q.2
    rw [← ec] at hp
    have := fp_done X h2 h4 hk hkd hst Z h1 hS j _ tl rt hp
    have f := hS (8 * x + e) (by omega)
    unfold fp_S at f
    rw [show (8 * x + e) % 8 = e by omega, show (8 * x + e) / 8 = x by omega] at f
    exact f hu he hr this
/-- x and y make each other -/
def cl_E (n k : Nat) (gs : Nat → Nat) (kd a b : Nat) : Prop := id_I n k gs kd a b ∧ id_I n k gs kd b a
/-- the part of st is written -/
def fp_Z (n k : Nat) (gs : Nat → Nat) (s : Nat) (cd : Nat → Nat) (kd st a : Nat) (pa0 pa : Nat → Int32) : Prop := ∀ x, x < s → (x < a ∧ cl_E n k gs kd (cd st) (cd x) ∧ pa x = nI st) ∨ (¬ (x < a ∧ cl_E n k gs kd (cd st) (cd x)) ∧ pa x = pa0 x)
theorem xw_fp112 {post : SX → Prop} (h2 : 2 ≤ n) (h4 : n ≤ 4) (X : bf_X n k gs s cd pf L R Q nu co be la le ri lf) (Z : sp_Z n k gs s cd kd st rd) {rg pa0 : Nat → Int32} (B : fp_B n k gs s cd kd st rd rg) (hd : ∀ x, x < s → rd x = 1 → id_I n k gs kd (cd x) (cd st) → rg x = 1)
    (hp : ∀ pa, fp_Z n k gs s cd kd st s pa0 pa → post (nI n, nI (n ^ n), nI k, nI s, 1, ga, nu, co, be, la, le, ri, lf, pa, rd, rg, qu)) : ∀ d a pa, a + d = s → fp_Z n k gs s cd kd st a pa0 pa → wX_findPart_112 post (nI st) (nI n) (nI (n ^ n)) (nI k) (nI s) 1 (d + 1) (nI a) ga nu co be la le ri lf pa rd rg qu
  | 0, a, pa, e, H => by
    have hN := bf_N h2 h4
    have hs := X.1.1
    have e' : a = s := by omega
    rw [e'] at H
    exact br_t (nI_le (by omega) (by omega)) (hp pa H)
  | d + 1, a, pa, e, H => by
    have hN := bf_N h2 h4
    have hs := X.1.1
    have no : ¬ cl_E n k gs kd (cd st) (cd a) → fp_Z n k gs s cd kd st (a + 1) pa0 pa := by
      intro z x hx
      rcases H x hx with ⟨q1, q2, q3⟩ | ⟨q1, q2⟩
      · exact Or.inl ⟨by omega, q2, q3⟩
      · refine Or.inr ⟨fun y => ?_, q2⟩
        by_cases t : x = a
        · exact z (t ▸ y.2)
        · exact q1 ⟨by omega, y.2⟩
    refine br_f (nI_ge (by omega) (by omega)) ?_
    rw [nI_clamp (n := a) (by omega)]
    refine ⟨vp_in_nI (by omega) (by omega), ?_⟩
    rcases Z a (by omega) with ⟨z1, z2⟩ | ⟨z1, z2⟩
    · refine br_f (by rw [z1]; decide) ⟨vp_in_nI (by omega) (by omega), ?_⟩
      rcases B a (by omega) with y | ⟨y1, y2, y3⟩
      · refine br_t y (nm_r (nI_1 a) (xw_fp112 h2 h4 X Z B hd hp d (a + 1) pa (by omega) (no (fun t => ?_))))
        have := hd a (by omega) z1 t.2
        rw [y] at this
        exact absurd this (by decide)
      · refine br_f (by rw [y1]; decide) ⟨vp_in_nI (by omega) (by omega), nm_e (nm_r (nI_1 a) (xw_fp112 h2 h4 X Z B hd hp d (a + 1) _ (by omega) (fun x hx => ?_)))⟩
        by_cases t : x = a
        · rw [t, pk_us]
          exact Or.inl ⟨by omega, ⟨z2, y3⟩, rfl⟩
        · rw [pk_un t]
          rcases H x hx with ⟨q1, q2, q3⟩ | ⟨q1, q2⟩
          · exact Or.inl ⟨by omega, q2, q3⟩
          · exact Or.inr ⟨fun y => q1 ⟨by omega, y.2⟩, q2⟩
    · exact br_t z1 (nm_r (nI_1 a) (xw_fp112 h2 h4 X Z B hd hp d (a + 1) pa (by omega) (no (fun t => z2 t.1))))
theorem xw_fp44 {post : SX → Prop} (h2 : 2 ≤ n) (h4 : n ≤ 4) (hk : k ≤ 4) (hkd : kd ≤ 2) (hst : st < s) (X : bf_X n k gs s cd pf L R Q nu co be la le ri lf) (Z : sp_Z n k gs s cd kd st rd)
    (hp : ∀ rg pa', fp_Z n k gs s cd kd st s pa pa' → post (nI n, nI (n ^ n), nI k, nI s, 1, ga, nu, co, be, la, le, ri, lf, pa', rd, rg, qu)) : ∀ d r x rg, r + d = 256 → fp_B n k gs s cd kd st rd rg → rg st = 1 → ((x = 1 ∧ r + 1 ≤ cn (fun y => rg y = 1) s) ∨ (x = 0 ∧ ∀ w, w < 8 * s → fp_S k R Q kd rd rg w)) → wX_findPart_44 post (nI kd) (nI st) (d + 1) x (nI r) (nI n) (nI (n ^ n)) (nI k) (nI s) 1 ga nu co be la le ri lf pa rd rg qu := by
  have hN := bf_N h2 h4
  have hs := X.1.1
  have hend : ∀ rg, fp_B n k gs s cd kd st rd rg → rg st = 1 → (∀ w, w < 8 * s → fp_S k R Q kd rd rg w) → ∃ n112, wX_findPart_112 post (nI st) (nI n) (nI (n ^ n)) (nI k) (nI s) 1 n112 (nI 0) ga nu co be la le ri lf pa rd rg qu := by
    intro rg B h1 hS
    refine ⟨s + 1, xw_fp112 h2 h4 X Z B (fun x hx hr hI => ?_) (fun pa' H => hp rg pa' H) s 0 pa (by omega) (fun x hx => Or.inr ⟨fun y => by omega, rfl⟩)⟩
    obtain ⟨j, hj⟩ := hI
    exact fp_done X h2 h4 hk hkd hst Z h1 hS j x hx hr hj
  intro d
  induction d with
  | zero =>
    intro r x rg e B h1 h
    rcases h with ⟨_, z⟩ | ⟨_, z⟩
    · have := cn_le (fun y => rg y = 1) s
      omega
    · exact br_t (nI_le (a := 256) (by omega) (by omega)) (hend rg B h1 z)
  | succ d ih =>
    intro r x rg e B h1 h
    refine br_f (nI_ge (b := 256) (by omega) (by omega)) ?_
    rcases h with ⟨z, hc⟩ | ⟨z, hS⟩
    · rw [z]
      refine br_f (by decide) ⟨8 * s + 1, xw_fp61 h2 h4 hk hkd X Z B (fun x' rg' P => ?_) (8 * s) 0 0 rg (by omega) ⟨B, fun _ _ h => h, Or.inr ⟨rfl, rfl, fun w' hw => by omega⟩⟩⟩
      rw [nI_1]
      refine ih (r + 1) x' rg' (by omega) P.1 (P.2.1 st hst h1) ?_
      rcases P.2.2 with ⟨y1, y, hy, y2, y3⟩ | ⟨y1, y2, y3⟩
      · refine Or.inl ⟨y1, ?_⟩
        have a := cn_rm (B := fun y => rg' y = 1) y2 s hy
        have b : cn (fun y => rg y = 1) s ≤ cn (fun z => rg' z = 1 ∧ z ≠ y) s := cn_sub (fun z hz hr => ⟨P.2.1 z hz hr, fun t => by rw [t, y3] at hr; exact absurd hr (by decide)⟩)
        omega
      · rw [y2]
        exact Or.inr ⟨y1, y3⟩
    · exact br_t z (hend rg B h1 hS)
theorem xw_fp9 {post : SX → Prop} (h2 : 2 ≤ n) (h4 : n ≤ 4) (hk : k ≤ 4) (hkd : kd ≤ 2) (hst : st < s) (X : bf_X n k gs s cd pf L R Q nu co be la le ri lf) (Z : sp_Z n k gs s cd kd st rd)
    (hp : ∀ rg pa', fp_Z n k gs s cd kd st s pa pa' → post (nI n, nI (n ^ n), nI k, nI s, 1, ga, nu, co, be, la, le, ri, lf, pa', rd, rg, qu)) : ∀ d a rg, a + d = s → (∀ x, x < a → (x = st → rg x = 1) ∧ (x ≠ st → rg x = 0)) → wX_findPart_9 post (nI kd) (nI st) (nI n) (nI (n ^ n)) (nI k) (nI s) 1 (d + 1) (nI a) ga nu co be la le ri lf pa rd rg qu
  | 0, a, rg, e, h => by
    have hN := bf_N h2 h4
    have hs := X.1.1
    refine br_t (nI_le (by omega) (by omega)) ⟨257, xw_fp44 h2 h4 hk hkd hst X Z hp 256 0 1 rg (by omega) (fun x hx => ?_) ((h st (by omega)).1 rfl) (Or.inl ⟨rfl, ?_⟩)⟩
    · by_cases z : x = st
      · refine Or.inr ⟨(h x (by omega)).1 z, ?_, by rw [z]; exact id_0 _⟩
        rw [z]
        rcases Z st hst with q | q
        · exact q.1
        · exact absurd (id_0 _) q.2
      · exact Or.inl ((h x (by omega)).2 z)
    · exact cn_pos' (P := fun y => rg y = 1) hst ((h st (by omega)).1 rfl)
  | d + 1, a, rg, e, h => by
    have hN := bf_N h2 h4
    have hs := X.1.1
    refine br_f (nI_ge (by omega) (by omega)) ?_
    rw [nI_clamp (n := a) (by omega)]
    refine br_c (fun z => ⟨vp_in_nI (by omega) (by omega), nm_r (e' := upd rg a 1) rfl (nm_r (nI_1 a) (xw_fp9 h2 h4 hk hkd hst X Z hp d (a + 1) _ (by omega) (fun x hx => ?_)))⟩) (fun z => ⟨vp_in_nI (by omega) (by omega), nm_r (e' := upd rg a 0) rfl (nm_r (nI_1 a) (xw_fp9 h2 h4 hk hkd hst X Z hp d (a + 1) _ (by omega) (fun x hx => ?_)))⟩)
    · have z' : a = st := (nI_eq (by omega) (by omega)).mp z
      by_cases y : x = a
      · rw [y, pk_us]; exact ⟨fun _ => rfl, fun t => absurd z' t⟩
      · rw [pk_un y]; exact h x (by omega)
    · have z' : a ≠ st := fun t => z (congrArg nI t)
      by_cases y : x = a
      · rw [y, pk_us]; exact ⟨fun t => absurd t z', fun _ => rfl⟩
      · rw [pk_un y]; exact h x (by omega)
theorem xw_findPart {post : SX → Prop} (h2 : 2 ≤ n) (h4 : n ≤ 4) (hk : k ≤ 4) (hkd : kd ≤ 2) (hst : st < s) (X : bf_X n k gs s cd pf L R Q nu co be la le ri lf) {rg : Nat → Int32}
    (hp : ∀ rd rg qu pa', fp_Z n k gs s cd kd st s pa pa' → post (nI n, nI (n ^ n), nI k, nI s, 1, ga, nu, co, be, la, le, ri, lf, pa', rd, rg, qu)) : wpX_findPart post (nI n, nI (n ^ n), nI k, nI s, 1, ga, nu, co, be, la, le, ri, lf, pa, rd, rg, qu) (nI kd) (nI st) := by
  unfold wpX_findPart
  dsimp only
  exact xw_spread h2 h4 hk hkd hst X (fun rd qu Z => ⟨s + 1, xw_fp9 h2 h4 hk hkd hst X Z (fun rg pa' H => hp rd rg qu pa' H) s 0 rg (by omega) (fun x hx => by omega)⟩)
end
end
section
/-! X: classes; the number of classes doesn't hang on the order -/
section
variable {n k s : Nat} {gs cd pf L R Q : Nat → Nat} {ga nu co be la le ri lf pa rd rg qu : Nat → Int32} {kd : Nat}
theorem cl_0 (a : Nat) : cl_E n k gs kd a a := ⟨id_0 a, id_0 a⟩
theorem cl_sy {a b : Nat} (h : cl_E n k gs kd a b) : cl_E n k gs kd b a := ⟨h.2, h.1⟩
theorem cl_tr {a b c : Nat} (h : cl_E n k gs kd a b) (h' : cl_E n k gs kd b c) : cl_E n k gs kd a c := ⟨id_tr h.1 h'.1, id_tr h'.2 h.2⟩
def cl_P (n k : Nat) (gs : Nat → Nat) (s : Nat) (cd : Nat → Nat) (kd a : Nat) (pa : Nat → Int32) : Prop := ∀ x, x < s → (pa x = -1 ∧ ∀ y, y < a → ¬ cl_E n k gs kd (cd y) (cd x)) ∨ (pa x ≠ -1 ∧ ∃ y, y < a ∧ cl_E n k gs kd (cd y) (cd x))
theorem xw_cl42 {post : Int32 → SX → Prop} (h2 : 2 ≤ n) (h4 : n ≤ 4) (hk : k ≤ 4) (hkd : kd ≤ 2) (X : bf_X n k gs s cd pf L R Q nu co be la le ri lf)
    (hp : ∀ pa rd rg qu, post (nI (cn (fun x => ∀ y, y < x → ¬ cl_E n k gs kd (cd y) (cd x)) s)) (nI n, nI (n ^ n), nI k, nI s, 1, ga, nu, co, be, la, le, ri, lf, pa, rd, rg, qu)) : ∀ d a pa rd rg qu, a + d = s → cl_P n k gs s cd kd a pa → wX_classes_42 post (nI kd) (d + 1) (nI (cn (fun x => ∀ y, y < x → ¬ cl_E n k gs kd (cd y) (cd x)) a)) (nI a) (nI n) (nI (n ^ n)) (nI k) (nI s) 1 ga nu co be la le ri lf pa rd rg qu
  | 0, a, pa, rd, rg, qu, e, H => by
    have hN := bf_N h2 h4
    have hs := X.1.1
    have e' : a = s := by omega
    rw [e']
    exact br_t (nI_le (by omega) (by omega)) (hp pa rd rg qu)
  | d + 1, a, pa, rd, rg, qu, e, H => by
    have hN := bf_N h2 h4
    have hs := X.1.1
    refine br_f (nI_ge (by omega) (by omega)) ?_
    rw [nI_clamp (n := a) (by omega)]
    refine ⟨vp_in_nI (by omega) (by omega), ?_⟩
    rcases H a (by omega) with ⟨z1, z2⟩ | ⟨z1, y, hy, z2⟩
    · refine br_t z1 (xw_findPart h2 h4 hk hkd (by omega) X (fun rd rg qu pa' F => nm_r (nI_1 _) (nm_r (nI_1 a) ?_)))
      rw [← cn_s1 (P := fun x => ∀ y, y < x → ¬ cl_E n k gs kd (cd y) (cd x)) z2]
      refine xw_cl42 h2 h4 hk hkd X hp d (a + 1) pa' rd rg qu (by omega) (fun x hx => ?_)
      rcases F x hx with ⟨_, f2, f3⟩ | ⟨f1, f2⟩
      · exact Or.inr ⟨by rw [f3]; exact bf_m1 (by omega), a, by omega, f2⟩
      · rw [f2]
        rcases H x hx with ⟨q1, q2⟩ | ⟨q1, y, hy, q2⟩
        · refine Or.inl ⟨q1, fun y hy => ?_⟩
          by_cases t : y = a
          · rw [t]; exact fun u => f1 ⟨hx, u⟩
          · exact q2 y (by omega)
        · exact Or.inr ⟨q1, y, by omega, q2⟩
    · refine br_f z1 (nm_r (nI_1 a) ?_)
      rw [← cn_s0 (P := fun x => ∀ y, y < x → ¬ cl_E n k gs kd (cd y) (cd x)) (fun t => t y hy z2)]
      refine xw_cl42 h2 h4 hk hkd X hp d (a + 1) pa rd rg qu (by omega) (fun x hx => ?_)
      rcases H x hx with ⟨q1, q2⟩ | ⟨q1, y', hy', q2⟩
      · refine Or.inl ⟨q1, fun y' hy' => ?_⟩
        by_cases t : y' = a
        · rw [t]; exact fun u => q2 y hy (cl_tr z2 u)
        · exact q2 y' (by omega)
      · exact Or.inr ⟨q1, y', by omega, q2⟩
theorem xw_cl17 {post : Int32 → SX → Prop} (h2 : 2 ≤ n) (h4 : n ≤ 4) (hk : k ≤ 4) (hkd : kd ≤ 2) (X : bf_X n k gs s cd pf L R Q nu co be la le ri lf)
    (hp : ∀ pa rd rg qu, post (nI (cn (fun x => ∀ y, y < x → ¬ cl_E n k gs kd (cd y) (cd x)) s)) (nI n, nI (n ^ n), nI k, nI s, 1, ga, nu, co, be, la, le, ri, lf, pa, rd, rg, qu)) : ∀ d a pa, a + d = s → (∀ x, x < a → pa x = -1) → wX_classes_17 post (nI kd) (nI n) (nI (n ^ n)) (nI k) (nI s) 1 (d + 1) (nI a) ga nu co be la le ri lf pa rd rg qu
  | 0, a, pa, e, H => by
    have hN := bf_N h2 h4
    have hs := X.1.1
    exact br_t (nI_le (by omega) (by omega)) ⟨s + 1, xw_cl42 h2 h4 hk hkd X hp s 0 pa rd rg qu (by omega) (fun x hx => Or.inl ⟨H x (by omega), fun y hy => by omega⟩)⟩
  | d + 1, a, pa, e, H => by
    have hN := bf_N h2 h4
    have hs := X.1.1
    refine br_f (nI_ge (by omega) (by omega)) ⟨vp_in_nI (by omega) (by omega), nm_r (e' := upd pa a (-1)) (by rw [nI_clamp (by omega)]) (nm_r (nI_1 a) ?_)⟩
    refine xw_cl17 h2 h4 hk hkd X hp d (a + 1) _ (by omega) (fun x hx => ?_)
    by_cases z : x = a
    · rw [z, pk_us]
    · rw [pk_un z]; exact H x (by omega)
/-- both ways of counting count the classes -/
theorem cl_eq (X : bf_X n k gs s cd pf L R Q nu co be la le ri lf) (hk : k ≤ 4) (h2 : 2 ≤ n) (h4 : n ≤ 4) : cn (fun x => ∀ y, y < x → ¬ cl_E n k gs kd (cd y) (cd x)) s = cn (fun c => mo_M n k gs c ∧ ∀ b, b < c → mo_M n k gs b → ¬ cl_E n k gs kd c b) (n ^ n) := by
  apply Nat.le_antisymm
  · refine cn_inj (R := fun i c => cl_E n k gs kd (cd i) c) s _ (fun i hi A => ?_) (fun i i' c hi hi' A A' r r' => ?_)
    · obtain ⟨c, ⟨c1, c2⟩, cm⟩ := pk_least (fun c => mo_M n k gs c ∧ cl_E n k gs kd (cd i) c) ⟨cd i, (bf_M X hk).mpr ⟨i, hi, rfl⟩, cl_0 _⟩
      exact ⟨c, mo_M_lt (by omega) c1, ⟨c1, fun b hb hM he => cm b hb ⟨hM, cl_tr c2 he⟩⟩, c2⟩
    · rcases (by omega : i = i' ∨ i < i' ∨ i' < i) with z | z | z
      · exact z
      · exact absurd (cl_tr r (cl_sy r')) (A' i z)
      · exact absurd (cl_tr r' (cl_sy r)) (A i' z)
  · refine cn_inj (R := fun c i => cl_E n k gs kd (cd i) c) (n ^ n) _ (fun c hc B => ?_) (fun c c' i hc hc' B B' r r' => ?_)
    · obtain ⟨i, hi, ei⟩ := (bf_M X hk).mp B.1
      obtain ⟨j, ⟨j1, j2⟩, jm⟩ := pk_least (fun j => j < s ∧ cl_E n k gs kd (cd j) c) ⟨i, hi, by rw [ei]; exact cl_0 _⟩
      exact ⟨j, j1, fun y hy he => jm y hy ⟨by omega, cl_tr he j2⟩, j2⟩
    · have e := cl_tr (cl_sy r) r'
      rcases (by omega : c = c' ∨ c < c' ∨ c' < c) with z | z | z
      · exact z
      · exact absurd (cl_sy e) (B'.2 c z B.1)
      · exact absurd e (B.2 c' z B'.1)
end
end
section
/-! Y: sets of codes in longs -/
def ys_b (se : Nat → Int64) (a c : Nat) : Prop := (se (4 * a + c / 64)).toBitVec.getLsbD (c % 64) = true
theorem ys_sh (w : Int64) {j : Nat} (hj : j < 64) : ((w >>> ((nI j).toInt64 &&& 63)) &&& 1) = 1 ↔ w.toBitVec.getLsbD j = true := by
  rw [← Int64.toBitVec_inj, Int64.toBitVec_and, Int64.toBitVec_shiftRight, wb_c j hj, wb_tb]
  show (w.toBitVec.sshiftRight ((BitVec.ofNat 64 j).smod 64).toNat) &&& 1#64 = 1#64 ↔ _
  rw [wb_sm j hj, BitVec.toNat_ofNat, Nat.mod_eq_of_lt (show j < 2 ^ 64 by omega)]
  have b0 : (w.toBitVec.sshiftRight j).getLsbD 0 = w.toBitVec.getLsbD j := by
    rw [BitVec.getLsbD_sshiftRight]
    simp [hj]
  constructor
  · intro h
    have t := congrArg (fun x => x.getLsbD 0) h
    simp only [BitVec.getLsbD_and, b0] at t
    simpa using t
  · intro h
    apply BitVec.eq_of_getLsbD_eq
    intro i hi
    rw [BitVec.getLsbD_and]
    cases i with
    | zero => rw [b0, h]; decide
    | succ i => simp
theorem ys_tp : ∀ j, j < 64 → ((1 : Int64) <<< ((nI j).toInt64 &&& 63)).toBitVec = BitVec.twoPow 64 j := by decide +kernel
theorem ys_or (w : Int64) {j i : Nat} (hj : j < 64) (hi : i < 64) : (w ||| ((1 : Int64) <<< ((nI j).toInt64 &&& 63))).toBitVec.getLsbD i = true ↔ (w.toBitVec.getLsbD i = true ∨ i = j) := by
  rw [Int64.toBitVec_or, ys_tp j hj, BitVec.getLsbD_or, BitVec.getLsbD_twoPow]
  by_cases e : j = i
  · subst e; simp [hj]
  · have e' : ¬ i = j := fun z => e z.symm
    simp [e, e']
theorem ys_ix (a c : Nat) : (4 : Int32) * nI a + nI (c / 64) = nI (4 * a + c / 64) := bf_ix a (c / 64)
section
variable {gn gd gc : Int32} {gg th ln ne : Nat → Int32} {wo se : Nat → Int64}
theorem yw_in {post : Int32 → Prop} {a c : Nat} (ha : a < 256) (hc : c < 256) (h1 : ys_b se a c → post 1) (h0 : ¬ ys_b se a c → post 0) : wpY_in post (gn, gd, gc, gg, th, ln, wo, ne, se) (nI a) (nI c) := by
  have e4 : nI c / 64 = nI (c / 64) := pk_div (d := 64) (by omega) (by decide) (by decide)
  have m4 : nI c - nI c / 64 * 64 = nI (c % 64) := pk_rem (d := 64) (by omega) (by decide) (by decide)
  unfold wpY_in
  dsimp only
  rw [m4, e4, ys_ix, nI_clamp (n := 4 * a + c / 64) (by omega), ys_sh _ (show c % 64 < 64 by omega)]
  exact ⟨by decide, vp_in_nI (by omega) (by omega), by decide, br_c h1 h0⟩
/-- c is put into the set of a -/
def ys_P (se se' : Nat → Int64) (a c : Nat) : Prop := (∀ x, (x < 4 * a ∨ 4 * a + 4 ≤ x) → se' x = se x) ∧ ∀ c', c' < 256 → (ys_b se' a c' ↔ (ys_b se a c' ∨ c' = c))
theorem ys_put {a c : Nat} (hc : c < 256) : ys_P se (vp_updL se (4 * a + c / 64) (se (4 * a + c / 64) ||| ((1 : Int64) <<< ((nI (c % 64)).toInt64 &&& 63)))) a c := by
  refine ⟨fun x hx => pk_uLn (by omega), fun c' hc' => ?_⟩
  unfold ys_b
  by_cases z : 4 * a + c' / 64 = 4 * a + c / 64
  · rw [z, pk_uLs, ys_or _ (by omega) (by omega)]
    constructor
    · intro h
      rcases h with h | h
      · exact Or.inl h
      · exact Or.inr (by omega)
    · intro h
      rcases h with h | h
      · exact Or.inl h
      · exact Or.inr (by omega)
  · rw [pk_uLn z]
    constructor
    · exact Or.inl
    · intro h
      rcases h with h | h
      · exact h
      · rw [h] at z; exact absurd rfl z
theorem yw_put {post : Int32 → SY → Prop} {a c : Nat} (ha : a < 256) (hc : c < 256) (h0 : ys_b se a c → post 0 (gn, gd, gc, gg, th, ln, wo, ne, se)) (h1 : ∀ se', ¬ ys_b se a c → ys_P se se' a c → post 1 (gn, gd, gc, gg, th, ln, wo, ne, se')) : wpY_put post (gn, gd, gc, gg, th, ln, wo, ne, se) (nI a) (nI c) := by
  have e4 : nI c / 64 = nI (c / 64) := pk_div (d := 64) (by omega) (by decide) (by decide)
  have m4 : nI c - nI c / 64 * 64 = nI (c % 64) := pk_rem (d := 64) (by omega) (by decide) (by decide)
  unfold wpY_put
  dsimp only
  refine yw_in ha hc (fun h => br_f (by decide) (h0 h)) (fun h => br_t rfl ?_)
  rw [m4, e4, ys_ix, nI_clamp (n := 4 * a + c / 64) (by omega)]
  exact ⟨by decide, vp_in_nI (by omega) (by omega), by decide, vp_in_nI (by omega) (by omega), nm_e (h1 _ h (ys_put hc))⟩
end
end
section
/-! Y: widen and fill -/
/-- the set of a holds a, and only what comes of it -/
def yf_B (n k : Nat) (gs : Nat → Nat) (kd a : Nat) (se : Nat → Int64) : Prop := ys_b se a a ∧ ∀ c, c < 256 → ys_b se a c → id_I n k gs kd a c
/-- other sets as they were -/
def yf_O (a : Nat) (se0 se : Nat → Int64) : Prop := ∀ x, (x < 4 * a ∨ 4 * a + 4 ≤ x) → se x = se0 x
def yf_C (n : Nat) (gs : Nat → Nat) (kd a : Nat) (se : Nat → Int64) (c g : Nat) : Prop := (kd ≠ 1 → ys_b se a (mo_m n c (gs g))) ∧ (kd ≠ 0 → ys_b se a (mo_m n (gs g) c))
def yf_P (n k : Nat) (gs : Nat → Nat) (kd a q : Nat) (se0 se : Nat → Int64) (x : Int32) : Prop :=
  yf_B n k gs kd a se ∧ yf_O a se0 se ∧ (∀ c, c < 256 → ys_b se0 a c → ys_b se a c) ∧ ((x = 1 ∧ ∃ c, c < n ^ n ∧ ys_b se a c ∧ ¬ ys_b se0 a c) ∨ (x = 0 ∧ se = se0 ∧ ∀ c g, 4 * c + g < q → g < k → c < n ^ n → ys_b se0 a c → yf_C n gs kd a se0 c g))
section
variable {n k : Nat} {gs : Nat → Nat} {kd a q : Nat} {se0 se : Nat → Int64} {x : Int32}
theorem yf_adv (P : yf_P n k gs kd a q se0 se x) {c g : Nat} (hk : k ≤ 4) (hq : q = 4 * c + g) (hg : g < 4) (h : ys_b se a c → yf_C n gs kd a se c g) : yf_P n k gs kd a (q + 1) se0 se x := by
  refine ⟨P.1, P.2.1, P.2.2.1, ?_⟩
  rcases P.2.2.2 with z | ⟨z1, z2, z3⟩
  · exact Or.inl z
  · refine Or.inr ⟨z1, z2, fun c' g' hl hg' hc' hb => ?_⟩
    by_cases y : 4 * c' + g' < q
    · exact z3 c' g' y hg' hc' hb
    · have e1 : c' = c := by omega
      have e2 : g' = g := by omega
      subst e1 e2
      rw [← z2] at hb ⊢
      exact h hb
theorem yf_jump (P : yf_P n k gs kd a q se0 se x) {c q' : Nat} (hk : k ≤ 4) (hq : 4 * c ≤ q) (hq' : q ≤ q') (hq2 : q' ≤ 4 * c + 4) (h : (∀ g, q ≤ 4 * c + g → k ≤ g) ∨ ¬ ys_b se a c) : yf_P n k gs kd a q' se0 se x := by
  refine ⟨P.1, P.2.1, P.2.2.1, ?_⟩
  rcases P.2.2.2 with z | ⟨z1, z2, z3⟩
  · exact Or.inl z
  · refine Or.inr ⟨z1, z2, fun c' g' hl hg' hc' hb => ?_⟩
    by_cases y : 4 * c' + g' < q
    · exact z3 c' g' y hg' hc' hb
    · have e1 : c' = c := by omega
      subst e1
      rcases h with h | h
      · have := h g' (by omega)
        omega
      · rw [z2] at h; exact absurd hb h
theorem yf_put (hN : n ^ n ≤ 256) (P : yf_P n k gs kd a q se0 se x) {d : Nat} {se' : Nat → Int64} (hd : d < n ^ n) (ha : a < 256) (hI : id_I n k gs kd a d) (hn : ¬ ys_b se a d) (S : ys_P se se' a d) : yf_P n k gs kd a q se0 se' 1 ∧ ys_b se' a d ∧ ∀ c, c < 256 → ys_b se a c → ys_b se' a c := by
  have up : ∀ c, c < 256 → ys_b se a c → ys_b se' a c := fun c hc h => (S.2 c hc).mpr (Or.inl h)
  have hin : ys_b se' a d := (S.2 d (by omega)).mpr (Or.inr rfl)
  refine ⟨⟨⟨up a ha P.1.1, fun c hc h => ?_⟩, fun y hy => ?_, fun c hc h => up c hc (P.2.2.1 c hc h), Or.inl ⟨rfl, d, hd, hin, fun h => hn (P.2.2.1 d (by omega) h)⟩⟩, hin, up⟩
  · rcases (S.2 c hc).mp h with z | z
    · exact P.1.2 c hc z
    · rw [z]; exact hI
  · rw [S.1 y hy]; exact P.2.1 y hy
end
section
variable {n k : Nat} {gs : Nat → Nat} {kd a : Nat} {se0 : Nat → Int64} {ga th ln ne : Nat → Int32} {wo : Nat → Int64}
theorem yw_w103 {post : Int32 → SY → Prop} (h2 : 2 ≤ n) (h4 : n ≤ 4) (hk : k ≤ 4) (hkd : kd ≤ 2) (ha : a < n ^ n) {c g : Nat} (hg : g < k) (hc : c < n ^ n) {J5 J25 : Int32 → Int32 → Int32 → Int32 → Int32 → (Nat → Int32) → (Nat → Int32) → (Nat → Int32) → (Nat → Int64) → (Nat → Int32) → (Nat → Int64) → Prop} {se : Nat → Int64} {x : Int32}
    (hJ : ∀ x se, yf_P n k gs kd a (4 * c + g + 1) se0 se x → J25 x (nI (g + 1)) (nI n) (nI (n ^ n)) (nI k) ga th ln wo ne se) (P : yf_P n k gs kd a (4 * c + g) se0 se x) (hin : ys_b se a c) (hr : kd ≠ 1 → ys_b se a (mo_m n c (gs g))) : wY_widen_103 post J5 J25 (nI a) (nI kd) x (nI c) (nI g) (nI (mo_m n (gs g) c)) (nI n) (nI (n ^ n)) (nI k) ga th ln wo ne se := by
  have hN := bf_N h2 h4
  have hm : mo_m n (gs g) c < n ^ n := mo_m_lt (by omega) _ _
  have hm' : mo_m n c (gs g) < n ^ n := mo_m_lt (by omega) _ _
  refine br_c (fun z => nm_r (nI_1 g) (hJ x se (yf_adv P hk rfl (by omega) (fun _ => ⟨hr, fun y => ?_⟩)))) (fun z => ?_)
  · have : kd = 0 := (nI_eq (b := 0) (by omega) (by omega)).mp z
    exact absurd this y
  · have z' : kd ≠ 0 := fun y => z (by rw [y]; rfl)
    have hI : id_I n k gs kd a (mo_m n (gs g) c) := id_st (P.1.2 c (by omega) hin) (Or.inr ⟨z', g, hg, rfl⟩)
    refine yw_put (by omega) (by omega) (fun h => ?_) (fun se' hn S => ?_)
    · exact br_t rfl (nm_r (nI_1 g) (hJ x se (yf_adv P hk rfl (by omega) (fun _ => ⟨hr, fun _ => h⟩))))
    · obtain ⟨P', hin', up⟩ := yf_put hN P hm (by omega) hI hn S
      exact br_f (by decide) (nm_r (nI_1 g) (hJ 1 se' (yf_adv P' hk rfl (by omega) (fun _ => ⟨fun y => up _ (by omega) (hr y), fun _ => hin'⟩))))
theorem yw_w25 {post : Int32 → SY → Prop} (h2 : 2 ≤ n) (h4 : n ≤ 4) (hk : k ≤ 4) (hkd : kd ≤ 2) (ha : a < n ^ n) (hx : yg_N n k gs ne) {c : Nat} (hc : c < n ^ n) {J : Int32 → Int32 → Int32 → Int32 → Int32 → (Nat → Int32) → (Nat → Int32) → (Nat → Int32) → (Nat → Int64) → (Nat → Int32) → (Nat → Int64) → Prop}
    (hJ : ∀ x se, yf_P n k gs kd a (4 * (c + 1)) se0 se x → J x (nI (c + 1)) (nI n) (nI (n ^ n)) (nI k) ga th ln wo ne se) : ∀ d g x se, g + d = k → yf_P n k gs kd a (4 * c + g) se0 se x → wY_widen_25 post J (nI a) (nI kd) (nI c) (d + 1) x (nI g) (nI n) (nI (n ^ n)) (nI k) ga th ln wo ne se
  | 0, g, x, se, e, P =>
    br_t (nI_le (by omega) (by omega)) (nm_r (nI_1 c) (hJ x se (yf_jump (c := c) P hk (by omega) (by omega) (by omega) (Or.inl (fun g' h => by omega)))))
  | d + 1, g, x, se, e, P => by
    have hN := bf_N h2 h4
    have hm : mo_m n c (gs g) < n ^ n := mo_m_lt (by omega) _ _
    refine br_f (nI_ge (by omega) (by omega)) (br_f (nI_ge (b := 4) (by omega) (by omega)) (yw_in (by omega) (by omega) (fun hin => ?_) (fun hin => ?_)))
    · refine br_f (by decide) ⟨by rw [yg_ix]; exact vp_in_nI (by omega) (by omega), nm_r (e' := nI (mo_m n c (gs g))) (by rw [yg_ix, nI_clamp (by omega)]; exact (hx g (by omega) c hc).1) ⟨by rw [yl_ix]; exact vp_in_nI (by omega) (by omega), nm_r (e' := nI (mo_m n (gs g) c)) (by rw [yl_ix, nI_clamp (by omega)]; exact (hx g (by omega) c hc).2) ?_⟩⟩
      have hrec : ∀ x se, yf_P n k gs kd a (4 * c + g + 1) se0 se x → wY_widen_25 post J (nI a) (nI kd) (nI c) (d + 1) x (nI (g + 1)) (nI n) (nI (n ^ n)) (nI k) ga th ln wo ne se := fun x se P => yw_w25 h2 h4 hk hkd ha hx hc hJ d (g + 1) x se (by omega) P
      refine br_c (fun z => ?_) (fun z => ?_)
      · have z' : kd = 1 := (nI_eq (b := 1) (by omega) (by omega)).mp z
        exact yw_w103 h2 h4 hk hkd ha (by omega) hc hrec P hin (fun y => absurd z' y)
      · have z' : kd ≠ 1 := fun y => z (by rw [y]; rfl)
        have hI : id_I n k gs kd a (mo_m n c (gs g)) := id_st (P.1.2 c (by omega) hin) (Or.inl ⟨z', g, by omega, rfl⟩)
        refine yw_put (by omega) (by omega) (fun h => ?_) (fun se' hn S => ?_)
        · exact br_t rfl (yw_w103 h2 h4 hk hkd ha (by omega) hc hrec P hin (fun _ => h))
        · obtain ⟨P', hin', up⟩ := yf_put hN P hm (by omega) hI hn S
          exact br_f (by decide) (yw_w103 h2 h4 hk hkd ha (by omega) hc hrec P' (up c (by omega) hin) (fun _ => hin'))
    · exact br_t rfl (nm_r (nI_1 c) (hJ x se (yf_jump (c := c) P hk (by omega) (by omega) (by omega) (Or.inr hin))))
theorem yw_w5 {post : Int32 → SY → Prop} (h2 : 2 ≤ n) (h4 : n ≤ 4) (hk : k ≤ 4) (hkd : kd ≤ 2) (ha : a < n ^ n) (hx : yg_N n k gs ne)
    (hp : ∀ x se, yf_P n k gs kd a (4 * n ^ n) se0 se x → post x (nI n, nI (n ^ n), nI k, ga, th, ln, wo, ne, se)) : ∀ d c x se, c + d = n ^ n → yf_P n k gs kd a (4 * c) se0 se x → wY_widen_5 post (nI a) (nI kd) (d + 1) x (nI c) (nI n) (nI (n ^ n)) (nI k) ga th ln wo ne se
  | 0, c, x, se, e, P => by
    have hN := bf_N h2 h4
    have e' : c = n ^ n := by omega
    have hb : narrow .boolean (.int x) = .int x := by
      rcases P.2.2.2 with z | z
      · rw [z.1]; rfl
      · rw [z.1]; rfl
    rw [e'] at P
    exact br_t (nI_le (by omega) (by omega)) ⟨hb, hp x se P⟩
  | d + 1, c, x, se, e, P => by
    have hN := bf_N h2 h4
    exact br_f (nI_ge (by omega) (by omega)) (br_f (nI_ge (b := 256) (by omega) (by omega)) ⟨k + 1, yw_w25 h2 h4 hk hkd ha hx (by omega) (fun x se P => yw_w5 h2 h4 hk hkd ha hx hp d (c + 1) x se (by omega) P) k 0 x se (by omega) P⟩)
/-- what fill leaves -/
def yf_Z (n k : Nat) (gs : Nat → Nat) (kd a : Nat) (se0 se : Nat → Int64) : Prop := yf_O a se0 se ∧ ∀ c, c < 256 → (ys_b se a c ↔ id_I n k gs kd a c)
theorem yf_done {se : Nat → Int64} (h2 : 2 ≤ n) (h4 : n ≤ 4) (ha : a < n ^ n) (B : yf_B n k gs kd a se) (O : yf_O a se0 se) (h : ∀ c, c < n ^ n → ys_b se a c → ∀ g, g < k → yf_C n gs kd a se c g) : yf_Z n k gs kd a se0 se := by
  refine ⟨O, fun c hc => ⟨B.2 c hc, fun hI => ?_⟩⟩
  refine id_ind (P := fun c => ys_b se a c) B.1 (fun b c hb hP hs => ?_) c hI
  have hbl := id_lt (show 0 < n by omega) ha hb
  rcases hs with ⟨z, g, hg, e⟩ | ⟨z, g, hg, e⟩
  · rw [e]; exact (h b hbl hP g hg).1 z
  · rw [e]; exact (h b hbl hP g hg).2 z
theorem yw_f36 {post : SY → Prop} (h2 : 2 ≤ n) (h4 : n ≤ 4) (hk : k ≤ 4) (hkd : kd ≤ 2) (ha : a < n ^ n) (hx : yg_N n k gs ne)
    (hp : ∀ se, yf_Z n k gs kd a se0 se → post (nI n, nI (n ^ n), nI k, ga, th, ln, wo, ne, se)) : ∀ d r x se, r + d = 300 → yf_B n k gs kd a se → yf_O a se0 se → ((x = 1 ∧ r + 1 ≤ cn (fun c => ys_b se a c) (n ^ n)) ∨ (x = 0 ∧ yf_Z n k gs kd a se0 se)) → wY_fill_36 post (nI a) (nI kd) (d + 1) x (nI r) (nI n) (nI (n ^ n)) (nI k) ga th ln wo ne se
  | 0, r, x, se, e, B, O, h => by
    have hN := bf_N h2 h4
    rcases h with ⟨_, z⟩ | ⟨_, z⟩
    · have := cn_le (fun c => ys_b se a c) (n ^ n)
      omega
    · exact br_t (nI_le (a := 300) (by omega) (by omega)) (hp se z)
  | d + 1, r, x, se, e, B, O, h => by
    have hN := bf_N h2 h4
    refine br_f (nI_ge (b := 300) (by omega) (by omega)) ?_
    rcases h with ⟨z, hc⟩ | ⟨z, hZ⟩
    · rw [z]
      refine br_f (by decide) ⟨n ^ n + 1, yw_w5 (se0 := se) h2 h4 hk hkd ha hx (fun x' se' P => nm_r (nI_1 r) ?_) (n ^ n) 0 0 se (by omega) ⟨B, fun _ _ => rfl, fun _ _ h => h, Or.inr ⟨rfl, rfl, fun c g hl => by omega⟩⟩⟩
      have O' : yf_O a se0 se' := fun y hy => (P.2.1 y hy).trans (O y hy)
      refine yw_f36 h2 h4 hk hkd ha hx hp d (r + 1) x' se' (by omega) P.1 O' ?_
      rcases P.2.2.2 with ⟨y1, c, hcl, y2, y3⟩ | ⟨y1, y2, y3⟩
      · refine Or.inl ⟨y1, ?_⟩
        have a1 := cn_rm (B := fun c => ys_b se' a c) y2 (n ^ n) hcl
        have b1 : cn (fun c => ys_b se a c) (n ^ n) ≤ cn (fun z => ys_b se' a z ∧ z ≠ c) (n ^ n) := cn_sub (fun z hz hr => ⟨P.2.2.1 z (by omega) hr, fun t => y3 (t ▸ hr)⟩)
        omega
      · rw [y2] at O' ⊢
        exact Or.inr ⟨y1, yf_done h2 h4 ha B O' (fun c hcl hb g hg => y3 c g (by omega) hg hcl hb)⟩
    · exact br_t z (hp se hZ)
theorem yw_f2 {post : SY → Prop} (h2 : 2 ≤ n) (h4 : n ≤ 4) (hk : k ≤ 4) (hkd : kd ≤ 2) (ha : a < n ^ n) (hx : yg_N n k gs ne)
    (hp : ∀ se, yf_Z n k gs kd a se0 se → post (nI n, nI (n ^ n), nI k, ga, th, ln, wo, ne, se)) : ∀ d w se, w + d = 4 → yf_O a se0 se → (∀ j, j < w → se (4 * a + j) = 0) → wY_fill_2 post (nI a) (nI kd) (nI n) (nI (n ^ n)) (nI k) (d + 1) (nI w) ga th ln wo ne se
  | 0, w, se, e, O, h => by
    have hN := bf_N h2 h4
    have h0 : ∀ c, c < 256 → ¬ ys_b se a c := by
      intro c hc hb
      unfold ys_b at hb
      rw [h (c / 64) (by omega)] at hb
      have : (Int64.toBitVec 0).getLsbD (c % 64) = false := BitVec.getLsbD_zero
      rw [this] at hb
      exact absurd hb (by decide)
    refine br_t (nI_le (a := 4) (by omega) (by omega)) (yw_put (by omega) (by omega) (fun z => absurd z (h0 a (by omega))) (fun se' hn S => ?_))
    have B : yf_B n k gs kd a se' := ⟨(S.2 a (by omega)).mpr (Or.inr rfl), fun c hc hb => by
      rcases (S.2 c hc).mp hb with z | z
      · exact absurd z (h0 c hc)
      · rw [z]; exact id_0 a⟩
    exact ⟨301, yw_f36 h2 h4 hk hkd ha hx hp 300 0 1 se' (by omega) B (fun y hy => (S.1 y hy).trans (O y hy)) (Or.inl ⟨rfl, cn_pos' (P := fun c => ys_b se' a c) ha B.1⟩)⟩
  | d + 1, w, se, e, O, h => by
    have hN := bf_N h2 h4
    refine br_f (nI_ge (b := 4) (by omega) (by omega)) ⟨by rw [bf_ix]; exact vp_in_nI (by omega) (by omega), nm_r (e' := vp_updL se (4 * a + w) 0) (by rw [bf_ix, nI_clamp (by omega)]) (nm_r (nI_1 w) ?_)⟩
    refine yw_f2 h2 h4 hk hkd ha hx hp d (w + 1) _ (by omega) (fun y hy => ?_) (fun j hj => ?_)
    · rw [pk_uLn (by omega)]; exact O y hy
    · by_cases z : j = w
      · rw [z, pk_uLs]
      · rw [pk_uLn (by omega)]; exact h j (by omega)
/-- fill makes the set of what comes of a -/
theorem yw_fill {post : SY → Prop} (h2 : 2 ≤ n) (h4 : n ≤ 4) (hk : k ≤ 4) (hkd : kd ≤ 2) (ha : a < n ^ n) (hx : yg_N n k gs ne)
    (hp : ∀ se, yf_Z n k gs kd a se0 se → post (nI n, nI (n ^ n), nI k, ga, th, ln, wo, ne, se)) : wpY_fill post (nI n, nI (n ^ n), nI k, ga, th, ln, wo, ne, se0) (nI a) (nI kd) :=
  ⟨5, yw_f2 h2 h4 hk hkd ha hx hp 4 0 se0 (by omega) (fun _ _ => rfl) (fun j hj => by omega)⟩
end
end
section
/-! Y: members, classes, kernel -/
section
variable {n k : Nat} {gs : Nat → Nat} {kd a : Nat} {ga th ln ne : Nat → Int32} {wo se : Nat → Int64}
theorem yw_mb4 {post : Int32 → Prop} (h2 : 2 ≤ n) (h4 : n ≤ 4) (ha : a < n ^ n) (hb : ∀ c, c < 256 → (ys_b se a c ↔ id_I n k gs kd a c)) (h : post (nI (cn (id_I n k gs kd a) (n ^ n)))) : ∀ d c, c + d = n ^ n → wY_members_4 post (nI a) (nI n) (nI (n ^ n)) (nI k) ga th ln wo ne se (d + 1) (nI (cn (id_I n k gs kd a) c)) (nI c)
  | 0, c, e => by
    have hN := bf_N h2 h4
    have e' : c = n ^ n := by omega
    rw [e']
    exact br_t (nI_le (by omega) (by omega)) h
  | d + 1, c, e => by
    have hN := bf_N h2 h4
    refine br_f (nI_ge (by omega) (by omega)) (yw_in (by omega) (by omega) (fun z => br_f (by decide) (nm_r (nI_1 _) (nm_r (nI_1 c) ?_))) (fun z => br_t rfl (nm_r (nI_1 c) ?_)))
    · rw [← cn_s1 ((hb c (by omega)).mp z)]
      exact yw_mb4 h2 h4 ha hb h d (c + 1) (by omega)
    · rw [← cn_s0 (fun y => z ((hb c (by omega)).mpr y))]
      exact yw_mb4 h2 h4 ha hb h d (c + 1) (by omega)
theorem yw_members {post : Int32 → Prop} (h2 : 2 ≤ n) (h4 : n ≤ 4) (ha : a < n ^ n) (hb : ∀ c, c < 256 → (ys_b se a c ↔ id_I n k gs kd a c)) (h : post (nI (cn (id_I n k gs kd a) (n ^ n)))) : wpY_members post (nI n, nI (n ^ n), nI k, ga, th, ln, wo, ne, se) (nI a) :=
  ⟨n ^ n + 1, yw_mb4 h2 h4 ha hb h (n ^ n) 0 (by omega)⟩
theorem ys_row {a' c : Nat} {se' : Nat → Int64} (O : yf_O a se se') (hne : a' ≠ a) (hc : c < 256) : ys_b se' a' c ↔ ys_b se a' c := by
  unfold ys_b
  rw [O (4 * a' + c / 64) (by omega)]
/-- the sets of the elements below a stand -/
def yc_Z (n k : Nat) (gs : Nat → Nat) (kd a : Nat) (se : Nat → Int64) : Prop := ∀ b, b < a → mo_M n k gs b → ∀ c, c < 256 → (ys_b se b c ↔ id_I n k gs kd b c)
theorem yc_s {se' : Nat → Int64} (H : yc_Z n k gs kd a se) (Z : yf_Z n k gs kd a se se') : yc_Z n k gs kd (a + 1) se' := by
  intro b hb hM c hc
  by_cases z : b = a
  · rw [z]; exact Z.2 c hc
  · exact (ys_row Z.1 z hc).trans (H b (by omega) hM c hc)
theorem yw_cl17 {post : Int32 → SY → Prop} (h2 : 2 ≤ n) (h4 : n ≤ 4) (hk : k ≤ 4) (hkd : kd ≤ 2) (hx : yg_N n k gs ne) (Y : yg_Y n k gs th ln wo)
    (hp : ∀ se, yc_Z n k gs kd (n ^ n) se → ∃ n50, wY_classes_50 post (nI n) (nI (n ^ n)) (nI k) ga th ln wo ne se n50 0 0) : ∀ d a se, a + d = n ^ n → yc_Z n k gs kd a se → wY_classes_17 post (nI kd) (d + 1) (nI a) (nI n) (nI (n ^ n)) (nI k) ga th ln wo ne se
  | 0, a, se, e, H => by
    have hN := bf_N h2 h4
    have e' : a = n ^ n := by omega
    rw [e'] at H
    exact br_t (nI_le (by omega) (by omega)) (hp se H)
  | d + 1, a, se, e, H => by
    have hN := bf_N h2 h4
    refine br_f (nI_ge (by omega) (by omega)) ?_
    rw [nI_clamp (n := a) (by omega)]
    refine ⟨vp_in_nI (by omega) (by omega), br_c (fun z => nm_r (nI_1 a) ?_) (fun z => yw_fill h2 h4 hk hkd (by omega) hx (fun se' Z => nm_r (nI_1 a) ?_))⟩
    · refine yw_cl17 h2 h4 hk hkd hx Y hp d (a + 1) se (by omega) (fun b hb hM => ?_)
      by_cases y : b = a
      · rw [y] at hM; exact absurd hM ((yg_iff Y (by omega)).mp z)
      · exact H b (by omega) hM
    · exact yw_cl17 h2 h4 hk hkd hx Y hp d (a + 1) se' (by omega) (yc_s H Z)
def yc_F (n k : Nat) (gs : Nat → Nat) (kd a b : Nat) : Prop := mo_M n k gs a ∧ ∀ b', b' < b → mo_M n k gs b' → ¬ cl_E n k gs kd a b'
theorem yw_cl69 {post : Int32 → SY → Prop} (h2 : 2 ≤ n) (h4 : n ≤ 4) (Y : yg_Y n k gs th ln wo) (H : yc_Z n k gs kd (n ^ n) se) (ha : a < n ^ n) {m : Nat} {J : Int32 → Int32 → Prop} (hJ1 : yc_F n k gs kd a a → J (nI (m + 1)) (nI (a + 1))) (hJ0 : ¬ yc_F n k gs kd a a → J (nI m) (nI (a + 1))) : ∀ d b x, b + d = a → ((x = 1 ∧ yc_F n k gs kd a b) ∨ (x = 0 ∧ ¬ yc_F n k gs kd a b)) → wY_classes_69 post J (nI m) (nI a) (nI n) (nI (n ^ n)) (nI k) ga th ln wo ne se (d + 1) x (nI b)
  | 0, b, x, e, h => by
    have hN := bf_N h2 h4
    have e' : b = a := by omega
    rw [e'] at h ⊢
    refine br_t (nI_le (by omega) (by omega)) ?_
    rcases h with ⟨z, h⟩ | ⟨z, h⟩ <;> rw [z]
    · exact br_f (by decide) (nm_r (nI_1 m) (nm_r (nI_1 a) (hJ1 h)))
    · exact br_t rfl (nm_r (nI_1 a) (hJ0 h))
  | d + 1, b, x, e, h => by
    have hN := bf_N h2 h4
    have keep : (mo_M n k gs b → mo_M n k gs a → ¬ cl_E n k gs kd a b) → wY_classes_69 post J (nI m) (nI a) (nI n) (nI (n ^ n)) (nI k) ga th ln wo ne se (d + 1) x (nI (b + 1)) := by
      intro hn
      refine yw_cl69 h2 h4 Y H ha hJ1 hJ0 d (b + 1) x (by omega) ?_
      rcases h with ⟨z, h⟩ | ⟨z, h⟩
      · refine Or.inl ⟨z, h.1, fun b' hb' hM => ?_⟩
        by_cases y : b' = b
        · rw [y] at hM ⊢; exact hn hM h.1
        · exact h.2 b' (by omega) hM
      · exact Or.inr ⟨z, fun y => h ⟨y.1, fun b' hb' hM => y.2 b' (by omega) hM⟩⟩
    refine br_f (nI_ge (by omega) (by omega)) ?_
    rw [nI_clamp (n := b) (by omega)]
    refine ⟨vp_in_nI (by omega) (by omega), br_c (fun z => nm_r (nI_1 b) (keep (fun hM => absurd hM ((yg_iff Y (by omega)).mp z)))) (fun z => ?_)⟩
    have hM : mo_M n k gs b := Classical.byContradiction fun t => z (yg_f Y (by omega) t)
    refine yw_in (by omega) (by omega) (fun y => br_f (by decide) (yw_in (by omega) (by omega) (fun w => br_f (by decide) (nm_r (nI_1 b) ?_)) (fun w => br_t rfl (nm_r (nI_1 b) (keep (fun _ _ E => w ((H b (by omega) hM a (by omega)).mpr E.2))))))) (fun y => br_t rfl (nm_r (nI_1 b) (keep (fun _ hMa E => y ((H a ha hMa b (by omega)).mpr E.1)))))
    refine yw_cl69 h2 h4 Y H ha hJ1 hJ0 d (b + 1) 0 (by omega) (Or.inr ⟨rfl, fun F => ?_⟩)
    exact F.2 b (by omega) hM ⟨(H a ha F.1 b (by omega)).mp y, (H b (by omega) hM a (by omega)).mp w⟩
theorem yw_cl50 {post : Int32 → SY → Prop} (h2 : 2 ≤ n) (h4 : n ≤ 4) (Y : yg_Y n k gs th ln wo) (H : yc_Z n k gs kd (n ^ n) se) (h : post (nI (cn (fun c => mo_M n k gs c ∧ ∀ b, b < c → mo_M n k gs b → ¬ cl_E n k gs kd c b) (n ^ n))) (nI n, nI (n ^ n), nI k, ga, th, ln, wo, ne, se)) : ∀ d a, a + d = n ^ n → wY_classes_50 post (nI n) (nI (n ^ n)) (nI k) ga th ln wo ne se (d + 1) (nI (cn (fun c => mo_M n k gs c ∧ ∀ b, b < c → mo_M n k gs b → ¬ cl_E n k gs kd c b) a)) (nI a)
  | 0, a, e => by
    have hN := bf_N h2 h4
    have e' : a = n ^ n := by omega
    rw [e']
    exact br_t (nI_le (by omega) (by omega)) h
  | d + 1, a, e => by
    have hN := bf_N h2 h4
    refine br_f (nI_ge (by omega) (by omega)) ?_
    rw [nI_clamp (n := a) (by omega)]
    refine ⟨vp_in_nI (by omega) (by omega), nm_e ⟨a + 1, yw_cl69 h2 h4 Y H (by omega) (fun F => ?_) (fun F => ?_) a 0 (th a) (by omega) ?_⟩⟩
    · rw [← cn_s1 (P := fun c => mo_M n k gs c ∧ ∀ b, b < c → mo_M n k gs b → ¬ cl_E n k gs kd c b) F]
      exact yw_cl50 h2 h4 Y H h d (a + 1) (by omega)
    · rw [← cn_s0 (P := fun c => mo_M n k gs c ∧ ∀ b, b < c → mo_M n k gs b → ¬ cl_E n k gs kd c b) F]
      exact yw_cl50 h2 h4 Y H h d (a + 1) (by omega)
    · rcases Y a (by omega) with z | z
      · exact Or.inr ⟨z.1, fun F => z.2 F.1⟩
      · exact Or.inl ⟨z.2.1, z.1, fun b' hb' => by omega⟩
theorem yw_kn11 {post : Int32 → SY → Prop} (h2 : 2 ≤ n) (h4 : n ≤ 4) (hk : k ≤ 4) (hx : yg_N n k gs ne) (Y : yg_Y n k gs th ln wo) {K : Nat} (hlo : ∀ b, mo_M n k gs b → K ≤ cn (id_I n k gs 2 b) (n ^ n)) (hat : ∃ b, mo_M n k gs b ∧ cn (id_I n k gs 2 b) (n ^ n) = K)
    (hp : ∀ se, post (nI K) (nI n, nI (n ^ n), nI k, ga, th, ln, wo, ne, se)) : ∀ d a m se, a + d = n ^ n → K ≤ m → m ≤ n ^ n → (∀ b, b < a → mo_M n k gs b → m ≤ cn (id_I n k gs 2 b) (n ^ n)) → wY_kernel_11 post (d + 1) (nI m) (nI a) (nI n) (nI (n ^ n)) (nI k) ga th ln wo ne se
  | 0, a, m, se, e, h1, h3, h => by
    have hN := bf_N h2 h4
    obtain ⟨b, hb, eb⟩ := hat
    have := h b (by have := mo_M_lt (show 0 < n by omega) hb; omega) hb
    have e' : m = K := by omega
    rw [e']
    exact br_t (nI_le (by omega) (by omega)) (hp se)
  | d + 1, a, m, se, e, h1, h3, h => by
    have hN := bf_N h2 h4
    refine br_f (nI_ge (by omega) (by omega)) ?_
    rw [nI_clamp (n := a) (by omega)]
    refine ⟨vp_in_nI (by omega) (by omega), br_c (fun z => nm_r (nI_1 a) ?_) (fun z => yw_fill (kd := 2) h2 h4 hk (by omega) (by omega) hx (fun se' Z => yw_members h2 h4 (by omega) Z.2 ?_))⟩
    · refine yw_kn11 h2 h4 hk hx Y hlo hat hp d (a + 1) m se (by omega) h1 h3 (fun b hb hM => ?_)
      by_cases y : b = a
      · rw [y] at hM; exact absurd hM ((yg_iff Y (by omega)).mp z)
      · exact h b (by omega) hM
    · have hM : mo_M n k gs a := Classical.byContradiction fun t => z (yg_f Y (by omega) t)
      have hl := hlo a hM
      have hc := cn_le (id_I n k gs 2 a) (n ^ n)
      refine br_c (fun y => nm_r (nI_1 a) ?_) (fun y => nm_r (nI_1 a) ?_)
      · have y' := (nI_leI (by omega) (by omega)).mp y
        refine yw_kn11 h2 h4 hk hx Y hlo hat hp d (a + 1) m se' (by omega) h1 h3 (fun b hb hM => ?_)
        by_cases t : b = a
        · rw [t]; exact y'
        · exact h b (by omega) hM
      · have y' : ¬ m ≤ cn (id_I n k gs 2 a) (n ^ n) := fun t => y ((nI_leI (by omega) (by omega)).mpr t)
        refine yw_kn11 h2 h4 hk hx Y hlo hat hp d (a + 1) _ se' (by omega) hl hc (fun b hb hM => ?_)
        by_cases t : b = a
        · rw [t]; exact Nat.le_refl _
        · have := h b (by omega) hM
          omega
end
end
section
/-! an element of least rank is made by every element; X's kernel, isElement -/
theorem rk_iff {n c q : Nat} : rk_i n c q = true ↔ ∃ p, p < n ∧ mo_d n c p = q := by
  unfold rk_i
  rw [List.any_eq_true]
  constructor
  · intro ⟨p, hp, e⟩
    exact ⟨p, List.mem_range.mp hp, by simpa using e⟩
  · intro ⟨p, hp, e⟩
    exact ⟨p, List.mem_range.mpr hp, by simpa using e⟩
theorem rk_cn (n c : Nat) : rk n c = cn (fun q => ∃ p, p < n ∧ mo_d n c p = q) n := by
  unfold rk
  rw [← cn_c_eq]
  exact cn_cg n (fun q _ => rk_iff)
theorem pw_add {n c : Nat} (hn : 0 < n) (i : Nat) : ∀ j, mo_m n (pw n c i) (pw n c j) = pw n c (i + j + 1)
  | 0 => rfl
  | j + 1 => by
    show mo_m n (pw n c i) (mo_m n (pw n c j) c) = mo_m n (pw n c (i + j + 1)) c
    rw [← mo_as hn, pw_add hn i j]
section
variable {n k : Nat} {gs : Nat → Nat}
theorem kn_fix {a b : Nat} (h2 : 2 ≤ n) (h4 : n ≤ 4) (ha : mo_M n k gs a) (hb : mo_M n k gs b) (hm : ∀ x, mo_M n k gs x → rk n a ≤ rk n x) : mo_m n a (pw n (mo_m n b a) 11) = a := by
  have hn : 0 < n := by omega
  have hc : mo_M n k gs (mo_m n b a) := mo_Mm hn hb ha
  have hcl := mo_M_lt hn hc
  have hx : mo_M n k gs (mo_m n a (pw n (mo_m n b a) 2)) := mo_Mm hn ha (pw_M hn hc 2)
  have hr := hm _ hx
  rw [rk_cn, rk_cn] at hr
  have hs : ∀ q, q < n → (∃ p, p < n ∧ mo_d n (mo_m n a (pw n (mo_m n b a) 2)) p = q) → ∃ p, p < n ∧ mo_d n a p = q := by
    intro q _ ⟨p, hp, e⟩
    refine ⟨mo_d n b (mo_d n (pw n (mo_m n b a) 1) (mo_d n a p)), mo_d_lt hn _ _, ?_⟩
    rw [← e, mo_m_d hn _ _ hp]
    show _ = mo_d n (mo_m n (pw n (mo_m n b a) 1) (mo_m n b a)) (mo_d n a p)
    rw [mo_m_d hn _ _ (mo_d_lt hn _ _), mo_m_d hn _ _ (mo_d_lt hn _ _)]
  have hq := cn_eq_sub hs hr
  refine mo_ext hn (mo_m_lt hn _ _) (mo_M_lt hn ha) (fun p hp => ?_)
  rw [mo_m_d hn _ _ hp]
  obtain ⟨p', hp', e⟩ := hq (mo_d n a p) (mo_d_lt hn _ _) ⟨p, hp, rfl⟩
  rw [mo_m_d hn _ _ hp'] at e
  rw [← e, ← mo_m_d hn _ _ (mo_d_lt hn _ _), pw_add hn 2 11]
  have := pe_0 h2 h4 hcl
  rw [show 2 + 11 + 1 = 2 + 12 by omega, this]
theorem id_rm {b y c : Nat} (hn : 0 < n) (hc : c < n ^ n) (h : id_I n k gs 2 b c) (hy : mo_M n k gs y) : id_I n k gs 2 b (mo_m n c y) := by
  refine mo_ind (P := fun y => id_I n k gs 2 b (mo_m n c y)) ?_ ?_ y hy
  · rw [mo_me hn hc]; exact h
  · intro y' g _ ih hg
    rw [← mo_as hn]
    exact id_st ih (Or.inl ⟨by decide, g, hg, rfl⟩)
theorem id_lm {b x : Nat} (hn : 0 < n) (hx : mo_M n k gs x) : ∀ c, c < n ^ n → id_I n k gs 2 b c → id_I n k gs 2 b (mo_m n x c) := by
  refine mo_ind (P := fun x => ∀ c, c < n ^ n → id_I n k gs 2 b c → id_I n k gs 2 b (mo_m n x c)) ?_ ?_ x hx
  · intro c hc h
    rw [mo_em hn hc]; exact h
  · intro x' g _ ih hg c hc h
    rw [mo_as hn]
    exact ih _ (mo_m_lt hn _ _) (id_st h (Or.inr ⟨by decide, g, hg, rfl⟩))
theorem kn_min {a b : Nat} (h2 : 2 ≤ n) (h4 : n ≤ 4) (ha : mo_M n k gs a) (hb : mo_M n k gs b) (hm : ∀ x, mo_M n k gs x → rk n a ≤ rk n x) : id_I n k gs 2 b a := by
  have hn : 0 < n := by omega
  have hc : mo_M n k gs (mo_m n b a) := mo_Mm hn hb ha
  have e := kn_fix h2 h4 ha hb hm
  have e2 : pw n (mo_m n b a) 11 = mo_m n b (mo_m n a (pw n (mo_m n b a) 10)) := by
    rw [← mo_as hn]
    exact (pw_add hn 0 10).symm
  rw [e2] at e
  have h1 := id_rm (y := mo_m n a (pw n (mo_m n b a) 10)) hn (mo_M_lt hn hb) (id_0 b) (mo_Mm hn ha (pw_M hn hc 10))
  have h3 := id_lm hn ha _ (mo_m_lt hn _ _) h1
  rw [e] at h3
  exact h3
theorem kn_le {a b : Nat} (h2 : 2 ≤ n) (h4 : n ≤ 4) (ha : mo_M n k gs a) (hb : mo_M n k gs b) (hm : ∀ x, mo_M n k gs x → rk n a ≤ rk n x) : cn (id_I n k gs 2 a) (n ^ n) ≤ cn (id_I n k gs 2 b) (n ^ n) :=
  cn_sub (fun _ _ h => id_tr (kn_min h2 h4 ha hb hm) h)
end
section
variable {n k s : Nat} {gs cd pf L R Q : Nat → Nat} {ga nu co be la le ri lf pa rd rg qu : Nat → Int32}
theorem xw_kn8 {post : Int32 → SX → Prop} (h2 : 2 ≤ n) (h4 : n ≤ 4) (hk : k ≤ 4) (X : bf_X n k gs s cd pf L R Q nu co be la le ri lf)
    (hp : ∀ a rd qu, a < s → (∀ i, i < s → rk n (cd a) ≤ rk n (cd i)) → post (nI (cn (id_I n k gs 2 (cd a)) (n ^ n))) (nI n, nI (n ^ n), nI k, nI s, 1, ga, nu, co, be, la, le, ri, lf, pa, rd, rg, qu)) : ∀ d b a, b + d = s → a < s → (∀ i, i < b → rk n (cd a) ≤ rk n (cd i)) → wX_kernel_8 post (nI n) (nI (n ^ n)) (nI k) (nI s) 1 ga nu co be la le ri lf pa rd rg qu (d + 1) (nI a) (nI b)
  | 0, b, a, e, ha, h => by
    have hN := bf_N h2 h4
    have hs := X.1.1
    refine br_t (nI_le (by omega) (by omega)) (xw_spread (kd := 2) h2 h4 hk (by omega) ha X (fun rd qu Z => ?_))
    exact hp a rd qu ha (fun i hi => h i (by omega))
  | d + 1, b, a, e, ha, h => by
    have hN := bf_N h2 h4
    have hs := X.1.1
    obtain ⟨b1, b2, b3, b4⟩ := X.1.2.2.1 b (by omega)
    obtain ⟨a1, a2, a3, a4⟩ := X.1.2.2.1 a ha
    have ra := rk_le n (cd a)
    have rb := rk_le n (cd b)
    refine br_f (nI_ge (by omega) (by omega)) ?_
    rw [nI_clamp (n := b) (by omega), nI_clamp (n := a) (by omega), b3, a3]
    refine ⟨vp_in_nI (by omega) (by omega), xw_rank h2 h4 b1 ⟨vp_in_nI (by omega) (by omega), xw_rank h2 h4 a1 (br_c (fun z => nm_r (nI_1 b) ?_) (fun z => nm_r (nI_1 b) ?_))⟩⟩
    · have z' := (nI_leI (by omega) (by omega)).mp z
      refine xw_kn8 h2 h4 hk X hp d (b + 1) a (by omega) ha (fun i hi => ?_)
      by_cases y : i = b
      · rw [y]; exact z'
      · exact h i (by omega)
    · have z' : ¬ rk n (cd a) ≤ rk n (cd b) := fun t => z ((nI_leI (by omega) (by omega)).mpr t)
      refine xw_kn8 h2 h4 hk X hp d (b + 1) b (by omega) (by omega) (fun i hi => ?_)
      by_cases y : i = b
      · rw [y]; exact Nat.le_refl _
      · have := h i (by omega)
        omega
end
/-- X's tables hold if they are current -/
def re_T (n k : Nat) (gs : Nat → Nat) (fz fu : Int32) (nu co be la le ri lf : Nat → Int32) : Prop := fu ≠ 0 → fu = 1 ∧ ∃ s cd pf L R Q, fz = nI s ∧ bf_X n k gs s cd pf L R Q nu co be la le ri lf
theorem re_Ti {n k s : Nat} {gs cd pf L R Q : Nat → Nat} {nu co be la le ri lf : Nat → Int32} (X : bf_X n k gs s cd pf L R Q nu co be la le ri lf) : re_T n k gs (nI s) 1 nu co be la le ri lf := fun _ => ⟨rfl, s, cd, pf, L, R, Q, rfl, X⟩
section
variable {n k : Nat} {gs : Nat → Nat} {ga pa rd rg qu : Nat → Int32}
theorem xw_elem {post : Int32 → SX → Prop} (h2 : 2 ≤ n) (h4 : n ≤ 4) (hk : k ≤ 4) (hg : ∀ g, g < k → gs g < n ^ n ∧ ga g = nI (gs g)) {fz fu : Int32} {nu co be la le ri lf : Nat → Int32} (hc : re_T n k gs fz fu nu co be la le ri lf) {v : Int32}
    (h0 : ∀ fz fu nu co be la le ri lf, re_T n k gs fz fu nu co be la le ri lf → (¬ ∃ x, x < n ^ n ∧ v = nI x ∧ mo_M n k gs x) → post 0 (nI n, nI (n ^ n), nI k, fz, fu, ga, nu, co, be, la, le, ri, lf, pa, rd, rg, qu))
    (h1 : ∀ x s cd pf L R Q nu co be la le ri lf, x < n ^ n → v = nI x → mo_M n k gs x → bf_X n k gs s cd pf L R Q nu co be la le ri lf → post 1 (nI n, nI (n ^ n), nI k, nI s, 1, ga, nu, co, be, la, le, ri, lf, pa, rd, rg, qu)) : wpX_isElement post (nI n, nI (n ^ n), nI k, fz, fu, ga, nu, co, be, la, le, ri, lf, pa, rd, rg, qu) v := by
  have hN := bf_N h2 h4
  unfold wpX_isElement
  dsimp only
  refine xw_isCode2 hN (fun hb => br_t rfl (h0 fz fu nu co be la le ri lf hc ?_)) (fun x hx e => ?_)
  · intro ⟨x, hx, e, _⟩
    rw [e] at hb
    rcases hb with z | z
    · exact nI_pos (by omega) z
    · exact nI_ge hx (by omega) z
  · subst e
    refine br_f (by decide) (xw_refresh h2 h4 hk hg hc (fun s cd pf L R Q nu co be la le ri lf X => ?_))
    have hs := X.1.1
    dsimp only
    rw [nI_clamp (n := x) (by omega)]
    rcases bf_nu X hk h2 h4 hx with ⟨z1, z2⟩ | ⟨z1, i, hi1, z2, z3⟩
    · refine ⟨vp_in_nI (by omega) (by omega), br_t z1 (h0 _ _ nu co be la le ri lf (re_Ti X) ?_)⟩
      intro ⟨x', hx', e', m'⟩
      have : x = x' := (nI_eq (by omega) (by omega)).mp e'
      rw [this] at z2
      exact z2 m'
    · exact ⟨vp_in_nI (by omega) (by omega), br_f (by rw [z3]; exact bf_m1 (by omega)) (h1 x s cd pf L R Q nu co be la le ri lf hx rfl z1 X)⟩
end
end
section
/-! the last owed ones: classes, alike, ideal, kernel -/
/-- a kind: 0, 1 or 2, or none -/
theorem kd_of (v : Int32) : v < 0 ∨ (¬ v < 0 ∧ ¬ v ≤ 2) ∨ (¬ v < 0 ∧ v ≤ 2 ∧ ∃ kd, kd ≤ 2 ∧ v = nI kd) := by
  by_cases h : v < 0
  · exact Or.inl h
  · by_cases h' : v ≤ 2
    · obtain ⟨j, hj, e⟩ := nI_of2 (M := 2) (n := 2) (by decide) h h'
      exact Or.inr (Or.inr ⟨h, h', j, hj, e⟩)
    · exact Or.inr (Or.inl ⟨h, h'⟩)
theorem i_vc_classes {k : Nat} {u : SX} {v : SY} (I : i_Rel k u v) (hk : k + 4 ≤ 2049) (v1 : Int32) : wpX_classes (fun r u' => wpY_classes (fun r' v' => r' = r ∧ i_Rel (k + 4) u' v') v v1) u v1 := by
  refine re_el (P := fun u v => wpX_classes (fun r u' => wpY_classes (fun r' v' => r' = r ∧ i_Rel (k + 4) u' v') v v1) u v1) ?_ I
  intro n k' gs fz fu ga nu co be la le ri lf pa rd rg qu th ln ne wo se h
  obtain ⟨h2, h4, hk', hg, hc, hx⟩ := id h
  unfold wpX_classes wpY_classes
  dsimp only
  rcases kd_of v1 with z | ⟨z, y⟩ | ⟨z, y, kd, hkd, e⟩
  · exact br_t z (br_t z ⟨rfl, re_in h⟩)
  · exact br_f z (br_f y (br_f z (br_f y ⟨rfl, re_in h⟩)))
  · subst e
    refine br_f z (br_t y (xw_refresh h2 h4 hk' hg hc (fun s cd pf L R Q nu co be la le ri lf X => ⟨s + 1, xw_cl17 h2 h4 hk' hkd X (fun pa rd rg qu => ?_) s 0 pa (by omega) (fun x hx => by omega)⟩)))
    refine br_f z (br_t y (yw_work h2 h4 hk' hx (fun th ln wo Y => ⟨n ^ n + 1, yw_cl17 h2 h4 hk' hkd hx Y (fun se H => ⟨n ^ n + 1, yw_cl50 h2 h4 Y H ⟨?_, re_inX h2 h4 hk' hg X hx⟩ (n ^ n) 0 (by omega)⟩) (n ^ n) 0 se (by omega) (fun b hb => by omega)⟩)))
    rw [cl_eq X hk' h2 h4]
section
variable {n k : Nat} {gs : Nat → Nat} {ga rg pa rd qu : Nat → Int32}
theorem xw_ideal {post : Int32 → SX → Prop} (h2 : 2 ≤ n) (h4 : n ≤ 4) (hk : k ≤ 4) (hg : ∀ g, g < k → gs g < n ^ n ∧ ga g = nI (gs g)) {fz fu : Int32} {nu co be la le ri lf : Nat → Int32} (hc : re_T n k gs fz fu nu co be la le ri lf) {kd : Nat} (hkd : kd ≤ 2) (z : ¬ nI kd < 0) (y : nI kd ≤ 2) {v : Int32}
    (h0 : ∀ fz fu nu co be la le ri lf, re_T n k gs fz fu nu co be la le ri lf → (¬ ∃ x, x < n ^ n ∧ v = nI x ∧ mo_M n k gs x) → post (-2) (nI n, nI (n ^ n), nI k, fz, fu, ga, nu, co, be, la, le, ri, lf, pa, rd, rg, qu))
    (h1 : ∀ x s cd pf L R Q nu co be la le ri lf rd qu, x < n ^ n → v = nI x → mo_M n k gs x → bf_X n k gs s cd pf L R Q nu co be la le ri lf → post (nI (cn (id_I n k gs kd x) (n ^ n))) (nI n, nI (n ^ n), nI k, nI s, 1, ga, nu, co, be, la, le, ri, lf, pa, rd, rg, qu)) : wpX_ideal post (nI n, nI (n ^ n), nI k, fz, fu, ga, nu, co, be, la, le, ri, lf, pa, rd, rg, qu) (nI kd) v := by
  have hN := bf_N h2 h4
  unfold wpX_ideal
  dsimp only
  refine br_f z (br_t y (xw_elem h2 h4 hk hg hc (fun fz fu nu co be la le ri lf hc' hn => br_t rfl (h0 fz fu nu co be la le ri lf hc' hn)) (fun x s cd pf L R Q nu co be la le ri lf hx e hM X => br_f (by decide) ?_)))
  subst e
  have hs := X.1.1
  dsimp only
  rw [nI_clamp (n := x) (by omega)]
  rcases bf_nu X hk h2 h4 hx with ⟨z1, z2⟩ | ⟨z1, i, hi1, z2, z3⟩
  · exact absurd hM z2
  · refine ⟨vp_in_nI (by omega) (by omega), ?_⟩
    rw [z3]
    refine xw_spread h2 h4 hk hkd hi1 X (fun rd qu Z => ?_)
    rw [z2]
    exact h1 x s cd pf L R Q nu co be la le ri lf rd qu hx rfl hM X
theorem xw_alike {post : Int32 → SX → Prop} (h2 : 2 ≤ n) (h4 : n ≤ 4) (hk : k ≤ 4) (hg : ∀ g, g < k → gs g < n ^ n ∧ ga g = nI (gs g)) {fz fu : Int32} {nu co be la le ri lf : Nat → Int32} (hc : re_T n k gs fz fu nu co be la le ri lf) {kd : Nat} (hkd : kd ≤ 2) (z : ¬ nI kd < 0) (y : nI kd ≤ 2) {v w : Int32}
    (h0 : ∀ fz fu nu co be la le ri lf, re_T n k gs fz fu nu co be la le ri lf → ¬ ((∃ x, x < n ^ n ∧ v = nI x ∧ mo_M n k gs x) ∧ ∃ x, x < n ^ n ∧ w = nI x ∧ mo_M n k gs x) → post (-2) (nI n, nI (n ^ n), nI k, fz, fu, ga, nu, co, be, la, le, ri, lf, pa, rd, rg, qu))
    (h1 : ∀ x x' s cd pf L R Q nu co be la le ri lf rd qu, x < n ^ n → v = nI x → mo_M n k gs x → x' < n ^ n → w = nI x' → mo_M n k gs x' → bf_X n k gs s cd pf L R Q nu co be la le ri lf → (cl_E n k gs kd x x' → post 1 (nI n, nI (n ^ n), nI k, nI s, 1, ga, nu, co, be, la, le, ri, lf, pa, rd, rg, qu)) ∧ (¬ cl_E n k gs kd x x' → post 0 (nI n, nI (n ^ n), nI k, nI s, 1, ga, nu, co, be, la, le, ri, lf, pa, rd, rg, qu))) : wpX_alike post (nI n, nI (n ^ n), nI k, fz, fu, ga, nu, co, be, la, le, ri, lf, pa, rd, rg, qu) (nI kd) v w := by
  have hN := bf_N h2 h4
  unfold wpX_alike
  dsimp only
  refine br_f z (br_t y (xw_elem h2 h4 hk hg hc (fun fz fu nu co be la le ri lf hc' hn => br_t rfl (h0 fz fu nu co be la le ri lf hc' (fun t => hn t.1))) (fun x s cd pf L R Q nu co be la le ri lf hx e hM X => br_f (by decide) ?_)))
  subst e
  refine xw_elem h2 h4 hk hg (re_Ti X) (fun fz fu nu co be la le ri lf hc' hn => br_t rfl (h0 fz fu nu co be la le ri lf hc' (fun t => hn t.2))) (fun x' s cd pf L R Q nu co be la le ri lf hx' e' hM' X => br_f (by decide) ?_)
  subst e'
  have hs := X.1.1
  obtain ⟨H1, H0⟩ : (∀ rd qu, (cl_E n k gs kd x x' → post 1 (nI n, nI (n ^ n), nI k, nI s, 1, ga, nu, co, be, la, le, ri, lf, pa, rd, rg, qu)) ∧ (¬ cl_E n k gs kd x x' → post 0 (nI n, nI (n ^ n), nI k, nI s, 1, ga, nu, co, be, la, le, ri, lf, pa, rd, rg, qu))) ∧ True := ⟨fun rd qu => h1 x x' s cd pf L R Q nu co be la le ri lf rd qu hx rfl hM hx' rfl hM' X, trivial⟩
  dsimp only
  rw [nI_clamp (n := x) (by omega), nI_clamp (n := x') (by omega)]
  rcases bf_nu X hk h2 h4 hx with ⟨z1, z2⟩ | ⟨z1, i, hi, z2, z3⟩
  · exact absurd hM z2
  · rcases bf_nu X hk h2 h4 hx' with ⟨y1, y2⟩ | ⟨y1, i', hi', y2, y3⟩
    · exact absurd hM' y2
    · have vx : vp_in (nI x) 256 := vp_in_nI (by omega) (by omega)
      have vx' : vp_in (nI x') 256 := vp_in_nI (by omega) (by omega)
      rw [z3]
      refine ⟨vx, xw_spread h2 h4 hk hkd hi X (fun rd qu Z => ?_)⟩
      dsimp only
      rw [y3, nI_clamp (n := i') (by omega)]
      refine ⟨vx', vp_in_nI (by omega) (by omega), nm_e ⟨vx', xw_spread h2 h4 hk hkd hi' X (fun rd' qu' Z' => ?_)⟩⟩
      dsimp only
      rw [z3, nI_clamp (n := i) (by omega)]
      have a := Z i' hi'
      have b := Z' i hi
      rw [z2, y2] at a b
      rcases a with ⟨a1, a2⟩ | ⟨a1, a2⟩
      · refine br_f (by rw [a1]; decide) ⟨vx, vp_in_nI (by omega) (by omega), ?_⟩
        rcases b with ⟨b1, b2⟩ | ⟨b1, b2⟩
        · exact br_f (by rw [b1]; decide) ((H1 rd' qu').1 ⟨a2, b2⟩)
        · exact br_t b1 ((H1 rd' qu').2 (fun t => b2 t.2))
      · exact br_t a1 ((H1 rd' qu').2 (fun t => a2 t.1))
end
section
variable {n k : Nat} {gs : Nat → Nat} {ga th ln ne : Nat → Int32} {wo se : Nat → Int64}
theorem yw_bad2 {post : Int32 → Prop} {x : Int32} {gn gc : Int32} {gg : Nat → Int32} {N : Nat} (hN : N ≤ 256) (h0 : (¬ ∃ c, c < N ∧ x = nI c) → post 1) (h1 : ∀ c, c < N → x = nI c → post 0) : wpY_bad post (gn, nI N, gc, gg, th, ln, wo, ne, se) x := by
  rcases pk_ix x (n := N) (by omega) with h | h | ⟨j, hj, e⟩
  · refine yw_bad0 (Or.inl h) (h0 (fun ⟨c, hc, e⟩ => ?_))
    rw [e] at h
    exact nI_pos (by omega) h
  · refine yw_bad0 (Or.inr h) (h0 (fun ⟨c, hc, e⟩ => ?_))
    rw [e] at h
    exact nI_ge hc (by omega) h
  · subst e
    exact yw_bad (gn := gn) hN hj (h1 j hj rfl)
theorem yw_ideal {post : Int32 → SY → Prop} (h2 : 2 ≤ n) (h4 : n ≤ 4) (hk : k ≤ 4) (hx : yg_N n k gs ne) {kd : Nat} (hkd : kd ≤ 2) (z : ¬ nI kd < 0) (y : nI kd ≤ 2) {v : Int32}
    (h0 : ∀ th ln wo se, (¬ ∃ x, x < n ^ n ∧ v = nI x ∧ mo_M n k gs x) → post (-2) (nI n, nI (n ^ n), nI k, ga, th, ln, wo, ne, se))
    (h1 : ∀ x th ln wo se, x < n ^ n → v = nI x → mo_M n k gs x → post (nI (cn (id_I n k gs kd x) (n ^ n))) (nI n, nI (n ^ n), nI k, ga, th, ln, wo, ne, se)) : wpY_ideal post (nI n, nI (n ^ n), nI k, ga, th, ln, wo, ne, se) (nI kd) v := by
  have hN := bf_N h2 h4
  unfold wpY_ideal
  dsimp only
  refine br_f z (br_t y (yw_work h2 h4 hk hx (fun th ln wo Y => ?_)))
  dsimp only
  refine yw_bad2 hN (fun hn => br_f (by decide) (h0 th ln wo se (fun ⟨c, hc, e, _⟩ => hn ⟨c, hc, e⟩))) (fun x hx1 e => br_t rfl ?_)
  subst e
  rw [nI_clamp (n := x) (by omega)]
  refine ⟨vp_in_nI (by omega) (by omega), ?_⟩
  by_cases hM : mo_M n k gs x
  · exact br_f (yg_t Y hx1 hM) (yw_fill h2 h4 hk hkd hx1 hx (fun se Z => yw_members h2 h4 hx1 Z.2 (h1 x th ln wo se hx1 rfl hM)))
  · refine br_t (yg_f Y hx1 hM) (h0 th ln wo se (fun ⟨c, hc, e, hm⟩ => ?_))
    have : x = c := (nI_eq (by omega) (by omega)).mp e
    rw [this] at hM
    exact hM hm
theorem yw_alike {post : Int32 → SY → Prop} (h2 : 2 ≤ n) (h4 : n ≤ 4) (hk : k ≤ 4) (hx : yg_N n k gs ne) {kd : Nat} (hkd : kd ≤ 2) (z : ¬ nI kd < 0) (y : nI kd ≤ 2) {v w : Int32}
    (h0 : ∀ th ln wo se, ¬ ((∃ x, x < n ^ n ∧ v = nI x ∧ mo_M n k gs x) ∧ ∃ x, x < n ^ n ∧ w = nI x ∧ mo_M n k gs x) → post (-2) (nI n, nI (n ^ n), nI k, ga, th, ln, wo, ne, se))
    (h1 : ∀ x x' th ln wo se, x < n ^ n → v = nI x → mo_M n k gs x → x' < n ^ n → w = nI x' → mo_M n k gs x' → (cl_E n k gs kd x x' → post 1 (nI n, nI (n ^ n), nI k, ga, th, ln, wo, ne, se)) ∧ (¬ cl_E n k gs kd x x' → post 0 (nI n, nI (n ^ n), nI k, ga, th, ln, wo, ne, se))) : wpY_alike post (nI n, nI (n ^ n), nI k, ga, th, ln, wo, ne, se) (nI kd) v w := by
  have hN := bf_N h2 h4
  unfold wpY_alike
  dsimp only
  refine br_f z (br_t y (yw_work h2 h4 hk hx (fun th ln wo Y => ?_)))
  dsimp only
  refine yw_bad2 hN (fun hn => br_f (by decide) (h0 th ln wo se (fun ⟨⟨c, hc, e, _⟩, _⟩ => hn ⟨c, hc, e⟩))) (fun x hx1 e => br_t rfl ?_)
  subst e
  refine yw_bad2 hN (fun hn => br_f (by decide) (h0 th ln wo se (fun ⟨_, c, hc, e, _⟩ => hn ⟨c, hc, e⟩))) (fun x' hx2 e => br_t rfl ?_)
  subst e
  rw [nI_clamp (n := x) (by omega), nI_clamp (n := x') (by omega)]
  refine ⟨vp_in_nI (by omega) (by omega), ?_⟩
  by_cases hM : mo_M n k gs x
  · refine br_f (yg_t Y hx1 hM) ⟨vp_in_nI (by omega) (by omega), ?_⟩
    by_cases hM' : mo_M n k gs x'
    · refine br_f (yg_t Y hx2 hM') (yw_fill h2 h4 hk hkd hx1 hx (fun se1 Z1 => yw_fill h2 h4 hk hkd hx2 hx (fun se2 Z2 => ?_)))
      obtain ⟨H1, H0⟩ := h1 x x' th ln wo se2 hx1 rfl hM hx2 rfl hM'
      -- the set of x stands after the second fill, too
      have S1 : ∀ c, c < 256 → (ys_b se2 x c ↔ id_I n k gs kd x c) := by
        intro c hc
        by_cases t : x = x'
        · subst t; exact Z2.2 c hc
        · exact (ys_row Z2.1 t hc).trans (Z1.2 c hc)
      refine yw_in (by omega) (by omega) (fun i1 => br_f (by decide) (yw_in (by omega) (by omega) (fun i2 => br_f (by decide) (H1 ⟨(S1 x' (by omega)).mp i1, (Z2.2 x (by omega)).mp i2⟩)) (fun i2 => br_t rfl (H0 (fun E => i2 ((Z2.2 x (by omega)).mpr E.2)))))) (fun i1 => br_t rfl (H0 (fun E => i1 ((S1 x' (by omega)).mpr E.1))))
    · refine br_t (yg_f Y hx2 hM') (h0 th ln wo se (fun ⟨_, c, hc, e, hm⟩ => ?_))
      have : x' = c := (nI_eq (by omega) (by omega)).mp e
      rw [this] at hM'
      exact hM' hm
  · refine br_t (yg_f Y hx1 hM) (h0 th ln wo se (fun ⟨⟨c, hc, e, hm⟩, _⟩ => ?_))
    have : x = c := (nI_eq (by omega) (by omega)).mp e
    rw [this] at hM
    exact hM hm
end
theorem i_vc_alike {k : Nat} {u : SX} {v : SY} (I : i_Rel k u v) (hk : k + 4 ≤ 2049) (v1 : Int32) (v2 : Int32) (v3 : Int32) : wpX_alike (fun r u' => wpY_alike (fun r' v' => r' = r ∧ i_Rel (k + 4) u' v') v v1 v2 v3) u v1 v2 v3 := by
  refine re_el (P := fun u v => wpX_alike (fun r u' => wpY_alike (fun r' v' => r' = r ∧ i_Rel (k + 4) u' v') v v1 v2 v3) u v1 v2 v3) ?_ I
  intro n k' gs fz fu ga nu co be la le ri lf pa rd rg qu th ln ne wo se h
  obtain ⟨h2, h4, hk', hg, hc, hx⟩ := id h
  rcases kd_of v1 with z | ⟨z, y⟩ | ⟨z, y, kd, hkd, e⟩
  · exact br_t z (br_t z ⟨rfl, re_in h⟩)
  · exact br_f z (br_f y (br_f z (br_f y ⟨rfl, re_in h⟩)))
  · subst e
    refine xw_alike h2 h4 hk' hg hc hkd z y (fun fz fu nu co be la le ri lf hc' hn => ?_) (fun x x' s cd pf L R Q nu co be la le ri lf rd qu hx1 e1 hM hx2 e2 hM' X => ⟨fun E => ?_, fun E => ?_⟩)
    · exact yw_alike h2 h4 hk' hx hkd z y (fun th ln wo se _ => ⟨rfl, re_in ⟨h2, h4, hk', hg, hc', hx⟩⟩) (fun x x' th ln wo se a1 a2 a3 b1 b2 b3 => absurd ⟨⟨x, a1, a2, a3⟩, x', b1, b2, b3⟩ hn)
    · refine yw_alike h2 h4 hk' hx hkd z y (fun th ln wo se hn => absurd ⟨⟨x, hx1, e1, hM⟩, x', hx2, e2, hM'⟩ hn) (fun a a' th ln wo se a1 a2 a3 b1 b2 b3 => ⟨fun _ => ⟨rfl, re_inX h2 h4 hk' hg X hx⟩, fun E' => absurd ?_ E'⟩)
      have hN := bf_N h2 h4
      have r1 : x = a := (nI_eq (by omega) (by omega)).mp (e1.symm.trans a2)
      have r2 : x' = a' := (nI_eq (by omega) (by omega)).mp (e2.symm.trans b2)
      rw [← r1, ← r2]
      exact E
    · refine yw_alike h2 h4 hk' hx hkd z y (fun th ln wo se hn => absurd ⟨⟨x, hx1, e1, hM⟩, x', hx2, e2, hM'⟩ hn) (fun a a' th ln wo se a1 a2 a3 b1 b2 b3 => ⟨fun E' => absurd ?_ E, fun _ => ⟨rfl, re_inX h2 h4 hk' hg X hx⟩⟩)
      have hN := bf_N h2 h4
      have r1 : x = a := (nI_eq (by omega) (by omega)).mp (e1.symm.trans a2)
      have r2 : x' = a' := (nI_eq (by omega) (by omega)).mp (e2.symm.trans b2)
      rw [r1, r2]
      exact E'
theorem i_vc_ideal {k : Nat} {u : SX} {v : SY} (I : i_Rel k u v) (hk : k + 4 ≤ 2049) (v1 : Int32) (v2 : Int32) : wpX_ideal (fun r u' => wpY_ideal (fun r' v' => r' = r ∧ i_Rel (k + 4) u' v') v v1 v2) u v1 v2 := by
  refine re_el (P := fun u v => wpX_ideal (fun r u' => wpY_ideal (fun r' v' => r' = r ∧ i_Rel (k + 4) u' v') v v1 v2) u v1 v2) ?_ I
  intro n k' gs fz fu ga nu co be la le ri lf pa rd rg qu th ln ne wo se h
  obtain ⟨h2, h4, hk', hg, hc, hx⟩ := id h
  rcases kd_of v1 with z | ⟨z, y⟩ | ⟨z, y, kd, hkd, e⟩
  · exact br_t z (br_t z ⟨rfl, re_in h⟩)
  · exact br_f z (br_f y (br_f z (br_f y ⟨rfl, re_in h⟩)))
  · subst e
    refine xw_ideal h2 h4 hk' hg hc hkd z y (fun fz fu nu co be la le ri lf hc' hn => ?_) (fun x s cd pf L R Q nu co be la le ri lf rd qu hx1 e1 hM X => ?_)
    · exact yw_ideal h2 h4 hk' hx hkd z y (fun th ln wo se _ => ⟨rfl, re_in ⟨h2, h4, hk', hg, hc', hx⟩⟩) (fun x th ln wo se a1 a2 a3 => absurd ⟨x, a1, a2, a3⟩ hn)
    · refine yw_ideal h2 h4 hk' hx hkd z y (fun th ln wo se hn => absurd ⟨x, hx1, e1, hM⟩ hn) (fun a th ln wo se a1 a2 a3 => ⟨?_, re_inX h2 h4 hk' hg X hx⟩)
      have hN := bf_N h2 h4
      have r1 : x = a := (nI_eq (by omega) (by omega)).mp (e1.symm.trans a2)
      rw [r1]
theorem i_vc_kernel {k : Nat} {u : SX} {v : SY} (I : i_Rel k u v) (hk : k + 4 ≤ 2049) : wpX_kernel (fun r u' => wpY_kernel (fun r' v' => r' = r ∧ i_Rel (k + 4) u' v') v) u := by
  refine re_el (P := fun u v => wpX_kernel (fun r u' => wpY_kernel (fun r' v' => r' = r ∧ i_Rel (k + 4) u' v') v) u) ?_ I
  intro n k' gs fz fu ga nu co be la le ri lf pa rd rg qu th ln ne wo se h
  obtain ⟨h2, h4, hk', hg, hc, hx⟩ := h
  unfold wpX_kernel wpY_kernel
  dsimp only
  refine xw_refresh h2 h4 hk' hg hc (fun s cd pf L R Q nu co be la le ri lf X => ?_)
  have hs := X.1.1
  refine ⟨s - 1 + 1, xw_kn8 h2 h4 hk' X (fun a rd qu ha hr => ?_) (s - 1) 1 0 (by omega) (by omega) (fun i hi => by rw [show i = 0 by omega]; exact Nat.le_refl _)⟩
  have hMa : mo_M n k' gs (cd a) := (bf_M X hk').mpr ⟨a, ha, rfl⟩
  have hmin : ∀ x, mo_M n k' gs x → rk n (cd a) ≤ rk n x := by
    intro x hMx
    obtain ⟨i, hi, e⟩ := (bf_M X hk').mp hMx
    rw [← e]
    exact hr i hi
  refine yw_work h2 h4 hk' hx (fun th ln wo Y => ⟨n ^ n + 1, yw_kn11 h2 h4 hk' hx Y (K := cn (id_I n k' gs 2 (cd a)) (n ^ n)) (fun b hb => kn_le h2 h4 hMa hb hmin) ⟨cd a, hMa, rfl⟩ (fun se => ⟨rfl, re_inX h2 h4 hk' hg X hx⟩) (n ^ n) 0 (n ^ n) se (by omega) (cn_le _ _) (Nat.le_refl _) (fun b hb => by omega)⟩)
end
