section
/-! pure rows to paste: stores, nI and lN arithmetic, masks, shifts, narrowing, branches by naturals (pk_le, pk_lt, pk_eq), loops (lp1 .. lp16: the measure of the state; rp1 ..: recursion), negatives. Take what you need -/
theorem pk_us {f : Nat → Int32} {k : Nat} {x : Int32} : upd f k x k = x := if_pos rfl
theorem pk_un {f : Nat → Int32} {k j : Nat} {x : Int32} (h : j ≠ k) : upd f k x j = f j := if_neg h
theorem pk_uLs {f : Nat → Int64} {k : Nat} {x : Int64} : vp_updL f k x k = x := if_pos rfl
theorem pk_uLn {f : Nat → Int64} {k j : Nat} {x : Int64} (h : j ≠ k) : vp_updL f k x j = f j := if_neg h
theorem pk_sub {a b : Nat} (h : b ≤ a) : nI a - nI b = nI (a - b) := by
  obtain ⟨c, rfl⟩ : ∃ c, a = c + b := ⟨a - b, by omega⟩
  rw [← nI_add, Int32.add_sub_cancel, Nat.add_sub_cancel]
theorem pk_m1 (n : Nat) : nI (n + 1) + (-1) = nI n := by
  rw [← nI_1, Int32.add_assoc, show (1 : Int32) + (-1) = 0 from rfl, Int32.add_zero]
theorem pk_mul (a b : Nat) : nI a * nI b = nI (a * b) := (Int32.ofNat_mul a b).symm
theorem pk_div {a d : Nat} (ha : a < 2 ^ 31) (h0 : 0 < d) (hd : d < 2 ^ 31) : nI a / nI d = nI (a / d) := by
  apply Int32.toInt_inj.mp
  rw [lg_idiv_nonneg (by rw [nI_toInt ha]; omega) (by rw [nI_toInt hd]; omega), nI_toInt ha, nI_toInt hd, nI_toInt (Nat.lt_of_le_of_lt (Nat.div_le_self a d) ha)]
  first | rfl | exact (Int.natCast_ediv _ _).symm
theorem pk_rem {a d : Nat} (ha : a < 2 ^ 31) (h0 : 0 < d) (hd : d < 2 ^ 31) : nI a - nI a / nI d * nI d = nI (a % d) := by
  rw [pk_div ha h0 hd, pk_mul, pk_sub (Nat.div_mul_le_self a d)]
  exact congrArg nI (by have := Nat.div_add_mod' a d; omega)
theorem pk_sub_toInt {a b : Nat} (ha : a < 2 ^ 30) (hb : b < 2 ^ 30) : (nI a - nI b).toInt = (a : Int) - b := by
  rw [Int32.toInt_sub, nI_toInt (by omega), nI_toInt (by omega)]
  exact Int.bmod_eq_of_le (by omega) (by omega)
theorem pk_sneg {a b : Nat} (hb : b < 2 ^ 30) (h : a < b) : nI a - nI b < 0 := by
  rw [Int32.lt_iff_toInt_lt, pk_sub_toInt (by omega) hb, show (0 : Int32).toInt = 0 from by decide]
  omega
theorem pk_ix (x : Int32) {n : Nat} (hn : n < 2 ^ 31) : x < 0 ∨ nI n ≤ x ∨ ∃ j : Nat, j < n ∧ x = nI j := by
  by_cases h : x < 0
  · exact Or.inl h
  · obtain ⟨j, hj, rfl⟩ := nI_of h
    by_cases h2 : j < n
    · exact Or.inr (Or.inr ⟨j, h2, rfl⟩)
    · exact Or.inr (Or.inl (nI_le (by omega) hj))
theorem pk_le {x y : Int32} {A B : Prop} (a b : Nat) (f : a ≤ b → A) (g : b < a → B) (hx : x = nI a := by rfl) (hy : y = nI b := by rfl) (ha : a < 2 ^ 31 := by omega) (hb : b < 2 ^ 31 := by omega) : (x ≤ y → A) ∧ (¬ x ≤ y → B) := by
  subst hx hy
  rw [nI_leI ha hb]
  exact ⟨f, fun z => g (by omega)⟩
theorem pk_lt {x y : Int32} {A B : Prop} (a b : Nat) (f : a < b → A) (g : b ≤ a → B) (hx : x = nI a := by rfl) (hy : y = nI b := by rfl) (ha : a < 2 ^ 31 := by omega) (hb : b < 2 ^ 31 := by omega) : (x < y → A) ∧ (¬ x < y → B) := by
  subst hx hy
  rw [nI_ltI ha hb]
  exact ⟨f, fun z => g (by omega)⟩
theorem pk_eq {x y : Int32} {A B : Prop} (a b : Nat) (f : a = b → A) (g : a ≠ b → B) (hx : x = nI a := by rfl) (hy : y = nI b := by rfl) (ha : a < 2 ^ 31 := by omega) (hb : b < 2 ^ 31 := by omega) : (x = y → A) ∧ (¬ x = y → B) := by
  subst hx hy
  rw [nI_eq ha hb]
  exact ⟨f, g⟩
theorem pk_in {x : Int32} (n N : Nat) (h : n < N) (hx : x = nI n := by rfl) (hN : N < 2 ^ 31 := by omega) : vp_in x N := by
  subst hx
  exact vp_in_nI h hN
theorem pk_cl {x : Int32} (n : Nat) (hx : x = nI n := by rfl) (h : n < 2 ^ 31 := by omega) : x.toNatClampNeg = n := by
  subst hx
  exact nI_clamp h
theorem pk_tn {n : Nat} (h : n < 2 ^ 32) : (nI n).toBitVec.toNat = n := Nat.mod_eq_of_lt h
theorem pk_and (x : Int32) {m : Int32} (k : Nat) (hm : m.toBitVec.toNat = 2 ^ k - 1) : x &&& m = nI (x.toBitVec.toNat % 2 ^ k) := by
  apply Int32.toBitVec_inj.mp
  apply BitVec.eq_of_toNat_eq
  rw [Int32.toBitVec_and, BitVec.toNat_and, hm, Nat.and_two_pow_sub_one_eq_mod]
  show _ = (BitVec.ofNat 32 _).toNat
  rw [BitVec.toNat_ofNat]
  exact (Nat.mod_eq_of_lt (Nat.lt_of_le_of_lt (Nat.mod_le _ _) x.toBitVec.isLt)).symm
theorem pk_andN {n : Nat} (h : n < 2 ^ 32) {m : Int32} (k : Nat) (hm : m.toBitVec.toNat = 2 ^ k - 1) : nI n &&& m = nI (n % 2 ^ k) := by
  rw [pk_and _ k hm, pk_tn h]
theorem pk_andE (x : Int32) {m : Int32} (k : Nat) (hm : m.toBitVec.toNat = 2 ^ k - 1) : ∃ j : Nat, j < 2 ^ k ∧ x &&& m = nI j := ⟨_, Nat.mod_lt _ (Nat.two_pow_pos k), pk_and x k hm⟩
theorem pk_andIn (x : Int32) {m : Int32} (k : Nat) (hm : m.toBitVec.toNat = 2 ^ k - 1) (hk : k ≤ 30) : vp_in (x &&& m) (2 ^ k) := by
  obtain ⟨j, hj, e⟩ := pk_andE x k hm
  rw [e]
  exact vp_in_nI hj (Nat.lt_of_le_of_lt (Nat.pow_le_pow_right (by decide) hk) (by decide))
theorem pk_shl (a s : Int32) (k : Nat) (hs : (s.toBitVec.smod 32).toNat = k) : (a <<< s).toBitVec.toNat = a.toBitVec.toNat * 2 ^ k % 2 ^ 32 := by
  show (a.toBitVec <<< (s.toBitVec.smod 32).toNat).toNat = _
  rw [hs, BitVec.toNat_shiftLeft, Nat.shiftLeft_eq]
theorem pk_shlN {n : Nat} (s : Int32) (k : Nat) (hs : (s.toBitVec.smod 32).toNat = k) (h : n * 2 ^ k < 2 ^ 32) : nI n <<< s = nI (n * 2 ^ k) := by
  apply Int32.toBitVec_inj.mp
  apply BitVec.eq_of_toNat_eq
  have hn : n < 2 ^ 32 := Nat.lt_of_le_of_lt (Nat.le_mul_of_pos_right n (Nat.two_pow_pos k)) h
  rw [pk_shl _ _ k hs, pk_tn hn, pk_tn h, Nat.mod_eq_of_lt h]
theorem pk_shr (a s : Int32) (k : Nat) (hs : (s.toBitVec.smod 32).toNat = k) : (a >>> s).toInt = a.toInt >>> k := by
  show (a.toBitVec.sshiftRight (s.toBitVec.smod 32).toNat).toInt = _
  rw [hs, BitVec.toInt_sshiftRight]
  rfl
theorem pk_shrN {n : Nat} (h : n < 2 ^ 31) (s : Int32) (k : Nat) (hs : (s.toBitVec.smod 32).toNat = k) : nI n >>> s = nI (n / 2 ^ k) := by
  apply Int32.toInt_inj.mp
  have h2 : n / 2 ^ k ≤ n := Nat.div_le_self _ _
  rw [pk_shr _ _ k hs, nI_toInt h, nI_toInt (by omega), Int.shiftRight_eq_div_pow]
  rfl
theorem pk_ushr (x s : Int32) (k : Nat) (hs : ((s.toUInt32 &&& Int32.toUInt32 31).toBitVec % 32).toNat = k) : (x.toUInt32 >>> (s.toUInt32 &&& Int32.toUInt32 31)).toInt32.toBitVec.toNat = x.toBitVec.toNat / 2 ^ k := by
  have e : (x.toUInt32 >>> (s.toUInt32 &&& Int32.toUInt32 31)).toInt32.toBitVec = x.toBitVec >>> k := by
    rw [← hs]
    exact UInt32.toBitVec_shiftRight _ _
  rw [e, BitVec.toNat_ushiftRight, Nat.shiftRight_eq_div_pow]
theorem pk_ushrN {n : Nat} (hn : n < 2 ^ 32) (s : Int32) (k : Nat) (hs : ((s.toUInt32 &&& Int32.toUInt32 31).toBitVec % 32).toNat = k) : ((nI n).toUInt32 >>> (s.toUInt32 &&& Int32.toUInt32 31)).toInt32 = nI (n / 2 ^ k) := by
  apply Int32.toBitVec_inj.mp
  apply BitVec.eq_of_toNat_eq
  rw [pk_ushr _ s k hs, pk_tn hn, pk_tn (Nat.lt_of_le_of_lt (Nat.div_le_self _ _) hn)]
theorem pk_nb (z : Int32) : narrow .byte (.int z.toInt8.toInt32) = .int z.toInt8.toInt32 := congrArg Value.int (by simp)
theorem pk_ns (z : Int32) : narrow .short (.int z.toInt16.toInt32) = .int z.toInt16.toInt32 := congrArg Value.int (by simp)
theorem pk_fb (r : Int32) : fits .byte (.int r.toInt8.toInt32) = true := by
  have ⟨a, b⟩ := lg_i2b_range r
  have h1 : (-128 : Int32).toInt = -128 := by decide
  have h2 : (127 : Int32).toInt = 127 := by decide
  simp only [fits, Bool.and_eq_true, decide_eq_true_eq, Int32.le_iff_toInt_le, h1, h2]
  omega
theorem pk_fs (r : Int32) : fits .short (.int r.toInt16.toInt32) = true := by
  have ⟨a, b⟩ := lg_i2s_range r
  have h1 : (-32768 : Int32).toInt = -32768 := by decide
  have h2 : (32767 : Int32).toInt = 32767 := by decide
  simp only [fits, Bool.and_eq_true, decide_eq_true_eq, Int32.le_iff_toInt_le, h1, h2]
  omega
theorem pk_charN {q : Nat} (hq : q < 65536) : narrow .char (.int (nI q)) = .int (nI q) ∧ fits .char (.int (nI q)) = true := by
  constructor
  · have e : (nI q).toUInt32.toUInt16.toUInt32.toInt32 = nI q := by
      apply Int32.toBitVec_inj.mp
      apply BitVec.eq_of_toNat_eq
      show (nI q).toUInt32.toUInt16.toUInt32.toNat = q % 2 ^ 32
      rw [UInt16.toNat_toUInt32, UInt32.toNat_toUInt16, show (nI q).toUInt32.toNat = q % 2 ^ 32 from rfl]
      omega
    exact congrArg Value.int e
  · have a : (0 : Int32) ≤ nI q := nI_pos' (by omega)
    have b : nI q ≤ 65535 := nI_le (b := 65535) (by omega) (by decide)
    show (decide ((0 : Int32) ≤ nI q) && decide (nI q ≤ 65535)) = true
    rw [decide_eq_true a, decide_eq_true b]
    rfl
theorem pk_char (x : Int32) : (x.toUInt32 % 65536).toInt32 = nI (x.toBitVec.toNat % 65536) := by
  apply Int32.toBitVec_inj.mp
  apply BitVec.eq_of_toNat_eq
  rw [pk_tn (by omega)]
  show (x.toUInt32 % 65536).toNat = _
  rw [UInt32.toNat_mod]
  rfl
theorem pk_nc (x : Int32) : narrow .char (.int (x.toUInt32 % 65536).toInt32) = .int (x.toUInt32 % 65536).toInt32 := by
  rw [pk_char]
  exact (pk_charN (Nat.mod_lt _ (by decide))).1
theorem pk_fc (x : Int32) : fits .char (.int (x.toUInt32 % 65536).toInt32) = true := by
  rw [pk_char]
  exact (pk_charN (Nat.mod_lt _ (by decide))).2
theorem pk_vb (z : Int32) : vp_nar .byte z.toInt8.toInt32 = z.toInt8.toInt32 := by rw [vp_nar_byte]; simp
theorem pk_vs (z : Int32) : vp_nar .short z.toInt16.toInt32 = z.toInt16.toInt32 := by rw [vp_nar_short]; simp
theorem pk_vc (z : Int32) : vp_nar .char (z.toUInt32 % 65536).toInt32 = (z.toUInt32 % 65536).toInt32 := Value.int.inj (pk_nc z)
theorem pk_lT {n : Nat} (h : n < 2 ^ 63) : (lN n).toInt = (n : Int) := lg_ofNat_toInt h
theorem pk_lLT {a b : Nat} (ha : a < 2 ^ 63) (hb : b < 2 ^ 63) : lN a < lN b ↔ a < b := by
  rw [Int64.lt_iff_toInt_lt, pk_lT ha, pk_lT hb]; omega
theorem pk_lLE {a b : Nat} (ha : a < 2 ^ 63) (hb : b < 2 ^ 63) : lN a ≤ lN b ↔ a ≤ b := by
  rw [Int64.le_iff_toInt_le, pk_lT ha, pk_lT hb]; omega
theorem pk_lEQ {a b : Nat} (ha : a < 2 ^ 63) (hb : b < 2 ^ 63) : lN a = lN b ↔ a = b := by
  rw [← Int64.toInt_inj, pk_lT ha, pk_lT hb]; omega
theorem pk_lOf {x : Int64} (h : ¬ x < 0) : ∃ k : Nat, k < 2 ^ 63 ∧ x = lN k := by
  rw [Int64.lt_iff_toInt_lt] at h
  have h0 : (0 : Int64).toInt = 0 := by decide
  have hx := Int64.toInt_lt x
  refine ⟨x.toInt.toNat, by omega, Int64.toInt_inj.mp ?_⟩
  rw [pk_lT (by omega)]
  omega
theorem pk_lDiv {a b : Nat} (ha : a < 2 ^ 63) (h0 : 0 < b) (hb : b < 2 ^ 63) : lN a / lN b = lN (a / b) := by
  apply Int64.toInt_inj.mp
  rw [lg_ldiv_nonneg (by rw [pk_lT ha]; omega) (by rw [pk_lT hb]; omega), pk_lT ha, pk_lT hb, pk_lT (Nat.lt_of_le_of_lt (Nat.div_le_self a b) ha)]
  rfl
theorem pk_lRem {a b : Nat} (ha : a < 2 ^ 63) (h0 : 0 < b) (hb : b < 2 ^ 63) : lN a - lN a / lN b * lN b = lN (a % b) := by
  rw [pk_lDiv ha h0 hb, lN_mul, lN_sub (Nat.div_mul_le_self a b)]
  exact congrArg lN (by have := Nat.div_add_mod' a b; omega)
theorem pk_loop {σ : Type} (W : Nat → Nat → σ → Prop) (I : Nat → σ → Prop) (e i0 : Nat) (s : σ) (hi : i0 ≤ e) (h0 : I i0 s) (hx : ∀ n s, I e s → W (n + 1) e s)
    (hs : ∀ n i s, i < e → I i s → (∀ s', I (i + 1) s' → W n (i + 1) s') → W (n + 1) i s) : ∃ n, W n i0 s :=
  ⟨e + 1, loop_i W I e hx hs (e + 1) i0 s hi (by omega) h0⟩
theorem pk_loopD {σ : Type} (W : Nat → Nat → σ → Prop) (I : Nat → σ → Prop) (hx : ∀ n s, I 0 s → W (n + 1) 0 s)
    (hs : ∀ n i s, I (i + 1) s → (∀ s', I i s' → W n i s') → W (n + 1) (i + 1) s) : ∀ (e : Nat) (s : σ), I e s → W (e + 1) e s := by
  intro e
  induction e with
  | zero => exact fun s h => hx 0 s h
  | succ e ih => exact fun s h => hs (e + 1) e s h (fun s' h' => ih s' h')
theorem lp1 {A1 : Type} (W : Nat → A1 → Prop) (I : A1 → Prop) (μ : A1 → Nat) (hs : ∀ (n : Nat) (a1 : A1), I a1 → (∀ (b1 : A1), I b1 → μ b1 < μ a1 → W n b1) → W (n + 1) a1) (a1 : A1) (h : I a1) : ∃ n, W n a1 :=
  loop_m (σ := A1) (fun n s => W n s) (fun s => I s) (fun s => μ s) (fun n s hI hk => hs n s hI (fun b1 h9 hm => hk b1 h9 hm)) a1 h
theorem lp2 {A1 A2 : Type} (W : Nat → A1 → A2 → Prop) (I : A1 → A2 → Prop) (μ : A1 → A2 → Nat) (hs : ∀ (n : Nat) (a1 : A1) (a2 : A2), I a1 a2 → (∀ (b1 : A1) (b2 : A2), I b1 b2 → μ b1 b2 < μ a1 a2 → W n b1 b2) → W (n + 1) a1 a2) (a1 : A1) (a2 : A2) (h : I a1 a2) : ∃ n, W n a1 a2 :=
  loop_m (σ := A1 × A2) (fun n s => W n s.1 s.2) (fun s => I s.1 s.2) (fun s => μ s.1 s.2) (fun n s hI hk => hs n s.1 s.2 hI (fun b1 b2 h9 hm => hk (b1, b2) h9 hm)) (a1, a2) h
theorem lp3 {A1 A2 A3 : Type} (W : Nat → A1 → A2 → A3 → Prop) (I : A1 → A2 → A3 → Prop) (μ : A1 → A2 → A3 → Nat) (hs : ∀ (n : Nat) (a1 : A1) (a2 : A2) (a3 : A3), I a1 a2 a3 → (∀ (b1 : A1) (b2 : A2) (b3 : A3), I b1 b2 b3 → μ b1 b2 b3 < μ a1 a2 a3 → W n b1 b2 b3) → W (n + 1) a1 a2 a3) (a1 : A1) (a2 : A2) (a3 : A3) (h : I a1 a2 a3) : ∃ n, W n a1 a2 a3 :=
  loop_m (σ := A1 × A2 × A3) (fun n s => W n s.1 s.2.1 s.2.2) (fun s => I s.1 s.2.1 s.2.2) (fun s => μ s.1 s.2.1 s.2.2) (fun n s hI hk => hs n s.1 s.2.1 s.2.2 hI (fun b1 b2 b3 h9 hm => hk (b1, b2, b3) h9 hm)) (a1, a2, a3) h
theorem lp4 {A1 A2 A3 A4 : Type} (W : Nat → A1 → A2 → A3 → A4 → Prop) (I : A1 → A2 → A3 → A4 → Prop) (μ : A1 → A2 → A3 → A4 → Nat) (hs : ∀ (n : Nat) (a1 : A1) (a2 : A2) (a3 : A3) (a4 : A4), I a1 a2 a3 a4 → (∀ (b1 : A1) (b2 : A2) (b3 : A3) (b4 : A4), I b1 b2 b3 b4 → μ b1 b2 b3 b4 < μ a1 a2 a3 a4 → W n b1 b2 b3 b4) → W (n + 1) a1 a2 a3 a4) (a1 : A1) (a2 : A2) (a3 : A3) (a4 : A4) (h : I a1 a2 a3 a4) : ∃ n, W n a1 a2 a3 a4 :=
  loop_m (σ := A1 × A2 × A3 × A4) (fun n s => W n s.1 s.2.1 s.2.2.1 s.2.2.2) (fun s => I s.1 s.2.1 s.2.2.1 s.2.2.2) (fun s => μ s.1 s.2.1 s.2.2.1 s.2.2.2) (fun n s hI hk => hs n s.1 s.2.1 s.2.2.1 s.2.2.2 hI (fun b1 b2 b3 b4 h9 hm => hk (b1, b2, b3, b4) h9 hm)) (a1, a2, a3, a4) h
theorem lp5 {A1 A2 A3 A4 A5 : Type} (W : Nat → A1 → A2 → A3 → A4 → A5 → Prop) (I : A1 → A2 → A3 → A4 → A5 → Prop) (μ : A1 → A2 → A3 → A4 → A5 → Nat) (hs : ∀ (n : Nat) (a1 : A1) (a2 : A2) (a3 : A3) (a4 : A4) (a5 : A5), I a1 a2 a3 a4 a5 → (∀ (b1 : A1) (b2 : A2) (b3 : A3) (b4 : A4) (b5 : A5), I b1 b2 b3 b4 b5 → μ b1 b2 b3 b4 b5 < μ a1 a2 a3 a4 a5 → W n b1 b2 b3 b4 b5) → W (n + 1) a1 a2 a3 a4 a5) (a1 : A1) (a2 : A2) (a3 : A3) (a4 : A4) (a5 : A5) (h : I a1 a2 a3 a4 a5) : ∃ n, W n a1 a2 a3 a4 a5 :=
  loop_m (σ := A1 × A2 × A3 × A4 × A5) (fun n s => W n s.1 s.2.1 s.2.2.1 s.2.2.2.1 s.2.2.2.2) (fun s => I s.1 s.2.1 s.2.2.1 s.2.2.2.1 s.2.2.2.2) (fun s => μ s.1 s.2.1 s.2.2.1 s.2.2.2.1 s.2.2.2.2) (fun n s hI hk => hs n s.1 s.2.1 s.2.2.1 s.2.2.2.1 s.2.2.2.2 hI (fun b1 b2 b3 b4 b5 h9 hm => hk (b1, b2, b3, b4, b5) h9 hm)) (a1, a2, a3, a4, a5) h
theorem lp6 {A1 A2 A3 A4 A5 A6 : Type} (W : Nat → A1 → A2 → A3 → A4 → A5 → A6 → Prop) (I : A1 → A2 → A3 → A4 → A5 → A6 → Prop) (μ : A1 → A2 → A3 → A4 → A5 → A6 → Nat) (hs : ∀ (n : Nat) (a1 : A1) (a2 : A2) (a3 : A3) (a4 : A4) (a5 : A5) (a6 : A6), I a1 a2 a3 a4 a5 a6 → (∀ (b1 : A1) (b2 : A2) (b3 : A3) (b4 : A4) (b5 : A5) (b6 : A6), I b1 b2 b3 b4 b5 b6 → μ b1 b2 b3 b4 b5 b6 < μ a1 a2 a3 a4 a5 a6 → W n b1 b2 b3 b4 b5 b6) → W (n + 1) a1 a2 a3 a4 a5 a6) (a1 : A1) (a2 : A2) (a3 : A3) (a4 : A4) (a5 : A5) (a6 : A6) (h : I a1 a2 a3 a4 a5 a6) : ∃ n, W n a1 a2 a3 a4 a5 a6 :=
  loop_m (σ := A1 × A2 × A3 × A4 × A5 × A6) (fun n s => W n s.1 s.2.1 s.2.2.1 s.2.2.2.1 s.2.2.2.2.1 s.2.2.2.2.2) (fun s => I s.1 s.2.1 s.2.2.1 s.2.2.2.1 s.2.2.2.2.1 s.2.2.2.2.2) (fun s => μ s.1 s.2.1 s.2.2.1 s.2.2.2.1 s.2.2.2.2.1 s.2.2.2.2.2) (fun n s hI hk => hs n s.1 s.2.1 s.2.2.1 s.2.2.2.1 s.2.2.2.2.1 s.2.2.2.2.2 hI (fun b1 b2 b3 b4 b5 b6 h9 hm => hk (b1, b2, b3, b4, b5, b6) h9 hm)) (a1, a2, a3, a4, a5, a6) h
theorem lp7 {A1 A2 A3 A4 A5 A6 A7 : Type} (W : Nat → A1 → A2 → A3 → A4 → A5 → A6 → A7 → Prop) (I : A1 → A2 → A3 → A4 → A5 → A6 → A7 → Prop) (μ : A1 → A2 → A3 → A4 → A5 → A6 → A7 → Nat) (hs : ∀ (n : Nat) (a1 : A1) (a2 : A2) (a3 : A3) (a4 : A4) (a5 : A5) (a6 : A6) (a7 : A7), I a1 a2 a3 a4 a5 a6 a7 → (∀ (b1 : A1) (b2 : A2) (b3 : A3) (b4 : A4) (b5 : A5) (b6 : A6) (b7 : A7), I b1 b2 b3 b4 b5 b6 b7 → μ b1 b2 b3 b4 b5 b6 b7 < μ a1 a2 a3 a4 a5 a6 a7 → W n b1 b2 b3 b4 b5 b6 b7) → W (n + 1) a1 a2 a3 a4 a5 a6 a7) (a1 : A1) (a2 : A2) (a3 : A3) (a4 : A4) (a5 : A5) (a6 : A6) (a7 : A7) (h : I a1 a2 a3 a4 a5 a6 a7) : ∃ n, W n a1 a2 a3 a4 a5 a6 a7 :=
  loop_m (σ := A1 × A2 × A3 × A4 × A5 × A6 × A7) (fun n s => W n s.1 s.2.1 s.2.2.1 s.2.2.2.1 s.2.2.2.2.1 s.2.2.2.2.2.1 s.2.2.2.2.2.2) (fun s => I s.1 s.2.1 s.2.2.1 s.2.2.2.1 s.2.2.2.2.1 s.2.2.2.2.2.1 s.2.2.2.2.2.2) (fun s => μ s.1 s.2.1 s.2.2.1 s.2.2.2.1 s.2.2.2.2.1 s.2.2.2.2.2.1 s.2.2.2.2.2.2) (fun n s hI hk => hs n s.1 s.2.1 s.2.2.1 s.2.2.2.1 s.2.2.2.2.1 s.2.2.2.2.2.1 s.2.2.2.2.2.2 hI (fun b1 b2 b3 b4 b5 b6 b7 h9 hm => hk (b1, b2, b3, b4, b5, b6, b7) h9 hm)) (a1, a2, a3, a4, a5, a6, a7) h
theorem lp8 {A1 A2 A3 A4 A5 A6 A7 A8 : Type} (W : Nat → A1 → A2 → A3 → A4 → A5 → A6 → A7 → A8 → Prop) (I : A1 → A2 → A3 → A4 → A5 → A6 → A7 → A8 → Prop) (μ : A1 → A2 → A3 → A4 → A5 → A6 → A7 → A8 → Nat) (hs : ∀ (n : Nat) (a1 : A1) (a2 : A2) (a3 : A3) (a4 : A4) (a5 : A5) (a6 : A6) (a7 : A7) (a8 : A8), I a1 a2 a3 a4 a5 a6 a7 a8 → (∀ (b1 : A1) (b2 : A2) (b3 : A3) (b4 : A4) (b5 : A5) (b6 : A6) (b7 : A7) (b8 : A8), I b1 b2 b3 b4 b5 b6 b7 b8 → μ b1 b2 b3 b4 b5 b6 b7 b8 < μ a1 a2 a3 a4 a5 a6 a7 a8 → W n b1 b2 b3 b4 b5 b6 b7 b8) → W (n + 1) a1 a2 a3 a4 a5 a6 a7 a8) (a1 : A1) (a2 : A2) (a3 : A3) (a4 : A4) (a5 : A5) (a6 : A6) (a7 : A7) (a8 : A8) (h : I a1 a2 a3 a4 a5 a6 a7 a8) : ∃ n, W n a1 a2 a3 a4 a5 a6 a7 a8 :=
  loop_m (σ := A1 × A2 × A3 × A4 × A5 × A6 × A7 × A8) (fun n s => W n s.1 s.2.1 s.2.2.1 s.2.2.2.1 s.2.2.2.2.1 s.2.2.2.2.2.1 s.2.2.2.2.2.2.1 s.2.2.2.2.2.2.2) (fun s => I s.1 s.2.1 s.2.2.1 s.2.2.2.1 s.2.2.2.2.1 s.2.2.2.2.2.1 s.2.2.2.2.2.2.1 s.2.2.2.2.2.2.2) (fun s => μ s.1 s.2.1 s.2.2.1 s.2.2.2.1 s.2.2.2.2.1 s.2.2.2.2.2.1 s.2.2.2.2.2.2.1 s.2.2.2.2.2.2.2) (fun n s hI hk => hs n s.1 s.2.1 s.2.2.1 s.2.2.2.1 s.2.2.2.2.1 s.2.2.2.2.2.1 s.2.2.2.2.2.2.1 s.2.2.2.2.2.2.2 hI (fun b1 b2 b3 b4 b5 b6 b7 b8 h9 hm => hk (b1, b2, b3, b4, b5, b6, b7, b8) h9 hm)) (a1, a2, a3, a4, a5, a6, a7, a8) h
theorem lp9 {A1 A2 A3 A4 A5 A6 A7 A8 A9 : Type} (W : Nat → A1 → A2 → A3 → A4 → A5 → A6 → A7 → A8 → A9 → Prop) (I : A1 → A2 → A3 → A4 → A5 → A6 → A7 → A8 → A9 → Prop) (μ : A1 → A2 → A3 → A4 → A5 → A6 → A7 → A8 → A9 → Nat) (hs : ∀ (n : Nat) (a1 : A1) (a2 : A2) (a3 : A3) (a4 : A4) (a5 : A5) (a6 : A6) (a7 : A7) (a8 : A8) (a9 : A9), I a1 a2 a3 a4 a5 a6 a7 a8 a9 → (∀ (b1 : A1) (b2 : A2) (b3 : A3) (b4 : A4) (b5 : A5) (b6 : A6) (b7 : A7) (b8 : A8) (b9 : A9), I b1 b2 b3 b4 b5 b6 b7 b8 b9 → μ b1 b2 b3 b4 b5 b6 b7 b8 b9 < μ a1 a2 a3 a4 a5 a6 a7 a8 a9 → W n b1 b2 b3 b4 b5 b6 b7 b8 b9) → W (n + 1) a1 a2 a3 a4 a5 a6 a7 a8 a9) (a1 : A1) (a2 : A2) (a3 : A3) (a4 : A4) (a5 : A5) (a6 : A6) (a7 : A7) (a8 : A8) (a9 : A9) (h : I a1 a2 a3 a4 a5 a6 a7 a8 a9) : ∃ n, W n a1 a2 a3 a4 a5 a6 a7 a8 a9 :=
  loop_m (σ := A1 × A2 × A3 × A4 × A5 × A6 × A7 × A8 × A9) (fun n s => W n s.1 s.2.1 s.2.2.1 s.2.2.2.1 s.2.2.2.2.1 s.2.2.2.2.2.1 s.2.2.2.2.2.2.1 s.2.2.2.2.2.2.2.1 s.2.2.2.2.2.2.2.2) (fun s => I s.1 s.2.1 s.2.2.1 s.2.2.2.1 s.2.2.2.2.1 s.2.2.2.2.2.1 s.2.2.2.2.2.2.1 s.2.2.2.2.2.2.2.1 s.2.2.2.2.2.2.2.2) (fun s => μ s.1 s.2.1 s.2.2.1 s.2.2.2.1 s.2.2.2.2.1 s.2.2.2.2.2.1 s.2.2.2.2.2.2.1 s.2.2.2.2.2.2.2.1 s.2.2.2.2.2.2.2.2) (fun n s hI hk => hs n s.1 s.2.1 s.2.2.1 s.2.2.2.1 s.2.2.2.2.1 s.2.2.2.2.2.1 s.2.2.2.2.2.2.1 s.2.2.2.2.2.2.2.1 s.2.2.2.2.2.2.2.2 hI (fun b1 b2 b3 b4 b5 b6 b7 b8 b9 h9 hm => hk (b1, b2, b3, b4, b5, b6, b7, b8, b9) h9 hm)) (a1, a2, a3, a4, a5, a6, a7, a8, a9) h
theorem lp10 {A1 A2 A3 A4 A5 A6 A7 A8 A9 A10 : Type} (W : Nat → A1 → A2 → A3 → A4 → A5 → A6 → A7 → A8 → A9 → A10 → Prop) (I : A1 → A2 → A3 → A4 → A5 → A6 → A7 → A8 → A9 → A10 → Prop) (μ : A1 → A2 → A3 → A4 → A5 → A6 → A7 → A8 → A9 → A10 → Nat) (hs : ∀ (n : Nat) (a1 : A1) (a2 : A2) (a3 : A3) (a4 : A4) (a5 : A5) (a6 : A6) (a7 : A7) (a8 : A8) (a9 : A9) (a10 : A10), I a1 a2 a3 a4 a5 a6 a7 a8 a9 a10 → (∀ (b1 : A1) (b2 : A2) (b3 : A3) (b4 : A4) (b5 : A5) (b6 : A6) (b7 : A7) (b8 : A8) (b9 : A9) (b10 : A10), I b1 b2 b3 b4 b5 b6 b7 b8 b9 b10 → μ b1 b2 b3 b4 b5 b6 b7 b8 b9 b10 < μ a1 a2 a3 a4 a5 a6 a7 a8 a9 a10 → W n b1 b2 b3 b4 b5 b6 b7 b8 b9 b10) → W (n + 1) a1 a2 a3 a4 a5 a6 a7 a8 a9 a10) (a1 : A1) (a2 : A2) (a3 : A3) (a4 : A4) (a5 : A5) (a6 : A6) (a7 : A7) (a8 : A8) (a9 : A9) (a10 : A10) (h : I a1 a2 a3 a4 a5 a6 a7 a8 a9 a10) : ∃ n, W n a1 a2 a3 a4 a5 a6 a7 a8 a9 a10 :=
  loop_m (σ := A1 × A2 × A3 × A4 × A5 × A6 × A7 × A8 × A9 × A10) (fun n s => W n s.1 s.2.1 s.2.2.1 s.2.2.2.1 s.2.2.2.2.1 s.2.2.2.2.2.1 s.2.2.2.2.2.2.1 s.2.2.2.2.2.2.2.1 s.2.2.2.2.2.2.2.2.1 s.2.2.2.2.2.2.2.2.2) (fun s => I s.1 s.2.1 s.2.2.1 s.2.2.2.1 s.2.2.2.2.1 s.2.2.2.2.2.1 s.2.2.2.2.2.2.1 s.2.2.2.2.2.2.2.1 s.2.2.2.2.2.2.2.2.1 s.2.2.2.2.2.2.2.2.2) (fun s => μ s.1 s.2.1 s.2.2.1 s.2.2.2.1 s.2.2.2.2.1 s.2.2.2.2.2.1 s.2.2.2.2.2.2.1 s.2.2.2.2.2.2.2.1 s.2.2.2.2.2.2.2.2.1 s.2.2.2.2.2.2.2.2.2) (fun n s hI hk => hs n s.1 s.2.1 s.2.2.1 s.2.2.2.1 s.2.2.2.2.1 s.2.2.2.2.2.1 s.2.2.2.2.2.2.1 s.2.2.2.2.2.2.2.1 s.2.2.2.2.2.2.2.2.1 s.2.2.2.2.2.2.2.2.2 hI (fun b1 b2 b3 b4 b5 b6 b7 b8 b9 b10 h9 hm => hk (b1, b2, b3, b4, b5, b6, b7, b8, b9, b10) h9 hm)) (a1, a2, a3, a4, a5, a6, a7, a8, a9, a10) h
theorem lp11 {A1 A2 A3 A4 A5 A6 A7 A8 A9 A10 A11 : Type} (W : Nat → A1 → A2 → A3 → A4 → A5 → A6 → A7 → A8 → A9 → A10 → A11 → Prop) (I : A1 → A2 → A3 → A4 → A5 → A6 → A7 → A8 → A9 → A10 → A11 → Prop) (μ : A1 → A2 → A3 → A4 → A5 → A6 → A7 → A8 → A9 → A10 → A11 → Nat) (hs : ∀ (n : Nat) (a1 : A1) (a2 : A2) (a3 : A3) (a4 : A4) (a5 : A5) (a6 : A6) (a7 : A7) (a8 : A8) (a9 : A9) (a10 : A10) (a11 : A11), I a1 a2 a3 a4 a5 a6 a7 a8 a9 a10 a11 → (∀ (b1 : A1) (b2 : A2) (b3 : A3) (b4 : A4) (b5 : A5) (b6 : A6) (b7 : A7) (b8 : A8) (b9 : A9) (b10 : A10) (b11 : A11), I b1 b2 b3 b4 b5 b6 b7 b8 b9 b10 b11 → μ b1 b2 b3 b4 b5 b6 b7 b8 b9 b10 b11 < μ a1 a2 a3 a4 a5 a6 a7 a8 a9 a10 a11 → W n b1 b2 b3 b4 b5 b6 b7 b8 b9 b10 b11) → W (n + 1) a1 a2 a3 a4 a5 a6 a7 a8 a9 a10 a11) (a1 : A1) (a2 : A2) (a3 : A3) (a4 : A4) (a5 : A5) (a6 : A6) (a7 : A7) (a8 : A8) (a9 : A9) (a10 : A10) (a11 : A11) (h : I a1 a2 a3 a4 a5 a6 a7 a8 a9 a10 a11) : ∃ n, W n a1 a2 a3 a4 a5 a6 a7 a8 a9 a10 a11 :=
  loop_m (σ := A1 × A2 × A3 × A4 × A5 × A6 × A7 × A8 × A9 × A10 × A11) (fun n s => W n s.1 s.2.1 s.2.2.1 s.2.2.2.1 s.2.2.2.2.1 s.2.2.2.2.2.1 s.2.2.2.2.2.2.1 s.2.2.2.2.2.2.2.1 s.2.2.2.2.2.2.2.2.1 s.2.2.2.2.2.2.2.2.2.1 s.2.2.2.2.2.2.2.2.2.2) (fun s => I s.1 s.2.1 s.2.2.1 s.2.2.2.1 s.2.2.2.2.1 s.2.2.2.2.2.1 s.2.2.2.2.2.2.1 s.2.2.2.2.2.2.2.1 s.2.2.2.2.2.2.2.2.1 s.2.2.2.2.2.2.2.2.2.1 s.2.2.2.2.2.2.2.2.2.2) (fun s => μ s.1 s.2.1 s.2.2.1 s.2.2.2.1 s.2.2.2.2.1 s.2.2.2.2.2.1 s.2.2.2.2.2.2.1 s.2.2.2.2.2.2.2.1 s.2.2.2.2.2.2.2.2.1 s.2.2.2.2.2.2.2.2.2.1 s.2.2.2.2.2.2.2.2.2.2) (fun n s hI hk => hs n s.1 s.2.1 s.2.2.1 s.2.2.2.1 s.2.2.2.2.1 s.2.2.2.2.2.1 s.2.2.2.2.2.2.1 s.2.2.2.2.2.2.2.1 s.2.2.2.2.2.2.2.2.1 s.2.2.2.2.2.2.2.2.2.1 s.2.2.2.2.2.2.2.2.2.2 hI (fun b1 b2 b3 b4 b5 b6 b7 b8 b9 b10 b11 h9 hm => hk (b1, b2, b3, b4, b5, b6, b7, b8, b9, b10, b11) h9 hm)) (a1, a2, a3, a4, a5, a6, a7, a8, a9, a10, a11) h
theorem lp12 {A1 A2 A3 A4 A5 A6 A7 A8 A9 A10 A11 A12 : Type} (W : Nat → A1 → A2 → A3 → A4 → A5 → A6 → A7 → A8 → A9 → A10 → A11 → A12 → Prop) (I : A1 → A2 → A3 → A4 → A5 → A6 → A7 → A8 → A9 → A10 → A11 → A12 → Prop) (μ : A1 → A2 → A3 → A4 → A5 → A6 → A7 → A8 → A9 → A10 → A11 → A12 → Nat) (hs : ∀ (n : Nat) (a1 : A1) (a2 : A2) (a3 : A3) (a4 : A4) (a5 : A5) (a6 : A6) (a7 : A7) (a8 : A8) (a9 : A9) (a10 : A10) (a11 : A11) (a12 : A12), I a1 a2 a3 a4 a5 a6 a7 a8 a9 a10 a11 a12 → (∀ (b1 : A1) (b2 : A2) (b3 : A3) (b4 : A4) (b5 : A5) (b6 : A6) (b7 : A7) (b8 : A8) (b9 : A9) (b10 : A10) (b11 : A11) (b12 : A12), I b1 b2 b3 b4 b5 b6 b7 b8 b9 b10 b11 b12 → μ b1 b2 b3 b4 b5 b6 b7 b8 b9 b10 b11 b12 < μ a1 a2 a3 a4 a5 a6 a7 a8 a9 a10 a11 a12 → W n b1 b2 b3 b4 b5 b6 b7 b8 b9 b10 b11 b12) → W (n + 1) a1 a2 a3 a4 a5 a6 a7 a8 a9 a10 a11 a12) (a1 : A1) (a2 : A2) (a3 : A3) (a4 : A4) (a5 : A5) (a6 : A6) (a7 : A7) (a8 : A8) (a9 : A9) (a10 : A10) (a11 : A11) (a12 : A12) (h : I a1 a2 a3 a4 a5 a6 a7 a8 a9 a10 a11 a12) : ∃ n, W n a1 a2 a3 a4 a5 a6 a7 a8 a9 a10 a11 a12 :=
  loop_m (σ := A1 × A2 × A3 × A4 × A5 × A6 × A7 × A8 × A9 × A10 × A11 × A12) (fun n s => W n s.1 s.2.1 s.2.2.1 s.2.2.2.1 s.2.2.2.2.1 s.2.2.2.2.2.1 s.2.2.2.2.2.2.1 s.2.2.2.2.2.2.2.1 s.2.2.2.2.2.2.2.2.1 s.2.2.2.2.2.2.2.2.2.1 s.2.2.2.2.2.2.2.2.2.2.1 s.2.2.2.2.2.2.2.2.2.2.2) (fun s => I s.1 s.2.1 s.2.2.1 s.2.2.2.1 s.2.2.2.2.1 s.2.2.2.2.2.1 s.2.2.2.2.2.2.1 s.2.2.2.2.2.2.2.1 s.2.2.2.2.2.2.2.2.1 s.2.2.2.2.2.2.2.2.2.1 s.2.2.2.2.2.2.2.2.2.2.1 s.2.2.2.2.2.2.2.2.2.2.2) (fun s => μ s.1 s.2.1 s.2.2.1 s.2.2.2.1 s.2.2.2.2.1 s.2.2.2.2.2.1 s.2.2.2.2.2.2.1 s.2.2.2.2.2.2.2.1 s.2.2.2.2.2.2.2.2.1 s.2.2.2.2.2.2.2.2.2.1 s.2.2.2.2.2.2.2.2.2.2.1 s.2.2.2.2.2.2.2.2.2.2.2) (fun n s hI hk => hs n s.1 s.2.1 s.2.2.1 s.2.2.2.1 s.2.2.2.2.1 s.2.2.2.2.2.1 s.2.2.2.2.2.2.1 s.2.2.2.2.2.2.2.1 s.2.2.2.2.2.2.2.2.1 s.2.2.2.2.2.2.2.2.2.1 s.2.2.2.2.2.2.2.2.2.2.1 s.2.2.2.2.2.2.2.2.2.2.2 hI (fun b1 b2 b3 b4 b5 b6 b7 b8 b9 b10 b11 b12 h9 hm => hk (b1, b2, b3, b4, b5, b6, b7, b8, b9, b10, b11, b12) h9 hm)) (a1, a2, a3, a4, a5, a6, a7, a8, a9, a10, a11, a12) h
theorem lp13 {A1 A2 A3 A4 A5 A6 A7 A8 A9 A10 A11 A12 A13 : Type} (W : Nat → A1 → A2 → A3 → A4 → A5 → A6 → A7 → A8 → A9 → A10 → A11 → A12 → A13 → Prop) (I : A1 → A2 → A3 → A4 → A5 → A6 → A7 → A8 → A9 → A10 → A11 → A12 → A13 → Prop) (μ : A1 → A2 → A3 → A4 → A5 → A6 → A7 → A8 → A9 → A10 → A11 → A12 → A13 → Nat) (hs : ∀ (n : Nat) (a1 : A1) (a2 : A2) (a3 : A3) (a4 : A4) (a5 : A5) (a6 : A6) (a7 : A7) (a8 : A8) (a9 : A9) (a10 : A10) (a11 : A11) (a12 : A12) (a13 : A13), I a1 a2 a3 a4 a5 a6 a7 a8 a9 a10 a11 a12 a13 → (∀ (b1 : A1) (b2 : A2) (b3 : A3) (b4 : A4) (b5 : A5) (b6 : A6) (b7 : A7) (b8 : A8) (b9 : A9) (b10 : A10) (b11 : A11) (b12 : A12) (b13 : A13), I b1 b2 b3 b4 b5 b6 b7 b8 b9 b10 b11 b12 b13 → μ b1 b2 b3 b4 b5 b6 b7 b8 b9 b10 b11 b12 b13 < μ a1 a2 a3 a4 a5 a6 a7 a8 a9 a10 a11 a12 a13 → W n b1 b2 b3 b4 b5 b6 b7 b8 b9 b10 b11 b12 b13) → W (n + 1) a1 a2 a3 a4 a5 a6 a7 a8 a9 a10 a11 a12 a13) (a1 : A1) (a2 : A2) (a3 : A3) (a4 : A4) (a5 : A5) (a6 : A6) (a7 : A7) (a8 : A8) (a9 : A9) (a10 : A10) (a11 : A11) (a12 : A12) (a13 : A13) (h : I a1 a2 a3 a4 a5 a6 a7 a8 a9 a10 a11 a12 a13) : ∃ n, W n a1 a2 a3 a4 a5 a6 a7 a8 a9 a10 a11 a12 a13 :=
  loop_m (σ := A1 × A2 × A3 × A4 × A5 × A6 × A7 × A8 × A9 × A10 × A11 × A12 × A13) (fun n s => W n s.1 s.2.1 s.2.2.1 s.2.2.2.1 s.2.2.2.2.1 s.2.2.2.2.2.1 s.2.2.2.2.2.2.1 s.2.2.2.2.2.2.2.1 s.2.2.2.2.2.2.2.2.1 s.2.2.2.2.2.2.2.2.2.1 s.2.2.2.2.2.2.2.2.2.2.1 s.2.2.2.2.2.2.2.2.2.2.2.1 s.2.2.2.2.2.2.2.2.2.2.2.2) (fun s => I s.1 s.2.1 s.2.2.1 s.2.2.2.1 s.2.2.2.2.1 s.2.2.2.2.2.1 s.2.2.2.2.2.2.1 s.2.2.2.2.2.2.2.1 s.2.2.2.2.2.2.2.2.1 s.2.2.2.2.2.2.2.2.2.1 s.2.2.2.2.2.2.2.2.2.2.1 s.2.2.2.2.2.2.2.2.2.2.2.1 s.2.2.2.2.2.2.2.2.2.2.2.2) (fun s => μ s.1 s.2.1 s.2.2.1 s.2.2.2.1 s.2.2.2.2.1 s.2.2.2.2.2.1 s.2.2.2.2.2.2.1 s.2.2.2.2.2.2.2.1 s.2.2.2.2.2.2.2.2.1 s.2.2.2.2.2.2.2.2.2.1 s.2.2.2.2.2.2.2.2.2.2.1 s.2.2.2.2.2.2.2.2.2.2.2.1 s.2.2.2.2.2.2.2.2.2.2.2.2) (fun n s hI hk => hs n s.1 s.2.1 s.2.2.1 s.2.2.2.1 s.2.2.2.2.1 s.2.2.2.2.2.1 s.2.2.2.2.2.2.1 s.2.2.2.2.2.2.2.1 s.2.2.2.2.2.2.2.2.1 s.2.2.2.2.2.2.2.2.2.1 s.2.2.2.2.2.2.2.2.2.2.1 s.2.2.2.2.2.2.2.2.2.2.2.1 s.2.2.2.2.2.2.2.2.2.2.2.2 hI (fun b1 b2 b3 b4 b5 b6 b7 b8 b9 b10 b11 b12 b13 h9 hm => hk (b1, b2, b3, b4, b5, b6, b7, b8, b9, b10, b11, b12, b13) h9 hm)) (a1, a2, a3, a4, a5, a6, a7, a8, a9, a10, a11, a12, a13) h
theorem lp14 {A1 A2 A3 A4 A5 A6 A7 A8 A9 A10 A11 A12 A13 A14 : Type} (W : Nat → A1 → A2 → A3 → A4 → A5 → A6 → A7 → A8 → A9 → A10 → A11 → A12 → A13 → A14 → Prop) (I : A1 → A2 → A3 → A4 → A5 → A6 → A7 → A8 → A9 → A10 → A11 → A12 → A13 → A14 → Prop) (μ : A1 → A2 → A3 → A4 → A5 → A6 → A7 → A8 → A9 → A10 → A11 → A12 → A13 → A14 → Nat) (hs : ∀ (n : Nat) (a1 : A1) (a2 : A2) (a3 : A3) (a4 : A4) (a5 : A5) (a6 : A6) (a7 : A7) (a8 : A8) (a9 : A9) (a10 : A10) (a11 : A11) (a12 : A12) (a13 : A13) (a14 : A14), I a1 a2 a3 a4 a5 a6 a7 a8 a9 a10 a11 a12 a13 a14 → (∀ (b1 : A1) (b2 : A2) (b3 : A3) (b4 : A4) (b5 : A5) (b6 : A6) (b7 : A7) (b8 : A8) (b9 : A9) (b10 : A10) (b11 : A11) (b12 : A12) (b13 : A13) (b14 : A14), I b1 b2 b3 b4 b5 b6 b7 b8 b9 b10 b11 b12 b13 b14 → μ b1 b2 b3 b4 b5 b6 b7 b8 b9 b10 b11 b12 b13 b14 < μ a1 a2 a3 a4 a5 a6 a7 a8 a9 a10 a11 a12 a13 a14 → W n b1 b2 b3 b4 b5 b6 b7 b8 b9 b10 b11 b12 b13 b14) → W (n + 1) a1 a2 a3 a4 a5 a6 a7 a8 a9 a10 a11 a12 a13 a14) (a1 : A1) (a2 : A2) (a3 : A3) (a4 : A4) (a5 : A5) (a6 : A6) (a7 : A7) (a8 : A8) (a9 : A9) (a10 : A10) (a11 : A11) (a12 : A12) (a13 : A13) (a14 : A14) (h : I a1 a2 a3 a4 a5 a6 a7 a8 a9 a10 a11 a12 a13 a14) : ∃ n, W n a1 a2 a3 a4 a5 a6 a7 a8 a9 a10 a11 a12 a13 a14 :=
  loop_m (σ := A1 × A2 × A3 × A4 × A5 × A6 × A7 × A8 × A9 × A10 × A11 × A12 × A13 × A14) (fun n s => W n s.1 s.2.1 s.2.2.1 s.2.2.2.1 s.2.2.2.2.1 s.2.2.2.2.2.1 s.2.2.2.2.2.2.1 s.2.2.2.2.2.2.2.1 s.2.2.2.2.2.2.2.2.1 s.2.2.2.2.2.2.2.2.2.1 s.2.2.2.2.2.2.2.2.2.2.1 s.2.2.2.2.2.2.2.2.2.2.2.1 s.2.2.2.2.2.2.2.2.2.2.2.2.1 s.2.2.2.2.2.2.2.2.2.2.2.2.2) (fun s => I s.1 s.2.1 s.2.2.1 s.2.2.2.1 s.2.2.2.2.1 s.2.2.2.2.2.1 s.2.2.2.2.2.2.1 s.2.2.2.2.2.2.2.1 s.2.2.2.2.2.2.2.2.1 s.2.2.2.2.2.2.2.2.2.1 s.2.2.2.2.2.2.2.2.2.2.1 s.2.2.2.2.2.2.2.2.2.2.2.1 s.2.2.2.2.2.2.2.2.2.2.2.2.1 s.2.2.2.2.2.2.2.2.2.2.2.2.2) (fun s => μ s.1 s.2.1 s.2.2.1 s.2.2.2.1 s.2.2.2.2.1 s.2.2.2.2.2.1 s.2.2.2.2.2.2.1 s.2.2.2.2.2.2.2.1 s.2.2.2.2.2.2.2.2.1 s.2.2.2.2.2.2.2.2.2.1 s.2.2.2.2.2.2.2.2.2.2.1 s.2.2.2.2.2.2.2.2.2.2.2.1 s.2.2.2.2.2.2.2.2.2.2.2.2.1 s.2.2.2.2.2.2.2.2.2.2.2.2.2) (fun n s hI hk => hs n s.1 s.2.1 s.2.2.1 s.2.2.2.1 s.2.2.2.2.1 s.2.2.2.2.2.1 s.2.2.2.2.2.2.1 s.2.2.2.2.2.2.2.1 s.2.2.2.2.2.2.2.2.1 s.2.2.2.2.2.2.2.2.2.1 s.2.2.2.2.2.2.2.2.2.2.1 s.2.2.2.2.2.2.2.2.2.2.2.1 s.2.2.2.2.2.2.2.2.2.2.2.2.1 s.2.2.2.2.2.2.2.2.2.2.2.2.2 hI (fun b1 b2 b3 b4 b5 b6 b7 b8 b9 b10 b11 b12 b13 b14 h9 hm => hk (b1, b2, b3, b4, b5, b6, b7, b8, b9, b10, b11, b12, b13, b14) h9 hm)) (a1, a2, a3, a4, a5, a6, a7, a8, a9, a10, a11, a12, a13, a14) h
theorem lp15 {A1 A2 A3 A4 A5 A6 A7 A8 A9 A10 A11 A12 A13 A14 A15 : Type} (W : Nat → A1 → A2 → A3 → A4 → A5 → A6 → A7 → A8 → A9 → A10 → A11 → A12 → A13 → A14 → A15 → Prop) (I : A1 → A2 → A3 → A4 → A5 → A6 → A7 → A8 → A9 → A10 → A11 → A12 → A13 → A14 → A15 → Prop) (μ : A1 → A2 → A3 → A4 → A5 → A6 → A7 → A8 → A9 → A10 → A11 → A12 → A13 → A14 → A15 → Nat) (hs : ∀ (n : Nat) (a1 : A1) (a2 : A2) (a3 : A3) (a4 : A4) (a5 : A5) (a6 : A6) (a7 : A7) (a8 : A8) (a9 : A9) (a10 : A10) (a11 : A11) (a12 : A12) (a13 : A13) (a14 : A14) (a15 : A15), I a1 a2 a3 a4 a5 a6 a7 a8 a9 a10 a11 a12 a13 a14 a15 → (∀ (b1 : A1) (b2 : A2) (b3 : A3) (b4 : A4) (b5 : A5) (b6 : A6) (b7 : A7) (b8 : A8) (b9 : A9) (b10 : A10) (b11 : A11) (b12 : A12) (b13 : A13) (b14 : A14) (b15 : A15), I b1 b2 b3 b4 b5 b6 b7 b8 b9 b10 b11 b12 b13 b14 b15 → μ b1 b2 b3 b4 b5 b6 b7 b8 b9 b10 b11 b12 b13 b14 b15 < μ a1 a2 a3 a4 a5 a6 a7 a8 a9 a10 a11 a12 a13 a14 a15 → W n b1 b2 b3 b4 b5 b6 b7 b8 b9 b10 b11 b12 b13 b14 b15) → W (n + 1) a1 a2 a3 a4 a5 a6 a7 a8 a9 a10 a11 a12 a13 a14 a15) (a1 : A1) (a2 : A2) (a3 : A3) (a4 : A4) (a5 : A5) (a6 : A6) (a7 : A7) (a8 : A8) (a9 : A9) (a10 : A10) (a11 : A11) (a12 : A12) (a13 : A13) (a14 : A14) (a15 : A15) (h : I a1 a2 a3 a4 a5 a6 a7 a8 a9 a10 a11 a12 a13 a14 a15) : ∃ n, W n a1 a2 a3 a4 a5 a6 a7 a8 a9 a10 a11 a12 a13 a14 a15 :=
  loop_m (σ := A1 × A2 × A3 × A4 × A5 × A6 × A7 × A8 × A9 × A10 × A11 × A12 × A13 × A14 × A15) (fun n s => W n s.1 s.2.1 s.2.2.1 s.2.2.2.1 s.2.2.2.2.1 s.2.2.2.2.2.1 s.2.2.2.2.2.2.1 s.2.2.2.2.2.2.2.1 s.2.2.2.2.2.2.2.2.1 s.2.2.2.2.2.2.2.2.2.1 s.2.2.2.2.2.2.2.2.2.2.1 s.2.2.2.2.2.2.2.2.2.2.2.1 s.2.2.2.2.2.2.2.2.2.2.2.2.1 s.2.2.2.2.2.2.2.2.2.2.2.2.2.1 s.2.2.2.2.2.2.2.2.2.2.2.2.2.2) (fun s => I s.1 s.2.1 s.2.2.1 s.2.2.2.1 s.2.2.2.2.1 s.2.2.2.2.2.1 s.2.2.2.2.2.2.1 s.2.2.2.2.2.2.2.1 s.2.2.2.2.2.2.2.2.1 s.2.2.2.2.2.2.2.2.2.1 s.2.2.2.2.2.2.2.2.2.2.1 s.2.2.2.2.2.2.2.2.2.2.2.1 s.2.2.2.2.2.2.2.2.2.2.2.2.1 s.2.2.2.2.2.2.2.2.2.2.2.2.2.1 s.2.2.2.2.2.2.2.2.2.2.2.2.2.2) (fun s => μ s.1 s.2.1 s.2.2.1 s.2.2.2.1 s.2.2.2.2.1 s.2.2.2.2.2.1 s.2.2.2.2.2.2.1 s.2.2.2.2.2.2.2.1 s.2.2.2.2.2.2.2.2.1 s.2.2.2.2.2.2.2.2.2.1 s.2.2.2.2.2.2.2.2.2.2.1 s.2.2.2.2.2.2.2.2.2.2.2.1 s.2.2.2.2.2.2.2.2.2.2.2.2.1 s.2.2.2.2.2.2.2.2.2.2.2.2.2.1 s.2.2.2.2.2.2.2.2.2.2.2.2.2.2) (fun n s hI hk => hs n s.1 s.2.1 s.2.2.1 s.2.2.2.1 s.2.2.2.2.1 s.2.2.2.2.2.1 s.2.2.2.2.2.2.1 s.2.2.2.2.2.2.2.1 s.2.2.2.2.2.2.2.2.1 s.2.2.2.2.2.2.2.2.2.1 s.2.2.2.2.2.2.2.2.2.2.1 s.2.2.2.2.2.2.2.2.2.2.2.1 s.2.2.2.2.2.2.2.2.2.2.2.2.1 s.2.2.2.2.2.2.2.2.2.2.2.2.2.1 s.2.2.2.2.2.2.2.2.2.2.2.2.2.2 hI (fun b1 b2 b3 b4 b5 b6 b7 b8 b9 b10 b11 b12 b13 b14 b15 h9 hm => hk (b1, b2, b3, b4, b5, b6, b7, b8, b9, b10, b11, b12, b13, b14, b15) h9 hm)) (a1, a2, a3, a4, a5, a6, a7, a8, a9, a10, a11, a12, a13, a14, a15) h
theorem lp16 {A1 A2 A3 A4 A5 A6 A7 A8 A9 A10 A11 A12 A13 A14 A15 A16 : Type} (W : Nat → A1 → A2 → A3 → A4 → A5 → A6 → A7 → A8 → A9 → A10 → A11 → A12 → A13 → A14 → A15 → A16 → Prop) (I : A1 → A2 → A3 → A4 → A5 → A6 → A7 → A8 → A9 → A10 → A11 → A12 → A13 → A14 → A15 → A16 → Prop) (μ : A1 → A2 → A3 → A4 → A5 → A6 → A7 → A8 → A9 → A10 → A11 → A12 → A13 → A14 → A15 → A16 → Nat) (hs : ∀ (n : Nat) (a1 : A1) (a2 : A2) (a3 : A3) (a4 : A4) (a5 : A5) (a6 : A6) (a7 : A7) (a8 : A8) (a9 : A9) (a10 : A10) (a11 : A11) (a12 : A12) (a13 : A13) (a14 : A14) (a15 : A15) (a16 : A16), I a1 a2 a3 a4 a5 a6 a7 a8 a9 a10 a11 a12 a13 a14 a15 a16 → (∀ (b1 : A1) (b2 : A2) (b3 : A3) (b4 : A4) (b5 : A5) (b6 : A6) (b7 : A7) (b8 : A8) (b9 : A9) (b10 : A10) (b11 : A11) (b12 : A12) (b13 : A13) (b14 : A14) (b15 : A15) (b16 : A16), I b1 b2 b3 b4 b5 b6 b7 b8 b9 b10 b11 b12 b13 b14 b15 b16 → μ b1 b2 b3 b4 b5 b6 b7 b8 b9 b10 b11 b12 b13 b14 b15 b16 < μ a1 a2 a3 a4 a5 a6 a7 a8 a9 a10 a11 a12 a13 a14 a15 a16 → W n b1 b2 b3 b4 b5 b6 b7 b8 b9 b10 b11 b12 b13 b14 b15 b16) → W (n + 1) a1 a2 a3 a4 a5 a6 a7 a8 a9 a10 a11 a12 a13 a14 a15 a16) (a1 : A1) (a2 : A2) (a3 : A3) (a4 : A4) (a5 : A5) (a6 : A6) (a7 : A7) (a8 : A8) (a9 : A9) (a10 : A10) (a11 : A11) (a12 : A12) (a13 : A13) (a14 : A14) (a15 : A15) (a16 : A16) (h : I a1 a2 a3 a4 a5 a6 a7 a8 a9 a10 a11 a12 a13 a14 a15 a16) : ∃ n, W n a1 a2 a3 a4 a5 a6 a7 a8 a9 a10 a11 a12 a13 a14 a15 a16 :=
  loop_m (σ := A1 × A2 × A3 × A4 × A5 × A6 × A7 × A8 × A9 × A10 × A11 × A12 × A13 × A14 × A15 × A16) (fun n s => W n s.1 s.2.1 s.2.2.1 s.2.2.2.1 s.2.2.2.2.1 s.2.2.2.2.2.1 s.2.2.2.2.2.2.1 s.2.2.2.2.2.2.2.1 s.2.2.2.2.2.2.2.2.1 s.2.2.2.2.2.2.2.2.2.1 s.2.2.2.2.2.2.2.2.2.2.1 s.2.2.2.2.2.2.2.2.2.2.2.1 s.2.2.2.2.2.2.2.2.2.2.2.2.1 s.2.2.2.2.2.2.2.2.2.2.2.2.2.1 s.2.2.2.2.2.2.2.2.2.2.2.2.2.2.1 s.2.2.2.2.2.2.2.2.2.2.2.2.2.2.2) (fun s => I s.1 s.2.1 s.2.2.1 s.2.2.2.1 s.2.2.2.2.1 s.2.2.2.2.2.1 s.2.2.2.2.2.2.1 s.2.2.2.2.2.2.2.1 s.2.2.2.2.2.2.2.2.1 s.2.2.2.2.2.2.2.2.2.1 s.2.2.2.2.2.2.2.2.2.2.1 s.2.2.2.2.2.2.2.2.2.2.2.1 s.2.2.2.2.2.2.2.2.2.2.2.2.1 s.2.2.2.2.2.2.2.2.2.2.2.2.2.1 s.2.2.2.2.2.2.2.2.2.2.2.2.2.2.1 s.2.2.2.2.2.2.2.2.2.2.2.2.2.2.2) (fun s => μ s.1 s.2.1 s.2.2.1 s.2.2.2.1 s.2.2.2.2.1 s.2.2.2.2.2.1 s.2.2.2.2.2.2.1 s.2.2.2.2.2.2.2.1 s.2.2.2.2.2.2.2.2.1 s.2.2.2.2.2.2.2.2.2.1 s.2.2.2.2.2.2.2.2.2.2.1 s.2.2.2.2.2.2.2.2.2.2.2.1 s.2.2.2.2.2.2.2.2.2.2.2.2.1 s.2.2.2.2.2.2.2.2.2.2.2.2.2.1 s.2.2.2.2.2.2.2.2.2.2.2.2.2.2.1 s.2.2.2.2.2.2.2.2.2.2.2.2.2.2.2) (fun n s hI hk => hs n s.1 s.2.1 s.2.2.1 s.2.2.2.1 s.2.2.2.2.1 s.2.2.2.2.2.1 s.2.2.2.2.2.2.1 s.2.2.2.2.2.2.2.1 s.2.2.2.2.2.2.2.2.1 s.2.2.2.2.2.2.2.2.2.1 s.2.2.2.2.2.2.2.2.2.2.1 s.2.2.2.2.2.2.2.2.2.2.2.1 s.2.2.2.2.2.2.2.2.2.2.2.2.1 s.2.2.2.2.2.2.2.2.2.2.2.2.2.1 s.2.2.2.2.2.2.2.2.2.2.2.2.2.2.1 s.2.2.2.2.2.2.2.2.2.2.2.2.2.2.2 hI (fun b1 b2 b3 b4 b5 b6 b7 b8 b9 b10 b11 b12 b13 b14 b15 b16 h9 hm => hk (b1, b2, b3, b4, b5, b6, b7, b8, b9, b10, b11, b12, b13, b14, b15, b16) h9 hm)) (a1, a2, a3, a4, a5, a6, a7, a8, a9, a10, a11, a12, a13, a14, a15, a16) h
theorem pk_least (P : Nat → Prop) (h : ∃ k, P k) : ∃ k, P k ∧ ∀ j, j < k → ¬ P j := by
  obtain ⟨k, hk⟩ := h
  induction k using Nat.strongRecOn with
  | ind k ih =>
    by_cases e : ∃ j, j < k ∧ P j
    · obtain ⟨j, hj, pj⟩ := e
      exact ih j hj pj
    · exact ⟨k, hk, fun j hj pj => e ⟨j, hj, pj⟩⟩
theorem rp1 {ρ A1 : Type} (W : Nat → (ρ → Prop) → A1 → Prop) (ok : A1 → Prop) (μ : A1 → Nat) (val : A1 → ρ)
    (hs : ∀ (d : Nat) (post : ρ → Prop) (a1 : A1), ok a1 → post (val a1) → (∀ (post' : ρ → Prop) (b1 : A1), ok b1 → μ b1 < μ a1 → post' (val b1) → W d post' b1) → W (d + 1) post a1) :
    ∀ (d : Nat) (post : ρ → Prop) (a1 : A1), ok a1 → μ a1 < d → post (val a1) → W d post a1 := by
  intro d
  induction d with
  | zero => intro post a1 _ h; omega
  | succ d ih =>
    intro post a1 ho hm hp
    exact hs d post a1 ho hp (fun post' b1 ho' hm' hp' => ih post' b1 ho' (by omega) hp')
theorem rp2 {ρ A1 A2 : Type} (W : Nat → (ρ → Prop) → A1 → A2 → Prop) (ok : A1 → A2 → Prop) (μ : A1 → A2 → Nat) (val : A1 → A2 → ρ)
    (hs : ∀ (d : Nat) (post : ρ → Prop) (a1 : A1) (a2 : A2), ok a1 a2 → post (val a1 a2) → (∀ (post' : ρ → Prop) (b1 : A1) (b2 : A2), ok b1 b2 → μ b1 b2 < μ a1 a2 → post' (val b1 b2) → W d post' b1 b2) → W (d + 1) post a1 a2) :
    ∀ (d : Nat) (post : ρ → Prop) (a1 : A1) (a2 : A2), ok a1 a2 → μ a1 a2 < d → post (val a1 a2) → W d post a1 a2 := by
  intro d
  induction d with
  | zero => intro post a1 a2 _ h; omega
  | succ d ih =>
    intro post a1 a2 ho hm hp
    exact hs d post a1 a2 ho hp (fun post' b1 b2 ho' hm' hp' => ih post' b1 b2 ho' (by omega) hp')
theorem rp3 {ρ A1 A2 A3 : Type} (W : Nat → (ρ → Prop) → A1 → A2 → A3 → Prop) (ok : A1 → A2 → A3 → Prop) (μ : A1 → A2 → A3 → Nat) (val : A1 → A2 → A3 → ρ)
    (hs : ∀ (d : Nat) (post : ρ → Prop) (a1 : A1) (a2 : A2) (a3 : A3), ok a1 a2 a3 → post (val a1 a2 a3) → (∀ (post' : ρ → Prop) (b1 : A1) (b2 : A2) (b3 : A3), ok b1 b2 b3 → μ b1 b2 b3 < μ a1 a2 a3 → post' (val b1 b2 b3) → W d post' b1 b2 b3) → W (d + 1) post a1 a2 a3) :
    ∀ (d : Nat) (post : ρ → Prop) (a1 : A1) (a2 : A2) (a3 : A3), ok a1 a2 a3 → μ a1 a2 a3 < d → post (val a1 a2 a3) → W d post a1 a2 a3 := by
  intro d
  induction d with
  | zero => intro post a1 a2 a3 _ h; omega
  | succ d ih =>
    intro post a1 a2 a3 ho hm hp
    exact hs d post a1 a2 a3 ho hp (fun post' b1 b2 b3 ho' hm' hp' => ih post' b1 b2 b3 ho' (by omega) hp')
theorem rp4 {ρ A1 A2 A3 A4 : Type} (W : Nat → (ρ → Prop) → A1 → A2 → A3 → A4 → Prop) (ok : A1 → A2 → A3 → A4 → Prop) (μ : A1 → A2 → A3 → A4 → Nat) (val : A1 → A2 → A3 → A4 → ρ)
    (hs : ∀ (d : Nat) (post : ρ → Prop) (a1 : A1) (a2 : A2) (a3 : A3) (a4 : A4), ok a1 a2 a3 a4 → post (val a1 a2 a3 a4) → (∀ (post' : ρ → Prop) (b1 : A1) (b2 : A2) (b3 : A3) (b4 : A4), ok b1 b2 b3 b4 → μ b1 b2 b3 b4 < μ a1 a2 a3 a4 → post' (val b1 b2 b3 b4) → W d post' b1 b2 b3 b4) → W (d + 1) post a1 a2 a3 a4) :
    ∀ (d : Nat) (post : ρ → Prop) (a1 : A1) (a2 : A2) (a3 : A3) (a4 : A4), ok a1 a2 a3 a4 → μ a1 a2 a3 a4 < d → post (val a1 a2 a3 a4) → W d post a1 a2 a3 a4 := by
  intro d
  induction d with
  | zero => intro post a1 a2 a3 a4 _ h; omega
  | succ d ih =>
    intro post a1 a2 a3 a4 ho hm hp
    exact hs d post a1 a2 a3 a4 ho hp (fun post' b1 b2 b3 b4 ho' hm' hp' => ih post' b1 b2 b3 b4 ho' (by omega) hp')
theorem rp5 {ρ A1 A2 A3 A4 A5 : Type} (W : Nat → (ρ → Prop) → A1 → A2 → A3 → A4 → A5 → Prop) (ok : A1 → A2 → A3 → A4 → A5 → Prop) (μ : A1 → A2 → A3 → A4 → A5 → Nat) (val : A1 → A2 → A3 → A4 → A5 → ρ)
    (hs : ∀ (d : Nat) (post : ρ → Prop) (a1 : A1) (a2 : A2) (a3 : A3) (a4 : A4) (a5 : A5), ok a1 a2 a3 a4 a5 → post (val a1 a2 a3 a4 a5) → (∀ (post' : ρ → Prop) (b1 : A1) (b2 : A2) (b3 : A3) (b4 : A4) (b5 : A5), ok b1 b2 b3 b4 b5 → μ b1 b2 b3 b4 b5 < μ a1 a2 a3 a4 a5 → post' (val b1 b2 b3 b4 b5) → W d post' b1 b2 b3 b4 b5) → W (d + 1) post a1 a2 a3 a4 a5) :
    ∀ (d : Nat) (post : ρ → Prop) (a1 : A1) (a2 : A2) (a3 : A3) (a4 : A4) (a5 : A5), ok a1 a2 a3 a4 a5 → μ a1 a2 a3 a4 a5 < d → post (val a1 a2 a3 a4 a5) → W d post a1 a2 a3 a4 a5 := by
  intro d
  induction d with
  | zero => intro post a1 a2 a3 a4 a5 _ h; omega
  | succ d ih =>
    intro post a1 a2 a3 a4 a5 ho hm hp
    exact hs d post a1 a2 a3 a4 a5 ho hp (fun post' b1 b2 b3 b4 b5 ho' hm' hp' => ih post' b1 b2 b3 b4 b5 ho' (by omega) hp')
theorem rp6 {ρ A1 A2 A3 A4 A5 A6 : Type} (W : Nat → (ρ → Prop) → A1 → A2 → A3 → A4 → A5 → A6 → Prop) (ok : A1 → A2 → A3 → A4 → A5 → A6 → Prop) (μ : A1 → A2 → A3 → A4 → A5 → A6 → Nat) (val : A1 → A2 → A3 → A4 → A5 → A6 → ρ)
    (hs : ∀ (d : Nat) (post : ρ → Prop) (a1 : A1) (a2 : A2) (a3 : A3) (a4 : A4) (a5 : A5) (a6 : A6), ok a1 a2 a3 a4 a5 a6 → post (val a1 a2 a3 a4 a5 a6) → (∀ (post' : ρ → Prop) (b1 : A1) (b2 : A2) (b3 : A3) (b4 : A4) (b5 : A5) (b6 : A6), ok b1 b2 b3 b4 b5 b6 → μ b1 b2 b3 b4 b5 b6 < μ a1 a2 a3 a4 a5 a6 → post' (val b1 b2 b3 b4 b5 b6) → W d post' b1 b2 b3 b4 b5 b6) → W (d + 1) post a1 a2 a3 a4 a5 a6) :
    ∀ (d : Nat) (post : ρ → Prop) (a1 : A1) (a2 : A2) (a3 : A3) (a4 : A4) (a5 : A5) (a6 : A6), ok a1 a2 a3 a4 a5 a6 → μ a1 a2 a3 a4 a5 a6 < d → post (val a1 a2 a3 a4 a5 a6) → W d post a1 a2 a3 a4 a5 a6 := by
  intro d
  induction d with
  | zero => intro post a1 a2 a3 a4 a5 a6 _ h; omega
  | succ d ih =>
    intro post a1 a2 a3 a4 a5 a6 ho hm hp
    exact hs d post a1 a2 a3 a4 a5 a6 ho hp (fun post' b1 b2 b3 b4 b5 b6 ho' hm' hp' => ih post' b1 b2 b3 b4 b5 b6 ho' (by omega) hp')
theorem rec_p {σ ρ : Type} (W : Nat → (ρ → Prop) → σ → Prop) (ok : σ → Prop) (μ : σ → Nat) (val : σ → ρ)
    (hs : ∀ d s post, ok s → post (val s) → (∀ s' post', ok s' → μ s' < μ s → post' (val s') → W d post' s') → W (d + 1) post s) :
    ∀ d s post, ok s → μ s < d → post (val s) → W d post s := by
  intro d
  induction d with
  | zero => intro s post _ h; omega
  | succ d ih =>
    intro s post ho hm hp
    exact hs d s post ho hp (fun s' post' ho' hm' hp' => ih s' post' ho' (by omega) hp')
theorem rec_q {σ ρ : Type} (W : Nat → (ρ → Prop) → σ → Prop) (ok : σ → Prop) (μ : σ → Nat) (Q : σ → ρ → Prop)
    (hs : ∀ d s post, ok s → (∀ r, Q s r → post r) → (∀ s' post', ok s' → μ s' < μ s → (∀ r, Q s' r → post' r) → W d post' s') → W (d + 1) post s) :
    ∀ d s post, ok s → μ s < d → (∀ r, Q s r → post r) → W d post s := by
  intro d
  induction d with
  | zero => intro s post _ h; omega
  | succ d ih =>
    intro s post ho hm hp
    exact hs d s post ho hp (fun s' post' ho' hm' hp' => ih s' post' ho' (by omega) hp')
def bx_sum (f : Nat → Int32) : Nat → Int32
  | 0 => 0
  | n + 1 => bx_sum f n + f n
theorem ek_u {A : Prop} {B : Nat → Prop} {k N : Nat} (hk : k < N) (h : B k) : (some k = none → A) ∧ (∀ y : Nat, some k = some y → (y < N ∧ B y)) :=
  ⟨fun z => absurd z (Option.some_ne_none k), fun _ e => (by cases e; exact ⟨hk, h⟩)⟩
theorem ek_nu {A : Prop} {B : Nat → Prop} (h : A) : ((none : Option Nat) = none → A) ∧ (∀ y : Nat, (none : Option Nat) = some y → B y) :=
  ⟨fun _ => h, fun _ e => (by cases e)⟩
theorem ek_if {c d A B : Prop} (e : c ↔ d) (f : d → A) (g : ¬ d → B) : (c → A) ∧ (¬ c → B) :=
  ⟨fun z => f (e.mp z), fun z => g (fun y => z (e.mpr y))⟩
theorem ek_v {α : Sort _} {P : α → Prop} {a b : α} (e : a = b) (h : P b) : P a := e ▸ h
theorem co_some {x : Option Nat} {A : Prop} {B : Nat → Prop} (i : Nat) (h : B i) (hx : x = some i := by rfl) : (x = none → A) ∧ (∀ y : Nat, x = some y → B y) := by
  subst hx
  exact ⟨fun e => (nomatch e), fun y e => Option.some.inj e ▸ h⟩
theorem co_none {x : Option Nat} {A : Prop} {B : Nat → Prop} (h : A) (hx : x = none := by rfl) : (x = none → A) ∧ (∀ y : Nat, x = some y → B y) := by
  subst hx
  exact ⟨fun _ => h, fun y e => (nomatch e)⟩
theorem co_any {x : Option Nat} {A : Prop} {B : Nat → Prop} (hn : x = none → A) (hs : ∀ i : Nat, x = some i → B i) : (x = none → A) ∧ (∀ y : Nat, x = some y → B y) := ⟨hn, hs⟩
theorem co_2 {P : Nat → Prop} (h0 : P 0) (h1 : P 1) {i : Nat} (hi : i < 2) : P i :=
  match i, hi with
  | 0, _ => h0
  | 1, _ => h1
theorem co_3 {P : Nat → Prop} (h0 : P 0) (h1 : P 1) (h2 : P 2) {i : Nat} (hi : i < 3) : P i :=
  match i, hi with
  | 0, _ => h0
  | 1, _ => h1
  | 2, _ => h2
theorem co_4 {P : Nat → Prop} (h0 : P 0) (h1 : P 1) (h2 : P 2) (h3 : P 3) {i : Nat} (hi : i < 4) : P i :=
  match i, hi with
  | 0, _ => h0
  | 1, _ => h1
  | 2, _ => h2
  | 3, _ => h3
theorem co_dec {N : Nat} {P : Nat → Prop} [DecidablePred P] (h : (List.range N).all (fun i => decide (P i)) = true) {i : Nat} (hi : i < N) : P i := by
  have := List.all_eq_true.mp h i (List.mem_range.mpr hi)
  exact of_decide_eq_true this
theorem co_tab {α : Type} {l : List α} {d : α} {P : α → Prop} (h : ∀ a, a ∈ l → P a) {i : Nat} (hi : i < l.length) : P (l.getD i d) := by
  rw [List.getD_eq_getElem?_getD, List.getElem?_eq_getElem hi]
  exact h _ (List.getElem_mem hi)
theorem pk_mu {x : Int32} {L : Nat} (h0 : ¬ x < 0) (h : ¬ nI L ≤ x) (hL : L < 2 ^ 31) : ∃ j : Nat, j < L ∧ x = nI j ∧ x + 1 = nI (j + 1) ∧ x.toNatClampNeg = j ∧ L - (x + 1).toNatClampNeg < L - x.toNatClampNeg := by
  obtain ⟨j, hj, rfl⟩ := nI_of h0
  have hl : j < L := Nat.not_le.mp fun q => h (nI_le q hj)
  refine ⟨j, hl, rfl, nI_1 j, nI_clamp hj, ?_⟩
  rw [nI_1, nI_clamp (by omega), nI_clamp hj]
  omega
theorem op_s {α : Type} {r : Option α} {A : Prop} {B : α → Prop} {y : α} (h : r = some y) (b : B y) : (r = none → A) ∧ ∀ z, r = some z → B z :=
  ⟨fun e => (by rw [h] at e; cases e), fun z e => (by rw [h] at e; cases e; exact b)⟩
def l_holds {α : Type} (a : Nat → Option Nat) (LP : List Nat) (p : Nat → α) (c : Nat) (b : Nat → α) : Prop :=
  ∀ j, j < c → ∃ y, a j = some y ∧ y ∈ LP ∧ p y = b j
theorem l_holds_0 {α : Type} {a : Nat → Option Nat} {LP : List Nat} {p b : Nat → α} : l_holds a LP p 0 b := fun j h => absurd h (Nat.not_lt_zero j)
theorem l_in_new (LP : List Nat) (q : Nat) : q ∈ LP ++ [q] := List.mem_append.mpr (Or.inr (List.mem_singleton.mpr rfl))
def l_sum (b : Nat → Int32) : Nat → Int32
  | 0 => 0
  | k + 1 => l_sum b k + b k
theorem sb_shr0 (x : Int32) : x >>> ((0 : Int32) &&& 31) = x := by
  rw [show ((0 : Int32) &&& 31) = 0 by decide]
  simp
theorem sb_shl0 (x : Int32) : x <<< ((0 : Int32) &&& 31) = x := by
  rw [show ((0 : Int32) &&& 31) = 0 by decide]
  simp
theorem sb_cl0 : (0 : Int32).toNatClampNeg = 0 := by decide
theorem sb_m1 {p : Nat} (h : 0 < p) : nI p + (-1) = nI (p - 1) := by
  obtain ⟨q, rfl⟩ : ∃ q, p = q + 1 := ⟨p - 1, by omega⟩
  exact pk_m1 q
def sb_b (c : Nat) : Int32 := (nI c).toInt8.toInt32
theorem sb_byte : ∀ c, c < 256 → sb_b c &&& 255 = nI c ∧ ((nI c).toUInt32 % 65536).toInt32 = nI c ∧ nI c ≤ 255 := by decide +kernel
def sb_Fit (a : Nat → Int32) : Prop := ∀ j, fits .byte (.int (a j)) = true
def sb_Lat (t : Nat → Nat) (n : Nat) (a : Nat → Int32) : Prop := ∀ j, j < n → t j < 256 ∧ a j = sb_b (t j)
theorem sb_fitB (c : Nat) : fits .byte (.int (sb_b c)) = true := pk_fb _
theorem sb_fit0 : sb_Fit (fun _ => 0) := fun _ => by
  show fits .byte (.int 0) = true
  decide
theorem sb_fitU {a : Nat → Int32} {k : Nat} {x : Int32} (h : sb_Fit a) (hx : fits .byte (.int x) = true) : sb_Fit (upd a k x) := by
  intro j
  by_cases e : j = k
  · subst e
    rw [pk_us]
    exact hx
  · rw [pk_un e]
    exact h j
def sb_cat (t : Nat → Nat) (n : Nat) (s : Nat → Nat) : Nat → Nat := fun j => if j < n then t j else s (j - n)
theorem sb_cat_lo {t s : Nat → Nat} {n j : Nat} (h : j < n) : sb_cat t n s j = t j := if_pos h
theorem sb_cat_hi {t s : Nat → Nat} {n j : Nat} : sb_cat t n s (n + j) = s j := by
  show (if n + j < n then t (n + j) else s (n + j - n)) = s j
  rw [if_neg (by omega), Nat.add_sub_cancel_left]
theorem sb_latPut {t s : Nat → Nat} {n w : Nat} {a a' : Nat → Int32} (h : sb_Lat t n a) (hk : ∀ j, j < n → a' j = a j) (hs : ∀ i, i < w → s i < 256 ∧ a' (n + i) = sb_b (s i)) : sb_Lat (sb_cat t n s) (n + w) a' := by
  intro j hj
  by_cases e : j < n
  · rw [sb_cat_lo e, hk j e]
    exact h j e
  · obtain ⟨i, rfl⟩ : ∃ i, j = n + i := ⟨j - n, by omega⟩
    rw [sb_cat_hi]
    exact hs i (by omega)
theorem sb_latKeep {t : Nat → Nat} {n : Nat} {a a' : Nat → Int32} (h : sb_Lat t n a) (hk : ∀ j, j < n → a' j = a j) : sb_Lat t n a' := fun j hj => by
  rw [hk j hj]
  exact h j hj
def sb_cap (q m : Nat) : Nat := if q ≤ m then m else if 2 * m + 2 < q then q else 2 * m + 2
def sb_Room (q m mc ms : Nat) : Prop := q ≤ m ∨ (1 ≤ mc ∧ sb_cap q m ≤ ms ∧ sb_cap q m ≤ 65536)
theorem sb_cap_ge (q m : Nat) : q ≤ sb_cap q m := by
  unfold sb_cap
  split
  · omega
  · split <;> omega
theorem sb_cap_gem (q m : Nat) : m ≤ sb_cap q m := by
  unfold sb_cap
  split
  · omega
  · split <;> omega
theorem sb_cap_le {q m mc ms : Nat} (hm : m ≤ 65536) (hr : sb_Room q m mc ms) : sb_cap q m ≤ 65536 := by
  rcases hr with h | h
  · rw [sb_cap, if_pos h]
    exact hm
  · exact h.2.2
theorem sb_at {P : Int32 → Prop} {x y : Int32} (e : x = y) (h : P y) : P x := e ▸ h
def sb_dg (w : Nat) : Nat := if w < 10 then 1 else if w < 100 then 2 else if w < 1000 then 3 else if w < 10000 then 4 else if w < 100000 then 5 else if w < 1000000 then 6 else if w < 10000000 then 7 else if w < 100000000 then 8 else if w < 1000000000 then 9 else 10
def sb_dec (v : Nat) : Nat → Nat := fun i => 48 + v / 10 ^ (sb_dg v - 1 - i) % 10
theorem sb_dg_in (w : Nat) : 1 ≤ sb_dg w ∧ sb_dg w ≤ 10 := by
  unfold sb_dg
  constructor <;> (repeat' split) <;> omega
theorem sb_dg100 {w : Nat} (h : 100 ≤ w) (hw : w < 2 ^ 31) : sb_dg w = sb_dg (w / 100) + 2 := by
  rw [sb_dg, sb_dg, if_neg (show ¬ w < 10 by omega), if_neg (show ¬ w < 100 by omega)]
  by_cases h3 : w < 1000
  · rw [if_pos h3, if_pos (show w / 100 < 10 by omega)]
  rw [if_neg h3, if_neg (show ¬ w / 100 < 10 by omega)]
  by_cases h4 : w < 10000
  · rw [if_pos h4, if_pos (show w / 100 < 100 by omega)]
  rw [if_neg h4, if_neg (show ¬ w / 100 < 100 by omega)]
  by_cases h5 : w < 100000
  · rw [if_pos h5, if_pos (show w / 100 < 1000 by omega)]
  rw [if_neg h5, if_neg (show ¬ w / 100 < 1000 by omega)]
  by_cases h6 : w < 1000000
  · rw [if_pos h6, if_pos (show w / 100 < 10000 by omega)]
  rw [if_neg h6, if_neg (show ¬ w / 100 < 10000 by omega)]
  by_cases h7 : w < 10000000
  · rw [if_pos h7, if_pos (show w / 100 < 100000 by omega)]
  rw [if_neg h7, if_neg (show ¬ w / 100 < 100000 by omega)]
  by_cases h8 : w < 100000000
  · rw [if_pos h8, if_pos (show w / 100 < 1000000 by omega)]
  rw [if_neg h8, if_neg (show ¬ w / 100 < 1000000 by omega)]
  by_cases h9 : w < 1000000000
  · rw [if_pos h9, if_pos (show w / 100 < 10000000 by omega)]
  rw [if_neg h9, if_neg (show ¬ w / 100 < 10000000 by omega)]
  rw [if_pos (show w / 100 < 100000000 by omega)]
theorem sb_negT {w : Nat} (h : w < 2 ^ 31) : (-nI w).toInt = -(w : Int) := by
  rw [Int32.toInt_neg, nI_toInt h]
  exact Int.bmod_eq_of_le (by omega) (by omega)
theorem sb_nle {a b : Nat} (ha : a < 2 ^ 31) (hb : b < 2 ^ 31) : -nI a ≤ -nI b ↔ b ≤ a := by
  rw [Int32.le_iff_toInt_le, sb_negT ha, sb_negT hb]
  omega
theorem sb_nlt {a b : Nat} (ha : a < 2 ^ 31) (hb : b < 2 ^ 31) : -nI a < -nI b ↔ b < a := by
  rw [Int32.lt_iff_toInt_lt, sb_negT ha, sb_negT hb]
  omega
theorem sb_cmp {A B : Prop} {x : Int32} (v c : Nat) (f : c ≤ v → A) (g : v < c → B) (hv : v < 2 ^ 31) (hx : x = -nI c := by rfl) (hc : c < 2 ^ 31 := by omega) : (-nI v ≤ x → A) ∧ (¬ -nI v ≤ x → B) := by
  subst hx
  rw [sb_nle hv hc]
  exact ⟨f, fun z => g (by omega)⟩
theorem sb_ndiv {w : Nat} (hw : w < 2 ^ 31) : (-nI w) / 100 = -nI (w / 100) := by
  apply Int32.toInt_inj.mp
  have h100 : (100 : Int32).toInt = 100 := by decide
  rw [Int32.toInt_div, sb_negT hw, h100, sb_negT (by omega), Int.neg_tdiv, Int.tdiv_eq_ediv_of_nonneg (by omega), Int.bmod_eq_of_le (by omega) (by omega)]
  omega
theorem sb_nrem {w : Nat} (hw : w < 2 ^ 31) : (-nI (w / 100)) * 100 - (-nI w) = nI (w % 100) := by
  have h := pk_rem (a := w) (d := 100) hw (by decide) (by decide)
  rw [pk_div hw (by decide) (by decide)] at h
  rw [← h]
  show (-nI (w / 100)) * nI 100 - (-nI w) = nI w - nI (w / 100) * nI 100
  rw [Int32.neg_mul, Int32.sub_neg, Int32.add_comm, ← Int32.sub_eq_add_neg]
end
section
/-! rows on bits, shifts and unsigned numbers, to paste: each family out of a closed proof of our own, whole with what it rests on; each by itself clean at Lean in its own claim (generation 39, form 5). Take a family whole -/
/-! ===== Int32 by its bits: bt x i ===== -/
def bt (x : Int32) (i : Nat) : Bool := x.toBitVec.getLsbD i
theorem b_ext {x y : Int32} (h : ∀ i, i < 32 → bt x i = bt y i) : x = y := Int32.toBitVec_inj.mp (BitVec.eq_of_getLsbD_eq (fun i hi => h i hi))
theorem b_or (x y : Int32) (i : Nat) : bt (x ||| y) i = (bt x i || bt y i) := by unfold bt; rw [Int32.toBitVec_or, BitVec.getLsbD_or]
theorem b_and (x y : Int32) (i : Nat) : bt (x &&& y) i = (bt x i && bt y i) := by unfold bt; rw [Int32.toBitVec_and, BitVec.getLsbD_and]
theorem b_xor (x y : Int32) (i : Nat) : bt (x ^^^ y) i = (bt x i ^^ bt y i) := by unfold bt; rw [Int32.toBitVec_xor, BitVec.getLsbD_xor]
theorem b_big {x : Int32} {i : Nat} (h : 32 ≤ i) : bt x i = false := BitVec.getLsbD_of_ge _ _ h
theorem b_255 (i : Nat) : bt 255 i = decide (i < 8) := by
  rcases Nat.lt_or_ge i 32 with h | h
  · exact (by decide +kernel : ∀ i, i < 32 → bt 255 i = decide (i < 8)) i h
  · rw [b_big h, decide_eq_false (by omega)]
theorem b_65535 (i : Nat) : bt 65535 i = decide (i < 16) := by
  rcases Nat.lt_or_ge i 32 with h | h
  · exact (by decide +kernel : ∀ i, i < 32 → bt 65535 i = decide (i < 16)) i h
  · rw [b_big h, decide_eq_false (by omega)]
theorem b_m1 : ∀ i, i < 32 → bt (-1) i = true := by decide +kernel
theorem b_0 (i : Nat) : bt 0 i = false := BitVec.getLsbD_zero
theorem s_l : ∀ n, n < 32 → ((nI n &&& 31).toBitVec.smod 32).toNat = n := by decide +kernel
theorem s_u : ∀ n, n < 32 → (((nI n).toUInt32 &&& Int32.toUInt32 31).toBitVec % 32).toNat = n := by decide +kernel
theorem b_shl (n : Nat) (hn : n < 32) (x : Int32) {i : Nat} (hi : i < 32) : bt (x <<< (nI n &&& 31)) i = (decide (n ≤ i) && bt x (i - n)) := by
  unfold bt
  rw [Int32.toBitVec_shiftLeft]
  show (x.toBitVec <<< ((nI n &&& 31).toBitVec.smod 32).toNat).getLsbD i = _
  rw [s_l n hn, BitVec.getLsbD_shiftLeft]
  rcases Nat.lt_or_ge i n with h | h
  · simp [h, Nat.not_le.mpr h]
  · simp [hi, h, Nat.not_lt.mpr h]
theorem b_ushr (n : Nat) (hn : n < 32) (x : Int32) (i : Nat) : bt ((x.toUInt32 >>> ((nI n).toUInt32 &&& Int32.toUInt32 31)).toInt32) i = bt x (n + i) := by
  show (x.toUInt32 >>> ((nI n).toUInt32 &&& Int32.toUInt32 31)).toBitVec.getLsbD i = x.toUInt32.toBitVec.getLsbD (n + i)
  rw [UInt32.toBitVec_shiftRight]
  show (x.toUInt32.toBitVec >>> (((nI n).toUInt32 &&& Int32.toUInt32 31).toBitVec % 32).toNat).getLsbD i = _
  rw [s_u n hn, BitVec.getLsbD_ushiftRight]
theorem b_sshr (n : Nat) (hn : n < 32) (x : Int32) {i : Nat} (hi : i < 32) : bt (x >>> (nI n &&& 31)) i = if n + i < 32 then bt x (n + i) else bt x 31 := by
  unfold bt
  rw [Int32.toBitVec_shiftRight]
  show (x.toBitVec.sshiftRight ((nI n &&& 31).toBitVec.smod 32).toNat).getLsbD i = _
  rw [s_l n hn, BitVec.getLsbD_sshiftRight, BitVec.msb_eq_getLsbD_last]
  simp [hi]
theorem b_shl8 (x : Int32) {i : Nat} (hi : i < 32) : bt (x <<< ((8 : Int32) &&& 31)) i = (decide (8 ≤ i) && bt x (i - 8)) := b_shl 8 (by omega) x hi
theorem b_shl16 (x : Int32) {i : Nat} (hi : i < 32) : bt (x <<< ((16 : Int32) &&& 31)) i = (decide (16 ≤ i) && bt x (i - 16)) := b_shl 16 (by omega) x hi
theorem b_shl24 (x : Int32) {i : Nat} (hi : i < 32) : bt (x <<< ((24 : Int32) &&& 31)) i = (decide (24 ≤ i) && bt x (i - 24)) := b_shl 24 (by omega) x hi
theorem b_sshr8 (x : Int32) {i : Nat} (hi : i < 32) : bt (x >>> ((8 : Int32) &&& 31)) i = if 8 + i < 32 then bt x (8 + i) else bt x 31 := b_sshr 8 (by omega) x hi
/-! ===== nI under and, xor, >>>, one bit, 65535 ===== -/
theorem nx_and (a b : Nat) : nI a &&& nI b = nI (a &&& b) := by
  apply Int32.toBitVec_inj.1
  show BitVec.ofNat 32 a &&& BitVec.ofNat 32 b = BitVec.ofNat 32 (a &&& b)
  apply BitVec.eq_of_getLsbD_eq
  intro i hi
  simp [hi]
theorem nx_xor (a b : Nat) : nI a ^^^ nI b = nI (a ^^^ b) := by
  apply Int32.toBitVec_inj.1
  show BitVec.ofNat 32 a ^^^ BitVec.ofNat 32 b = BitVec.ofNat 32 (a ^^^ b)
  apply BitVec.eq_of_getLsbD_eq
  intro i hi
  simp [hi]
theorem nx_cnt : ∀ j : Fin 32, (UInt32.ofNat j.val &&& Int32.toUInt32 31).toNat % 32 = j.val := by decide +kernel
theorem nx_ush {k j : Nat} (hk : k < 65536) (hj : j < 32) : ((nI k).toUInt32 >>> ((nI j).toUInt32 &&& Int32.toUInt32 31)).toInt32 = nI (k >>> j) := by
  have hs : k >>> j ≤ k := by
    rw [Nat.shiftRight_eq_div_pow]
    exact Nat.div_le_self _ _
  have e2 : UInt32.ofNat k >>> (UInt32.ofNat j &&& Int32.toUInt32 31) = UInt32.ofNat (k >>> j) := by
    apply UInt32.toNat_inj.1
    have h1 : (UInt32.ofNat k).toNat = k := Nat.mod_eq_of_lt (by omega)
    have h2 : (UInt32.ofNat (k >>> j)).toNat = k >>> j := Nat.mod_eq_of_lt (by omega)
    rw [UInt32.toNat_shiftRight, nx_cnt ⟨j, hj⟩, h1, h2]
  show (UInt32.ofNat k >>> (UInt32.ofNat j &&& Int32.toUInt32 31)).toInt32 = _
  rw [e2]
  rfl
theorem nx_bit {k j : Nat} (hk : k < 65536) (hj : j < 16) : (((nI k).toUInt32 >>> ((nI j).toUInt32 &&& Int32.toUInt32 31)).toInt32 &&& 1) = 0 ↔ k.testBit j = false := by
  rw [nx_ush hk (by omega)]
  show nI (k >>> j) &&& nI 1 = 0 ↔ _
  rw [nx_and, Nat.and_one_is_mod, ← nI_0, nI_eq (by omega) (by omega), Nat.testBit_eq_decide_div_mod_eq, Nat.shiftRight_eq_div_pow, decide_eq_false_iff_not]
  generalize k / 2 ^ j = z
  omega
theorem nx_mod (k : Nat) : nI k &&& 65535 = nI (k % 65536) := by
  show nI k &&& nI 65535 = _
  rw [nx_and, show (65535 : Nat) = 2 ^ 16 - 1 from rfl, Nat.and_two_pow_sub_one_eq_mod]
theorem nx_m16 {k : Nat} (h : k < 65536) : nI k &&& 65535 = nI k := by rw [nx_mod, Nat.mod_eq_of_lt h]
theorem nx_mask (x : Int32) : ∃ k, k < 65536 ∧ x &&& 65535 = nI k := by
  have e : x = nI x.toBitVec.toNat := by
    apply Int32.toBitVec_inj.1
    show x.toBitVec = BitVec.ofNat 32 x.toBitVec.toNat
    simp
  refine ⟨x.toBitVec.toNat % 65536, Nat.mod_lt _ (by omega), ?_⟩
  rw [← nx_mod, ← e]
/-! ===== Int32 as a set of bits: test, set ===== -/
def nf_M (m : Int32) : Nat := 4294967296 - m.toBitVec.toNat
theorem nf_sh : ∀ l, l < 32 → ((1 : Int32) <<< (nI l &&& 31)).toBitVec = BitVec.twoPow 32 l := by decide +kernel
theorem nf_sl : ∀ l, l < 32 → (((nI l).toUInt32 &&& Int32.toUInt32 31).toBitVec % 32).toNat = l := by decide +kernel
theorem nf_tp : ∀ l, l < 32 → BitVec.twoPow 32 l ≠ 0#32 := by decide +kernel
theorem nf_bit (m : Int32) (l : Nat) (hl : l < 32) : ((m.toUInt32 >>> ((nI l).toUInt32 &&& Int32.toUInt32 31)).toInt32 &&& 1) = 0 ↔ (m &&& ((1 : Int32) <<< (nI l &&& 31))) = 0 := by
  have e : ((m.toUInt32 >>> ((nI l).toUInt32 &&& Int32.toUInt32 31)).toInt32).toBitVec = m.toBitVec >>> l := by
    show m.toBitVec >>> (((nI l).toUInt32 &&& Int32.toUInt32 31).toBitVec % 32) = m.toBitVec >>> l
    rw [BitVec.ushiftRight_eq', nf_sl l hl]
  rw [← Int32.toBitVec_inj, ← Int32.toBitVec_inj, Int32.toBitVec_and, Int32.toBitVec_and, nf_sh l hl, e, BitVec.and_twoPow]
  show (m.toBitVec >>> l &&& 1#32) = 0#32 ↔ _ = 0#32
  rw [BitVec.and_one_eq_setWidth_ofBool_getLsbD, BitVec.getLsbD_ushiftRight, Nat.add_zero]
  cases hb : m.toBitVec.getLsbD l
  · exact ⟨fun _ => by simp, fun _ => by decide⟩
  · exact ⟨fun z => absurd z (by decide), fun z => absurd ((if_pos rfl).symm.trans z) (nf_tp l hl)⟩
theorem nf_gr (m k : Int32) (h : m &&& k = 0) (hk : k ≠ 0) : nf_M (m ||| k) < nf_M m := by
  have hm := m.toBitVec.isLt
  have hm' := (m ||| k).toBitVec.isLt
  have h1 : m.toBitVec.toNat ≤ (m ||| k).toBitVec.toNat := by
    rw [Int32.toBitVec_or, BitVec.toNat_or]
    exact Nat.left_le_or
  have h2 : m.toBitVec.toNat ≠ (m ||| k).toBitVec.toNat := by
    intro e
    have e2 : m = m ||| k := Int32.toBitVec_inj.mp (BitVec.eq_of_toNat_eq e)
    apply hk
    apply Int32.toBitVec_inj.mp
    show k.toBitVec = 0#32
    apply BitVec.eq_of_getLsbD_eq
    intro i hi
    have a : m.toBitVec.getLsbD i = (m.toBitVec.getLsbD i || k.toBitVec.getLsbD i) := by rw [← BitVec.getLsbD_or, ← Int32.toBitVec_or, ← e2]
    have b : (m.toBitVec.getLsbD i && k.toBitVec.getLsbD i) = false := by
      rw [← BitVec.getLsbD_and, ← Int32.toBitVec_and, h]
      exact BitVec.getLsbD_zero
    rw [BitVec.getLsbD_zero]
    revert a b
    cases m.toBitVec.getLsbD i <;> cases k.toBitVec.getLsbD i <;> simp
  unfold nf_M
  omega
/-! ===== a byte read unsigned ===== -/
theorem bp_b (x : Int32) : x.toInt8.toInt32 &&& 255 = x &&& 255 := by
  apply Int32.toBitVec_inj.mp
  rw [Int32.toBitVec_and, Int32.toBitVec_and, Int8.toBitVec_toInt32, Int32.toBitVec_toInt8]
  apply BitVec.eq_of_getLsbD_eq
  intro i hi
  rw [BitVec.getLsbD_and, BitVec.getLsbD_and]
  have hm : ∀ i < 32, 8 ≤ i → (255 : Int32).toBitVec.getLsbD i = false := by decide
  rcases Nat.lt_or_ge i 8 with z | z
  · rw [BitVec.getLsbD_signExtend, BitVec.getLsbD_signExtend, if_pos z, if_pos hi]
    simp only [z, hi, decide_true, Bool.true_and]
  · rw [hm i hi z]; simp
/-! ===== the char cast and 65535 ===== -/
theorem em_w (v : Int32) : ∃ w : Nat, w < 65536 ∧ (v.toUInt32 % 65536).toInt32 = nI w ∧ v &&& 65535 = nI w := by
  have hr := lw_u16_r v
  have h0 : (0 : Int32).toInt = 0 := by decide
  obtain ⟨w, h1, h2⟩ := nI_of (x := lw_u16 v) (by rw [Int32.lt_iff_toInt_lt]; omega)
  have h3 : (v.toUInt32 % 65536).toInt32 = nI w := h2
  rw [h2, nI_toInt h1] at hr
  exact ⟨w, by omega, h3, by rw [← lg_i2c_mask, ← lg_i2c_nf, h3]⟩
/-! ===== Int64 as a set of bits: test, set, clear ===== -/
theorem ts_nf {x : Bool} (h : ¬ x = false) : x = true := by cases x <;> first | rfl | exact absurd rfl h
theorem ts_nt {x : Bool} (h : ¬ x = true) : x = false := by cases x <;> first | rfl | exact absurd rfl h
theorem ts_bit {w : Int64} {s : UInt64} {j : Nat} (hj : j < 64) (hs : s.toNat = j) : ((w.toUInt64 >>> s).toInt64 &&& 1) = 0 ↔ w.toBitVec.getLsbD j = false := by
  have e : (w.toUInt64 >>> s).toInt64.toBitVec = w.toBitVec >>> j := by
    apply BitVec.eq_of_toNat_eq
    show (w.toUInt64 >>> s).toNat = _
    rw [UInt64.toNat_shiftRight, hs, Nat.mod_eq_of_lt hj, BitVec.toNat_ushiftRight]
    rfl
  rw [← Int64.toBitVec_inj, Int64.toBitVec_and, e]
  show w.toBitVec >>> j &&& 1#64 = 0#64 ↔ _
  constructor
  · intro h
    have t := congrArg (fun x => x.getLsbD 0) h
    simpa using t
  · intro h
    apply BitVec.eq_of_getLsbD_eq
    intro i hi
    cases i with
    | zero => simp [h]
    | succ i => simp
theorem ts_or {w m : Int64} {j : Nat} (hj : j < 64) (hm : m.toBitVec = BitVec.twoPow 64 j) : (w ||| m) = w ↔ w.toBitVec.getLsbD j = true := by
  rw [← Int64.toBitVec_inj, Int64.toBitVec_or, hm]
  constructor
  · intro h
    have t := congrArg (fun x => x.getLsbD j) h
    simp only [BitVec.getLsbD_or, BitVec.getLsbD_twoPow] at t
    simpa [hj] using t.symm
  · intro h
    apply BitVec.eq_of_getLsbD_eq
    intro i hi
    rw [BitVec.getLsbD_or, BitVec.getLsbD_twoPow]
    by_cases e : j = i
    · subst e; rw [h, Bool.true_or]
    · simp [e]
theorem ts_and {w m : Int64} {j : Nat} (hj : j < 64) (hm : m.toBitVec = BitVec.twoPow 64 j) : (w &&& (m ^^^ (-1))) = w ↔ w.toBitVec.getLsbD j = false := by
  have ha : (-1 : Int64).toBitVec = BitVec.allOnes 64 := by decide
  rw [← Int64.toBitVec_inj, Int64.toBitVec_and, Int64.toBitVec_xor, hm, ha]
  constructor
  · intro h
    have t := congrArg (fun x => x.getLsbD j) h
    simp only [BitVec.getLsbD_and, BitVec.getLsbD_xor, BitVec.getLsbD_twoPow, BitVec.getLsbD_allOnes] at t
    simpa [hj] using t.symm
  · intro h
    apply BitVec.eq_of_getLsbD_eq
    intro i hi
    rw [BitVec.getLsbD_and, BitVec.getLsbD_xor, BitVec.getLsbD_twoPow, BitVec.getLsbD_allOnes]
    by_cases e : j = i
    · subst e; rw [h, Bool.false_and]
    · simp [e, hi]
/-! ===== lN n to 2^64: shifts, and, or, masks, one bit ===== -/
theorem wb_tb (n : Nat) : (lN n).toBitVec = BitVec.ofNat 64 n := rfl
theorem wb_inj {a b : Int64} (h : a.toBitVec = b.toBitVec) : a = b := Int64.toBitVec_inj.mp h
theorem wb_tn {n : Nat} (h : n < 2 ^ 64) : (lN n).toBitVec.toNat = n := by rw [wb_tb, BitVec.toNat_ofNat, Nat.mod_eq_of_lt h]
theorem wb_of (x : Int64) : ∃ n, n < 2 ^ 64 ∧ x = lN n := ⟨x.toBitVec.toNat, x.toBitVec.isLt, wb_inj (by rw [wb_tb]; simp)⟩
theorem wb_of32 (x : Int32) : ∃ n, n < 2 ^ 32 ∧ x = nI n := ⟨x.toBitVec.toNat, x.toBitVec.isLt, Int32.toBitVec_inj.mp (by show _ = BitVec.ofNat 32 _; simp)⟩
theorem wb_c : ∀ k, k < 64 → ((nI k).toInt64 &&& 63) = lN k := by decide +kernel
theorem wb_cu : ∀ k, k < 64 → ((nI k).toInt64.toUInt64 &&& Int64.toUInt64 63) = UInt64.ofNat k := by decide +kernel
theorem wb_sm : ∀ k, k < 64 → (BitVec.ofNat 64 k).smod 64 = BitVec.ofNat 64 k := by decide +kernel
theorem wb_pw {a b : Nat} (h : a ≤ b) : 2 ^ b = 2 ^ a * 2 ^ (b - a) := by rw [← Nat.pow_add]; congr 1; omega
theorem wb_lt2 {a b : Nat} (h : a < b) : 2 ^ a < 2 ^ b := Nat.pow_lt_pow_right (by decide) h
theorem wb_mod (n : Nat) : lN n = lN (n % 2 ^ 64) := wb_inj (by rw [wb_tb, wb_tb]; apply BitVec.eq_of_toNat_eq; rw [BitVec.toNat_ofNat, BitVec.toNat_ofNat, Nat.mod_mod])
theorem wb_shr {n k : Nat} (hn : n < 2 ^ 64) (hk : k < 64) : ((lN n).toUInt64 >>> ((nI k).toInt64.toUInt64 &&& Int64.toUInt64 63)).toInt64 = lN (n / 2 ^ k) := by
  rw [wb_cu k hk]
  apply wb_inj
  apply BitVec.eq_of_toNat_eq
  show ((lN n).toUInt64 >>> UInt64.ofNat k).toNat = (BitVec.ofNat 64 _).toNat
  have h1 : (UInt64.ofNat k).toNat = k := by
    show (BitVec.ofNat 64 k).toNat = k
    rw [BitVec.toNat_ofNat, Nat.mod_eq_of_lt (by omega)]
  have h2 : (lN n).toUInt64.toNat = n := wb_tn hn
  rw [UInt64.toNat_shiftRight, h1, h2, Nat.mod_eq_of_lt hk, Nat.shiftRight_eq_div_pow, BitVec.toNat_ofNat, Nat.mod_eq_of_lt (Nat.lt_of_le_of_lt (Nat.div_le_self _ _) hn)]
theorem wb_shl (n : Nat) {k : Nat} (hk : k < 64) : lN n <<< ((nI k).toInt64 &&& 63) = lN (n * 2 ^ k) := by
  rw [wb_c k hk]
  apply wb_inj
  rw [Int64.toBitVec_shiftLeft, wb_tb, wb_tb, wb_tb, wb_sm k hk]
  apply BitVec.eq_of_toNat_eq
  rw [BitVec.shiftLeft_eq', BitVec.toNat_shiftLeft, BitVec.toNat_ofNat, BitVec.toNat_ofNat, BitVec.toNat_ofNat, Nat.mod_eq_of_lt (show k < 2 ^ 64 by omega), Nat.shiftLeft_eq, Nat.mul_mod, Nat.mod_mod, ← Nat.mul_mod]
theorem wb_and {a b : Nat} (ha : a < 2 ^ 64) (hb : b < 2 ^ 64) : lN a &&& lN b = lN (a &&& b) := by
  apply wb_inj
  rw [Int64.toBitVec_and, wb_tb, wb_tb, wb_tb]
  apply BitVec.eq_of_toNat_eq
  rw [BitVec.toNat_and, BitVec.toNat_ofNat, BitVec.toNat_ofNat, BitVec.toNat_ofNat, Nat.mod_eq_of_lt ha, Nat.mod_eq_of_lt hb, Nat.mod_eq_of_lt (Nat.and_lt_two_pow _ hb)]
theorem wb_or {a b : Nat} (ha : a < 2 ^ 64) (hb : b < 2 ^ 64) : lN a ||| lN b = lN (a ||| b) := by
  apply wb_inj
  rw [Int64.toBitVec_or, wb_tb, wb_tb, wb_tb]
  apply BitVec.eq_of_toNat_eq
  rw [BitVec.toNat_or, BitVec.toNat_ofNat, BitVec.toNat_ofNat, BitVec.toNat_ofNat, Nat.mod_eq_of_lt ha, Nat.mod_eq_of_lt hb, Nat.mod_eq_of_lt (Nat.or_lt_two_pow ha hb)]
theorem wb_mask {n k : Nat} (hn : n < 2 ^ 64) (hk : k < 64) : lN n &&& lN (2 ^ k - 1) = lN (n % 2 ^ k) := by
  rw [wb_and hn (by have := wb_lt2 hk; omega), Nat.and_two_pow_sub_one_eq_mod]
theorem wb_a1 {n : Nat} (hn : n < 2 ^ 64) : lN n &&& 1 = lN (n % 2) := wb_mask (k := 1) hn (by decide)
theorem wb_bit {n k : Nat} (hn : n < 2 ^ 64) (hk : k < 64) : ((lN n).toUInt64 >>> ((nI k).toInt64.toUInt64 &&& Int64.toUInt64 63)).toInt64 &&& 1 = lN (n / 2 ^ k % 2) := by
  rw [wb_shr hn hk, wb_a1 (Nat.lt_of_le_of_lt (Nat.div_le_self _ _) hn)]
theorem wb_xor {q k : Nat} (hk : k < 63) (h : 2 ^ k ≤ q) (h2 : q < 2 ^ (k + 1)) : lN q ^^^ lN (2 ^ k) = lN (q - 2 ^ k) := by
  obtain ⟨r, rfl⟩ : ∃ r, q = 2 ^ k + r := ⟨q - 2 ^ k, by omega⟩
  have hr : r < 2 ^ k := by rw [Nat.pow_succ] at h2; omega
  have hx : (2 ^ k + r) ^^^ 2 ^ k = r := by
    apply Nat.eq_of_testBit_eq
    intro i
    rw [Nat.testBit_xor, Nat.testBit_two_pow]
    rcases Nat.lt_trichotomy i k with h | h | h
    · rw [Nat.testBit_two_pow_add_gt h]
      simp [show ¬ k = i by omega]
    · subst h
      rw [Nat.testBit_two_pow_add_eq]
      simp
    · have a1 : 2 ^ (k + 1) ≤ 2 ^ i := Nat.pow_le_pow_right (by decide) h
      rw [Nat.testBit_lt_two_pow (show 2 ^ k + r < 2 ^ i by omega), Nat.testBit_lt_two_pow (show r < 2 ^ i by omega)]
      simp [show ¬ k = i by omega]
  have b1 := wb_lt2 (show k + 1 < 64 by omega)
  have b2 := wb_lt2 (show k < 64 by omega)
  apply wb_inj
  rw [Int64.toBitVec_xor, wb_tb, wb_tb, wb_tb]
  apply BitVec.eq_of_toNat_eq
  rw [BitVec.toNat_xor, BitVec.toNat_ofNat, BitVec.toNat_ofNat, BitVec.toNat_ofNat, Nat.mod_eq_of_lt (by omega : 2 ^ k + r < 2 ^ 64), Nat.mod_eq_of_lt b2, hx, Nat.add_sub_cancel_left, Nat.mod_eq_of_lt (by omega)]
/-! ===== lN: masks, 'or' of parts that don't overlap is a sum ===== -/
theorem u_tn {n : Nat} (h : n < 2 ^ 64) : (UInt64.ofNat n).toNat = n := Nat.mod_eq_of_lt h
theorem g_and {a b c : Nat} (ha : a < 2 ^ 64) (hb : b < 2 ^ 64) (hc : a &&& b = c) : lN a &&& lN b = lN c := by
  subst hc
  have h : UInt64.ofNat a &&& UInt64.ofNat b = UInt64.ofNat (a &&& b) := UInt64.toNat_inj.mp (by rw [UInt64.toNat_and, u_tn ha, u_tn hb, u_tn (Nat.and_lt_two_pow a hb)])
  have h2 := congrArg UInt64.toInt64 h
  exact h2
theorem g_and1 {a : Nat} (ha : a < 2 ^ 64) : lN a &&& 1 = lN (a % 2) := g_and (b := 1) ha (by decide) (Nat.and_two_pow_sub_one_eq_mod a 1)
theorem g_mask {a s p : Nat} (hp : 2 ^ s = p) (hs : s < 64) (ha : a < 2 ^ 64) : lN a &&& lN (p - 1) = lN (a % p) := by
  subst hp
  have := Nat.pow_lt_pow_right (show 1 < 2 by decide) hs
  exact g_and ha (by omega) (Nat.and_two_pow_sub_one_eq_mod a s)
theorem g_or {k p a b : Nat} (hp : 2 ^ k = p) (ha : a < p) (h : b * p + a < 2 ^ 64) : lN (b * p) ||| lN a = lN (b * p + a) := by
  subst hp
  have h1 : b * 2 ^ k ||| a = b * 2 ^ k + a := by rw [← Nat.shiftLeft_eq, Nat.shiftLeft_add_eq_or_of_lt ha]
  have h3 : UInt64.ofNat (b * 2 ^ k) ||| UInt64.ofNat a = UInt64.ofNat (b * 2 ^ k + a) := UInt64.toNat_inj.mp (by rw [UInt64.toNat_or, u_tn (by omega), u_tn (by omega), u_tn h, h1])
  have h2 := congrArg UInt64.toInt64 h3
  exact h2
theorem g_or' {k p a b : Nat} (hp : 2 ^ k = p) (ha : a < p) (h : a + b * p < 2 ^ 64) : lN a ||| lN (b * p) = lN (a + b * p) := by
  rw [Int64.or_comm, g_or hp ha (by omega), Nat.add_comm]
theorem g_ushr {a k p : Nat} {y : UInt64} (hy : y = UInt64.ofNat k) (hk : k < 64) (hp : 2 ^ k = p) (ha : a < 2 ^ 64) : ((lN a).toUInt64 >>> y).toInt64 = lN (a / p) := by
  subst hy hp
  have h : UInt64.ofNat a >>> UInt64.ofNat k = UInt64.ofNat (a / 2 ^ k) := UInt64.toNat_inj.mp (by rw [UInt64.toNat_shiftRight, u_tn ha, u_tn (by omega), u_tn (Nat.lt_of_le_of_lt (Nat.div_le_self _ _) ha), Nat.mod_eq_of_lt hk, Nat.shiftRight_eq_div_pow])
  have h2 := congrArg UInt64.toInt64 h
  exact h2
theorem g_shl {a k p : Nat} {y : Int64} (hy : y.toBitVec.smod 64 = BitVec.ofNat 64 k) (hk : k < 64) (hp : 2 ^ k = p) (ha : a < 2 ^ 64) : lN a <<< y = lN (a * p) := by
  subst hp
  apply Int64.toBitVec_inj.mp
  rw [Int64.toBitVec_shiftLeft, hy]
  apply BitVec.eq_of_toNat_eq
  have hb : (lN a).toBitVec.toNat = a := Nat.mod_eq_of_lt ha
  have hk' : (BitVec.ofNat 64 k).toNat = k := Nat.mod_eq_of_lt (by omega)
  have h : ((lN a).toBitVec <<< BitVec.ofNat 64 k).toNat = (a * 2 ^ k) % 2 ^ 64 := by simp only [BitVec.shiftLeft_eq', BitVec.toNat_shiftLeft, hb, hk', Nat.shiftLeft_eq]
  exact h
/-! ===== lN to 2^62 under >> and >>> ===== -/
theorem pf_lI {a : Nat} (h : a < 2 ^ 63) : (lN a).toInt = (a : Int) := lg_ofNat_toInt h
theorem pf_shr {a d : Nat} {D : Int64} (hD : (D.toBitVec.smod 64).toNat = d) (h : a < 2 ^ 62) : lN a >>> D = lN (a / 2 ^ d) := by
  have hd : a / 2 ^ d ≤ a := Nat.div_le_self _ _
  apply Int64.toInt_inj.mp
  have e : (lN a >>> D).toInt = (lN a).toInt >>> d := by
    rw [← hD]
    exact BitVec.toInt_sshiftRight ..
  rw [e, Int.shiftRight_eq_div_pow, pf_lI (by omega), pf_lI (by omega)]
  rfl
theorem pf_ushr {a d : Nat} {D : UInt64} (hD : D.toNat % 64 = d) (h : a < 2 ^ 62) : ((lN a).toUInt64 >>> D).toInt64 = lN (a / 2 ^ d) := by
  have hd : a / 2 ^ d ≤ a := Nat.div_le_self _ _
  have e : (lN a).toUInt64 >>> D = UInt64.ofNat (a / 2 ^ d) := UInt64.toNat_inj.mp (by
    rw [UInt64.toNat_shiftRight, hD, Nat.shiftRight_eq_div_pow, UInt64.toNat_ofNat']
    show (UInt64.ofNat a).toNat / 2 ^ d = _
    rw [UInt64.toNat_ofNat', Nat.mod_eq_of_lt (by omega), Nat.mod_eq_of_lt (by omega)])
  rw [e]
  rfl
theorem pf_andw (x : Int64) : ∃ m, m < 2 ^ 32 ∧ x &&& 4294967295 = lN m := ⟨x.toBitVec.toNat % 2 ^ 32, Nat.mod_lt _ (by decide), Int64.toBitVec_inj.mp (BitVec.eq_of_toNat_eq (by
  show (x.toBitVec &&& 4294967295#64).toNat = (BitVec.ofNat 64 (x.toBitVec.toNat % 2 ^ 32)).toNat
  rw [BitVec.toNat_and, show (4294967295#64).toNat = 2 ^ 32 - 1 from by decide, Nat.and_two_pow_sub_one_eq_mod, BitVec.toNat_ofNat]
  omega))⟩
/-! ===== Int64 as an unsigned number: uN x ===== -/
def uN (x : Int64) : Nat := x.toUInt64.toNat
theorem uN_lt (x : Int64) : uN x < 18446744073709551616 := x.toUInt64.toNat_lt
theorem uN_inj {x y : Int64} (h : uN x = uN y) : x = y := congrArg UInt64.toInt64 (UInt64.toNat_inj.mp h)
theorem uN_add (x y : Int64) : uN (x + y) = (uN x + uN y) % 18446744073709551616 := by
  show (x.toUInt64 + y.toUInt64).toNat = _
  exact UInt64.toNat_add _ _
theorem uN_mul (x y : Int64) : uN (x * y) = (uN x * uN y) % 18446744073709551616 := by
  show (x.toUInt64 * y.toUInt64).toNat = _
  exact UInt64.toNat_mul _ _
theorem uN_shl (x : Int64) : uN (x <<< ((1 : Int32).toInt64 &&& 63)) = (2 * uN x) % 18446744073709551616 := by
  have h : (((1 : Int32).toInt64 &&& 63).toBitVec.smod 64).toNat = 1 := by decide
  show (x.toBitVec <<< (((1 : Int32).toInt64 &&& 63).toBitVec.smod 64).toNat).toNat = _
  rw [h, BitVec.toNat_shiftLeft, Nat.shiftLeft_eq, Nat.mul_comm]
  rfl
theorem uN_shr (x : Int64) (s : UInt64) : uN (x.toUInt64 >>> s).toInt64 = uN x / 2 ^ (s.toNat % 64) := by
  show (x.toUInt64 >>> s).toNat = _
  rw [UInt64.toNat_shiftRight, Nat.shiftRight_eq_div_pow]
  rfl
theorem uN_s32 (x : Int64) : uN (x.toUInt64 >>> ((32 : Int32).toInt64.toUInt64 &&& Int64.toUInt64 63)).toInt64 = uN x / 4294967296 := by
  have h : ((32 : Int32).toInt64.toUInt64 &&& Int64.toUInt64 63).toNat % 64 = 32 := by decide
  rw [uN_shr, h]
theorem uN_s63 (x : Int64) : uN (x.toUInt64 >>> ((63 : Int32).toInt64.toUInt64 &&& Int64.toUInt64 63)).toInt64 = uN x / 9223372036854775808 := by
  have h : ((63 : Int32).toInt64.toUInt64 &&& Int64.toUInt64 63).toNat % 64 = 63 := by decide
  rw [uN_shr, h]
theorem uN_lo (x : Int64) : uN (x &&& 4294967295) = uN x % 4294967296 := by
  show (x.toUInt64 &&& Int64.toUInt64 4294967295).toNat = _
  rw [UInt64.toNat_and]
  exact Nat.and_two_pow_sub_one_eq_mod _ 32
theorem uN_bit (x : Int64) : (x &&& 1) = 0 ↔ uN x % 2 = 0 := by
  have h : uN (x &&& 1) = uN x % 2 := by
    show (x.toUInt64 &&& Int64.toUInt64 1).toNat = _
    rw [UInt64.toNat_and]
    exact Nat.and_two_pow_sub_one_eq_mod _ 1
  rw [← h]
  exact ⟨fun z => by rw [z]; rfl, fun z => uN_inj (z.trans rfl)⟩
theorem uN_or {x y : Int64} (hy : uN y < 2) : uN ((x <<< ((1 : Int32).toInt64 &&& 63)) ||| y) = (2 * uN x) % 18446744073709551616 + uN y := by
  have h1 : uN ((x <<< ((1 : Int32).toInt64 &&& 63)) ||| y) = uN (x <<< ((1 : Int32).toInt64 &&& 63)) ||| uN y := UInt64.toNat_or _ _
  have h2 : (2 * uN x) % 18446744073709551616 = 2 ^ 1 * (uN x % 9223372036854775808) := by omega
  rw [h1, uN_shl, h2]
  exact (Nat.two_pow_add_eq_or_of_lt (i := 1) hy _).symm
theorem nat_xor {a : Nat} (h : a < 18446744073709551616) : a ^^^ 2 ^ 63 = (a + 9223372036854775808) % 18446744073709551616 := by
  have h1 : (a ^^^ 2 ^ 63) % 2 ^ 63 = a % 2 ^ 63 := by rw [Nat.xor_mod_two_pow, Nat.mod_self, Nat.xor_zero]
  have h2 : (a ^^^ 2 ^ 63) / 2 ^ 63 = (a / 2 ^ 63) ^^^ 1 := by rw [Nat.xor_div_two_pow, Nat.div_self (Nat.two_pow_pos 63)]
  have h3 : a / 2 ^ 63 = 0 ∨ a / 2 ^ 63 = 1 := by omega
  generalize a ^^^ 2 ^ 63 = t at h1 h2
  rcases h3 with h3 | h3
  · rw [h3] at h2
    have h2 : t / 2 ^ 63 = 1 := h2
    omega
  · rw [h3] at h2
    have h2 : t / 2 ^ 63 = 0 := h2
    omega
theorem uN_xor (x : Int64) : uN (x ^^^ (-9223372036854775808)) = (uN x + 9223372036854775808) % 18446744073709551616 := by
  rw [← nat_xor (uN_lt x)]
  exact UInt64.toNat_xor _ _
theorem uN_int (x : Int64) : x.toInt = if 2 * uN x < 18446744073709551616 then (uN x : Int) else (uN x : Int) - 18446744073709551616 := BitVec.toInt_eq_toNat_cond _
theorem uN_le (x y : Int64) : (x ^^^ (-9223372036854775808)) ≤ (y ^^^ (-9223372036854775808)) ↔ uN x ≤ uN y := by
  have hx := uN_lt x
  have hy := uN_lt y
  rw [Int64.le_iff_toInt_le, uN_int, uN_int, uN_xor, uN_xor]
  omega
theorem uN_sk (x : Int64) {k : Nat} (hk : k < 64) : uN (x.toUInt64 >>> ((nI k).toInt64.toUInt64 &&& Int64.toUInt64 63)).toInt64 = uN x / 2 ^ k := by
  have h : ((nI k).toInt64.toUInt64 &&& Int64.toUInt64 63).toNat % 64 = k := by
    rw [nI_l (by omega), UInt64.toNat_and]
    have e : (lN k).toUInt64.toNat = k % 2 ^ 64 := rfl
    have e2 : (Int64.toUInt64 63).toNat = 2 ^ 6 - 1 := by decide
    rw [e, e2, Nat.and_two_pow_sub_one_eq_mod]
    omega
  rw [uN_shr, h]
/-! ===== unsigned comparison by xor with the least ===== -/
theorem lN_bv (n : Nat) : (lN n).toBitVec = BitVec.ofNat 64 n := rfl
theorem lN_nat {n : Nat} (h : n < 2 ^ 64) : (lN n).toBitVec.toNat = n := by rw [lN_bv, BitVec.toNat_ofNat]; exact Nat.mod_eq_of_lt h
theorem lN_xor (a b : Nat) : lN a ^^^ lN b = lN (a ^^^ b) := by
  apply Int64.toBitVec_inj.mp; rw [Int64.toBitVec_xor, lN_bv, lN_bv, lN_bv]; apply BitVec.eq_of_getLsbD_eq; intro i hi; simp [BitVec.getLsbD_ofNat, Nat.testBit_xor, hi]
theorem lN_ti {m : Nat} (h : m < 2 ^ 64) : (lN m).toInt = if m < 2 ^ 63 then (m : Int) else (m : Int) - 2 ^ 64 := by
  have c := BitVec.toInt_eq_toNat_cond (lN m).toBitVec
  rw [lN_nat h] at c
  show (lN m).toBitVec.toInt = _
  rw [c]
  split <;> split <;> omega
theorem xor63 {x : Nat} (h : x < 2 ^ 63) : x ^^^ 2 ^ 63 = 2 ^ 63 + x := by
  apply Nat.eq_of_testBit_eq
  intro i
  rw [Nat.testBit_xor, Nat.testBit_two_pow]
  rcases Nat.lt_trichotomy i 63 with z | z | z
  · rw [Nat.testBit_two_pow_add_gt z, decide_eq_false (by omega)]; simp
  · subst z; rw [Nat.testBit_two_pow_add_eq]; simp
  · have hp : 2 ^ 64 ≤ 2 ^ i := Nat.pow_le_pow_right (by decide) z
    rw [Nat.testBit_lt_two_pow (show x < 2 ^ i by omega), Nat.testBit_lt_two_pow (show 2 ^ 63 + x < 2 ^ i by omega), decide_eq_false (by omega)]; rfl
theorem xorS {a : Nat} (h : a < 2 ^ 64) : (lN a ^^^ (-9223372036854775808)).toInt = (a : Int) - 2 ^ 63 := by
  rw [show (-9223372036854775808 : Int64) = lN (2 ^ 63) from by decide +kernel, lN_xor]
  rcases Nat.lt_or_ge a (2 ^ 63) with z | z
  · rw [xor63 z, lN_ti (by omega), if_neg (by omega)]; omega
  · obtain ⟨x, rfl⟩ : ∃ x, a = 2 ^ 63 + x := ⟨a - 2 ^ 63, by omega⟩
    rw [← xor63 (by omega), Nat.xor_assoc, Nat.xor_self, Nat.xor_zero, lN_ti (by omega), if_pos (by omega), xor63 (by omega)]; omega
theorem ultL {a b : Nat} (ha : a < 2 ^ 64) (hb : b < 2 ^ 64) : ((lN b ^^^ (-9223372036854775808)) ≤ (lN a ^^^ (-9223372036854775808))) ↔ b ≤ a := by
  rw [Int64.le_iff_toInt_le, xorS ha, xorS hb]; omega
/-! ===== Int64 masks of n low bits ===== -/
theorem cr_bits (W U M : BitVec 64) : ((W &&& U) &&& (U &&& (M ^^^ BitVec.allOnes 64))) = 0#64 ↔ (W &&& U) &&& M = W &&& U := by
  constructor
  · intro h
    apply BitVec.eq_of_getLsbD_eq
    intro i hi
    have e := congrArg (fun x => BitVec.getLsbD x i) h
    simp only [BitVec.getLsbD_and, BitVec.getLsbD_xor, BitVec.getLsbD_allOnes, BitVec.getLsbD_zero, hi, decide_true] at e ⊢
    revert e
    cases W.getLsbD i <;> cases U.getLsbD i <;> cases M.getLsbD i <;> decide
  · intro h
    apply BitVec.eq_of_getLsbD_eq
    intro i hi
    have e := congrArg (fun x => BitVec.getLsbD x i) h
    simp only [BitVec.getLsbD_and, BitVec.getLsbD_xor, BitVec.getLsbD_allOnes, BitVec.getLsbD_zero, hi, decide_true] at e ⊢
    revert e
    cases W.getLsbD i <;> cases U.getLsbD i <;> cases M.getLsbD i <;> decide
theorem cr_mask (w U m : Int64) (n : Nat) (hm : m.toBitVec.toNat = 2 ^ n - 1) : ((w &&& U) &&& (U &&& (m ^^^ (-1)))) = 0 ↔ (w &&& U).toBitVec.toNat < 2 ^ n := by
  have e0 : (-1 : Int64).toBitVec = BitVec.allOnes 64 := by decide
  have z0 : (0 : Int64).toBitVec = 0#64 := by decide
  rw [← Int64.toBitVec_inj, z0, Int64.toBitVec_and, Int64.toBitVec_and, Int64.toBitVec_and, Int64.toBitVec_xor, e0, cr_bits]
  generalize w.toBitVec &&& U.toBitVec = T
  rw [← BitVec.toNat_inj, BitVec.toNat_and, hm, Nat.and_two_pow_sub_one_eq_mod]
  constructor
  · intro h
    have t := Nat.mod_lt T.toNat (Nat.two_pow_pos n)
    rw [h] at t
    exact t
  · exact Nat.mod_eq_of_lt
theorem cr_shr (t : Int64) (x : UInt64) (n : Nat) (hx : x.toNat % 64 = n) : (t.toUInt64 >>> x).toInt64 = 0 ↔ t.toBitVec.toNat < 2 ^ n := by
  rw [← Int64.toBitVec_inj, ← BitVec.toNat_inj]
  show (t.toUInt64 >>> x).toNat = 0 ↔ t.toUInt64.toNat < 2 ^ n
  rw [UInt64.toNat_shiftRight, hx, Nat.shiftRight_eq_div_pow]
  constructor
  · intro h
    have d : t.toUInt64.toNat / 2 ^ n < 1 := by
      rw [h]
      decide
    have e := (Nat.div_lt_iff_lt_mul (Nat.two_pow_pos n)).mp d
    rw [Nat.one_mul] at e
    exact e
  · exact Nat.div_eq_of_lt
theorem cr_amt (s : Int64) : ∃ n, n < 64 ∧ s &&& 63 = lN n ∧ (s.toUInt64 &&& Int64.toUInt64 63).toNat % 64 = n := by
  have e : (s.toUInt64 &&& Int64.toUInt64 63).toNat = s.toUInt64.toNat % 2 ^ 6 := by
    rw [UInt64.toNat_and, show (Int64.toUInt64 63).toNat = 2 ^ 6 - 1 from by decide, Nat.and_two_pow_sub_one_eq_mod]
  refine ⟨s.toUInt64.toNat % 2 ^ 6, by omega, ?_, by omega⟩
  rw [← Int64.toBitVec_inj, ← BitVec.toNat_inj]
  show (s.toUInt64 &&& Int64.toUInt64 63).toNat = (BitVec.ofNat 64 (s.toUInt64.toNat % 2 ^ 6)).toNat
  rw [e, BitVec.toNat_ofNat]
  omega
end
section
/-! numbers, small types, indices -/
theorem na_i8 {a : Nat} (h : a < 128) : (nI a).toInt8.toInt32 = nI a := lg_i2b_small (by rw [nI_toInt (by omega)]; omega) (by rw [nI_toInt (by omega)]; omega)
theorem na_i16 {a : Nat} (h : a < 32768) : (nI a).toInt16.toInt32 = nI a := lg_i2s_small (by rw [nI_toInt (by omega)]; omega) (by rw [nI_toInt (by omega)]; omega)
theorem na_b {a : Nat} (h : a < 128) : vp_nar .byte (nI a).toInt8.toInt32 = nI a := by rw [vp_nar_byte, na_i8 h, na_i8 h]
theorem na_b' {a : Nat} (h : a < 128) : vp_nar .byte (nI a) = nI a := by rw [vp_nar_byte, na_i8 h]
theorem na_p {k : Nat} (h : k + 1 < 128) : vp_nar .byte ((nI k + 1).toInt8.toInt32) = nI (k + 1) := by rw [nI_1]; exact na_b h
theorem na_m {k : Nat} (h : k + 1 < 128) : vp_nar .byte ((nI (k + 1) - 1).toInt8.toInt32) = nI k := by rw [nI_pred]; exact na_b (by omega)
theorem na_sp {k : Nat} (h : k + 1 < 32768) : vp_nar .short ((nI k + 1).toInt16.toInt32) = nI (k + 1) := by
  rw [nI_1, vp_nar_short, na_i16 h, na_i16 h]
theorem na_sm {k : Nat} (h : k + 1 < 32768) : vp_nar .short ((nI (k + 1) - 1).toInt16.toInt32) = nI k := by
  rw [nI_pred, vp_nar_short, na_i16 (by omega), na_i16 (by omega)]
theorem na_0 : vp_nar .byte 0 = 0 := na_b' (a := 0) (by omega)
theorem na_1 : vp_nar .byte 1 = 1 := na_b' (a := 1) (by omega)
theorem na_2 : vp_nar .byte 2 = 2 := na_b' (a := 2) (by omega)
theorem na_3 : vp_nar .byte 3 = 3 := na_b' (a := 3) (by omega)
theorem na_c0 : vp_nar .byte ((0 : Int32).toInt8.toInt32) = 0 := na_b (a := 0) (by omega)
theorem na_c2 : vp_nar .byte ((2 : Int32).toInt8.toInt32) = 2 := na_b (a := 2) (by omega)
theorem na_s0 : vp_nar .short 0 = 0 := by rw [vp_nar_short]; exact na_i16 (a := 0) (by omega)
theorem na_f : vp_nar .boolean 0 = 0 := by decide
theorem na_t : vp_nar .boolean 1 = 1 := by decide
theorem na_c (e a : Nat) : nI e * 96 + nI a = nI (e * 96 + a) := by
  rw [show (96 : Int32) = nI 96 from rfl, pk_mul, nI_add]
theorem na_r (e r : Nat) : nI e * 6 + nI r = nI (e * 6 + r) := by
  rw [show (6 : Int32) = nI 6 from rfl, pk_mul, nI_add]
theorem na_x (e a f : Nat) : (nI e * 96 + nI a) * 3 + nI f = nI ((e * 96 + a) * 3 + f) := by
  rw [na_c, show (3 : Int32) = nI 3 from rfl, pk_mul, nI_add]
theorem na_d (a : Nat) : 2 * nI a = nI (2 * a) := by
  rw [show (2 : Int32) = nI 2 from rfl, pk_mul]
theorem na_a (n a : Nat) : nI n + nI a = nI (n + a) := nI_add n a
theorem na_lt0 {a : Nat} (h : a < 2 ^ 31) : ¬ nI a < 0 := nI_pos h
theorem na_inj {a b : Nat} (ha : a < 2 ^ 31) (hb : b < 2 ^ 31) (h : nI a = nI b) : a = b := (nI_eq ha hb).mp h
theorem na_inj2 {a b : Nat} (ha : a < 96) (hb : b < 96) (h : nI (2 * a) = nI (2 * b)) : a = b := by
  have := na_inj (by omega) (by omega) h; omega
theorem na_m1 {n : Nat} (h : 0 < n) : nI n + (-1) = nI (n - 1) := sb_m1 h
theorem na_s1 {n : Nat} (h : 0 < n) : nI n - 1 = nI (n - 1) := by
  obtain ⟨m, rfl⟩ : ∃ m, n = m + 1 := ⟨n - 1, by omega⟩
  exact nI_pred m
/-! contents: odd, or twice a cell -/
def gr_od (x : Int32) : Prop := ¬ (x &&& 1) = 0
def gr_wf (P : Nat → Prop) (x : Int32) : Prop := gr_od x ∨ ∃ a, P a ∧ x = nI (2 * a)
theorem gr_even {a : Nat} (h : a < 2 ^ 30) : (nI (2 * a) &&& 1) = 0 := by
  have e := pk_andN (n := 2 * a) (by omega) (m := 1) 1 (by decide)
  rw [e]
  have : 2 * a % 2 ^ 1 = 0 := by omega
  rw [this]; rfl
theorem gr_sh {a : Nat} (h : a < 2 ^ 30) : nI (2 * a) >>> ((1 : Int32) &&& 31) = nI a := by
  rw [pk_shrN (n := 2 * a) (by omega) _ 1 (by decide)]
  have : 2 * a / 2 ^ 1 = a := by omega
  rw [this]
theorem gr_od1 : gr_od 1 := by unfold gr_od; decide
theorem gr_odne {x : Int32} (h : gr_od x) {a : Nat} (ha : a < 2 ^ 30) : x ≠ nI (2 * a) := fun e => h (by rw [e]; exact gr_even ha)
theorem gr_wfm {P Q : Nat → Prop} {x : Int32} (h : gr_wf P x) (hq : ∀ a, P a → x = nI (2 * a) → Q a) : gr_wf Q x :=
  h.elim Or.inl fun ⟨a, ha, e⟩ => Or.inr ⟨a, hq a ha e, e⟩
theorem gr_wf_mono {P Q : Nat → Prop} {x : Int32} (h : gr_wf P x) (hq : ∀ a, P a → Q a) : gr_wf Q x := gr_wfm h fun a ha _ => hq a ha
/-! isReference -/
theorem xp_odd {post : Int32 → Prop} {x : Int32} (h : gr_od x) (k : post 0) : wpX_isReference post x := br_f h k
theorem xp_ref {post : Int32 → Prop} {a : Nat} (h : a < 2 ^ 30) (k : post 1) : wpX_isReference post (nI (2 * a)) := br_t (gr_even h) k
theorem na_n10 : ¬ (1 : Int32) = 0 := by decide
/-! reaching -/
def gr_rea (rt : Nat → Prop) (E : Nat → Nat → Prop) (a : Nat) : Prop := ∀ S : Nat → Prop, (∀ b, rt b → S b) → (∀ c b, S c → E c b → S b) → S a
theorem gr_root {rt : Nat → Prop} {E : Nat → Nat → Prop} {a : Nat} (h : rt a) : gr_rea rt E a := fun _ h1 _ => h1 a h
theorem gr_step {rt : Nat → Prop} {E : Nat → Nat → Prop} {a b : Nat} (h : gr_rea rt E a) (e : E a b) : gr_rea rt E b := fun S h1 h2 => h2 a b (h S h1 h2) e
theorem gr_ind {rt : Nat → Prop} {E : Nat → Nat → Prop} {a : Nat} (h : gr_rea rt E a) (S : Nat → Prop) (h1 : ∀ b, rt b → S b) (h2 : ∀ c b, gr_rea rt E c → S c → E c b → S b) : S a :=
  (h (fun x => gr_rea rt E x ∧ S x) (fun b hb => ⟨gr_root hb, h1 b hb⟩) (fun c b hc e => ⟨gr_step hc.1 e, h2 c b hc.1 hc.2 e⟩)).2
theorem gr_mono {rt rt' : Nat → Prop} {E E' : Nat → Nat → Prop} {a : Nat} (h : gr_rea rt E a) (h1 : ∀ b, rt b → gr_rea rt' E' b) (h2 : ∀ c b, gr_rea rt' E' c → E c b → gr_rea rt' E' b) : gr_rea rt' E' a :=
  h _ h1 h2
def gr_E (F : Nat → Nat → Int32) (a b : Nat) : Prop := b < 96 ∧ ∃ f, f < 3 ∧ F a f = nI (2 * b)
def gr_R (R : Nat → Int32) (b : Nat) : Prop := b < 96 ∧ ∃ r, r < 6 ∧ R r = nI (2 * b)
def gr_X (R : Nat → Int32) (F : Nat → Nat → Int32) : Nat → Prop := gr_rea (gr_R R) (gr_E F)
/-- registers and the fields of P's cells refer to P's cells alone -/
def gr_WG (R : Nat → Int32) (F : Nat → Nat → Int32) (P : Nat → Prop) : Prop :=
  (∀ r, r < 6 → gr_wf P (R r)) ∧ (∀ a, P a → ∀ f, f < 3 → gr_wf P (F a f)) ∧ (∀ a, P a → 1 ≤ a ∧ a < 96)
theorem gr_tgt {P : Nat → Prop} {x : Int32} {b : Nat} (h : gr_wf P x) (hP : ∀ a, P a → a < 96) (hb : b < 96) (e : x = nI (2 * b)) : P b := by
  rcases h with h | ⟨a, ha, ea⟩
  · exact absurd e (gr_odne h (by omega))
  · have := na_inj2 (hP a ha) hb (ea.symm.trans e)
    rw [← this]; exact ha
theorem gr_WG_X {R : Nat → Int32} {F : Nat → Nat → Int32} {P : Nat → Prop} (h : gr_WG R F P) {a : Nat} (ha : gr_X R F a) : P a := by
  obtain ⟨h1, h2, h3⟩ := h
  refine ha P ?_ ?_
  · rintro b ⟨hb, r, hr, e⟩
    exact gr_tgt (h1 r hr) (fun a ha => (h3 a ha).2) hb e
  · rintro c b hc ⟨hb, f, hf, e⟩
    exact gr_tgt (h2 c hc f hf) (fun a ha => (h3 a ha).2) hb e
theorem gr_WG_self {R : Nat → Int32} {F : Nat → Nat → Int32} {P : Nat → Prop} (h : gr_WG R F P) : gr_WG R F (gr_X R F) := by
  have hx := fun {a} => gr_WG_X (a := a) h
  obtain ⟨h1, h2, h3⟩ := h
  refine ⟨fun r hr => ?_, fun a ha f hf => ?_, fun a ha => h3 a (hx ha)⟩
  · exact gr_wfm (h1 r hr) fun a ha e => gr_root ⟨(h3 a ha).2, r, hr, e⟩
  · exact gr_wfm (h2 a (hx ha) f hf) fun b hb e => gr_step ha ⟨(h3 b hb).2, f, hf, e⟩
/-! counting -/
noncomputable def ct_c (P : Nat → Prop) : Nat → Nat
  | 0 => 0
  | n + 1 => ct_c P n + @ite Nat (P n) (Classical.propDecidable (P n)) 1 0
theorem ct_t {P : Nat → Prop} {n : Nat} (h : P n) : ct_c P (n + 1) = ct_c P n + 1 := by
  show ct_c P n + @ite Nat (P n) (Classical.propDecidable (P n)) 1 0 = _
  rw [if_pos h]
theorem ct_f {P : Nat → Prop} {n : Nat} (h : ¬ P n) : ct_c P (n + 1) = ct_c P n := by
  show ct_c P n + @ite Nat (P n) (Classical.propDecidable (P n)) 1 0 = _
  rw [if_neg h]; rfl
theorem ct_le {P : Nat → Prop} : ∀ n, ct_c P n ≤ n
  | 0 => Nat.le_refl 0
  | n + 1 => by
    have := ct_le (P := P) n
    by_cases h : P n
    · rw [ct_t h]; omega
    · rw [ct_f h]; omega
theorem ct_mono {P Q : Nat → Prop} : ∀ n, (∀ i, i < n → P i → Q i) → ct_c P n ≤ ct_c Q n
  | 0, _ => Nat.le_refl 0
  | n + 1, h => by
    have := ct_mono n (fun i hi => h i (by omega))
    by_cases hp : P n
    · rw [ct_t hp, ct_t (h n (by omega) hp)]; omega
    · rw [ct_f hp]
      by_cases hq : Q n
      · rw [ct_t hq]; omega
      · rw [ct_f hq]; omega
theorem ct_congr {P Q : Nat → Prop} (n : Nat) (h : ∀ i, i < n → (P i ↔ Q i)) : ct_c P n = ct_c Q n :=
  Nat.le_antisymm (ct_mono n fun i hi => (h i hi).mp) (ct_mono n fun i hi => (h i hi).mpr)
theorem ct_zero {P : Nat → Prop} (n : Nat) (h : ∀ i, i < n → ¬ P i) : ct_c P n = 0 := by
  induction n with
  | zero => rfl
  | succ n ih => rw [ct_f (h n (by omega))]; exact ih fun i hi => h i (by omega)
theorem ct_add {P Q : Nat → Prop} {a : Nat} : ∀ n, a < n → ¬ P a → (∀ i, i < n → (Q i ↔ P i ∨ i = a)) → ct_c Q n = ct_c P n + 1
  | 0, h, _, _ => absurd h (Nat.not_lt_zero a)
  | n + 1, h, hp, hq => by
    by_cases e : a = n
    · subst e
      rw [ct_f hp, ct_t ((hq a (by omega)).mpr (Or.inr rfl))]
      congr 1
      exact ct_congr a fun i hi => (hq i (by omega)).trans ⟨fun z => z.elim id fun w => absurd w (by omega), Or.inl⟩
    · have ih := ct_add n (by omega) hp fun i hi => hq i (by omega)
      by_cases hn : P n
      · rw [ct_t hn, ct_t ((hq n (by omega)).mpr (Or.inl hn))]; omega
      · have : ¬ Q n := fun z => ((hq n (by omega)).mp z).elim hn fun w => e w.symm
        rw [ct_f hn, ct_f this]; exact ih
theorem ct_pos {P : Nat → Prop} {a : Nat} (n : Nat) (ha : a < n) (h : P a) : 0 < ct_c P n := by
  have := ct_add (P := fun i => P i ∧ i ≠ a) (Q := P) n ha (fun z => z.2 rfl) (fun i _ => ⟨fun z => by
    by_cases e : i = a
    · exact Or.inr e
    · exact Or.inl ⟨z, e⟩, fun z => z.elim (fun w => w.1) fun w => w ▸ h⟩)
  omega
theorem ct_not {P : Nat → Prop} : ∀ n, ct_c P n + ct_c (fun i => ¬ P i) n = n
  | 0 => rfl
  | n + 1 => by
    have := ct_not (P := P) n
    by_cases h : P n
    · rw [ct_t h, ct_f (P := fun i => ¬ P i) (fun z => z h)]; omega
    · rw [ct_f h, ct_t (P := fun i => ¬ P i) h]; omega
theorem ct_split {P Q : Nat → Prop} : ∀ n, ct_c P n = ct_c (fun i => P i ∧ Q i) n + ct_c (fun i => P i ∧ ¬ Q i) n
  | 0 => rfl
  | n + 1 => by
    have := ct_split (P := P) (Q := Q) n
    by_cases h : P n
    · by_cases q : Q n
      · rw [ct_t h, ct_t (P := fun i => P i ∧ Q i) ⟨h, q⟩, ct_f (P := fun i => P i ∧ ¬ Q i) (fun z => z.2 q)]; omega
      · rw [ct_t h, ct_f (P := fun i => P i ∧ Q i) (fun z => q z.2), ct_t (P := fun i => P i ∧ ¬ Q i) ⟨h, q⟩]; omega
    · rw [ct_f h, ct_f (P := fun i => P i ∧ Q i) (fun z => h z.1), ct_f (P := fun i => P i ∧ ¬ Q i) (fun z => h z.1)]; exact this
theorem ct_map {P : Nat → Prop} (g : Nat → Nat) (m : Nat) : ∀ (n : Nat) (Q : Nat → Prop), (∀ i, i < n → P i → g i < m ∧ Q (g i)) → (∀ i j, i < n → j < n → P i → P j → g i = g j → i = j) → ct_c P n ≤ ct_c Q m
  | 0, _, _, _ => Nat.zero_le _
  | n + 1, Q, h, inj => by
    by_cases hp : P n
    · have hn := h n (by omega) hp
      have ih := ct_map g m n (fun x => Q x ∧ x ≠ g n) (fun i hi hpi => ⟨(h i (by omega) hpi).1, (h i (by omega) hpi).2, fun e => by
        have := inj i n (by omega) (by omega) hpi hp e; omega⟩) (fun i j hi hj => inj i j (by omega) (by omega))
      have := ct_add (P := fun x => Q x ∧ x ≠ g n) (Q := Q) m hn.1 (fun z => z.2 rfl) (fun i _ => ⟨fun z => by
        by_cases e : i = g n
        · exact Or.inr e
        · exact Or.inl ⟨z, e⟩, fun z => z.elim (fun w => w.1) fun w => w ▸ hn.2⟩)
      rw [ct_t hp]; omega
    · rw [ct_f hp]
      exact ct_map g m n Q (fun i hi => h i (by omega)) (fun i j hi hj => inj i j (by omega) (by omega))
theorem ct_ext {P : Nat → Prop} {n : Nat} (h : ∀ i, n ≤ i → ¬ P i) : ∀ m, n ≤ m → ct_c P m = ct_c P n
  | 0, hm => by rw [show n = 0 by omega]
  | m + 1, hm => by
    by_cases e : n = m + 1
    · rw [e]
    · rw [ct_f (h m (by omega))]; exact ct_ext h m (by omega)
theorem ct_range {lo hi : Nat} (h : lo ≤ hi) : ∀ n, hi ≤ n → ct_c (fun i => lo ≤ i ∧ i < hi) n = hi - lo := by
  intro n hn
  rw [ct_ext (P := fun i => lo ≤ i ∧ i < hi) (n := hi) (fun i hi' z => by omega) n hn]
  clear hn
  obtain ⟨d, rfl⟩ : ∃ d, hi = lo + d := ⟨hi - lo, by omega⟩
  clear h
  have key : ∀ k, k ≤ d → ct_c (fun i => lo ≤ i ∧ i < lo + d) (lo + k) = k := by
    intro k
    induction k with
    | zero => intro _; exact ct_zero _ fun i hi z => by omega
    | succ k ih =>
      intro hk
      rw [show lo + (k + 1) = (lo + k) + 1 by omega, ct_t (P := fun i => lo ≤ i ∧ i < lo + d) ⟨by omega, by omega⟩, ih (by omega)]
  rw [key d (Nat.le_refl d)]; omega
theorem ct_list : ∀ (l : List Nat) (P : Nat → Prop) (n : Nat), l.Nodup → (∀ a, a ∈ l ↔ a < n ∧ P a) → l.length = ct_c P n
  | [], P, n, _, h => by
    rw [ct_zero n fun i hi z => by
      have := (h i).mpr ⟨hi, z⟩
      exact absurd this List.not_mem_nil]
    rfl
  | a :: l, P, n, hd, h => by
    have ha := (h a).mp List.mem_cons_self
    have hd' := List.nodup_cons.mp hd
    have ih := ct_list l (fun x => P x ∧ x ≠ a) n hd'.2 (fun b => ⟨fun z => by
      have := (h b).mp (List.mem_cons_of_mem _ z)
      exact ⟨this.1, this.2, fun e => hd'.1 (e ▸ z)⟩, fun z => by
      rcases List.mem_cons.mp ((h b).mpr ⟨z.1, z.2.1⟩) with e | e
      · exact absurd e z.2.2
      · exact e⟩)
    have := ct_add (P := fun x => P x ∧ x ≠ a) (Q := P) n ha.1 (fun z => z.2 rfl) (fun i _ => ⟨fun z => by
        by_cases e : i = a
        · exact Or.inr e
        · exact Or.inl ⟨z, e⟩, fun z => z.elim (fun w => w.1) fun w => w ▸ ha.2⟩)
    rw [List.length_cons, ih, this]
end
section
/-! one collector's part of the shared arrays -/
def vw_r (g : Nat → Int32) (e : Nat) : Nat → Int32 := fun r => if r < 6 then g (e * 6 + r) else 1
def vw_f (g : Nat → Int32) (e : Nat) : Nat → Nat → Int32 := fun a f => if a < 96 ∧ f < 3 then g ((e * 96 + a) * 3 + f) else 1
def vw_c (g : Nat → Int32) (e : Nat) : Nat → Int32 := fun a => if a < 96 then g (e * 96 + a) else 0
def vw_s (g : Nat → Int32) : Nat → Int32 := fun a => if a < 96 then g a else 0
def vw_u (F : Nat → Nat → Int32) (a f : Nat) (x : Int32) : Nat → Nat → Int32 := fun c g => if c = a ∧ g = f then x else F c g
def vw_w (F : Nat → Nat → Int32) (a : Nat) (h : Nat → Int32) : Nat → Nat → Int32 := fun c g => if c = a then h g else F c g
theorem vw_r_at {g : Nat → Int32} {e r : Nat} (h : r < 6) : vw_r g e r = g (e * 6 + r) := if_pos h
theorem vw_f_at {g : Nat → Int32} {e a f : Nat} (h : a < 96) (h2 : f < 3) : vw_f g e a f = g ((e * 96 + a) * 3 + f) := if_pos ⟨h, h2⟩
theorem vw_f_hi {g : Nat → Int32} {e a f : Nat} (h : 3 ≤ f) : vw_f g e a f = 1 := if_neg (by omega)
theorem vw_c_at {g : Nat → Int32} {e a : Nat} (h : a < 96) : vw_c g e a = g (e * 96 + a) := if_pos h
theorem vw_c_hi {g : Nat → Int32} {e a : Nat} (h : 96 ≤ a) : vw_c g e a = 0 := if_neg (by omega)
theorem vw_s_at {g : Nat → Int32} {a : Nat} (h : a < 96) : vw_s g a = g a := if_pos h
theorem vw_s_hi {g : Nat → Int32} {a : Nat} (h : 96 ≤ a) : vw_s g a = 0 := if_neg (by omega)
theorem vw_us {F : Nat → Nat → Int32} {a f : Nat} {x : Int32} : vw_u F a f x a f = x := if_pos ⟨rfl, rfl⟩
theorem vw_un {F : Nat → Nat → Int32} {a f c g : Nat} {x : Int32} (h : c ≠ a ∨ g ≠ f) : vw_u F a f x c g = F c g := if_neg (by omega)
theorem vw_ws {F : Nat → Nat → Int32} {a g : Nat} {h : Nat → Int32} : vw_w F a h a g = h g := if_pos rfl
theorem vw_wn {F : Nat → Nat → Int32} {a c g : Nat} {h : Nat → Int32} (n : c ≠ a) : vw_w F a h c g = F c g := if_neg n
theorem vw_r_s {g : Nat → Int32} {e r : Nat} {x : Int32} (h : r < 6) : vw_r (upd g (e * 6 + r) x) e = upd (vw_r g e) r x := by
  funext j
  by_cases ej : j = r
  · subst ej; rw [vw_r_at h, pk_us, pk_us]
  · rw [pk_un ej]
    by_cases hj : j < 6
    · rw [vw_r_at hj, vw_r_at hj, pk_un (by omega)]
    · rw [vw_r, vw_r, if_neg hj, if_neg hj]
theorem vw_r_o {g : Nat → Int32} {e e' r : Nat} {x : Int32} (h : r < 6) (n : e' ≠ e) : vw_r (upd g (e * 6 + r) x) e' = vw_r g e' := by
  funext j
  by_cases hj : j < 6
  · rw [vw_r_at hj, vw_r_at hj, pk_un (by omega)]
  · rw [vw_r, vw_r, if_neg hj, if_neg hj]
theorem vw_c_s {g : Nat → Int32} {e a : Nat} {x : Int32} (h : a < 96) : vw_c (upd g (e * 96 + a) x) e = upd (vw_c g e) a x := by
  funext j
  by_cases ej : j = a
  · subst ej; rw [vw_c_at h, pk_us, pk_us]
  · rw [pk_un ej]
    by_cases hj : j < 96
    · rw [vw_c_at hj, vw_c_at hj, pk_un (by omega)]
    · rw [vw_c, vw_c, if_neg hj, if_neg hj]
theorem vw_c_o {g : Nat → Int32} {e e' a : Nat} {x : Int32} (h : a < 96) (n : e' ≠ e) : vw_c (upd g (e * 96 + a) x) e' = vw_c g e' := by
  funext j
  by_cases hj : j < 96
  · rw [vw_c_at hj, vw_c_at hj, pk_un (by omega)]
  · rw [vw_c, vw_c, if_neg hj, if_neg hj]
theorem vw_s_s {g : Nat → Int32} {a : Nat} {x : Int32} (h : a < 96) : vw_s (upd g a x) = upd (vw_s g) a x := by
  funext j
  by_cases ej : j = a
  · subst ej; rw [vw_s_at h, pk_us, pk_us]
  · rw [pk_un ej]
    by_cases hj : j < 96
    · rw [vw_s_at hj, vw_s_at hj, pk_un ej]
    · rw [vw_s, vw_s, if_neg hj, if_neg hj]
theorem vw_f_s {g : Nat → Int32} {e a f : Nat} {x : Int32} (h : a < 96) (h2 : f < 3) : vw_f (upd g ((e * 96 + a) * 3 + f) x) e = vw_u (vw_f g e) a f x := by
  funext c j
  by_cases ej : c = a ∧ j = f
  · obtain ⟨rfl, rfl⟩ := ej; rw [vw_f_at h h2, pk_us, vw_us]
  · rw [vw_un (by omega)]
    by_cases hj : c < 96 ∧ j < 3
    · rw [vw_f_at hj.1 hj.2, vw_f_at hj.1 hj.2, pk_un (by omega)]
    · rw [vw_f, vw_f, if_neg hj, if_neg hj]
theorem vw_f_o {g : Nat → Int32} {e e' a f : Nat} {x : Int32} (h : a < 96) (h2 : f < 3) (n : e' ≠ e) : vw_f (upd g ((e * 96 + a) * 3 + f) x) e' = vw_f g e' := by
  funext c j
  by_cases hj : c < 96 ∧ j < 3
  · rw [vw_f_at hj.1 hj.2, vw_f_at hj.1 hj.2, pk_un (by omega)]
  · rw [vw_f, vw_f, if_neg hj, if_neg hj]
/-- what a collector shares with the others: its part of each -/
def vw_v (e : Nat) (rg fl tk co nx ff fc : Nat → Int32) : (Nat → Int32) × (Nat → Nat → Int32) × (Nat → Int32) × (Nat → Int32) × (Nat → Int32) × Int32 × Int32 :=
  (vw_r rg e, vw_f fl e, vw_c tk e, vw_c co e, vw_c nx e, ff e, fc e)
section VW
variable {zhf zhn zcn zyn zsc zph zsa zgc zsd zs2 : Int32} {zrg zfl ztk zco znx zff zfc zmv zrm zrf zsu zss zgs zfa zst zt2 zse zpa zba : Nat → Int32}
theorem vw_v_fl {e : Nat} {zfl' : Nat → Int32} (h : vw_f zfl' e = vw_f zfl e) : vw_v e zrg zfl' ztk zco znx zff zfc = vw_v e zrg zfl ztk zco znx zff zfc := by
  show (vw_r zrg e, vw_f zfl' e, vw_c ztk e, vw_c zco e, vw_c znx e, zff e, zfc e) = _
  rw [h]; rfl
theorem vw_v_rg {e : Nat} {zrg' : Nat → Int32} (h : vw_r zrg' e = vw_r zrg e) : vw_v e zrg' zfl ztk zco znx zff zfc = vw_v e zrg zfl ztk zco znx zff zfc := by
  show (vw_r zrg' e, vw_f zfl e, vw_c ztk e, vw_c zco e, vw_c znx e, zff e, zfc e) = _
  rw [h]; rfl
theorem vw_v_co {e : Nat} {zco' : Nat → Int32} (h : vw_c zco' e = vw_c zco e) : vw_v e zrg zfl ztk zco' znx zff zfc = vw_v e zrg zfl ztk zco znx zff zfc := by
  show (vw_r zrg e, vw_f zfl e, vw_c ztk e, vw_c zco' e, vw_c znx e, zff e, zfc e) = _
  rw [h]; rfl
theorem vw_v_5 {e : Nat} {ztk' zco' znx' zff' zfc' : Nat → Int32} (h1 : vw_c ztk' e = vw_c ztk e) (h2 : vw_c zco' e = vw_c zco e) (h3 : vw_c znx' e = vw_c znx e) (h4 : zff' e = zff e) (h5 : zfc' e = zfc e) : vw_v e zrg zfl ztk' zco' znx' zff' zfc' = vw_v e zrg zfl ztk zco znx zff zfc := by
  show (vw_r zrg e, vw_f zfl e, vw_c ztk' e, vw_c zco' e, vw_c znx' e, zff' e, zfc' e) = _
  rw [h1, h2, h3, h4, h5]; rfl
/-! small methods -/
theorem xp_fieldOf {post : Int32 → Prop} {e a f : Nat} (he : e < 7) (ha : a < 96) (h3 : f < 3) (k : post (vw_f zfl e a f)) : wpX_fieldOf post (zhf, zhn, zcn, zyn, zsc, zph, zsa, zgc, zsd, zs2, zrg, zfl, ztk, zco, znx, zff, zfc, zmv, zrm, zrf, zsu, zss, zgs, zfa, zst, zt2, zse, zpa, zba) (nI e) (nI a) (nI f) := by
  show vp_in ((nI e * 96 + nI a) * 3 + nI f) 2016 ∧ post (zfl ((nI e * 96 + nI a) * 3 + nI f).toNatClampNeg)
  rw [na_x, nI_clamp (by omega)]
  rw [vw_f_at ha h3] at k
  exact ⟨vp_in_nI (by omega) (by omega), k⟩
theorem xp_store {post : SX → Prop} {e a f : Nat} {x : Int32} (he : e < 7) (ha : a < 96) (h3 : f < 3)
    (k : ∀ zfl', vw_f zfl' e = vw_u (vw_f zfl e) a f x → (∀ e', e' ≠ e → vw_f zfl' e' = vw_f zfl e') → post (zhf, zhn, zcn, zyn, zsc, zph, zsa, zgc, zsd, zs2, zrg, zfl', ztk, zco, znx, zff, zfc, zmv, zrm, zrf, zsu, zss, zgs, zfa, zst, zt2, zse, zpa, zba)) : wpX_store post (zhf, zhn, zcn, zyn, zsc, zph, zsa, zgc, zsd, zs2, zrg, zfl, ztk, zco, znx, zff, zfc, zmv, zrm, zrf, zsu, zss, zgs, zfa, zst, zt2, zse, zpa, zba) (nI e) (nI a) (nI f) x := by
  show vp_in ((nI e * 96 + nI a) * 3 + nI f) 2016 ∧ ∀ zfl', zfl' = upd zfl ((nI e * 96 + nI a) * 3 + nI f).toNatClampNeg x → post (zhf, zhn, zcn, zyn, zsc, zph, zsa, zgc, zsd, zs2, zrg, zfl', ztk, zco, znx, zff, zfc, zmv, zrm, zrf, zsu, zss, zgs, zfa, zst, zt2, zse, zpa, zba)
  rw [na_x, nI_clamp (by omega)]
  exact ⟨vp_in_nI (by omega) (by omega), fun z ez => k z (by rw [ez]; exact vw_f_s ha h3) (fun e' n => by rw [ez]; exact vw_f_o ha h3 n)⟩
theorem vw_cl {F : Nat → Nat → Int32} {a : Nat} (h : ∀ c g, 3 ≤ g → F c g = 1) : vw_u (vw_u (vw_u F a 0 1) a 1 1) a 2 1 = vw_w F a (fun _ => 1) := by
  funext c g
  by_cases e : c = a
  · subst e
    rw [vw_ws]
    by_cases g2 : g = 2
    · subst g2; rw [vw_us]
    · rw [vw_un (by omega)]
      by_cases g1 : g = 1
      · subst g1; rw [vw_us]
      · rw [vw_un (by omega)]
        by_cases g0 : g = 0
        · subst g0; rw [vw_us]
        · rw [vw_un (by omega)]; exact h c g (by omega)
  · rw [vw_wn e, vw_un (Or.inl e), vw_un (Or.inl e), vw_un (Or.inl e)]
theorem xp_clear {post : SX → Prop} {e a : Nat} (he : e < 7) (ha : a < 96)
    (k : ∀ zfl', vw_f zfl' e = vw_w (vw_f zfl e) a (fun _ => 1) → (∀ e', e' ≠ e → vw_f zfl' e' = vw_f zfl e') → post (zhf, zhn, zcn, zyn, zsc, zph, zsa, zgc, zsd, zs2, zrg, zfl', ztk, zco, znx, zff, zfc, zmv, zrm, zrf, zsu, zss, zgs, zfa, zst, zt2, zse, zpa, zba)) : wpX_clearFields post (zhf, zhn, zcn, zyn, zsc, zph, zsa, zgc, zsd, zs2, zrg, zfl, ztk, zco, znx, zff, zfc, zmv, zrm, zrf, zsu, zss, zgs, zfa, zst, zt2, zse, zpa, zba) (nI e) (nI a) := by
  show ∃ n2 : Nat, wX_clearFields_2 post (nI e) (nI a) n2 0 zhf zhn zcn zyn zsc zph zsa zgc zsd zs2 zrg zfl ztk zco znx zff zfc zmv zrm zrf zsu zss zgs zfa zst zt2 zse zpa zba
  refine ⟨4, ?_⟩
  refine br_f (by decide) ?_
  refine xp_store (f := 0) he ha (by omega) fun f1 h1 o1 => ?_
  refine nm_r (e' := nI 1) rfl ?_
  refine br_f (by decide) ?_
  refine xp_store (f := 1) he ha (by omega) fun f2 h2 o2 => ?_
  refine nm_r (e' := nI 2) rfl ?_
  refine br_f (by decide) ?_
  refine xp_store (f := 2) he ha (by omega) fun f3 h3 o3 => ?_
  refine nm_r (e' := nI 3) rfl ?_
  refine br_t (by decide) ?_
  refine k f3 ?_ fun e' n => ?_
  · rw [h3, h2, h1]; exact vw_cl fun c g hg => vw_f_hi hg
  · rw [o3 e' n, o2 e' n, o1 e' n]
theorem vw_cp {F : Nat → Nat → Int32} {a b : Nat} (h : ∀ c g, 3 ≤ g → F c g = 1) : vw_u (vw_u (vw_u F b 0 (F a 0)) b 1 (F a 1)) b 2 (F a 2) = vw_w F b (F a) := by
  funext c g
  by_cases e : c = b
  · subst e
    rw [vw_ws]
    by_cases g2 : g = 2
    · subst g2; rw [vw_us]
    · rw [vw_un (by omega)]
      by_cases g1 : g = 1
      · subst g1; rw [vw_us]
      · rw [vw_un (by omega)]
        by_cases g0 : g = 0
        · subst g0; rw [vw_us]
        · rw [vw_un (by omega), h c g (by omega), h a g (by omega)]
  · rw [vw_wn e, vw_un (Or.inl e), vw_un (Or.inl e), vw_un (Or.inl e)]
theorem xp_copy {post : SX → Prop} {e a b : Nat} (he : e < 7) (ha : a < 96) (hb : b < 96) (hn : a ≠ b)
    (k : ∀ zfl', vw_f zfl' e = vw_w (vw_f zfl e) b (vw_f zfl e a) → (∀ e', e' ≠ e → vw_f zfl' e' = vw_f zfl e') → post (zhf, zhn, zcn, zyn, zsc, zph, zsa, zgc, zsd, zs2, zrg, zfl', ztk, zco, znx, zff, zfc, zmv, zrm, zrf, zsu, zss, zgs, zfa, zst, zt2, zse, zpa, zba)) : wpX_copyFields post (zhf, zhn, zcn, zyn, zsc, zph, zsa, zgc, zsd, zs2, zrg, zfl, ztk, zco, znx, zff, zfc, zmv, zrm, zrf, zsu, zss, zgs, zfa, zst, zt2, zse, zpa, zba) (nI e) (nI a) (nI b) := by
  show ∃ n2 : Nat, wX_copyFields_3 post (nI e) (nI a) (nI b) n2 0 zhf zhn zcn zyn zsc zph zsa zgc zsd zs2 zrg zfl ztk zco znx zff zfc zmv zrm zrf zsu zss zgs zfa zst zt2 zse zpa zba
  refine ⟨4, ?_⟩
  refine br_f (by decide) ?_
  refine xp_fieldOf (f := 0) he ha (by omega) ?_
  refine xp_store (f := 0) he hb (by omega) fun f1 h1 o1 => ?_
  refine nm_r (e' := nI 1) rfl ?_
  refine br_f (by decide) ?_
  refine xp_fieldOf (f := 1) he ha (by omega) ?_
  refine xp_store (f := 1) he hb (by omega) fun f2 h2 o2 => ?_
  refine nm_r (e' := nI 2) rfl ?_
  refine br_f (by decide) ?_
  refine xp_fieldOf (f := 2) he ha (by omega) ?_
  refine xp_store (f := 2) he hb (by omega) fun f3 h3 o3 => ?_
  refine nm_r (e' := nI 3) rfl ?_
  refine br_t (by decide) ?_
  refine k f3 ?_ fun e' n => ?_
  · rw [h3, h2, h1, vw_un (Or.inl hn), vw_un (Or.inl hn), vw_un (Or.inl hn)]; exact vw_cp fun c g hg => vw_f_hi hg
  · rw [o3 e' n, o2 e' n, o1 e' n]
theorem xp_push {post : SX → Prop} {k a : Nat} (hk : k < 400) (ha : a < 128) (K : post (zhf, zhn, zcn, zyn, zsc, zph, zsa, zgc, nI (k + 1), zs2, zrg, zfl, ztk, zco, znx, zff, zfc, zmv, zrm, zrf, zsu, zss, zgs, zfa, upd zst k (nI a), zt2, zse, zpa, zba)) : wpX_push post (zhf, zhn, zcn, zyn, zsc, zph, zsa, zgc, nI k, zs2, zrg, zfl, ztk, zco, znx, zff, zfc, zmv, zrm, zrf, zsu, zss, zgs, zfa, zst, zt2, zse, zpa, zba) (nI a) := by
  show vp_in (nI k) 400 ∧ ∀ zst', zst' = upd zst (nI k).toNatClampNeg (vp_nar .byte (nI a).toInt8.toInt32) → ∀ zsd', zsd' = nI k + 1 → post (zhf, zhn, zcn, zyn, zsc, zph, zsa, zgc, zsd', zs2, zrg, zfl, ztk, zco, znx, zff, zfc, zmv, zrm, zrf, zsu, zss, zgs, zfa, zst', zt2, zse, zpa, zba)
  rw [nI_clamp (by omega), na_b ha, nI_1]
  exact ⟨vp_in_nI hk (by omega), nm_e (nm_e K)⟩
end VW
/-! the free cells, which follow each other -/
def fr_ch (N : Nat → Int32) : Int32 → List Nat → Prop
  | x, [] => x = 0
  | x, a :: l => x = nI a ∧ fr_ch N (N a) l
def fr_ok (last : Nat) (T N : Nat → Int32) (f c : Int32) : Prop :=
  ∃ l : List Nat, l.Nodup ∧ (∀ a, a ∈ l ↔ 1 ≤ a ∧ a ≤ last ∧ T a = 0) ∧ fr_ch N f l ∧ c = nI l.length
theorem fr_chu {N : Nat → Int32} {a : Nat} {y : Int32} : ∀ (l : List Nat) (x : Int32), a ∉ l → fr_ch N x l → fr_ch (upd N a y) x l
  | [], _, _, h => h
  | b :: l, x, hn, h => ⟨h.1, by
    have hb : b ≠ a := fun e => hn (e ▸ List.mem_cons_self)
    rw [pk_un hb]
    exact fr_chu l _ (fun z => hn (List.mem_cons_of_mem _ z)) h.2⟩
theorem fr_len {last : Nat} {T : Nat → Int32} {l : List Nat} (h : l.Nodup) (hm : ∀ a, a ∈ l ↔ 1 ≤ a ∧ a ≤ last ∧ T a = 0) : l.length = ct_c (fun a => 1 ≤ a ∧ a ≤ last ∧ T a = 0) 96 ∨ 96 ≤ last := by
  by_cases hl : 96 ≤ last
  · exact Or.inr hl
  · exact Or.inl (ct_list l _ 96 h fun a => (hm a).trans ⟨fun z => ⟨by omega, z⟩, fun z => z.2⟩)
theorem fr_cnt {last : Nat} {T N : Nat → Int32} {f c : Int32} (hl : last < 96) (h : fr_ok last T N f c) : c = nI (ct_c (fun a => 1 ≤ a ∧ a ≤ last ∧ T a = 0) 96) := by
  obtain ⟨l, h1, h2, _, h4⟩ := h
  rw [h4, (fr_len h1 h2).resolve_right (by omega)]
theorem fr_rel {last a : Nat} {T N : Nat → Int32} {f c : Int32} (h : fr_ok last T N f c) (h1 : 1 ≤ a) (h2 : a ≤ last) (ht : T a ≠ 0) : fr_ok last (upd T a 0) (upd N a f) (nI a) (c + 1) := by
  obtain ⟨l, hd, hm, hc, hl⟩ := h
  have ha : a ∉ l := fun z => ht ((hm a).mp z).2.2
  refine ⟨a :: l, List.nodup_cons.mpr ⟨ha, hd⟩, fun b => ?_, ⟨rfl, by rw [pk_us]; exact fr_chu l f ha hc⟩, by rw [hl, nI_1]; rfl⟩
  by_cases e : b = a
  · subst e; rw [pk_us]; exact ⟨fun _ => ⟨h1, h2, rfl⟩, fun _ => List.mem_cons_self⟩
  · rw [pk_un e, ← hm b]; exact ⟨fun z => (List.mem_cons.mp z).resolve_left e, List.mem_cons_of_mem _⟩
theorem fr_take {last : Nat} {T N : Nat → Int32} {f c : Int32} (h : fr_ok last T N f c) (hc : c ≠ 0) : ∃ a, 1 ≤ a ∧ a ≤ last ∧ T a = 0 ∧ f = nI a ∧ fr_ok last (upd T a 1) N (N a) (c - 1) ∧ ∃ m, m ≤ last ∧ c = nI (m + 1) ∧ c - 1 = nI m ∧ (∃ b, b ≤ last ∧ N a = nI b) := by
  obtain ⟨l, hd, hm, hch, hl⟩ := h
  cases l with
  | nil => exact absurd hl hc
  | cons a l =>
    have ha := (hm a).mp List.mem_cons_self
    have hd' := List.nodup_cons.mp hd
    refine ⟨a, ha.1, ha.2.1, ha.2.2, hch.1, ⟨l, hd'.2, fun b => ?_, hch.2, by rw [hl, List.length_cons, nI_pred]⟩, l.length, ?_, hl, by rw [hl, List.length_cons, nI_pred], ?_⟩
    · by_cases e : b = a
      · subst e; rw [pk_us]; exact ⟨fun z => absurd z hd'.1, fun z => absurd z.2.2 (by decide)⟩
      · rw [pk_un e, ← hm b]; exact ⟨List.mem_cons_of_mem _, fun z => (List.mem_cons.mp z).resolve_left e⟩
    · have := ct_list l (fun x => 1 ≤ x ∧ x ≤ last ∧ T x = 0 ∧ x ≠ a) (last + 1) hd'.2 (fun b => ⟨fun z => by
        have w := (hm b).mp (List.mem_cons_of_mem _ z)
        exact ⟨by omega, w.1, w.2.1, w.2.2, fun e => hd'.1 (e ▸ z)⟩, fun z => by
        have w := (hm b).mpr ⟨z.2.1, z.2.2.1, z.2.2.2.1⟩
        exact (List.mem_cons.mp w).resolve_left z.2.2.2.2⟩)
      rw [this]
      have h0 : ct_c (fun x => 1 ≤ x ∧ x ≤ last ∧ T x = 0 ∧ x ≠ a) (last + 1) ≤ ct_c (fun x => 1 ≤ x ∧ x < last + 1) (last + 1) := ct_mono _ fun i hi z => ⟨z.1, by omega⟩
      rw [ct_range (by omega) _ (Nat.le_refl _)] at h0
      omega
    · cases l with
      | nil => exact ⟨0, by omega, hch.2⟩
      | cons b l => exact ⟨b, ((hm b).mp (List.mem_cons_of_mem _ List.mem_cons_self)).2.1, hch.2.1⟩
theorem fr_first {last : Nat} {T N : Nat → Int32} {f c : Int32} (h : fr_ok last T N f c) (hl : last < 96) : (∃ b, b < 96 ∧ f = nI b) ∧ ∃ m, m ≤ last ∧ c = nI m := by
  have hc := fr_cnt hl h
  have h0 : ct_c (fun x => 1 ≤ x ∧ x ≤ last ∧ T x = 0) 96 ≤ ct_c (fun x => 1 ≤ x ∧ x < last + 1) 96 := ct_mono _ fun i hi z => ⟨z.1, by omega⟩
  rw [ct_range (by omega) _ (by omega)] at h0
  refine ⟨?_, _, ?_, hc⟩
  · obtain ⟨l, hd, hm, hch, _⟩ := h
    cases l with
    | nil => exact ⟨0, by omega, hch⟩
    | cons b l => exact ⟨b, by have := ((hm b).mp List.mem_cons_self).2.1; omega, hch.1⟩
  · omega
section FR
variable {zhf zhn zcn zyn zsc zph zsa zgc zsd zs2 : Int32} {zrg zfl ztk zco znx zff zfc zmv zrm zrf zsu zss zgs zfa zst zt2 zse zpa zba : Nat → Int32}
theorem xp_release {post : SX → Prop} {e a m b : Nat} (he : e < 7) (ha : a < 96) (hb : b < 96) (hf : zff e = nI b) (hm : zfc e = nI m) (hm' : m < 100)
    (k : post (zhf, zhn, zcn, zyn, zsc, zph, zsa, zgc, zsd, zs2, zrg, zfl, upd ztk (e * 96 + a) 0, upd zco (e * 96 + a) 0, upd znx (e * 96 + a) (zff e), upd zff e (nI a), upd zfc e (nI (m + 1)), zmv, zrm, zrf, zsu, zss, zgs, zfa, zst, zt2, zse, zpa, zba)) : wpX_release post (zhf, zhn, zcn, zyn, zsc, zph, zsa, zgc, zsd, zs2, zrg, zfl, ztk, zco, znx, zff, zfc, zmv, zrm, zrf, zsu, zss, zgs, zfa, zst, zt2, zse, zpa, zba) (nI e) (nI a) := by
  show vp_in (nI e * 96 + nI a) 672 ∧ ∀ ztk', ztk' = upd ztk (nI e * 96 + nI a).toNatClampNeg (vp_nar .boolean 0) → vp_in (nI e * 96 + nI a) 672 ∧ ∀ zco', zco' = upd zco (nI e * 96 + nI a).toNatClampNeg (vp_nar .byte 0) → vp_in (nI e) 7 ∧ vp_in (nI e * 96 + nI a) 672 ∧ ∀ znx', znx' = upd znx (nI e * 96 + nI a).toNatClampNeg (vp_nar .byte (zff (nI e).toNatClampNeg)) → vp_in (nI e) 7 ∧ ∀ zff', zff' = upd zff (nI e).toNatClampNeg (vp_nar .byte (nI a).toInt8.toInt32) → vp_in (nI e) 7 ∧ vp_in (nI e) 7 ∧ ∀ zfc', zfc' = upd zfc (nI e).toNatClampNeg (vp_nar .byte ((zfc (nI e).toNatClampNeg + 1).toInt8.toInt32)) → post (zhf, zhn, zcn, zyn, zsc, zph, zsa, zgc, zsd, zs2, zrg, zfl, ztk', zco', znx', zff', zfc', zmv, zrm, zrf, zsu, zss, zgs, zfa, zst, zt2, zse, zpa, zba)
  have hv : vp_in (nI e * 96 + nI a) 672 := by rw [na_c]; exact vp_in_nI (by omega) (by omega)
  have he' : vp_in (nI e) 7 := vp_in_nI he (by omega)
  rw [na_c, nI_clamp (n := e * 96 + a) (by omega), nI_clamp (n := e) (by omega), hm, na_p (by omega), na_f, na_0, na_b (by omega)]
  rw [na_c] at hv
  rw [show vp_nar .byte (zff e) = zff e by rw [hf]; exact na_b' (by omega)]
  exact ⟨hv, nm_e ⟨hv, nm_e ⟨he', hv, nm_e ⟨he', nm_e ⟨he', he', nm_e k⟩⟩⟩⟩⟩
/-- a taken cell is released -/
theorem xf_release {post : SX → Prop} {e a last : Nat} (he : e < 7) (h1 : 1 ≤ a) (h2 : a ≤ last) (hl : last < 96)
    (hok : fr_ok last (vw_c ztk e) (vw_c znx e) (zff e) (zfc e)) (ht : vw_c ztk e a ≠ 0)
    (k : ∀ ztk' zco' znx' zff' zfc', vw_c ztk' e = upd (vw_c ztk e) a 0 → vw_c zco' e = upd (vw_c zco e) a 0 → fr_ok last (vw_c ztk' e) (vw_c znx' e) (zff' e) (zfc' e) →
      (∀ e', e' ≠ e → vw_v e' zrg zfl ztk' zco' znx' zff' zfc' = vw_v e' zrg zfl ztk zco znx zff zfc) → post (zhf, zhn, zcn, zyn, zsc, zph, zsa, zgc, zsd, zs2, zrg, zfl, ztk', zco', znx', zff', zfc', zmv, zrm, zrf, zsu, zss, zgs, zfa, zst, zt2, zse, zpa, zba)) : wpX_release post (zhf, zhn, zcn, zyn, zsc, zph, zsa, zgc, zsd, zs2, zrg, zfl, ztk, zco, znx, zff, zfc, zmv, zrm, zrf, zsu, zss, zgs, zfa, zst, zt2, zse, zpa, zba) (nI e) (nI a) := by
  obtain ⟨⟨b, hb, hf⟩, m, hm, hc⟩ := fr_first hok hl
  have ha : a < 96 := by omega
  refine xp_release he ha hb hf hc (by omega) ?_
  refine k _ _ _ _ _ (vw_c_s ha) (vw_c_s ha) ?_ fun e' n => ?_
  · rw [vw_c_s ha, vw_c_s ha, pk_us, pk_us, ← nI_1, ← hc]
    exact fr_rel hok h1 h2 ht
  · exact vw_v_5 (vw_c_o ha n) (vw_c_o ha n) (vw_c_o ha n) (pk_un n) (pk_un n)
/-- a free cell is taken -/
theorem xf_take {post : Int32 → SX → Prop} {e last : Nat} (he : e < 7) (hl : last < 96)
    (hok : fr_ok last (vw_c ztk e) (vw_c znx e) (zff e) (zfc e)) (hc : zfc e ≠ 0)
    (k : ∀ a ztk' zff' zfc' zfl', 1 ≤ a → a ≤ last → vw_c ztk e a = 0 → vw_c ztk' e = upd (vw_c ztk e) a 1 → vw_f zfl' e = vw_w (vw_f zfl e) a (fun _ => 1) → fr_ok last (vw_c ztk' e) (vw_c znx e) (zff' e) (zfc' e) → zfc' e = zfc e - 1 →
      (∀ e', e' ≠ e → vw_v e' zrg zfl' ztk' zco znx zff' zfc' = vw_v e' zrg zfl ztk zco znx zff zfc) → post (nI a) (zhf, zhn, zcn, zyn, zsc, zph, zsa, zgc, zsd, zs2, zrg, zfl', ztk', zco, znx, zff', zfc', zmv, zrm, zrf, zsu, zss, zgs, zfa, zst, zt2, zse, zpa, zba)) : wpX_takeFree post (zhf, zhn, zcn, zyn, zsc, zph, zsa, zgc, zsd, zs2, zrg, zfl, ztk, zco, znx, zff, zfc, zmv, zrm, zrf, zsu, zss, zgs, zfa, zst, zt2, zse, zpa, zba) (nI e) := by
  obtain ⟨a, h1, h2, ht, hf, hok', m, hm, hm1, hm2, b, hb, hN⟩ := fr_take hok hc
  have ha : a < 96 := by omega
  show vp_in (nI e) 7 ∧ ∀ x2, x2 = zff (nI e).toNatClampNeg → vp_in (nI e * 96 + x2) 672 ∧ vp_in (nI e) 7 ∧ ∀ zff', zff' = upd zff (nI e).toNatClampNeg (vp_nar .byte (znx (nI e * 96 + x2).toNatClampNeg)) → vp_in (nI e) 7 ∧ vp_in (nI e) 7 ∧ ∀ zfc', zfc' = upd zfc (nI e).toNatClampNeg (vp_nar .byte ((zfc (nI e).toNatClampNeg - 1).toInt8.toInt32)) → vp_in (nI e * 96 + x2) 672 ∧ ∀ ztk', ztk' = upd ztk (nI e * 96 + x2).toNatClampNeg (vp_nar .boolean 1) → wpX_clearFields (fun u => post x2 u) (zhf, zhn, zcn, zyn, zsc, zph, zsa, zgc, zsd, zs2, zrg, zfl, ztk', zco, znx, zff', zfc', zmv, zrm, zrf, zsu, zss, zgs, zfa, zst, zt2, zse, zpa, zba) (nI e) x2
  have he' : vp_in (nI e) 7 := vp_in_nI he (by omega)
  refine ⟨he', nm_r (e' := nI a) (by rw [nI_clamp (by omega)]; exact hf) ?_⟩
  have hv : vp_in (nI e * 96 + nI a) 672 := by rw [na_c]; exact vp_in_nI (by omega) (by omega)
  rw [vw_c_at ha] at hN
  rw [na_c] at hv
  rw [na_c, nI_clamp (n := e * 96 + a) (by omega), nI_clamp (n := e) (by omega), hm1, na_m (by omega), na_t, hN, na_b' (by omega)]
  refine ⟨hv, he', nm_e ⟨he', he', nm_e ⟨hv, nm_e ?_⟩⟩⟩
  refine xp_clear he ha fun zfl' hfl ofl => ?_
  refine k a _ _ _ zfl' h1 h2 ht (vw_c_s ha) hfl ?_ ?_ fun e' n => ?_
  · rw [vw_c_s ha, pk_us, pk_us, ← hm2, ← hN, ← vw_c_at (g := znx) (e := e) ha]; exact hok'
  · rw [pk_us]; exact hm2.symm
  · show (vw_r zrg e', vw_f zfl' e', vw_c (upd ztk (e * 96 + a) 1) e', vw_c zco e', vw_c znx e', upd zff e (nI b) e', upd zfc e (nI m) e') = _
    rw [ofl e' n, vw_c_o ha n, pk_un n, pk_un n]; rfl
end FR
end
section
/-! a work list: what is marked can be come to; what is marked and not on the stack has its followers marked -/
def wk_I (rt : Nat → Prop) (E : Nat → Nat → Prop) (C st : Nat → Int32) (w : Int32) (k p : Nat) : Prop :=
  (∀ a, C a = 0 ∨ (C a = w ∧ gr_rea rt E a)) ∧ (∀ i, i < k → ∃ a, a < 96 ∧ st i = nI a ∧ C a ≠ 0) ∧ ct_c (fun a => C a ≠ 0) 96 = p + k
def wk_cl (E : Nat → Nat → Prop) (C st : Nat → Int32) (k : Nat) (pe : Nat → Nat → Prop) : Prop :=
  ∀ a b, C a ≠ 0 → E a b → C b ≠ 0 ∨ (∃ i, i < k ∧ st i = nI a) ∨ pe a b
theorem wk_k {rt : Nat → Prop} {E : Nat → Nat → Prop} {C st : Nat → Int32} {w : Int32} {k p : Nat} (I : wk_I rt E C st w k p) : p + k ≤ 96 := by
  have := ct_le (P := fun a => C a ≠ 0) 96
  have := I.2.2
  omega
theorem wk_push {rt : Nat → Prop} {E : Nat → Nat → Prop} {C st : Nat → Int32} {w : Int32} {k p b : Nat} (I : wk_I rt E C st w k p) (hb : gr_rea rt E b) (hb9 : b < 96) (hc : C b = 0) (hw : w ≠ 0) :
    wk_I rt E (upd C b w) (upd st k (nI b)) w (k + 1) p := by
  refine ⟨fun a => ?_, fun i hi => ?_, ?_⟩
  · by_cases e : a = b
    · subst e; rw [pk_us]; exact Or.inr ⟨rfl, hb⟩
    · rw [pk_un e]; exact I.1 a
  · by_cases e : i = k
    · subst e; exact ⟨b, hb9, pk_us, by rw [pk_us]; exact hw⟩
    · obtain ⟨a, h1, h2, h3⟩ := I.2.1 i (by omega)
      refine ⟨a, h1, by rw [pk_un e]; exact h2, ?_⟩
      by_cases ea : a = b
      · subst ea; rw [pk_us]; exact hw
      · rw [pk_un ea]; exact h3
  · rw [ct_add (P := fun a => C a ≠ 0) (a := b) 96 hb9 (fun z => z hc) (fun i _ => ?_), I.2.2]
    · omega
    · show upd C b w i ≠ 0 ↔ _
      by_cases e : i = b
      · subst e; rw [pk_us]; exact ⟨fun _ => Or.inr rfl, fun _ => hw⟩
      · rw [pk_un e]; exact ⟨Or.inl, fun z => z.resolve_right e⟩
theorem wk_push_cl {E : Nat → Nat → Prop} {C st : Nat → Int32} {w : Int32} {k b : Nat} {pe : Nat → Nat → Prop} (h : wk_cl E C st k pe) (hw : w ≠ 0) :
    wk_cl E (upd C b w) (upd st k (nI b)) (k + 1) pe := by
  intro a c ha he
  by_cases e : a = b
  · subst e; exact Or.inr (Or.inl ⟨k, by omega, pk_us⟩)
  · rw [pk_un e] at ha
    rcases h a c ha he with z | ⟨i, hi, z⟩ | z
    · by_cases ec : c = b
      · subst ec; rw [pk_us]; exact Or.inl hw
      · rw [pk_un ec]; exact Or.inl z
    · exact Or.inr (Or.inl ⟨i, by omega, by rw [pk_un (by omega)]; exact z⟩)
    · exact Or.inr (Or.inr z)
theorem wk_pop {rt : Nat → Prop} {E : Nat → Nat → Prop} {C st : Nat → Int32} {w : Int32} {k p : Nat} (I : wk_I rt E C st w (k + 1) p) :
    ∃ a, a < 96 ∧ st k = nI a ∧ C a ≠ 0 ∧ gr_rea rt E a ∧ wk_I rt E C st w k (p + 1) := by
  obtain ⟨a, h1, h2, h3⟩ := I.2.1 k (by omega)
  exact ⟨a, h1, h2, h3, ((I.1 a).resolve_left h3).2, I.1, fun i hi => I.2.1 i (by omega), by rw [I.2.2]; omega⟩
theorem wk_pop_cl {E : Nat → Nat → Prop} {C st : Nat → Int32} {k a : Nat} (h : wk_cl E C st (k + 1) (fun _ _ => False)) (hC : ∀ c, C c ≠ 0 → c < 96) (ha : a < 96) (hs : st k = nI a) :
    wk_cl E C st k (fun c _ => c = a) := by
  intro c b hc he
  rcases h c b hc he with z | ⟨i, hi, z⟩ | z
  · exact Or.inl z
  · by_cases e : i = k
    · subst e
      have h9 := hC c hc
      exact Or.inr (Or.inr (na_inj (by omega) (by omega) (z.symm.trans hs)))
    · exact Or.inr (Or.inl ⟨i, by omega, z⟩)
  · exact z.elim
theorem wk_end {rt : Nat → Prop} {E : Nat → Nat → Prop} {C st : Nat → Int32} {w : Int32} {p : Nat} (I : wk_I rt E C st w 0 p) (h : wk_cl E C st 0 (fun _ _ => False)) (hr : ∀ a, rt a → C a ≠ 0) (hw : w ≠ 0) :
    (∀ a, gr_rea rt E a → C a = w) ∧ (∀ a, ¬ gr_rea rt E a → C a = 0) ∧ ct_c (gr_rea rt E) 96 = p := by
  have h1 : ∀ a, gr_rea rt E a → C a ≠ 0 := fun a ha => ha (fun x => C x ≠ 0) hr fun c b hc he => (h c b hc he).elim id fun z => z.elim (fun ⟨i, hi, _⟩ => absurd hi (Nat.not_lt_zero i)) False.elim
  refine ⟨fun a ha => ((I.1 a).resolve_left (h1 a ha)).1, fun a ha => (I.1 a).resolve_right fun z => ha z.2, ?_⟩
  rw [ct_congr (Q := fun a => C a ≠ 0) 96 fun i _ => ⟨h1 i, fun z => ((I.1 i).resolve_left z).2⟩, I.2.2]
  rfl
/-- the field loop's pending edges -/
def wk_pe (F : Nat → Nat → Int32) (a f : Nat) (c b : Nat) : Prop := c = a ∧ b < 96 ∧ ∃ g, f ≤ g ∧ g < 3 ∧ F a g = nI (2 * b)
theorem wk_pe0 {F : Nat → Nat → Int32} {C st : Nat → Int32} {k a : Nat} (h : wk_cl (gr_E F) C st k (fun c _ => c = a)) : wk_cl (gr_E F) C st k (wk_pe F a 0) := by
  intro c b hc he
  rcases h c b hc he with z | z | z
  · exact Or.inl z
  · exact Or.inr (Or.inl z)
  · obtain ⟨h9, f, h3, e⟩ := he
    exact Or.inr (Or.inr ⟨z, h9, f, by omega, h3, z ▸ e⟩)
theorem wk_pes {F : Nat → Nat → Int32} {C st : Nat → Int32} {k a f : Nat} (h : wk_cl (gr_E F) C st k (wk_pe F a f)) (hm : ∀ b, b < 96 → F a f = nI (2 * b) → C b ≠ 0) : wk_cl (gr_E F) C st k (wk_pe F a (f + 1)) := by
  intro c b hc he
  rcases h c b hc he with z | z | ⟨z1, z2, g, hg, hg3, e⟩
  · exact Or.inl z
  · exact Or.inr (Or.inl z)
  · by_cases eg : g = f
    · subst eg; exact Or.inl (hm b z2 e)
    · exact Or.inr (Or.inr ⟨z1, z2, g, by omega, hg3, e⟩)
theorem wk_pe3 {F : Nat → Nat → Int32} {C st : Nat → Int32} {k a : Nat} (h : wk_cl (gr_E F) C st k (wk_pe F a 3)) : wk_cl (gr_E F) C st k (fun _ _ => False) := by
  intro c b hc he
  rcases h c b hc he with z | z | ⟨z1, z2, g, hg, hg3, e⟩
  · exact Or.inl z
  · exact Or.inr (Or.inl z)
  · omega
/-! the walks that count -/
abbrev TW_11 : Type := Int32 → Int32 → Int32 → Int32 → Int32 → Int32 → Int32 → Int32 → Int32 → Int32 → Int32 → (Nat → Int32) → (Nat → Int32) → (Nat → Int32) → (Nat → Int32) → (Nat → Int32) → (Nat → Int32) → (Nat → Int32) → (Nat → Int32) → (Nat → Int32) → (Nat → Int32) → (Nat → Int32) → (Nat → Int32) → (Nat → Int32) → (Nat → Int32) → (Nat → Int32) → (Nat → Int32) → (Nat → Int32) → (Nat → Int32) → (Nat → Int32) → Prop
abbrev TW_10 : Type := Int32 → Int32 → Int32 → Int32 → Int32 → Int32 → Int32 → Int32 → Int32 → Int32 → (Nat → Int32) → (Nat → Int32) → (Nat → Int32) → (Nat → Int32) → (Nat → Int32) → (Nat → Int32) → (Nat → Int32) → (Nat → Int32) → (Nat → Int32) → (Nat → Int32) → (Nat → Int32) → (Nat → Int32) → (Nat → Int32) → (Nat → Int32) → (Nat → Int32) → (Nat → Int32) → (Nat → Int32) → (Nat → Int32) → (Nat → Int32) → Prop
abbrev TW_12 : Type := Int32 → TW_11
abbrev TW_13 : Type := Int32 → TW_12
section XW
variable {zhf zhn zcn zyn zsc zph zsa zgc zsd zs2 : Int32} {zrg zfl ztk zco znx zff zfc zmv zrm zrf zsu zss zgs zfa zst zt2 zse zpa zba : Nat → Int32}
variable {rt : Nat → Prop}
theorem xw_visit {post : SX → Prop} {E : Nat → Nat → Prop} {x : Int32} {k p : Nat} (hx : gr_wf (gr_rea rt E) x) (h9 : ∀ a, gr_rea rt E a → a < 96) (I : wk_I rt E (vw_s zse) zst 1 k p)
    (K : ∀ zst' zse' k', wk_I rt E (vw_s zse') zst' 1 k' p → (∀ pe, wk_cl E (vw_s zse) zst k pe → wk_cl E (vw_s zse') zst' k' pe) → (∀ b, b < 96 → x = nI (2 * b) → vw_s zse' b ≠ 0) → (∀ a, vw_s zse a ≠ 0 → vw_s zse' a ≠ 0) → post (zhf, zhn, zcn, zyn, zsc, zph, zsa, zgc, nI k', zs2, zrg, zfl, ztk, zco, znx, zff, zfc, zmv, zrm, zrf, zsu, zss, zgs, zfa, zst', zt2, zse', zpa, zba)) :
    wpX_visit post (zhf, zhn, zcn, zyn, zsc, zph, zsa, zgc, nI k, zs2, zrg, zfl, ztk, zco, znx, zff, zfc, zmv, zrm, zrf, zsu, zss, zgs, zfa, zst, zt2, zse, zpa, zba) x := by
  unfold wpX_visit
  have hk := wk_k I
  rcases hx with ho | ⟨b, hb, rfl⟩
  · refine xp_odd ho (br_t rfl ?_)
    exact K zst zse k I (fun _ h => h) (fun b hb e => absurd e (gr_odne ho (by omega))) (fun _ h => h)
  · have hb9 := h9 b hb
    refine xp_ref (by omega) (br_f na_n10 ?_)
    rw [gr_sh (by omega)]
    refine ⟨vp_in_nI hb9 (by omega), ?_⟩
    rw [nI_clamp (by omega)]
    by_cases hs : zse b = 0
    · refine br_t hs ⟨vp_in_nI hb9 (by omega), ?_⟩
      rw [na_t]
      refine nm_e ?_
      refine xp_push (by omega) (by omega) ?_
      have hc : vw_s zse b = 0 := by rw [vw_s_at hb9]; exact hs
      refine K _ _ (k + 1) ?_ (fun pe h => ?_) (fun c hc9 e => ?_) (fun a ha => ?_)
      · rw [vw_s_s hb9]; exact wk_push I hb hb9 hc na_n10
      · rw [vw_s_s hb9]; exact wk_push_cl h na_n10
      · rw [vw_s_s hb9, na_inj2 hb9 hc9 e, pk_us]; exact na_n10
      · rw [vw_s_s hb9]
        by_cases e : a = b
        · rw [e, pk_us]; exact na_n10
        · rw [pk_un e]; exact ha
    · refine br_f hs ?_
      exact K zst zse k I (fun _ h => h) (fun c hc9 e => by rw [← na_inj2 hb9 hc9 e, vw_s_at hb9]; exact hs) (fun _ h => h)
theorem xw_fields {post : Int32 → SX → Prop} {J : TW_11} {x2 : Int32} {e a p : Nat} (he : e < 7) (ha : a < 96) (h9 : ∀ a, gr_rea rt (gr_E (vw_f zfl e)) a → a < 96)
    (hw : ∀ f, f < 3 → gr_wf (gr_rea rt (gr_E (vw_f zfl e))) (vw_f zfl e a f))
    (K : ∀ zst' zse' k', wk_I rt (gr_E (vw_f zfl e)) (vw_s zse') zst' 1 k' p → wk_cl (gr_E (vw_f zfl e)) (vw_s zse') zst' k' (fun _ _ => False) → (∀ b, rt b → vw_s zse' b ≠ 0) → J x2 zhf zhn zcn zyn zsc zph zsa zgc (nI k') zs2 zrg zfl ztk zco znx zff zfc zmv zrm zrf zsu zss zgs zfa zst' zt2 zse' zpa zba) :
    ∀ (n f k : Nat) (zst zse : Nat → Int32), f ≤ 3 → 3 < n + f → wk_I rt (gr_E (vw_f zfl e)) (vw_s zse) zst 1 k p → wk_cl (gr_E (vw_f zfl e)) (vw_s zse) zst k (wk_pe (vw_f zfl e) a f) → (∀ b, rt b → vw_s zse b ≠ 0) →
      wX_finishWalk_35 post J (nI e) x2 (nI a) n (nI f) zhf zhn zcn zyn zsc zph zsa zgc (nI k) zs2 zrg zfl ztk zco znx zff zfc zmv zrm zrf zsu zss zgs zfa zst zt2 zse zpa zba := by
  intro n
  induction n with
  | zero => intro f k _ _ h1 h2; omega
  | succ n ih =>
    intro f k zst zse h1 h2 I hc hr
    by_cases hf : f = 3
    · subst hf
      exact br_t (by decide) (K zst zse k I (wk_pe3 hc) hr)
    · refine br_f (nI_ge (b := 3) (by omega) (by omega)) ?_
      refine xp_fieldOf he ha (by omega) ?_
      refine xw_visit (hw f (by omega)) h9 I fun zst' zse' k' I' hc' hm hs => ?_
      refine nm_r (nI_1 f) ?_
      exact ih (f + 1) k' zst' zse' (by omega) (by omega) I' (wk_pes (hc' _ hc) hm) (fun b hb => hs b (hr b hb))
theorem xw_finish {post : Int32 → SX → Prop} {e : Nat} (he : e < 7) (h9 : ∀ a, gr_rea rt (gr_E (vw_f zfl e)) a → a < 96)
    (hw : ∀ a, gr_rea rt (gr_E (vw_f zfl e)) a → ∀ f, f < 3 → gr_wf (gr_rea rt (gr_E (vw_f zfl e))) (vw_f zfl e a f))
    (K : ∀ zst' zse', (∀ a, gr_rea rt (gr_E (vw_f zfl e)) a → vw_s zse' a = 1) → (∀ a, ¬ gr_rea rt (gr_E (vw_f zfl e)) a → vw_s zse' a = 0) → post (nI (ct_c (gr_rea rt (gr_E (vw_f zfl e))) 96)) (zhf, zhn, zcn, zyn, zsc, zph, zsa, zgc, 0, zs2, zrg, zfl, ztk, zco, znx, zff, zfc, zmv, zrm, zrf, zsu, zss, zgs, zfa, zst', zt2, zse', zpa, zba)) :
    ∀ (n p k : Nat) (zst zse : Nat → Int32), 97 ≤ n + p → wk_I rt (gr_E (vw_f zfl e)) (vw_s zse) zst 1 k p → wk_cl (gr_E (vw_f zfl e)) (vw_s zse) zst k (fun _ _ => False) → (∀ b, rt b → vw_s zse b ≠ 0) →
      wX_finishWalk_2 post (nI e) n (nI p) zhf zhn zcn zyn zsc zph zsa zgc (nI k) zs2 zrg zfl ztk zco znx zff zfc zmv zrm zrf zsu zss zgs zfa zst zt2 zse zpa zba := by
  intro n
  induction n with
  | zero => intro p k _ _ h1 I; have := wk_k I; omega
  | succ n ih =>
    intro p k zst zse h1 I hc hr
    have hk := wk_k I
    cases k with
    | zero =>
      obtain ⟨z1, z2, z3⟩ := wk_end I hc hr na_n10
      refine br_t (by decide) ?_
      rw [← z3]
      exact K zst zse z1 z2
    | succ k =>
      refine br_f (nI_nle (by omega) (by omega)) ?_
      refine nm_r (nI_pred k) ⟨vp_in_nI (by omega) (by omega), ?_⟩
      obtain ⟨a, ha, hs, hm, hra, I'⟩ := wk_pop I
      rw [nI_clamp (by omega)]
      refine nm_r hs (nm_r (nI_1 p) ⟨4, ?_⟩)
      refine xw_fields he ha h9 (hw a hra) (fun zst' zse' k' I2 hc2 hr2 => ?_) 4 0 k zst zse (by omega) (by omega) I' (wk_pe0 (wk_pop_cl hc (fun c hcc => h9 c ((I.1 c).resolve_left hcc).2) ha hs)) hr
      exact ih (p + 1) k' zst' zse' (by omega) I2 hc2 hr2
theorem xw_start {post : SX → Prop} (K : ∀ zse', (∀ a, vw_s zse' a = 0) → post (zhf, zhn, zcn, zyn, zsc, zph, zsa, zgc, 0, zs2, zrg, zfl, ztk, zco, znx, zff, zfc, zmv, zrm, zrf, zsu, zss, zgs, zfa, zst, zt2, zse', zpa, zba)) : wpX_startWalk post (zhf, zhn, zcn, zyn, zsc, zph, zsa, zgc, zsd, zs2, zrg, zfl, ztk, zco, znx, zff, zfc, zmv, zrm, zrf, zsu, zss, zgs, zfa, zst, zt2, zse, zpa, zba) := by
  show ∃ n7 : Nat, wX_startWalk_7 post zhf zhn zcn zyn zsc zph zsa zgc 0 zs2 n7 0 zrg zfl ztk zco znx zff zfc zmv zrm zrf zsu zss zgs zfa zst zt2 zse zpa zba
  refine ⟨97, ?_⟩
  have key : ∀ (n i : Nat) (zse : Nat → Int32), i ≤ 96 → 96 < n + i → (∀ a, a < i → zse a = 0) → wX_startWalk_7 post zhf zhn zcn zyn zsc zph zsa zgc 0 zs2 n (nI i) zrg zfl ztk zco znx zff zfc zmv zrm zrf zsu zss zgs zfa zst zt2 zse zpa zba := by
    intro n
    induction n with
    | zero => intro i _ h1 h2; omega
    | succ n ih =>
      intro i zse h1 h2 h
      by_cases hi : i = 96
      · subst hi
        refine br_t (by decide) (K zse fun a => ?_)
        by_cases ha : a < 96
        · rw [vw_s_at ha]; exact h a ha
        · exact vw_s_hi (by omega)
      · refine br_f (nI_ge (b := 96) (by omega) (by omega)) ⟨vp_in_nI (by omega) (by omega), ?_⟩
        rw [nI_clamp (by omega), na_f]
        refine nm_e (nm_r (nI_1 i) ?_)
        refine ih (i + 1) _ (by omega) (by omega) fun a ha => ?_
        by_cases e : a = i
        · rw [e, pk_us]
        · rw [pk_un e]; exact h a (by omega)
  exact key 97 0 zse (by omega) (by omega) (fun a ha => absurd ha (Nat.not_lt_zero a))
theorem wk_0 {rt : Nat → Prop} {E : Nat → Nat → Prop} {C st : Nat → Int32} {w : Int32} (h : ∀ a, C a = 0) : wk_I rt E C st w 0 0 :=
  ⟨fun a => Or.inl (h a), fun i hi => absurd hi (Nat.not_lt_zero i), ct_zero 96 fun i _ z => z (h i)⟩
theorem wk_0cl {E : Nat → Nat → Prop} {C st : Nat → Int32} {k : Nat} {pe : Nat → Nat → Prop} (h : ∀ a, C a = 0) : wk_cl E C st k pe := fun a _ ha => absurd (h a) ha
/-- the walk from all registers -/
theorem xw_all {post : Int32 → SX → Prop} {e : Nat} (he : e < 7) (G : gr_WG (vw_r zrg e) (vw_f zfl e) (gr_X (vw_r zrg e) (vw_f zfl e)))
    (K : ∀ zst' zse', (∀ a, gr_X (vw_r zrg e) (vw_f zfl e) a → vw_s zse' a = 1) → (∀ a, ¬ gr_X (vw_r zrg e) (vw_f zfl e) a → vw_s zse' a = 0) → post (nI (ct_c (gr_X (vw_r zrg e) (vw_f zfl e)) 96)) (zhf, zhn, zcn, zyn, zsc, zph, zsa, zgc, 0, zs2, zrg, zfl, ztk, zco, znx, zff, zfc, zmv, zrm, zrf, zsu, zss, zgs, zfa, zst', zt2, zse', zpa, zba)) :
    wpX_walkFromAll post (zhf, zhn, zcn, zyn, zsc, zph, zsa, zgc, zsd, zs2, zrg, zfl, ztk, zco, znx, zff, zfc, zmv, zrm, zrf, zsu, zss, zgs, zfa, zst, zt2, zse, zpa, zba) (nI e) := by
  show wpX_startWalk _ (zhf, zhn, zcn, zyn, zsc, zph, zsa, zgc, zsd, zs2, zrg, zfl, ztk, zco, znx, zff, zfc, zmv, zrm, zrf, zsu, zss, zgs, zfa, zst, zt2, zse, zpa, zba)
  refine xw_start fun zse0 h0 => ?_
  show ∃ n6 : Nat, wX_walkFromAll_6 post (nI e) n6 0 zhf zhn zcn zyn zsc zph zsa zgc 0 zs2 zrg zfl ztk zco znx zff zfc zmv zrm zrf zsu zss zgs zfa zst zt2 zse0 zpa zba
  refine ⟨7, ?_⟩
  have h9 : ∀ a, gr_X (vw_r zrg e) (vw_f zfl e) a → a < 96 := fun a ha => (G.2.2 a ha).2
  have key : ∀ (n r k : Nat) (zst zse : Nat → Int32), r ≤ 6 → 6 < n + r → wk_I (gr_R (vw_r zrg e)) (gr_E (vw_f zfl e)) (vw_s zse) zst 1 k 0 → wk_cl (gr_E (vw_f zfl e)) (vw_s zse) zst k (fun _ _ => False) →
      (∀ r', r' < r → ∀ b, b < 96 → vw_r zrg e r' = nI (2 * b) → vw_s zse b ≠ 0) → wX_walkFromAll_6 post (nI e) n (nI r) zhf zhn zcn zyn zsc zph zsa zgc (nI k) zs2 zrg zfl ztk zco znx zff zfc zmv zrm zrf zsu zss zgs zfa zst zt2 zse zpa zba := by
    intro n
    induction n with
    | zero => intro r k _ _ h1 h2; omega
    | succ n ih =>
      intro r k zst zse h1 h2 I hc hr
      by_cases h6 : r = 6
      · subst h6
        refine br_t (by decide) ?_
        refine ⟨97, ?_⟩
        refine xw_finish (post := post) he h9 (fun a ha => G.2.1 a ha) K 97 0 k zst zse (by omega) I hc ?_
        rintro b ⟨hb, r, hr6, e⟩
        exact hr r hr6 b hb e
      · refine br_f (nI_ge (b := 6) (by omega) (by omega)) ?_
        rw [na_r, nI_clamp (by omega)]
        refine ⟨vp_in_nI (by omega) (by omega), ?_⟩
        have hR : vw_r zrg e r = zrg (e * 6 + r) := vw_r_at (by omega)
        refine xw_visit (by rw [← hR]; exact G.1 r (by omega)) h9 I fun zst' zse' k' I' hc' hm hs => ?_
        refine nm_r (nI_1 r) ?_
        refine ih (r + 1) k' zst' zse' (by omega) (by omega) I' (hc' _ hc) fun r' hr' b hb e => ?_
        by_cases er : r' = r
        · subst er; exact hm b hb (hR.symm.trans e)
        · exact hs b (hr r' (by omega) b hb e)
  exact key 7 0 0 zst zse0 (by omega) (by omega) (wk_0 h0) (wk_0cl h0) (fun r hr => absurd hr (Nat.not_lt_zero r))
/-! marking with a stack -/
theorem xm_cell {post : SX → Prop} {E : Nat → Nat → Prop} {x : Int32} {e k p : Nat} (he : e < 7) (hx : gr_wf (gr_rea rt E) x) (h9 : ∀ a, gr_rea rt E a → a < 96) (I : wk_I rt E (vw_c zco e) zst 2 k p)
    (K : ∀ zst' zco' k', wk_I rt E (vw_c zco' e) zst' 2 k' p → (∀ pe, wk_cl E (vw_c zco e) zst k pe → wk_cl E (vw_c zco' e) zst' k' pe) → (∀ b, b < 96 → x = nI (2 * b) → vw_c zco' e b ≠ 0) → (∀ a, vw_c zco e a ≠ 0 → vw_c zco' e a ≠ 0) →
      (∀ e', e' ≠ e → vw_c zco' e' = vw_c zco e') → post (zhf, zhn, zcn, zyn, zsc, zph, zsa, zgc, nI k', zs2, zrg, zfl, ztk, zco', znx, zff, zfc, zmv, zrm, zrf, zsu, zss, zgs, zfa, zst', zt2, zse, zpa, zba)) :
    wpX_markCell post (zhf, zhn, zcn, zyn, zsc, zph, zsa, zgc, nI k, zs2, zrg, zfl, ztk, zco, znx, zff, zfc, zmv, zrm, zrf, zsu, zss, zgs, zfa, zst, zt2, zse, zpa, zba) (nI e) x := by
  have hk := wk_k I
  have h20 : ¬ (2 : Int32) = 0 := by decide
  rcases hx with ho | ⟨b, hb, rfl⟩
  · refine nm_e ?_
    refine xp_odd ho (br_t rfl ?_)
    exact K zst zco k I (fun _ h => h) (fun b hb e => absurd e (gr_odne ho (by omega))) (fun _ h => h) (fun _ _ => rfl)
  · have hb9 := h9 b hb
    refine nm_r (gr_sh (by omega)) ?_
    refine xp_ref (by omega) (br_f na_n10 ?_)
    rw [na_c, nI_clamp (by omega)]
    refine ⟨vp_in_nI (by omega) (by omega), ?_⟩
    by_cases hs : zco (e * 96 + b) = 0
    · refine br_t hs ⟨vp_in_nI (by omega) (by omega), ?_⟩
      rw [na_2]
      refine nm_e ?_
      refine xp_push (by omega) (by omega) ?_
      have hc : vw_c zco e b = 0 := by rw [vw_c_at hb9]; exact hs
      refine K _ _ (k + 1) ?_ (fun pe h => ?_) (fun c hc9 e => ?_) (fun a ha => ?_) (fun e' n => vw_c_o hb9 n)
      · rw [vw_c_s hb9]; exact wk_push I hb hb9 hc h20
      · rw [vw_c_s hb9]; exact wk_push_cl h h20
      · rw [vw_c_s hb9, na_inj2 hb9 hc9 e, pk_us]; exact h20
      · rw [vw_c_s hb9]
        by_cases e : a = b
        · rw [e, pk_us]; exact h20
        · rw [pk_un e]; exact ha
    · refine br_f hs ?_
      exact K zst zco k I (fun _ h => h) (fun c hc9 e => by rw [← na_inj2 hb9 hc9 e, vw_c_at hb9]; exact hs) (fun _ h => h) (fun _ _ => rfl)
theorem xm_fields {post : SX → Prop} {J : TW_10} {e a p : Nat} (he : e < 7) (ha : a < 96) (h9 : ∀ a, gr_rea rt (gr_E (vw_f zfl e)) a → a < 96)
    (hw : ∀ f, f < 3 → gr_wf (gr_rea rt (gr_E (vw_f zfl e))) (vw_f zfl e a f)) (zcoi : Nat → Int32)
    (K : ∀ zst' zco' k', wk_I rt (gr_E (vw_f zfl e)) (vw_c zco' e) zst' 2 k' p → wk_cl (gr_E (vw_f zfl e)) (vw_c zco' e) zst' k' (fun _ _ => False) → (∀ b, rt b → vw_c zco' e b ≠ 0) → (∀ e', e' ≠ e → vw_c zco' e' = vw_c zcoi e') → J zhf zhn zcn zyn zsc zph zsa zgc (nI k') zs2 zrg zfl ztk zco' znx zff zfc zmv zrm zrf zsu zss zgs zfa zst' zt2 zse zpa zba) :
    ∀ (n f k : Nat) (zst zco : Nat → Int32), f ≤ 3 → 3 < n + f → wk_I rt (gr_E (vw_f zfl e)) (vw_c zco e) zst 2 k p → wk_cl (gr_E (vw_f zfl e)) (vw_c zco e) zst k (wk_pe (vw_f zfl e) a f) → (∀ b, rt b → vw_c zco e b ≠ 0) → (∀ e', e' ≠ e → vw_c zco e' = vw_c zcoi e') →
      wX_markAll_64 post J (nI e) (nI a) n (nI f) zhf zhn zcn zyn zsc zph zsa zgc (nI k) zs2 zrg zfl ztk zco znx zff zfc zmv zrm zrf zsu zss zgs zfa zst zt2 zse zpa zba := by
  intro n
  induction n with
  | zero => intro f k _ _ h1 h2; omega
  | succ n ih =>
    intro f k zst zco h1 h2 I hc hr ho
    by_cases hf : f = 3
    · subst hf
      exact br_t (by decide) (K zst zco k I (wk_pe3 hc) hr ho)
    · refine br_f (nI_ge (b := 3) (by omega) (by omega)) ?_
      refine xp_fieldOf he ha (by omega) ?_
      refine xm_cell he (hw f (by omega)) h9 I fun zst' zco' k' I' hc' hm hs ho' => ?_
      refine nm_r (nI_1 f) ?_
      exact ih (f + 1) k' zst' zco' (by omega) (by omega) I' (wk_pes (hc' _ hc) hm) (fun b hb => hs b (hr b hb)) (fun e' n => (ho' e' n).trans (ho e' n))
theorem xm_stack {post : SX → Prop} {e : Nat} (he : e < 7) (h9 : ∀ a, gr_rea rt (gr_E (vw_f zfl e)) a → a < 96) (zcoi : Nat → Int32)
    (hw : ∀ a, gr_rea rt (gr_E (vw_f zfl e)) a → ∀ f, f < 3 → gr_wf (gr_rea rt (gr_E (vw_f zfl e))) (vw_f zfl e a f))
    (K : ∀ zst' zco', (∀ a, gr_rea rt (gr_E (vw_f zfl e)) a → vw_c zco' e a = 2) → (∀ a, ¬ gr_rea rt (gr_E (vw_f zfl e)) a → vw_c zco' e a = 0) → (∀ e', e' ≠ e → vw_c zco' e' = vw_c zcoi e') → post (zhf, zhn, zcn, zyn, zsc, zph, zsa, zgc, 0, zs2, zrg, zfl, ztk, zco', znx, zff, zfc, zmv, zrm, zrf, zsu, zss, zgs, zfa, zst', zt2, zse, zpa, zba)) :
    ∀ (n p k : Nat) (zst zco : Nat → Int32), 97 ≤ n + p → wk_I rt (gr_E (vw_f zfl e)) (vw_c zco e) zst 2 k p → wk_cl (gr_E (vw_f zfl e)) (vw_c zco e) zst k (fun _ _ => False) → (∀ b, rt b → vw_c zco e b ≠ 0) → (∀ e', e' ≠ e → vw_c zco e' = vw_c zcoi e') →
      wX_markAll_35 post (nI e) n zhf zhn zcn zyn zsc zph zsa zgc (nI k) zs2 zrg zfl ztk zco znx zff zfc zmv zrm zrf zsu zss zgs zfa zst zt2 zse zpa zba := by
  intro n
  induction n with
  | zero => intro p k _ _ h1 I; have := wk_k I; omega
  | succ n ih =>
    intro p k zst zco h1 I hc hr ho
    have hk := wk_k I
    cases k with
    | zero =>
      obtain ⟨z1, z2, z3⟩ := wk_end I hc hr (by decide)
      exact br_t (by decide) (K zst zco z1 z2 ho)
    | succ k =>
      refine br_f (nI_nle (by omega) (by omega)) ?_
      refine nm_r (nI_pred k) ⟨vp_in_nI (by omega) (by omega), ?_⟩
      obtain ⟨a, ha, hs, hm, hra, I'⟩ := wk_pop I
      rw [nI_clamp (by omega)]
      refine nm_r hs ⟨4, ?_⟩
      refine xm_fields he ha h9 (hw a hra) zcoi (fun zst' zco' k' I2 hc2 hr2 ho2 => ?_) 4 0 k zst zco (by omega) (by omega) I' (wk_pe0 (wk_pop_cl hc (fun c hcc => h9 c ((I.1 c).resolve_left hcc).2) ha hs)) hr ho
      exact ih (p + 1) k' zst' zco' (by omega) I2 hc2 hr2 ho2
theorem xm_all {post : SX → Prop} {e : Nat} (he : e < 7) (G : gr_WG (vw_r zrg e) (vw_f zfl e) (gr_X (vw_r zrg e) (vw_f zfl e))) (h0 : ∀ a, vw_c zco e a = 0)
    (K : ∀ zst' zco', (∀ a, gr_X (vw_r zrg e) (vw_f zfl e) a → vw_c zco' e a = 2) → (∀ a, ¬ gr_X (vw_r zrg e) (vw_f zfl e) a → vw_c zco' e a = 0) → (∀ e', e' ≠ e → vw_c zco' e' = vw_c zco e') → post (zhf, zhn, zcn, zyn, zsc, zph, zsa, zgc, 0, zs2, zrg, zfl, ztk, zco', znx, zff, zfc, zmv, zrm, zrf, zsu, zss, zgs, zfa, zst', zt2, zse, zpa, zba)) :
    wpX_markAll post (zhf, zhn, zcn, zyn, zsc, zph, zsa, zgc, zsd, zs2, zrg, zfl, ztk, zco, znx, zff, zfc, zmv, zrm, zrf, zsu, zss, zgs, zfa, zst, zt2, zse, zpa, zba) (nI e) := by
  show ∃ n7 : Nat, wX_markAll_7 post (nI e) n7 0 zhf zhn zcn zyn zsc zph zsa zgc 0 zs2 zrg zfl ztk zco znx zff zfc zmv zrm zrf zsu zss zgs zfa zst zt2 zse zpa zba
  refine ⟨7, ?_⟩
  have h9 : ∀ a, gr_X (vw_r zrg e) (vw_f zfl e) a → a < 96 := fun a ha => (G.2.2 a ha).2
  have key : ∀ (n r k : Nat) (zst zco' : Nat → Int32), r ≤ 6 → 6 < n + r → wk_I (gr_R (vw_r zrg e)) (gr_E (vw_f zfl e)) (vw_c zco' e) zst 2 k 0 → wk_cl (gr_E (vw_f zfl e)) (vw_c zco' e) zst k (fun _ _ => False) →
      (∀ r', r' < r → ∀ b, b < 96 → vw_r zrg e r' = nI (2 * b) → vw_c zco' e b ≠ 0) → (∀ e', e' ≠ e → vw_c zco' e' = vw_c zco e') → wX_markAll_7 post (nI e) n (nI r) zhf zhn zcn zyn zsc zph zsa zgc (nI k) zs2 zrg zfl ztk zco' znx zff zfc zmv zrm zrf zsu zss zgs zfa zst zt2 zse zpa zba := by
    intro n
    induction n with
    | zero => intro r k _ _ h1 h2; omega
    | succ n ih =>
      intro r k zst zco1 h1 h2 I hc hr ho
      by_cases h6 : r = 6
      · subst h6
        refine br_t (by decide) ?_
        refine ⟨97, ?_⟩
        refine xm_stack (post := post) he h9 zco (fun a ha => G.2.1 a ha) K 97 0 k zst zco1 (by omega) I hc ?_ ho
        rintro b ⟨hb, r, hr6, e⟩
        exact hr r hr6 b hb e
      · refine br_f (nI_ge (b := 6) (by omega) (by omega)) ?_
        rw [na_r, nI_clamp (by omega)]
        refine ⟨vp_in_nI (by omega) (by omega), ?_⟩
        have hR : vw_r zrg e r = zrg (e * 6 + r) := vw_r_at (by omega)
        refine xm_cell he (by rw [← hR]; exact G.1 r (by omega)) h9 I fun zst' zco2 k' I' hc' hm hs ho' => ?_
        refine nm_r (nI_1 r) ?_
        refine ih (r + 1) k' zst' zco2 (by omega) (by omega) I' (hc' _ hc) (fun r' hr' b hb e => ?_) (fun e' n => (ho' e' n).trans (ho e' n))
        by_cases er : r' = r
        · subst er; exact hm b hb (hR.symm.trans e)
        · exact hs b (hr r' (by omega) b hb e)
  exact key 7 0 0 zst zco (by omega) (by omega) (wk_0 h0) (wk_0cl h0) (fun r hr => absurd hr (Nat.not_lt_zero r)) (fun _ _ => rfl)
end XW
end
section
/-! the reference: places that can be come to, as bits -/
def yy_R (v : SY) (p : Nat) : Prop := p < 48 ∧ ∃ r, r < 6 ∧ v.1 r = nI (10000 + p)
def yy_E (v : SY) (p q : Nat) : Prop := q < 48 ∧ ∃ f, f < 3 ∧ v.2 (3 * p + f) = nI (10000 + q)
def yy_X (v : SY) : Nat → Prop := gr_rea (yy_R v) (yy_E v)
def yy_wf (y : Int32) : Prop := (-999 ≤ y ∧ y ≤ 999) ∨ ∃ p, p < 48 ∧ y = nI (10000 + p)
def yy_ok (v : SY) : Prop := (∀ r, r < 6 → yy_wf (v.1 r)) ∧ (∀ p, yy_X v p → ∀ f, f < 3 → yy_wf (v.2 (3 * p + f)))
theorem yy_num {y : Int32} (h : -999 ≤ y ∧ y ≤ 999) : y < 10000 := by
  rw [Int32.lt_iff_toInt_lt]
  have := Int32.le_iff_toInt_le.mp h.2
  have h1 : (999 : Int32).toInt = 999 := by decide
  have h2 : (10000 : Int32).toInt = 10000 := by decide
  omega
theorem yy_ge {p : Nat} (h : p < 48) : ¬ nI (10000 + p) < 10000 := nI_nlt (b := 10000) (by omega) (by omega)
theorem yy_numne {y : Int32} (h : -999 ≤ y ∧ y ≤ 999) {p : Nat} (hp : p < 48) : y ≠ nI (10000 + p) := fun e => yy_ge hp (e ▸ yy_num h)
theorem yy_inj {p q : Nat} (hp : p < 48) (hq : q < 48) (h : nI (10000 + p) = nI (10000 + q)) : p = q := by
  have := na_inj (by omega) (by omega) h; omega
theorem yy_bit {s i : Nat} (hs : s < 2 ^ 48) (hi : i < 48) : ((lN s >>> ((nI i).toInt64 &&& 63)) &&& 1) = 1 ↔ s.testBit i = true := by
  have hD : (((nI i).toInt64 &&& 63).toBitVec.smod 64).toNat = i := by
    rw [wb_c i (by omega), wb_tb, wb_sm i (by omega), BitVec.toNat_ofNat, Nat.mod_eq_of_lt (by omega)]
  have hd : s / 2 ^ i ≤ s := Nat.div_le_self _ _
  rw [pf_shr hD (by omega), wb_a1 (by omega), show (1 : Int64) = lN 1 from rfl, lN_eq (by omega) (by omega), Nat.testBit_eq_decide_div_mod_eq, decide_eq_true_iff]
theorem yy_sh {p : Nat} (hp : p < 48) : (1 : Int64) <<< ((nI (10000 + p) - 10000).toInt64 &&& 63) = lN (2 ^ p) := by
  have e : nI (10000 + p) - 10000 = nI p := by
    rw [show (10000 : Int32) = nI 10000 from rfl, pk_sub (by omega)]; congr 1; omega
  rw [e]
  have := wb_shl 1 (k := p) (by omega)
  rw [Nat.one_mul] at this
  exact this
theorem yy_p2 {p : Nat} (hp : p < 48) : 2 ^ p < 2 ^ 48 := Nat.pow_lt_pow_right (by decide) hp
theorem yy_or {s p : Nat} (hs : s < 2 ^ 48) (hp : p < 48) : lN s ||| ((1 : Int64) <<< ((nI (10000 + p) - 10000).toInt64 &&& 63)) = lN (s ||| 2 ^ p) := by
  rw [yy_sh hp, wb_or (by omega) (by have := yy_p2 hp; omega)]
theorem yy_orlt {s p : Nat} (hs : s < 2 ^ 48) (hp : p < 48) : s ||| 2 ^ p < 2 ^ 48 := Nat.or_lt_two_pow hs (yy_p2 hp)
theorem yy_ortb {s p i : Nat} : (s ||| 2 ^ p).testBit i = true ↔ s.testBit i = true ∨ p = i := by
  rw [Nat.testBit_or, Bool.or_eq_true, Nat.testBit_two_pow, decide_eq_true_iff]
theorem yy_hi {s i : Nat} (hs : s < 2 ^ 48) (h : s.testBit i = true) : i < 48 := by
  apply Decidable.byContradiction
  intro hi
  have := Nat.testBit_lt_two_pow (Nat.lt_of_lt_of_le hs (Nat.pow_le_pow_right (by decide) (show 48 ≤ i by omega)))
  rw [this] at h
  exact absurd h (by decide)
theorem yy_neg {s : Nat} (hs : s < 2 ^ 48) : ¬ lN s = -1 := by
  intro e
  have h1 := congrArg Int64.toInt e
  rw [pk_lT (by omega)] at h1
  have h2 : (-1 : Int64).toInt = -1 := by decide
  omega
theorem ct_lt {P Q : Nat → Prop} {a : Nat} (n : Nat) (h : ∀ i, i < n → P i → Q i) (ha : a < n) (hq : Q a) (hp : ¬ P a) : ct_c P n + 1 ≤ ct_c Q n := by
  rw [← ct_add (P := P) (Q := fun i => P i ∨ i = a) n ha hp (fun i _ => Iff.rfl)]
  exact ct_mono n fun i hi z => z.elim (h i hi) fun e => e ▸ hq
section YY
variable {yr yf : Nat → Int32}
theorem yy_pass {post : Int64 → Prop} {J : Int64 → Int64 → Prop} {x6 : Int64} (X : Nat → Prop) (s0 : Nat) (hX : ∀ p q, X p → yy_E (yr, yf) p q → X q)
    (hw : ∀ p, X p → ∀ f, f < 3 → yy_wf (yf (3 * p + f)))
    (K : ∀ s, s < 2 ^ 48 → (∀ i, s0.testBit i = true → s.testBit i = true) → (∀ i, s.testBit i = true → X i) → (∀ p q, s0.testBit p = true → yy_E (yr, yf) p q → s.testBit q = true) → J (lN s) x6) :
    ∀ (n c s : Nat), c ≤ 144 → 144 < n + c → s < 2 ^ 48 → (∀ i, s0.testBit i = true → s.testBit i = true) → (∀ i, s.testBit i = true → X i) →
      (∀ d q, d < c → q < 48 → s0.testBit (d / 3) = true → yf d = nI (10000 + q) → s.testBit q = true) → s0 < 2 ^ 48 → wY_from_43 post J x6 yr yf n (lN s) (nI c) := by
  intro n
  induction n with
  | zero => intro c s h1 h2; omega
  | succ n ih =>
    intro c s h1 h2 hs hm hX2 hc hs0
    by_cases h144 : c = 144
    · subst h144
      refine br_t (by decide) (K s hs hm hX2 ?_)
      rintro p q hp ⟨hq, f, hf, e⟩
      have hp8 := yy_hi hs0 hp
      exact hc (3 * p + f) q (by omega) hq (by rw [show (3 * p + f) / 3 = p by omega]; exact hp) e
    · refine br_f (nI_ge (b := 144) (by omega) (by omega)) ⟨by decide, ?_⟩
      rw [show (3 : Int32) = nI 3 from rfl, pk_div (by omega) (by omega) (by omega)]
      have hskip : (¬ s.testBit (c / 3) = true ∨ ∀ q, q < 48 → yf c ≠ nI (10000 + q)) → wY_from_43 post J x6 yr yf n (lN s) (nI (c + 1)) := by
        intro hz
        refine ih (c + 1) s (by omega) (by omega) hs hm hX2 (fun d q hd hq hb e => ?_) hs0
        by_cases ed : d = c
        · subst ed
          rcases hz with hz | hz
          · exact absurd (hm _ hb) hz
          · exact absurd e (hz q hq)
        · exact hc d q (by omega) hq hb e
      by_cases hb : s.testBit (c / 3) = true
      · refine br_t ((yy_bit hs (by omega)).mpr hb) ⟨vp_in_nI (by omega) (by omega), ?_⟩
        rw [nI_clamp (by omega)]
        have hwf := hw (c / 3) (hX2 _ hb) (c % 3) (by omega)
        rw [show 3 * (c / 3) + c % 3 = c by omega] at hwf
        rcases hwf with hn | ⟨q, hq, e⟩
        · refine br_t (yy_num hn) (br_t rfl ?_)
          refine br_t rfl (nm_r (nI_1 c) ?_)
          exact hskip (Or.inr fun q hq => yy_numne hn hq)
        · refine br_f (by rw [e]; exact yy_ge hq) (br_f na_n10 ?_)
          refine br_f na_n10 ⟨vp_in_nI (by omega) (by omega), ?_⟩
          rw [nI_clamp (by omega), e, yy_or hs hq]
          refine nm_e (nm_r (nI_1 c) ?_)
          refine ih (c + 1) _ (by omega) (by omega) (yy_orlt hs hq) (fun i hi => yy_ortb.mpr (Or.inl (hm i hi))) (fun i hi => ?_) (fun d q' hd hq' hb' e' => ?_) hs0
          · rcases yy_ortb.mp hi with z | z
            · exact hX2 i z
            · subst z
              exact hX (c / 3) q (hX2 _ hb) ⟨hq, c % 3, by omega, by show yf (3 * (c / 3) + c % 3) = _; rw [show 3 * (c / 3) + c % 3 = c by omega]; exact e⟩
          · by_cases ed : d = c
            · subst ed
              exact yy_ortb.mpr (Or.inr (yy_inj hq hq' (e.symm.trans e')))
            · exact yy_ortb.mpr (Or.inl (hc d q' (by omega) hq' hb' e'))
      · refine br_f (fun z => hb ((yy_bit hs (by omega)).mp z)) ?_
        refine br_t rfl (nm_r (nI_1 c) ?_)
        exact hskip (Or.inl hb)
theorem yy_close {post : Int64 → Prop} (s0 : Nat)
    (hw : ∀ p, gr_rea (fun i => s0.testBit i = true) (yy_E (yr, yf)) p → ∀ f, f < 3 → yy_wf (yf (3 * p + f)))
    (K : ∀ s, s < 2 ^ 48 → (∀ i, s.testBit i = true ↔ gr_rea (fun i => s0.testBit i = true) (yy_E (yr, yf)) i) → post (lN s)) :
    ∀ (n s : Nat) (x6 : Int64), s < 2 ^ 48 → (∀ i, s0.testBit i = true → s.testBit i = true) → (∀ i, s.testBit i = true → gr_rea (fun i => s0.testBit i = true) (yy_E (yr, yf)) i) →
      (lN s = x6 → ∀ p q, s.testBit p = true → yy_E (yr, yf) p q → s.testBit q = true) → (50 ≤ n + ct_c (fun i => s.testBit i = true) 48 ∨ (lN s = x6 ∧ 1 ≤ n)) →
      wY_from_28 post yr yf n (lN s) x6 := by
  intro n
  induction n with
  | zero =>
    intro s x6 hs h1 h2 h3 hn
    have := ct_le (P := fun i => s.testBit i = true) 48
    omega
  | succ n ih =>
    intro s x6 hs h1 h2 h3 hn
    by_cases e : lN s = x6
    · refine br_t e (K s hs fun i => ⟨h2 i, fun hi => ?_⟩)
      exact hi _ h1 (h3 e)
    · refine br_f e ⟨145, ?_⟩
      have hn' := hn.resolve_right fun z => e z.1
      refine yy_pass _ s (fun p q hp hq => gr_step hp hq) hw (fun s' hs' hm hX hc => ?_) 145 0 s (by omega) (by omega) hs (fun _ h => h) h2 (fun d q hd => absurd hd (Nat.not_lt_zero d)) hs
      have hle := ct_le (P := fun i => s.testBit i = true) 48
      refine ih s' (lN s) hs' (fun i hi => hm i (h1 i hi)) hX (fun e' => ?_) ?_
      · have e2 : s' = s := by
          have := (pk_lEQ (a := s') (b := s) (by omega) (by omega)).mp e'
          exact this
        subst e2
        exact hc
      · by_cases e2 : s' = s
        · subst e2; exact Or.inr ⟨rfl, by omega⟩
        · left
          have : ∃ i, s'.testBit i = true ∧ ¬ s.testBit i = true := by
            apply Classical.byContradiction
            intro hno
            apply e2
            apply Nat.eq_of_testBit_eq
            intro i
            by_cases hb : s.testBit i = true
            · rw [hb, hm i hb]
            · have hb' : ¬ s'.testBit i = true := fun z => hno ⟨i, z, hb⟩
              rw [ts_nt hb, ts_nt hb']
          obtain ⟨i, hi1, hi2⟩ := this
          have := ct_lt (P := fun i => s.testBit i = true) (Q := fun i => s'.testBit i = true) 48 (fun i _ => hm i) (yy_hi hs' hi1) hi1 hi2
          omega
theorem yy_from {post : Int64 → Prop} {s : Nat} {y : Int32} (hs : s < 2 ^ 48) (hy : yy_wf y)
    (hw : ∀ p, gr_rea (fun i => s.testBit i = true ∨ (i < 48 ∧ y = nI (10000 + i))) (yy_E (yr, yf)) p → ∀ f, f < 3 → yy_wf (yf (3 * p + f)))
    (K : ∀ s', s' < 2 ^ 48 → (∀ i, s'.testBit i = true ↔ gr_rea (fun i => s.testBit i = true ∨ (i < 48 ∧ y = nI (10000 + i))) (yy_E (yr, yf)) i) → post (lN s')) :
    wpY_from post (yr, yf) y (lN s) := by
  have key : ∀ s0, s0 < 2 ^ 48 → (∀ i, s0.testBit i = true ↔ (s.testBit i = true ∨ (i < 48 ∧ y = nI (10000 + i)))) → ∃ n28 : Nat, wY_from_28 post yr yf n28 (lN s0) (-1) := by
    intro s0 hs0 h0
    have e : (fun i => s.testBit i = true ∨ (i < 48 ∧ y = nI (10000 + i))) = (fun i => s0.testBit i = true) := by
      funext i; exact propext (h0 i).symm
    rw [e] at hw K
    exact ⟨50, yy_close s0 hw K 50 s0 (-1) hs0 (fun _ h => h) (fun i hi => gr_root hi) (fun z => absurd z (yy_neg hs0)) (Or.inl (by omega))⟩
  rcases hy with hn | ⟨p, hp, e⟩
  · refine br_t (yy_num hn) (br_t rfl ?_)
    exact key s hs fun i => ⟨Or.inl, fun z => z.elim id fun w => absurd w.2 (yy_numne hn w.1)⟩
  · subst e
    refine br_f (yy_ge hp) (br_f na_n10 ?_)
    refine nm_r (yy_or hs hp) ?_
    refine key _ (yy_orlt hs hp) fun i => ?_
    rw [yy_ortb]
    exact ⟨fun z => z.elim Or.inl fun w => Or.inr ⟨by omega, by rw [w]⟩, fun z => z.elim Or.inl fun w => Or.inr (yy_inj hp w.1 w.2)⟩
theorem yy_all {post : Int64 → Prop} (ok : yy_ok (yr, yf)) (K : ∀ s, s < 2 ^ 48 → (∀ i, s.testBit i = true ↔ yy_X (yr, yf) i) → post (lN s)) : wpY_all post (yr, yf) := by
  show ∃ n4 : Nat, wY_all_4 post yr yf n4 (lN 0) (nI 0)
  refine ⟨7, ?_⟩
  have key : ∀ (n r s : Nat), r ≤ 6 → 6 < n + r → s < 2 ^ 48 → (∀ i, s.testBit i = true ↔ gr_rea (fun p => p < 48 ∧ ∃ r', r' < r ∧ yr r' = nI (10000 + p)) (yy_E (yr, yf)) i) → wY_all_4 post yr yf n (lN s) (nI r) := by
    intro n
    induction n with
    | zero => intro r s h1 h2; omega
    | succ n ih =>
      intro r s h1 h2 hs hb
      by_cases h6 : r = 6
      · subst h6
        exact br_t (by decide) (K s hs hb)
      · refine br_f (nI_ge (b := 6) (by omega) (by omega)) ⟨vp_in_nI (by omega) (by omega), ?_⟩
        rw [nI_clamp (by omega)]
        have sub : ∀ p, gr_rea (fun i => s.testBit i = true ∨ (i < 48 ∧ yr r = nI (10000 + i))) (yy_E (yr, yf)) p → gr_rea (fun p => p < 48 ∧ ∃ r', r' < r + 1 ∧ yr r' = nI (10000 + p)) (yy_E (yr, yf)) p := by
          intro p hp
          refine gr_mono hp (fun b hb' => ?_) (fun c b hc he => gr_step hc he)
          rcases hb' with z | z
          · exact gr_mono ((hb b).mp z) (fun c hc => gr_root ⟨hc.1, hc.2.elim fun r' hr' => ⟨r', by omega, hr'.2⟩⟩) (fun c b hc he => gr_step hc he)
          · exact gr_root ⟨z.1, r, by omega, z.2⟩
        have sup : ∀ p, gr_rea (fun p => p < 48 ∧ ∃ r', r' < r + 1 ∧ yr r' = nI (10000 + p)) (yy_E (yr, yf)) p → gr_rea (fun i => s.testBit i = true ∨ (i < 48 ∧ yr r = nI (10000 + i))) (yy_E (yr, yf)) p := by
          intro p hp
          refine gr_mono hp (fun b hb' => ?_) (fun c b hc he => gr_step hc he)
          obtain ⟨h8, r', hr', e⟩ := hb'
          by_cases er : r' = r
          · subst er; exact gr_root (Or.inr ⟨h8, e⟩)
          · exact gr_root (Or.inl ((hb b).mpr (gr_root ⟨h8, r', by omega, e⟩)))
        have full : ∀ p, gr_rea (fun p => p < 48 ∧ ∃ r', r' < r + 1 ∧ yr r' = nI (10000 + p)) (yy_E (yr, yf)) p → yy_X (yr, yf) p := fun p hp =>
          gr_mono hp (fun b hb' => gr_root ⟨hb'.1, hb'.2.elim fun r' hr' => ⟨r', by omega, hr'.2⟩⟩) (fun c b hc he => gr_step hc he)
        refine yy_from hs (ok.1 r (by omega)) (fun p hp => ok.2 p (full p (sub p hp))) fun s' hs' hb' => ?_
        refine nm_r (nI_1 r) ?_
        exact ih (r + 1) s' (by omega) (by omega) hs' fun i => (hb' i).trans ⟨sub i, sup i⟩
  refine key 7 0 0 (by omega) (by omega) (by decide) fun i => ⟨fun z => ?_, fun z => ?_⟩
  · rw [Nat.zero_testBit] at z; exact absurd z (by decide)
  · exact (z (fun _ => False) (fun b hb => hb.2.elim fun r hr => absurd hr.1 (Nat.not_lt_zero r)) (fun _ _ h _ => h)).elim
theorem yy_ones {post : Int32 → Prop} {s : Nat} (hs : s < 2 ^ 48) (K : post (nI (ct_c (fun i => s.testBit i = true) 48))) : wpY_ones post (yr, yf) (lN s) := by
  show ∃ n5 : Nat, wY_ones_5 post (lN s) yr yf n5 (nI 0) (nI 0)
  refine ⟨49, ?_⟩
  have key : ∀ (n i : Nat), i ≤ 48 → 48 < n + i → wY_ones_5 post (lN s) yr yf n (nI (ct_c (fun i => s.testBit i = true) i)) (nI i) := by
    intro n
    induction n with
    | zero => intro i h1 h2; omega
    | succ n ih =>
      intro i h1 h2
      by_cases h48 : i = 48
      · subst h48; exact br_t (by decide) K
      · refine br_f (nI_ge (b := 48) (by omega) (by omega)) ?_
        by_cases hb : s.testBit i = true
        · refine br_t ((yy_bit hs (by omega)).mpr hb) (nm_r (e' := nI (ct_c (fun i => s.testBit i = true) (i + 1))) ?_ (nm_r (nI_1 i) ?_))
          · rw [ct_t (P := fun i => s.testBit i = true) hb, nI_1]
          · exact ih (i + 1) (by omega) (by omega)
        · refine br_f (fun z => hb ((yy_bit hs (by omega)).mp z)) (nm_r (nI_1 i) ?_)
          have := ih (i + 1) (by omega) (by omega)
          rw [ct_f (P := fun i => s.testBit i = true) hb] at this
          exact this
  exact key 49 0 (by omega) (by omega)
end YY
end
section
/-! contents that mean the same; a collector's graph is the reference's, by a map of places to cells -/
def is_v (φ : Nat → Nat) (x y : Int32) : Prop := (-999 ≤ y ∧ y ≤ 999 ∧ x = 2 * y + 1) ∨ ∃ p, p < 48 ∧ y = nI (10000 + p) ∧ x = nI (2 * φ p)
def is_I (φ : Nat → Nat) (R : Nat → Int32) (F : Nat → Nat → Int32) (v : SY) : Prop :=
  (∀ r, r < 6 → is_v φ (R r) (v.1 r)) ∧ (∀ p, yy_X v p → ∀ f, f < 3 → is_v φ (F (φ p) f) (v.2 (3 * p + f))) ∧
  (∀ p q, yy_X v p → yy_X v q → φ p = φ q → p = q) ∧ (∀ p, yy_X v p → 1 ≤ φ p ∧ φ p < 96)
theorem is_od (y : Int32) : gr_od (2 * y + 1) := by
  unfold gr_od
  rw [pk_and (2 * y + 1) (m := 1) 1 (by decide), Int32.toBitVec_add, Int32.toBitVec_mul, BitVec.toNat_add, BitVec.toNat_mul]
  have h1 : (1 : Int32).toBitVec.toNat = 1 := by decide
  have h2 : (2 : Int32).toBitVec.toNat = 2 := by decide
  rw [h1, h2]
  have : (2 * y.toBitVec.toNat % 2 ^ 32 + 1) % 2 ^ 32 % 2 ^ 1 = 1 := by omega
  rw [this]
  decide
theorem is_ti {y : Int32} (h : -999 ≤ y ∧ y ≤ 999) : -999 ≤ y.toInt ∧ y.toInt ≤ 999 := by
  have h1 : (999 : Int32).toInt = 999 := by decide
  have h2 : (-999 : Int32).toInt = -999 := by decide
  have h3 := Int32.le_iff_toInt_le.mp h.1
  have h4 := Int32.le_iff_toInt_le.mp h.2
  omega
theorem is_sh {y : Int32} (h : -999 ≤ y ∧ y ≤ 999) : (2 * y + 1) >>> ((1 : Int32) &&& 31) = y := by
  have hb := is_ti h
  apply Int32.toInt_inj.mp
  rw [pk_shr _ _ 1 (by decide), Int.shiftRight_eq_div_pow, Int32.toInt_add, Int32.toInt_mul]
  have h1 : (1 : Int32).toInt = 1 := by decide
  have h2 : (2 : Int32).toInt = 2 := by decide
  rw [h1, h2, Int.bmod_eq_of_le (n := 2 * y.toInt) (by omega) (by omega), Int.bmod_eq_of_le (by omega) (by omega)]
  omega
theorem is_ninj {y z : Int32} (h : -999 ≤ y ∧ y ≤ 999) (h' : -999 ≤ z ∧ z ≤ 999) (e : 2 * y + 1 = 2 * z + 1) : y = z := by
  rw [← is_sh h, ← is_sh h', e]
theorem yy_lt {v : SY} {p : Nat} (h : yy_X v p) : p < 48 := gr_ind h (fun p => p < 48) (fun _ hb => hb.1) (fun _ _ _ _ he => he.1)
theorem is_vr {φ : Nat → Nat} {x y : Int32} {p : Nat} (h : is_v φ x y) (hp : p < 48) (e : y = nI (10000 + p)) : x = nI (2 * φ p) := by
  rcases h with ⟨h1, h2, _⟩ | ⟨q, hq, e', ex⟩
  · exact absurd e (yy_numne ⟨h1, h2⟩ hp)
  · rw [← yy_inj hq hp (e'.symm.trans e)]; exact ex
theorem is_vx {φ : Nat → Nat} {x y : Int32} {b : Nat} (h : is_v φ x y) (hb : b < 96) (e : x = nI (2 * b)) : ∃ p, p < 48 ∧ y = nI (10000 + p) ∧ nI (2 * b) = nI (2 * φ p) := by
  rcases h with ⟨_, _, ex⟩ | ⟨q, hq, e', ex⟩
  · exact absurd e (gr_odne (by rw [ex]; exact is_od y) (by omega))
  · exact ⟨q, hq, e', e.symm.trans ex⟩
section IS
variable {φ : Nat → Nat} {R : Nat → Int32} {F : Nat → Nat → Int32} {v : SY}
theorem is_X (I : is_I φ R F v) (a : Nat) : gr_X R F a ↔ ∃ p, yy_X v p ∧ φ p = a := by
  obtain ⟨h1, h2, _, h4⟩ := I
  constructor
  · intro h
    refine h (fun a => ∃ p, yy_X v p ∧ φ p = a) ?_ ?_
    · rintro b ⟨hb, r, hr, e⟩
      obtain ⟨p, hp, ey, ep⟩ := is_vx (h1 r hr) hb e
      have hx : yy_X v p := gr_root ⟨hp, r, hr, ey⟩
      exact ⟨p, hx, (na_inj2 hb (h4 p hx).2 ep).symm⟩
    · rintro c b ⟨q, hq, rfl⟩ ⟨hb, f, hf, e⟩
      obtain ⟨p, hp, ey, ep⟩ := is_vx (h2 q hq f hf) hb e
      have hx : yy_X v p := gr_step hq ⟨hp, f, hf, ey⟩
      exact ⟨p, hx, (na_inj2 hb (h4 p hx).2 ep).symm⟩
  · rintro ⟨p, hp, rfl⟩
    refine gr_ind hp (fun p => gr_X R F (φ p)) ?_ ?_
    · rintro q ⟨hq, r, hr, e⟩
      have hx : yy_X v q := gr_root ⟨hq, r, hr, e⟩
      exact gr_root ⟨(h4 q hx).2, r, hr, is_vr (h1 r hr) hq e⟩
    · rintro c q hc hcx ⟨hq, f, hf, e⟩
      have hx : yy_X v q := gr_step hc ⟨hq, f, hf, e⟩
      exact gr_step hcx ⟨(h4 q hx).2, f, hf, is_vr (h2 c hc f hf) hq e⟩
theorem is_wf {x y : Int32} (I : is_I φ R F v) (h : is_v φ x y) (hy : ∀ p, p < 48 → y = nI (10000 + p) → yy_X v p) : gr_wf (gr_X R F) x := by
  rcases h with ⟨_, _, ex⟩ | ⟨q, hq, e', ex⟩
  · exact Or.inl (by rw [ex]; exact is_od y)
  · exact Or.inr ⟨φ q, (is_X I _).mpr ⟨q, hy q hq e', rfl⟩, ex⟩
theorem is_G (I : is_I φ R F v) : gr_WG R F (gr_X R F) := by
  refine ⟨fun r hr => is_wf I (I.1 r hr) fun p hp e => gr_root ⟨hp, r, hr, e⟩, fun a ha f hf => ?_, fun a ha => ?_⟩
  · obtain ⟨p, hp, rfl⟩ := (is_X I a).mp ha
    exact is_wf I (I.2.1 p hp f hf) fun q hq e => gr_step hp ⟨hq, f, hf, e⟩
  · obtain ⟨p, hp, rfl⟩ := (is_X I a).mp ha
    exact I.2.2.2 p hp
theorem is_cnt (I : is_I φ R F v) : ct_c (gr_X R F) 96 = ct_c (yy_X v) 48 := by
  apply Nat.le_antisymm
  · have hc : ∀ a, ∃ p, gr_X R F a → yy_X v p ∧ φ p = a := fun a => by
      by_cases h : gr_X R F a
      · obtain ⟨p, hp⟩ := (is_X I a).mp h
        exact ⟨p, fun _ => hp⟩
      · exact ⟨0, fun z => absurd z h⟩
    refine ct_map (fun a => (hc a).choose) 48 96 (yy_X v) (fun i _ hi => ?_) (fun i j _ _ hi hj e => ?_)
    · have := (hc i).choose_spec hi
      exact ⟨yy_lt this.1, this.1⟩
    · have h1 := ((hc i).choose_spec hi).2
      have h2 := ((hc j).choose_spec hj).2
      have e' : (hc i).choose = (hc j).choose := e
      rw [← h1, ← h2, e']
  · exact ct_map φ 96 48 (gr_X R F) (fun p _ hp => ⟨(I.2.2.2 p hp).2, (is_X I _).mpr ⟨p, hp, rfl⟩⟩) (fun p q _ _ hp hq e => I.2.2.1 p q hp hq e)
theorem is_vok {x y : Int32} (h : is_v φ x y) : yy_wf y := h.elim (fun z => Or.inl ⟨z.1, z.2.1⟩) fun ⟨p, hp, e, _⟩ => Or.inr ⟨p, hp, e⟩
theorem is_ok (I : is_I φ R F v) : yy_ok v := ⟨fun r hr => is_vok (I.1 r hr), fun p hp f hf => is_vok (I.2.1 p hp f hf)⟩
/-- what can be come to keeps its fields -/
theorem is_stay {F' : Nat → Nat → Int32} (I : is_I φ R F v) (h : ∀ a, gr_X R F a → ∀ f, f < 3 → F' a f = F a f) : is_I φ R F' v :=
  ⟨I.1, fun p hp f hf => by rw [h (φ p) ((is_X I _).mpr ⟨p, hp, rfl⟩) f hf]; exact I.2.1 p hp f hf, I.2.2⟩
/-- a content and the same behind a move -/
def is_m (μ : Nat → Nat) (x x' : Int32) : Prop := (gr_od x ∧ x' = x) ∨ ∃ a, a < 96 ∧ x = nI (2 * a) ∧ x' = nI (2 * μ a)
theorem is_mv {μ : Nat → Nat} {x x' y : Int32} (h : is_m μ x x') (hv : is_v φ x y) (h9 : ∀ p, p < 48 → y = nI (10000 + p) → φ p < 96) : is_v (fun p => μ (φ p)) x' y := by
  rcases hv with ⟨h1, h2, ex⟩ | ⟨p, hp, ey, ex⟩
  · rcases h with ⟨_, e⟩ | ⟨a, ha, e, _⟩
    · exact Or.inl ⟨h1, h2, e.trans ex⟩
    · exact absurd e (gr_odne (by rw [ex]; exact is_od y) (by omega))
  · have hφ := h9 p hp ey
    rcases h with ⟨ho, _⟩ | ⟨a, ha, e, e'⟩
    · exact absurd ex (gr_odne ho (by omega))
    · refine Or.inr ⟨p, hp, ey, ?_⟩
      rw [e', na_inj2 ha hφ (e.symm.trans ex)]
theorem is_move {μ : Nat → Nat} {R' : Nat → Int32} {F' : Nat → Nat → Int32} (I : is_I φ R F v) (hR : ∀ r, r < 6 → is_m μ (R r) (R' r))
    (hF : ∀ a, gr_X R F a → ∀ f, f < 3 → is_m μ (F a f) (F' (μ a) f)) (hi : ∀ a b, gr_X R F a → gr_X R F b → μ a = μ b → a = b) (h9 : ∀ a, gr_X R F a → 1 ≤ μ a ∧ μ a < 96) :
    is_I (fun p => μ (φ p)) R' F' v := by
  have hx : ∀ p, yy_X v p → gr_X R F (φ p) := fun p hp => (is_X I _).mpr ⟨p, hp, rfl⟩
  refine ⟨fun r hr => is_mv (hR r hr) (I.1 r hr) fun p hp e => (I.2.2.2 p (gr_root ⟨hp, r, hr, e⟩)).2, fun p hp f hf => is_mv (hF (φ p) (hx p hp) f hf) (I.2.1 p hp f hf) fun q hq e => (I.2.2.2 q (gr_step hp ⟨hq, f, hf, e⟩)).2,
    fun p q hp hq e => I.2.2.1 p q hp hq (hi _ _ (hx p hp) (hx q hq) e), fun p hp => h9 _ (hx p hp)⟩
/-! the calls that change the graph -/
theorem yy_set {yr yf : Nat → Int32} {r : Nat} {y : Int32} {q : Nat} (hy : ∀ p, p < 48 → y = nI (10000 + p) → yy_X (yr, yf) p) (h : yy_X (upd yr r y, yf) q) : yy_X (yr, yf) q := by
  refine h _ ?_ ?_
  · rintro p ⟨hp, r', hr', e⟩
    have e : upd yr r y r' = nI (10000 + p) := e
    by_cases er : r' = r
    · rw [er, pk_us] at e; exact hy p hp e
    · rw [pk_un er] at e; exact gr_root ⟨hp, r', hr', e⟩
  · exact fun c b hc he => gr_step hc he
theorem yy_put {yr yf : Nat → Int32} {i : Nat} {y : Int32} {q : Nat} (hy : ∀ p, p < 48 → y = nI (10000 + p) → yy_X (yr, yf) p) (h : yy_X (yr, upd yf i y) q) : yy_X (yr, yf) q := by
  refine h _ ?_ ?_
  · exact fun c hc => gr_root hc
  · rintro c b hc ⟨hb, f, hf, e⟩
    have e : upd yf i y (3 * c + f) = nI (10000 + b) := e
    by_cases er : 3 * c + f = i
    · rw [er, pk_us] at e; exact hy b hb e
    · rw [pk_un er] at e; exact gr_step hc ⟨hb, f, hf, e⟩
theorem is_set {yr yf : Nat → Int32} {r : Nat} {x y : Int32} (I : is_I φ R F (yr, yf)) (hv : is_v φ x y) (hy : ∀ p, p < 48 → y = nI (10000 + p) → yy_X (yr, yf) p) :
    is_I φ (upd R r x) F (upd yr r y, yf) := by
  refine ⟨fun r' hr' => ?_, fun p hp => I.2.1 p (yy_set hy hp), fun p q hp hq => I.2.2.1 p q (yy_set hy hp) (yy_set hy hq), fun p hp => I.2.2.2 p (yy_set hy hp)⟩
  show is_v φ (upd R r x r') (upd yr r y r')
  by_cases e : r' = r
  · rw [e, pk_us, pk_us]; exact hv
  · rw [pk_un e, pk_un e]; exact I.1 r' hr'
theorem is_put {yr yf : Nat → Int32} {p f : Nat} {x y : Int32} (I : is_I φ R F (yr, yf)) (hp : yy_X (yr, yf) p) (hf : f < 3) (hv : is_v φ x y) (hy : ∀ p, p < 48 → y = nI (10000 + p) → yy_X (yr, yf) p) :
    is_I φ R (vw_u F (φ p) f x) (yr, upd yf (3 * p + f) y) := by
  refine ⟨I.1, fun q hq g hg => ?_, fun q q' hq hq' => I.2.2.1 q q' (yy_put hy hq) (yy_put hy hq'), fun q hq => I.2.2.2 q (yy_put hy hq)⟩
  have hq' := yy_put hy hq
  show is_v φ (vw_u F (φ p) f x (φ q) g) (upd yf (3 * p + f) y (3 * q + g))
  by_cases e : q = p ∧ g = f
  · rw [e.1, e.2, vw_us, pk_us]; exact hv
  · rw [pk_un (by omega), vw_un]
    · exact I.2.1 q hq' g hg
    · by_cases eg : g = f
      · exact Or.inl fun z => e ⟨I.2.2.1 q p hq' hp z, eg⟩
      · exact Or.inr eg
theorem yy_new {yr yf yf' : Nat → Int32} {p r q : Nat} (h0 : ∀ f, f < 3 → yf' (3 * p + f) = 0) (hs : ∀ c, yy_X (yr, yf) c → c ≠ p → ∀ f, f < 3 → yf' (3 * c + f) = yf (3 * c + f)) (hp : p < 48)
    (h : yy_X (upd yr r (nI (10000 + p)), yf') q) : q = p ∨ yy_X (yr, yf) q := by
  have hz : ∀ b, b < 48 → (0 : Int32) ≠ nI (10000 + b) := fun b hb => yy_numne ⟨by decide, by decide⟩ hb
  refine h (fun q => q = p ∨ yy_X (yr, yf) q) ?_ ?_
  · rintro b ⟨hb, r', hr', e⟩
    have e : upd yr r (nI (10000 + p)) r' = nI (10000 + b) := e
    by_cases er : r' = r
    · rw [er, pk_us] at e; exact Or.inl (yy_inj hp hb e).symm
    · rw [pk_un er] at e; exact Or.inr (gr_root ⟨hb, r', hr', e⟩)
  · rintro c b hc ⟨hb, f, hf, e⟩
    have e : yf' (3 * c + f) = nI (10000 + b) := e
    by_cases ec : c = p
    · rw [ec, h0 f hf] at e; exact absurd e (hz b hb)
    · have hc' := hc.resolve_left ec
      rw [hs c hc' ec f hf] at e
      exact Or.inr (gr_step hc' ⟨hb, f, hf, e⟩)
theorem is_new {yr yf yf' : Nat → Int32} {F' : Nat → Nat → Int32} {p r a : Nat} (I : is_I φ R F (yr, yf)) (hp : p < 48) (hpn : ¬ yy_X (yr, yf) p) (ha1 : 1 ≤ a) (ha : a < 96) (han : ¬ gr_X R F a)
    (h0 : ∀ f, f < 3 → yf' (3 * p + f) = 0) (hs : ∀ c, yy_X (yr, yf) c → c ≠ p → ∀ f, f < 3 → yf' (3 * c + f) = yf (3 * c + f))
    (g0 : ∀ f, f < 3 → F' a f = 1) (gs : ∀ c, gr_X R F c → ∀ f, f < 3 → F' c f = F c f) :
    is_I (fun q => if q = p then a else φ q) (upd R r (nI (2 * a))) F' (upd yr r (nI (10000 + p)), yf') := by
  have sub := fun {q} => yy_new (q := q) (r := r) h0 hs hp
  have ne : ∀ q, yy_X (yr, yf) q → q ≠ p := fun q hq e => hpn (e ▸ hq)
  have hx : ∀ q, yy_X (yr, yf) q → gr_X R F (φ q) := fun q hq => (is_X I _).mpr ⟨q, hq, rfl⟩
  have lift : ∀ x y, is_v φ x y → (∀ q, q < 48 → y = nI (10000 + q) → yy_X (yr, yf) q) → is_v (fun q => if q = p then a else φ q) x y := by
    intro x y hv hy
    rcases hv with z | ⟨q, hq, ey, ex⟩
    · exact Or.inl z
    · refine Or.inr ⟨q, hq, ey, ?_⟩
      show x = nI (2 * (if q = p then a else φ q))
      rw [if_neg (ne q (hy q hq ey))]; exact ex
  refine ⟨fun r' hr' => ?_, fun q hq f hf => ?_, fun q q' hq hq' e => ?_, fun q hq => ?_⟩
  · show is_v _ (upd R r (nI (2 * a)) r') (upd yr r (nI (10000 + p)) r')
    by_cases e : r' = r
    · rw [e, pk_us, pk_us]
      exact Or.inr ⟨p, hp, rfl, by show _ = nI (2 * (if p = p then a else φ p)); rw [if_pos rfl]⟩
    · rw [pk_un e, pk_un e]
      exact lift _ _ (I.1 r' hr') fun q hq ey => gr_root ⟨hq, r', hr', ey⟩
  · show is_v _ (F' (if q = p then a else φ q) f) (yf' (3 * q + f))
    rcases sub hq with e | hq'
    · subst e
      rw [if_pos rfl, g0 f hf, h0 f hf]
      exact Or.inl ⟨by decide, by decide, by decide⟩
    · rw [if_neg (ne q hq'), gs _ (hx q hq') f hf, hs q hq' (ne q hq') f hf]
      exact lift _ _ (I.2.1 q hq' f hf) fun b hb ey => gr_step hq' ⟨hb, f, hf, ey⟩
  · have e : (if q = p then a else φ q) = (if q' = p then a else φ q') := e
    by_cases e1 : q = p
    · by_cases e2 : q' = p
      · exact e1.trans e2.symm
      · rw [if_pos e1, if_neg e2] at e
        exact absurd (hx q' ((sub hq').resolve_left e2)) (e ▸ han)
    · by_cases e2 : q' = p
      · rw [if_neg e1, if_pos e2] at e
        exact absurd (hx q ((sub hq).resolve_left e1)) (by rw [e]; exact han)
      · rw [if_neg e1, if_neg e2] at e
        exact I.2.2.1 q q' ((sub hq).resolve_left e1) ((sub hq').resolve_left e2) e
  · show 1 ≤ (if q = p then a else φ q) ∧ (if q = p then a else φ q) < 96
    by_cases e1 : q = p
    · rw [if_pos e1]; exact ⟨ha1, ha⟩
    · rw [if_neg e1]; exact I.2.2.2 q ((sub hq).resolve_left e1)
end IS
end
section
/-! sweeping -/
section SW
variable {zhf zhn zcn zyn zsc zph zsa zgc zsd zs2 : Int32} {zrg zfl ztk zco znx zff zfc zmv zrm zrf zsu zss zgs zfa zst zt2 zse zpa zba : Nat → Int32}
def sw_st (last : Nat) (T C T' C' : Nat → Int32) (i : Nat) : Prop :=
  (∀ a, i < a → a ≤ last → ((T a ≠ 0 ∧ C a ≠ 0 → T' a = T a) ∧ (¬ (T a ≠ 0 ∧ C a ≠ 0) → T' a = 0) ∧ C' a = 0)) ∧ (∀ a, ¬ (i < a ∧ a ≤ last) → T' a = T a ∧ C' a = C a)
theorem sw_cnt {P : Nat → Prop} {last i : Nat} (hl : last < 96) (hi : i + 1 ≤ last) :
    (P (i + 1) → ct_c (fun a => i < a ∧ a ≤ last ∧ P a) 96 = ct_c (fun a => i + 1 < a ∧ a ≤ last ∧ P a) 96 + 1) ∧ (¬ P (i + 1) → ct_c (fun a => i < a ∧ a ≤ last ∧ P a) 96 = ct_c (fun a => i + 1 < a ∧ a ≤ last ∧ P a) 96) := by
  constructor
  · intro hp
    refine ct_add (a := i + 1) 96 (by omega) (fun z => by omega) fun j hj => ⟨fun z => ?_, fun z => ?_⟩
    · by_cases e : j = i + 1
      · exact Or.inr e
      · exact Or.inl ⟨by omega, z.2⟩
    · rcases z with z | z
      · exact ⟨by omega, z.2⟩
      · subst z; exact ⟨by omega, hi, hp⟩
  · intro hp
    refine ct_congr 96 fun j hj => ⟨fun z => ⟨?_, z.2⟩, fun z => ⟨by omega, z.2⟩⟩
    by_cases e : j = i + 1
    · subst e; exact absurd z.2.2 hp
    · omega
theorem sw_step {last i : Nat} {T C T' C' T2 C2 : Nat → Int32} (hi : i + 1 ≤ last) (h : sw_st last T C T' C' (i + 1))
    (hT : ∀ a, a ≠ i + 1 → T2 a = T' a) (hC : ∀ a, a ≠ i + 1 → C2 a = C' a)
    (h1 : T (i + 1) ≠ 0 ∧ C (i + 1) ≠ 0 → T2 (i + 1) = T (i + 1)) (h2 : ¬ (T (i + 1) ≠ 0 ∧ C (i + 1) ≠ 0) → T2 (i + 1) = 0) (h3 : C2 (i + 1) = 0) : sw_st last T C T2 C2 i := by
  refine ⟨fun a h4 h5 => ?_, fun a h4 => ?_⟩
  · by_cases e : a = i + 1
    · subst e; exact ⟨h1, h2, h3⟩
    · rw [hT a e, hC a e]; exact h.1 a (by omega) h5
  · rw [hT a (by omega), hC a (by omega)]; exact h.2 a (by omega)
theorem xv_loop {post : Int32 → SX → Prop} {e last : Nat} (he : e < 7) (hl : last < 96) (T C : Nat → Int32) (h0 : ∀ a, 1 ≤ a → a ≤ last → T a = 0 → C a = 0)
    (V : Nat → (Nat → Int32) × (Nat → Nat → Int32) × (Nat → Int32) × (Nat → Int32) × (Nat → Int32) × Int32 × Int32)
    (K : ∀ ztk' zco' znx' zff' zfc', sw_st last T C (vw_c ztk' e) (vw_c zco' e) 0 → fr_ok last (vw_c ztk' e) (vw_c znx' e) (zff' e) (zfc' e) → (∀ e', e' ≠ e → vw_v e' zrg zfl ztk' zco' znx' zff' zfc' = V e') →
      post (nI (ct_c (fun a => 0 < a ∧ a ≤ last ∧ (T a ≠ 0 ∧ C a ≠ 0)) 96)) (zhf, zhn, zcn, zyn, zsc, zph, zsa, zgc, zsd, zs2, zrg, zfl, ztk', zco', znx', zff', zfc', zmv, zrm, zrf, zsu, zss, zgs, zfa, zst, zt2, zse, zpa, zba)) :
    ∀ (n i : Nat) (ztk zco znx zff zfc : Nat → Int32), i ≤ last → i < n → sw_st last T C (vw_c ztk e) (vw_c zco e) i → fr_ok last (vw_c ztk e) (vw_c znx e) (zff e) (zfc e) → (∀ e', e' ≠ e → vw_v e' zrg zfl ztk zco znx zff zfc = V e') →
      wX_sweepAll_5 post (nI e) n (nI (ct_c (fun a => i < a ∧ a ≤ last ∧ (T a ≠ 0 ∧ C a ≠ 0)) 96)) (nI i) zhf zhn zcn zyn zsc zph zsa zgc zsd zs2 zrg zfl ztk zco znx zff zfc zmv zrm zrf zsu zss zgs zfa zst zt2 zse zpa zba := by
  intro n
  induction n with
  | zero => intro i _ _ _ _ _ _ h; omega
  | succ n ih =>
    intro i ztk zco znx zff zfc hil hin hs hok hV
    cases i with
    | zero => exact br_t (by decide) (K _ _ _ _ _ hs hok hV)
    | succ j =>
      have ha : j + 1 < 96 := by omega
      have hT : ztk (e * 96 + (j + 1)) = T (j + 1) := by rw [← vw_c_at (g := ztk) ha]; exact (hs.2 (j + 1) (by omega)).1
      have hC : zco (e * 96 + (j + 1)) = C (j + 1) := by rw [← vw_c_at (g := zco) ha]; exact (hs.2 (j + 1) (by omega)).2
      have hcnt := sw_cnt (P := fun a => T a ≠ 0 ∧ C a ≠ 0) hl hil
      refine br_f (nI_nle (by omega) (by omega)) ?_
      refine nm_r (na_c e (j + 1)) ⟨vp_in_nI (by omega) (by omega), ?_⟩
      rw [nI_clamp (n := e * 96 + (j + 1)) (by omega)]
      by_cases t0 : T (j + 1) = 0
      · refine br_t (hT.trans t0) ?_
        refine And.intro (vp_in_nI (by omega) (by omega)) ?_
        rw [nI_clamp (n := e * 96 + (j + 1)) (by omega)]
        refine br_t (hT.trans t0) ?_
        refine nm_r (pk_m1 j) ?_
        rw [← hcnt.2 fun z => z.1 t0]
        refine ih j ztk zco znx zff zfc (by omega) (by omega) (sw_step hil hs (fun _ _ => rfl) (fun _ _ => rfl) (fun z => absurd t0 z.1) (fun _ => ?_) ?_) hok hV
        · rw [vw_c_at ha]; exact hT.trans t0
        · rw [vw_c_at ha, hC]; exact h0 _ (by omega) hil t0
      · refine br_f (fun z => t0 (hT.symm.trans z)) ⟨vp_in_nI (by omega) (by omega), ?_⟩
        by_cases c0 : C (j + 1) = 0
        · refine br_t (hC.trans c0) ?_
          refine xf_release he (by omega) hil hl hok (by rw [vw_c_at ha, hT]; exact t0) fun ztk' zco' znx' zff' zfc' h1 h2 h3 h4 => ?_
          refine nm_r (pk_m1 j) ?_
          rw [← hcnt.2 fun z => z.2 c0]
          refine ih j ztk' zco' znx' zff' zfc' (by omega) (by omega) (sw_step hil hs (fun a h => by rw [h1, pk_un h]) (fun a h => by rw [h2, pk_un h]) (fun z => absurd c0 z.2) (fun _ => by rw [h1, pk_us]) (by rw [h2, pk_us])) h3 (fun e' n => (h4 e' n).trans (hV e' n))
        · refine br_f (fun z => c0 (hC.symm.trans z)) (And.intro (vp_in_nI (by omega) (by omega)) ?_)
          rw [nI_clamp (n := e * 96 + (j + 1)) (by omega), na_0]
          refine br_f (fun z => t0 (hT.symm.trans z)) ⟨vp_in_nI (by omega) (by omega), nm_e ?_⟩
          refine nm_r (e' := nI (ct_c (fun a => j < a ∧ a ≤ last ∧ (T a ≠ 0 ∧ C a ≠ 0)) 96)) (by rw [hcnt.1 ⟨t0, c0⟩, nI_1]) ?_
          refine nm_r (pk_m1 j) ?_
          refine ih j ztk _ znx zff zfc (by omega) (by omega) (sw_step hil hs (fun _ _ => rfl) (fun a h => by rw [vw_c_s ha, pk_un h]) (fun _ => by rw [vw_c_at ha]; exact hT) (fun z => absurd ⟨t0, c0⟩ z) (by rw [vw_c_s ha, pk_us])) hok (fun e' n => (vw_v_co (vw_c_o ha n)).trans (hV e' n))
theorem xv_all {post : Int32 → SX → Prop} {e last : Nat} (he : e < 7) (hl : last < 96) (h0 : ∀ a, 1 ≤ a → a ≤ last → vw_c ztk e a = 0 → vw_c zco e a = 0) (hok : fr_ok last (vw_c ztk e) (vw_c znx e) (zff e) (zfc e))
    (K : ∀ ztk' zco' znx' zff' zfc', sw_st last (vw_c ztk e) (vw_c zco e) (vw_c ztk' e) (vw_c zco' e) 0 → fr_ok last (vw_c ztk' e) (vw_c znx' e) (zff' e) (zfc' e) → (∀ e', e' ≠ e → vw_v e' zrg zfl ztk' zco' znx' zff' zfc' = vw_v e' zrg zfl ztk zco znx zff zfc) →
      post (nI (ct_c (fun a => 0 < a ∧ a ≤ last ∧ (vw_c ztk e a ≠ 0 ∧ vw_c zco e a ≠ 0)) 96)) (zhf, zhn, zcn, zyn, zsc, zph, zsa, zgc, zsd, zs2, zrg, zfl, ztk', zco', znx', zff', zfc', zmv, zrm, zrf, zsu, zss, zgs, zfa, zst, zt2, zse, zpa, zba)) :
    wpX_sweepAll post (zhf, zhn, zcn, zyn, zsc, zph, zsa, zgc, zsd, zs2, zrg, zfl, ztk, zco, znx, zff, zfc, zmv, zrm, zrf, zsu, zss, zgs, zfa, zst, zt2, zse, zpa, zba) (nI e) (nI last) := by
  show ∃ n5 : Nat, wX_sweepAll_5 post (nI e) n5 0 (nI last) zhf zhn zcn zyn zsc zph zsa zgc zsd zs2 zrg zfl ztk zco znx zff zfc zmv zrm zrf zsu zss zgs zfa zst zt2 zse zpa zba
  refine ⟨last + 1, ?_⟩
  have := xv_loop (post := post) he hl (vw_c ztk e) (vw_c zco e) h0 (fun e' => vw_v e' zrg zfl ztk zco znx zff zfc) K (last + 1) last ztk zco znx zff zfc (Nat.le_refl _) (by omega) ⟨fun a h1 h2 => by omega, fun a _ => ⟨rfl, rfl⟩⟩ hok (fun _ _ => rfl)
  rw [ct_zero (P := fun a => last < a ∧ a ≤ last ∧ (vw_c ztk e a ≠ 0 ∧ vw_c zco e a ≠ 0)) 96 (fun i _ z => by omega)] at this
  exact this
end SW
end
section
/-! registers and fields are given contents -/
section XR
variable {zhf zhn zcn zyn zsc zph zsa zgc zsd zs2 : Int32} {zrg zfl ztk zco znx zff zfc zmv zrm zrf zsu zss zgs zfa zst zt2 zse zpa zba : Nat → Int32}
theorem xr_ne4 {e : Nat} (he : e < 7) (h4 : e ≠ 4) : ¬ nI e = 4 := fun z => h4 (na_inj (b := 4) (by omega) (by omega) z)
theorem xr_ne3 {e : Nat} (he : e < 7) (h4 : e ≠ 3) : ¬ nI e = 3 := fun z => h4 (na_inj (b := 3) (by omega) (by omega) z)
theorem xr_ne5 {e : Nat} (he : e < 7) (h4 : e ≠ 5) : ¬ nI e = 5 := fun z => h4 (na_inj (b := 5) (by omega) (by omega) z)
theorem xr_set {post : SX → Prop} {e r : Nat} {x : Int32} (he : e < 7) (h4 : e ≠ 4) (hr : r < 6) (k : post (zhf, zhn, zcn, zyn, zsc, zph, zsa, zgc, zsd, zs2, upd zrg (e * 6 + r) x, zfl, ztk, zco, znx, zff, zfc, zmv, zrm, zrf, zsu, zss, zgs, zfa, zst, zt2, zse, zpa, zba)) : wpX_setRegister post (zhf, zhn, zcn, zyn, zsc, zph, zsa, zgc, zsd, zs2, zrg, zfl, ztk, zco, znx, zff, zfc, zmv, zrm, zrf, zsu, zss, zgs, zfa, zst, zt2, zse, zpa, zba) (nI e) (nI r) x := by
  refine nm_r (na_r e r) ⟨vp_in_nI (by omega) (by omega), nm_e ?_⟩
  refine br_f (xr_ne4 he h4) ?_
  refine And.intro (vp_in_nI (by omega) (by omega)) ?_
  rw [nI_clamp (by omega)]
  exact nm_e (br_f (xr_ne4 he h4) k)
theorem xr_put {post : SX → Prop} {e a f : Nat} {x : Int32} (he : e < 7) (h3 : e ≠ 3) (h4 : e ≠ 4) (h5 : e ≠ 5) (ha : a < 96) (hf : f < 3)
    (k : ∀ zfl', vw_f zfl' e = vw_u (vw_f zfl e) a f x → (∀ e', e' ≠ e → vw_f zfl' e' = vw_f zfl e') → post (zhf, zhn, zcn, zyn, zsc, zph, zsa, zgc, zsd, zs2, zrg, zfl', ztk, zco, znx, zff, zfc, zmv, zrm, zrf, zsu, zss, zgs, zfa, zst, zt2, zse, zpa, zba)) : wpX_setField post (zhf, zhn, zcn, zyn, zsc, zph, zsa, zgc, zsd, zs2, zrg, zfl, ztk, zco, znx, zff, zfc, zmv, zrm, zrf, zsu, zss, zgs, zfa, zst, zt2, zse, zpa, zba) (nI e) (nI a) (nI f) x := by
  unfold wpX_setField
  refine xp_fieldOf he ha hf ?_
  refine br_f (xr_ne4 he h4) ?_
  refine xp_store he ha hf fun zfl' h1 h2 => ?_
  exact br_f (xr_ne4 he h4) (br_f (xr_ne3 he h3) (br_f (xr_ne5 he h5) (k zfl' h1 h2)))
end XR
/-! the simple relations: a free list and no marks; two halves; closed up -/
def jc_0 (last : Nat) (R : Nat → Int32) (F : Nat → Nat → Int32) (T C N : Nat → Int32) (f c : Int32) (v : SY) : Prop :=
  ∃ φ, is_I φ R F v ∧ fr_ok last T N f c ∧ (∀ a, C a = 0) ∧ (∀ a, gr_X R F a → a ≤ last ∧ T a ≠ 0)
def jc_1 (R : Nat → Int32) (F : Nat → Nat → Int32) (hf hn : Int32) (v : SY) : Prop :=
  ∃ φ h n, is_I φ R F v ∧ hf = nI h ∧ (h = 1 ∨ h = 48) ∧ hn = nI n ∧ h ≤ n ∧ n ≤ h + 47 ∧ (∀ a, gr_X R F a → h ≤ a ∧ a < n)
def jc_2 (R : Nat → Int32) (F : Nat → Nat → Int32) (C : Nat → Int32) (cn : Int32) (v : SY) : Prop :=
  ∃ φ n, is_I φ R F v ∧ cn = nI n ∧ 1 ≤ n ∧ n ≤ 49 ∧ (∀ a, C a = 0) ∧ (∀ a, gr_X R F a → a < n)
theorem is_sub {φ : Nat → Nat} {R R' : Nat → Int32} {F F' : Nat → Nat → Int32} {v v' : SY} {a : Nat} (I : is_I φ R F v) (I' : is_I φ R' F' v') (h : ∀ p, yy_X v' p → yy_X v p) (ha : gr_X R' F' a) : gr_X R F a := by
  obtain ⟨p, hp, e⟩ := (is_X I' a).mp ha
  exact (is_X I a).mpr ⟨p, h p hp, e⟩
theorem is_subn {φ : Nat → Nat} {R R' : Nat → Int32} {F F' : Nat → Nat → Int32} {v v' : SY} {a b p : Nat} (I : is_I φ R F v) (I' : is_I (fun q => if q = p then b else φ q) R' F' v') (h : ∀ q, yy_X v' q → q = p ∨ yy_X v q) (ha : gr_X R' F' a) : a = b ∨ gr_X R F a := by
  obtain ⟨q, hq, e⟩ := (is_X I' a).mp ha
  by_cases eq : q = p
  · left; rw [← e]; exact if_pos eq
  · right
    have e' : φ q = a := by rw [← e]; exact (if_neg eq).symm
    exact (is_X I a).mpr ⟨q, (h q hq).resolve_left eq, e'⟩
/-- the content that a call hands on -/
def op_v (R : Nat → Int32) (F : Nat → Nat → Int32) (v : SY) (x y : Int32) : Prop := (∀ φ, is_I φ R F v → is_v φ x y) ∧ (∀ p, p < 48 → y = nI (10000 + p) → yy_X v p)
theorem jc_0_set {last r : Nat} {R : Nat → Int32} {F : Nat → Nat → Int32} {T C N : Nat → Int32} {f c x y : Int32} {yr yf : Nat → Int32} (h : jc_0 last R F T C N f c (yr, yf)) (hv : op_v R F (yr, yf) x y) :
    jc_0 last (upd R r x) F T C N f c (upd yr r y, yf) := by
  obtain ⟨φ, I, h1, h2, h3⟩ := h
  have I' := is_set (r := r) I (hv.1 φ I) hv.2
  exact ⟨φ, I', h1, h2, fun a ha => h3 a (is_sub I I' (fun p => yy_set hv.2) ha)⟩
theorem jc_1_set {r : Nat} {R : Nat → Int32} {F : Nat → Nat → Int32} {f c x y : Int32} {yr yf : Nat → Int32} (h : jc_1 R F f c (yr, yf)) (hv : op_v R F (yr, yf) x y) :
    jc_1 (upd R r x) F f c (upd yr r y, yf) := by
  obtain ⟨φ, m, n, I, h1, h2, h3, h4, h5, h6⟩ := h
  have I' := is_set (r := r) I (hv.1 φ I) hv.2
  exact ⟨φ, m, n, I', h1, h2, h3, h4, h5, fun a ha => h6 a (is_sub I I' (fun p => yy_set hv.2) ha)⟩
theorem jc_2_set {r : Nat} {R : Nat → Int32} {F : Nat → Nat → Int32} {C : Nat → Int32} {c x y : Int32} {yr yf : Nat → Int32} (h : jc_2 R F C c (yr, yf)) (hv : op_v R F (yr, yf) x y) :
    jc_2 (upd R r x) F C c (upd yr r y, yf) := by
  obtain ⟨φ, n, I, h1, h2, h3, h4, h5⟩ := h
  have I' := is_set (r := r) I (hv.1 φ I) hv.2
  exact ⟨φ, n, I', h1, h2, h3, h4, fun a ha => h5 a (is_sub I I' (fun p => yy_set hv.2) ha)⟩
/-- the cell whose field a call changes -/
def op_a (R : Nat → Int32) (F : Nat → Nat → Int32) (v : SY) (a p : Nat) : Prop := yy_X v p ∧ (∀ φ, is_I φ R F v → a = φ p)
theorem jc_0_put {last a p g : Nat} {R : Nat → Int32} {F : Nat → Nat → Int32} {T C N : Nat → Int32} {f c x y : Int32} {yr yf : Nat → Int32} (h : jc_0 last R F T C N f c (yr, yf)) (hv : op_v R F (yr, yf) x y) (hp : op_a R F (yr, yf) a p) (hg : g < 3) :
    jc_0 last R (vw_u F a g x) T C N f c (yr, upd yf (3 * p + g) y) := by
  obtain ⟨φ, I, h1, h2, h3⟩ := h
  have I' := is_put I hp.1 hg (hv.1 φ I) hv.2
  rw [← hp.2 φ I] at I'
  exact ⟨φ, I', h1, h2, fun a ha => h3 a (is_sub I I' (fun p => yy_put hv.2) ha)⟩
theorem jc_1_put {a p g : Nat} {R : Nat → Int32} {F : Nat → Nat → Int32} {f c x y : Int32} {yr yf : Nat → Int32} (h : jc_1 R F f c (yr, yf)) (hv : op_v R F (yr, yf) x y) (hp : op_a R F (yr, yf) a p) (hg : g < 3) :
    jc_1 R (vw_u F a g x) f c (yr, upd yf (3 * p + g) y) := by
  obtain ⟨φ, m, n, I, h1, h2, h3, h4, h5, h6⟩ := h
  have I' := is_put I hp.1 hg (hv.1 φ I) hv.2
  rw [← hp.2 φ I] at I'
  exact ⟨φ, m, n, I', h1, h2, h3, h4, h5, fun a ha => h6 a (is_sub I I' (fun p => yy_put hv.2) ha)⟩
theorem jc_2_put {a p g : Nat} {R : Nat → Int32} {F : Nat → Nat → Int32} {C : Nat → Int32} {c x y : Int32} {yr yf : Nat → Int32} (h : jc_2 R F C c (yr, yf)) (hv : op_v R F (yr, yf) x y) (hp : op_a R F (yr, yf) a p) (hg : g < 3) :
    jc_2 R (vw_u F a g x) C c (yr, upd yf (3 * p + g) y) := by
  obtain ⟨φ, n, I, h1, h2, h3, h4, h5⟩ := h
  have I' := is_put I hp.1 hg (hv.1 φ I) hv.2
  rw [← hp.2 φ I] at I'
  exact ⟨φ, n, I', h1, h2, h3, h4, fun a ha => h5 a (is_sub I I' (fun p => yy_put hv.2) ha)⟩
/-- a new place of the reference -/
def op_n (yr yf yf' : Nat → Int32) (p : Nat) : Prop := p < 48 ∧ ¬ yy_X (yr, yf) p ∧ (∀ f, f < 3 → yf' (3 * p + f) = 0) ∧ (∀ c, yy_X (yr, yf) c → c ≠ p → ∀ f, f < 3 → yf' (3 * c + f) = yf (3 * c + f))
theorem jc_0_new {last r a p : Nat} {R : Nat → Int32} {F : Nat → Nat → Int32} {T C N N' : Nat → Int32} {f c f' c' : Int32} {yr yf yf' : Nat → Int32} (hl : last < 96) (h : jc_0 last R F T C N f c (yr, yf)) (hn : op_n yr yf yf' p)
    (h1 : 1 ≤ a) (h2 : a ≤ last) (ht : T a = 0) (hok : fr_ok last (upd T a 1) N' f' c') : jc_0 last (upd R r (nI (2 * a))) (vw_w F a (fun _ => 1)) (upd T a 1) C N' f' c' (upd yr r (nI (10000 + p)), yf') := by
  obtain ⟨φ, I, _, h5, h6⟩ := h
  have hna : ¬ gr_X R F a := fun z => (h6 a z).2 ht
  have I' := is_new (r := r) (F' := vw_w F a (fun _ => 1)) I hn.1 hn.2.1 h1 (by omega) hna hn.2.2.1 hn.2.2.2 (fun g _ => vw_ws) (fun c hc g _ => vw_wn fun e => hna (e ▸ hc))
  refine ⟨_, I', hok, h5, fun b hb => ?_⟩
  rcases is_subn I I' (fun q hq => yy_new hn.2.2.1 hn.2.2.2 hn.1 hq) hb with e | e
  · subst e; exact ⟨h2, by rw [pk_us]; exact na_n10⟩
  · have := h6 b e
    refine ⟨this.1, ?_⟩
    by_cases eb : b = a
    · subst eb; exact absurd e hna
    · rw [pk_un eb]; exact this.2
theorem fr_pos {last : Nat} {T N : Nat → Int32} {f c : Int32} (hl : last < 96) (h : fr_ok last T N f c) {P : Nat → Prop} (hP : ∀ a, 1 ≤ a → a ≤ last → T a ≠ 0 → P a) (hc : ct_c P 96 < last) : c ≠ 0 := by
  rw [fr_cnt hl h]
  intro z
  have hb : ct_c (fun a => 1 ≤ a ∧ a ≤ last ∧ T a = 0) 96 ≤ 96 := ct_le 96
  have z' := na_inj (b := 0) (by omega) (by omega) z
  have h1 := ct_split (P := fun a => 1 ≤ a ∧ a < last + 1) (Q := fun a => T a = 0) 96
  rw [ct_range (by omega) 96 (by omega)] at h1
  have h2 : ct_c (fun a => (1 ≤ a ∧ a < last + 1) ∧ T a = 0) 96 = ct_c (fun a => 1 ≤ a ∧ a ≤ last ∧ T a = 0) 96 := ct_congr 96 fun i _ => ⟨fun z => ⟨z.1.1, by omega, z.2⟩, fun z => ⟨⟨z.1, by omega⟩, z.2.2⟩⟩
  have h3 : ct_c (fun a => (1 ≤ a ∧ a < last + 1) ∧ ¬ T a = 0) 96 ≤ ct_c P 96 := ct_mono 96 fun i _ z => hP i z.1.1 (by omega) z.2
  omega
section C0
variable {zhf zhn zcn zyn zsc zph zsa zgc zsd zs2 : Int32} {zrg zfl ztk zco znx zff zfc zmv zrm zrf zsu zss zgs zfa zst zt2 zse zpa zba : Nat → Int32}
/-- marks are there: those that can be come to; sweeping leaves these -/
theorem xv_swept {post : Int32 → SX → Prop} {e last : Nat} {v : SY} (he : e < 7) (hl : last < 96) {φ : Nat → Nat} (I : is_I φ (vw_r zrg e) (vw_f zfl e) v) (hok : fr_ok last (vw_c ztk e) (vw_c znx e) (zff e) (zfc e))
    (hX : ∀ a, gr_X (vw_r zrg e) (vw_f zfl e) a → a ≤ last ∧ vw_c ztk e a ≠ 0) (hm : ∀ a, gr_X (vw_r zrg e) (vw_f zfl e) a → vw_c zco e a = 2) (hw : ∀ a, ¬ gr_X (vw_r zrg e) (vw_f zfl e) a → vw_c zco e a = 0)
    (K : ∀ ztk' zco' znx' zff' zfc', jc_0 last (vw_r zrg e) (vw_f zfl e) (vw_c ztk' e) (vw_c zco' e) (vw_c znx' e) (zff' e) (zfc' e) v → (∀ a, 1 ≤ a → a ≤ last → vw_c ztk' e a ≠ 0 → gr_X (vw_r zrg e) (vw_f zfl e) a) →
      (∀ e', e' ≠ e → vw_v e' zrg zfl ztk' zco' znx' zff' zfc' = vw_v e' zrg zfl ztk zco znx zff zfc) → post (nI (ct_c (yy_X v) 48)) (zhf, zhn, zcn, zyn, zsc, zph, zsa, zgc, zsd, zs2, zrg, zfl, ztk', zco', znx', zff', zfc', zmv, zrm, zrf, zsu, zss, zgs, zfa, zst, zt2, zse, zpa, zba)) :
    wpX_sweepAll post (zhf, zhn, zcn, zyn, zsc, zph, zsa, zgc, zsd, zs2, zrg, zfl, ztk, zco, znx, zff, zfc, zmv, zrm, zrf, zsu, zss, zgs, zfa, zst, zt2, zse, zpa, zba) (nI e) (nI last) := by
  have h20 : ¬ (2 : Int32) = 0 := by decide
  refine xv_all he hl (fun a _ _ h => hw a fun z => (hX a z).2 h) hok fun ztk' zco' znx' zff' zfc' hs hok' hV => ?_
  have hc : ct_c (fun a => 0 < a ∧ a ≤ last ∧ (vw_c ztk e a ≠ 0 ∧ vw_c zco e a ≠ 0)) 96 = ct_c (yy_X v) 48 := by
    rw [← is_cnt I]
    refine ct_congr 96 fun i _ => ⟨fun z => ?_, fun z => ?_⟩
    · exact Classical.byContradiction fun hn => z.2.2.2 (hw i hn)
    · have := (is_G I).2.2 i z
      exact ⟨by omega, (hX i z).1, (hX i z).2, by rw [hm i z]; exact h20⟩
  rw [hc]
  refine K ztk' zco' znx' zff' zfc' ⟨φ, I, hok', fun a => ?_, fun a ha => ⟨(hX a ha).1, ?_⟩⟩ (fun a h1 h2 h3 => ?_) hV
  · by_cases h : 0 < a ∧ a ≤ last
    · exact (hs.1 a h.1 h.2).2.2
    · rw [(hs.2 a h).2]
      exact hw a fun z => h ⟨((is_G I).2.2 a z).1, (hX a z).1⟩
  · have h1 := (is_G I).2.2 a ha
    rw [(hs.1 a (by omega) (hX a ha).1).1 ⟨(hX a ha).2, by rw [hm a ha]; exact h20⟩]
    exact (hX a ha).2
  · refine Classical.byContradiction fun hn => h3 ((hs.1 a (by omega) h2).2.1 fun z => z.2 (hw a hn))
theorem c0_collect {post : Int32 → SX → Prop} {v : SY} (h : jc_0 48 (vw_r zrg 0) (vw_f zfl 0) (vw_c ztk 0) (vw_c zco 0) (vw_c znx 0) (zff 0) (zfc 0) v)
    (K : ∀ zst' ztk' zco' znx' zff' zfc', jc_0 48 (vw_r zrg 0) (vw_f zfl 0) (vw_c ztk' 0) (vw_c zco' 0) (vw_c znx' 0) (zff' 0) (zfc' 0) v → (∀ a, 1 ≤ a → a ≤ 48 → vw_c ztk' 0 a ≠ 0 → gr_X (vw_r zrg 0) (vw_f zfl 0) a) →
      (∀ e', e' ≠ 0 → vw_v e' zrg zfl ztk' zco' znx' zff' zfc' = vw_v e' zrg zfl ztk zco znx zff zfc) → post (nI (ct_c (yy_X v) 48)) (zhf, zhn, zcn, zyn, zsc, zph, zsa, zgc, 0, zs2, zrg, zfl, ztk', zco', znx', zff', zfc', zmv, zrm, zrf, zsu, zss, zgs, zfa, zst', zt2, zse, zpa, zba)) : wpX_collectBySweep post (zhf, zhn, zcn, zyn, zsc, zph, zsa, zgc, zsd, zs2, zrg, zfl, ztk, zco, znx, zff, zfc, zmv, zrm, zrf, zsu, zss, zgs, zfa, zst, zt2, zse, zpa, zba) := by
  obtain ⟨φ, I, h1, h2, h3⟩ := h
  unfold wpX_collectBySweep
  refine xm_all (e := 0) (by omega) (is_G I) h2 fun zst' zco1 m1 m2 o1 => ?_
  refine xv_swept (e := 0) (last := 48) (by omega) (by omega) I h1 h3 m1 m2 fun ztk' zco' znx' zff' zfc' hj hT hV => ?_
  exact K zst' ztk' zco' znx' zff' zfc' hj hT fun e' n => (hV e' n).trans (vw_v_co (o1 e' n))
end C0
end
section
/-! collector 1: what is used moves to the other half -/
def hv_m (m : Nat → Int32) (x x' : Int32) : Prop := (gr_od x ∧ x' = x) ∨ ∃ b c, b < 96 ∧ c < 96 ∧ c ≠ 0 ∧ x = nI (2 * b) ∧ m b = nI c ∧ x' = nI (2 * c)
def hv_I (X : Nat → Prop) (F0 : Nat → Nat → Int32) (h next scan g : Nat) (m : Nat → Int32) (F : Nat → Nat → Int32) : Prop :=
  (∀ a, m a = 0 ∨ (X a ∧ ∃ c, m a = nI c ∧ h ≤ c ∧ c < next)) ∧ (∀ a b, m a ≠ 0 → m a = m b → a = b) ∧ ct_c (fun a => m a ≠ 0) 96 + h = next ∧
  (∀ a, X a → ∀ f, F a f = F0 a f) ∧
  (∀ a c f, m a = nI c → h ≤ c → c < next → f < 3 → ((c < scan ∨ (c = scan ∧ f < g)) → hv_m m (F0 a f) (F c f)) ∧ (¬ (c < scan ∨ (c = scan ∧ f < g)) → F c f = F0 a f)) ∧
  (∀ c, h ≤ c → c < next → ∃ a, X a ∧ m a = nI c)
theorem hv_mono {m : Nat → Int32} {a : Nat} {y x x' : Int32} (h : m a = 0) (hm : hv_m m x x') : hv_m (upd m a y) x x' := by
  rcases hm with z | ⟨b, c, hb, hc, h0, e, em, ex⟩
  · exact Or.inl z
  · refine Or.inr ⟨b, c, hb, hc, h0, e, ?_, ex⟩
    have : b ≠ a := fun z => nI_ne0 (by omega) (by omega) (em.symm.trans (z ▸ h))
    rw [pk_un this]; exact em
theorem hv_copy {X : Nat → Prop} {F0 : Nat → Nat → Int32} {h next scan g : Nat} {m : Nat → Int32} {F : Nat → Nat → Int32} {a : Nat} (I : hv_I X F0 h next scan g m F) (ha : X a) (ha9 : a < 96) (hm : m a = 0)
    (hh : 1 ≤ h) (hd : ∀ b, X b → ¬ (h ≤ b ∧ b < h + 47)) (hn : next < h + 47) (hn9 : next < 96) (hs : scan < next ∨ (scan = next ∧ g = 0)) : hv_I X F0 h (next + 1) scan g (upd m a (nI next)) (vw_w F next (F a)) := by
  obtain ⟨i1, i2, i3, i4, i5, i6⟩ := I
  have hne : ∀ c, h ≤ c → c < next → nI c ≠ nI next := fun c _ h2 e => by have := na_inj (by omega) (by omega) e; omega
  have hnx : ¬ X next := fun z => hd next z (by omega)
  refine ⟨fun b => ?_, fun b c => ?_, ?_, fun b hb f => ?_, fun b c f hb h1 h2 h3 => ?_, fun c h1 h2 => ?_⟩
  · by_cases e : b = a
    · subst e; rw [pk_us]; exact Or.inr ⟨ha, next, rfl, by omega, by omega⟩
    · rw [pk_un e]
      exact (i1 b).imp id fun ⟨hx, c, hc, h1, h2⟩ => ⟨hx, c, hc, h1, by omega⟩
  · by_cases e : b = a
    · by_cases e' : c = a
      · exact fun _ _ => e.trans e'.symm
      · rw [e, pk_us, pk_un e']
        intro _ z
        rcases i1 c with w | ⟨_, d, w, h1, h2⟩
        · exact absurd (z.trans w) (nI_ne0 (by omega) (by omega))
        · exact absurd (w.symm.trans z.symm) (hne d h1 h2)
    · by_cases e' : c = a
      · rw [e', pk_us, pk_un e]
        intro hb z
        rcases i1 b with w | ⟨_, d, w, h1, h2⟩
        · exact absurd w hb
        · exact absurd (w.symm.trans z) (hne d h1 h2)
      · rw [pk_un e, pk_un e']; exact i2 b c
  · rw [ct_add (P := fun b => m b ≠ 0) (a := a) 96 ha9 (fun z => z hm) (fun i _ => ?_)]
    · omega
    · show upd m a (nI next) i ≠ 0 ↔ _
      by_cases e : i = a
      · rw [e, pk_us]; exact ⟨fun _ => Or.inr rfl, fun _ => nI_ne0 (by omega) (by omega)⟩
      · rw [pk_un e]; exact ⟨Or.inl, fun z => z.resolve_right e⟩
  · have hbn : b ≠ next := fun e => hnx (e ▸ hb)
    rw [vw_wn hbn]; exact i4 b hb f
  · by_cases e : b = a
    · rw [e, pk_us] at hb
      have hc : next = c := na_inj (by omega) (by omega) hb
      rw [← hc, e, vw_ws]
      exact ⟨fun z => by omega, fun _ => i4 a ha f⟩
    · rw [pk_un e] at hb
      have hcn : c < next := by
        rcases i1 b with w | ⟨_, d, w, h4, h5⟩
        · exact absurd (hb.symm.trans w) (nI_ne0 (by omega) (by omega))
        · have := na_inj (a := c) (b := d) (by omega) (by omega) (hb.symm.trans w); omega
      rw [vw_wn (by omega)]
      have := i5 b c f hb h1 hcn h3
      exact ⟨fun z => hv_mono hm (this.1 z), this.2⟩
  · by_cases e : c = next
    · exact ⟨a, ha, by rw [e, pk_us]⟩
    · obtain ⟨b, hb, hbm⟩ := i6 c h1 (by omega)
      refine ⟨b, hb, ?_⟩
      have : b ≠ a := fun z => nI_ne0 (n := c) (by omega) (by omega) (hbm.symm.trans (z ▸ hm))
      rw [pk_un this]; exact hbm
theorem hv_store {X : Nat → Prop} {F0 : Nat → Nat → Int32} {h next scan g a : Nat} {m : Nat → Int32} {F : Nat → Nat → Int32} {y : Int32} (I : hv_I X F0 h next scan g m F) (hn9 : next < 96) (hd : ∀ b, X b → ¬ (h ≤ b ∧ b < h + 47)) (hn : next < h + 47)
    (hh : 1 ≤ h) (h1 : h ≤ scan) (hs : scan < next) (ha : m a = nI scan) (hy : hv_m m (F0 a g) y) : hv_I X F0 h next scan (g + 1) m (vw_u F scan g y) := by
  obtain ⟨i1, i2, i3, i4, i5, i6⟩ := I
  refine ⟨i1, i2, i3, fun b hb f => ?_, fun b c f hb h2 h3 h4 => ?_, i6⟩
  · rw [vw_un (Or.inl fun e => hd b hb (by omega))]; exact i4 b hb f
  · have := i5 b c f hb h2 h3 h4
    by_cases e : c = scan ∧ f = g
    · obtain ⟨rfl, rfl⟩ := e
      rw [vw_us]
      refine ⟨fun _ => ?_, fun z => by omega⟩
      rw [← i2 a b (fun z => nI_ne0 (n := c) (by omega) (by omega) (ha.symm.trans z)) (ha.trans hb.symm)]; exact hy
    · rw [vw_un (by omega)]
      exact ⟨fun z => this.1 (by omega), fun z => this.2 (by omega)⟩
theorem hv_next {X : Nat → Prop} {F0 : Nat → Nat → Int32} {h next scan : Nat} {m : Nat → Int32} {F : Nat → Nat → Int32} (I : hv_I X F0 h next scan 3 m F) : hv_I X F0 h next (scan + 1) 0 m F := by
  obtain ⟨i1, i2, i3, i4, i5, i6⟩ := I
  refine ⟨i1, i2, i3, i4, fun b c f hb h2 h3 h4 => ?_, i6⟩
  have := i5 b c f hb h2 h3 h4
  exact ⟨fun z => this.1 (by omega), fun z => this.2 (by omega)⟩
theorem hv_bd {X : Nat → Prop} {F0 : Nat → Nat → Int32} {h next scan g : Nat} {m : Nat → Int32} {F : Nat → Nat → Int32} (I : hv_I X F0 h next scan g m F) : next ≤ h + ct_c X 96 := by
  have := ct_mono (P := fun a => m a ≠ 0) (Q := X) 96 fun i _ hi => ((I.1 i).resolve_left hi).1
  have := I.2.2.1
  omega
theorem hv_bd1 {X : Nat → Prop} {F0 : Nat → Nat → Int32} {h next scan g a : Nat} {m : Nat → Int32} {F : Nat → Nat → Int32} (I : hv_I X F0 h next scan g m F) (ha : X a) (h9 : a < 96) (hm : m a = 0) : next < h + ct_c X 96 := by
  have := ct_lt (P := fun a => m a ≠ 0) (Q := X) 96 (fun i _ hi => ((I.1 i).resolve_left hi).1) h9 ha (fun z => z hm)
  have := I.2.2.1
  omega
section C1
variable {zhf zhn zcn zyn zsc zph zsa zgc zsd zs2 : Int32} {zrg zfl ztk zco znx zff zfc zmv zrm zrf zsu zss zgs zfa zst zt2 zse zpa zba : Nat → Int32}
theorem xh_moved {post : Int32 → SX → Prop} {X : Nat → Prop} {F0 : Nat → Nat → Int32} {h next scan g : Nat} {x : Int32} (hx : gr_wf X x) (h9 : ∀ a, X a → a < 96) (I : hv_I X F0 h next scan g (vw_s zmv) (vw_f zfl 1))
    (hh : h = 1 ∨ h = 48) (hd : ∀ b, X b → ¬ (h ≤ b ∧ b < h + 47)) (hX : ct_c X 96 ≤ 46) (hs : scan < next ∨ (scan = next ∧ g = 0))
    (K : ∀ x' next' zmv' zfl', hv_I X F0 h next' scan g (vw_s zmv') (vw_f zfl' 1) → (next ≤ next' ∧ (scan < next' ∨ (scan = next' ∧ g = 0))) → hv_m (vw_s zmv') x x' → (∀ y y', hv_m (vw_s zmv) y y' → hv_m (vw_s zmv') y y') → (∀ b, vw_s zmv b ≠ 0 → vw_s zmv' b = vw_s zmv b) →
      (∀ e', e' ≠ 1 → vw_f zfl' e' = vw_f zfl e') → post x' (zhf, nI next', zcn, zyn, zsc, zph, zsa, zgc, zsd, zs2, zrg, zfl', ztk, zco, znx, zff, zfc, zmv', zrm, zrf, zsu, zss, zgs, zfa, zst, zt2, zse, zpa, zba)) :
    wpX_moved post (zhf, nI next, zcn, zyn, zsc, zph, zsa, zgc, zsd, zs2, zrg, zfl, ztk, zco, znx, zff, zfc, zmv, zrm, zrf, zsu, zss, zgs, zfa, zst, zt2, zse, zpa, zba) x := by
  unfold wpX_moved
  have hb := hv_bd I
  rcases hx with ho | ⟨a, ha, rfl⟩
  · refine xp_odd ho (br_t rfl ?_)
    exact K x next zmv zfl I ⟨Nat.le_refl _, hs⟩ (Or.inl ⟨ho, rfl⟩) (fun _ _ h => h) (fun _ _ => rfl) (fun _ _ => rfl)
  · have ha9 := h9 a ha
    refine xp_ref (by omega) (br_f na_n10 ?_)
    refine nm_r (gr_sh (by omega)) ⟨vp_in_nI ha9 (by omega), ?_⟩
    rw [nI_clamp (by omega)]
    by_cases hm : zmv a = 0
    · refine br_t hm ⟨vp_in_nI ha9 (by omega), ?_⟩
      have hm' : vw_s zmv a = 0 := by rw [vw_s_at ha9]; exact hm
      have hb1 := hv_bd1 I ha ha9 hm'
      rw [na_b (by omega)]
      refine nm_e ?_
      have hne : a ≠ next := fun e => hd a ha (by have := I.2.2.1; omega)
      refine xp_copy (e := 1) (by omega) ha9 (by omega) hne fun zfl' f1 f2 => ?_
      refine nm_r (nI_1 next) ⟨vp_in_nI ha9 (by omega), ?_⟩
      rw [pk_us, na_d]
      have I' := hv_copy I ha ha9 hm' (by omega) hd (by omega) (by omega) hs
      rw [← f1, ← vw_s_s ha9] at I'
      refine K _ (next + 1) _ zfl' I' (by omega) (Or.inr ⟨a, next, ha9, by omega, by have := I.2.2.1; omega, rfl, ?_, rfl⟩) (fun y y' hy => ?_) (fun b hb => ?_) f2
      · rw [vw_s_s ha9, pk_us]
      · rw [vw_s_s ha9]; exact hv_mono hm' hy
      · have hba : b ≠ a := fun e => hb (e ▸ hm')
        rw [vw_s_s ha9, pk_un hba]
    · refine br_f hm ⟨vp_in_nI ha9 (by omega), ?_⟩
      have hm' : vw_s zmv a = zmv a := vw_s_at ha9
      obtain ⟨_, c, hc, h1, h2⟩ := (I.1 a).resolve_left (by rw [hm']; exact hm)
      have e : 2 * zmv a = nI (2 * c) := by rw [← hm', hc, na_d]
      rw [e]
      exact K _ next zmv zfl I ⟨Nat.le_refl _, hs⟩ (Or.inr ⟨a, c, ha9, by omega, by omega, rfl, hc, rfl⟩) (fun _ _ h => h) (fun _ _ => rfl) (fun _ _ => rfl)
theorem xh_fields {post : Int32 → SX → Prop} {J : TW_11} {X : Nat → Prop} {F0 : Nat → Nat → Int32} {h scan a : Nat} (h9 : ∀ a, X a → a < 96) (hw : ∀ f, f < 3 → gr_wf X (F0 a f))
    (hh : h = 1 ∨ h = 48) (hd : ∀ b, X b → ¬ (h ≤ b ∧ b < h + 47)) (hX : ct_c X 96 ≤ 46) (h1 : h ≤ scan) (R0 : Nat → Int32) (zfli : Nat → Int32)
    (K : ∀ next' zmv' zfl', hv_I X F0 h next' scan 3 (vw_s zmv') (vw_f zfl' 1) → scan < next' → (∀ r, r < 6 → hv_m (vw_s zmv') (R0 r) (vw_r zrg 1 r)) → (∀ e', e' ≠ 1 → vw_f zfl' e' = vw_f zfli e') → J (nI (scan + 1)) zhf (nI next') zcn zyn zsc zph zsa zgc zsd zs2 zrg zfl' ztk zco znx zff zfc zmv' zrm zrf zsu zss zgs zfa zst zt2 zse zpa zba) :
    ∀ (n f next : Nat) (zmv zfl : Nat → Int32), f ≤ 3 → 3 < n + f → hv_I X F0 h next scan f (vw_s zmv) (vw_f zfl 1) → scan < next → vw_s zmv a = nI scan → (∀ r, r < 6 → hv_m (vw_s zmv) (R0 r) (vw_r zrg 1 r)) → (∀ e', e' ≠ 1 → vw_f zfl e' = vw_f zfli e') →
      wX_collectByHalves_97 post J (nI scan) n (nI f) zhf (nI next) zcn zyn zsc zph zsa zgc zsd zs2 zrg zfl ztk zco znx zff zfc zmv zrm zrf zsu zss zgs zfa zst zt2 zse zpa zba := by
  intro n
  induction n with
  | zero => intro f next _ _ h1 h2; omega
  | succ n ih =>
    intro f next zmv zfl h3 h4 I hs ha hr ho
    have hb := hv_bd I
    by_cases hf : f = 3
    · subst hf
      exact br_t (by decide) (nm_r (nI_1 scan) (K next zmv zfl I hs hr ho))
    · refine br_f (nI_ge (b := 3) (by omega) (by omega)) ?_
      refine xp_fieldOf (e := 1) (by omega) (by omega) (by omega) ?_
      have hF : vw_f zfl 1 scan f = F0 a f := (I.2.2.2.2.1 a scan f ha h1 hs (by omega)).2 (by omega)
      rw [hF]
      refine xh_moved (hw f (by omega)) h9 I hh hd hX (Or.inl hs) fun x' next' zmv' zfl' I' hs' hx' hmono hk ho' => ?_
      have hb' := hv_bd I'
      refine xp_store (e := 1) (by omega) (by omega) (by omega) fun zfl2 g1 g2 => ?_
      refine nm_r (nI_1 f) ?_
      have hs2 : scan < next' := by omega
      have ha' : vw_s zmv' a = nI scan := by rw [hk a (by rw [ha]; exact nI_ne0 (by omega) (by omega))]; exact ha
      have I2 := hv_store I' (by omega) hd (by omega) (by omega) h1 hs2 ha' hx'
      rw [← g1] at I2
      exact ih (f + 1) next' zmv' zfl2 (by omega) (by omega) I2 hs2 ha' (fun r h => hmono _ _ (hr r h)) (fun e' n => (g2 e' n).trans ((ho' e' n).trans (ho e' n)))
theorem xh_scan {post : Int32 → SX → Prop} {X : Nat → Prop} {F0 : Nat → Nat → Int32} {h : Nat} (h9 : ∀ a, X a → a < 96) (hw : ∀ a, X a → ∀ f, f < 3 → gr_wf X (F0 a f))
    (hh : h = 1 ∨ h = 48) (hd : ∀ b, X b → ¬ (h ≤ b ∧ b < h + 47)) (hX : ct_c X 96 ≤ 46) (R0 : Nat → Int32) (zfli : Nat → Int32)
    (K : ∀ next' zmv' zfl', hv_I X F0 h next' next' 0 (vw_s zmv') (vw_f zfl' 1) → (∀ r, r < 6 → hv_m (vw_s zmv') (R0 r) (vw_r zrg 1 r)) → (∀ e', e' ≠ 1 → vw_f zfl' e' = vw_f zfli e') → post (nI next' - nI h) (nI h, nI next', zcn, zyn, zsc, zph, zsa, zgc, zsd, zs2, zrg, zfl', ztk, zco, znx, zff, zfc, zmv', zrm, zrf, zsu, zss, zgs, zfa, zst, zt2, zse, zpa, zba)) :
    ∀ (n scan next : Nat) (zmv zfl : Nat → Int32), h ≤ scan → scan ≤ next → h + 48 ≤ n + scan → hv_I X F0 h next scan 0 (vw_s zmv) (vw_f zfl 1) → (∀ r, r < 6 → hv_m (vw_s zmv) (R0 r) (vw_r zrg 1 r)) → (∀ e', e' ≠ 1 → vw_f zfl e' = vw_f zfli e') →
      wX_collectByHalves_87 post n (nI scan) (nI h) (nI next) zcn zyn zsc zph zsa zgc zsd zs2 zrg zfl ztk zco znx zff zfc zmv zrm zrf zsu zss zgs zfa zst zt2 zse zpa zba := by
  intro n
  induction n with
  | zero => intro scan next _ _ h1 h2 h3 I; have := hv_bd I; omega
  | succ n ih =>
    intro scan next zmv zfl h1 h2 h3 I hr ho
    have hb := hv_bd I
    by_cases e : scan = next
    · subst e
      exact br_t (nI_le (by omega) (by omega)) (K scan zmv zfl I hr ho)
    · refine br_f (nI_ge (by omega) (by omega)) ⟨4, ?_⟩
      obtain ⟨a, ha, ham⟩ := I.2.2.2.2.2 scan h1 (by omega)
      refine xh_fields h9 (hw a ha) hh hd hX h1 R0 zfli (fun next' zmv' zfl' I' hs' hr' ho' => ?_) 4 0 next zmv zfl (by omega) (by omega) I (by omega) ham hr ho
      exact ih (scan + 1) next' zmv' zfl' (by omega) (by omega) (by omega) (hv_next I') hr' ho'
theorem xh_regs {post : Int32 → SX → Prop} {X : Nat → Prop} {F0 : Nat → Nat → Int32} {h : Nat} (h9 : ∀ a, X a → a < 96) (hw : ∀ a, X a → ∀ f, f < 3 → gr_wf X (F0 a f)) (R0 : Nat → Int32) (hwr : ∀ r, r < 6 → gr_wf X (R0 r))
    (hh : h = 1 ∨ h = 48) (hd : ∀ b, X b → ¬ (h ≤ b ∧ b < h + 47)) (hX : ct_c X 96 ≤ 46) (zfli zrgi : Nat → Int32)
    (K : ∀ next' zmv' zfl' zrg', hv_I X F0 h next' next' 0 (vw_s zmv') (vw_f zfl' 1) → (∀ r, r < 6 → hv_m (vw_s zmv') (R0 r) (vw_r zrg' 1 r)) → (∀ e', e' ≠ 1 → vw_f zfl' e' = vw_f zfli e') → (∀ e', e' ≠ 1 → vw_r zrg' e' = vw_r zrgi e') → post (nI next' - nI h) (nI h, nI next', zcn, zyn, zsc, zph, zsa, zgc, zsd, zs2, zrg', zfl', ztk, zco, znx, zff, zfc, zmv', zrm, zrf, zsu, zss, zgs, zfa, zst, zt2, zse, zpa, zba)) :
    ∀ (n r next : Nat) (zmv zfl zrg : Nat → Int32), r ≤ 6 → 6 < n + r → h ≤ next → hv_I X F0 h next h 0 (vw_s zmv) (vw_f zfl 1) → (∀ r', r' < r → hv_m (vw_s zmv) (R0 r') (vw_r zrg 1 r')) → (∀ r', r ≤ r' → r' < 6 → vw_r zrg 1 r' = R0 r') → (∀ e', e' ≠ 1 → vw_f zfl e' = vw_f zfli e') → (∀ e', e' ≠ 1 → vw_r zrg e' = vw_r zrgi e') →
      wX_collectByHalves_49 post n (nI r) (nI h) (nI next) zcn zyn zsc zph zsa zgc zsd zs2 zrg zfl ztk zco znx zff zfc zmv zrm zrf zsu zss zgs zfa zst zt2 zse zpa zba := by
  intro n
  induction n with
  | zero => intro r next _ _ _ h1 h2; omega
  | succ n ih =>
    intro r next zmv zfl zrg h1 h2 h3 I hr hr2 ho hor
    have hb := hv_bd I
    by_cases h6 : r = 6
    · subst h6
      refine br_t (by decide) ⟨h + 48, ?_⟩
      exact xh_scan (post := post) h9 hw hh hd hX R0 zfli (fun next' zmv' zfl' I' hr' ho' => K next' zmv' zfl' zrg I' hr' ho' hor) (h + 48) h next zmv zfl (Nat.le_refl h) h3 (by omega) I hr ho
    · refine br_f (nI_ge (b := 6) (by omega) (by omega)) ?_
      refine nm_r (e' := nI (1 * 6 + r)) (nI_add 6 r) ⟨vp_in_nI (by omega) (by omega), ?_⟩
      rw [nI_clamp (by omega)]
      have hR : zrg (1 * 6 + r) = R0 r := by rw [← vw_r_at (g := zrg) (e := 1) (r := r) (by omega)]; exact hr2 r (Nat.le_refl r) (by omega)
      rw [hR]
      refine xh_moved (hwr r (by omega)) h9 I hh hd hX (by omega) fun x' next' zmv' zfl' I' hs' hx' hmono hk ho' => ?_
      refine ⟨vp_in_nI (by omega) (by omega), nm_e (nm_r (nI_1 r) ?_)⟩
      refine ih (r + 1) next' zmv' zfl' _ (by omega) (by omega) (by omega) I' (fun r' hr' => ?_) (fun r' h4 h5 => ?_) (fun e' n => (ho' e' n).trans (ho e' n)) (fun e' n => (vw_r_o (by omega) n).trans (hor e' n))
      · rw [vw_r_s (by omega)]
        by_cases er : r' = r
        · rw [er, pk_us]; exact hx'
        · rw [pk_un er]; exact hmono _ _ (hr r' (by omega))
      · rw [vw_r_s (by omega), pk_un (by omega)]; exact hr2 r' (by omega) h5
theorem hv_end {φ : Nat → Nat} {R0 R : Nat → Int32} {F0 F : Nat → Nat → Int32} {v : SY} {h next : Nat} {m : Nat → Int32} (I0 : is_I φ R0 F0 v) (I : hv_I (gr_X R0 F0) F0 h next next 0 m F) (hr : ∀ r, r < 6 → hv_m m (R0 r) (R r)) (h9 : next < 96) (h1 : 1 ≤ h) :
    ∃ φ', is_I φ' R F v ∧ (∀ a, gr_X R F a → h ≤ a ∧ a < next) ∧ next = h + ct_c (yy_X v) 48 := by
  obtain ⟨i1, i2, i3, i4, i5, i6⟩ := I
  have hX9 : ∀ a, gr_X R0 F0 a → a < 96 := fun a ha => ((is_G I0).2.2 a ha).2
  have hval : ∀ a, m a ≠ 0 → ∃ c, m a = nI c ∧ h ≤ c ∧ c < next ∧ (m a).toNatClampNeg = c := fun a ha => by
    obtain ⟨_, c, hc, h2, h3⟩ := (i1 a).resolve_left ha
    exact ⟨c, hc, h2, h3, by rw [hc, nI_clamp (by omega)]⟩
  have hall : ∀ a, gr_X R0 F0 a → m a ≠ 0 := by
    intro a ha
    refine ha (fun a => m a ≠ 0) ?_ ?_
    · rintro b ⟨hb, r, hr6, e⟩
      rcases hr r hr6 with ⟨ho, _⟩ | ⟨b', c, hb', hc, hc0, e', em, _⟩
      · exact absurd e (gr_odne ho (by omega))
      · rw [na_inj2 hb hb' (e.symm.trans e'), em]; exact nI_ne0 (by omega) (by omega)
    · rintro c b hc ⟨hb, f, hf, e⟩
      obtain ⟨d, hd, h2, h3, _⟩ := hval c hc
      rcases (i5 c d f hd h2 h3 hf).1 (Or.inl h3) with ⟨ho, _⟩ | ⟨b', c', hb', hc', hc0, e', em, _⟩
      · exact absurd e (gr_odne ho (by omega))
      · rw [na_inj2 hb hb' (e.symm.trans e'), em]; exact nI_ne0 (by omega) (by omega)
  have hm : ∀ x x', hv_m m x x' → is_m (fun a => (m a).toNatClampNeg) x x' := by
    intro x x' hx
    rcases hx with z | ⟨b, c, hb, hc, hc0, e, em, ex⟩
    · exact Or.inl z
    · refine Or.inr ⟨b, hb, e, ?_⟩
      show x' = nI (2 * (m b).toNatClampNeg)
      rw [em, nI_clamp (by omega)]; exact ex
  have I' := is_move (μ := fun a => (m a).toNatClampNeg) (R' := R) (F' := F) I0 (fun r hr6 => hm _ _ (hr r hr6)) (fun a ha f hf => by
      obtain ⟨d, hd, h2, h3, e⟩ := hval a (hall a ha)
      show is_m _ (F0 a f) (F (m a).toNatClampNeg f)
      rw [e]
      exact hm _ _ ((i5 a d f hd h2 h3 hf).1 (Or.inl h3))) (fun a b ha hb e => by
      obtain ⟨d, hd, h2, h3, e1⟩ := hval a (hall a ha)
      obtain ⟨d', hd', h2', h3', e1'⟩ := hval b (hall b hb)
      have e : (m a).toNatClampNeg = (m b).toNatClampNeg := e
      exact i2 a b (hall a ha) (by rw [hd, hd', ← e1, e, e1'])) (fun a ha => by
      obtain ⟨d, hd, h2, h3, e1⟩ := hval a (hall a ha)
      show 1 ≤ (m a).toNatClampNeg ∧ (m a).toNatClampNeg < 96
      omega)
  refine ⟨_, I', fun a ha => ?_, ?_⟩
  · obtain ⟨p, hp, e⟩ := (is_X I' a).mp ha
    obtain ⟨d, hd, h2, h3, e1⟩ := hval (φ p) (hall _ ((is_X I0 _).mpr ⟨p, hp, rfl⟩))
    have e : (m (φ p)).toNatClampNeg = a := e
    omega
  · rw [← is_cnt I0, ct_congr (Q := fun a => m a ≠ 0) 96 fun i _ => ⟨hall i, fun z => ((i1 i).resolve_left z).1⟩]
    omega
theorem c1_collect {post : Int32 → SX → Prop} {v : SY} (h : jc_1 (vw_r zrg 1) (vw_f zfl 1) zhf zhn v) (h24 : ct_c (yy_X v) 48 ≤ 24)
    (K : ∀ zmv' zfl' zrg' zhf' zhn', jc_1 (vw_r zrg' 1) (vw_f zfl' 1) zhf' zhn' v → (∃ h, zhf' = nI h ∧ (h = 1 ∨ h = 48) ∧ zhn' = nI (h + ct_c (yy_X v) 48)) → (∀ e', e' ≠ 1 → vw_v e' zrg' zfl' ztk zco znx zff zfc = vw_v e' zrg zfl ztk zco znx zff zfc) →
      post (nI (ct_c (yy_X v) 48)) (zhf', zhn', zcn, zyn, zsc, zph, zsa, zgc, zsd, zs2, zrg', zfl', ztk, zco, znx, zff, zfc, zmv', zrm, zrf, zsu, zss, zgs, zfa, zst, zt2, zse, zpa, zba)) : wpX_collectByHalves post (zhf, zhn, zcn, zyn, zsc, zph, zsa, zgc, zsd, zs2, zrg, zfl, ztk, zco, znx, zff, zfc, zmv, zrm, zrf, zsu, zss, zgs, zfa, zst, zt2, zse, zpa, zba) := by
  obtain ⟨φ, h, n, I, e1, hh, e2, h1, h2, h3⟩ := h
  subst e1; subst e2
  have G := is_G I
  have hX9 : ∀ a, gr_X (vw_r zrg 1) (vw_f zfl 1) a → a < 96 := fun a ha => (G.2.2 a ha).2
  have hct : ct_c (gr_X (vw_r zrg 1) (vw_f zfl 1)) 96 ≤ 46 := by rw [is_cnt I]; omega
  have main : ∀ (h' : Nat) (zmv : Nat → Int32), (h' = 1 ∨ h' = 48) → h' ≠ h → (∀ a, vw_s zmv a = 0) → ∃ n49 : Nat, wX_collectByHalves_49 post n49 0 (nI h') (nI h') zcn zyn zsc zph zsa zgc zsd zs2 zrg zfl ztk zco znx zff zfc zmv zrm zrf zsu zss zgs zfa zst zt2 zse zpa zba := by
    intro h' zmv hh' hne h0
    refine ⟨7, ?_⟩
    refine xh_regs (post := post) (X := gr_X (vw_r zrg 1) (vw_f zfl 1)) (F0 := vw_f zfl 1) hX9 G.2.1 (vw_r zrg 1) G.1 hh' (fun b hb hc => by have := h3 b hb; omega) hct zfl zrg (fun next' zmv' zfl' zrg' I' hr' ho' hor' => ?_) 7 0 h' zmv zfl zrg (by omega) (by omega) (Nat.le_refl _) ?_ (fun r hr => absurd hr (Nat.not_lt_zero r)) (fun _ _ _ => rfl) (fun _ _ => rfl) (fun _ _ => rfl)
    · have hb := hv_bd I'
      obtain ⟨φ', I2, hX2, hn2⟩ := hv_end I I' hr' (by omega) (by omega)
      have e : nI next' - nI h' = nI (ct_c (yy_X v) 48) := by
        rw [hn2, pk_sub (by omega)]; congr 1; omega
      rw [e]
      refine K zmv' zfl' zrg' _ _ ⟨φ', h', next', I2, rfl, hh', rfl, by omega, by omega, hX2⟩ ⟨h', rfl, hh', by rw [hn2]⟩ fun e' n => ?_
      show (vw_r zrg' e', vw_f zfl' e', vw_c ztk e', vw_c zco e', vw_c znx e', zff e', zfc e') = _
      rw [hor' e' n, ho' e' n]; rfl
    · refine ⟨fun a => Or.inl (h0 a), fun a b ha => absurd (h0 a) ha, ?_, fun _ _ _ => rfl, fun a c f ha h4 h5 => by omega, fun c h4 h5 => by omega⟩
      rw [ct_zero 96 fun i _ z => z (h0 i)]; omega
  show ∃ n2 : Nat, wX_collectByHalves_2 post (nI h) (nI n) zcn zyn zsc zph zsa zgc zsd zs2 n2 (nI 0) zrg zfl ztk zco znx zff zfc zmv zrm zrf zsu zss zgs zfa zst zt2 zse zpa zba
  refine ⟨97, ?_⟩
  have key : ∀ (k i : Nat) (zmv : Nat → Int32), i ≤ 96 → 96 < k + i → (∀ a, a < i → zmv a = 0) → wX_collectByHalves_2 post (nI h) (nI n) zcn zyn zsc zph zsa zgc zsd zs2 k (nI i) zrg zfl ztk zco znx zff zfc zmv zrm zrf zsu zss zgs zfa zst zt2 zse zpa zba := by
    intro k
    induction k with
    | zero => intro i _ h4 h5; omega
    | succ k ih =>
      intro i zmv h4 h5 hz
      by_cases hi : i = 96
      · subst hi
        have h0 : ∀ a, vw_s zmv a = 0 := fun a => by
          by_cases ha : a < 96
          · rw [vw_s_at ha]; exact hz a ha
          · exact vw_s_hi (by omega)
        refine br_t (by decide) ?_
        rcases hh with e | e
        · subst e; exact br_t rfl (main 48 zmv (Or.inr rfl) (by omega) h0)
        · subst e; exact br_f (by decide) (main 1 zmv (Or.inl rfl) (by omega) h0)
      · refine br_f (nI_ge (b := 96) (by omega) (by omega)) ⟨vp_in_nI (by omega) (by omega), ?_⟩
        rw [nI_clamp (by omega), na_0]
        refine nm_e (nm_r (nI_1 i) ?_)
        refine ih (i + 1) _ (by omega) (by omega) fun a ha => ?_
        by_cases e : a = i
        · rw [e, pk_us]
        · rw [pk_un e]; exact hz a (by omega)
  exact key 97 0 zmv (by omega) (by omega) (fun a ha => absurd ha (Nat.not_lt_zero a))
end C1
end
section
/-! collector 2: marked cells close up -/
noncomputable def cz_r (X : Nat → Prop) (a : Nat) : Nat := 1 + ct_c X a
theorem ct_mn {P : Nat → Prop} {m : Nat} : ∀ n, m ≤ n → ct_c P m ≤ ct_c P n
  | 0, h => by rw [show m = 0 by omega]; exact Nat.le_refl _
  | n + 1, h => by
    by_cases e : m = n + 1
    · rw [e]; exact Nat.le_refl _
    · have := ct_mn (P := P) (m := m) n (by omega)
      by_cases hp : P n
      · rw [ct_t hp]; omega
      · rw [ct_f hp]; exact this
theorem cz_lt {X : Nat → Prop} {a b : Nat} (hb : X b) (h : b < a) : cz_r X b < cz_r X a := by
  have := ct_mn (P := X) (m := b + 1) a h
  rw [ct_t hb] at this
  unfold cz_r; omega
theorem cz_le {X : Nat → Prop} {a : Nat} (h0 : ¬ X 0) (h : 1 ≤ a) : cz_r X a ≤ a := by
  have h1 : ct_c X a ≤ ct_c (fun i => 1 ≤ i ∧ i < a) a := ct_mono a fun i hi hx => ⟨by
    by_cases e : i = 0
    · exact absurd (e ▸ hx) h0
    · omega, hi⟩
  rw [ct_range h a (Nat.le_refl a)] at h1
  unfold cz_r; omega
theorem cz_inj {X : Nat → Prop} {a b : Nat} (ha : X a) (hb : X b) (e : cz_r X a = cz_r X b) : a = b := by
  rcases Nat.lt_trichotomy a b with h | h | h
  · have := cz_lt ha h; omega
  · exact h
  · have := cz_lt hb h; omega
section C2
variable {zhf zhn zcn zyn zsc zph zsa zgc zsd zs2 : Int32} {zrg zfl ztk zco znx zff zfc zmv zrm zrf zsu zss zgs zfa zst zt2 zse zpa zba : Nat → Int32}
theorem xz_up {post : Int32 → Prop} {X : Nat → Prop} {x : Int32} (hx : gr_wf X x) (h9 : ∀ a, X a → a < 96) (hm : ∀ b, X b → vw_s zmv b = nI (cz_r X b)) (K : ∀ x', is_m (cz_r X) x x' → post x') : wpX_closedUp post (zhf, zhn, zcn, zyn, zsc, zph, zsa, zgc, zsd, zs2, zrg, zfl, ztk, zco, znx, zff, zfc, zmv, zrm, zrf, zsu, zss, zgs, zfa, zst, zt2, zse, zpa, zba) x := by
  unfold wpX_closedUp
  rcases hx with ho | ⟨a, ha, rfl⟩
  · exact xp_odd ho (br_t rfl (K x (Or.inl ⟨ho, rfl⟩)))
  · have ha9 := h9 a ha
    refine xp_ref (by omega) (br_f na_n10 ?_)
    rw [gr_sh (by omega)]
    refine ⟨vp_in_nI ha9 (by omega), ?_⟩
    have e : zmv a = nI (cz_r X a) := by rw [← vw_s_at (g := zmv) ha9]; exact hm a ha
    rw [nI_clamp (by omega), e, na_d]
    exact K _ (Or.inr ⟨a, ha9, rfl, rfl⟩)
theorem na_192 (a : Nat) : 192 + nI a = nI (2 * 96 + a) := nI_add 192 a
theorem xz_cell {post : SX → Prop} {X : Nat → Prop} {a : Nat} (h9 : ∀ a, X a → a < 96) (h0 : ¬ X 0) (hm : ∀ b, X b → vw_s zmv b = nI (cz_r X b)) (ha : X a) (hw : ∀ f, f < 3 → gr_wf X (vw_f zfl 2 a f))
    (K : ∀ zco' zfl', vw_c zco' 2 = upd (vw_c zco 2) a 0 → (∀ f, f < 3 → is_m (cz_r X) (vw_f zfl 2 a f) (vw_f zfl' 2 (cz_r X a) f)) → (∀ c f, c ≠ cz_r X a → vw_f zfl' 2 c f = vw_f zfl 2 c f) → (∀ e', e' ≠ 2 → vw_v e' zrg zfl' ztk zco' znx zff zfc = vw_v e' zrg zfl ztk zco znx zff zfc) → post (zhf, zhn, zcn, zyn, zsc, zph, zsa, zgc, zsd, zs2, zrg, zfl', ztk, zco', znx, zff, zfc, zmv, zrm, zrf, zsu, zss, zgs, zfa, zst, zt2, zse, zpa, zba)) :
    wpX_closeCell post (zhf, zhn, zcn, zyn, zsc, zph, zsa, zgc, zsd, zs2, zrg, zfl, ztk, zco, znx, zff, zfc, zmv, zrm, zrf, zsu, zss, zgs, zfa, zst, zt2, zse, zpa, zba) (nI a) := by
  have ha9 := h9 a ha
  have ha1 : 1 ≤ a := by
    by_cases e : a = 0
    · exact absurd (e ▸ ha) h0
    · omega
  have hle := cz_le h0 ha1
  have e : zmv a = nI (cz_r X a) := by rw [← vw_s_at (g := zmv) ha9]; exact hm a ha
  show vp_in (192 + nI a) 672 ∧ ∀ zco', zco' = upd zco (192 + nI a).toNatClampNeg (vp_nar .byte 0) → ∃ n13 : Nat, wX_closeCell_13 post (nI a) n13 (nI 0) zhf zhn zcn zyn zsc zph zsa zgc zsd zs2 zrg zfl ztk zco' znx zff zfc zmv zrm zrf zsu zss zgs zfa zst zt2 zse zpa zba
  rw [na_192, nI_clamp (by omega), na_0]
  refine ⟨vp_in_nI (by omega) (by omega), nm_e ⟨4, ?_⟩⟩
  have key : ∀ (n f : Nat) (zfl1 : Nat → Int32), f ≤ 3 → 3 < n + f → (∀ g, g < f → is_m (cz_r X) (vw_f zfl 2 a g) (vw_f zfl1 2 (cz_r X a) g)) → (∀ c g, ¬ (c = cz_r X a ∧ g < f) → vw_f zfl1 2 c g = vw_f zfl 2 c g) → (∀ e', e' ≠ 2 → vw_f zfl1 e' = vw_f zfl e') →
      wX_closeCell_13 post (nI a) n (nI f) zhf zhn zcn zyn zsc zph zsa zgc zsd zs2 zrg zfl1 ztk (upd zco (2 * 96 + a) 0) znx zff zfc zmv zrm zrf zsu zss zgs zfa zst zt2 zse zpa zba := by
    intro n
    induction n with
    | zero => intro f _ h1 h2; omega
    | succ n ih =>
      intro f zfl1 h1 h2 i1 i2 ho
      by_cases hf : f = 3
      · subst hf
        refine br_t (by decide) (K _ zfl1 (vw_c_s ha9) i1 (fun c g hc => i2 c g fun z => hc z.1) fun e' n => ?_)
        show (vw_r zrg e', vw_f zfl1 e', vw_c ztk e', vw_c (upd zco (2 * 96 + a) 0) e', vw_c znx e', zff e', zfc e') = _
        rw [ho e' n, vw_c_o ha9 n]; rfl
      · refine br_f (nI_ge (b := 3) (by omega) (by omega)) ?_
        refine xp_fieldOf (e := 2) (by omega) ha9 (by omega) ?_
        rw [i2 a f (by omega)]
        refine xz_up (hw f (by omega)) h9 hm fun x' hx' => ?_
        refine ⟨vp_in_nI ha9 (by omega), ?_⟩
        rw [nI_clamp (by omega), e]
        refine xp_store (e := 2) (by omega) (by omega) (by omega) fun zfl2 g1 g2 => ?_
        refine nm_r (nI_1 f) ?_
        refine ih (f + 1) zfl2 (by omega) (by omega) (fun g hg => ?_) (fun c g hc => ?_) (fun e' n => (g2 e' n).trans (ho e' n))
        · rw [g1]
          by_cases eg : g = f
          · rw [eg, vw_us]; exact hx'
          · rw [vw_un (Or.inr eg)]; exact i1 g (by omega)
        · rw [g1, vw_un (by omega)]; exact i2 c g (by omega)
  exact key 4 0 zfl (by omega) (by omega) (fun g hg => absurd hg (Nat.not_lt_zero g)) (fun _ _ _ => rfl) (fun _ _ => rfl)
def cz_I (X : Nat → Prop) (F0 : Nat → Nat → Int32) (i : Nat) (F : Nat → Nat → Int32) (C : Nat → Int32) : Prop :=
  (∀ b, X b → b < i → ∀ f, f < 3 → is_m (cz_r X) (F0 b f) (F (cz_r X b) f)) ∧ (∀ b, i ≤ b → ∀ f, F b f = F0 b f) ∧ (∀ b, b < i → C b = 0) ∧ (∀ b, i ≤ b → (X b → C b = 2) ∧ (¬ X b → C b = 0))
theorem xz_close {post : Int32 → SX → Prop} {X : Nat → Prop} {F0 : Nat → Nat → Int32} {m : Nat} (h9 : ∀ a, X a → a < 96) (h0 : ¬ X 0) (hm : ∀ b, X b → vw_s zmv b = nI (cz_r X b)) (hw : ∀ a, X a → ∀ f, f < 3 → gr_wf X (F0 a f)) (hm9 : m ≤ 49) {x1 : Int32}
    (V : Nat → (Nat → Int32) × (Nat → Nat → Int32) × (Nat → Int32) × (Nat → Int32) × (Nat → Int32) × Int32 × Int32)
    (K : ∀ zco' zfl', cz_I X F0 m (vw_f zfl' 2) (vw_c zco' 2) → (∀ e', e' ≠ 2 → vw_v e' zrg zfl' ztk zco' znx zff zfc = V e') → post (x1 - 1) (zhf, zhn, x1, zyn, zsc, zph, zsa, zgc, zsd, zs2, zrg, zfl', ztk, zco', znx, zff, zfc, zmv, zrm, zrf, zsu, zss, zgs, zfa, zst, zt2, zse, zpa, zba)) :
    ∀ (n i : Nat) (zco zfl : Nat → Int32), i ≤ m → m < n + i → 1 ≤ i → cz_I X F0 i (vw_f zfl 2) (vw_c zco 2) → (∀ e', e' ≠ 2 → vw_v e' zrg zfl ztk zco znx zff zfc = V e') →
      wX_collectByClosing_85 post x1 n (nI i) zhf zhn (nI m) zyn zsc zph zsa zgc zsd zs2 zrg zfl ztk zco znx zff zfc zmv zrm zrf zsu zss zgs zfa zst zt2 zse zpa zba := by
  intro n
  induction n with
  | zero => intro i _ _ h1 h2; omega
  | succ n ih =>
    intro i zco zfl h1 h2 hi1 I hV
    by_cases hi : i = m
    · subst hi
      exact br_t (nI_le (Nat.le_refl _) (by omega)) (K zco zfl I hV)
    · have hi9 : i < 96 := by omega
      refine br_f (nI_ge (by omega) (by omega)) ?_
      rw [na_192, nI_clamp (by omega)]
      refine ⟨vp_in_nI (by omega) (by omega), ?_⟩
      have hC : vw_c zco 2 i = zco (2 * 96 + i) := vw_c_at hi9
      by_cases hx : X i
      · refine br_t (by rw [← hC]; exact (I.2.2.2 i (Nat.le_refl i)).1 hx) ?_
        have hle := cz_le h0 hi1
        refine xz_cell h9 h0 hm hx (fun f hf => by rw [I.2.1 i (Nat.le_refl i) f]; exact hw i hx f hf) fun zco' zfl' j1 j2 j3 j4 => ?_
        refine nm_r (nI_1 i) ?_
        refine ih (i + 1) zco' zfl' (by omega) (by omega) (by omega) ⟨fun b hb hbi f hf => ?_, fun b hb f => ?_, fun b hb => ?_, fun b hb => ?_⟩ (fun e' n => (j4 e' n).trans (hV e' n))
        · by_cases e : b = i
          · rw [e, ← I.2.1 i (Nat.le_refl i) f]; exact j2 f hf
          · rw [j3 _ f (by have := cz_lt hb (show b < i by omega); omega)]
            exact I.1 b hb (by omega) f hf
        · rw [j3 b f (by omega)]; exact I.2.1 b (by omega) f
        · rw [j1]
          by_cases e : b = i
          · rw [e, pk_us]
          · rw [pk_un e]; exact I.2.2.1 b (by omega)
        · rw [j1, pk_un (by omega)]; exact I.2.2.2 b (by omega)
      · have hc0 := (I.2.2.2 i (Nat.le_refl i)).2 hx
        refine br_f (by rw [← hC, hc0]; decide) ?_
        refine nm_r (nI_1 i) ?_
        refine ih (i + 1) zco zfl (by omega) (by omega) (by omega) ⟨fun b hb hbi f hf => ?_, fun b hb f => I.2.1 b (by omega) f, fun b hb => ?_, fun b hb => I.2.2.2 b (by omega)⟩ hV
        · by_cases e : b = i
          · exact absurd (e ▸ hb) hx
          · exact I.1 b hb (by omega) f hf
        · by_cases e : b = i
          · rw [e]; exact hc0
          · exact I.2.2.1 b (by omega)
theorem xz_regs {post : Int32 → SX → Prop} {X : Nat → Prop} {m : Nat} (h9 : ∀ a, X a → a < 96) (hm : ∀ b, X b → vw_s zmv b = nI (cz_r X b)) {R0 : Nat → Int32} (hwr : ∀ r, r < 6 → gr_wf X (R0 r)) {x1 : Int32} (zrgi : Nat → Int32)
    (K : ∀ zrg', (∀ r, r < 6 → is_m (cz_r X) (R0 r) (vw_r zrg' 2 r)) → (∀ e', e' ≠ 2 → vw_r zrg' e' = vw_r zrgi e') → ∃ n85 : Nat, wX_collectByClosing_85 post x1 n85 1 zhf zhn (nI m) zyn zsc zph zsa zgc zsd zs2 zrg' zfl ztk zco znx zff zfc zmv zrm zrf zsu zss zgs zfa zst zt2 zse zpa zba) :
    ∀ (n r : Nat) (zrg : Nat → Int32), r ≤ 6 → 6 < n + r → (∀ r', r' < r → is_m (cz_r X) (R0 r') (vw_r zrg 2 r')) → (∀ r', r ≤ r' → r' < 6 → vw_r zrg 2 r' = R0 r') → (∀ e', e' ≠ 2 → vw_r zrg e' = vw_r zrgi e') →
      wX_collectByClosing_50 post x1 zhf zhn (nI m) zyn zsc zph zsa zgc zsd zs2 n (nI r) zrg zfl ztk zco znx zff zfc zmv zrm zrf zsu zss zgs zfa zst zt2 zse zpa zba := by
  intro n
  induction n with
  | zero => intro r _ h1 h2; omega
  | succ n ih =>
    intro r zrg h1 h2 hr hr2 ho
    by_cases h6 : r = 6
    · subst h6
      exact br_t (by decide) (K zrg hr ho)
    · refine br_f (nI_ge (b := 6) (by omega) (by omega)) ?_
      refine nm_r (e' := nI (2 * 6 + r)) (nI_add 12 r) ⟨vp_in_nI (by omega) (by omega), ?_⟩
      rw [nI_clamp (by omega)]
      have hR : zrg (2 * 6 + r) = R0 r := by rw [← vw_r_at (g := zrg) (e := 2) (r := r) (by omega)]; exact hr2 r (Nat.le_refl r) (by omega)
      rw [hR]
      refine xz_up (hwr r (by omega)) h9 hm fun x' hx' => ?_
      refine ⟨vp_in_nI (by omega) (by omega), nm_e (nm_r (nI_1 r) ?_)⟩
      refine ih (r + 1) _ (by omega) (by omega) (fun r' hr' => ?_) (fun r' h4 h5 => ?_) (fun e' n => (vw_r_o (by omega) n).trans (ho e' n))
      · rw [vw_r_s (by omega)]
        by_cases er : r' = r
        · rw [er, pk_us]; exact hx'
        · rw [pk_un er]; exact hr r' (by omega)
      · rw [vw_r_s (by omega), pk_un (by omega)]; exact hr2 r' (by omega) h5
theorem xz_rank {post : Int32 → SX → Prop} {X : Nat → Prop} {m : Nat} (h9 : ∀ a, X a → a < m) (h0 : ¬ X 0) (hm9 : m ≤ 49) (hc1 : ∀ a, X a → vw_c zco 2 a = 2) (hc2 : ∀ a, ¬ X a → vw_c zco 2 a = 0)
    (K : ∀ zmv', (∀ b, X b → vw_s zmv' b = nI (cz_r X b)) → ∃ n50 : Nat, wX_collectByClosing_50 post (nI (cz_r X m)) zhf zhn (nI m) zyn zsc zph zsa zgc zsd zs2 n50 0 zrg zfl ztk zco znx zff zfc zmv' zrm zrf zsu zss zgs zfa zst zt2 zse zpa zba) :
    ∀ (n i : Nat) (zmv : Nat → Int32), i ≤ m → m < n + i → 1 ≤ i → (∀ b, X b → b < i → vw_s zmv b = nI (cz_r X b)) →
      wX_collectByClosing_9 post zhf zhn (nI m) zyn zsc zph zsa zgc zsd zs2 n (nI (cz_r X i)) (nI i) zrg zfl ztk zco znx zff zfc zmv zrm zrf zsu zss zgs zfa zst zt2 zse zpa zba := by
  intro n
  induction n with
  | zero => intro i _ h1 h2; omega
  | succ n ih =>
    intro i zmv h1 h2 hi1 I
    by_cases hi : i = m
    · subst hi
      exact br_t (nI_le (Nat.le_refl _) (by omega)) (K zmv fun b hb => I b hb (h9 b hb))
    · have hi9 : i < 96 := by omega
      have hle := cz_le h0 hi1
      refine br_f (nI_ge (by omega) (by omega)) ?_
      rw [na_192, nI_clamp (by omega)]
      refine ⟨vp_in_nI (by omega) (by omega), ?_⟩
      have hC : vw_c zco 2 i = zco (2 * 96 + i) := vw_c_at hi9
      by_cases hx : X i
      · refine br_t (by rw [← hC]; exact hc1 i hx) ⟨vp_in_nI hi9 (by omega), ?_⟩
        rw [nI_clamp (by omega), na_b (by omega)]
        refine nm_e (nm_r (e' := nI (cz_r X (i + 1))) ?_ (nm_r (nI_1 i) ?_))
        · rw [nI_1, cz_r, cz_r, ct_t hx]; rfl
        · refine ih (i + 1) _ (by omega) (by omega) (by omega) fun b hb hbi => ?_
          rw [vw_s_s hi9]
          by_cases e : b = i
          · rw [e, pk_us]
          · rw [pk_un e]; exact I b hb (by omega)
      · refine br_f (by rw [← hC, hc2 i hx]; decide) ?_
        refine nm_r (nI_1 i) ?_
        have := ih (i + 1) zmv (by omega) (by omega) (by omega) fun b hb hbi => by
          by_cases e : b = i
          · exact absurd (e ▸ hb) hx
          · exact I b hb (by omega)
        have e : cz_r X (i + 1) = cz_r X i := by rw [cz_r, cz_r, ct_f hx]
        rw [e] at this
        exact this
theorem c2_collect {post : Int32 → SX → Prop} {v : SY} (h : jc_2 (vw_r zrg 2) (vw_f zfl 2) (vw_c zco 2) zcn v)
    (K : ∀ zst' zmv' zrg' zco' zfl', jc_2 (vw_r zrg' 2) (vw_f zfl' 2) (vw_c zco' 2) (nI (1 + ct_c (yy_X v) 48)) v → (∀ e', e' ≠ 2 → vw_v e' zrg' zfl' ztk zco' znx zff zfc = vw_v e' zrg zfl ztk zco znx zff zfc) →
      post (nI (ct_c (yy_X v) 48)) (zhf, zhn, nI (1 + ct_c (yy_X v) 48), zyn, zsc, zph, zsa, zgc, 0, zs2, zrg', zfl', ztk, zco', znx, zff, zfc, zmv', zrm, zrf, zsu, zss, zgs, zfa, zst', zt2, zse, zpa, zba)) : wpX_collectByClosing post (zhf, zhn, zcn, zyn, zsc, zph, zsa, zgc, zsd, zs2, zrg, zfl, ztk, zco, znx, zff, zfc, zmv, zrm, zrf, zsu, zss, zgs, zfa, zst, zt2, zse, zpa, zba) := by
  obtain ⟨φ, m, I, e1, h1, h2, h3, h4⟩ := h
  subst e1
  have G := is_G I
  have h9 : ∀ a, gr_X (vw_r zrg 2) (vw_f zfl 2) a → a < 96 := fun a ha => (G.2.2 a ha).2
  have h0 : ¬ gr_X (vw_r zrg 2) (vw_f zfl 2) 0 := fun z => by have := G.2.2 0 z; omega
  have hcm : cz_r (gr_X (vw_r zrg 2) (vw_f zfl 2)) m = 1 + ct_c (yy_X v) 48 := by
    rw [cz_r, ← is_cnt I, ct_ext (n := m) (fun i hi z => by have := h4 i z; omega) 96 (by omega)]
  have ecz1 : cz_r (gr_X (vw_r zrg 2) (vw_f zfl 2)) 1 = 1 := by rw [cz_r, ct_f h0]; rfl
  have hct : ct_c (yy_X v) 48 ≤ 48 := ct_le 48
  unfold wpX_collectByClosing
  refine xm_all (e := 2) (by omega) G h3 fun zst' zco1 m1 m2 o1 => ?_
  refine ⟨m, ?_⟩
  have hk : wX_collectByClosing_9 post zhf zhn (nI m) zyn zsc zph zsa zgc 0 zs2 m (nI (cz_r (gr_X (vw_r zrg 2) (vw_f zfl 2)) 1)) (nI 1) zrg zfl ztk zco1 znx zff zfc zmv zrm zrf zsu zss zgs zfa zst' zt2 zse zpa zba := by
    refine xz_rank (post := post) (X := gr_X (vw_r zrg 2) (vw_f zfl 2)) h4 h0 h2 m1 m2 (fun zmv' hmv => ?_) m 1 zmv h1 (by omega) (by omega) (fun b hb hb1 => absurd hb (by rw [show b = 0 by omega]; exact h0))
    refine ⟨7, xz_regs (post := post) (X := gr_X (vw_r zrg 2) (vw_f zfl 2)) (R0 := vw_r zrg 2) h9 hmv G.1 zrg (fun zrg' hr ho => ?_) 7 0 zrg (by omega) (by omega) (fun r hr => absurd hr (Nat.not_lt_zero r)) (fun _ _ _ => rfl) (fun _ _ => rfl)⟩
    refine ⟨m, xz_close (post := post) (X := gr_X (vw_r zrg 2) (vw_f zfl 2)) (F0 := vw_f zfl 2) h9 h0 hmv G.2.1 h2 (fun e' => vw_v e' zrg' zfl ztk zco1 znx zff zfc) (fun zco' zfl' J hV => ?_) m 1 zco1 zfl h1 (by omega) (by omega)
      ⟨fun b hb hb1 => absurd hb (by rw [show b = 0 by omega]; exact h0), fun _ _ _ => rfl, fun b hb => m2 b (by rw [show b = 0 by omega]; exact h0), fun b _ => ⟨m1 b, m2 b⟩⟩ (fun _ _ => rfl)⟩
    have e : nI (1 + ct_c (yy_X v) 48) - 1 = nI (ct_c (yy_X v) 48) := by rw [na_s1 (by omega)]; congr 1; omega
    rw [hcm, e]
    have I' := is_move (μ := cz_r (gr_X (vw_r zrg 2) (vw_f zfl 2))) (R' := vw_r zrg' 2) (F' := vw_f zfl' 2) I hr (fun a ha f hf => J.1 a ha (h4 a ha) f hf) (fun a b ha hb e => cz_inj ha hb e) (fun a ha => by
      have := cz_le h0 (G.2.2 a ha).1
      have := h9 a ha
      have : 1 ≤ cz_r (gr_X (vw_r zrg 2) (vw_f zfl 2)) a := by unfold cz_r; omega
      omega)
    refine K zst' zmv' zrg' zco' zfl' ⟨_, _, I', rfl, by omega, by omega, fun a => ?_, fun a ha => ?_⟩ fun e' n => ?_
    · by_cases ha : a < m
      · exact J.2.2.1 a ha
      · exact (J.2.2.2 a (by omega)).2 fun z => ha (h4 a z)
    · obtain ⟨p, hp, e⟩ := (is_X I' a).mp ha
      have hx := (is_X I (φ p)).mpr ⟨p, hp, rfl⟩
      have := cz_lt hx (h4 _ hx)
      have e : cz_r (gr_X (vw_r zrg 2) (vw_f zfl 2)) (φ p) = a := e
      omega
    · refine (hV e' n).trans ?_
      show (vw_r zrg' e', vw_f zfl e', vw_c ztk e', vw_c zco1 e', vw_c znx e', zff e', zfc e') = _
      rw [ho e' n, o1 e' n]; rfl
  rw [ecz1] at hk
  exact hk
end C2
end
section
/-! collector 6: references on the way are turned around -/
def tu_h : List Nat → Nat
  | [] => 0
  | p :: _ => p
def tu_p (F0 F : Nat → Nat → Int32) (A : Nat → Int32) : Nat → List Nat → Prop
  | _, [] => True
  | a, p :: L => (∃ g, g < 3 ∧ A p = nI g ∧ F0 p g = nI (2 * a) ∧ F p g = nI (2 * tu_h L)) ∧ tu_p F0 F A p L
def tu_s (A : Nat → Int32) : List Nat → Nat
  | [] => 0
  | p :: L => (3 - (A p).toNatClampNeg) + tu_s A L
def tu_I (X : Nat → Prop) (F0 F : Nat → Nat → Int32) (A C : Nat → Int32) (a : Nat) (L : List Nat) : Prop :=
  tu_p F0 F A a L ∧ (a :: L).Nodup ∧ (∀ c, c ∈ a :: L → X c ∧ C c ≠ 0) ∧ (∀ c f, f < 3 → ¬ (c ∈ L ∧ A c = nI f) → F c f = F0 c f) ∧ (∀ c, C c = 0 ∨ (C c = 2 ∧ X c)) ∧
  (∀ c f b, C c ≠ 0 → f < 3 → F0 c f = nI (2 * b) → b < 96 → C b ≠ 0 ∨ (c ∈ a :: L ∧ ∃ g, A c = nI g ∧ g ≤ f)) ∧ (∃ g, g ≤ 3 ∧ A a = nI g)
theorem tu_pc {F0 F F' : Nat → Nat → Int32} {A A' : Nat → Int32} : ∀ (L : List Nat) (a : Nat), (∀ p, p ∈ L → A' p = A p ∧ ∀ f, F' p f = F p f) → tu_p F0 F A a L → tu_p F0 F' A' a L
  | [], _, _, _ => trivial
  | p :: L, a, h, hp => by
    obtain ⟨⟨g, h1, h2, h3, h4⟩, h5⟩ := hp
    have := h p List.mem_cons_self
    exact ⟨⟨g, h1, this.1.trans h2, h3, (this.2 g).trans h4⟩, tu_pc L p (fun q hq => h q (List.mem_cons_of_mem _ hq)) h5⟩
theorem tu_sc {A A' : Nat → Int32} : ∀ (L : List Nat), (∀ p, p ∈ L → A' p = A p) → tu_s A' L = tu_s A L
  | [], _ => rfl
  | p :: L, h => by
    show (3 - (A' p).toNatClampNeg) + tu_s A' L = (3 - (A p).toNatClampNeg) + tu_s A L
    rw [h p List.mem_cons_self, tu_sc L fun q hq => h q (List.mem_cons_of_mem _ hq)]
theorem tu_adv {X : Nat → Prop} {F0 F : Nat → Nat → Int32} {A C : Nat → Int32} {a b g : Nat} {L : List Nat} (I : tu_I X F0 F A C a L) (hg : g < 3) (hA : A a = nI g) (e : F0 a g = nI (2 * b)) (hb : C b = 0) (hX : X b) :
    tu_I X F0 (vw_u F a g (nI (2 * tu_h L))) (upd A b 0) (upd C b 2) b (a :: L) := by
  obtain ⟨i1, i2, i3, i4, i5, i6, i7⟩ := I
  have h20 : ¬ (2 : Int32) = 0 := by decide
  have hbn : b ∉ a :: L := fun z => (i3 b z).2 hb
  have hab : a ≠ b := fun z => hbn (z ▸ List.mem_cons_self)
  have hd := List.nodup_cons.mp i2
  have hLb : ∀ p, p ∈ a :: L → p ≠ b := fun p hp z => hbn (z ▸ hp)
  have hLa : ∀ p, p ∈ L → p ≠ a := fun p hp z => hd.1 (z ▸ hp)
  refine ⟨⟨⟨g, hg, by rw [pk_un hab]; exact hA, e, vw_us⟩, tu_pc L a (fun p hp => ⟨pk_un (hLb p (List.mem_cons_of_mem _ hp)), fun f => vw_un (Or.inl (hLa p hp))⟩) i1⟩, List.nodup_cons.mpr ⟨hbn, i2⟩, fun c hc => ?_, fun c f hf hc => ?_, fun c => ?_, fun c f d hc hf hd' h9 => ?_, 0, by omega, pk_us⟩
  · rcases List.mem_cons.mp hc with z | z
    · rw [z, pk_us]; exact ⟨hX, h20⟩
    · rw [pk_un (hLb c z)]; exact i3 c z
  · by_cases ec : c = a
    · subst ec
      have hfg : f ≠ g := fun z => hc ⟨List.mem_cons_self, by rw [pk_un hab, z]; exact hA⟩
      rw [vw_un (Or.inr hfg)]
      exact i4 c f hf fun z => hd.1 z.1
    · rw [vw_un (Or.inl ec)]
      refine i4 c f hf fun z => hc ⟨List.mem_cons_of_mem _ z.1, ?_⟩
      rw [pk_un (hLb c (List.mem_cons_of_mem _ z.1))]; exact z.2
  · by_cases ec : c = b
    · rw [ec, pk_us]; exact Or.inr ⟨rfl, hX⟩
    · rw [pk_un ec]; exact i5 c
  · by_cases ec : c = b
    · exact Or.inr ⟨ec ▸ List.mem_cons_self, 0, by rw [ec, pk_us]; rfl, by omega⟩
    · rw [pk_un ec] at hc
      rcases i6 c f d hc hf hd' h9 with z | ⟨z, g', h1, h2⟩
      · left
        by_cases ed : d = b
        · rw [ed, pk_us]; exact h20
        · rw [pk_un ed]; exact z
      · exact Or.inr ⟨List.mem_cons_of_mem _ z, g', by rw [pk_un ec]; exact h1, h2⟩
theorem tu_skip {X : Nat → Prop} {F0 F : Nat → Nat → Int32} {A C : Nat → Int32} {a g : Nat} {L : List Nat} (I : tu_I X F0 F A C a L) (hg : g < 3) (hA : A a = nI g) (e : ∀ b, b < 96 → F0 a g = nI (2 * b) → C b ≠ 0) :
    tu_I X F0 F (upd A a (nI (g + 1))) C a L := by
  obtain ⟨i1, i2, i3, i4, i5, i6, i7⟩ := I
  have hd := List.nodup_cons.mp i2
  have hLa : ∀ p, p ∈ L → p ≠ a := fun p hp z => hd.1 (z ▸ hp)
  refine ⟨tu_pc L a (fun p hp => ⟨pk_un (hLa p hp), fun _ => rfl⟩) i1, i2, i3, fun c f hf hc => ?_, i5, fun c f d hc hf hd' h9 => ?_, g + 1, by omega, pk_us⟩
  · refine i4 c f hf fun z => hc ⟨z.1, ?_⟩
    rw [pk_un (hLa c z.1)]; exact z.2
  · rcases i6 c f d hc hf hd' h9 with z | ⟨z, g', h1, h2⟩
    · exact Or.inl z
    · by_cases ec : c = a
      · subst ec
        have hgg : g' = g := by
          by_cases e' : g' < 3
          · exact na_inj (by omega) (by omega) (h1.symm.trans hA)
          · omega
        by_cases ef : f = g
        · subst ef; exact Or.inl (e d h9 hd')
        · exact Or.inr ⟨z, g + 1, pk_us, by omega⟩
      · exact Or.inr ⟨z, g', by rw [pk_un ec]; exact h1, h2⟩
theorem tu_ret {X : Nat → Prop} {F0 F : Nat → Nat → Int32} {A C : Nat → Int32} {a p g : Nat} {L : List Nat} (I : tu_I X F0 F A C a (p :: L)) (hA : A a = nI 3) (h9 : ∀ c, X c → c < 96) (hg : A p = nI g) (hg3 : g < 3) :
    tu_I X F0 (vw_u F p g (nI (2 * a))) (upd A p (nI (g + 1))) C p L := by
  obtain ⟨⟨⟨g', h1, h2, h3, h4⟩, i1⟩, i2, i3, i4, i5, i6, i7⟩ := I
  have eg : g' = g := na_inj (by omega) (by omega) (h2.symm.trans hg)
  subst eg
  have hd := List.nodup_cons.mp i2
  have hd2 := List.nodup_cons.mp hd.2
  have hLp : ∀ q, q ∈ L → q ≠ p := fun q hq z => hd2.1 (z ▸ hq)
  have ha9 : a < 96 := h9 a (i3 a List.mem_cons_self).1
  refine ⟨tu_pc L p (fun q hq => ⟨pk_un (hLp q hq), fun f => vw_un (Or.inl (hLp q hq))⟩) i1, hd.2, fun c hc => i3 c (List.mem_cons_of_mem _ hc), fun c f hf hc => ?_, i5, fun c f d hc hf hd' hd9 => ?_, g' + 1, by omega, pk_us⟩
  · by_cases ec : c = p
    · subst ec
      by_cases ef : f = g'
      · rw [ef, vw_us]; exact h3.symm
      · rw [vw_un (Or.inr ef)]
        refine i4 c f hf fun z => ef (na_inj (by omega) (by omega) (z.2.symm.trans hg))
    · rw [vw_un (Or.inl ec)]
      refine i4 c f hf fun z => hc ⟨(List.mem_cons.mp z.1).resolve_left ec, ?_⟩
      rw [pk_un ec]; exact z.2
  · rcases i6 c f d hc hf hd' hd9 with z | ⟨z, k, k1, k2⟩
    · exact Or.inl z
    · rcases List.mem_cons.mp z with z | z
      · subst z
        have : k = 3 := by
          by_cases e' : k < 3
          · have := na_inj (by omega) (by omega) (k1.symm.trans hA); omega
          · omega
        omega
      · by_cases ec : c = p
        · subst ec
          have : k = g' := by
            by_cases e' : k < 3
            · exact na_inj (by omega) (by omega) (k1.symm.trans hg)
            · omega
          by_cases ef : f = g'
          · subst ef
            left
            rw [na_inj2 hd9 ha9 (hd'.symm.trans h3)]
            exact (i3 a List.mem_cons_self).2
          · exact Or.inr ⟨List.mem_cons_self, g' + 1, pk_us, by omega⟩
        · exact Or.inr ⟨z, k, by rw [pk_un ec]; exact k1, k2⟩
end
section
theorem na_576 (a : Nat) : 576 + nI a = nI (6 * 96 + a) := nI_add 576 a
section C6
variable {zhf zhn zcn zyn zsc zph zsa zgc zsd zs2 : Int32} {zrg zfl ztk zco znx zff zfc zmv zrm zrf zsu zss zgs zfa zst zt2 zse zpa zba : Nat → Int32}
theorem xt_enter {post : SX → Prop} {b : Nat} (hb : b < 96) (k : post (zhf, zhn, zcn, zyn, zsc, zph, zsa, zgc, zsd, zs2, zrg, zfl, ztk, upd zco (6 * 96 + b) 2, znx, zff, zfc, zmv, zrm, zrf, zsu, zss, zgs, upd zfa b 0, zst, zt2, zse, zpa, zba)) : wpX_enterCell post (zhf, zhn, zcn, zyn, zsc, zph, zsa, zgc, zsd, zs2, zrg, zfl, ztk, zco, znx, zff, zfc, zmv, zrm, zrf, zsu, zss, zgs, zfa, zst, zt2, zse, zpa, zba) (nI b) := by
  show vp_in (576 + nI b) 672 ∧ ∀ zco', zco' = upd zco (576 + nI b).toNatClampNeg (vp_nar .byte 2) → vp_in (nI b) 96 ∧ ∀ zfa', zfa' = upd zfa (nI b).toNatClampNeg (vp_nar .byte 0) → post (zhf, zhn, zcn, zyn, zsc, zph, zsa, zgc, zsd, zs2, zrg, zfl, ztk, zco', znx, zff, zfc, zmv, zrm, zrf, zsu, zss, zgs, zfa', zst, zt2, zse, zpa, zba)
  rw [na_576, nI_clamp (n := 6 * 96 + b) (by omega), nI_clamp (n := b) (by omega), na_2, na_0]
  exact ⟨vp_in_nI (by omega) (by omega), nm_e ⟨vp_in_nI hb (by omega), nm_e k⟩⟩
theorem tu_ct {C : Nat → Int32} {b : Nat} (hb : C b = 0) (h9 : b < 96) : ct_c (fun c => C c = 0) 96 = ct_c (fun c => upd C b 2 c = 0) 96 + 1 := by
  refine ct_add (a := b) 96 h9 (by show ¬ upd C b 2 b = 0; rw [pk_us]; decide) fun i _ => ?_
  show C i = 0 ↔ upd C b 2 i = 0 ∨ i = b
  by_cases e : i = b
  · subst e; exact ⟨fun _ => Or.inr rfl, fun _ => hb⟩
  · rw [pk_un e]; exact ⟨Or.inl, fun z => z.resolve_right e⟩
theorem xt_loop {post : SX → Prop} {X : Nat → Prop} {F0 : Nat → Nat → Int32} (h9 : ∀ c, X c → 1 ≤ c ∧ c < 96) (hw : ∀ c, X c → ∀ f, f < 3 → gr_wf X (F0 c f)) (Ci : Nat → Int32)
    (V : Nat → (Nat → Int32) × (Nat → Nat → Int32) × (Nat → Int32) × (Nat → Int32) × (Nat → Int32) × Int32 × Int32)
    (K : ∀ zfl' zfa' zco' a, (∀ c f, f < 3 → vw_f zfl' 6 c f = F0 c f) → tu_I X F0 (vw_f zfl' 6) (vw_s zfa') (vw_c zco' 6) a [] → vw_s zfa' a = nI 3 → (∀ c, Ci c ≠ 0 → vw_c zco' 6 c ≠ 0) → (∀ e', e' ≠ 6 → vw_v e' zrg zfl' ztk zco' znx zff zfc = V e') → post (zhf, zhn, zcn, zyn, zsc, zph, zsa, zgc, zsd, zs2, zrg, zfl', ztk, zco', znx, zff, zfc, zmv, zrm, zrf, zsu, zss, zgs, zfa', zst, zt2, zse, zpa, zba)) :
    ∀ (n a : Nat) (L : List Nat) (zfl zfa zco : Nat → Int32), tu_I X F0 (vw_f zfl 6) (vw_s zfa) (vw_c zco 6) a L → 5 * ct_c (fun c => vw_c zco 6 c = 0) 96 + tu_s (vw_s zfa) (a :: L) + L.length + 1 < n → (∀ c, Ci c ≠ 0 → vw_c zco 6 c ≠ 0) → (∀ e', e' ≠ 6 → vw_v e' zrg zfl ztk zco znx zff zfc = V e') →
      wX_markTurning_37 post n (nI (tu_h L)) (nI a) 1 zhf zhn zcn zyn zsc zph zsa zgc zsd zs2 zrg zfl ztk zco znx zff zfc zmv zrm zrf zsu zss zgs zfa zst zt2 zse zpa zba := by
  intro n
  induction n with
  | zero => intro a L _ _ _ I h; omega
  | succ n ih =>
    intro a L zfl zfa zco I hn hCi hV
    obtain ⟨i1, i2, i3, i4, i5, i6, g, hg3, hA⟩ := I
    have hXa := (i3 a List.mem_cons_self).1
    have ha9 := (h9 a hXa).2
    have hAa : zfa a = nI g := by rw [← vw_s_at (g := zfa) ha9]; exact hA
    have I : tu_I X F0 (vw_f zfl 6) (vw_s zfa) (vw_c zco 6) a L := ⟨i1, i2, i3, i4, i5, i6, g, hg3, hA⟩
    refine br_f na_n10 ⟨vp_in_nI ha9 (by omega), ?_⟩
    rw [nI_clamp (n := a) (by omega), hAa]
    by_cases e3 : g = 3
    · subst e3
      refine br_t (by decide) ?_
      cases L with
      | nil =>
        refine br_t rfl ?_
        obtain ⟨k, rfl⟩ : ∃ k, n = k + 1 := ⟨n - 1, by omega⟩
        refine br_t rfl ?_
        exact K zfl zfa zco a (fun c f hf => i4 c f hf fun z => absurd z.1 List.not_mem_nil) I hA hCi hV
      | cons p L =>
        have hXp := (i3 p (List.mem_cons_of_mem _ List.mem_cons_self)).1
        have hp9 := h9 p hXp
        obtain ⟨⟨gp, k1, k2, k3, k4⟩, k5⟩ := i1
        have hAp : zfa p = nI gp := by rw [← vw_s_at (g := zfa) hp9.2]; exact k2
        rw [show tu_h (p :: L) = p from rfl]
        refine br_f (nI_ne0 (by omega) (by omega)) ⟨vp_in_nI hp9.2 (by omega), ?_⟩
        rw [nI_clamp (n := p) (by omega), hAp]
        refine xp_fieldOf (e := 6) (by omega) hp9.2 k1 ?_
        rw [k4]
        have hh : tu_h L < 96 := by
          cases L with
          | nil => exact (by omega : 0 < 96)
          | cons q L => exact (h9 q (i3 q (List.mem_cons_of_mem _ (List.mem_cons_of_mem _ List.mem_cons_self))).1).2
        refine nm_r (gr_sh (by omega)) ⟨vp_in_nI hp9.2 (by omega), ?_⟩
        rw [na_d]
        refine xp_store (e := 6) (by omega) hp9.2 k1 fun zfl' f1 f2 => ?_
        refine ⟨vp_in_nI hp9.2 (by omega), vp_in_nI hp9.2 (by omega), ?_⟩
        rw [hAp, na_p (by omega)]
        refine nm_e ?_
        have I' := tu_ret I hA (fun c hc => (h9 c hc).2) k2 k1
        rw [← f1, ← vw_s_s hp9.2] at I'
        refine ih p L zfl' _ zco I' ?_ hCi (fun e' n => (vw_v_fl (f2 e' n)).trans (hV e' n))
        have hd2 := List.nodup_cons.mp (List.nodup_cons.mp i2).2
        have e1 : tu_s (upd (vw_s zfa) p (nI (gp + 1))) (p :: L) = (3 - (gp + 1)) + tu_s (vw_s zfa) L := by
          show (3 - (upd (vw_s zfa) p (nI (gp + 1)) p).toNatClampNeg) + tu_s _ L = _
          rw [pk_us, nI_clamp (by omega), tu_sc L (A := vw_s zfa) fun q hq => pk_un (show q ≠ p from fun z => hd2.1 (z ▸ hq))]
        have e2 : tu_s (vw_s zfa) (a :: p :: L) = (3 - 3) + ((3 - gp) + tu_s (vw_s zfa) L) := by
          show (3 - (vw_s zfa a).toNatClampNeg) + ((3 - (vw_s zfa p).toNatClampNeg) + tu_s _ L) = _
          rw [hA, k2, nI_clamp (by omega), nI_clamp (by omega)]
        rw [vw_s_s hp9.2, e1]
        rw [e2, List.length_cons] at hn
        omega
    · refine br_f (nI_ge (b := 3) (by omega) (by omega)) ⟨vp_in_nI ha9 (by omega), ?_⟩
      refine xp_fieldOf (e := 6) (by omega) ha9 (by omega) ?_
      have hd := List.nodup_cons.mp i2
      have hF : vw_f zfl 6 a g = F0 a g := i4 a g (by omega) (fun z => hd.1 z.1)
      have e0 : tu_s (vw_s zfa) (a :: L) = (3 - g) + tu_s (vw_s zfa) L := by
        show (3 - (vw_s zfa a).toNatClampNeg) + tu_s _ L = _
        rw [hA, nI_clamp (by omega)]
      rw [hF]
      have hskip : (∀ b, b < 96 → F0 a g = nI (2 * b) → vw_c zco 6 b ≠ 0) → wX_markTurning_122 post (wX_markTurning_37 post n) (nI (tu_h L)) (nI a) 1 zhf zhn zcn zyn zsc zph zsa zgc zsd zs2 zrg zfl ztk zco znx zff zfc zmv zrm zrf zsu zss zgs zfa zst zt2 zse zpa zba := by
        intro hz
        refine And.intro (vp_in_nI ha9 (by omega)) (And.intro (vp_in_nI ha9 (by omega)) ?_)
        rw [nI_clamp (n := a) (by omega), hAa, na_p (by omega)]
        refine nm_e ?_
        have I' := tu_skip I (by omega) hA hz
        rw [← vw_s_s ha9] at I'
        refine ih a L zfl _ zco I' ?_ hCi hV
        have e1 : tu_s (upd (vw_s zfa) a (nI (g + 1))) (a :: L) = (3 - (g + 1)) + tu_s (vw_s zfa) L := by
          show (3 - (upd (vw_s zfa) a (nI (g + 1)) a).toNatClampNeg) + tu_s _ L = _
          rw [pk_us, nI_clamp (by omega), tu_sc L (A := vw_s zfa) fun q hq => pk_un (show q ≠ a from fun z => hd.1 (z ▸ hq))]
        rw [vw_s_s ha9, e1]
        rw [e0] at hn
        omega
      rcases hw a hXa g (by omega) with ho | ⟨b, hb, e⟩
      · exact xp_odd ho (br_t rfl (hskip fun b hb e => absurd e (gr_odne ho (by omega))))
      · have hb9 := (h9 b hb).2
        rw [e]
        refine xp_ref (by omega) (br_f na_n10 ?_)
        rw [gr_sh (by omega), na_576, nI_clamp (n := 6 * 96 + b) (by omega)]
        refine ⟨vp_in_nI (by omega) (by omega), ?_⟩
        have hC : vw_c zco 6 b = zco (6 * 96 + b) := vw_c_at hb9
        by_cases hc : zco (6 * 96 + b) = 0
        · refine br_t hc ⟨vp_in_nI ha9 (by omega), ?_⟩
          rw [na_d (tu_h L)]
          refine xp_store (e := 6) (by omega) ha9 (by omega) fun zfl' f1 f2 => ?_
          refine nm_e ?_
          refine xt_enter hb9 ?_
          have hbn : b ∉ a :: L := fun z => (i3 b z).2 (hC.trans hc)
          have I' := tu_adv I (by omega) hA e (hC.trans hc) hb
          rw [← f1, ← vw_s_s hb9, ← vw_c_s hb9] at I'
          refine ih b (a :: L) zfl' _ _ I' ?_ (fun c hcc => ?_) (fun e' n => ?_)
          · have e1 : tu_s (upd (vw_s zfa) b 0) (b :: a :: L) = (3 - 0) + tu_s (vw_s zfa) (a :: L) := by
              show (3 - (upd (vw_s zfa) b 0 b).toNatClampNeg) + tu_s _ (a :: L) = _
              rw [pk_us, tu_sc (a :: L) (A := vw_s zfa) fun q hq => pk_un (show q ≠ b from fun z => hbn (z ▸ hq))]; rfl
            have e2 := tu_ct (hC.trans hc) hb9
            rw [vw_s_s hb9, vw_c_s hb9, e1, List.length_cons]
            omega
          · rw [vw_c_s hb9]
            by_cases ec : c = b
            · rw [ec, pk_us]; decide
            · rw [pk_un ec]; exact hCi c hcc
          · refine Eq.trans ?_ (hV e' n)
            show (vw_r zrg e', vw_f zfl' e', vw_c ztk e', vw_c (upd zco (6 * 96 + b) 2) e', vw_c znx e', zff e', zfc e') = _
            rw [f2 e' n, vw_c_o hb9 n]; rfl
        · exact br_f hc (hskip fun d hd9 e' => by rw [na_inj2 hd9 hb9 (e'.symm.trans e), hC]; exact hc)
end C6
end
section
section C6
variable {zhf zhn zcn zyn zsc zph zsa zgc zsd zs2 : Int32} {zrg zfl ztk zco znx zff zfc zmv zrm zrf zsu zss zgs zfa zst zt2 zse zpa zba : Nat → Int32}
/-- closed marks: what is marked can be come to, and its followers are marked -/
def tu_c (X : Nat → Prop) (F0 : Nat → Nat → Int32) (C : Nat → Int32) : Prop :=
  (∀ c, C c = 0 ∨ (C c = 2 ∧ X c)) ∧ (∀ c f b, C c ≠ 0 → f < 3 → F0 c f = nI (2 * b) → b < 96 → C b ≠ 0)
theorem xt_mark {post : SX → Prop} {X : Nat → Prop} {x : Int32} (h9 : ∀ c, X c → 1 ≤ c ∧ c < 96) (hw : ∀ c, X c → ∀ f, f < 3 → gr_wf X (vw_f zfl 6 c f)) (hx : gr_wf X x) (hc : tu_c X (vw_f zfl 6) (vw_c zco 6))
    (K : ∀ zfl' zfa' zco', vw_f zfl' 6 = vw_f zfl 6 → tu_c X (vw_f zfl 6) (vw_c zco' 6) → (∀ c, vw_c zco 6 c ≠ 0 → vw_c zco' 6 c ≠ 0) → (∀ b, b < 96 → x = nI (2 * b) → vw_c zco' 6 b ≠ 0) → (∀ e', e' ≠ 6 → vw_v e' zrg zfl' ztk zco' znx zff zfc = vw_v e' zrg zfl ztk zco znx zff zfc) → post (zhf, zhn, zcn, zyn, zsc, zph, zsa, zgc, zsd, zs2, zrg, zfl', ztk, zco', znx, zff, zfc, zmv, zrm, zrf, zsu, zss, zgs, zfa', zst, zt2, zse, zpa, zba)) :
    wpX_markTurning post (zhf, zhn, zcn, zyn, zsc, zph, zsa, zgc, zsd, zs2, zrg, zfl, ztk, zco, znx, zff, zfc, zmv, zrm, zrf, zsu, zss, zgs, zfa, zst, zt2, zse, zpa, zba) x := by
  unfold wpX_markTurning
  rcases hx with ho | ⟨b, hb, rfl⟩
  · exact xp_odd ho (br_t rfl (K zfl zfa zco rfl hc (fun _ h => h) (fun b hb e => absurd e (gr_odne ho (by omega))) (fun _ _ => rfl)))
  · have hb9 := (h9 b hb).2
    refine xp_ref (by omega) (br_f na_n10 ?_)
    rw [gr_sh (by omega), na_576, nI_clamp (n := 6 * 96 + b) (by omega)]
    refine ⟨vp_in_nI (by omega) (by omega), ?_⟩
    have hC : vw_c zco 6 b = zco (6 * 96 + b) := vw_c_at hb9
    by_cases h0 : zco (6 * 96 + b) = 0
    · refine br_t h0 (nm_e ?_)
      refine xt_enter hb9 ?_
      refine ⟨500, ?_⟩
      refine xt_loop (post := post) (X := X) (F0 := vw_f zfl 6) h9 hw (upd (vw_c zco 6) b 2) (fun e' => vw_v e' zrg zfl ztk zco znx zff zfc) (fun zfl' zfa' zco' a k1 k2 k3 k4 k5 => ?_) 500 b [] zfl _ _ ⟨trivial, List.nodup_cons.mpr ⟨List.not_mem_nil, List.nodup_nil⟩, fun c hcc => ?_, fun _ _ _ _ => rfl, fun c => ?_, fun c f d hcc hf e hd9 => ?_, 0, by omega, ?_⟩ ?_ (fun c hcc => by rw [vw_c_s hb9]; exact hcc) (fun e' n => ?_)
      · have ef : vw_f zfl' 6 = vw_f zfl 6 := by
          funext c f
          by_cases hf : f < 3
          · exact k1 c f hf
          · rw [vw_f_hi (by omega), vw_f_hi (by omega)]
        refine K zfl' zfa' zco' ef ⟨k2.2.2.2.2.1, fun c f d hcc hf e hd9 => ?_⟩ (fun c hcc => k4 c ?_) (fun d hd9 e => k4 d ?_) k5
        · rcases k2.2.2.2.2.2.1 c f d hcc hf e hd9 with z | ⟨z, g, g1, g2⟩
          · exact z
          · have ec : c = a := (List.mem_cons.mp z).resolve_right List.not_mem_nil
            have : g = 3 := by
              by_cases e' : g < 3
              · exact na_inj (by omega) (by omega) (g1.symm.trans (ec ▸ k3))
              · omega
            omega
        · by_cases ec : c = b
          · rw [ec, pk_us]; decide
          · rw [pk_un ec]; exact hcc
        · rw [← na_inj2 hb9 hd9 e, pk_us]; decide
      · rw [(List.mem_cons.mp hcc).resolve_right List.not_mem_nil, vw_c_s hb9, pk_us]
        exact ⟨hb, by decide⟩
      · rw [vw_c_s hb9]
        by_cases ec : c = b
        · rw [ec, pk_us]; exact Or.inr ⟨rfl, hb⟩
        · rw [pk_un ec]; exact hc.1 c
      · rw [vw_c_s hb9] at hcc ⊢
        by_cases ec : c = b
        · exact Or.inr ⟨ec ▸ List.mem_cons_self, 0, by rw [ec, vw_s_s hb9, pk_us]; rfl, by omega⟩
        · rw [pk_un ec] at hcc
          left
          by_cases ed : d = b
          · rw [ed, pk_us]; decide
          · rw [pk_un ed]; exact hc.2 c f d hcc hf e hd9
      · rw [vw_s_s hb9, pk_us]; rfl
      · have h1 := ct_le (P := fun c => vw_c (upd zco (6 * 96 + b) 2) 6 c = 0) 96
        have h2 : tu_s (vw_s (upd zfa b 0)) [b] ≤ 3 := by
          show (3 - (vw_s (upd zfa b 0) b).toNatClampNeg) + 0 ≤ 3
          omega
        have h3 : ([] : List Nat).length = 0 := rfl
        omega
      · exact vw_v_co (vw_c_o hb9 n)
    · refine br_f h0 (K zfl zfa zco rfl hc (fun _ h => h) (fun d hd9 e => ?_) (fun _ _ => rfl))
      rw [← na_inj2 hb9 hd9 e, hC]; exact h0
end C6
end
section
section C6
variable {zhf zhn zcn zyn zsc zph zsa zgc zsd zs2 : Int32} {zrg zfl ztk zco znx zff zfc zmv zrm zrf zsu zss zgs zfa zst zt2 zse zpa zba : Nat → Int32}
theorem c6_collect {post : Int32 → SX → Prop} {v : SY} (h : jc_0 48 (vw_r zrg 6) (vw_f zfl 6) (vw_c ztk 6) (vw_c zco 6) (vw_c znx 6) (zff 6) (zfc 6) v)
    (K : ∀ zfl' zfa' ztk' zco' znx' zff' zfc', vw_f zfl' 6 = vw_f zfl 6 → jc_0 48 (vw_r zrg 6) (vw_f zfl' 6) (vw_c ztk' 6) (vw_c zco' 6) (vw_c znx' 6) (zff' 6) (zfc' 6) v → (∀ a, 1 ≤ a → a ≤ 48 → vw_c ztk' 6 a ≠ 0 → gr_X (vw_r zrg 6) (vw_f zfl' 6) a) →
      (∀ e', e' ≠ 6 → vw_v e' zrg zfl' ztk' zco' znx' zff' zfc' = vw_v e' zrg zfl ztk zco znx zff zfc) → post (nI (ct_c (yy_X v) 48)) (zhf, zhn, zcn, zyn, zsc, zph, zsa, zgc, zsd, zs2, zrg, zfl', ztk', zco', znx', zff', zfc', zmv, zrm, zrf, zsu, zss, zgs, zfa', zst, zt2, zse, zpa, zba)) : wpX_collectByTurning post (zhf, zhn, zcn, zyn, zsc, zph, zsa, zgc, zsd, zs2, zrg, zfl, ztk, zco, znx, zff, zfc, zmv, zrm, zrf, zsu, zss, zgs, zfa, zst, zt2, zse, zpa, zba) := by
  obtain ⟨φ, I, h1, h2, h3⟩ := h
  have G := is_G I
  show ∃ n2 : Nat, wX_collectByTurning_2 post n2 (nI 0) zhf zhn zcn zyn zsc zph zsa zgc zsd zs2 zrg zfl ztk zco znx zff zfc zmv zrm zrf zsu zss zgs zfa zst zt2 zse zpa zba
  refine ⟨7, ?_⟩
  have key : ∀ (n r : Nat) (zfl1 zfa zco1 : Nat → Int32), r ≤ 6 → 6 < n + r → vw_f zfl1 6 = vw_f zfl 6 → tu_c (gr_X (vw_r zrg 6) (vw_f zfl 6)) (vw_f zfl 6) (vw_c zco1 6) → (∀ r', r' < r → ∀ b, b < 96 → vw_r zrg 6 r' = nI (2 * b) → vw_c zco1 6 b ≠ 0) → (∀ e', e' ≠ 6 → vw_v e' zrg zfl1 ztk zco1 znx zff zfc = vw_v e' zrg zfl ztk zco znx zff zfc) →
      wX_collectByTurning_2 post n (nI r) zhf zhn zcn zyn zsc zph zsa zgc zsd zs2 zrg zfl1 ztk zco1 znx zff zfc zmv zrm zrf zsu zss zgs zfa zst zt2 zse zpa zba := by
    intro n
    induction n with
    | zero => intro r _ _ _ h4 h5; omega
    | succ n ih =>
      intro r zfl1 zfa zco1 h4 h5 hfl hc hr hV
      by_cases h6 : r = 6
      · subst h6
        refine br_t (by decide) ?_
        have m1 : ∀ a, gr_X (vw_r zrg 6) (vw_f zfl 6) a → vw_c zco1 6 a ≠ 0 := fun a ha => ha (fun a => vw_c zco1 6 a ≠ 0) (fun b hb => hb.2.elim fun r hr6 => hr r hr6.1 b hb.1 hr6.2) (fun c b hcc he => he.2.elim fun f hf => hc.2 c f b hcc hf.1 hf.2 he.1)
        refine xv_swept (e := 6) (last := 48) (v := v) (φ := φ) (by omega) (by omega) (by rw [hfl]; exact I) h1 (by rw [hfl]; exact h3) (by rw [hfl]; exact fun a ha => ((hc.1 a).resolve_left (m1 a ha)).1) (by rw [hfl]; exact fun a ha => (hc.1 a).resolve_right fun z => ha z.2) fun ztk' zco' znx' zff' zfc' hj hT hV' => ?_
        exact K zfl1 zfa ztk' zco' znx' zff' zfc' hfl hj hT fun e' n => (hV' e' n).trans (hV e' n)
      · refine br_f (nI_ge (b := 6) (by omega) (by omega)) ?_
        rw [show (36 : Int32) + nI r = nI (6 * 6 + r) from nI_add 36 r, nI_clamp (by omega)]
        refine ⟨vp_in_nI (by omega) (by omega), ?_⟩
        have hR : vw_r zrg 6 r = zrg (6 * 6 + r) := vw_r_at (by omega)
        refine xt_mark (X := gr_X (vw_r zrg 6) (vw_f zfl 6)) G.2.2 (by rw [hfl]; exact G.2.1) (by rw [← hR]; exact G.1 r (by omega)) (by rw [hfl]; exact hc) fun zfl' zfa' zco' k1 k2 k3 k4 k5 => ?_
        refine nm_r (nI_1 r) ?_
        rw [hfl] at k1 k2
        refine ih (r + 1) zfl' zfa' zco' (by omega) (by omega) k1 k2 (fun r' hr' b hb e => ?_) (fun e' n => (k5 e' n).trans (hV e' n))
        by_cases er : r' = r
        · subst er; exact k4 b hb (hR.symm.trans e)
        · exact k3 b (hr r' (by omega) b hb e)
  exact key 7 0 zfl zfa zco (by omega) (by omega) rfl ⟨fun c => Or.inl (h2 c), fun c _ _ hcc => absurd (h2 c) hcc⟩ (fun r hr => absurd hr (Nat.not_lt_zero r)) (fun _ _ => rfl)
end C6
end
section
/-! collector 3: a nursery; first what moves -/
def nu_m (m : Nat → Int32) (x x' : Int32) : Prop := ((gr_od x ∨ ∃ b, b < 65 ∧ x = nI (2 * b)) ∧ x' = x) ∨ ∃ b c, 65 ≤ b ∧ b < 81 ∧ 1 ≤ c ∧ c ≤ 64 ∧ x = nI (2 * b) ∧ m b = nI c ∧ x' = nI (2 * c)
def nu_y (m : Nat → Int32) (a : Nat) : Prop := 65 ≤ a ∧ a < 81 ∧ m a ≠ 0
def nu_I (P : Nat → Prop) (F0 : Nat → Nat → Int32) (T0 : Nat → Int32) (k0 : Nat) (m T N : Nat → Int32) (f c : Int32) (F G : Nat → Nat → Int32) (pe : Nat → Nat → Prop) : Prop :=
  (∀ a, 65 ≤ a → a < 81 → m a = 0 ∨ (P a ∧ ∃ d, m a = nI d ∧ 1 ≤ d ∧ d ≤ 64 ∧ T0 d = 0 ∧ T d ≠ 0 ∧ ∀ g, G d g = F0 a g)) ∧
  (∀ a b, 65 ≤ a → a < 81 → 65 ≤ b → b < 81 → m a ≠ 0 → m a = m b → a = b) ∧
  (∀ d, 1 ≤ d → d ≤ 64 → T0 d ≠ 0 → T d ≠ 0 ∧ ∀ g, G d g = F0 d g) ∧
  (∀ d, 1 ≤ d → d ≤ 64 → T d ≠ 0 → T0 d ≠ 0 ∨ ∃ a, 65 ≤ a ∧ a < 81 ∧ m a = nI d) ∧
  fr_ok 64 T N f c ∧ (∃ k, k < 100 ∧ c = nI k ∧ k + ct_c (nu_y m) 96 = k0) ∧
  (∀ a, 65 ≤ a → ∀ g, F a g = F0 a g) ∧
  (∀ d g, 1 ≤ d → d ≤ 64 → T d ≠ 0 → g < 3 → gr_wf P (G d g) ∧ (nu_m m (G d g) (F d g) ∨ (F d g = G d g ∧ pe d g)))
theorem nu_mono {m : Nat → Int32} {a : Nat} {y x x' : Int32} (h : m a = 0) (hm : nu_m m x x') : nu_m (upd m a y) x x' := by
  rcases hm with z | ⟨b, c, hb, hb8, hc, h0, e, em, ex⟩
  · exact Or.inl z
  · refine Or.inr ⟨b, c, hb, hb8, hc, h0, e, ?_, ex⟩
    have : b ≠ a := fun z => nI_ne0 (n := c) (by omega) (by omega) (em.symm.trans (z ▸ h))
    rw [pk_un this]; exact em
theorem nu_grow {P : Nat → Prop} {F0 : Nat → Nat → Int32} {T0 : Nat → Int32} {k0 : Nat} {m T N : Nat → Int32} {f c : Int32} {F G : Nat → Nat → Int32} {pe pe' : Nat → Nat → Prop} {a b : Nat} {f' : Int32}
    (I : nu_I P F0 T0 k0 m T N f c F G pe) (ha : P a) (h1 : 65 ≤ a) (h2 : a < 81) (hm : m a = 0) (hb1 : 1 ≤ b) (hb2 : b ≤ 64) (hb : T b = 0) (hok : fr_ok 64 (upd T b 1) N f' (c - 1)) (hc0 : c ≠ 0) (hw : ∀ g, g < 3 → gr_wf P (F0 a g))
    (hpe : ∀ d g, pe d g → pe' d g) (hpb : ∀ g, pe' b g) : nu_I P F0 T0 k0 (upd m a (nI b)) (upd T b 1) N f' (c - 1) (vw_w F b (F0 a)) (vw_w G b (F0 a)) pe' := by
  obtain ⟨i1, i2, i3, i4, i5, ⟨k, hk, i6, i6'⟩, i7, i8⟩ := I
  have hT0 : T0 b = 0 := Classical.byContradiction fun z => (i3 b hb1 hb2 z).1 hb
  have hmb : ∀ d, 65 ≤ d → d < 81 → m d ≠ nI b := fun d h3 h4 e => by
    rcases i1 d h3 h4 with z | ⟨_, q, z, q1, q2, _, q3, _⟩
    · exact nI_ne0 (n := b) (by omega) (by omega) (e.symm.trans z)
    · exact q3 (by rw [na_inj (by omega) (by omega) (z.symm.trans e)]; exact hb)
  refine ⟨fun d h3 h4 => ?_, fun d e h3 h4 h5 h6 => ?_, fun d h3 h4 h5 => ?_, fun d h3 h4 h5 => ?_, hok, ?_, fun d h3 g => ?_, fun d g h3 h4 h5 h6 => ?_⟩
  · by_cases e : d = a
    · subst e
      exact Or.inr ⟨ha, b, pk_us, hb1, hb2, hT0, by rw [pk_us]; exact na_n10, fun g => vw_ws⟩
    · rw [pk_un e]
      refine (i1 d h3 h4).imp id fun ⟨z1, q, z2, q1, q2, q3, q4, q5⟩ => ⟨z1, q, z2, q1, q2, q3, ?_, fun g => ?_⟩
      · rw [pk_un (show q ≠ b from fun z => q4 (z ▸ hb))]; exact q4
      · rw [vw_wn (show q ≠ b from fun z => q4 (z ▸ hb))]; exact q5 g
  · by_cases e1 : d = a
    · by_cases e2 : e = a
      · exact fun _ _ => e1.trans e2.symm
      · rw [e1, pk_us, pk_un e2]; exact fun _ z => absurd z.symm (hmb e h5 h6)
    · by_cases e2 : e = a
      · rw [e2, pk_us, pk_un e1]; exact fun _ z => absurd z (hmb d h3 h4)
      · rw [pk_un e1, pk_un e2]; exact i2 d e h3 h4 h5 h6
  · have := i3 d h3 h4 h5
    have hd : d ≠ b := fun z => this.1 (z ▸ hb)
    exact ⟨by rw [pk_un hd]; exact this.1, fun g => by rw [vw_wn hd]; exact this.2 g⟩
  · by_cases e : d = b
    · exact Or.inr ⟨a, h1, h2, by rw [pk_us, e]⟩
    · rw [pk_un e] at h5
      refine (i4 d h3 h4 h5).imp id fun ⟨q, q1, q2, q3⟩ => ⟨q, q1, q2, ?_⟩
      have : q ≠ a := fun z => nI_ne0 (n := d) (by omega) (by omega) (q3.symm.trans (z ▸ hm))
      rw [pk_un this]; exact q3
  · have hk0 : 0 < k := by
      by_cases z : k = 0
      · exact absurd (by rw [i6, z]; rfl) hc0
      · omega
    refine ⟨k - 1, by omega, by rw [i6, na_s1 hk0], ?_⟩
    rw [ct_add (P := nu_y m) (a := a) 96 (by omega) (fun z => z.2.2 hm) (fun i _ => ?_)]
    · omega
    · show (65 ≤ i ∧ i < 81 ∧ upd m a (nI b) i ≠ 0) ↔ (65 ≤ i ∧ i < 81 ∧ m i ≠ 0) ∨ i = a
      by_cases e : i = a
      · subst e; rw [pk_us]; exact ⟨fun _ => Or.inr rfl, fun _ => ⟨h1, h2, nI_ne0 (by omega) (by omega)⟩⟩
      · rw [pk_un e]; exact ⟨Or.inl, fun z => z.resolve_right e⟩
  · rw [vw_wn (by omega)]; exact i7 d h3 g
  · by_cases e : d = b
    · subst e; rw [vw_ws, vw_ws]; exact ⟨hw g h6, Or.inr ⟨rfl, hpb g⟩⟩
    · rw [pk_un e] at h5
      rw [vw_wn e, vw_wn e]
      have := i8 d g h3 h4 h5 h6
      exact ⟨this.1, this.2.imp (nu_mono hm) fun z => ⟨z.1, hpe d g z.2⟩⟩
theorem nu_store {P : Nat → Prop} {F0 : Nat → Nat → Int32} {T0 : Nat → Int32} {k0 : Nat} {m T N : Nat → Int32} {f c : Int32} {F G : Nat → Nat → Int32} {pe pe' : Nat → Nat → Prop} {d g : Nat} {y : Int32}
    (I : nu_I P F0 T0 k0 m T N f c F G pe) (h1 : d ≤ 64) (hy : nu_m m (G d g) y) (hpe : ∀ c h, h < 3 → pe c h → ¬ (c = d ∧ h = g) → pe' c h) : nu_I P F0 T0 k0 m T N f c (vw_u F d g y) G pe' := by
  obtain ⟨i1, i2, i3, i4, i5, i6, i7, i8⟩ := I
  refine ⟨i1, i2, i3, i4, i5, i6, fun a h2 h => by rw [vw_un (by omega)]; exact i7 a h2 h, fun c h h2 h3 h4 h5 => ?_⟩
  have := i8 c h h2 h3 h4 h5
  refine ⟨this.1, ?_⟩
  by_cases e : c = d ∧ h = g
  · obtain ⟨rfl, rfl⟩ := e; rw [vw_us]; exact Or.inl hy
  · rw [vw_un (by omega)]
    exact this.2.imp id fun z => ⟨z.1, hpe c h h5 z.2 e⟩
theorem nu_weak {P : Nat → Prop} {F0 : Nat → Nat → Int32} {T0 : Nat → Int32} {k0 : Nat} {m T N : Nat → Int32} {f c : Int32} {F G : Nat → Nat → Int32} {pe pe' : Nat → Nat → Prop}
    (I : nu_I P F0 T0 k0 m T N f c F G pe) (hpe : ∀ d g, d ≤ 64 → g < 3 → pe d g → pe' d g) : nu_I P F0 T0 k0 m T N f c F G pe' := by
  obtain ⟨i1, i2, i3, i4, i5, i6, i7, i8⟩ := I
  exact ⟨i1, i2, i3, i4, i5, i6, i7, fun d g h1 h2 h3 h4 => ⟨(i8 d g h1 h2 h3 h4).1, (i8 d g h1 h2 h3 h4).2.imp id fun z => ⟨z.1, hpe d g h2 h4 z.2⟩⟩⟩
/-- what is still to be done: remembered cells, stacked ones, and the one at hand -/
def nu_pe (rm st : Nat → Int32) (k : Nat) (q : Nat → Nat → Prop) (d g : Nat) : Prop := (d ≤ 64 ∧ rm d ≠ 0) ∨ (∃ i, i < k ∧ st i = nI d) ∨ q d g
def nu_S (T m st : Nat → Int32) (k p : Nat) : Prop := (∀ i, i < k → ∃ d, st i = nI d ∧ 1 ≤ d ∧ d ≤ 64 ∧ T d ≠ 0) ∧ k + p = ct_c (nu_y m) 96
theorem nu_16 {m : Nat → Int32} : ct_c (nu_y m) 96 ≤ 16 := by
  have := ct_mono (P := nu_y m) (Q := fun i => 65 ≤ i ∧ i < 81) 96 fun i _ z => ⟨z.1, z.2.1⟩
  rw [ct_range (by omega) 96 (by omega)] at this
  exact this
theorem nu_15 {m : Nat → Int32} {a : Nat} (h1 : 65 ≤ a) (h2 : a < 81) (h : m a = 0) : ct_c (nu_y m) 96 < 16 := by
  have := ct_lt (P := nu_y m) (Q := fun i => 65 ≤ i ∧ i < 81) (a := a) 96 (fun i _ z => ⟨z.1, z.2.1⟩) (by omega) ⟨h1, h2⟩ (fun z => z.2.2 h)
  rw [ct_range (by omega) 96 (by omega)] at this
  exact this
theorem xn_old {post : Int32 → Prop} {x : Int32} (h : gr_od x ∨ ∃ b, b < 65 ∧ x = nI (2 * b)) (k : post 0) : wpX_isYoung post x := by
  unfold wpX_isYoung
  rcases h with ho | ⟨b, hb, rfl⟩
  · exact xp_odd ho (br_t rfl k)
  · refine xp_ref (by omega) (br_f na_n10 ?_)
    rw [gr_sh (by omega)]
    exact br_t (nI_lt (b := 65) hb (by omega)) k
theorem xn_new {post : Int32 → Prop} {a : Nat} (h1 : 65 ≤ a) (h2 : a < 96) (k : post 1) : wpX_isYoung post (nI (2 * a)) := by
  unfold wpX_isYoung
  refine xp_ref (by omega) (br_f na_n10 ?_)
  rw [gr_sh (by omega)]
  exact br_f (nI_nlt (b := 65) h1 (by omega)) k
section C3
variable {zhf zhn zcn zyn zsc zph zsa zgc zsd zs2 : Int32} {zrg zfl ztk zco znx zff zfc zmv zrm zrf zsu zss zgs zfa zst zt2 zse zpa zba : Nat → Int32}
theorem xn_grown {post : Int32 → SX → Prop} {P : Nat → Prop} {F0 : Nat → Nat → Int32} {T0 : Nat → Int32} {k0 k p : Nat} {G : Nat → Nat → Int32} {q : Nat → Nat → Prop} {x : Int32}
    (hx : (gr_od x ∨ ∃ b, b < 65 ∧ x = nI (2 * b)) ∨ ∃ a, P a ∧ 65 ≤ a ∧ a < 81 ∧ x = nI (2 * a)) (hw : ∀ a, P a → ∀ g, g < 3 → gr_wf P (F0 a g)) (hk0 : 16 ≤ k0)
    (I : nu_I P F0 T0 k0 (vw_s zmv) (vw_c ztk 3) (vw_c znx 3) (zff 3) (zfc 3) (vw_f zfl 3) G (nu_pe (vw_s zrm) zst k q)) (S : nu_S (vw_c ztk 3) (vw_s zmv) zst k p)
    (K : ∀ x' k' G' zmv' ztk' zff' zfc' zfl' zst', nu_I P F0 T0 k0 (vw_s zmv') (vw_c ztk' 3) (vw_c znx 3) (zff' 3) (zfc' 3) (vw_f zfl' 3) G' (nu_pe (vw_s zrm) zst' k' q) → nu_S (vw_c ztk' 3) (vw_s zmv') zst' k' p → nu_m (vw_s zmv') x x' →
      (∀ y y', nu_m (vw_s zmv) y y' → nu_m (vw_s zmv') y y') → (∀ d, 1 ≤ d → d ≤ 64 → vw_c ztk 3 d ≠ 0 → vw_c ztk' 3 d ≠ 0 ∧ ∀ g, G' d g = G d g) → (∀ e', e' ≠ 3 → vw_v e' zrg zfl' ztk' zco znx zff' zfc' = vw_v e' zrg zfl ztk zco znx zff zfc) → post x' (zhf, zhn, zcn, zyn, zsc, zph, zsa, zgc, nI k', zs2, zrg, zfl', ztk', zco, znx, zff', zfc', zmv', zrm, zrf, zsu, zss, zgs, zfa, zst', zt2, zse, zpa, zba)) :
    wpX_grown post (zhf, zhn, zcn, zyn, zsc, zph, zsa, zgc, nI k, zs2, zrg, zfl, ztk, zco, znx, zff, zfc, zmv, zrm, zrf, zsu, zss, zgs, zfa, zst, zt2, zse, zpa, zba) x := by
  unfold wpX_grown
  rcases hx with ho | ⟨a, ha, h1, h2, rfl⟩
  · refine xn_old ho (br_t rfl ?_)
    exact K x k G zmv ztk zff zfc zfl zst I S (Or.inl ⟨ho, rfl⟩) (fun _ _ h => h) (fun d _ _ h => ⟨h, fun _ => rfl⟩) (fun _ _ => rfl)
  · have ha9 : a < 96 := by omega
    refine xn_new h1 ha9 (br_f na_n10 ?_)
    refine nm_r (gr_sh (by omega)) ⟨vp_in_nI ha9 (by omega), ?_⟩
    rw [nI_clamp (by omega)]
    have hk16 := nu_16 (m := vw_s zmv)
    by_cases hm : zmv a = 0
    · refine br_t hm ?_
      have hm' : vw_s zmv a = 0 := by rw [vw_s_at ha9]; exact hm
      obtain ⟨i1, i2, i3, i4, i5, ⟨kc, hkc, i6, i6'⟩, i7, i8⟩ := I
      have h15 := nu_15 h1 h2 hm'
      have hc0 : zfc 3 ≠ 0 := by rw [i6]; exact nI_ne0 (by omega) (by omega)
      refine xf_take (e := 3) (last := 64) (by omega) (by omega) i5 hc0 fun b ztk' zff' zfc' zfl1 b1 b2 b3 b4 b5 b6 b7 b8 => ?_
      refine ⟨vp_in_nI ha9 (by omega), ?_⟩
      rw [na_b (by omega)]
      refine nm_e ?_
      refine xp_copy (e := 3) (by omega) ha9 (by omega) (by omega) fun zfl2 f1 f2 => ?_
      refine xp_push (by have := S.2; omega) (by omega) ?_
      refine ⟨vp_in_nI ha9 (by omega), ?_⟩
      rw [pk_us, na_d]
      have hrow : vw_f zfl2 3 = vw_w (vw_f zfl 3) b (F0 a) := by
        rw [f1, b5]
        funext c g
        by_cases e : c = b
        · subst e; rw [vw_ws, vw_ws, vw_wn (by omega)]; exact i7 a h1 g
        · rw [vw_wn e, vw_wn e, vw_wn e]
      have hTb : vw_c ztk 3 b = 0 := b3
      have I' := nu_grow (pe' := nu_pe (vw_s zrm) (upd zst k (nI b)) (k + 1) q) (f' := zff' 3) ⟨i1, i2, i3, i4, i5, ⟨kc, hkc, i6, i6'⟩, i7, i8⟩ ha h1 h2 hm' b1 b2 hTb (by rw [← b7, ← b4]; exact b6) hc0 (hw a ha) (fun d g z => by
        rcases z with z | ⟨i, hi, z⟩ | z
        · exact Or.inl z
        · exact Or.inr (Or.inl ⟨i, by omega, by rw [pk_un (by omega)]; exact z⟩)
        · exact Or.inr (Or.inr z)) (fun g => Or.inr (Or.inl ⟨k, by omega, pk_us⟩))
      rw [← b7, ← b4, ← hrow, ← vw_s_s ha9] at I'
      refine K _ (k + 1) _ _ ztk' zff' zfc' zfl2 _ I' ⟨fun i hi => ?_, ?_⟩ (Or.inr ⟨a, b, h1, h2, b1, b2, rfl, by rw [vw_s_s ha9, pk_us], rfl⟩) (fun y y' hy => by rw [vw_s_s ha9]; exact nu_mono hm' hy) (fun d h3 h4 h5 => ?_) (fun e' n => ?_)
      · by_cases e : i = k
        · exact ⟨b, by rw [e, pk_us], b1, b2, by rw [b4, pk_us]; exact na_n10⟩
        · obtain ⟨d, d1, d2, d3, d4⟩ := S.1 i (by omega)
          refine ⟨d, by rw [pk_un e]; exact d1, d2, d3, ?_⟩
          rw [b4, pk_un (show d ≠ b from fun z => d4 (z ▸ hTb))]; exact d4
      · rw [vw_s_s ha9, ct_add (P := nu_y (vw_s zmv)) (a := a) 96 ha9 (fun z => z.2.2 hm') (fun i _ => ?_)]
        · have := S.2; omega
        · show (65 ≤ i ∧ i < 81 ∧ upd (vw_s zmv) a (nI b) i ≠ 0) ↔ (65 ≤ i ∧ i < 81 ∧ vw_s zmv i ≠ 0) ∨ i = a
          by_cases e : i = a
          · subst e; rw [pk_us]; exact ⟨fun _ => Or.inr rfl, fun _ => ⟨h1, h2, nI_ne0 (by omega) (by omega)⟩⟩
          · rw [pk_un e]; exact ⟨Or.inl, fun z => z.resolve_right e⟩
      · have : d ≠ b := fun z => h5 (z ▸ hTb)
        exact ⟨by rw [b4, pk_un this]; exact h5, fun g => vw_wn this⟩
      · refine Eq.trans ?_ (b8 e' n)
        show (vw_r zrg e', vw_f zfl2 e', vw_c ztk' e', vw_c zco e', vw_c znx e', zff' e', zfc' e') = (vw_r zrg e', vw_f zfl1 e', vw_c ztk' e', vw_c zco e', vw_c znx e', zff' e', zfc' e')
        rw [f2 e' n]
    · refine br_f hm ⟨vp_in_nI ha9 (by omega), ?_⟩
      have hm' : vw_s zmv a = zmv a := vw_s_at ha9
      obtain ⟨_, d, hd, d1, d2, _⟩ := (I.1 a h1 h2).resolve_left (by rw [hm']; exact hm)
      have e : 2 * zmv a = nI (2 * d) := by rw [← hm', hd, na_d]
      rw [e]
      exact K _ k G zmv ztk zff zfc zfl zst I S (Or.inr ⟨a, d, h1, h2, d1, d2, rfl, hd, rfl⟩) (fun _ _ h => h) (fun d _ _ h => ⟨h, fun _ => rfl⟩) (fun _ _ => rfl)
end C3
end
section
theorem nu_old {m : Nat → Int32} {x x' : Int32} (h : gr_od x ∨ ∃ b, b < 65 ∧ x = nI (2 * b)) (hm : nu_m m x x') : x' = x := by
  rcases hm with z | ⟨b, c, h1, h2, h3, h4, e, _, _⟩
  · exact z.2
  · rcases h with ho | ⟨b', hb', e'⟩
    · exact absurd e (gr_odne ho (by omega))
    · have := na_inj2 (by omega) (by omega) (e'.symm.trans e); omega
theorem nu_res {m : Nat → Int32} {x x' : Int32} (hm : nu_m m x x') : gr_od x' ∨ ∃ b, b < 65 ∧ x' = nI (2 * b) := by
  rcases hm with ⟨z, e⟩ | ⟨b, c, h1, h2, h3, h4, _, _, e⟩
  · rw [e]; exact z
  · exact Or.inr ⟨c, by omega, e⟩
theorem nu_wf {P : Nat → Prop} {x : Int32} (hP : ∀ a, P a → a < 81) (h : gr_wf P x) : (gr_od x ∨ ∃ b, b < 65 ∧ x = nI (2 * b)) ∨ ∃ a, P a ∧ 65 ≤ a ∧ a < 81 ∧ x = nI (2 * a) := by
  rcases h with ho | ⟨a, ha, e⟩
  · exact Or.inl (Or.inl ho)
  · by_cases h6 : a < 65
    · exact Or.inl (Or.inr ⟨a, h6, e⟩)
    · exact Or.inr ⟨a, ha, by omega, hP a ha, e⟩
section C3
variable {zhf zhn zcn zyn zsc zph zsa zgc zsd zs2 : Int32} {zrg zfl ztk zco znx zff zfc zmv zrm zrf zsu zss zgs zfa zst zt2 zse zpa zba : Nat → Int32}
variable {P : Nat → Prop} {F0 : Nat → Nat → Int32} {T0 : Nat → Int32} {k0 : Nat}
theorem xn_fields {post : SX → Prop} {d p : Nat} (hw : ∀ a, P a → ∀ g, g < 3 → gr_wf P (F0 a g)) (hk0 : 16 ≤ k0) (hP : ∀ a, P a → a < 81) (hd1 : 1 ≤ d) (hd2 : d ≤ 64) (Mi : Nat → Int32)
    (V : Nat → (Nat → Int32) × (Nat → Nat → Int32) × (Nat → Int32) × (Nat → Int32) × (Nat → Int32) × Int32 × Int32)
    (K : ∀ k' G' zmv' ztk' zff' zfc' zfl' zst', nu_I P F0 T0 k0 (vw_s zmv') (vw_c ztk' 3) (vw_c znx 3) (zff' 3) (zfc' 3) (vw_f zfl' 3) G' (nu_pe (vw_s zrm) zst' k' (fun _ _ => False)) → nu_S (vw_c ztk' 3) (vw_s zmv') zst' k' p →
      (∀ y y', nu_m Mi y y' → nu_m (vw_s zmv') y y') → (∀ e', e' ≠ 3 → vw_v e' zrg zfl' ztk' zco znx zff' zfc' = V e') → post (zhf, zhn, zcn, zyn, zsc, zph, zsa, zgc, nI k', zs2, zrg, zfl', ztk', zco, znx, zff', zfc', zmv', zrm, zrf, zsu, zss, zgs, zfa, zst', zt2, zse, zpa, zba)) :
    ∀ (n g k : Nat) (G : Nat → Nat → Int32) (zmv ztk zff zfc zfl zst : Nat → Int32), g ≤ 3 → 3 < n + g → nu_I P F0 T0 k0 (vw_s zmv) (vw_c ztk 3) (vw_c znx 3) (zff 3) (zfc 3) (vw_f zfl 3) G (nu_pe (vw_s zrm) zst k (fun c h => c = d ∧ g ≤ h)) → nu_S (vw_c ztk 3) (vw_s zmv) zst k p → vw_c ztk 3 d ≠ 0 →
      (∀ y y', nu_m Mi y y' → nu_m (vw_s zmv) y y') → (∀ e', e' ≠ 3 → vw_v e' zrg zfl ztk zco znx zff zfc = V e') → wX_growFields_2 post (nI d) n (nI g) zhf zhn zcn zyn zsc zph zsa zgc (nI k) zs2 zrg zfl ztk zco znx zff zfc zmv zrm zrf zsu zss zgs zfa zst zt2 zse zpa zba := by
  intro n
  induction n with
  | zero => intro g k _ _ _ _ _ _ _ h1 h2; omega
  | succ n ih =>
    intro g k G zmv ztk zff zfc zfl zst h1 h2 I S hT hM hV
    by_cases hg : g = 3
    · subst hg
      refine br_t (by decide) (K k G zmv ztk zff zfc zfl zst (nu_weak I fun c h _ hh z => ?_) S hM hV)
      rcases z with z | z | z
      · exact Or.inl z
      · exact Or.inr (Or.inl z)
      · omega
    · refine br_f (nI_ge (b := 3) (by omega) (by omega)) ?_
      refine xp_fieldOf (e := 3) (by omega) (by omega) (by omega) ?_
      obtain ⟨hG, hst⟩ := I.2.2.2.2.2.2.2 d g hd1 hd2 hT (by omega)
      have hx : (gr_od (vw_f zfl 3 d g) ∨ ∃ b, b < 65 ∧ vw_f zfl 3 d g = nI (2 * b)) ∨ ∃ a, P a ∧ 65 ≤ a ∧ a < 81 ∧ vw_f zfl 3 d g = nI (2 * a) := by
        rcases hst with z | z
        · exact Or.inl (nu_res z)
        · rw [z.1]; exact nu_wf hP hG
      refine xn_grown hx hw hk0 I S fun x' k' G' zmv' ztk' zff' zfc' zfl' zst' I' S' hm hmono hk ho => ?_
      have hT' := hk d hd1 hd2 hT
      have hy : nu_m (vw_s zmv') (G' d g) x' := by
        rw [hT'.2 g]
        rcases hst with z | z
        · rw [nu_old (nu_res z) hm]; exact hmono _ _ z
        · rw [← z.1]; exact hm
      refine xp_store (e := 3) (by omega) (by omega) (by omega) fun zfl2 g1 g2 => ?_
      refine nm_r (nI_1 g) ?_
      have I2 := nu_store (pe' := nu_pe (vw_s zrm) zst' k' (fun c h => c = d ∧ g + 1 ≤ h)) I' hd2 hy (fun c h hh z hne => by
        rcases z with z | z | z
        · exact Or.inl z
        · exact Or.inr (Or.inl z)
        · exact Or.inr (Or.inr ⟨z.1, by omega⟩))
      rw [← g1] at I2
      exact ih (g + 1) k' G' zmv' ztk' zff' zfc' zfl2 zst' (by omega) (by omega) I2 S' hT'.1 (fun y y' z => hmono _ _ (hM y y' z)) (fun e' n => (vw_v_fl (g2 e' n)).trans ((ho e' n).trans (hV e' n)))
theorem xn_stack {post : SX → Prop} (hw : ∀ a, P a → ∀ g, g < 3 → gr_wf P (F0 a g)) (hk0 : 16 ≤ k0) (hP : ∀ a, P a → a < 81) (Mi : Nat → Int32) (hrm : ∀ c, c ≤ 64 → vw_s zrm c = 0)
    (V : Nat → (Nat → Int32) × (Nat → Nat → Int32) × (Nat → Int32) × (Nat → Int32) × (Nat → Int32) × Int32 × Int32)
    (K : ∀ G' zmv' ztk' zff' zfc' zfl' zst', nu_I P F0 T0 k0 (vw_s zmv') (vw_c ztk' 3) (vw_c znx 3) (zff' 3) (zfc' 3) (vw_f zfl' 3) G' (fun _ _ => False) →
      (∀ y y', nu_m Mi y y' → nu_m (vw_s zmv') y y') → (∀ e', e' ≠ 3 → vw_v e' zrg zfl' ztk' zco znx zff' zfc' = V e') → post (zhf, zhn, zcn, 65, zsc, zph, zsa, zgc, 0, zs2, zrg, zfl', ztk', zco, znx, zff', zfc', zmv', zrm, zrf, zsu, zss, zgs, zfa, zst', zt2, zse, zpa, zba)) :
    ∀ (n k p : Nat) (G : Nat → Nat → Int32) (zmv ztk zff zfc zfl zst : Nat → Int32), 17 ≤ n + p → nu_I P F0 T0 k0 (vw_s zmv) (vw_c ztk 3) (vw_c znx 3) (zff 3) (zfc 3) (vw_f zfl 3) G (nu_pe (vw_s zrm) zst k (fun _ _ => False)) → nu_S (vw_c ztk 3) (vw_s zmv) zst k p →
      (∀ y y', nu_m Mi y y' → nu_m (vw_s zmv) y y') → (∀ e', e' ≠ 3 → vw_v e' zrg zfl ztk zco znx zff zfc = V e') → wX_emptyNursery_113 post n zhf zhn zcn zyn zsc zph zsa zgc (nI k) zs2 zrg zfl ztk zco znx zff zfc zmv zrm zrf zsu zss zgs zfa zst zt2 zse zpa zba := by
  intro n
  induction n with
  | zero => intro k p _ zmv _ _ _ _ _ h1 _ S; have h16 := nu_16 (m := vw_s zmv); have := S.2; omega
  | succ n ih =>
    intro k p G zmv ztk zff zfc zfl zst h1 I S hM hV
    have h16 := nu_16 (m := vw_s zmv)
    have hS := S.2
    cases k with
    | zero =>
      refine br_t (by decide) (K G zmv ztk zff zfc zfl zst (nu_weak I fun c h hc hh z => ?_) hM hV)
      rcases z with z | ⟨i, hi, _⟩ | z
      · exact z.2 (hrm c z.1)
      · omega
      · exact z
    | succ k =>
      refine br_f (nI_nle (by omega) (by omega)) ?_
      refine nm_r (nI_pred k) ⟨vp_in_nI (by omega) (by omega), ?_⟩
      obtain ⟨d, e, hd1, hd2, hT⟩ := S.1 k (by omega)
      rw [nI_clamp (by omega), e]
      show ∃ n2 : Nat, wX_growFields_2 _ (nI d) n2 (nI 0) zhf zhn zcn zyn zsc zph zsa zgc (nI k) zs2 zrg zfl ztk zco znx zff zfc zmv zrm zrf zsu zss zgs zfa zst zt2 zse zpa zba
      refine ⟨4, ?_⟩
      refine xn_fields hw hk0 hP hd1 hd2 Mi V (fun k' G' zmv' ztk' zff' zfc' zfl' zst' I' S' hM' hV' => ?_) 4 0 k G zmv ztk zff zfc zfl zst (by omega) (by omega) (nu_weak I fun c h hc hh z => ?_) (p := p + 1) ⟨fun i hi => S.1 i (by omega), by omega⟩ hT hM hV
      · exact ih k' (p + 1) G' zmv' ztk' zff' zfc' zfl' zst' (by omega) I' S' hM' hV'
      · rcases z with z | ⟨i, hi, z⟩ | z
        · exact Or.inl z
        · by_cases ei : i = k
          · subst ei; exact Or.inr (Or.inr ⟨na_inj (by omega) (by omega) (z.symm.trans e), by omega⟩)
          · exact Or.inr (Or.inl ⟨i, by omega, z⟩)
        · exact z.elim
theorem xn_rem {post : SX → Prop} (hw : ∀ a, P a → ∀ g, g < 3 → gr_wf P (F0 a g)) (hk0 : 16 ≤ k0) (hP : ∀ a, P a → a < 81) (Mi : Nat → Int32)
    (V : Nat → (Nat → Int32) × (Nat → Nat → Int32) × (Nat → Int32) × (Nat → Int32) × (Nat → Int32) × Int32 × Int32)
    (K : ∀ G' zmv' ztk' zff' zfc' zfl' zst' zrm', (∀ c, c ≤ 64 → vw_s zrm' c = 0) → nu_I P F0 T0 k0 (vw_s zmv') (vw_c ztk' 3) (vw_c znx 3) (zff' 3) (zfc' 3) (vw_f zfl' 3) G' (fun _ _ => False) →
      (∀ y y', nu_m Mi y y' → nu_m (vw_s zmv') y y') → (∀ e', e' ≠ 3 → vw_v e' zrg zfl' ztk' zco znx zff' zfc' = V e') → post (zhf, zhn, zcn, 65, zsc, zph, zsa, zgc, 0, zs2, zrg, zfl', ztk', zco, znx, zff', zfc', zmv', zrm', zrf, zsu, zss, zgs, zfa, zst', zt2, zse, zpa, zba)) :
    ∀ (n i k : Nat) (G : Nat → Nat → Int32) (zmv ztk zff zfc zfl zst zrm : Nat → Int32), 1 ≤ i → i ≤ 65 → 65 < n + i → (∀ c, c < i → vw_s zrm c = 0) → (∀ c, c ≤ 64 → vw_s zrm c ≠ 0 → T0 c ≠ 0) →
      nu_I P F0 T0 k0 (vw_s zmv) (vw_c ztk 3) (vw_c znx 3) (zff 3) (zfc 3) (vw_f zfl 3) G (nu_pe (vw_s zrm) zst k (fun _ _ => False)) → nu_S (vw_c ztk 3) (vw_s zmv) zst k 0 →
      (∀ y y', nu_m Mi y y' → nu_m (vw_s zmv) y y') → (∀ e', e' ≠ 3 → vw_v e' zrg zfl ztk zco znx zff zfc = V e') → wX_emptyNursery_80 post n (nI i) zhf zhn zcn zyn zsc zph zsa zgc (nI k) zs2 zrg zfl ztk zco znx zff zfc zmv zrm zrf zsu zss zgs zfa zst zt2 zse zpa zba := by
  intro n
  induction n with
  | zero => intro i k _ _ _ _ _ _ _ _ h1 h2 h3; omega
  | succ n ih =>
    intro i k G zmv ztk zff zfc zfl zst zrm h1 h2 h3 hr hT0 I S hM hV
    by_cases hi : i = 65
    · subst hi
      refine br_t (by decide) ⟨17, ?_⟩
      exact xn_stack (post := post) hw hk0 hP Mi (fun c hc => hr c (by omega)) V (fun G' zmv' ztk' zff' zfc' zfl' zst' I' hM' hV' => K G' zmv' ztk' zff' zfc' zfl' zst' zrm (fun c hc => hr c (by omega)) I' hM' hV') 17 k 0 G zmv ztk zff zfc zfl zst (by omega) I S hM hV
    · have hi9 : i < 96 := by omega
      refine br_f (nI_nlt (a := 64) (by omega) (by omega)) ⟨vp_in_nI hi9 (by omega), ?_⟩
      rw [nI_clamp (by omega)]
      have hri : vw_s zrm i = zrm i := vw_s_at hi9
      by_cases h0 : zrm i = 0
      · refine br_t h0 (nm_r (nI_1 i) ?_)
        refine ih (i + 1) k G zmv ztk zff zfc zfl zst zrm (by omega) (by omega) (by omega) (fun c hc => ?_) hT0 I S hM hV
        by_cases e : c = i
        · rw [e, hri]; exact h0
        · exact hr c (by omega)
      · refine br_f h0 ⟨vp_in_nI hi9 (by omega), ?_⟩
        rw [na_f]
        refine nm_e ?_
        have hT : vw_c ztk 3 i ≠ 0 := (I.2.2.1 i h1 (by omega) (hT0 i (by omega) (by rw [hri]; exact h0))).1
        show ∃ n2 : Nat, wX_growFields_2 _ (nI i) n2 (nI 0) zhf zhn zcn zyn zsc zph zsa zgc (nI k) zs2 zrg zfl ztk zco znx zff zfc zmv (upd zrm i 0) zrf zsu zss zgs zfa zst zt2 zse zpa zba
        refine ⟨4, ?_⟩
        refine xn_fields hw hk0 hP h1 (by omega) Mi V (fun k' G' zmv' ztk' zff' zfc' zfl' zst' I' S' hM' hV' => ?_) 4 0 k G zmv ztk zff zfc zfl zst (by omega) (by omega) (nu_weak I fun c h hc hh z => ?_) S hT hM hV
        · refine nm_r (nI_1 i) ?_
          refine ih (i + 1) k' G' zmv' ztk' zff' zfc' zfl' zst' _ (by omega) (by omega) (by omega) (fun c hc => ?_) (fun c hc hcc => hT0 c hc ?_) I' S' hM' hV'
          · rw [vw_s_s hi9]
            by_cases e : c = i
            · rw [e, pk_us]
            · rw [pk_un e]; exact hr c (by omega)
          · rw [vw_s_s hi9] at hcc
            by_cases e : c = i
            · rw [e, pk_us] at hcc; exact absurd rfl hcc
            · rw [pk_un e] at hcc; exact hcc
        · rw [vw_s_s hi9]
          by_cases e : c = i
          · exact Or.inr (Or.inr ⟨e, by omega⟩)
          · rcases z with z | z | z
            · exact Or.inl ⟨z.1, by rw [pk_un e]; exact z.2⟩
            · exact Or.inr (Or.inl z)
            · exact z.elim
theorem xn_regs {post : SX → Prop} (hw : ∀ a, P a → ∀ g, g < 3 → gr_wf P (F0 a g)) (hk0 : 16 ≤ k0) (hP : ∀ a, P a → a < 81) (R0 : Nat → Int32) (hwr : ∀ r, r < 6 → gr_wf P (R0 r)) (hr0 : vw_s zrm 0 = 0) (hT0 : ∀ c, c ≤ 64 → vw_s zrm c ≠ 0 → T0 c ≠ 0)
    (V : Nat → (Nat → Int32) × (Nat → Nat → Int32) × (Nat → Int32) × (Nat → Int32) × (Nat → Int32) × Int32 × Int32)
    (K : ∀ G' zmv' ztk' zff' zfc' zfl' zst' zrm' zrg', (∀ c, c ≤ 64 → vw_s zrm' c = 0) → nu_I P F0 T0 k0 (vw_s zmv') (vw_c ztk' 3) (vw_c znx 3) (zff' 3) (zfc' 3) (vw_f zfl' 3) G' (fun _ _ => False) →
      (∀ r, r < 6 → nu_m (vw_s zmv') (R0 r) (vw_r zrg' 3 r)) → (∀ e', e' ≠ 3 → vw_v e' zrg' zfl' ztk' zco znx zff' zfc' = V e') → post (zhf, zhn, zcn, 65, zsc, zph, zsa, zgc, 0, zs2, zrg', zfl', ztk', zco, znx, zff', zfc', zmv', zrm', zrf, zsu, zss, zgs, zfa, zst', zt2, zse, zpa, zba)) :
    ∀ (n r k : Nat) (G : Nat → Nat → Int32) (zmv ztk zff zfc zfl zst zrg : Nat → Int32), r ≤ 6 → 6 < n + r → (∀ r', r' < r → nu_m (vw_s zmv) (R0 r') (vw_r zrg 3 r')) → (∀ r', r ≤ r' → r' < 6 → vw_r zrg 3 r' = R0 r') →
      nu_I P F0 T0 k0 (vw_s zmv) (vw_c ztk 3) (vw_c znx 3) (zff 3) (zfc 3) (vw_f zfl 3) G (nu_pe (vw_s zrm) zst k (fun _ _ => False)) → nu_S (vw_c ztk 3) (vw_s zmv) zst k 0 →
      (∀ e', e' ≠ 3 → vw_v e' zrg zfl ztk zco znx zff zfc = V e') → wX_emptyNursery_45 post n (nI r) zhf zhn zcn zyn zsc zph zsa zgc (nI k) zs2 zrg zfl ztk zco znx zff zfc zmv zrm zrf zsu zss zgs zfa zst zt2 zse zpa zba := by
  intro n
  induction n with
  | zero => intro r k _ _ _ _ _ _ _ _ h1 h2; omega
  | succ n ih =>
    intro r k G zmv ztk zff zfc zfl zst zrg h1 h2 hr hr2 I S hV
    by_cases h6 : r = 6
    · subst h6
      refine br_t (by decide) ⟨65, ?_⟩
      exact xn_rem (post := post) hw hk0 hP (vw_s zmv) V (fun G' zmv' ztk' zff' zfc' zfl' zst' zrm' hrm' I' hM' hV' => K G' zmv' ztk' zff' zfc' zfl' zst' zrm' zrg hrm' I' (fun r h => hM' _ _ (hr r h)) hV') 65 1 k G zmv ztk zff zfc zfl zst zrm (by omega) (by omega) (by omega) (fun c hc => by rw [show c = 0 by omega]; exact hr0) hT0 I S (fun _ _ h => h) hV
    · refine br_f (nI_ge (b := 6) (by omega) (by omega)) ?_
      refine nm_r (e' := nI (3 * 6 + r)) (nI_add 18 r) ⟨vp_in_nI (by omega) (by omega), ?_⟩
      rw [nI_clamp (by omega)]
      have hR : zrg (3 * 6 + r) = R0 r := by rw [← vw_r_at (g := zrg) (e := 3) (r := r) (by omega)]; exact hr2 r (Nat.le_refl r) (by omega)
      rw [hR]
      refine xn_grown (nu_wf hP (hwr r (by omega))) hw hk0 I S fun x' k' G' zmv' ztk' zff' zfc' zfl' zst' I' S' hm hmono hk ho => ?_
      refine ⟨vp_in_nI (by omega) (by omega), nm_e (nm_r (nI_1 r) ?_)⟩
      refine ih (r + 1) k' G' zmv' ztk' zff' zfc' zfl' zst' _ (by omega) (by omega) (fun r' hr' => ?_) (fun r' h4 h5 => ?_) I' S' (fun e' n => (vw_v_rg (vw_r_o (by omega) n)).trans ((ho e' n).trans (hV e' n)))
      · rw [vw_r_s (by omega)]
        by_cases er : r' = r
        · rw [er, pk_us]; exact hm
        · rw [pk_un er]; exact hmono _ _ (hr r' (by omega))
      · rw [vw_r_s (by omega), pk_un (by omega)]; exact hr2 r' (by omega) h5
end C3
end
section
def nu_P (T : Nat → Int32) (n a : Nat) : Prop := (1 ≤ a ∧ a ≤ 64 ∧ T a ≠ 0) ∨ (65 ≤ a ∧ a < n)
def jc_3 (R : Nat → Int32) (F : Nat → Nat → Int32) (T C N : Nat → Int32) (f c yn : Int32) (rm : Nat → Int32) (v : SY) : Prop :=
  ∃ φ n, is_I φ R F v ∧ fr_ok 64 T N f c ∧ (∀ a, C a = 0) ∧ yn = nI n ∧ 65 ≤ n ∧ n ≤ 81 ∧ gr_WG R F (nu_P T n) ∧ rm 0 = 0 ∧ (∀ a, a ≤ 64 → rm a ≠ 0 → T a ≠ 0) ∧
    (∀ a g b, 1 ≤ a → a ≤ 64 → T a ≠ 0 → g < 3 → F a g = nI (2 * b) → 65 ≤ b → b < 96 → rm a ≠ 0)
/-- the end of a move out of the nursery -/
theorem nu_end {φ : Nat → Nat} {P : Nat → Prop} {R0 R : Nat → Int32} {F0 F G : Nat → Nat → Int32} {T0 m T N : Nat → Int32} {f c : Int32} {v : SY} {k0 : Nat} (I0 : is_I φ R0 F0 v) (hG : gr_WG R0 F0 P) (hP : ∀ a, P a → a < 81) (hT : ∀ a, 1 ≤ a → a ≤ 64 → (T0 a ≠ 0 ↔ P a))
    (I : nu_I P F0 T0 k0 m T N f c F G (fun _ _ => False)) (hr : ∀ r, r < 6 → nu_m m (R0 r) (R r)) : ∃ φ', is_I φ' R F v ∧ gr_WG R F (nu_P T 65) := by
  obtain ⟨i1, i2, i3, i4, i5, i6, i7, i8⟩ := I
  have hdone : ∀ d g, 1 ≤ d → d ≤ 64 → T d ≠ 0 → g < 3 → gr_wf P (G d g) ∧ nu_m m (G d g) (F d g) := fun d g h1 h2 h3 h4 => ⟨(i8 d g h1 h2 h3 h4).1, (i8 d g h1 h2 h3 h4).2.resolve_right fun z => z.2⟩
  have hXP : ∀ a, gr_X R0 F0 a → P a := fun a ha => gr_WG_X hG ha
  have tgt : ∀ x x' b, nu_m m x x' → x = nI (2 * b) → b < 96 → 65 ≤ b → b < 81 ∧ m b ≠ 0 := by
    intro x x' b hm e hb9 hb6
    rcases hm with ⟨z, _⟩ | ⟨b', c', h1, h2, h3, h4, e', em, _⟩
    · rcases z with ho | ⟨b', hb', e'⟩
      · exact absurd e (gr_odne ho (by omega))
      · have := na_inj2 hb9 (by omega) (e.symm.trans e'); omega
    · rw [na_inj2 hb9 (by omega) (e.symm.trans e'), em]
      exact ⟨h2, nI_ne0 (by omega) (by omega)⟩
  have hval : ∀ a, 65 ≤ a → a < 81 → m a ≠ 0 → ∃ d, m a = nI d ∧ 1 ≤ d ∧ d ≤ 64 ∧ T0 d = 0 ∧ T d ≠ 0 ∧ (∀ g, G d g = F0 a g) ∧ (m a).toNatClampNeg = d := fun a h1 h2 h3 => by
    obtain ⟨_, d, hd, q1, q2, q3, q4, q5⟩ := (i1 a h1 h2).resolve_left h3
    exact ⟨d, hd, q1, q2, q3, q4, q5, by rw [hd, nI_clamp (by omega)]⟩
  have hold : ∀ a, P a → a < 65 → 1 ≤ a ∧ a ≤ 64 ∧ T0 a ≠ 0 ∧ T a ≠ 0 ∧ ∀ g, G a g = F0 a g := fun a ha h6 => by
    have h1 := (hG.2.2 a ha).1
    have ht := (hT a h1 (by omega)).mpr ha
    exact ⟨h1, by omega, ht, i3 a h1 (by omega) ht⟩
  have cov : ∀ a, gr_X R0 F0 a → a < 65 ∨ (65 ≤ a ∧ a < 81 ∧ m a ≠ 0) := by
    intro a ha
    refine gr_ind ha (fun a => a < 65 ∨ (65 ≤ a ∧ a < 81 ∧ m a ≠ 0)) ?_ ?_
    · rintro b ⟨hb, r, hr6, e⟩
      by_cases h6 : b < 65
      · exact Or.inl h6
      · have := tgt _ _ b (hr r hr6) e hb (by omega)
        exact Or.inr ⟨by omega, this⟩
    · rintro c b hcx hc ⟨hb, g, hg, e⟩
      by_cases h6 : b < 65
      · exact Or.inl h6
      · have hPc := hXP c hcx
        rcases hc with hc | ⟨h1, h2, h3⟩
        · obtain ⟨q1, q2, q3, q4, q5⟩ := hold c hPc hc
          have := tgt _ _ b (hdone c g q1 q2 q4 hg).2 (by rw [q5 g]; exact e) hb (by omega)
          exact Or.inr ⟨by omega, this⟩
        · obtain ⟨d, hd, q1, q2, q3, q4, q5, _⟩ := hval c h1 h2 h3
          have := tgt _ _ b (hdone d g q1 q2 q4 hg).2 (by rw [q5 g]; exact e) hb (by omega)
          exact Or.inr ⟨by omega, this⟩
  have hm : ∀ x x', nu_m m x x' → is_m (fun a => if a < 65 then a else (m a).toNatClampNeg) x x' := by
    intro x x' hx
    rcases hx with ⟨z, e⟩ | ⟨b, c', h1, h2, h3, h4, e, em, ex⟩
    · rcases z with ho | ⟨b, hb, e'⟩
      · exact Or.inl ⟨ho, e⟩
      · refine Or.inr ⟨b, by omega, e', ?_⟩
        show x' = nI (2 * (if b < 65 then b else (m b).toNatClampNeg))
        rw [if_pos hb, e]; exact e'
    · refine Or.inr ⟨b, by omega, e, ?_⟩
      show x' = nI (2 * (if b < 65 then b else (m b).toNatClampNeg))
      rw [if_neg (by omega), em, nI_clamp (by omega)]; exact ex
  have I' := is_move (μ := fun a => if a < 65 then a else (m a).toNatClampNeg) (R' := R) (F' := F) I0 (fun r hr6 => hm _ _ (hr r hr6)) (fun a ha g hg => by
      show is_m _ (F0 a g) (F (if a < 65 then a else (m a).toNatClampNeg) g)
      rcases cov a ha with h6 | ⟨h1, h2, h3⟩
      · obtain ⟨q1, q2, q3, q4, q5⟩ := hold a (hXP a ha) h6
        rw [if_pos h6, ← q5 g]
        exact hm _ _ (hdone a g q1 q2 q4 hg).2
      · obtain ⟨d, hd, q1, q2, q3, q4, q5, q6⟩ := hval a h1 h2 h3
        rw [if_neg (by omega), q6, ← q5 g]
        exact hm _ _ (hdone d g q1 q2 q4 hg).2) (fun a b ha hb e => by
      have e : (if a < 65 then a else (m a).toNatClampNeg) = (if b < 65 then b else (m b).toNatClampNeg) := e
      rcases cov a ha with h6 | ⟨h1, h2, h3⟩
      · rcases cov b hb with h6' | ⟨h1', h2', h3'⟩
        · rw [if_pos h6, if_pos h6'] at e; exact e
        · obtain ⟨d, hd, q1, q2, q3, q4, q5, q6⟩ := hval b h1' h2' h3'
          rw [if_pos h6, if_neg (by omega), q6] at e
          exact absurd (e ▸ q3) (hold a (hXP a ha) h6).2.2.1
      · obtain ⟨d, hd, q1, q2, q3, q4, q5, q6⟩ := hval a h1 h2 h3
        rcases cov b hb with h6' | ⟨h1', h2', h3'⟩
        · rw [if_pos h6', if_neg (by omega), q6] at e
          exact absurd (e ▸ q3) (hold b (hXP b hb) h6').2.2.1
        · obtain ⟨d', hd', q1', q2', q3', q4', q5', q6'⟩ := hval b h1' h2' h3'
          rw [if_neg (by omega), if_neg (by omega), q6, q6'] at e
          exact i2 a b h1 h2 h1' h2' h3 (by rw [hd, hd', e])) (fun a ha => by
      show 1 ≤ (if a < 65 then a else (m a).toNatClampNeg) ∧ (if a < 65 then a else (m a).toNatClampNeg) < 96
      rcases cov a ha with h6 | ⟨h1, h2, h3⟩
      · have := hold a (hXP a ha) h6
        rw [if_pos h6]; omega
      · obtain ⟨d, hd, q1, q2, q3, q4, q5, q6⟩ := hval a h1 h2 h3
        rw [if_neg (by omega), q6]; omega)
  have hres : ∀ x x', gr_wf P x → nu_m m x x' → gr_wf (nu_P T 65) x' := by
    intro x x' hx hm'
    rcases hm' with ⟨z, e⟩ | ⟨b, c', h1, h2, h3, h4, e, em, ex⟩
    · rcases z with ho | ⟨b, hb, e'⟩
      · rw [e]; exact Or.inl ho
      · have hb' := gr_tgt hx (fun a ha => by have := hP a ha; omega) (by omega) e'
        obtain ⟨q1, q2, q3, q4, q5⟩ := hold b hb' hb
        rw [e]; exact Or.inr ⟨b, Or.inl ⟨q1, q2, q4⟩, e'⟩
    · obtain ⟨d, hd, q1, q2, q3, q4, q5, q6⟩ := hval b h1 h2 (by rw [em]; exact nI_ne0 (by omega) (by omega))
      have : d = c' := na_inj (by omega) (by omega) (hd.symm.trans em)
      exact Or.inr ⟨c', Or.inl ⟨h3, h4, this ▸ q4⟩, ex⟩
  refine ⟨_, I', fun r hr6 => hres _ _ (hG.1 r hr6) (hr r hr6), fun a ha g hg => ?_, fun a ha => ?_⟩
  · rcases ha with ⟨h1, h2, h3⟩ | h
    · have := hdone a g h1 h2 h3 hg
      exact hres _ _ this.1 this.2
    · omega
  · rcases ha with ⟨h1, h2, h3⟩ | h <;> omega
section C3
variable {zhf zhn zcn zyn zsc zph zsa zgc zsd zs2 : Int32} {zrg zfl ztk zco znx zff zfc zmv zrm zrf zsu zss zgs zfa zst zt2 zse zpa zba : Nat → Int32}
theorem xn_core {post : SX → Prop} {P : Nat → Prop} {φ : Nat → Nat} {v : SY} (I0 : is_I φ (vw_r zrg 3) (vw_f zfl 3) v) (hG : gr_WG (vw_r zrg 3) (vw_f zfl 3) P) (hP : ∀ a, P a → a < 81) (hT : ∀ a, 1 ≤ a → a ≤ 64 → (vw_c ztk 3 a ≠ 0 ↔ P a))
    (hok : fr_ok 64 (vw_c ztk 3) (vw_c znx 3) (zff 3) (zfc 3)) (hfc : ∃ k, 16 ≤ k ∧ k < 100 ∧ zfc 3 = nI k) (hr0 : vw_s zrm 0 = 0) (hrT : ∀ a, a ≤ 64 → vw_s zrm a ≠ 0 → vw_c ztk 3 a ≠ 0)
    (hry : ∀ a g b, 1 ≤ a → a ≤ 64 → vw_c ztk 3 a ≠ 0 → g < 3 → vw_f zfl 3 a g = nI (2 * b) → 65 ≤ b → b < 96 → vw_s zrm a ≠ 0)
    (K : ∀ zmv' ztk' zff' zfc' zfl' zst' zrm' zrg', (∃ φ', is_I φ' (vw_r zrg' 3) (vw_f zfl' 3) v) → gr_WG (vw_r zrg' 3) (vw_f zfl' 3) (nu_P (vw_c ztk' 3) 65) → fr_ok 64 (vw_c ztk' 3) (vw_c znx 3) (zff' 3) (zfc' 3) → (∀ c, c ≤ 64 → vw_s zrm' c = 0) →
      (∀ e', e' ≠ 3 → vw_v e' zrg' zfl' ztk' zco znx zff' zfc' = vw_v e' zrg zfl ztk zco znx zff zfc) → post (zhf, zhn, zcn, 65, zsc, zph, zsa, zgc, 0, zs2, zrg', zfl', ztk', zco, znx, zff', zfc', zmv', zrm', zrf, zsu, zss, zgs, zfa, zst', zt2, zse, zpa, zba)) :
    ∃ n19 : Nat, wX_emptyNursery_19 post zhf zhn zcn zyn zsc zph zsa zgc zsd zs2 n19 (nI 65) zrg zfl ztk zco znx zff zfc zmv zrm zrf zsu zss zgs zfa zst zt2 zse zpa zba := by
  obtain ⟨k0, hk0, hk1, ek⟩ := hfc
  refine ⟨17, ?_⟩
  have key : ∀ (n i : Nat) (zmv : Nat → Int32), i ≤ 81 → 81 < n + i → (∀ a, 65 ≤ a → a < i → vw_s zmv a = 0) → wX_emptyNursery_19 post zhf zhn zcn zyn zsc zph zsa zgc zsd zs2 n (nI i) zrg zfl ztk zco znx zff zfc zmv zrm zrf zsu zss zgs zfa zst zt2 zse zpa zba := by
    intro n
    induction n with
    | zero => intro i _ h1 h2; omega
    | succ n ih =>
      intro i zmv h1 h2 hz
      by_cases hi : i = 81
      · subst hi
        refine br_t (by decide) ⟨7, ?_⟩
        have hct : ct_c (nu_y (vw_s zmv)) 96 = 0 := ct_zero 96 fun i _ z => z.2.2 (hz i z.1 z.2.1)
        refine xn_regs (post := post) (P := P) (F0 := vw_f zfl 3) (T0 := vw_c ztk 3) (k0 := k0) hG.2.1 hk0 hP (vw_r zrg 3) hG.1 hr0 hrT (fun e' => vw_v e' zrg zfl ztk zco znx zff zfc) (fun G' zmv' ztk' zff' zfc' zfl' zst' zrm' zrg' hrm' I' hr' hV' => ?_) 7 0 0 (vw_f zfl 3) zmv ztk zff zfc zfl zst zrg (by omega) (by omega) (fun r hr => absurd hr (Nat.not_lt_zero r)) (fun _ _ _ => rfl) ?_ ⟨fun i hi => absurd hi (Nat.not_lt_zero i), by rw [hct]⟩ (fun _ _ => rfl)
        · obtain ⟨φ', I2, G2⟩ := nu_end I0 hG hP hT I' hr'
          exact K zmv' ztk' zff' zfc' zfl' zst' zrm' zrg' ⟨φ', I2⟩ G2 I'.2.2.2.2.1 hrm' hV'
        · refine ⟨fun a h3 h4 => Or.inl (hz a h3 h4), fun a b h3 h4 h5 h6 h7 => absurd (hz a h3 h4) h7, fun d h3 h4 h5 => ⟨h5, fun _ => rfl⟩, fun d h3 h4 h5 => Or.inl h5, hok, ⟨k0, hk1, ek, by rw [hct]; rfl⟩, fun _ _ _ => rfl, fun d g h3 h4 h5 h6 => ?_⟩
          have hwf := hG.2.1 d ((hT d h3 h4).mp h5) g h6
          refine ⟨hwf, ?_⟩
          rcases nu_wf hP hwf with z | ⟨a, ha, h7, h8, e⟩
          · exact Or.inl (Or.inl ⟨z, rfl⟩)
          · exact Or.inr ⟨rfl, Or.inl ⟨h4, hry d g a h3 h4 h5 h6 e h7 (by omega)⟩⟩
      · refine br_f (nI_ge (b := 81) (by omega) (by omega)) ⟨vp_in_nI (by omega) (by omega), ?_⟩
        rw [nI_clamp (by omega), na_0]
        refine nm_e (nm_r (nI_1 i) ?_)
        refine ih (i + 1) _ (by omega) (by omega) fun a h3 h4 => ?_
        rw [vw_s_s (by omega)]
        by_cases e : a = i
        · rw [e, pk_us]
        · rw [pk_un e]; exact hz a h3 (by omega)
  exact key 17 65 zmv (by omega) (by omega) (fun a h1 h2 => by omega)
theorem na_288 (a : Nat) : 288 + nI a = nI (3 * 96 + a) := nI_add 288 a
theorem xn_sweep {post : Int32 → SX → Prop} {φ : Nat → Nat} {v : SY} (I : is_I φ (vw_r zrg 3) (vw_f zfl 3) v) (hok : fr_ok 64 (vw_c ztk 3) (vw_c znx 3) (zff 3) (zfc 3)) (hC : ∀ a, vw_c zco 3 a = 0)
    (hX : ∀ a, gr_X (vw_r zrg 3) (vw_f zfl 3) a → (a ≤ 64 ∧ vw_c ztk 3 a ≠ 0) ∨ (65 ≤ a ∧ a < 81))
    (K : ∀ zst' ztk' zco' znx' zff' zfc' zrm', (∀ a, 1 ≤ a → a ≤ 64 → (vw_c ztk' 3 a ≠ 0 ↔ gr_X (vw_r zrg 3) (vw_f zfl 3) a)) → (∀ a, vw_c zco' 3 a = 0) → fr_ok 64 (vw_c ztk' 3) (vw_c znx' 3) (zff' 3) (zfc' 3) →
      vw_s zrm' 0 = vw_s zrm 0 → (∀ a, 1 ≤ a → a ≤ 64 → (vw_s zrm' a ≠ 0 ↔ vw_s zrm a ≠ 0 ∧ vw_c ztk' 3 a ≠ 0)) → (∀ e', e' ≠ 3 → vw_v e' zrg zfl ztk' zco' znx' zff' zfc' = vw_v e' zrg zfl ztk zco znx zff zfc) →
      post (nI (ct_c (fun a => gr_X (vw_r zrg 3) (vw_f zfl 3) a ∧ a ≤ 64) 96)) (zhf, zhn, zcn, zyn, zsc, zph, zsa, zgc, 0, zs2, zrg, zfl, ztk', zco', znx', zff', zfc', zmv, zrm', zrf, zsu, zss, zgs, zfa, zst', zt2, zse, zpa, zba)) : wpX_sweepOld post (zhf, zhn, zcn, zyn, zsc, zph, zsa, zgc, zsd, zs2, zrg, zfl, ztk, zco, znx, zff, zfc, zmv, zrm, zrf, zsu, zss, zgs, zfa, zst, zt2, zse, zpa, zba) := by
  have G := is_G I
  unfold wpX_sweepOld
  refine xm_all (e := 3) (by omega) G hC fun zst' zco1 m1 m2 o1 => ?_
  have h20 : ¬ (2 : Int32) = 0 := by decide
  refine xv_all (e := 3) (last := 64) (by omega) (by omega) (fun a h1 h2 h => m2 a fun z => by
    rcases hX a z with w | w
    · exact w.2 h
    · omega) hok fun ztk' zco2 znx' zff' zfc' hs hok' hV => ?_
  have hTX : ∀ a, 1 ≤ a → a ≤ 64 → (vw_c ztk' 3 a ≠ 0 ↔ gr_X (vw_r zrg 3) (vw_f zfl 3) a) := by
    intro a h1 h2
    have := hs.1 a (by omega) h2
    constructor
    · intro h
      exact Classical.byContradiction fun hn => h (this.2.1 fun z => z.2 (m2 a hn))
    · intro h
      have ht : vw_c ztk 3 a ≠ 0 := by
        rcases hX a h with w | w
        · exact w.2
        · omega
      rw [this.1 ⟨ht, by rw [m1 a h]; exact h20⟩]; exact ht
  have hct : ct_c (fun a => 0 < a ∧ a ≤ 64 ∧ (vw_c ztk 3 a ≠ 0 ∧ vw_c zco1 3 a ≠ 0)) 96 = ct_c (fun a => gr_X (vw_r zrg 3) (vw_f zfl 3) a ∧ a ≤ 64) 96 := by
    refine ct_congr 96 fun i _ => ⟨fun z => ⟨Classical.byContradiction fun hn => z.2.2.2 (m2 i hn), z.2.1⟩, fun z => ⟨(G.2.2 i z.1).1, z.2, ?_, by rw [m1 i z.1]; exact h20⟩⟩
    rcases hX i z.1 with w | w
    · exact w.2
    · omega
  rw [hct]
  refine ⟨17, ?_⟩
  have hV1 : ∀ e', e' ≠ 3 → vw_v e' zrg zfl ztk' zco2 znx' zff' zfc' = vw_v e' zrg zfl ztk zco znx zff zfc := fun e' n => (hV e' n).trans (vw_v_co (o1 e' n))
  have key2 : ∀ (n i : Nat) (zco3 zrm1 : Nat → Int32), 1 ≤ i → i ≤ 65 → 65 < n + i → (∀ a, vw_c zco3 3 a = 0) → (∀ e', e' ≠ 3 → vw_v e' zrg zfl ztk' zco3 znx' zff' zfc' = vw_v e' zrg zfl ztk zco znx zff zfc) →
      (∀ a, 1 ≤ a → a < i → (vw_s zrm1 a ≠ 0 ↔ vw_s zrm a ≠ 0 ∧ vw_c ztk' 3 a ≠ 0)) → (∀ a, (a < 1 ∨ i ≤ a) → vw_s zrm1 a = vw_s zrm a) →
      wX_sweepOld_41 post (nI (ct_c (fun a => gr_X (vw_r zrg 3) (vw_f zfl 3) a ∧ a ≤ 64) 96)) zhf zhn zcn zyn zsc zph zsa zgc 0 zs2 n (nI i) zrg zfl ztk' zco3 znx' zff' zfc' zmv zrm1 zrf zsu zss zgs zfa zst' zt2 zse zpa zba := by
    intro n
    induction n with
    | zero => intro i _ _ h1 h2 h3; omega
    | succ n ih =>
      intro i zco3 zrm1 h1 h2 h3 hc0 hV3 hr1 hr2
      by_cases hi : i = 65
      · subst hi
        exact br_t (by decide) (K zst' ztk' zco3 znx' zff' zfc' zrm1 hTX hc0 hok' (hr2 0 (by omega)) (fun a h4 h5 => hr1 a h4 (by omega)) hV3)
      · have hi9 : i < 96 := by omega
        have hri : zrm1 i = vw_s zrm i := by rw [← vw_s_at (g := zrm1) hi9]; exact hr2 i (Or.inr (Nat.le_refl i))
        have hT : vw_c ztk' 3 i = ztk' (3 * 96 + i) := vw_c_at hi9
        have step : ∀ y, (y ≠ 0 ↔ vw_s zrm i ≠ 0 ∧ vw_c ztk' 3 i ≠ 0) → wX_sweepOld_41 post (nI (ct_c (fun a => gr_X (vw_r zrg 3) (vw_f zfl 3) a ∧ a ≤ 64) 96)) zhf zhn zcn zyn zsc zph zsa zgc 0 zs2 n (nI (i + 1)) zrg zfl ztk' zco3 znx' zff' zfc' zmv (upd zrm1 i y) zrf zsu zss zgs zfa zst' zt2 zse zpa zba := by
          intro y hy
          refine ih (i + 1) zco3 _ (by omega) (by omega) (by omega) hc0 hV3 (fun a h4 h5 => ?_) (fun a h4 => ?_)
          · rw [vw_s_s hi9]
            by_cases e : a = i
            · rw [e, pk_us]; exact hy
            · rw [pk_un e]; exact hr1 a h4 (by omega)
          · rw [vw_s_s hi9, pk_un (by omega)]; exact hr2 a (by omega)
        refine br_f (nI_nlt (a := 64) (by omega) (by omega)) ⟨vp_in_nI hi9 (by omega), ?_⟩
        rw [nI_clamp (by omega), hri]
        by_cases h0 : vw_s zrm i = 0
        · refine br_t h0 ⟨vp_in_nI hi9 (by omega), ?_⟩
          rw [na_f]
          refine nm_e (nm_r (nI_1 i) (step 0 ⟨fun z => absurd rfl z, fun z => absurd h0 z.1⟩))
        · refine br_f h0 ?_
          rw [na_288, nI_clamp (by omega), ← hT]
          refine ⟨vp_in_nI (by omega) (by omega), ?_⟩
          by_cases ht : vw_c ztk' 3 i = 0
          · refine br_t ht ⟨vp_in_nI hi9 (by omega), ?_⟩
            rw [na_f]
            refine nm_e (nm_r (nI_1 i) (step 0 ⟨fun z => absurd rfl z, fun z => absurd ht z.2⟩))
          · refine br_f ht ⟨vp_in_nI hi9 (by omega), ?_⟩
            rw [na_t]
            refine nm_e (nm_r (nI_1 i) (step 1 ⟨fun _ => ⟨h0, ht⟩, fun _ => na_n10⟩))
  have key : ∀ (n i : Nat) (zco3 : Nat → Int32), 65 ≤ i → i ≤ 81 → 81 < n + i → (∀ a, (a < i ∨ 81 ≤ a) → vw_c zco3 3 a = 0) → (∀ e', e' ≠ 3 → vw_v e' zrg zfl ztk' zco3 znx' zff' zfc' = vw_v e' zrg zfl ztk zco znx zff zfc) →
      wX_sweepOld_16 post (nI (ct_c (fun a => gr_X (vw_r zrg 3) (vw_f zfl 3) a ∧ a ≤ 64) 96)) zhf zhn zcn zyn zsc zph zsa zgc 0 zs2 n (nI i) zrg zfl ztk' zco3 znx' zff' zfc' zmv zrm zrf zsu zss zgs zfa zst' zt2 zse zpa zba := by
    intro n
    induction n with
    | zero => intro i _ h1 h2 h3; omega
    | succ n ih =>
      intro i zco3 h1 h2 h3 hc0 hV3
      by_cases hi : i = 81
      · subst hi
        refine br_t (by decide) ⟨65, ?_⟩
        exact key2 65 1 zco3 zrm (by omega) (by omega) (by omega) (fun a => hc0 a (by omega)) hV3 (fun a h4 h5 => by omega) (fun _ _ => rfl)
      · refine br_f (nI_ge (b := 81) (by omega) (by omega)) ?_
        rw [na_288, nI_clamp (by omega), na_0]
        refine ⟨vp_in_nI (by omega) (by omega), nm_e (nm_r (nI_1 i) ?_)⟩
        refine ih (i + 1) _ (by omega) (by omega) (by omega) (fun a h4 => ?_) (fun e' n => (vw_v_co (vw_c_o (by omega) n)).trans (hV3 e' n))
        rw [vw_c_s (by omega)]
        by_cases e : a = i
        · rw [e, pk_us]
        · rw [pk_un e]; exact hc0 a (by omega)
  refine key 17 65 zco2 (by omega) (by omega) (by omega) (fun a h => ?_) hV1
  by_cases ha : 0 < a ∧ a ≤ 64
  · exact (hs.1 a ha.1 ha.2).2.2
  · rw [(hs.2 a ha).2]
    refine m2 a fun z => ?_
    have := G.2.2 a z
    rcases hX a z with w | w <;> omega
end C3
end
section
theorem fr_ge {last q : Nat} {T N : Nat → Int32} {f c : Int32} (hl : last < 96) (h : fr_ok last T N f c) {P : Nat → Prop} (hP : ∀ a, 1 ≤ a → a ≤ last → T a ≠ 0 → P a) (hc : ct_c P 96 ≤ q) : ∃ k, last ≤ k + q ∧ k < 100 ∧ c = nI k := by
  refine ⟨_, ?_, ?_, fr_cnt hl h⟩
  · have h1 := ct_split (P := fun a => 1 ≤ a ∧ a < last + 1) (Q := fun a => T a = 0) 96
    rw [ct_range (by omega) 96 (by omega)] at h1
    have h2 : ct_c (fun a => (1 ≤ a ∧ a < last + 1) ∧ T a = 0) 96 = ct_c (fun a => 1 ≤ a ∧ a ≤ last ∧ T a = 0) 96 := ct_congr 96 fun i _ => ⟨fun z => ⟨z.1.1, by omega, z.2⟩, fun z => ⟨⟨z.1, by omega⟩, z.2.2⟩⟩
    have h3 : ct_c (fun a => (1 ≤ a ∧ a < last + 1) ∧ ¬ T a = 0) 96 ≤ ct_c P 96 := ct_mono 96 fun i _ z => hP i z.1.1 (by omega) z.2
    omega
  · have : ct_c (fun a => 1 ≤ a ∧ a ≤ last ∧ T a = 0) 96 ≤ 96 := ct_le 96
    omega
section C3
variable {zhf zhn zcn zyn zsc zph zsa zgc zsd zs2 : Int32} {zrg zfl ztk zco znx zff zfc zmv zrm zrf zsu zss zgs zfa zst zt2 zse zpa zba : Nat → Int32}
theorem c3_empty {post : SX → Prop} {v : SY} (h : jc_3 (vw_r zrg 3) (vw_f zfl 3) (vw_c ztk 3) (vw_c zco 3) (vw_c znx 3) (zff 3) (zfc 3) zyn (vw_s zrm) v) (h24 : ct_c (yy_X v) 48 ≤ 24)
    (K : ∀ zmv' zst' ztk' zco' znx' zff' zfc' zfl' zrm' zrg', jc_3 (vw_r zrg' 3) (vw_f zfl' 3) (vw_c ztk' 3) (vw_c zco' 3) (vw_c znx' 3) (zff' 3) (zfc' 3) 65 (vw_s zrm') v →
      (∀ e', e' ≠ 3 → vw_v e' zrg' zfl' ztk' zco' znx' zff' zfc' = vw_v e' zrg zfl ztk zco znx zff zfc) → post (zhf, zhn, zcn, 65, zsc, zph, zsa, zgc, 0, zs2, zrg', zfl', ztk', zco', znx', zff', zfc', zmv', zrm', zrf, zsu, zss, zgs, zfa, zst', zt2, zse, zpa, zba)) : wpX_emptyNursery post (zhf, zhn, zcn, zyn, zsc, zph, zsa, zgc, zsd, zs2, zrg, zfl, ztk, zco, znx, zff, zfc, zmv, zrm, zrf, zsu, zss, zgs, zfa, zst, zt2, zse, zpa, zba) := by
  obtain ⟨φ, n, I, hok, hC, rfl, h65, h81, hG, hr0, hrT, hry⟩ := h
  have hX : ∀ a, gr_X (vw_r zrg 3) (vw_f zfl 3) a → (a ≤ 64 ∧ vw_c ztk 3 a ≠ 0) ∨ (65 ≤ a ∧ a < 81) := fun a ha => (gr_WG_X hG ha).imp (fun z => z.2) (fun z => by omega)
  have fin : ∀ (zst' ztk' zff' zfc' zfl' zrm' zrg' zco' znx' zmv' : Nat → Int32), (∀ a, vw_c zco' 3 a = 0) → (∃ φ', is_I φ' (vw_r zrg' 3) (vw_f zfl' 3) v) → gr_WG (vw_r zrg' 3) (vw_f zfl' 3) (nu_P (vw_c ztk' 3) 65) → fr_ok 64 (vw_c ztk' 3) (vw_c znx' 3) (zff' 3) (zfc' 3) → (∀ c, c ≤ 64 → vw_s zrm' c = 0) →
      (∀ e', e' ≠ 3 → vw_v e' zrg' zfl' ztk' zco' znx' zff' zfc' = vw_v e' zrg zfl ztk zco znx zff zfc) → post (zhf, zhn, zcn, 65, zsc, zph, zsa, zgc, 0, zs2, zrg', zfl', ztk', zco', znx', zff', zfc', zmv', zrm', zrf, zsu, zss, zgs, zfa, zst', zt2, zse, zpa, zba) := by
    intro zst' ztk' zff' zfc' zfl' zrm' zrg' zco' znx' zmv' hC' hI' hG' hok' hrm' hV'
    obtain ⟨φ', I'⟩ := hI'
    refine K zmv' zst' ztk' zco' znx' zff' zfc' zfl' zrm' zrg' ⟨φ', 65, I', hok', hC', rfl, by omega, by omega, hG', hrm' 0 (by omega), fun a h1 h2 => absurd (hrm' a h1) h2, fun a g b h1 h2 h3 h4 h5 h6 h7 => ?_⟩ hV'
    rcases gr_tgt (hG'.2.1 a (Or.inl ⟨h1, h2, h3⟩) g h4) (fun c hc => (hG'.2.2 c hc).2) h7 h5 with w | w <;> omega
  obtain ⟨_, k, hk, ek⟩ := fr_first hok (by omega)
  show ((16 ≤ zfc 3 → _) ∧ (¬ 16 ≤ zfc 3 → _))
  by_cases hk16 : 16 ≤ k
  · refine br_t (by rw [ek]; exact nI_le (a := 16) hk16 (by omega)) ?_
    refine xn_core (post := post) (P := nu_P (vw_c ztk 3) n) I hG (fun a ha => ?_) (fun a h1 h2 => ⟨fun z => Or.inl ⟨h1, h2, z⟩, fun z => ?_⟩) hok ⟨k, hk16, by omega, ek⟩ hr0 hrT hry fun zmv' ztk' zff' zfc' zfl' zst' zrm' zrg' hI' hG' hok' hrm' hV' => ?_
    · rcases ha with z | z <;> omega
    · rcases z with z | z
      · exact z.2.2
      · omega
    · exact fin zst' ztk' zff' zfc' zfl' zrm' zrg' zco znx zmv' hC hI' hG' hok' hrm' hV'
  · refine br_f (by rw [ek]; exact nI_ge (b := 16) (by omega) (by omega)) ?_
    refine xn_sweep I hok hC hX fun zst' ztk' zco' znx' zff' zfc' zrm' hTX hC' hok' hr0' hrm' hV' => ?_
    have hX81 : ∀ a, gr_X (vw_r zrg 3) (vw_f zfl 3) a → a < 81 := fun a ha => by rcases hX a ha with z | z <;> omega
    obtain ⟨k', hk1, hk2, ek'⟩ := fr_ge (q := 24) (by omega) hok' (fun a h1 h2 h3 => (hTX a h1 h2).mp h3) (by rw [is_cnt I]; exact h24)
    refine xn_core (post := post) (P := gr_X (vw_r zrg 3) (vw_f zfl 3)) I (is_G I) hX81 hTX hok' ⟨k', by omega, hk2, ek'⟩ (hr0'.trans hr0) (fun a h1 h2 => ?_) (fun a g b h1 h2 h3 h4 h5 h6 h7 => ?_) fun zmv' ztk2 zff2 zfc2 zfl' zst2 zrm2 zrg' hI' hG' hok2 hrm2 hV2 => ?_
    · by_cases e : a = 0
      · subst e; exact absurd (hr0'.trans hr0) h2
      · exact ((hrm' a (by omega) h1).mp h2).2
    · refine (hrm' a h1 h2).mpr ⟨hry a g b h1 h2 ?_ h4 h5 h6 h7, h3⟩
      rcases hX a ((hTX a h1 h2).mp h3) with z | z
      · exact z.2
      · omega
    · exact fin zst2 ztk2 zff2 zfc2 zfl' zrm2 zrg' zco' znx' zmv' hC' hI' hG' hok2 hrm2 (fun e' n => (hV2 e' n).trans (hV' e' n))
theorem c3_collect {post : Int32 → SX → Prop} {v : SY} (h : jc_3 (vw_r zrg 3) (vw_f zfl 3) (vw_c ztk 3) (vw_c zco 3) (vw_c znx 3) (zff 3) (zfc 3) zyn (vw_s zrm) v) (h24 : ct_c (yy_X v) 48 ≤ 24)
    (K : ∀ zmv' zst' ztk' zco' znx' zff' zfc' zfl' zrm' zrg', jc_3 (vw_r zrg' 3) (vw_f zfl' 3) (vw_c ztk' 3) (vw_c zco' 3) (vw_c znx' 3) (zff' 3) (zfc' 3) 65 (vw_s zrm') v →
      (∀ e', e' ≠ 3 → vw_v e' zrg' zfl' ztk' zco' znx' zff' zfc' = vw_v e' zrg zfl ztk zco znx zff zfc) → post (nI (ct_c (yy_X v) 48)) (zhf, zhn, zcn, 65, zsc, zph, zsa, zgc, 0, zs2, zrg', zfl', ztk', zco', znx', zff', zfc', zmv', zrm', zrf, zsu, zss, zgs, zfa, zst', zt2, zse, zpa, zba)) : wpX_collectByNursery post (zhf, zhn, zcn, zyn, zsc, zph, zsa, zgc, zsd, zs2, zrg, zfl, ztk, zco, znx, zff, zfc, zmv, zrm, zrf, zsu, zss, zgs, zfa, zst, zt2, zse, zpa, zba) := by
  unfold wpX_collectByNursery
  refine c3_empty h h24 fun zmv' zst' ztk' zco' znx' zff' zfc' zfl' zrm' zrg' hj hV => ?_
  obtain ⟨φ, n, I, hok, hC, hn, h65, h81, hG, hr0, hrT, hry⟩ := hj
  have hn : n = 65 := (na_inj (a := 65) (by omega) (by omega) hn).symm
  subst hn
  have hX : ∀ a, gr_X (vw_r zrg' 3) (vw_f zfl' 3) a → a ≤ 64 ∧ vw_c ztk' 3 a ≠ 0 := fun a ha => by
    rcases gr_WG_X hG ha with z | z
    · exact z.2
    · omega
  refine xn_sweep I hok hC (fun a ha => Or.inl (hX a ha)) fun zst2 ztk2 zco2 znx2 zff2 zfc2 zrm2 hTX hC2 hok2 hr2 hrm2 hV2 => ?_
  have ec : ct_c (fun a => gr_X (vw_r zrg' 3) (vw_f zfl' 3) a ∧ a ≤ 64) 96 = ct_c (yy_X v) 48 := by
    rw [← is_cnt I]; exact ct_congr 96 fun i _ => ⟨fun z => z.1, fun z => ⟨z, (hX i z).1⟩⟩
  rw [ec]
  have G := is_G I
  refine K zmv' zst2 ztk2 zco2 znx2 zff2 zfc2 zfl' zrm2 zrg' ⟨φ, 65, I, hok2, hC2, rfl, by omega, by omega, ⟨fun r hr => gr_wf_mono (G.1 r hr) fun a ha => ?_, fun a ha g hg => ?_, fun a ha => ?_⟩, hr2.trans hr0, fun a h1 h2 => ?_, fun a g b h1 h2 h3 h4 h5 h6 h7 => ?_⟩ (fun e' n => (hV2 e' n).trans (hV e' n))
  · exact Or.inl ⟨(G.2.2 a ha).1, (hX a ha).1, (hTX a (G.2.2 a ha).1 (hX a ha).1).mpr ha⟩
  · rcases ha with ⟨h1, h2, h3⟩ | h
    · exact gr_wf_mono (G.2.1 a ((hTX a h1 h2).mp h3) g hg) fun a ha => Or.inl ⟨(G.2.2 a ha).1, (hX a ha).1, (hTX a (G.2.2 a ha).1 (hX a ha).1).mpr ha⟩
    · omega
  · rcases ha with ⟨h1, h2, h3⟩ | h <;> omega
  · by_cases e : a = 0
    · subst e; exact absurd (hr2.trans hr0) h2
    · exact ((hrm2 a (by omega) h1).mp h2).2
  · have := hX b (gr_tgt (G.2.1 a ((hTX a h1 h2).mp h3) g h4) (fun c hc => (G.2.2 c hc).2) h7 h5)
    omega
end C3
theorem op_wf {φ : Nat → Nat} {R : Nat → Int32} {F : Nat → Nat → Int32} {v : SY} {x y : Int32} (I : is_I φ R F v) (hv : op_v R F v x y) : gr_wf (gr_X R F) x := is_wf I (hv.1 φ I) hv.2
theorem jc_3_set {r : Nat} {R : Nat → Int32} {F : Nat → Nat → Int32} {T C N rm : Nat → Int32} {f c yn x y : Int32} {yr yf : Nat → Int32} (h : jc_3 R F T C N f c yn rm (yr, yf)) (hv : op_v R F (yr, yf) x y) :
    jc_3 (upd R r x) F T C N f c yn rm (upd yr r y, yf) := by
  obtain ⟨φ, n, I, hok, hC, hn, h65, h81, hG, hr0, hrT, hry⟩ := h
  refine ⟨φ, n, is_set (r := r) I (hv.1 φ I) hv.2, hok, hC, hn, h65, h81, ⟨fun r' hr' => ?_, hG.2⟩, hr0, hrT, hry⟩
  by_cases e : r' = r
  · rw [e, pk_us]; exact gr_wf_mono (op_wf I hv) fun a ha => gr_WG_X hG ha
  · rw [pk_un e]; exact hG.1 r' hr'
theorem jc_3_put {a p g : Nat} {R : Nat → Int32} {F : Nat → Nat → Int32} {T C N rm rm' : Nat → Int32} {f c yn x y : Int32} {yr yf : Nat → Int32} (h : jc_3 R F T C N f c yn rm (yr, yf)) (hv : op_v R F (yr, yf) x y) (hp : op_a R F (yr, yf) a p) (hg : g < 3)
    (hr1 : ∀ b, b ≠ a → rm' b = rm b) (hr2 : a ≤ 64 → (rm a ≠ 0 → rm' a ≠ 0) ∧ (∀ b, 65 ≤ b → b < 96 → x = nI (2 * b) → rm' a ≠ 0)) :
    jc_3 R (vw_u F a g x) T C N f c yn rm' (yr, upd yf (3 * p + g) y) := by
  obtain ⟨φ, n, I, hok, hC, hn, h65, h81, hG, hr0, hrT, hry⟩ := h
  have I' := is_put I hp.1 hg (hv.1 φ I) hv.2
  have hXa : gr_X R F a := (is_X I a).mpr ⟨p, hp.1, (hp.2 φ I).symm⟩
  have hPa := gr_WG_X hG hXa
  have ha1 := (hG.2.2 a hPa).1
  rw [← hp.2 φ I] at I'
  refine ⟨φ, n, I', hok, hC, hn, h65, h81, ⟨hG.1, fun b hb g' hg' => ?_, hG.2.2⟩, (hr1 0 (by omega)).trans hr0, fun b h1 h2 => ?_, fun b g' d h1 h2 h3 h4 h5 h6 h7 => ?_⟩
  · by_cases e : b = a ∧ g' = g
    · rw [e.1, e.2, vw_us]; exact gr_wf_mono (op_wf I hv) fun a ha => gr_WG_X hG ha
    · rw [vw_un (by omega)]; exact hG.2.1 b hb g' hg'
  · by_cases e : b = a
    · subst e
      rcases hPa with z | z
      · exact z.2.2
      · omega
    · rw [hr1 b e] at h2; exact hrT b h1 h2
  · by_cases e : b = a ∧ g' = g
    · obtain ⟨rfl, rfl⟩ := e
      rw [vw_us] at h5
      exact (hr2 h2).2 d h6 h7 h5
    · rw [vw_un (by omega)] at h5
      have := hry b g' d h1 h2 h3 h4 h5 h6 h7
      by_cases e' : b = a
      · subst e'; exact (hr2 h2).1 this
      · rw [hr1 b e']; exact this
section NW
variable {zhf zhn zcn zyn zsc zph zsa zgc zsd zs2 : Int32} {zrg zfl ztk zco znx zff zfc zmv zrm zrf zsu zss zgs zfa zst zt2 zse zpa zba : Nat → Int32}
variable {yr yf yf' : Nat → Int32} {p : Nat}
/-- collectors 0 and 6: a free cell is taken -/
theorem nw_take {post : Int32 → SX → Prop} {e : Nat} (he : e < 7) (h : jc_0 48 (vw_r zrg e) (vw_f zfl e) (vw_c ztk e) (vw_c zco e) (vw_c znx e) (zff e) (zfc e) (yr, yf)) (hn : op_n yr yf yf' p) (hc : zfc e ≠ 0)
    (K : ∀ a ztk' zff' zfc' zfl', 1 ≤ a → a < 96 → (∀ r, jc_0 48 (upd (vw_r zrg e) r (nI (2 * a))) (vw_f zfl' e) (vw_c ztk' e) (vw_c zco e) (vw_c znx e) (zff' e) (zfc' e) (upd yr r (nI (10000 + p)), yf')) →
      (∀ e', e' ≠ e → vw_v e' zrg zfl' ztk' zco znx zff' zfc' = vw_v e' zrg zfl ztk zco znx zff zfc) → post (nI a) (zhf, zhn, zcn, zyn, zsc, zph, zsa, zgc, zsd, zs2, zrg, zfl', ztk', zco, znx, zff', zfc', zmv, zrm, zrf, zsu, zss, zgs, zfa, zst, zt2, zse, zpa, zba)) : wpX_takeFree post (zhf, zhn, zcn, zyn, zsc, zph, zsa, zgc, zsd, zs2, zrg, zfl, ztk, zco, znx, zff, zfc, zmv, zrm, zrf, zsu, zss, zgs, zfa, zst, zt2, zse, zpa, zba) (nI e) := by
  obtain ⟨φ, I, h1, h2, h3⟩ := id h
  refine xf_take he (by omega) h1 hc fun a ztk' zff' zfc' zfl' a1 a2 a3 a4 a5 a6 _ a8 => ?_
  refine K a ztk' zff' zfc' zfl' a1 (by omega) (fun r => ?_) a8
  rw [a4] at a6 ⊢
  rw [a5]
  exact jc_0_new (by omega) h hn a1 a2 a3 a6
theorem nw_0 {post : Int32 → SX → Prop} (h : jc_0 48 (vw_r zrg 0) (vw_f zfl 0) (vw_c ztk 0) (vw_c zco 0) (vw_c znx 0) (zff 0) (zfc 0) (yr, yf)) (hn : op_n yr yf yf' p) (h24 : ct_c (yy_X (yr, yf)) 48 < 24)
    (K : ∀ a zsd' zst' zco' znx' ztk' zff' zfc' zfl', 1 ≤ a → a < 96 → (∀ r, jc_0 48 (upd (vw_r zrg 0) r (nI (2 * a))) (vw_f zfl' 0) (vw_c ztk' 0) (vw_c zco' 0) (vw_c znx' 0) (zff' 0) (zfc' 0) (upd yr r (nI (10000 + p)), yf')) →
      (∀ e', e' ≠ 0 → vw_v e' zrg zfl' ztk' zco' znx' zff' zfc' = vw_v e' zrg zfl ztk zco znx zff zfc) → post (nI a) (zhf, zhn, zcn, zyn, zsc, zph, zsa, zgc, zsd', zs2, zrg, zfl', ztk', zco', znx', zff', zfc', zmv, zrm, zrf, zsu, zss, zgs, zfa, zst', zt2, zse, zpa, zba)) : wpX_newCell post (zhf, zhn, zcn, zyn, zsc, zph, zsa, zgc, zsd, zs2, zrg, zfl, ztk, zco, znx, zff, zfc, zmv, zrm, zrf, zsu, zss, zgs, zfa, zst, zt2, zse, zpa, zba) 0 := by
  refine br_t (by decide) ?_
  refine And.intro (vp_in_nI (n := 0) (by omega) (by omega)) ?_
  show ((zfc 0 = 0 → _) ∧ (¬ zfc 0 = 0 → _))
  by_cases h0 : zfc 0 = 0
  · refine br_t h0 ?_
    refine br_f (by decide) (br_f (by decide) (br_t rfl ?_))
    refine c0_collect h fun zst' ztk1 zco1 znx1 zff1 zfc1 hj hT hV => ?_
    obtain ⟨φ, I, q1, q2, q3⟩ := id hj
    refine nw_take (e := 0) (by omega) hj hn (fr_pos (by omega) q1 hT (by rw [is_cnt I]; omega)) fun a ztk' zff' zfc' zfl' a1 a2 a3 a4 => ?_
    exact K a _ zst' zco1 znx1 ztk' zff' zfc' zfl' a1 a2 a3 fun e' n => (a4 e' n).trans (hV e' n)
  · refine br_f h0 ?_
    refine nw_take (e := 0) (by omega) h hn h0 fun a ztk' zff' zfc' zfl' a1 a2 a3 a4 => ?_
    exact K a _ zst zco znx ztk' zff' zfc' zfl' a1 a2 a3 a4
theorem nw_6 {post : Int32 → SX → Prop} (h : jc_0 48 (vw_r zrg 6) (vw_f zfl 6) (vw_c ztk 6) (vw_c zco 6) (vw_c znx 6) (zff 6) (zfc 6) (yr, yf)) (hn : op_n yr yf yf' p) (h24 : ct_c (yy_X (yr, yf)) 48 < 24)
    (K : ∀ a zfa' zco' znx' ztk' zff' zfc' zfl', 1 ≤ a → a < 96 → (∀ r, jc_0 48 (upd (vw_r zrg 6) r (nI (2 * a))) (vw_f zfl' 6) (vw_c ztk' 6) (vw_c zco' 6) (vw_c znx' 6) (zff' 6) (zfc' 6) (upd yr r (nI (10000 + p)), yf')) →
      (∀ e', e' ≠ 6 → vw_v e' zrg zfl' ztk' zco' znx' zff' zfc' = vw_v e' zrg zfl ztk zco znx zff zfc) → post (nI a) (zhf, zhn, zcn, zyn, zsc, zph, zsa, zgc, zsd, zs2, zrg, zfl', ztk', zco', znx', zff', zfc', zmv, zrm, zrf, zsu, zss, zgs, zfa', zst, zt2, zse, zpa, zba)) : wpX_newCell post (zhf, zhn, zcn, zyn, zsc, zph, zsa, zgc, zsd, zs2, zrg, zfl, ztk, zco, znx, zff, zfc, zmv, zrm, zrf, zsu, zss, zgs, zfa, zst, zt2, zse, zpa, zba) 6 := by
  refine br_f (by decide) (br_t (by decide) ?_)
  refine And.intro (vp_in_nI (n := 6) (by omega) (by omega)) ?_
  show ((zfc 6 = 0 → _) ∧ (¬ zfc 6 = 0 → _))
  by_cases h0 : zfc 6 = 0
  · refine br_t h0 ?_
    refine br_f (by decide) (br_t (by decide) ?_)
    refine c6_collect h fun zfl1 zfa1 ztk1 zco1 znx1 zff1 zfc1 hfl hj hT hV => ?_
    obtain ⟨φ, I, q1, q2, q3⟩ := id hj
    refine nw_take (e := 6) (by omega) hj hn (fr_pos (by omega) q1 hT (by rw [is_cnt I]; omega)) fun a ztk' zff' zfc' zfl' a1 a2 a3 a4 => ?_
    exact K a zfa1 zco1 znx1 ztk' zff' zfc' zfl' a1 a2 a3 fun e' n => (a4 e' n).trans (hV e' n)
  · refine br_f h0 ?_
    refine nw_take (e := 6) (by omega) h hn h0 fun a ztk' zff' zfc' zfl' a1 a2 a3 a4 => ?_
    exact K a zfa zco znx ztk' zff' zfc' zfl' a1 a2 a3 a4
theorem jc_1_new {R : Nat → Int32} {F : Nat → Nat → Int32} {r h n : Nat} {φ : Nat → Nat} (I : is_I φ R F (yr, yf)) (hn : op_n yr yf yf' p) (hh : h = 1 ∨ h = 48) (h1 : h ≤ n) (h2 : n < h + 47) (h3 : ∀ a, gr_X R F a → h ≤ a ∧ a < n) :
    jc_1 (upd R r (nI (2 * n))) (vw_w F n (fun _ => 1)) (nI h) (nI (n + 1)) (upd yr r (nI (10000 + p)), yf') := by
  have hna : ¬ gr_X R F n := fun z => by have := h3 n z; omega
  have I' := is_new (r := r) (F' := vw_w F n (fun _ => 1)) I hn.1 hn.2.1 (by omega) (by omega) hna hn.2.2.1 hn.2.2.2 (fun g _ => vw_ws) (fun c hc g _ => vw_wn fun e => hna (e ▸ hc))
  refine ⟨_, h, n + 1, I', rfl, hh, rfl, by omega, by omega, fun b hb => ?_⟩
  rcases is_subn I I' (fun q hq => yy_new hn.2.2.1 hn.2.2.2 hn.1 hq) hb with e | e
  · omega
  · have := h3 b e; omega
theorem nw_1 {post : Int32 → SX → Prop} (h : jc_1 (vw_r zrg 1) (vw_f zfl 1) zhf zhn (yr, yf)) (hn : op_n yr yf yf' p) (h24 : ct_c (yy_X (yr, yf)) 48 < 24)
    (K : ∀ a zmv' zrg' zhf' zhn' zfl', 1 ≤ a → a < 96 → (∀ r, jc_1 (upd (vw_r zrg' 1) r (nI (2 * a))) (vw_f zfl' 1) zhf' zhn' (upd yr r (nI (10000 + p)), yf')) →
      (∀ e', e' ≠ 1 → vw_v e' zrg' zfl' ztk zco znx zff zfc = vw_v e' zrg zfl ztk zco znx zff zfc) → post (nI a) (zhf', zhn', zcn, zyn, zsc, zph, zsa, zgc, zsd, zs2, zrg', zfl', ztk, zco, znx, zff, zfc, zmv', zrm, zrf, zsu, zss, zgs, zfa, zst, zt2, zse, zpa, zba)) : wpX_newCell post (zhf, zhn, zcn, zyn, zsc, zph, zsa, zgc, zsd, zs2, zrg, zfl, ztk, zco, znx, zff, zfc, zmv, zrm, zrf, zsu, zss, zgs, zfa, zst, zt2, zse, zpa, zba) 1 := by
  have step : ∀ (zmv zrg1 zfl1 : Nat → Int32) (φ : Nat → Nat) (m n : Nat), is_I φ (vw_r zrg1 1) (vw_f zfl1 1) (yr, yf) → (m = 1 ∨ m = 48) → m ≤ n → n < m + 47 → (∀ a, gr_X (vw_r zrg1 1) (vw_f zfl1 1) a → m ≤ a ∧ a < n) → (∀ e', e' ≠ 1 → vw_v e' zrg1 zfl1 ztk zco znx zff zfc = vw_v e' zrg zfl ztk zco znx zff zfc) →
      wX_newInHalf_19 post (nI m) (nI n) zcn zyn zsc zph zsa zgc zsd zs2 zrg1 zfl1 ztk zco znx zff zfc zmv zrm zrf zsu zss zgs zfa zst zt2 zse zpa zba := by
    intro zmv zrg1 zfl1 φ m n I hm h1 h2 h3 hV
    refine nm_r (nI_1 n) ?_
    refine xp_clear (e := 1) (by omega) (by omega) fun zfl' f1 f2 => ?_
    refine K n zmv zrg1 _ _ zfl' (by omega) (by omega) (fun r => ?_) fun e' q => (vw_v_fl (f2 e' q)).trans (hV e' q)
    rw [f1]; exact jc_1_new I hn hm h1 h2 h3
  refine br_f (by decide) (br_f (by decide) (br_t rfl ?_))
  obtain ⟨φ, m, n, I, rfl, hm, rfl, h1, h2, h3⟩ := id h
  show ((nI n = nI m + 47 → _) ∧ (¬ nI n = nI m + 47 → _))
  have e47 : nI m + 47 = nI (m + 47) := nI_add m 47
  rw [e47]
  by_cases e : n = m + 47
  · refine br_t (by rw [e]) ?_
    refine c1_collect h (by omega) fun zmv' zfl1 zrg1 zhf1 zhn1 hj hb hV => ?_
    obtain ⟨φ', m', n', I', q1, q2, q3, q4, q5, q6⟩ := hj
    obtain ⟨m2, r1, r2, r3⟩ := hb
    subst q1; subst q3
    have em : m' = m2 := na_inj (by omega) (by omega) r1
    have en : n' = m2 + ct_c (yy_X (yr, yf)) 48 := na_inj (by omega) (by omega) r3
    exact step zmv' zrg1 zfl1 φ' m' n' I' q2 q4 (by omega) q6 hV
  · refine br_f (fun z => e (na_inj (by omega) (by omega) z)) ?_
    exact step zmv zrg zfl φ m n I hm h1 (by omega) h3 (fun _ _ => rfl)
theorem nw_2 {post : Int32 → SX → Prop} (h : jc_2 (vw_r zrg 2) (vw_f zfl 2) (vw_c zco 2) zcn (yr, yf)) (hn : op_n yr yf yf' p) (h24 : ct_c (yy_X (yr, yf)) 48 < 24)
    (K : ∀ a zsd' zst' zmv' zrg' zcn' zco' zfl', 1 ≤ a → a < 96 → (∀ r, jc_2 (upd (vw_r zrg' 2) r (nI (2 * a))) (vw_f zfl' 2) (vw_c zco' 2) zcn' (upd yr r (nI (10000 + p)), yf')) →
      (∀ e', e' ≠ 2 → vw_v e' zrg' zfl' ztk zco' znx zff zfc = vw_v e' zrg zfl ztk zco znx zff zfc) → post (nI a) (zhf, zhn, zcn', zyn, zsc, zph, zsa, zgc, zsd', zs2, zrg', zfl', ztk, zco', znx, zff, zfc, zmv', zrm, zrf, zsu, zss, zgs, zfa, zst', zt2, zse, zpa, zba)) : wpX_newCell post (zhf, zhn, zcn, zyn, zsc, zph, zsa, zgc, zsd, zs2, zrg, zfl, ztk, zco, znx, zff, zfc, zmv, zrm, zrf, zsu, zss, zgs, zfa, zst, zt2, zse, zpa, zba) 2 := by
  have step : ∀ (zsd : Int32) (zst zmv zrg1 zfl1 zco1 : Nat → Int32) (φ : Nat → Nat) (n : Nat), is_I φ (vw_r zrg1 2) (vw_f zfl1 2) (yr, yf) → 1 ≤ n → n ≤ 48 → (∀ a, vw_c zco1 2 a = 0) → (∀ a, gr_X (vw_r zrg1 2) (vw_f zfl1 2) a → a < n) → (∀ e', e' ≠ 2 → vw_v e' zrg1 zfl1 ztk zco1 znx zff zfc = vw_v e' zrg zfl ztk zco znx zff zfc) →
      wX_newClosed_14 post zhf zhn (nI n) zyn zsc zph zsa zgc zsd zs2 zrg1 zfl1 ztk zco1 znx zff zfc zmv zrm zrf zsu zss zgs zfa zst zt2 zse zpa zba := by
    intro zsd zst zmv zrg1 zfl1 zco1 φ n I h1 h2 hc h3 hV
    refine nm_r (nI_1 n) ?_
    refine xp_clear (e := 2) (by omega) (by omega) fun zfl' f1 f2 => ?_
    refine K n _ zst zmv zrg1 _ zco1 zfl' (by omega) (by omega) (fun r => ?_) fun e' q => (vw_v_fl (f2 e' q)).trans (hV e' q)
    rw [f1]
    have hna : ¬ gr_X (vw_r zrg1 2) (vw_f zfl1 2) n := fun z => by have := h3 n z; omega
    have I' := is_new (r := r) (F' := vw_w (vw_f zfl1 2) n (fun _ => 1)) I hn.1 hn.2.1 (by omega) (by omega) hna hn.2.2.1 hn.2.2.2 (fun g _ => vw_ws) (fun c hc g _ => vw_wn fun e => hna (e ▸ hc))
    refine ⟨_, n + 1, I', rfl, by omega, by omega, hc, fun b hb => ?_⟩
    rcases is_subn I I' (fun q hq => yy_new hn.2.2.1 hn.2.2.2 hn.1 hq) hb with e | e
    · omega
    · have := h3 b e; omega
  refine br_f (by decide) (br_f (by decide) (br_f (by decide) (br_t rfl ?_)))
  obtain ⟨φ, n, I, rfl, h1, h2, hc, h3⟩ := id h
  show ((nI n ≤ nI 48 → _) ∧ (¬ nI n ≤ nI 48 → _))
  by_cases e : n ≤ 48
  · refine br_t (nI_le e (by omega)) ?_
    exact step _ zst zmv zrg zfl zco φ n I h1 e hc h3 (fun _ _ => rfl)
  · refine br_f (nI_ge (by omega) (by omega)) ?_
    refine c2_collect h fun zst' zmv' zrg1 zco1 zfl1 hj hV => ?_
    obtain ⟨φ', n', I', q1, q2, q3, q4, q5⟩ := hj
    have en : 1 + ct_c (yy_X (yr, yf)) 48 = n' := na_inj (by omega) (by omega) q1
    exact step _ zst' zmv' zrg1 zfl1 zco1 φ' _ I' (by omega) (by omega) q4 (fun a ha => by have := q5 a ha; omega) hV
theorem nw_3 {post : Int32 → SX → Prop} (h : jc_3 (vw_r zrg 3) (vw_f zfl 3) (vw_c ztk 3) (vw_c zco 3) (vw_c znx 3) (zff 3) (zfc 3) zyn (vw_s zrm) (yr, yf)) (hn : op_n yr yf yf' p) (h24 : ct_c (yy_X (yr, yf)) 48 < 24)
    (K : ∀ a zsd' zyn' zmv' zst' ztk' zco' znx' zff' zfc' zfl' zrm' zrg', 1 ≤ a → a < 96 → (∀ r, jc_3 (upd (vw_r zrg' 3) r (nI (2 * a))) (vw_f zfl' 3) (vw_c ztk' 3) (vw_c zco' 3) (vw_c znx' 3) (zff' 3) (zfc' 3) zyn' (vw_s zrm') (upd yr r (nI (10000 + p)), yf')) →
      (∀ e', e' ≠ 3 → vw_v e' zrg' zfl' ztk' zco' znx' zff' zfc' = vw_v e' zrg zfl ztk zco znx zff zfc) → post (nI a) (zhf, zhn, zcn, zyn', zsc, zph, zsa, zgc, zsd', zs2, zrg', zfl', ztk', zco', znx', zff', zfc', zmv', zrm', zrf, zsu, zss, zgs, zfa, zst', zt2, zse, zpa, zba)) : wpX_newCell post (zhf, zhn, zcn, zyn, zsc, zph, zsa, zgc, zsd, zs2, zrg, zfl, ztk, zco, znx, zff, zfc, zmv, zrm, zrf, zsu, zss, zgs, zfa, zst, zt2, zse, zpa, zba) 3 := by
  have step : ∀ (zsd : Int32) (n : Nat) (zmv zst ztk1 zco1 znx1 zff1 zfc1 zfl1 zrm1 zrg1 : Nat → Int32), jc_3 (vw_r zrg1 3) (vw_f zfl1 3) (vw_c ztk1 3) (vw_c zco1 3) (vw_c znx1 3) (zff1 3) (zfc1 3) (nI n) (vw_s zrm1) (yr, yf) → 65 ≤ n → n < 81 →
      (∀ e', e' ≠ 3 → vw_v e' zrg1 zfl1 ztk1 zco1 znx1 zff1 zfc1 = vw_v e' zrg zfl ztk zco znx zff zfc) → wX_newYoung_13 post zhf zhn zcn (nI n) zsc zph zsa zgc zsd zs2 zrg1 zfl1 ztk1 zco1 znx1 zff1 zfc1 zmv zrm1 zrf zsu zss zgs zfa zst zt2 zse zpa zba := by
    intro zsd n zmv zst ztk1 zco1 znx1 zff1 zfc1 zfl1 zrm1 zrg1 hj h1 h2 hV
    refine nm_r (nI_1 n) ?_
    refine xp_clear (e := 3) (by omega) (by omega) fun zfl' f1 f2 => ?_
    refine K n _ _ zmv zst ztk1 zco1 znx1 zff1 zfc1 zfl' zrm1 zrg1 (by omega) (by omega) (fun r => ?_) fun e' q => (vw_v_fl (f2 e' q)).trans (hV e' q)
    rw [f1]
    obtain ⟨φ, n', I, hok, hC, hn', h65, h81, hG, hr0, hrT, hry⟩ := hj
    have en : n = n' := na_inj (by omega) (by omega) hn'
    subst en
    have hna : ¬ gr_X (vw_r zrg1 3) (vw_f zfl1 3) n := fun z => by
      rcases gr_WG_X hG z with w | w <;> omega
    have I' := is_new (r := r) (F' := vw_w (vw_f zfl1 3) n (fun _ => 1)) I hn.1 hn.2.1 (by omega) (by omega) hna hn.2.2.1 hn.2.2.2 (fun g _ => vw_ws) (fun c hc g _ => vw_wn fun e => hna (e ▸ hc))
    have hPm : ∀ a, nu_P (vw_c ztk1 3) n a → nu_P (vw_c ztk1 3) (n + 1) a := fun a ha => ha.imp id fun z => ⟨z.1, by omega⟩
    refine ⟨_, n + 1, I', hok, hC, rfl, by omega, by omega, ⟨fun r' hr' => ?_, fun a ha g hg => ?_, fun a ha => ?_⟩, hr0, hrT, fun a g b q1 q2 q3 q4 q5 q6 q7 => ?_⟩
    · by_cases e : r' = r
      · rw [e, pk_us]; exact Or.inr ⟨n, Or.inr ⟨h1, by omega⟩, rfl⟩
      · rw [pk_un e]; exact gr_wf_mono (hG.1 r' hr') hPm
    · by_cases e : a = n
      · rw [e, vw_ws]; exact Or.inl gr_od1
      · rw [vw_wn e]
        refine gr_wf_mono (hG.2.1 a ?_ g hg) hPm
        exact ha.imp id fun z => ⟨z.1, by omega⟩
    · rcases ha with z | z <;> omega
    · rw [vw_wn (by omega)] at q5
      exact hry a g b q1 q2 q3 q4 q5 q6 q7
  refine br_f (by decide) (br_f (by decide) (br_f (by decide) (br_f (by decide) (br_t rfl ?_))))
  obtain ⟨φ, n, I, hok, hC, rfl, h65, h81, hG, hr0, hrT, hry⟩ := id h
  show ((nI n = nI 81 → _) ∧ (¬ nI n = nI 81 → _))
  by_cases e : n = 81
  · refine br_t (by rw [e]) ?_
    refine c3_empty h (by omega) fun zmv' zst' ztk' zco' znx' zff' zfc' zfl' zrm' zrg' hj hV => ?_
    exact step _ 65 zmv' zst' ztk' zco' znx' zff' zfc' zfl' zrm' zrg' hj (by omega) (by omega) hV
  · refine br_f (fun z => e (na_inj (by omega) (by omega) z)) ?_
    exact step _ n zmv zst ztk zco znx zff zfc zfl zrm zrg h h65 (by omega) (fun _ _ => rfl)
end NW
end
section
/-! collector 5: marks and sweeps in small steps -/
def st_c (Q : Nat → Prop) (C : Nat → Int32) : Prop := ∀ a, C a = 0 ∨ (Q a ∧ (C a = 1 ∨ C a = 2))
def st_g (C gs : Nat → Int32) (g : Nat) : Prop := (∀ i, i < g → ∃ a, 1 ≤ a ∧ a ≤ 64 ∧ gs i = nI a ∧ C a = 1) ∧ (∀ a, C a = 1 → ∃ i, i < g ∧ gs i = nI a) ∧ (∀ i j, i < g → j < g → gs i = gs j → i = j) ∧ ct_c (fun a => C a = 1) 96 = g
def st_b (F : Nat → Nat → Int32) (C : Nat → Int32) (pe : Nat → Nat → Prop) : Prop := ∀ a f b, C a = 2 → f < 3 → F a f = nI (2 * b) → b < 96 → C b ≠ 0 ∨ pe a f
def st_up (C C' : Nat → Int32) (g g' : Nat) : Prop := (∀ a, C a ≠ 0 → C' a = C a) ∧ (∀ a, C' a = 2 → C a = 2) ∧ g ≤ g' ∧ 2 * ct_c (fun a => C' a = 0) 96 + g' ≤ 2 * ct_c (fun a => C a = 0) 96 + g ∧ (g ≠ g' → 2 * ct_c (fun a => C' a = 0) 96 + g' < 2 * ct_c (fun a => C a = 0) 96 + g)
def st_I (Q : Nat → Prop) (R : Nat → Int32) (F : Nat → Nat → Int32) (T C N : Nat → Int32) (f c : Int32) (p s g : Nat) (gs : Nat → Int32) : Prop :=
  fr_ok 64 T N f c ∧ (∀ a, Q a → 1 ≤ a ∧ a ≤ 64 ∧ T a ≠ 0) ∧ gr_WG R F Q ∧
  ((p = 0 ∧ (∀ a, C a = 0) ∧ (∀ a, 1 ≤ a → a ≤ 64 → T a ≠ 0 → Q a)) ∨
   (p = 1 ∧ st_c Q C ∧ st_g C gs g ∧ st_b F C (fun _ _ => False)) ∨
   (p = 2 ∧ 1 ≤ s ∧ s ≤ 64 ∧ (∀ a, C a = 0 ∨ (Q a ∧ C a = 2 ∧ s ≤ a)) ∧ (∀ a, 1 ≤ a → a ≤ 64 → T a ≠ 0 → (a < s ∨ C a = 2) → Q a) ∧ (∀ a, Q a → a < s ∨ C a = 2)))
theorem st_up0 {C : Nat → Int32} {g : Nat} : st_up C C g g := ⟨fun _ _ => rfl, fun _ h => h, Nat.le_refl _, Nat.le_refl _, fun h => absurd rfl h⟩
theorem st_upt {C C' C2 : Nat → Int32} {g g' g2 : Nat} (h : st_up C C' g g') (h' : st_up C' C2 g' g2) : st_up C C2 g g2 := by
  obtain ⟨a1, a2, a3, a4, a5⟩ := h
  obtain ⟨b1, b2, b3, b4, b5⟩ := h'
  refine ⟨fun a ha => ?_, fun a ha => a2 a (b2 a ha), by omega, by omega, fun hn => ?_⟩
  · have := a1 a ha
    rw [b1 a (by rw [this]; exact ha), this]
  · by_cases e : g = g'
    · have := b5 (by omega); omega
    · have := a5 e; omega
theorem st_bu {F : Nat → Nat → Int32} {C C' : Nat → Int32} {g g' : Nat} {pe : Nat → Nat → Prop} (h : st_b F C pe) (u : st_up C C' g g') : st_b F C' pe := fun a f b ha hf e hb => (h a f b (u.2.1 a ha) hf e hb).imp (fun z => by rw [u.1 b z]; exact z) id
theorem na_480 (a : Nat) : 480 + nI a = nI (5 * 96 + a) := nI_add 480 a
theorem st_g64 {C gs : Nat → Int32} {g : Nat} {Q : Nat → Prop} (hQ : ∀ a, Q a → 1 ≤ a ∧ a ≤ 64) (hc : st_c Q C) (h : st_g C gs g) : g ≤ 64 := by
  rw [← h.2.2.2]
  have := ct_mono (P := fun a => C a = 1) (Q := fun i => 1 ≤ i ∧ i < 65) 96 fun i _ z => by
    have h1 : C i = 1 := z
    rcases hc i with w | w
    · rw [w] at h1; exact absurd h1 (by decide)
    · have := hQ i w.1; omega
  rw [ct_range (by omega) 96 (by omega)] at this
  exact this
theorem st_grey {C gs : Nat → Int32} {g a : Nat} (h : st_g C gs g) (h1 : 1 ≤ a) (h2 : a ≤ 64) (hc : C a = 0) (hC : ∀ b, C b = 1 → b < 96) : st_g (upd C a 1) (upd gs g (nI a)) (g + 1) := by
  have n01 : ¬ (0 : Int32) = 1 := by decide
  refine ⟨fun i hi => ?_, fun b hb => ?_, fun i j hi hj e => ?_, ?_⟩
  · by_cases ei : i = g
    · exact ⟨a, h1, h2, by rw [ei, pk_us], pk_us⟩
    · obtain ⟨b, q1, q2, q3, q4⟩ := h.1 i (by omega)
      refine ⟨b, q1, q2, by rw [pk_un ei]; exact q3, ?_⟩
      have : b ≠ a := fun z => n01 (by rw [← hc, ← z]; exact q4)
      rw [pk_un this]; exact q4
  · by_cases eb : b = a
    · exact ⟨g, by omega, by rw [pk_us, eb]⟩
    · rw [pk_un eb] at hb
      obtain ⟨i, hi, e⟩ := h.2.1 b hb
      exact ⟨i, by omega, by rw [pk_un (by omega)]; exact e⟩
  · have key : ∀ i, i < g → gs i ≠ nI a := fun i hi e => by
      obtain ⟨b, q1, q2, q3, q4⟩ := h.1 i hi
      have : b = a := na_inj (by omega) (by omega) (q3.symm.trans e)
      exact n01 (by rw [← hc, ← this]; exact q4)
    by_cases ei : i = g
    · by_cases ej : j = g
      · omega
      · rw [ei, pk_us, pk_un ej] at e; exact absurd e.symm (key j (by omega))
    · by_cases ej : j = g
      · rw [ej, pk_us, pk_un ei] at e; exact absurd e (key i (by omega))
      · rw [pk_un ei, pk_un ej] at e; exact h.2.2.1 i j (by omega) (by omega) e
  · rw [ct_add (P := fun b => C b = 1) (a := a) 96 (by omega) (fun z => n01 (hc.symm.trans z)) (fun i _ => ?_), h.2.2.2]
    show upd C a 1 i = 1 ↔ C i = 1 ∨ i = a
    by_cases e : i = a
    · rw [e, pk_us]; exact ⟨fun _ => Or.inr rfl, fun _ => rfl⟩
    · rw [pk_un e]; exact ⟨Or.inl, fun z => z.resolve_right e⟩
theorem st_greyup {C : Nat → Int32} {g a : Nat} (h9 : a < 96) (hc : C a = 0) : st_up C (upd C a 1) g (g + 1) := by
  have e : ct_c (fun b => C b = 0) 96 = ct_c (fun b => upd C a 1 b = 0) 96 + 1 := by
    refine ct_add (a := a) 96 h9 (by show ¬ upd C a 1 a = 0; rw [pk_us]; decide) fun i _ => ?_
    show C i = 0 ↔ upd C a 1 i = 0 ∨ i = a
    by_cases e : i = a
    · subst e; exact ⟨fun _ => Or.inr rfl, fun _ => hc⟩
    · rw [pk_un e]; exact ⟨Or.inl, fun z => z.resolve_right e⟩
  refine ⟨fun b hb => pk_un fun z => hb (z ▸ hc), fun b hb => ?_, by omega, by omega, fun _ => by omega⟩
  by_cases eb : b = a
  · rw [eb, pk_us] at hb; exact absurd hb (by decide)
  · rw [pk_un eb] at hb; exact hb
theorem st_pop {C gs : Nat → Int32} {g a : Nat} (h : st_g C gs (g + 1)) (h2 : a ≤ 64) (e : gs g = nI a) (hC : ∀ b, C b = 1 → b ≤ 64) : st_g (upd C a 2) gs g := by
  obtain ⟨a', q1, q2, q3, q4⟩ := h.1 g (by omega)
  have ea : a' = a := na_inj (by omega) (by omega) (q3.symm.trans e)
  subst ea
  refine ⟨fun i hi => ?_, fun b hb => ?_, fun i j hi hj => h.2.2.1 i j (by omega) (by omega), ?_⟩
  · obtain ⟨b, r1, r2, r3, r4⟩ := h.1 i (by omega)
    refine ⟨b, r1, r2, r3, ?_⟩
    have : b ≠ a' := fun z => by
      have := h.2.2.1 i g (by omega) (by omega) (by rw [r3, e, z])
      omega
    rw [pk_un this]; exact r4
  · by_cases eb : b = a'
    · rw [eb, pk_us] at hb; exact absurd hb (by decide)
    · rw [pk_un eb] at hb
      obtain ⟨i, hi, ei⟩ := h.2.1 b hb
      refine ⟨i, ?_, ei⟩
      have : i ≠ g := fun z => eb (na_inj (by have := hC b hb; omega) (by omega) (ei.symm.trans (z ▸ e)))
      omega
  · have := ct_add (P := fun b => upd C a' 2 b = 1) (Q := fun b => C b = 1) (a := a') 96 (by omega) (by rw [pk_us]; decide) (fun i _ => by
      by_cases e : i = a'
      · subst e; exact ⟨fun _ => Or.inr rfl, fun _ => q4⟩
      · rw [pk_un e]; exact ⟨Or.inl, fun z => z.resolve_right e⟩)
    have := h.2.2.2
    omega
section C5
variable {zhf zhn zcn zyn zsc zph zsa zgc zsd zs2 : Int32} {zrg zfl ztk zco znx zff zfc zmv zrm zrf zsu zss zgs zfa zst zt2 zse zpa zba : Nat → Int32}
theorem xs_shade {post : SX → Prop} {Q : Nat → Prop} {g : Nat} {x : Int32} (hQ : ∀ a, Q a → 1 ≤ a ∧ a ≤ 64) (hx : gr_wf Q x) (hc : st_c Q (vw_c zco 5)) (hg : st_g (vw_c zco 5) zgs g)
    (K : ∀ zco' zgs' g', st_c Q (vw_c zco' 5) → st_g (vw_c zco' 5) zgs' g' → st_up (vw_c zco 5) (vw_c zco' 5) g g' → (∀ b, b < 96 → x = nI (2 * b) → vw_c zco' 5 b ≠ 0) → (∀ e', e' ≠ 5 → vw_c zco' e' = vw_c zco e') → post (zhf, zhn, zcn, zyn, zsc, zph, zsa, nI g', zsd, zs2, zrg, zfl, ztk, zco', znx, zff, zfc, zmv, zrm, zrf, zsu, zss, zgs', zfa, zst, zt2, zse, zpa, zba)) :
    wpX_shade post (zhf, zhn, zcn, zyn, zsc, zph, zsa, nI g, zsd, zs2, zrg, zfl, ztk, zco, znx, zff, zfc, zmv, zrm, zrf, zsu, zss, zgs, zfa, zst, zt2, zse, zpa, zba) x := by
  have h64 := st_g64 hQ hc hg
  have hlt : ∀ b, vw_c zco 5 b = 1 → b < 96 := fun b hb => by
    rcases hc b with w | w
    · rw [w] at hb; exact absurd hb (by decide)
    · have := hQ b w.1; omega
  rcases hx with ho | ⟨a, ha, rfl⟩
  · refine nm_e ?_
    refine xp_odd ho ?_
    exact br_t rfl (K zco zgs g hc hg st_up0 (fun b hb e => absurd e (gr_odne ho (by omega))) (fun _ _ => rfl))
  · have ha' := hQ a ha
    refine nm_r (gr_sh (by omega)) ?_
    refine xp_ref (by omega) ?_
    refine br_f na_n10 ?_
    rw [na_480, nI_clamp (n := 5 * 96 + a) (by omega)]
    refine ⟨vp_in_nI (by omega) (by omega), ?_⟩
    have hC : vw_c zco 5 a = zco (5 * 96 + a) := vw_c_at (by omega)
    by_cases h0 : zco (5 * 96 + a) = 0
    · refine br_t h0 ⟨vp_in_nI (by omega) (by omega), ?_⟩
      rw [na_1]
      refine nm_e ⟨vp_in_nI (by omega) (by omega), ?_⟩
      rw [nI_clamp (n := g) (by omega), na_b (by omega)]
      refine nm_e (nm_r (nI_1 g) ?_)
      refine K _ _ (g + 1) (fun b => ?_) ?_ ?_ (fun b hb e => ?_) (fun e' n => vw_c_o (by omega) n)
      · rw [vw_c_s (by omega)]
        by_cases e : b = a
        · rw [e, pk_us]; exact Or.inr ⟨ha, Or.inl rfl⟩
        · rw [pk_un e]; exact hc b
      · rw [vw_c_s (by omega)]; exact st_grey hg ha'.1 ha'.2 (hC.trans h0) hlt
      · rw [vw_c_s (by omega)]; exact st_greyup (by omega) (hC.trans h0)
      · rw [vw_c_s (by omega), ← na_inj2 (by omega) hb e, pk_us]; exact na_n10
    · refine br_f h0 (K zco zgs g hc hg st_up0 (fun b hb e => ?_) (fun _ _ => rfl))
      rw [← na_inj2 (by omega) hb e, hC]; exact h0
theorem xs_regs {post : SX → Prop} {Q : Nat → Prop} {g0 : Nat} (hQ : ∀ a, Q a → 1 ≤ a ∧ a ≤ 64) (hR : ∀ r, r < 6 → gr_wf Q (vw_r zrg 5 r)) (hc : st_c Q (vw_c zco 5)) (hg : st_g (vw_c zco 5) zgs g0)
    (K : ∀ zco' zgs' g', st_c Q (vw_c zco' 5) → st_g (vw_c zco' 5) zgs' g' → st_up (vw_c zco 5) (vw_c zco' 5) g0 g' → (∀ r, r < 6 → ∀ b, b < 96 → vw_r zrg 5 r = nI (2 * b) → vw_c zco' 5 b ≠ 0) → (∀ e', e' ≠ 5 → vw_c zco' e' = vw_c zco e') → post (zhf, zhn, zcn, zyn, zsc, zph, zsa, nI g', zsd, zs2, zrg, zfl, ztk, zco', znx, zff, zfc, zmv, zrm, zrf, zsu, zss, zgs', zfa, zst, zt2, zse, zpa, zba)) :
    wpX_shadeRegisters post (zhf, zhn, zcn, zyn, zsc, zph, zsa, nI g0, zsd, zs2, zrg, zfl, ztk, zco, znx, zff, zfc, zmv, zrm, zrf, zsu, zss, zgs, zfa, zst, zt2, zse, zpa, zba) := by
  show ∃ n2 : Nat, wX_shadeRegisters_2 post n2 (nI 0) zhf zhn zcn zyn zsc zph zsa (nI g0) zsd zs2 zrg zfl ztk zco znx zff zfc zmv zrm zrf zsu zss zgs zfa zst zt2 zse zpa zba
  refine ⟨7, ?_⟩
  have key : ∀ (n r g : Nat) (zco1 zgs : Nat → Int32), r ≤ 6 → 6 < n + r → st_c Q (vw_c zco1 5) → st_g (vw_c zco1 5) zgs g → st_up (vw_c zco 5) (vw_c zco1 5) g0 g → (∀ r', r' < r → ∀ b, b < 96 → vw_r zrg 5 r' = nI (2 * b) → vw_c zco1 5 b ≠ 0) → (∀ e', e' ≠ 5 → vw_c zco1 e' = vw_c zco e') →
      wX_shadeRegisters_2 post n (nI r) zhf zhn zcn zyn zsc zph zsa (nI g) zsd zs2 zrg zfl ztk zco1 znx zff zfc zmv zrm zrf zsu zss zgs zfa zst zt2 zse zpa zba := by
    intro n
    induction n with
    | zero => intro r g _ _ h1 h2; omega
    | succ n ih =>
      intro r g zco1 zgs h1 h2 hc1 hg1 hu hr ho
      by_cases h6 : r = 6
      · subst h6
        exact br_t (by decide) (K zco1 zgs g hc1 hg1 hu hr ho)
      · refine br_f (nI_ge (b := 6) (by omega) (by omega)) ?_
        rw [show (30 : Int32) + nI r = nI (5 * 6 + r) from nI_add 30 r, nI_clamp (by omega)]
        refine ⟨vp_in_nI (by omega) (by omega), ?_⟩
        have hRr : vw_r zrg 5 r = zrg (5 * 6 + r) := vw_r_at (by omega)
        refine xs_shade hQ (by rw [← hRr]; exact hR r (by omega)) hc1 hg1 fun zco2 zgs2 g2 hc2 hg2 hu2 hm ho2 => ?_
        refine nm_r (nI_1 r) ?_
        refine ih (r + 1) g2 zco2 zgs2 (by omega) (by omega) hc2 hg2 (st_upt hu hu2) (fun r' hr' b hb e => ?_) (fun e' n => (ho2 e' n).trans (ho e' n))
        by_cases er : r' = r
        · subst er; exact hm b hb (hRr.symm.trans e)
        · rw [hu2.1 b (hr r' (by omega) b hb e)]; exact hr r' (by omega) b hb e
  exact key 7 0 g0 zco zgs (by omega) (by omega) hc hg st_up0 (fun r hr => absurd hr (Nat.not_lt_zero r)) (fun _ _ => rfl)
theorem xs_start {post : SX → Prop} {Q : Nat → Prop} (hok : fr_ok 64 (vw_c ztk 5) (vw_c znx 5) (zff 5) (zfc 5)) (hQ : ∀ a, Q a → 1 ≤ a ∧ a ≤ 64 ∧ vw_c ztk 5 a ≠ 0) (hG : gr_WG (vw_r zrg 5) (vw_f zfl 5) Q) (h0 : ∀ a, vw_c zco 5 a = 0)
    (K : ∀ zco' zgs' g' s, st_I Q (vw_r zrg 5) (vw_f zfl 5) (vw_c ztk 5) (vw_c zco' 5) (vw_c znx 5) (zff 5) (zfc 5) 1 s g' zgs' → (∀ e', e' ≠ 5 → vw_v e' zrg zfl ztk zco' znx zff zfc = vw_v e' zrg zfl ztk zco znx zff zfc) → post (zhf, zhn, zcn, zyn, zsc, nI 1, zsa, nI g', zsd, zs2, zrg, zfl, ztk, zco', znx, zff, zfc, zmv, zrm, zrf, zsu, zss, zgs', zfa, zst, zt2, zse, zpa, zba)) :
    wpX_startMarking post (zhf, zhn, zcn, zyn, zsc, zph, zsa, zgc, zsd, zs2, zrg, zfl, ztk, zco, znx, zff, zfc, zmv, zrm, zrf, zsu, zss, zgs, zfa, zst, zt2, zse, zpa, zba) := by
  unfold wpX_startMarking
  have hQ' : ∀ a, Q a → 1 ≤ a ∧ a ≤ 64 := fun a ha => ⟨(hQ a ha).1, (hQ a ha).2.1⟩
  refine xs_regs (g0 := 0) hQ' hG.1 (fun a => Or.inl (h0 a)) ⟨fun i hi => absurd hi (Nat.not_lt_zero i), fun a ha => by rw [h0 a] at ha; exact absurd ha (by decide), fun i j hi => absurd hi (Nat.not_lt_zero i), ct_zero 96 fun i _ z => by rw [h0 i] at z; exact absurd z (by decide)⟩ fun zco' zgs' g' hc hg hu _ ho => ?_
  refine K zco' zgs' g' 0 ⟨hok, hQ, hG, Or.inr (Or.inl ⟨rfl, hc, hg, fun a f b ha => ?_⟩)⟩ (fun e' n => vw_v_co (ho e' n))
  have := hu.2.1 a ha
  rw [h0 a] at this; exact absurd this (by decide)
noncomputable def st_mu (C : Nat → Int32) (p s g : Nat) : Nat := if p = 1 then 2 * ct_c (fun a => C a = 0) 96 + g + 66 else if p = 2 then 65 - s else 0
theorem xs_fields {post : SX → Prop} {Q : Nat → Prop} {a : Nat} (hQ : ∀ a, Q a → 1 ≤ a ∧ a ≤ 64) (ha : a < 96) (hF : ∀ f, f < 3 → gr_wf Q (vw_f zfl 5 a f)) (C0 : Nat → Int32) (g0 : Nat) (zcoi : Nat → Int32)
    (K : ∀ zco' zgs' g', st_c Q (vw_c zco' 5) → st_g (vw_c zco' 5) zgs' g' → st_up C0 (vw_c zco' 5) g0 g' → st_b (vw_f zfl 5) (vw_c zco' 5) (fun _ _ => False) → (∀ e', e' ≠ 5 → vw_c zco' e' = vw_c zcoi e') → post (zhf, zhn, zcn, zyn, zsc, zph, zsa, nI g', zsd, zs2, zrg, zfl, ztk, zco', znx, zff, zfc, zmv, zrm, zrf, zsu, zss, zgs', zfa, zst, zt2, zse, zpa, zba)) :
    ∀ (n f g : Nat) (zco zgs : Nat → Int32), f ≤ 3 → 3 < n + f → st_c Q (vw_c zco 5) → st_g (vw_c zco 5) zgs g → st_up C0 (vw_c zco 5) g0 g → st_b (vw_f zfl 5) (vw_c zco 5) (fun c h => c = a ∧ f ≤ h) → (∀ e', e' ≠ 5 → vw_c zco e' = vw_c zcoi e') →
      wX_markStep_62 post (nI a) n (nI f) zhf zhn zcn zyn zsc zph zsa (nI g) zsd zs2 zrg zfl ztk zco znx zff zfc zmv zrm zrf zsu zss zgs zfa zst zt2 zse zpa zba := by
  intro n
  induction n with
  | zero => intro f g _ _ h1 h2; omega
  | succ n ih =>
    intro f g zco zgs h1 h2 hc hg hu hb ho
    by_cases h3 : f = 3
    · subst h3
      refine br_t (by decide) (K zco zgs g hc hg hu (fun c h b q1 q2 q3 q4 => ?_) ho)
      exact (hb c h b q1 q2 q3 q4).imp id fun z => by omega
    · refine br_f (nI_ge (b := 3) (by omega) (by omega)) ?_
      refine xp_fieldOf (e := 5) (by omega) ha (by omega) ?_
      refine xs_shade hQ (hF f (by omega)) hc hg fun zco2 zgs2 g2 hc2 hg2 hu2 hm ho2 => ?_
      refine nm_r (nI_1 f) ?_
      refine ih (f + 1) g2 zco2 zgs2 (by omega) (by omega) hc2 hg2 (st_upt hu hu2) (fun c h b q1 q2 q3 q4 => ?_) (fun e' n => (ho2 e' n).trans (ho e' n))
      rcases st_bu hb hu2 c h b q1 q2 q3 q4 with z | z
      · exact Or.inl z
      · by_cases eh : h = f
        · left; rw [z.1, eh] at q3; exact hm b q4 q3
        · exact Or.inr ⟨z.1, by omega⟩
end C5
end
section
section C5
variable {zhf zhn zcn zyn zsc zph zsa zgc zsd zs2 : Int32} {zrg zfl ztk zco znx zff zfc zmv zrm zrf zsu zss zgs zfa zst zt2 zse zpa zba : Nat → Int32}
theorem st_mu1 {C : Nat → Int32} {s g : Nat} : st_mu C 1 s g = 2 * ct_c (fun a => C a = 0) 96 + g + 66 := if_pos rfl
theorem st_mu2 {C : Nat → Int32} {s g : Nat} : st_mu C 2 s g = 65 - s := by
  unfold st_mu; rw [if_neg (by omega), if_pos rfl]
theorem st_mu0 {C : Nat → Int32} {s g : Nat} : st_mu C 0 s g = 0 := by
  unfold st_mu; rw [if_neg (by omega), if_neg (by omega)]
theorem xs_mark {post : SX → Prop} {Q : Nat → Prop} {s g : Nat} (J : st_I Q (vw_r zrg 5) (vw_f zfl 5) (vw_c ztk 5) (vw_c zco 5) (vw_c znx 5) (zff 5) (zfc 5) 1 s g zgs)
    (K : ∀ zco' zgs' g' p' s' Q', (∀ a, Q' a → Q a) → st_I Q' (vw_r zrg 5) (vw_f zfl 5) (vw_c ztk 5) (vw_c zco' 5) (vw_c znx 5) (zff 5) (zfc 5) p' s' g' zgs' → st_mu (vw_c zco' 5) p' s' g' < st_mu (vw_c zco 5) 1 s g → (∀ e', e' ≠ 5 → vw_v e' zrg zfl ztk zco' znx zff zfc = vw_v e' zrg zfl ztk zco znx zff zfc) →
      post (zhf, zhn, zcn, zyn, zsc, nI p', nI s', nI g', zsd, zs2, zrg, zfl, ztk, zco', znx, zff, zfc, zmv, zrm, zrf, zsu, zss, zgs', zfa, zst, zt2, zse, zpa, zba)) : wpX_markStep post (zhf, zhn, zcn, zyn, zsc, nI 1, nI s, nI g, zsd, zs2, zrg, zfl, ztk, zco, znx, zff, zfc, zmv, zrm, zrf, zsu, zss, zgs, zfa, zst, zt2, zse, zpa, zba) := by
  obtain ⟨hok, hQT, hG, hJ⟩ := J
  obtain ⟨_, hc, hg, hb⟩ : 1 = 1 ∧ st_c Q (vw_c zco 5) ∧ st_g (vw_c zco 5) zgs g ∧ st_b (vw_f zfl 5) (vw_c zco 5) (fun _ _ => False) := by
    rcases hJ with z | z | z
    · exact absurd z.1 (by omega)
    · exact z
    · exact absurd z.1 (by omega)
  have hQ : ∀ a, Q a → 1 ≤ a ∧ a ≤ 64 := fun a ha => ⟨(hQT a ha).1, (hQT a ha).2.1⟩
  have h64 := st_g64 hQ hc hg
  cases g with
  | zero =>
    refine br_t rfl ?_
    refine xs_regs hQ hG.1 hc hg fun zco' zgs' g' hc' hg' hu hr ho => ?_
    have h64' := st_g64 hQ hc' hg'
    by_cases e : g' = 0
    · subst e
      refine br_t rfl ?_
      have n1 : ∀ a, vw_c zco' 5 a ≠ 1 := fun a ha => by
        obtain ⟨i, hi, _⟩ := hg'.2.1 a ha
        omega
      have bl : ∀ a, vw_c zco' 5 a ≠ 0 → Q a ∧ vw_c zco' 5 a = 2 := fun a ha => by
        have := (hc' a).resolve_left ha
        exact ⟨this.1, this.2.resolve_left (n1 a)⟩
      have hb' := st_bu hb hu
      refine K zco' zgs' 0 2 1 (fun a => vw_c zco' 5 a = 2) (fun a ha => (bl a (by rw [ha]; decide)).1) ⟨hok, fun a ha => hQT a (bl a (by rw [ha]; decide)).1, ⟨fun r hr6 => ?_, fun a ha f hf => ?_, fun a ha => hG.2.2 a (bl a (by rw [ha]; decide)).1⟩, Or.inr (Or.inr ⟨rfl, by omega, by omega, fun a => ?_, fun a h1 h2 h3 h4 => ?_, fun a ha => Or.inr ha⟩)⟩ ?_ (fun e' n => vw_v_co (ho e' n))
      · exact gr_wfm (hG.1 r hr6) fun b hb e => (bl b (hr r hr6 b (hG.2.2 b hb).2 e)).2
      · exact gr_wfm (hG.2.1 a (bl a (by rw [ha]; decide)).1 f hf) fun b hb e => (bl b ((hb' a f b ha hf e (hG.2.2 b hb).2).resolve_right id)).2
      · by_cases h0 : vw_c zco' 5 a = 0
        · exact Or.inl h0
        · exact Or.inr ⟨(bl a h0).2, (bl a h0).2, (hQ a (bl a h0).1).1⟩
      · exact h4.resolve_left (by omega)
      · rw [st_mu1, st_mu2]; omega
    · refine br_f (nI_ne0 (by omega) (by omega)) ?_
      refine K zco' zgs' g' 1 s Q (fun _ h => h) ⟨hok, hQT, hG, Or.inr (Or.inl ⟨rfl, hc', hg', st_bu hb hu⟩)⟩ ?_ (fun e' n => vw_v_co (ho e' n))
      rw [st_mu1, st_mu1]
      have := hu.2.2.2.2 (by omega)
      omega
  | succ g =>
    refine br_f (nI_ne0 (by omega) (by omega)) (nm_r (nI_pred g) ⟨vp_in_nI (by omega) (by omega), ?_⟩)
    obtain ⟨a, a1, a2, a3, a4⟩ := hg.1 g (by omega)
    rw [nI_clamp (n := g) (by omega)]
    refine nm_r a3 ?_
    rw [na_480, nI_clamp (n := 5 * 96 + a) (by omega), na_2]
    refine ⟨vp_in_nI (by omega) (by omega), nm_e ⟨4, ?_⟩⟩
    have hQa : Q a := by
      rcases hc a with z | z
      · rw [z] at a4; exact absurd a4 (by decide)
      · exact z.1
    have hle : ∀ b, vw_c zco 5 b = 1 → b ≤ 64 := fun b hb => by
      rcases hc b with z | z
      · rw [z] at hb; exact absurd hb (by decide)
      · exact (hQ b z.1).2
    have hg2 := st_pop hg a2 a3 hle
    have hc2 : st_c Q (upd (vw_c zco 5) a 2) := fun b => by
      by_cases e : b = a
      · rw [e, pk_us]; exact Or.inr ⟨hQa, Or.inr rfl⟩
      · rw [pk_un e]; exact hc b
    have hw2 : ct_c (fun b => upd (vw_c zco 5) a 2 b = 0) 96 = ct_c (fun b => vw_c zco 5 b = 0) 96 := ct_congr 96 fun i _ => by
      by_cases e : i = a
      · rw [e, pk_us, a4]; decide
      · rw [pk_un e]
    rw [← vw_c_s (g := zco) (e := 5) (x := 2) (show a < 96 by omega)] at hg2 hc2 hw2
    refine xs_fields (post := post) (Q := Q) hQ (by omega) (hG.2.1 a hQa) (vw_c (upd zco (5 * 96 + a) 2) 5) g (upd zco (5 * 96 + a) 2) (fun zco' zgs' g' hc' hg' hu hb' ho => ?_) 4 0 g _ zgs (by omega) (by omega) hc2 hg2 st_up0 (fun c f b q1 q2 q3 q4 => ?_) (fun _ _ => rfl)
    · refine K zco' zgs' g' 1 s Q (fun _ h => h) ⟨hok, hQT, hG, Or.inr (Or.inl ⟨rfl, hc', hg', hb'⟩)⟩ ?_ (fun e' n => vw_v_co ((ho e' n).trans (vw_c_o (by omega) n)))
      rw [st_mu1, st_mu1]
      have := hu.2.2.2.1
      omega
    · rw [vw_c_s (by omega)] at q1 ⊢
      by_cases e : c = a
      · exact Or.inr ⟨e, by omega⟩
      · rw [pk_un e] at q1
        left
        by_cases eb : b = a
        · rw [eb, pk_us]; decide
        · rw [pk_un eb]; exact (hb c f b q1 q2 q3 q4).resolve_right id
theorem st_sw {Q : Nat → Prop} {R : Nat → Int32} {F : Nat → Nat → Int32} {T C N T' C' N' : Nat → Int32} {f c f' c' : Int32} {s g : Nat} {gs : Nat → Int32} (J : st_I Q R F T C N f c 2 s g gs) (hok : fr_ok 64 T' N' f' c') (hC : ∀ a, C' a = if a = s then 0 else C a)
    (hT : ∀ a, a ≠ s → T' a = T a) (hs1 : T s ≠ 0 → C s ≠ 0 → T' s ≠ 0) (hs2 : T' s ≠ 0 → T s ≠ 0 ∧ C s ≠ 0) :
    (s < 64 → st_I Q R F T' C' N' f' c' 2 (s + 1) g gs) ∧ (s = 64 → st_I Q R F T' C' N' f' c' 0 (s + 1) g gs) := by
  obtain ⟨_, hQT, hG, hJ⟩ := J
  obtain ⟨h1, h2, hc, hTQ, hQs⟩ : 1 ≤ s ∧ s ≤ 64 ∧ (∀ a, C a = 0 ∨ (Q a ∧ C a = 2 ∧ s ≤ a)) ∧ (∀ a, 1 ≤ a → a ≤ 64 → T a ≠ 0 → (a < s ∨ C a = 2) → Q a) ∧ (∀ a, Q a → a < s ∨ C a = 2) := by
    rcases hJ with z | z | z
    · exact absurd z.1 (by omega)
    · exact absurd z.1 (by omega)
    · exact z.2
  have hCs : C' s = 0 := by rw [hC, if_pos rfl]
  have hCn : ∀ a, a ≠ s → C' a = C a := fun a h => by rw [hC, if_neg h]
  have hQT' : ∀ a, Q a → 1 ≤ a ∧ a ≤ 64 ∧ T' a ≠ 0 := fun a ha => by
    have := hQT a ha
    refine ⟨this.1, this.2.1, ?_⟩
    by_cases e : a = s
    · subst e
      refine hs1 this.2.2 ?_
      rw [(hQs a ha).resolve_left (by omega)]; decide
    · rw [hT a e]; exact this.2.2
  have hTQ' : ∀ a, 1 ≤ a → a ≤ 64 → T' a ≠ 0 → (a < s + 1 ∨ C' a = 2) → Q a := fun a q1 q2 q3 q4 => by
    by_cases e : a = s
    · subst e
      exact ((hc a).resolve_left (hs2 q3).2).1
    · rw [hT a e] at q3; rw [hCn a e] at q4
      exact hTQ a q1 q2 q3 (q4.imp (fun z => by omega) id)
  constructor
  · intro hs
    refine ⟨hok, hQT', hG, Or.inr (Or.inr ⟨rfl, by omega, by omega, fun a => ?_, hTQ', fun a ha => ?_⟩)⟩
    · by_cases e : a = s
      · left; rw [e]; exact hCs
      · rw [hCn a e]; exact (hc a).imp id fun z => ⟨z.1, z.2.1, by omega⟩
    · by_cases e : a = s
      · left; omega
      · rw [hCn a e]; exact (hQs a ha).imp (fun z => by omega) id
  · intro hs
    refine ⟨hok, hQT', hG, Or.inl ⟨rfl, fun a => ?_, fun a q1 q2 q3 => hTQ' a q1 q2 q3 (Or.inl (by omega))⟩⟩
    by_cases e : a = s
    · rw [e]; exact hCs
    · rw [hCn a e]
      rcases hc a with z | z
      · exact z
      · have := hQT a z.1; omega
theorem xs_sweep {post : SX → Prop} {Q : Nat → Prop} {s g : Nat} (J : st_I Q (vw_r zrg 5) (vw_f zfl 5) (vw_c ztk 5) (vw_c zco 5) (vw_c znx 5) (zff 5) (zfc 5) 2 s g zgs) (hs1 : 1 ≤ s) (hs2 : s ≤ 64)
    (K : ∀ ztk' zco' znx' zff' zfc' p', (p' = 0 ∨ p' = 2) → st_I Q (vw_r zrg 5) (vw_f zfl 5) (vw_c ztk' 5) (vw_c zco' 5) (vw_c znx' 5) (zff' 5) (zfc' 5) p' (s + 1) g zgs → (∀ e', e' ≠ 5 → vw_v e' zrg zfl ztk' zco' znx' zff' zfc' = vw_v e' zrg zfl ztk zco znx zff zfc) →
      post (zhf, zhn, zcn, zyn, zsc, nI p', nI (s + 1), zgc, zsd, zs2, zrg, zfl, ztk', zco', znx', zff', zfc', zmv, zrm, zrf, zsu, zss, zgs, zfa, zst, zt2, zse, zpa, zba)) : wpX_sweepStep post (zhf, zhn, zcn, zyn, zsc, nI 2, nI s, zgc, zsd, zs2, zrg, zfl, ztk, zco, znx, zff, zfc, zmv, zrm, zrf, zsu, zss, zgs, zfa, zst, zt2, zse, zpa, zba) := by
  have h9 : s < 96 := by omega
  have hT : vw_c ztk 5 s = ztk (5 * 96 + s) := vw_c_at h9
  have hC : vw_c zco 5 s = zco (5 * 96 + s) := vw_c_at h9
  have fin : ∀ ztk' zco' znx' zff' zfc' : Nat → Int32, (s < 64 → st_I Q (vw_r zrg 5) (vw_f zfl 5) (vw_c ztk' 5) (vw_c zco' 5) (vw_c znx' 5) (zff' 5) (zfc' 5) 2 (s + 1) g zgs) ∧ (s = 64 → st_I Q (vw_r zrg 5) (vw_f zfl 5) (vw_c ztk' 5) (vw_c zco' 5) (vw_c znx' 5) (zff' 5) (zfc' 5) 0 (s + 1) g zgs) →
      (∀ e', e' ≠ 5 → vw_v e' zrg zfl ztk' zco' znx' zff' zfc' = vw_v e' zrg zfl ztk zco znx zff zfc) → wX_sweepStep_46 post zhf zhn zcn zyn zsc (nI 2) (nI s) zgc zsd zs2 zrg zfl ztk' zco' znx' zff' zfc' zmv zrm zrf zsu zss zgs zfa zst zt2 zse zpa zba := by
    intro ztk' zco' znx' zff' zfc' hJ hV
    refine nm_r (nI_1 s) ?_
    by_cases e : s = 64
    · refine br_f (nI_ge (a := 64) (by omega) (by omega)) ?_
      exact K ztk' zco' znx' zff' zfc' 0 (Or.inl rfl) (hJ.2 e) hV
    · refine br_t (nI_le (b := 64) (by omega) (by omega)) ?_
      exact K ztk' zco' znx' zff' zfc' 2 (Or.inr rfl) (hJ.1 (by omega)) hV
  have f39 : (vw_c ztk 5 s ≠ 0 → vw_c zco 5 s ≠ 0) → wX_sweepStep_39 post (nI (5 * 96 + s)) zhf zhn zcn zyn zsc (nI 2) (nI s) zgc zsd zs2 zrg zfl ztk zco znx zff zfc zmv zrm zrf zsu zss zgs zfa zst zt2 zse zpa zba := by
    intro hz
    refine And.intro (vp_in_nI (by omega) (by omega)) ?_
    rw [nI_clamp (by omega), na_0]
    refine nm_e ?_
    refine fin ztk _ znx zff zfc (st_sw J J.1 (fun a => ?_) (fun _ _ => rfl) (fun h _ => h) (fun h => ⟨h, hz h⟩)) (fun e' n => vw_v_co (vw_c_o h9 n))
    rw [vw_c_s h9]; rfl
  refine nm_r (na_480 s) ⟨vp_in_nI (by omega) (by omega), ?_⟩
  rw [nI_clamp (n := 5 * 96 + s) (by omega)]
  by_cases t0 : ztk (5 * 96 + s) = 0
  · exact br_t t0 (f39 fun z => absurd (hT.trans t0) z)
  · refine br_f t0 ⟨vp_in_nI (by omega) (by omega), ?_⟩
    by_cases c0 : zco (5 * 96 + s) = 0
    · refine br_t c0 ?_
      refine xf_release (e := 5) (by omega) hs1 hs2 (by omega) J.1 (by rw [hT]; exact t0) fun ztk' zco' znx' zff' zfc' r1 r2 r3 r4 => ?_
      refine fin ztk' zco' znx' zff' zfc' (st_sw J r3 (fun a => by rw [r2]; rfl) (fun a h => by rw [r1, pk_un h]) (fun _ h => absurd (hC.trans c0) h) (fun h => ?_)) r4
      rw [r1, pk_us] at h; exact absurd rfl h
    · exact br_f c0 (f39 fun _ => by rw [hC]; exact c0)
/-- one step: of marking, or of sweeping -/
theorem xs_one {post : SX → Prop} {Q : Nat → Prop} {p s g : Nat} (J : st_I Q (vw_r zrg 5) (vw_f zfl 5) (vw_c ztk 5) (vw_c zco 5) (vw_c znx 5) (zff 5) (zfc 5) p s g zgs) (hp : p ≠ 0)
    (K : ∀ ztk' zco' znx' zff' zfc' zgs' g' p' s' Q', (∀ a, Q' a → Q a) → st_I Q' (vw_r zrg 5) (vw_f zfl 5) (vw_c ztk' 5) (vw_c zco' 5) (vw_c znx' 5) (zff' 5) (zfc' 5) p' s' g' zgs' → st_mu (vw_c zco' 5) p' s' g' < st_mu (vw_c zco 5) p s g → (∀ e', e' ≠ 5 → vw_v e' zrg zfl ztk' zco' znx' zff' zfc' = vw_v e' zrg zfl ztk zco znx zff zfc) →
      post (zhf, zhn, zcn, zyn, zsc, nI p', nI s', nI g', zsd, zs2, zrg, zfl, ztk', zco', znx', zff', zfc', zmv, zrm, zrf, zsu, zss, zgs', zfa, zst, zt2, zse, zpa, zba)) :
    (nI p = 1 → wpX_markStep post (zhf, zhn, zcn, zyn, zsc, nI p, nI s, nI g, zsd, zs2, zrg, zfl, ztk, zco, znx, zff, zfc, zmv, zrm, zrf, zsu, zss, zgs, zfa, zst, zt2, zse, zpa, zba)) ∧ (¬ nI p = 1 → wpX_sweepStep post (zhf, zhn, zcn, zyn, zsc, nI p, nI s, nI g, zsd, zs2, zrg, zfl, ztk, zco, znx, zff, zfc, zmv, zrm, zrf, zsu, zss, zgs, zfa, zst, zt2, zse, zpa, zba)) := by
  have hJ := J.2.2.2
  rcases hJ with z | ⟨rfl, _⟩ | ⟨rfl, z1, z2, _⟩
  · exact absurd z.1 hp
  · refine br_t rfl ?_
    exact xs_mark J fun zco' zgs' g' p' s' Q' hQ' J' hmu hV => K ztk zco' znx zff zfc zgs' g' p' s' Q' hQ' J' hmu hV
  · refine br_f (by decide) ?_
    refine xs_sweep J z1 z2 fun ztk' zco' znx' zff' zfc' p' hp' J' hV => K ztk' zco' znx' zff' zfc' zgs g p' (s + 1) Q (fun _ h => h) J' ?_ hV
    rw [st_mu2]
    rcases hp' with e | e
    · rw [e, st_mu0]; omega
    · rw [e, st_mu2]; omega
end C5
end
section
def jc_5 (R : Nat → Int32) (F : Nat → Nat → Int32) (T C N : Nat → Int32) (f c ph sa gc : Int32) (gs : Nat → Int32) (v : SY) : Prop :=
  ∃ φ Q p s g, is_I φ R F v ∧ ph = nI p ∧ sa = nI s ∧ gc = nI g ∧ st_I Q R F T C N f c p s g gs
theorem st_p2 {Q : Nat → Prop} {R : Nat → Int32} {F : Nat → Nat → Int32} {T C N : Nat → Int32} {f c : Int32} {p s g : Nat} {gs : Nat → Int32} (J : st_I Q R F T C N f c p s g gs) : p ≤ 2 ∧ (p = 2 → s ≤ 64) := by
  rcases J.2.2.2 with z | z | z
  · omega
  · omega
  · omega
theorem st_mub {Q : Nat → Prop} {R : Nat → Int32} {F : Nat → Nat → Int32} {T C N : Nat → Int32} {f c : Int32} {p s g : Nat} {gs : Nat → Int32} (J : st_I Q R F T C N f c p s g gs) : st_mu C p s g ≤ 384 ∧ (p ≠ 0 → 0 < st_mu C p s g) := by
  rcases J.2.2.2 with z | z | z
  · rw [z.1, st_mu0]; omega
  · have h1 := st_g64 (fun a ha => ⟨(J.2.1 a ha).1, (J.2.1 a ha).2.1⟩) z.2.1 z.2.2.1
    have h2 := ct_le (P := fun a => C a = 0) 96
    rw [z.1, st_mu1]; omega
  · rw [z.1, st_mu2]; omega
section C5
variable {zhf zhn zcn zyn zsc zph zsa zgc zsd zs2 : Int32} {zrg zfl ztk zco znx zff zfc zmv zrm zrf zsu zss zgs zfa zst zt2 zse zpa zba : Nat → Int32}
theorem xs_loop {post : SX → Prop} {m : Nat} (hm : m < 100) (Q0 : Nat → Prop) (V : Nat → (Nat → Int32) × (Nat → Nat → Int32) × (Nat → Int32) × (Nat → Int32) × (Nat → Int32) × Int32 × Int32)
    (K : ∀ ztk' zco' znx' zff' zfc' zgs' g' p' s' Q', (∀ a, Q' a → Q0 a) → st_I Q' (vw_r zrg 5) (vw_f zfl 5) (vw_c ztk' 5) (vw_c zco' 5) (vw_c znx' 5) (zff' 5) (zfc' 5) p' s' g' zgs' → (∀ e', e' ≠ 5 → vw_v e' zrg zfl ztk' zco' znx' zff' zfc' = V e') →
      post (zhf, zhn, zcn, zyn, zsc, nI p', nI s', nI g', zsd, zs2, zrg, zfl, ztk', zco', znx', zff', zfc', zmv, zrm, zrf, zsu, zss, zgs', zfa, zst, zt2, zse, zpa, zba)) :
    ∀ (n i p s g : Nat) (Q : Nat → Prop) (ztk zco znx zff zfc zgs : Nat → Int32), i ≤ m → m < n + i → (∀ a, Q a → Q0 a) → st_I Q (vw_r zrg 5) (vw_f zfl 5) (vw_c ztk 5) (vw_c zco 5) (vw_c znx 5) (zff 5) (zfc 5) p s g zgs → (∀ e', e' ≠ 5 → vw_v e' zrg zfl ztk zco znx zff zfc = V e') →
      wX_workOn_24 post (nI m) n (nI i) zhf zhn zcn zyn zsc (nI p) (nI s) (nI g) zsd zs2 zrg zfl ztk zco znx zff zfc zmv zrm zrf zsu zss zgs zfa zst zt2 zse zpa zba := by
  intro n
  induction n with
  | zero => intro i p s g _ _ _ _ _ _ _ h1 h2; omega
  | succ n ih =>
    intro i p s g Q ztk zco znx zff zfc zgs h1 h2 hQ J hV
    by_cases hi : i = m
    · subst hi
      exact br_t (nI_le (Nat.le_refl _) (by omega)) (K ztk zco znx zff zfc zgs g p s Q hQ J hV)
    · refine br_f (nI_ge (by omega) (by omega)) ?_
      have hp2 := st_p2 J
      by_cases hp : p = 0
      · subst hp
        exact br_t rfl (K ztk zco znx zff zfc zgs g 0 s Q hQ J hV)
      · refine br_f (nI_ne0 (by omega) (by omega)) ?_
        refine (fun {A B : Prop} (h : (nI p = 1 → A) ∧ (¬ nI p = 1 → B)) => h) (xs_one J hp fun ztk' zco' znx' zff' zfc' zgs' g' p' s' Q' hQ' J' _ hV' => ?_)
        refine nm_r (nI_1 i) ?_
        exact ih (i + 1) p' s' g' Q' ztk' zco' znx' zff' zfc' zgs' (by omega) (by omega) (fun a ha => hQ a (hQ' a ha)) J' (fun e' n => (hV' e' n).trans (hV e' n))
theorem xs_work {post : SX → Prop} {m : Nat} {v : SY} (hm : m < 100) (h : jc_5 (vw_r zrg 5) (vw_f zfl 5) (vw_c ztk 5) (vw_c zco 5) (vw_c znx 5) (zff 5) (zfc 5) zph zsa zgc zgs v)
    (K : ∀ ztk' zco' znx' zff' zfc' zgs' zgc' zph' zsa', jc_5 (vw_r zrg 5) (vw_f zfl 5) (vw_c ztk' 5) (vw_c zco' 5) (vw_c znx' 5) (zff' 5) (zfc' 5) zph' zsa' zgc' zgs' v → (∀ e', e' ≠ 5 → vw_v e' zrg zfl ztk' zco' znx' zff' zfc' = vw_v e' zrg zfl ztk zco znx zff zfc) →
      post (zhf, zhn, zcn, zyn, zsc, zph', zsa', zgc', zsd, zs2, zrg, zfl, ztk', zco', znx', zff', zfc', zmv, zrm, zrf, zsu, zss, zgs', zfa, zst, zt2, zse, zpa, zba)) : wpX_workOn post (zhf, zhn, zcn, zyn, zsc, zph, zsa, zgc, zsd, zs2, zrg, zfl, ztk, zco, znx, zff, zfc, zmv, zrm, zrf, zsu, zss, zgs, zfa, zst, zt2, zse, zpa, zba) (nI m) := by
  obtain ⟨φ, Q, p, s, g, I, rfl, rfl, rfl, J⟩ := h
  have K' : ∀ ztk' zco' znx' zff' zfc' zgs' g' p' s' Q', (∀ a, Q' a → True) → st_I Q' (vw_r zrg 5) (vw_f zfl 5) (vw_c ztk' 5) (vw_c zco' 5) (vw_c znx' 5) (zff' 5) (zfc' 5) p' s' g' zgs' → (∀ e', e' ≠ 5 → vw_v e' zrg zfl ztk' zco' znx' zff' zfc' = vw_v e' zrg zfl ztk zco znx zff zfc) →
      post (zhf, zhn, zcn, zyn, zsc, nI p', nI s', nI g', zsd, zs2, zrg, zfl, ztk', zco', znx', zff', zfc', zmv, zrm, zrf, zsu, zss, zgs', zfa, zst, zt2, zse, zpa, zba) := fun ztk' zco' znx' zff' zfc' zgs' g' p' s' Q' _ J' hV => K ztk' zco' znx' zff' zfc' zgs' _ _ _ ⟨φ, Q', p', s', g', I, rfl, rfl, rfl, J'⟩ hV
  have go : ∃ n24 : Nat, wX_workOn_24 post (nI m) n24 (nI 0) zhf zhn zcn zyn zsc (nI p) (nI s) (nI g) zsd zs2 zrg zfl ztk zco znx zff zfc zmv zrm zrf zsu zss zgs zfa zst zt2 zse zpa zba :=
    ⟨m + 1, xs_loop (post := post) hm (fun _ => True) (fun e' => vw_v e' zrg zfl ztk zco znx zff zfc) K' (m + 1) 0 p s g Q ztk zco znx zff zfc zgs (by omega) (by omega) (fun _ _ => trivial) J (fun _ _ => rfl)⟩
  have hp2 := st_p2 J
  by_cases hp : p = 0
  · subst hp
    refine br_t rfl ?_
    by_cases h20 : (20 : Int32) ≤ zfc 5
    · exact br_t h20 go
    · refine br_f h20 ?_
      obtain ⟨hok, hQT, hG, hJ⟩ := J
      have h0 : ∀ a, vw_c zco 5 a = 0 := by
        rcases hJ with z | z | z
        · exact z.2.1
        · exact absurd z.1 (by omega)
        · exact absurd z.1 (by omega)
      refine xs_start hok hQT hG h0 fun zco' zgs' g' s' J' hV => ?_
      have J2 : st_I Q (vw_r zrg 5) (vw_f zfl 5) (vw_c ztk 5) (vw_c zco' 5) (vw_c znx 5) (zff 5) (zfc 5) 1 s g' zgs' := by
        obtain ⟨q1, q2, q3, q4⟩ := J'
        refine ⟨q1, q2, q3, ?_⟩
        rcases q4 with z | z | z
        · exact absurd z.1 (by omega)
        · exact Or.inr (Or.inl z)
        · exact absurd z.1 (by omega)
      exact ⟨m + 1, xs_loop (post := post) hm (fun _ => True) (fun e' => vw_v e' zrg zfl ztk zco znx zff zfc) K' (m + 1) 0 1 s g' Q ztk zco' znx zff zfc zgs' (by omega) (by omega) (fun _ _ => trivial) J2 hV⟩
  · exact br_f (nI_ne0 (by omega) (by omega)) go
theorem xs_finish {post : SX → Prop} {Q : Nat → Prop} {p s g : Nat} (J : st_I Q (vw_r zrg 5) (vw_f zfl 5) (vw_c ztk 5) (vw_c zco 5) (vw_c znx 5) (zff 5) (zfc 5) p s g zgs)
    (K : ∀ ztk' zco' znx' zff' zfc' zgs' g' s' Q', (∀ a, Q' a → Q a) → st_I Q' (vw_r zrg 5) (vw_f zfl 5) (vw_c ztk' 5) (vw_c zco' 5) (vw_c znx' 5) (zff' 5) (zfc' 5) 0 s' g' zgs' → (∀ e', e' ≠ 5 → vw_v e' zrg zfl ztk' zco' znx' zff' zfc' = vw_v e' zrg zfl ztk zco znx zff zfc) →
      post (zhf, zhn, zcn, zyn, zsc, nI 0, nI s', nI g', zsd, zs2, zrg, zfl, ztk', zco', znx', zff', zfc', zmv, zrm, zrf, zsu, zss, zgs', zfa, zst, zt2, zse, zpa, zba)) : wpX_finishRound post (zhf, zhn, zcn, zyn, zsc, nI p, nI s, nI g, zsd, zs2, zrg, zfl, ztk, zco, znx, zff, zfc, zmv, zrm, zrf, zsu, zss, zgs, zfa, zst, zt2, zse, zpa, zba) := by
  show ∃ n2 : Nat, wX_finishRound_2 post n2 (nI 0) zhf zhn zcn zyn zsc (nI p) (nI s) (nI g) zsd zs2 zrg zfl ztk zco znx zff zfc zmv zrm zrf zsu zss zgs zfa zst zt2 zse zpa zba
  refine ⟨385, ?_⟩
  have key : ∀ (n i p s g : Nat) (Q1 : Nat → Prop) (ztk1 zco1 znx1 zff1 zfc1 zgs : Nat → Int32), i ≤ 384 → 384 < n + i → (∀ a, Q1 a → Q a) → st_I Q1 (vw_r zrg 5) (vw_f zfl 5) (vw_c ztk1 5) (vw_c zco1 5) (vw_c znx1 5) (zff1 5) (zfc1 5) p s g zgs → st_mu (vw_c zco1 5) p s g + i ≤ 384 → (∀ e', e' ≠ 5 → vw_v e' zrg zfl ztk1 zco1 znx1 zff1 zfc1 = vw_v e' zrg zfl ztk zco znx zff zfc) →
      wX_finishRound_2 post n (nI i) zhf zhn zcn zyn zsc (nI p) (nI s) (nI g) zsd zs2 zrg zfl ztk1 zco1 znx1 zff1 zfc1 zmv zrm zrf zsu zss zgs zfa zst zt2 zse zpa zba := by
    intro n
    induction n with
    | zero => intro i p s g _ _ _ _ _ _ _ h1 h2; omega
    | succ n ih =>
      intro i p s g Q1 ztk1 zco1 znx1 zff1 zfc1 zgs h1 h2 hQ J hmu hV
      have hp2 := st_p2 J
      have hmb := st_mub J
      by_cases hp : p = 0
      · subst hp
        have kk := K ztk1 zco1 znx1 zff1 zfc1 zgs g s Q1 hQ J hV
        exact br_c (fun _ => kk) (fun _ => br_t rfl kk)
      · have := hmb.2 hp
        refine br_f (nI_ge (b := 384) (by omega) (by omega)) (br_f (nI_ne0 (by omega) (by omega)) ?_)
        refine br_f (nI_ne0 (by omega) (by omega)) ⟨2, ?_⟩
        refine br_f (by decide) (br_f (nI_ne0 (by omega) (by omega)) ?_)
        refine (fun {A B : Prop} (h : (nI p = 1 → A) ∧ (¬ nI p = 1 → B)) => h) (xs_one J hp fun ztk' zco' znx' zff' zfc' zgs' g' p' s' Q' hQ' J' hmu' hV' => ?_)
        refine nm_r (nI_1 0) ?_
        refine br_t (by decide) ?_
        refine nm_r (nI_1 i) ?_
        exact ih (i + 1) p' s' g' Q' ztk' zco' znx' zff' zfc' zgs' (by omega) (by omega) (fun a ha => hQ a (hQ' a ha)) J' (by omega) (fun e' n => (hV' e' n).trans (hV e' n))
  exact key 385 0 p s g Q ztk zco znx zff zfc zgs (by omega) (by omega) (fun _ h => h) J (by have := (st_mub J).1; omega) (fun _ _ => rfl)
theorem fr_left {last : Nat} {T N : Nat → Int32} {f c : Int32} {X : Nat → Prop} (hl : last < 96) (h : fr_ok last T N f c) (hT : ∀ a, 1 ≤ a → a ≤ last → T a ≠ 0 → X a) (hX : ∀ a, X a → 1 ≤ a ∧ a ≤ last ∧ T a ≠ 0) : nI last - c = nI (ct_c X 96) := by
  have h1 := ct_split (P := fun a => 1 ≤ a ∧ a < last + 1) (Q := fun a => T a = 0) 96
  rw [ct_range (by omega) 96 (by omega)] at h1
  have h2 : ct_c (fun a => (1 ≤ a ∧ a < last + 1) ∧ T a = 0) 96 = ct_c (fun a => 1 ≤ a ∧ a ≤ last ∧ T a = 0) 96 := ct_congr 96 fun i _ => ⟨fun z => ⟨z.1.1, by omega, z.2⟩, fun z => ⟨⟨z.1, by omega⟩, z.2.2⟩⟩
  have h3 : ct_c (fun a => (1 ≤ a ∧ a < last + 1) ∧ ¬ T a = 0) 96 = ct_c X 96 := ct_congr 96 fun i _ => ⟨fun z => hT i z.1.1 (by omega) z.2, fun z => ⟨⟨(hX i z).1, by have := (hX i z).2.1; omega⟩, (hX i z).2.2⟩⟩
  rw [fr_cnt hl h, pk_sub (by omega)]
  congr 1; omega
theorem c5_collect {post : Int32 → SX → Prop} {v : SY} (h : jc_5 (vw_r zrg 5) (vw_f zfl 5) (vw_c ztk 5) (vw_c zco 5) (vw_c znx 5) (zff 5) (zfc 5) zph zsa zgc zgs v)
    (K : ∀ ztk' zco' znx' zff' zfc' zgs' zgc' zph' zsa', jc_5 (vw_r zrg 5) (vw_f zfl 5) (vw_c ztk' 5) (vw_c zco' 5) (vw_c znx' 5) (zff' 5) (zfc' 5) zph' zsa' zgc' zgs' v → (∀ a, 1 ≤ a → a ≤ 64 → vw_c ztk' 5 a ≠ 0 → gr_X (vw_r zrg 5) (vw_f zfl 5) a) → (∀ e', e' ≠ 5 → vw_v e' zrg zfl ztk' zco' znx' zff' zfc' = vw_v e' zrg zfl ztk zco znx zff zfc) →
      post (nI (ct_c (yy_X v) 48)) (zhf, zhn, zcn, zyn, zsc, zph', zsa', zgc', zsd, zs2, zrg, zfl, ztk', zco', znx', zff', zfc', zmv, zrm, zrf, zsu, zss, zgs', zfa, zst, zt2, zse, zpa, zba)) : wpX_collectBySteps post (zhf, zhn, zcn, zyn, zsc, zph, zsa, zgc, zsd, zs2, zrg, zfl, ztk, zco, znx, zff, zfc, zmv, zrm, zrf, zsu, zss, zgs, zfa, zst, zt2, zse, zpa, zba) := by
  obtain ⟨φ, Q, p, s, g, I, rfl, rfl, rfl, J⟩ := h
  unfold wpX_collectBySteps
  refine xs_finish J fun ztk1 zco1 znx1 zff1 zfc1 zgs1 g1 s1 Q1 hQ1 J1 hV1 => ?_
  obtain ⟨hok, hQT, hG, hJ⟩ := J1
  have h0 : (∀ a, vw_c zco1 5 a = 0) := by
    rcases hJ with z | z | z
    · exact z.2.1
    · exact absurd z.1 (by omega)
    · exact absurd z.1 (by omega)
  refine xs_start (Q := gr_X (vw_r zrg 5) (vw_f zfl 5)) hok (fun a ha => hQT a (gr_WG_X hG ha)) (is_G I) h0 fun zco2 zgs2 g2 s2 J2 hV2 => ?_
  have J2' : st_I (gr_X (vw_r zrg 5) (vw_f zfl 5)) (vw_r zrg 5) (vw_f zfl 5) (vw_c ztk1 5) (vw_c zco2 5) (vw_c znx1 5) (zff1 5) (zfc1 5) 1 s1 g2 zgs2 := by
    obtain ⟨q1, q2, q3, q4⟩ := J2
    refine ⟨q1, q2, q3, ?_⟩
    rcases q4 with z | z | z
    · exact absurd z.1 (by omega)
    · exact Or.inr (Or.inl z)
    · exact absurd z.1 (by omega)
  refine xs_finish J2' fun ztk3 zco3 znx3 zff3 zfc3 zgs3 g3 s3 Q3 hQ3 J3 hV3 => ?_
  have hT3 : ∀ a, 1 ≤ a → a ≤ 64 → vw_c ztk3 5 a ≠ 0 → gr_X (vw_r zrg 5) (vw_f zfl 5) a := by
    rcases J3.2.2.2 with z | z | z
    · exact fun a h1 h2 h3 => hQ3 a (z.2.2 a h1 h2 h3)
    · exact absurd z.1 (by omega)
    · exact absurd z.1 (by omega)
  have e : 64 - zfc3 5 = nI (ct_c (yy_X v) 48) := by
    rw [← is_cnt I]
    exact fr_left (last := 64) (by omega) J3.1 hT3 (fun a ha => J3.2.1 a (gr_WG_X J3.2.2.1 ha))
  show post (64 - zfc3 5) _
  rw [e]
  exact K ztk3 zco3 znx3 zff3 zfc3 zgs3 _ _ _ ⟨φ, Q3, 0, s3, g3, I, rfl, rfl, rfl, J3⟩ hT3 (fun e' n => (hV3 e' n).trans ((hV2 e' n).trans (hV1 e' n)))
end C5
theorem jc_5_set {r : Nat} {R : Nat → Int32} {F : Nat → Nat → Int32} {T C N gs : Nat → Int32} {f c ph sa gc x y : Int32} {yr yf : Nat → Int32} (h : jc_5 R F T C N f c ph sa gc gs (yr, yf)) (hv : op_v R F (yr, yf) x y) :
    jc_5 (upd R r x) F T C N f c ph sa gc gs (upd yr r y, yf) := by
  obtain ⟨φ, Q, p, s, g, I, h1, h2, h3, q1, q2, q3, q4⟩ := h
  refine ⟨φ, Q, p, s, g, is_set (r := r) I (hv.1 φ I) hv.2, h1, h2, h3, q1, q2, ⟨fun r' hr' => ?_, q3.2⟩, q4⟩
  by_cases e : r' = r
  · rw [e, pk_us]; exact gr_wf_mono (op_wf I hv) fun a ha => gr_WG_X q3 ha
  · rw [pk_un e]; exact q3.1 r' hr'
theorem st_new {Q : Nat → Prop} {R : Nat → Int32} {F : Nat → Nat → Int32} {T C N gs : Nat → Int32} {f c f' c' w : Int32} {p s g a r : Nat} (J : st_I Q R F T C N f c p s g gs) (h1 : 1 ≤ a) (h2 : a ≤ 64) (ht : T a = 0) (hok : fr_ok 64 (upd T a 1) N f' c')
    (hw1 : p = 1 → w = 2) (hw2 : p = 2 → s ≤ a → w = 2) (hw3 : p = 2 → a < s → w = 0) (hw0 : p = 0 → w = 0) :
    st_I (fun b => Q b ∨ b = a) (upd R r (nI (2 * a))) (vw_w F a (fun _ => 1)) (upd T a 1) (upd C a w) N f' c' p s g gs := by
  obtain ⟨q1, q2, q3, q4⟩ := J
  have hna : ∀ b, Q b → b ≠ a := fun b hb e => (q2 b hb).2.2 (e ▸ ht)
  refine ⟨hok, fun b hb => ?_, ⟨fun r' hr' => ?_, fun b hb f hf => ?_, fun b hb => ?_⟩, ?_⟩
  · rcases hb with z | z
    · have := q2 b z
      exact ⟨this.1, this.2.1, by rw [pk_un (hna b z)]; exact this.2.2⟩
    · rw [z, pk_us]; exact ⟨h1, h2, na_n10⟩
  · by_cases e : r' = r
    · rw [e, pk_us]; exact Or.inr ⟨a, Or.inr rfl, rfl⟩
    · rw [pk_un e]; exact gr_wf_mono (q3.1 r' hr') fun _ => Or.inl
  · by_cases e : b = a
    · rw [e, vw_ws]; exact Or.inl gr_od1
    · rw [vw_wn e]; exact gr_wf_mono (q3.2.1 b (hb.resolve_right e) f hf) fun _ => Or.inl
  · rcases hb with z | z
    · exact q3.2.2 b z
    · omega
  · rcases q4 with ⟨z1, z2, z3⟩ | ⟨z1, z2, z3, z4⟩ | ⟨z1, z2, z3, z4, z5, z6⟩
    · refine Or.inl ⟨z1, fun b => ?_, fun b k1 k2 k3 => ?_⟩
      · by_cases e : b = a
        · rw [e, pk_us]; exact hw0 z1
        · rw [pk_un e]; exact z2 b
      · by_cases e : b = a
        · exact Or.inr e
        · rw [pk_un e] at k3; exact Or.inl (z3 b k1 k2 k3)
    · have hw := hw1 z1
      subst hw
      have hCa : C a = 0 := (z2 a).resolve_right fun z => hna a z.1 rfl
      refine Or.inr (Or.inl ⟨z1, fun b => ?_, ⟨fun i hi => ?_, fun b hb => ?_, z3.2.2.1, ?_⟩, fun b f d k1 k2 k3 k4 => ?_⟩)
      · by_cases e : b = a
        · rw [e, pk_us]; exact Or.inr ⟨Or.inr rfl, Or.inr rfl⟩
        · rw [pk_un e]; exact (z2 b).imp id fun z => ⟨Or.inl z.1, z.2⟩
      · obtain ⟨b, k1, k2, k3, k4⟩ := z3.1 i hi
        have : b ≠ a := fun z => by rw [z, hCa] at k4; exact absurd k4 (by decide)
        exact ⟨b, k1, k2, k3, by rw [pk_un this]; exact k4⟩
      · by_cases e : b = a
        · rw [e, pk_us] at hb; exact absurd hb (by decide)
        · rw [pk_un e] at hb; exact z3.2.1 b hb
      · rw [← z3.2.2.2]
        refine ct_congr 96 fun i _ => ?_
        by_cases e : i = a
        · rw [e, pk_us, hCa]; decide
        · rw [pk_un e]
      · by_cases e : b = a
        · rw [e, vw_ws] at k3; exact absurd k3 (gr_odne gr_od1 (by omega))
        · rw [pk_un e] at k1; rw [vw_wn e] at k3
          left
          by_cases ed : d = a
          · rw [ed, pk_us]; decide
          · rw [pk_un ed]; exact (z4 b f d k1 k2 k3 k4).resolve_right id
    · refine Or.inr (Or.inr ⟨z1, z2, z3, fun b => ?_, fun b k1 k2 k3 k4 => ?_, fun b hb => ?_⟩)
      · by_cases e : b = a
        · rw [e, pk_us]
          by_cases hs : s ≤ a
          · exact Or.inr ⟨Or.inr rfl, hw2 z1 hs, hs⟩
          · exact Or.inl (hw3 z1 (by omega))
        · rw [pk_un e]; exact (z4 b).imp id fun z => ⟨Or.inl z.1, z.2⟩
      · by_cases e : b = a
        · exact Or.inr e
        · rw [pk_un e] at k3; rw [pk_un e] at k4; exact Or.inl (z5 b k1 k2 k3 k4)
      · by_cases e : b = a
        · rw [e, pk_us]
          by_cases hs : s ≤ a
          · exact Or.inr (hw2 z1 hs)
          · exact Or.inl (by omega)
        · rw [pk_un e]; exact z6 b (hb.resolve_right e)
section C5
variable {zhf zhn zcn zyn zsc zph zsa zgc zsd zs2 : Int32} {zrg zfl ztk zco znx zff zfc zmv zrm zrf zsu zss zgs zfa zst zt2 zse zpa zba : Nat → Int32}
variable {yr yf yf' : Nat → Int32} {p : Nat}
theorem nw_5t {post : Int32 → SX → Prop} (h : jc_5 (vw_r zrg 5) (vw_f zfl 5) (vw_c ztk 5) (vw_c zco 5) (vw_c znx 5) (zff 5) (zfc 5) zph zsa zgc zgs (yr, yf)) (hn : op_n yr yf yf' p) (hc : zfc 5 ≠ 0)
    (K : ∀ a ztk' zco' zff' zfc' zfl', 1 ≤ a → a < 96 → (∀ r, jc_5 (upd (vw_r zrg 5) r (nI (2 * a))) (vw_f zfl' 5) (vw_c ztk' 5) (vw_c zco' 5) (vw_c znx 5) (zff' 5) (zfc' 5) zph zsa zgc zgs (upd yr r (nI (10000 + p)), yf')) →
      (∀ e', e' ≠ 5 → vw_v e' zrg zfl' ztk' zco' znx zff' zfc' = vw_v e' zrg zfl ztk zco znx zff zfc) → post (nI a) (zhf, zhn, zcn, zyn, zsc, zph, zsa, zgc, zsd, zs2, zrg, zfl', ztk', zco', znx, zff', zfc', zmv, zrm, zrf, zsu, zss, zgs, zfa, zst, zt2, zse, zpa, zba)) : wX_newInSteps_27 post zhf zhn zcn zyn zsc zph zsa zgc zsd zs2 zrg zfl ztk zco znx zff zfc zmv zrm zrf zsu zss zgs zfa zst zt2 zse zpa zba := by
  obtain ⟨φ, Q, q, s, g, I, rfl, rfl, rfl, J⟩ := h
  have hp2 := st_p2 J
  refine xf_take (e := 5) (last := 64) (by omega) (by omega) J.1 hc fun a ztk' zff' zfc' zfl' a1 a2 a3 a4 a5 a6 _ a8 => ?_
  have ha : a < 96 := by omega
  have fin : ∀ w : Int32, (q = 1 → w = 2) → (q = 2 → s ≤ a → w = 2) → (q = 2 → a < s → w = 0) → (q = 0 → w = 0) → post (nI a) (zhf, zhn, zcn, zyn, zsc, nI q, nI s, nI g, zsd, zs2, zrg, zfl', ztk', upd zco (5 * 96 + a) w, znx, zff', zfc', zmv, zrm, zrf, zsu, zss, zgs, zfa, zst, zt2, zse, zpa, zba) := by
    intro w w1 w2 w3 w0
    have hna : ¬ gr_X (vw_r zrg 5) (vw_f zfl 5) a := fun z => (J.2.1 a (gr_WG_X J.2.2.1 z)).2.2 a3
    refine K a ztk' _ zff' zfc' zfl' a1 ha (fun r => ?_) fun e' n => ?_
    · rw [a4] at a6 ⊢
      rw [vw_c_s ha, a5]
      exact ⟨_, _, q, s, g, is_new (r := r) (F' := vw_w (vw_f zfl 5) a (fun _ => 1)) I hn.1 hn.2.1 a1 ha hna hn.2.2.1 hn.2.2.2 (fun g _ => vw_ws) (fun c hc g _ => vw_wn fun e => hna (e ▸ hc)), rfl, rfl, rfl, st_new J a1 a2 a3 a6 w1 w2 w3 w0⟩
    · exact (vw_v_co (vw_c_o ha n)).trans (a8 e' n)
  have f0 : (q ≠ 1) → (q = 2 → a < s) → wX_newInSteps_61 post (nI a) zhf zhn zcn zyn zsc (nI q) (nI s) (nI g) zsd zs2 zrg zfl' ztk' zco znx zff' zfc' zmv zrm zrf zsu zss zgs zfa zst zt2 zse zpa zba := by
    intro z1 z2
    refine br_t rfl ?_
    rw [na_480, nI_clamp (n := 5 * 96 + a) (by omega), na_c0]
    exact ⟨vp_in_nI (by omega) (by omega), nm_e (fin 0 (fun z => absurd z z1) (fun z w => by have := z2 z; omega) (fun _ _ => rfl) (fun _ => rfl))⟩
  have f2 : (q ≠ 0) → (q = 2 → s ≤ a) → wX_newInSteps_57 post (nI a) zhf zhn zcn zyn zsc (nI q) (nI s) (nI g) zsd zs2 zrg zfl' ztk' zco znx zff' zfc' zmv zrm zrf zsu zss zgs zfa zst zt2 zse zpa zba := by
    intro z1 z2
    refine br_f na_n10 ?_
    rw [na_480, nI_clamp (n := 5 * 96 + a) (by omega), na_c2]
    exact ⟨vp_in_nI (by omega) (by omega), nm_e (fin 2 (fun _ => rfl) (fun _ _ => rfl) (fun z w => by have := z2 z; omega) (fun z => absurd z z1))⟩
  by_cases q1 : q = 1
  · subst q1; exact br_t rfl (f2 (by omega) (by omega))
  · refine br_f (fun z => q1 (na_inj (b := 1) (by omega) (by omega) z)) ?_
    by_cases q2 : q = 2
    · subst q2
      refine br_t rfl ?_
      have := hp2.2 rfl
      by_cases hs : a < s
      · exact br_t (nI_lt hs (by omega)) (f0 (by omega) (fun _ => hs))
      · exact br_f (nI_nlt (by omega) (by omega)) (f2 (by omega) (fun _ => by omega))
    · exact br_f (fun z => q2 (na_inj (b := 2) (by omega) (by omega) z)) (f0 q1 (fun z => absurd z q2))
theorem nw_5 {post : Int32 → SX → Prop} (h : jc_5 (vw_r zrg 5) (vw_f zfl 5) (vw_c ztk 5) (vw_c zco 5) (vw_c znx 5) (zff 5) (zfc 5) zph zsa zgc zgs (yr, yf)) (hn : op_n yr yf yf' p) (h24 : ct_c (yy_X (yr, yf)) 48 < 24)
    (K : ∀ a ztk' zco' znx' zff' zfc' zfl' zgs' zgc' zph' zsa', 1 ≤ a → a < 96 → (∀ r, jc_5 (upd (vw_r zrg 5) r (nI (2 * a))) (vw_f zfl' 5) (vw_c ztk' 5) (vw_c zco' 5) (vw_c znx' 5) (zff' 5) (zfc' 5) zph' zsa' zgc' zgs' (upd yr r (nI (10000 + p)), yf')) →
      (∀ e', e' ≠ 5 → vw_v e' zrg zfl' ztk' zco' znx' zff' zfc' = vw_v e' zrg zfl ztk zco znx zff zfc) → post (nI a) (zhf, zhn, zcn, zyn, zsc, zph', zsa', zgc', zsd, zs2, zrg, zfl', ztk', zco', znx', zff', zfc', zmv, zrm, zrf, zsu, zss, zgs', zfa, zst, zt2, zse, zpa, zba)) : wpX_newCell post (zhf, zhn, zcn, zyn, zsc, zph, zsa, zgc, zsd, zs2, zrg, zfl, ztk, zco, znx, zff, zfc, zmv, zrm, zrf, zsu, zss, zgs, zfa, zst, zt2, zse, zpa, zba) 5 := by
  have last : ∀ (ztk1 zco1 znx1 zff1 zfc1 zgs1 : Nat → Int32) (zgc1 zph1 zsa1 : Int32), jc_5 (vw_r zrg 5) (vw_f zfl 5) (vw_c ztk1 5) (vw_c zco1 5) (vw_c znx1 5) (zff1 5) (zfc1 5) zph1 zsa1 zgc1 zgs1 (yr, yf) → (∀ e', e' ≠ 5 → vw_v e' zrg zfl ztk1 zco1 znx1 zff1 zfc1 = vw_v e' zrg zfl ztk zco znx zff zfc) →
      wX_newInSteps_13 post zhf zhn zcn zyn zsc zph1 zsa1 zgc1 zsd zs2 zrg zfl ztk1 zco1 znx1 zff1 zfc1 zmv zrm zrf zsu zss zgs1 zfa zst zt2 zse zpa zba := by
    intro ztk1 zco1 znx1 zff1 zfc1 zgs1 zgc1 zph1 zsa1 hj hV
    show ((zfc1 5 = 0 → _) ∧ (¬ zfc1 5 = 0 → _))
    by_cases h0 : zfc1 5 = 0
    · refine br_t h0 ?_
      refine c5_collect hj fun ztk2 zco2 znx2 zff2 zfc2 zgs2 zgc2 zph2 zsa2 hj2 hT hV2 => ?_
      obtain ⟨φ, Q, q, s, g, I, _, _, _, J⟩ := id hj2
      refine nw_5t hj2 hn (fr_pos (by omega) J.1 hT (by rw [is_cnt I]; omega)) fun a ztk' zco' zff' zfc' zfl' a1 a2 a3 a4 => ?_
      exact K a ztk' zco' znx2 zff' zfc' zfl' zgs2 zgc2 zph2 zsa2 a1 a2 a3 fun e' n => (a4 e' n).trans ((hV2 e' n).trans (hV e' n))
    · refine br_f h0 ?_
      refine nw_5t hj hn h0 fun a ztk' zco' zff' zfc' zfl' a1 a2 a3 a4 => ?_
      exact K a ztk' zco' znx1 zff' zfc' zfl' zgs1 zgc1 zph1 zsa1 a1 a2 a3 fun e' n => (a4 e' n).trans (hV e' n)
  refine br_f (by decide) (br_f (by decide) (br_f (by decide) (br_f (by decide) (br_f (by decide) (br_f (by decide) (br_t rfl ?_))))))
  show ((zfc 5 = 0 → _) ∧ (¬ zfc 5 = 0 → _))
  by_cases h0 : zfc 5 = 0
  · refine br_t h0 ?_
    obtain ⟨φ, Q, q, s, g, I, rfl, rfl, rfl, J⟩ := id h
    refine xs_finish J fun ztk1 zco1 znx1 zff1 zfc1 zgs1 g1 s1 Q1 hQ1 J1 hV1 => ?_
    exact last ztk1 zco1 znx1 zff1 zfc1 zgs1 _ _ _ ⟨φ, Q1, 0, s1, g1, I, rfl, rfl, rfl, J1⟩ hV1
  · exact br_f h0 (last ztk zco znx zff zfc zgs zgc zph zsa h (fun _ _ => rfl))
theorem pt_5 {post : SX → Prop} {a g : Nat} {x y : Int32} (h : jc_5 (vw_r zrg 5) (vw_f zfl 5) (vw_c ztk 5) (vw_c zco 5) (vw_c znx 5) (zff 5) (zfc 5) zph zsa zgc zgs (yr, yf)) (hv : op_v (vw_r zrg 5) (vw_f zfl 5) (yr, yf) x y) (hp : op_a (vw_r zrg 5) (vw_f zfl 5) (yr, yf) a p) (hg : g < 3)
    (K : ∀ zfl' zco' zgs' zgc', jc_5 (vw_r zrg 5) (vw_f zfl' 5) (vw_c ztk 5) (vw_c zco' 5) (vw_c znx 5) (zff 5) (zfc 5) zph zsa zgc' zgs' (yr, upd yf (3 * p + g) y) → (∀ e', e' ≠ 5 → vw_v e' zrg zfl' ztk zco' znx zff zfc = vw_v e' zrg zfl ztk zco znx zff zfc) → post (zhf, zhn, zcn, zyn, zsc, zph, zsa, zgc', zsd, zs2, zrg, zfl', ztk, zco', znx, zff, zfc, zmv, zrm, zrf, zsu, zss, zgs', zfa, zst, zt2, zse, zpa, zba)) :
    wpX_setField post (zhf, zhn, zcn, zyn, zsc, zph, zsa, zgc, zsd, zs2, zrg, zfl, ztk, zco, znx, zff, zfc, zmv, zrm, zrf, zsu, zss, zgs, zfa, zst, zt2, zse, zpa, zba) 5 (nI a) (nI g) x := by
  obtain ⟨φ, Q, q, s, gg, I, rfl, rfl, rfl, J⟩ := h
  have hp2 := st_p2 J
  have hXa : gr_X (vw_r zrg 5) (vw_f zfl 5) a := (is_X I a).mpr ⟨p, hp.1, (hp.2 φ I).symm⟩
  have ha : a < 96 := ((is_G I).2.2 a hXa).2
  have I' := is_put I hp.1 hg (hv.1 φ I) hv.2
  rw [← hp.2 φ I] at I'
  obtain ⟨q1, q2, q3, q4⟩ := J
  have hxQ : gr_wf Q x := gr_wf_mono (op_wf I hv) fun a ha => gr_WG_X q3 ha
  have hG' : gr_WG (vw_r zrg 5) (vw_u (vw_f zfl 5) a g x) Q := ⟨q3.1, fun b hb f hf => by
    by_cases e : b = a ∧ f = g
    · rw [e.1, e.2, vw_us]; exact hxQ
    · rw [vw_un (by omega)]; exact q3.2.1 b hb f hf, q3.2.2⟩
  unfold wpX_setField
  refine xp_fieldOf (e := 5) (by omega) ha hg ?_
  refine br_f (by decide) ?_
  refine xp_store (e := 5) (by omega) ha hg fun zfl' f1 f2 => ?_
  refine br_f (by decide) (br_f (by decide) (br_t rfl ?_))
  have fin : (q = 1 → st_b (vw_f zfl' 5) (vw_c zco 5) (fun _ _ => False)) → post (zhf, zhn, zcn, zyn, zsc, nI q, nI s, nI gg, zsd, zs2, zrg, zfl', ztk, zco, znx, zff, zfc, zmv, zrm, zrf, zsu, zss, zgs, zfa, zst, zt2, zse, zpa, zba) := by
    intro hb
    refine K zfl' zco zgs _ ⟨φ, Q, q, s, gg, by rw [f1]; exact I', rfl, rfl, rfl, q1, q2, by rw [f1]; exact hG', ?_⟩ (fun e' n => vw_v_fl (f2 e' n))
    rcases q4 with z | z | z
    · exact Or.inl z
    · exact Or.inr (Or.inl ⟨z.1, z.2.1, z.2.2.1, hb z.1⟩)
    · exact Or.inr (Or.inr z)
  by_cases e1 : q = 1
  · subst e1
    refine br_t rfl ?_
    rw [na_480, nI_clamp (n := 5 * 96 + a) (by omega)]
    refine ⟨vp_in_nI (by omega) (by omega), ?_⟩
    have hC : vw_c zco 5 a = zco (5 * 96 + a) := vw_c_at ha
    obtain ⟨_, z2, z3, z4⟩ : 1 = 1 ∧ st_c Q (vw_c zco 5) ∧ st_g (vw_c zco 5) zgs gg ∧ st_b (vw_f zfl 5) (vw_c zco 5) (fun _ _ => False) := by
      rcases q4 with z | z | z
      · exact absurd z.1 (by omega)
      · exact z
      · exact absurd z.1 (by omega)
    have hb0 : st_b (vw_f zfl' 5) (vw_c zco 5) (fun c f => c = a ∧ f = g) := fun c f b k1 k2 k3 k4 => by
      rw [f1] at k3
      by_cases e : c = a ∧ f = g
      · exact Or.inr e
      · rw [vw_un (by omega)] at k3
        exact Or.inl ((z4 c f b k1 k2 k3 k4).resolve_right id)
    by_cases c2 : zco (5 * 96 + a) = 2
    · refine br_t c2 ?_
      refine xs_shade (fun a ha => ⟨(q2 a ha).1, (q2 a ha).2.1⟩) hxQ z2 z3 fun zco' zgs' g' hc' hg' hu hm ho => ?_
      refine K zfl' zco' zgs' _ ⟨φ, Q, 1, s, g', by rw [f1]; exact I', rfl, rfl, rfl, q1, q2, by rw [f1]; exact hG', Or.inr (Or.inl ⟨rfl, hc', hg', fun c f b k1 k2 k3 k4 => ?_⟩)⟩ (fun e' n => (vw_v_co (ho e' n)).trans (vw_v_fl (f2 e' n)))
      rcases st_bu hb0 hu c f b k1 k2 k3 k4 with z | z
      · exact Or.inl z
      · left
        rw [z.1, z.2, f1, vw_us] at k3
        exact hm b k4 k3
    · refine br_f c2 (fin fun _ c f b k1 k2 k3 k4 => ?_)
      rcases hb0 c f b k1 k2 k3 k4 with z | z
      · exact Or.inl z
      · rw [z.1, hC] at k1; exact absurd k1 c2
  · exact br_f (fun z => e1 (na_inj (b := 1) (by omega) (by omega) z)) (fin fun z => absurd z e1)
end C5
end
section
/-! collector 4: references are counted. How many registers and slots refer to a cell -/
noncomputable def kc_n (D : Nat → Prop) (R : Nat → Int32) (F : Nat → Nat → Int32) (a : Nat) : Nat := ct_c (fun r => R r = nI (2 * a)) 6 + ct_c (fun i => D i ∧ F (i / 3) (i % 3) = nI (2 * a)) 147
def kc_e (y : Int32) (a : Nat) : Nat := if y = nI (2 * a) then 1 else 0
def kc_T (T : Nat → Int32) (a : Nat) : Prop := 1 ≤ a ∧ a ≤ 48 ∧ T a ≠ 0
theorem kc_et {y : Int32} {a : Nat} (h : y = nI (2 * a)) : kc_e y a = 1 := if_pos h
theorem kc_ef {y : Int32} {a : Nat} (h : y ≠ nI (2 * a)) : kc_e y a = 0 := if_neg h
theorem kc_eo {y : Int32} {a : Nat} (h : gr_od y) (ha : a < 96) : kc_e y a = 0 := kc_ef (gr_odne h (by omega))
theorem kc_e1 {a : Nat} (ha : a < 96) : kc_e 1 a = 0 := kc_eo gr_od1 ha
theorem kc_er {a b : Nat} (hb : b < 96) (ha : a < 96) : kc_e (nI (2 * b)) a = if b = a then 1 else 0 := by
  by_cases e : b = a
  · rw [if_pos e, e, kc_et rfl]
  · rw [if_neg e, kc_ef fun z => e (na_inj2 hb ha z)]
theorem kc_le {D : Nat → Prop} {R : Nat → Int32} {F : Nat → Nat → Int32} {a : Nat} : kc_n D R F a ≤ 153 := by
  have h1 := ct_le (P := fun r => R r = nI (2 * a)) 6
  have h2 := ct_le (P := fun i => D i ∧ F (i / 3) (i % 3) = nI (2 * a)) 147
  unfold kc_n; omega
theorem kc_e_le {y : Int32} {a : Nat} : kc_e y a ≤ 1 := by unfold kc_e; split <;> omega
theorem kc_preg {D : Nat → Prop} {R : Nat → Int32} {F : Nat → Nat → Int32} {a r : Nat} (hr : r < 6) (e : R r = nI (2 * a)) : 0 < kc_n D R F a := by
  have := ct_pos (P := fun r => R r = nI (2 * a)) 6 hr e
  unfold kc_n; omega
theorem kc_pslot {D : Nat → Prop} {R : Nat → Int32} {F : Nat → Nat → Int32} {a i : Nat} (hi : i < 147) (hD : D i) (e : F (i / 3) (i % 3) = nI (2 * a)) : 0 < kc_n D R F a := by
  have := ct_pos (P := fun i => D i ∧ F (i / 3) (i % 3) = nI (2 * a)) 147 hi ⟨hD, e⟩
  unfold kc_n; omega
theorem kc_pcell {D : Nat → Prop} {R : Nat → Int32} {F : Nat → Nat → Int32} {a c f : Nat} (hc : c ≤ 48) (hf : f < 3) (hD : D (3 * c + f)) (e : F c f = nI (2 * a)) : 0 < kc_n D R F a :=
  kc_pslot (i := 3 * c + f) (by omega) hD (by rw [show (3 * c + f) / 3 = c by omega, show (3 * c + f) % 3 = f by omega]; exact e)
theorem kc_slot {D D' : Nat → Prop} {R : Nat → Int32} {F : Nat → Nat → Int32} {a j : Nat} (hj : j < 147) (hD : D j) (h : ∀ i, i < 147 → (D' i ↔ D i ∧ i ≠ j)) : kc_n D R F a = kc_n D' R F a + kc_e (F (j / 3) (j % 3)) a := by
  unfold kc_n
  by_cases e : F (j / 3) (j % 3) = nI (2 * a)
  · rw [kc_et e, ct_add (P := fun i => D' i ∧ F (i / 3) (i % 3) = nI (2 * a)) (Q := fun i => D i ∧ F (i / 3) (i % 3) = nI (2 * a)) (a := j) 147 hj (fun z => ((h j hj).mp z.1).2 rfl) (fun i hi => ⟨fun z => ?_, fun z => ?_⟩)]
    · omega
    · by_cases ei : i = j
      · exact Or.inr ei
      · exact Or.inl ⟨(h i hi).mpr ⟨z.1, ei⟩, z.2⟩
    · rcases z with z | z
      · exact ⟨((h i hi).mp z.1).1, z.2⟩
      · subst z; exact ⟨hD, e⟩
  · rw [kc_ef e, ct_congr (P := fun i => D i ∧ F (i / 3) (i % 3) = nI (2 * a)) (Q := fun i => D' i ∧ F (i / 3) (i % 3) = nI (2 * a)) 147 (fun i hi => ⟨fun z => ⟨(h i hi).mpr ⟨z.1, fun ei => e (ei ▸ z.2)⟩, z.2⟩, fun z => ⟨((h i hi).mp z.1).1, z.2⟩⟩)]
    rfl
theorem kc_congr {D D' : Nat → Prop} {R : Nat → Int32} {F F' : Nat → Nat → Int32} {a : Nat} (h : ∀ i, i < 147 → (D i ∧ F (i / 3) (i % 3) = nI (2 * a) ↔ D' i ∧ F' (i / 3) (i % 3) = nI (2 * a))) : kc_n D R F a = kc_n D' R F' a := by
  unfold kc_n; rw [ct_congr 147 h]
theorem ct_upd {P : Nat → Prop} {n r : Nat} {g : Nat → Int32} {x w : Int32} (hr : r < n) : ct_c (fun i => upd g r x i = w) n + (if g r = w then 1 else 0) = ct_c (fun i => g i = w) n + (if x = w then 1 else 0) := by
  have s1 : ∀ h : Nat → Int32, (∀ i, i ≠ r → h i = g i) → ct_c (fun i => h i = w) n = ct_c (fun i => g i = w ∧ i ≠ r) n + (if h r = w then 1 else 0) := by
    intro h hh
    by_cases e : h r = w
    · rw [if_pos e]
      refine ct_add (a := r) n hr (fun z => z.2 rfl) fun i _ => ⟨fun z => ?_, fun z => ?_⟩
      · by_cases ei : i = r
        · exact Or.inr ei
        · exact Or.inl ⟨by rw [← hh i ei]; exact z, ei⟩
      · rcases z with z | z
        · rw [hh i z.2]; exact z.1
        · subst z; exact e
    · rw [if_neg e]
      refine ct_congr n fun i _ => ⟨fun z => ?_, fun z => by rw [hh i z.2]; exact z.1⟩
      have ei : i ≠ r := fun z' => e (z' ▸ z)
      exact ⟨by rw [← hh i ei]; exact z, ei⟩
  rw [s1 (upd g r x) (fun i hi => pk_un hi), s1 g (fun _ _ => rfl), pk_us]
  omega
theorem kc_reg {D : Nat → Prop} {R : Nat → Int32} {F : Nat → Nat → Int32} {a r : Nat} {x : Int32} (hr : r < 6) : kc_n D (upd R r x) F a + kc_e (R r) a = kc_n D R F a + kc_e x a := by
  have := ct_upd (P := fun _ => True) (g := R) (x := x) (w := nI (2 * a)) hr
  unfold kc_n kc_e
  omega
theorem kc_fld {D : Nat → Prop} {R : Nat → Int32} {F : Nat → Nat → Int32} {a c g : Nat} {x : Int32} (hc : c ≤ 48) (hg : g < 3) (hD : D (3 * c + g)) : kc_n D R (vw_u F c g x) a + kc_e (F c g) a = kc_n D R F a + kc_e x a := by
  have hj : 3 * c + g < 147 := by omega
  have e1 : (3 * c + g) / 3 = c := by omega
  have e2 : (3 * c + g) % 3 = g := by omega
  have h1 := kc_slot (D := D) (D' := fun i => D i ∧ i ≠ 3 * c + g) (R := R) (F := vw_u F c g x) (a := a) hj hD (fun i _ => Iff.rfl)
  have h2 := kc_slot (D := D) (D' := fun i => D i ∧ i ≠ 3 * c + g) (R := R) (F := F) (a := a) hj hD (fun i _ => Iff.rfl)
  have h3 : kc_n (fun i => D i ∧ i ≠ 3 * c + g) R (vw_u F c g x) a = kc_n (fun i => D i ∧ i ≠ 3 * c + g) R F a := kc_congr fun i hi => by
    by_cases e : i = 3 * c + g
    · exact ⟨fun z => absurd e z.1.2, fun z => absurd e z.1.2⟩
    · rw [vw_un (by omega)]
  rw [e1, e2, vw_us] at h1
  rw [e1, e2] at h2
  omega
/-! suspects -/
def kc_S (T su ss : Nat → Int32) (k : Nat) : Prop := (∀ i, i < k → ∃ a, ss i = nI a ∧ kc_T T a ∧ su a ≠ 0) ∧ (∀ a, 1 ≤ a → a ≤ 48 → su a ≠ 0 → ∃ i, i < k ∧ ss i = nI a) ∧ (∀ i j, i < k → j < k → ss i = ss j → i = j) ∧ ct_c (fun a => 1 ≤ a ∧ a ≤ 48 ∧ su a ≠ 0) 96 = k
theorem kc_S48 {T su ss : Nat → Int32} {k : Nat} (h : kc_S T su ss k) : k ≤ 48 := by
  rw [← h.2.2.2]
  have := ct_mono (P := fun a => 1 ≤ a ∧ a ≤ 48 ∧ su a ≠ 0) (Q := fun i => 1 ≤ i ∧ i < 49) 96 fun i _ z => ⟨z.1, by omega⟩
  rw [ct_range (by omega) 96 (by omega)] at this
  exact this
theorem kc_Sadd {T su ss : Nat → Int32} {k b : Nat} (h : kc_S T su ss k) (hb : kc_T T b) (hs : su b = 0) : kc_S T (upd su b 1) (upd ss k (nI b)) (k + 1) := by
  obtain ⟨h1, h2, h3, h4⟩ := h
  have key : ∀ i, i < k → ss i ≠ nI b := fun i hi e => by
    obtain ⟨a, q1, q2, q3⟩ := h1 i hi
    have : a = b := na_inj (by have := q2.2.1; omega) (by have := hb.2.1; omega) (q1.symm.trans e)
    exact q3 (this ▸ hs)
  refine ⟨fun i hi => ?_, fun a k1 k2 ha => ?_, fun i j hi hj e => ?_, ?_⟩
  · by_cases e : i = k
    · exact ⟨b, by rw [e, pk_us], hb, by rw [pk_us]; exact na_n10⟩
    · obtain ⟨a, q1, q2, q3⟩ := h1 i (by omega)
      refine ⟨a, by rw [pk_un e]; exact q1, q2, ?_⟩
      by_cases ea : a = b
      · rw [ea, pk_us]; exact na_n10
      · rw [pk_un ea]; exact q3
  · by_cases ea : a = b
    · exact ⟨k, by omega, by rw [pk_us, ea]⟩
    · rw [pk_un ea] at ha
      obtain ⟨i, hi, e⟩ := h2 a k1 k2 ha
      exact ⟨i, by omega, by rw [pk_un (by omega)]; exact e⟩
  · by_cases ei : i = k
    · by_cases ej : j = k
      · omega
      · rw [ei, pk_us, pk_un ej] at e; exact absurd e.symm (key j (by omega))
    · by_cases ej : j = k
      · rw [ej, pk_us, pk_un ei] at e; exact absurd e (key i (by omega))
      · rw [pk_un ei, pk_un ej] at e; exact h3 i j (by omega) (by omega) e
  · rw [ct_add (P := fun a => 1 ≤ a ∧ a ≤ 48 ∧ su a ≠ 0) (a := b) 96 (by have := hb.2.1; omega) (fun z => z.2.2 hs) (fun i _ => ?_), h4]
    show (1 ≤ i ∧ i ≤ 48 ∧ upd su b 1 i ≠ 0) ↔ (1 ≤ i ∧ i ≤ 48 ∧ su i ≠ 0) ∨ i = b
    by_cases e : i = b
    · rw [e, pk_us]; exact ⟨fun _ => Or.inr rfl, fun _ => ⟨hb.1, hb.2.1, na_n10⟩⟩
    · rw [pk_un e]; exact ⟨Or.inl, fun z => z.resolve_right e⟩
/-! what stands while references are dropped -/
def kc_rt (R T C st : Nat → Int32) (k cur : Nat) (y : Int32) (b : Nat) : Prop := gr_R R b ∨ (kc_T T b ∧ C b = 3) ∨ (b < 96 ∧ ∃ i, i < k ∧ st i = nI b) ∨ (1 ≤ b ∧ b = cur) ∨ (b < 96 ∧ y = nI (2 * b))
def kc_E (D : Nat → Prop) (F : Nat → Nat → Int32) (c b : Nat) : Prop := b < 96 ∧ ∃ f, f < 3 ∧ D (3 * c + f) ∧ F c f = nI (2 * b)
def kc_z (F : Nat → Nat → Int32) (C su : Nat → Int32) (a : Nat) : Prop := su a ≠ 0 ∧ C a = 2 ∧ ∀ g, g < 3 → F a g = 1
def kc_V (R : Nat → Int32) (F : Nat → Nat → Int32) (T C N : Nat → Int32) (f c : Int32) (rf su ss : Nat → Int32) (kS : Nat) (st : Nat → Int32) (k cur : Nat) (D : Nat → Prop) (y : Int32) : Prop :=
  fr_ok 48 T N f c ∧ gr_WG R F (kc_T T) ∧ gr_wf (kc_T T) y ∧ (∀ a, 1 ≤ a → a ≤ 48 → rf a = nI (kc_n D R F a + kc_e y a)) ∧ kc_S T su ss kS ∧
  (∀ a, kc_T T a → C a = 2 ∨ (C a = 3 ∧ su a ≠ 0)) ∧
  (∀ a, kc_T T a → kc_n D R F a + kc_e y a = 0 → kc_z F C su a ∨ (∃ i, i < k ∧ st i = nI a) ∨ a = cur) ∧
  (∀ a, kc_T T a → 0 < kc_n D R F a + kc_e y a → gr_rea (kc_rt R T C st k cur y) (kc_E D F) a) ∧
  (∀ i, i < k → ∃ a, st i = nI a ∧ kc_T T a ∧ kc_n D R F a + kc_e y a = 0 ∧ a ≠ cur) ∧ (∀ i j, i < k → j < k → st i = st j → i = j) ∧
  (cur = 0 ∨ (kc_T T cur ∧ kc_n D R F cur + kc_e y cur = 0)) ∧ k + ct_c (fun a => 1 ≤ a ∧ a ≤ 48 ∧ rf a ≠ 0) 96 ≤ 48 ∧
  (∀ i, i < 147 → kc_T T (i / 3) → i / 3 ≠ cur → D i)
theorem kc_T9 {T : Nat → Int32} {a : Nat} (h : kc_T T a) : a < 96 := by have := h.2.1; omega
section KC
variable {R : Nat → Int32} {F : Nat → Nat → Int32} {T C N : Nat → Int32} {f c : Int32} {rf su ss : Nat → Int32} {kS : Nat} {st : Nat → Int32} {k cur : Nat} {D : Nat → Prop} {y : Int32}
/-- an odd content pends: nothing pends -/
theorem kc_odd (h : gr_od y) (V : kc_V R F T C N f c rf su ss kS st k cur D y) : kc_V R F T C N f c rf su ss kS st k cur D 1 := by
  obtain ⟨v1, v2, v3, v4, v5, v6, v7, v8, v9, v10, v11, v12, v13⟩ := V
  have e : ∀ a, a < 96 → kc_e y a = kc_e 1 a := fun a ha => by rw [kc_eo h ha, kc_e1 ha]
  refine ⟨v1, v2, Or.inl gr_od1, fun a h1 h2 => by rw [← e a (by omega)]; exact v4 a h1 h2, v5, v6, fun a ha => by rw [← e a (kc_T9 ha)]; exact v7 a ha, fun a ha => ?_, fun i hi => ?_, v10, ?_, v12, v13⟩
  · rw [← e a (kc_T9 ha)]
    intro hp
    refine gr_mono (v8 a ha hp) (fun b hb => gr_root ?_) (fun _ _ hc he => gr_step hc he)
    rcases hb with z | z | z | z | z
    · exact Or.inl z
    · exact Or.inr (Or.inl z)
    · exact Or.inr (Or.inr (Or.inl z))
    · exact Or.inr (Or.inr (Or.inr (Or.inl z)))
    · exact absurd z.2 (gr_odne h (by omega))
  · obtain ⟨a, q1, q2, q3, q4⟩ := v9 i hi
    exact ⟨a, q1, q2, by rw [← e a (kc_T9 q2)]; exact q3, q4⟩
  · exact v11.imp id fun z => ⟨z.1, by rw [← e cur (kc_T9 z.1)]; exact z.2⟩
/-- the last reference to b is gone -/
theorem kc_drop0 {b : Nat} (V : kc_V R F T C N f c rf su ss kS st k cur D (nI (2 * b))) (hb : kc_T T b) (h0 : kc_n D R F b = 0) : kc_V R F T C N f c (upd rf b 0) su ss kS (upd st k (nI b)) (k + 1) cur D 1 := by
  obtain ⟨v1, v2, v3, v4, v5, v6, v7, v8, v9, v10, v11, v12, v13⟩ := V
  have hb9 := kc_T9 hb
  have eb : kc_e (nI (2 * b)) b = 1 := kc_et rfl
  have en : ∀ a, a < 96 → a ≠ b → kc_e (nI (2 * b)) a = 0 := fun a ha hn => kc_ef fun z => hn (na_inj2 hb9 ha z).symm
  have hcur : b ≠ cur := fun z => by
    rcases v11 with w | w
    · have := hb.1; omega
    · have := w.2; rw [← z, eb] at this; omega
  have key : ∀ i, i < k → st i ≠ nI b := fun i hi e => by
    obtain ⟨a, q1, q2, q3, q4⟩ := v9 i hi
    have : a = b := na_inj (by have := kc_T9 q2; omega) (by omega) (q1.symm.trans e)
    rw [this, eb] at q3; omega
  refine ⟨v1, v2, Or.inl gr_od1, fun a h1 h2 => ?_, v5, v6, fun a ha hz => ?_, fun a ha hz => ?_, fun i hi => ?_, fun i j hi hj e => ?_, ?_, ?_, v13⟩
  · rw [kc_e1 (by omega)]
    by_cases e : a = b
    · rw [e, pk_us, h0]; rfl
    · rw [pk_un e, v4 a h1 h2, en a (by omega) e]
  · rw [kc_e1 (kc_T9 ha)] at hz
    by_cases e : a = b
    · exact Or.inr (Or.inl ⟨k, by omega, by rw [pk_us, e]⟩)
    · rcases v7 a ha (by rw [en a (kc_T9 ha) e]; exact hz) with z | ⟨i, hi, z⟩ | z
      · exact Or.inl z
      · exact Or.inr (Or.inl ⟨i, by omega, by rw [pk_un (by omega)]; exact z⟩)
      · exact Or.inr (Or.inr z)
  · rw [kc_e1 (kc_T9 ha)] at hz
    refine gr_mono (v8 a ha (by omega)) (fun d hd => gr_root ?_) (fun _ _ hc he => gr_step hc he)
    rcases hd with z | z | ⟨h9, i, hi, z⟩ | z | z
    · exact Or.inl z
    · exact Or.inr (Or.inl z)
    · exact Or.inr (Or.inr (Or.inl ⟨h9, i, by omega, by rw [pk_un (by omega)]; exact z⟩))
    · exact Or.inr (Or.inr (Or.inr (Or.inl z)))
    · exact Or.inr (Or.inr (Or.inl ⟨z.1, k, by omega, by rw [pk_us, na_inj2 hb9 z.1 z.2]⟩))
  · by_cases e : i = k
    · exact ⟨b, by rw [e, pk_us], hb, by rw [kc_e1 hb9]; exact h0, hcur⟩
    · obtain ⟨a, q1, q2, q3, q4⟩ := v9 i (by omega)
      exact ⟨a, by rw [pk_un e]; exact q1, q2, by rw [kc_e1 (kc_T9 q2)]; omega, q4⟩
  · by_cases ei : i = k
    · by_cases ej : j = k
      · omega
      · rw [ei, pk_us, pk_un ej] at e; exact absurd e.symm (key j (by omega))
    · by_cases ej : j = k
      · rw [ej, pk_us, pk_un ei] at e; exact absurd e (key i (by omega))
      · rw [pk_un ei, pk_un ej] at e; exact v10 i j (by omega) (by omega) e
  · exact v11.imp id fun z => ⟨z.1, by rw [kc_e1 (kc_T9 z.1)]; have := z.2; omega⟩
  · have hrb := v4 b hb.1 hb.2.1
    rw [h0, eb] at hrb
    have := ct_add (P := fun a => 1 ≤ a ∧ a ≤ 48 ∧ upd rf b 0 a ≠ 0) (Q := fun a => 1 ≤ a ∧ a ≤ 48 ∧ rf a ≠ 0) (a := b) 96 hb9 (fun z => z.2.2 pk_us) (fun i _ => by
      by_cases e : i = b
      · rw [e]; exact ⟨fun _ => Or.inr rfl, fun _ => ⟨hb.1, hb.2.1, by rw [hrb]; exact nI_ne0 (by omega) (by omega)⟩⟩
      · rw [pk_un e]; exact ⟨Or.inl, fun z => z.resolve_right e⟩)
    omega
/-- another reference to b stays: b is suspected -/
theorem kc_drop1 {b : Nat} {su' ss' : Nat → Int32} {kS' : Nat} (V : kc_V R F T C N f c rf su ss kS st k cur D (nI (2 * b))) (hb : kc_T T b) (h0 : kc_n D R F b ≠ 0) (hS : kc_S T su' ss' kS') (hsu : ∀ a, su a ≠ 0 → su' a ≠ 0) (hsb : su' b ≠ 0) :
    kc_V R F T (upd C b 3) N f c (upd rf b (nI (kc_n D R F b))) su' ss' kS' st k cur D 1 := by
  obtain ⟨v1, v2, v3, v4, v5, v6, v7, v8, v9, v10, v11, v12, v13⟩ := V
  have hb9 := kc_T9 hb
  have eb : kc_e (nI (2 * b)) b = 1 := kc_et rfl
  have en : ∀ a, a < 96 → a ≠ b → kc_e (nI (2 * b)) a = 0 := fun a ha hn => kc_ef fun z => hn (na_inj2 hb9 ha z).symm
  refine ⟨v1, v2, Or.inl gr_od1, fun a h1 h2 => ?_, hS, fun a ha => ?_, fun a ha hz => ?_, fun a ha hz => ?_, fun i hi => ?_, v10, ?_, ?_, v13⟩
  · rw [kc_e1 (by omega)]
    by_cases e : a = b
    · rw [e, pk_us]; rfl
    · rw [pk_un e, v4 a h1 h2, en a (by omega) e]
  · by_cases e : a = b
    · rw [e, pk_us]; exact Or.inr ⟨rfl, hsb⟩
    · rw [pk_un e]; exact (v6 a ha).imp id fun z => ⟨z.1, hsu a z.2⟩
  · rw [kc_e1 (kc_T9 ha)] at hz
    have e : a ≠ b := fun z => h0 (z ▸ hz)
    rcases v7 a ha (by rw [en a (kc_T9 ha) e]; exact hz) with z | z | z
    · exact Or.inl ⟨hsu a z.1, by rw [pk_un e]; exact z.2.1, z.2.2⟩
    · exact Or.inr (Or.inl z)
    · exact Or.inr (Or.inr z)
  · rw [kc_e1 (kc_T9 ha)] at hz
    refine gr_mono (v8 a ha (by omega)) (fun d hd => gr_root ?_) (fun _ _ hc he => gr_step hc he)
    rcases hd with z | z | z | z | z
    · exact Or.inl z
    · refine Or.inr (Or.inl ⟨z.1, ?_⟩)
      by_cases e : d = b
      · rw [e, pk_us]
      · rw [pk_un e]; exact z.2
    · exact Or.inr (Or.inr (Or.inl z))
    · exact Or.inr (Or.inr (Or.inr (Or.inl z)))
    · refine Or.inr (Or.inl ?_)
      rw [← na_inj2 hb9 z.1 z.2]; exact ⟨hb, pk_us⟩
  · obtain ⟨a, q1, q2, q3, q4⟩ := v9 i hi
    exact ⟨a, q1, q2, by rw [kc_e1 (kc_T9 q2)]; omega, q4⟩
  · exact v11.imp id fun z => ⟨z.1, by rw [kc_e1 (kc_T9 z.1)]; have := z.2; omega⟩
  · rw [ct_congr (Q := fun a => 1 ≤ a ∧ a ≤ 48 ∧ rf a ≠ 0) 96 fun i _ => ?_]
    · exact v12
    · by_cases e : i = b
      · rw [e, pk_us]
        have := kc_le (D := D) (R := R) (F := F) (a := b)
        exact ⟨fun z => ⟨z.1, z.2.1, by rw [v4 b hb.1 hb.2.1]; exact nI_ne0 (by omega) (by have := kc_e_le (y := nI (2 * b)) (a := b); omega)⟩, fun z => ⟨z.1, z.2.1, nI_ne0 (by omega) (by omega)⟩⟩
      · rw [pk_un e]
/-- the next slot of the cell at hand pends -/
theorem kc_pend {D' : Nat → Prop} {g : Nat} (V : kc_V R F T C N f c rf su ss kS st k cur D 1) (hcur : kc_T T cur) (hg : g < 3) (hD : D (3 * cur + g)) (hD' : ∀ i, D' i ↔ D i ∧ i ≠ 3 * cur + g) :
    kc_V R F T C N f c rf su ss kS st k cur D' (F cur g) := by
  obtain ⟨v1, v2, v3, v4, v5, v6, v7, v8, v9, v10, v11, v12, v13⟩ := V
  have h48 := hcur.2.1
  have e1 : (3 * cur + g) / 3 = cur := by omega
  have e2 : (3 * cur + g) % 3 = g := by omega
  have key : ∀ a, a < 96 → kc_n D' R F a + kc_e (F cur g) a = kc_n D R F a + kc_e 1 a := fun a ha => by
    have := kc_slot (D := D) (D' := D') (R := R) (F := F) (a := a) (j := 3 * cur + g) (by omega) hD (fun i _ => hD' i)
    rw [e1, e2] at this
    rw [kc_e1 ha]; omega
  refine ⟨v1, v2, v2.2.1 cur hcur g hg, fun a h1 h2 => by rw [key a (by omega)]; exact v4 a h1 h2, v5, v6, fun a ha => by rw [key a (kc_T9 ha)]; exact v7 a ha, fun a ha => ?_, fun i hi => ?_, v10, ?_, v12, fun i hi h1 h2 => (hD' i).mpr ⟨v13 i hi h1 h2, fun z => h2 (by rw [z]; exact e1)⟩⟩
  · rw [key a (kc_T9 ha)]
    intro hz
    refine gr_mono (v8 a ha hz) (fun d hd => gr_root ?_) (fun d b hc he => ?_)
    · rcases hd with z | z | z | z | z
      · exact Or.inl z
      · exact Or.inr (Or.inl z)
      · exact Or.inr (Or.inr (Or.inl z))
      · exact Or.inr (Or.inr (Or.inr (Or.inl z)))
      · exact absurd z.2 (gr_odne gr_od1 (by omega))
    · obtain ⟨hb9, h, h3, hDd, e⟩ := he
      by_cases es : 3 * d + h = 3 * cur + g
      · have ed : d = cur := by omega
        have eg : h = g := by omega
        rw [ed, eg] at e
        exact gr_root (Or.inr (Or.inr (Or.inr (Or.inr ⟨hb9, e⟩))))
      · exact gr_step hc ⟨hb9, h, h3, (hD' _).mpr ⟨hDd, es⟩, e⟩
  · obtain ⟨a, q1, q2, q3, q4⟩ := v9 i hi
    exact ⟨a, q1, q2, by rw [key a (kc_T9 q2)]; exact q3, q4⟩
  · exact v11.imp id fun z => ⟨z.1, by rw [key cur (kc_T9 z.1)]; exact z.2⟩
end KC
end
section
def kc_D (T : Nat → Int32) (cur g : Nat) (i : Nat) : Prop := kc_T T (i / 3) ∧ ¬ (i / 3 = cur ∧ i % 3 < g)
theorem gr_drop {rt rt' : Nat → Prop} {E : Nat → Nat → Prop} {a cur : Nat} (h : gr_rea rt E a) (hr : ∀ b, rt b → b = cur ∨ rt' b) (hE : ∀ b, ¬ E cur b) : a = cur ∨ gr_rea rt' E a := by
  refine h (fun x => x = cur ∨ gr_rea rt' E x) (fun b hb => (hr b hb).imp id gr_root) (fun c b hc he => ?_)
  rcases hc with z | z
  · exact absurd (z ▸ he) (hE b)
  · exact Or.inr (gr_step z he)
section KC
variable {R : Nat → Int32} {F : Nat → Nat → Int32} {T C N : Nat → Int32} {f c : Int32} {rf su ss : Nat → Int32} {kS : Nat} {st : Nat → Int32} {k cur : Nat} {D : Nat → Prop} {y : Int32}
theorem kc_clear (V : kc_V R F T C N f c rf su ss kS st k cur (kc_D T cur 3) 1) (h1 : 1 ≤ cur) : kc_V R (vw_w F cur (fun _ => 1)) T C N f c rf su ss kS st k cur (kc_D T 0 0) 1 := by
  obtain ⟨v1, v2, v3, v4, v5, v6, v7, v8, v9, v10, v11, v12, v13⟩ := V
  have key : ∀ a, a < 96 → kc_n (kc_D T 0 0) R (vw_w F cur (fun _ => 1)) a = kc_n (kc_D T cur 3) R F a := fun a ha => kc_congr fun i hi => by
    by_cases e : i / 3 = cur
    · rw [e, vw_ws]
      exact ⟨fun z => absurd z.2 (gr_odne gr_od1 (by omega)), fun z => absurd ⟨e, by omega⟩ z.1.2⟩
    · rw [vw_wn e]
      exact ⟨fun z => ⟨⟨z.1.1, fun w => e w.1⟩, z.2⟩, fun z => ⟨⟨z.1.1, fun w => by omega⟩, z.2⟩⟩
  refine ⟨v1, ⟨v2.1, fun a ha g hg => ?_, v2.2.2⟩, v3, fun a q1 q2 => by rw [key a (by omega)]; exact v4 a q1 q2, v5, v6, fun a ha => ?_, fun a ha => ?_, fun i hi => ?_, v10, ?_, v12, fun i hi q1 q2 => ⟨q1, fun w => by omega⟩⟩
  · by_cases e : a = cur
    · rw [e, vw_ws]; exact Or.inl gr_od1
    · rw [vw_wn e]; exact v2.2.1 a ha g hg
  · rw [key a (kc_T9 ha)]
    intro hz
    refine (v7 a ha hz).imp (fun z => ⟨z.1, z.2.1, fun g hg => ?_⟩) id
    by_cases e : a = cur
    · rw [e, vw_ws]
    · rw [vw_wn e]; exact z.2.2 g hg
  · rw [key a (kc_T9 ha)]
    intro hz
    refine gr_mono (v8 a ha hz) (fun d hd => gr_root hd) (fun d b hc he => gr_step hc ?_)
    obtain ⟨h9, h, h3, hD, e⟩ := he
    have hd : d ≠ cur := fun z => hD.2 ⟨by omega, by omega⟩
    exact ⟨h9, h, h3, ⟨hD.1, fun w => by omega⟩, by rw [vw_wn hd]; exact e⟩
  · obtain ⟨a, q1, q2, q3, q4⟩ := v9 i hi
    exact ⟨a, q1, q2, by rw [key a (kc_T9 q2)]; exact q3, q4⟩
  · exact v11.imp id fun z => ⟨z.1, by rw [key cur (kc_T9 z.1)]; exact z.2⟩
theorem kc_noE (hF : ∀ g, g < 3 → F cur g = 1) : ∀ b, ¬ kc_E D F cur b := by
  rintro b ⟨h9, h, h3, _, e⟩
  rw [hF h h3] at e
  exact absurd e (gr_odne gr_od1 (by omega))
/-- a dead cell that is suspected stays, without fields -/
theorem kc_fin1 (V : kc_V R F T C N f c rf su ss kS st k cur (kc_D T 0 0) 1) (hc : kc_T T cur) (hF : ∀ g, g < 3 → F cur g = 1) (hs : su cur ≠ 0) : kc_V R F T (upd C cur 2) N f c rf su ss kS st k 0 (kc_D T 0 0) 1 := by
  obtain ⟨v1, v2, v3, v4, v5, v6, v7, v8, v9, v10, v11, v12, v13⟩ := V
  have h1 := hc.1
  have h0 : kc_n (kc_D T 0 0) R F cur + kc_e 1 cur = 0 := by
    rcases v11 with z | z
    · omega
    · exact z.2
  refine ⟨v1, v2, v3, v4, v5, fun a ha => ?_, fun a ha hz => ?_, fun a ha hz => ?_, fun i hi => ?_, v10, Or.inl rfl, v12, fun i hi q1 q2 => ⟨q1, fun w => by omega⟩⟩
  · by_cases e : a = cur
    · rw [e, pk_us]; exact Or.inl rfl
    · rw [pk_un e]; exact v6 a ha
  · by_cases e : a = cur
    · exact Or.inl (by rw [e]; exact ⟨hs, pk_us, hF⟩)
    · rcases v7 a ha hz with z | z | z
      · exact Or.inl ⟨z.1, by rw [pk_un e]; exact z.2.1, z.2.2⟩
      · exact Or.inr (Or.inl z)
      · exact absurd z e
  · have hac : a ≠ cur := fun z => by rw [z] at hz; omega
    refine (gr_drop (v8 a ha hz) (fun b hb => ?_) (kc_noE hF)).resolve_left hac
    by_cases e : b = cur
    · exact Or.inl e
    · right
      rcases hb with z | z | z | z | z
      · exact Or.inl z
      · exact Or.inr (Or.inl ⟨z.1, by rw [pk_un e]; exact z.2⟩)
      · exact Or.inr (Or.inr (Or.inl z))
      · exact absurd z.2 e
      · exact Or.inr (Or.inr (Or.inr (Or.inr z)))
  · obtain ⟨a, q1, q2, q3, q4⟩ := v9 i hi
    exact ⟨a, q1, q2, q3, by have := q2.1; omega⟩
/-- a dead cell is released -/
theorem kc_fin2 {N' : Nat → Int32} {f' c' w : Int32} (V : kc_V R F T C N f c rf su ss kS st k cur (kc_D T 0 0) 1) (hc : kc_T T cur) (hF : ∀ g, g < 3 → F cur g = 1) (hs : su cur = 0) (hok : fr_ok 48 (upd T cur 0) N' f' c') :
    kc_V R F (upd T cur 0) (upd C cur w) N' f' c' rf su ss kS st k 0 (kc_D (upd T cur 0) 0 0) 1 := by
  obtain ⟨v1, v2, v3, v4, v5, v6, v7, v8, v9, v10, v11, v12, v13⟩ := V
  have h1 := hc.1
  have h48 := hc.2.1
  have h0 : kc_n (kc_D T 0 0) R F cur = 0 := by
    rcases v11 with z | z
    · omega
    · omega
  have hT : ∀ a, kc_T (upd T cur 0) a ↔ kc_T T a ∧ a ≠ cur := fun a => by
    by_cases e : a = cur
    · rw [e]; exact ⟨fun z => absurd pk_us z.2.2, fun z => absurd rfl z.2⟩
    · unfold kc_T; rw [pk_un e]; exact ⟨fun z => ⟨z, e⟩, fun z => z.1⟩
  have key : ∀ a, a < 96 → kc_n (kc_D (upd T cur 0) 0 0) R F a = kc_n (kc_D T 0 0) R F a := fun a ha => kc_congr fun i hi => by
    by_cases e : i / 3 = cur
    · rw [e, hF _ (by omega)]
      exact ⟨fun z => absurd z.2 (gr_odne gr_od1 (by omega)), fun z => absurd z.2 (gr_odne gr_od1 (by omega))⟩
    · exact ⟨fun z => ⟨⟨((hT _).mp z.1.1).1, z.1.2⟩, z.2⟩, fun z => ⟨⟨(hT _).mpr ⟨z.1.1, e⟩, z.1.2⟩, z.2⟩⟩
  have hreg : ∀ r, r < 6 → R r ≠ nI (2 * cur) := fun r hr e => by
    have := kc_preg (D := kc_D T 0 0) (F := F) hr e; omega
  have hfld : ∀ a, kc_T T a → ∀ g, g < 3 → F a g ≠ nI (2 * cur) := fun a ha g hg e => by
    have := kc_pcell (D := kc_D T 0 0) (R := R) ha.2.1 hg ⟨by rw [show (3 * a + g) / 3 = a by omega]; exact ha, fun w => by omega⟩ e
    omega
  refine ⟨hok, ⟨fun r hr => ?_, fun a ha g hg => ?_, fun a ha => v2.2.2 a ((hT a).mp ha).1⟩, Or.inl gr_od1, fun a q1 q2 => by rw [key a (by omega)]; exact v4 a q1 q2, ⟨fun i hi => ?_, v5.2⟩, fun a ha => ?_, fun a ha => ?_, fun a ha => ?_, fun i hi => ?_, v10, Or.inl rfl, v12, fun i hi q1 q2 => ⟨q1, fun w => by omega⟩⟩
  · exact gr_wfm (v2.1 r hr) fun b hb e => (hT b).mpr ⟨hb, fun z => hreg r hr (z ▸ e)⟩
  · exact gr_wfm (v2.2.1 a ((hT a).mp ha).1 g hg) fun b hb e => (hT b).mpr ⟨hb, fun z => hfld a ((hT a).mp ha).1 g hg (z ▸ e)⟩
  · obtain ⟨a, q1, q2, q3⟩ := v5.1 i hi
    exact ⟨a, q1, (hT a).mpr ⟨q2, fun z => q3 (z ▸ hs)⟩, q3⟩
  · have := (hT a).mp ha
    rw [pk_un this.2]; exact v6 a this.1
  · have ha' := (hT a).mp ha
    rw [key a (kc_T9 ha)]
    intro hz
    rcases v7 a ha'.1 hz with z | z | z
    · exact Or.inl ⟨z.1, by rw [pk_un ha'.2]; exact z.2.1, z.2.2⟩
    · exact Or.inr (Or.inl z)
    · exact absurd z ha'.2
  · have ha' := (hT a).mp ha
    rw [key a (kc_T9 ha)]
    intro hz
    have h8 := (gr_drop (v8 a ha'.1 hz) (rt' := fun b => b ≠ cur ∧ kc_rt R T C st k cur 1 b) (fun b hb => by
      by_cases e : b = cur
      · exact Or.inl e
      · exact Or.inr ⟨e, hb⟩) (kc_noE hF)).resolve_left ha'.2
    refine gr_mono h8 (fun b hb => gr_root ?_) (fun d b hc he => gr_step hc ?_)
    · rcases hb.2 with z | z | z | z | z
      · exact Or.inl z
      · exact Or.inr (Or.inl ⟨(hT b).mpr ⟨z.1, hb.1⟩, by rw [pk_un hb.1]; exact z.2⟩)
      · exact Or.inr (Or.inr (Or.inl z))
      · exact absurd z.2 hb.1
      · exact Or.inr (Or.inr (Or.inr (Or.inr z)))
    · obtain ⟨h9, h, h3, hD, e⟩ := he
      have hd : (3 * d + h) / 3 ≠ cur := fun z => by
        have : d = cur := by omega
        rw [this, hF h h3] at e
        exact absurd e (gr_odne gr_od1 (by omega))
      exact ⟨h9, h, h3, ⟨(hT _).mpr ⟨hD.1, hd⟩, hD.2⟩, e⟩
  · obtain ⟨a, q1, q2, q3, q4⟩ := v9 i hi
    have hn : a ≠ cur := q4
    exact ⟨a, q1, (hT a).mpr ⟨q2, hn⟩, by rw [key a (kc_T9 q2)]; exact q3, by have := q2.1; omega⟩
/-- the top of the stack is the cell at hand -/
theorem kc_pop (V : kc_V R F T C N f c rf su ss kS st (k + 1) 0 (kc_D T 0 0) 1) : ∃ a, st k = nI a ∧ kc_T T a ∧ kc_V R F T C N f c rf su ss kS st k a (kc_D T a 0) 1 := by
  obtain ⟨v1, v2, v3, v4, v5, v6, v7, v8, v9, v10, v11, v12, v13⟩ := V
  obtain ⟨a, q1, q2, q3, q4⟩ := v9 k (by omega)
  have eD : kc_D T a 0 = kc_D T 0 0 := by
    funext i; exact propext ⟨fun z => ⟨z.1, fun w => by omega⟩, fun z => ⟨z.1, fun w => by omega⟩⟩
  refine ⟨a, q1, q2, ?_⟩
  rw [eD]
  refine ⟨v1, v2, v3, v4, v5, v6, fun b hb hz => ?_, fun b hb hz => ?_, fun i hi => ?_, fun i j hi hj => v10 i j (by omega) (by omega), Or.inr ⟨q2, q3⟩, by omega, fun i hi w1 w2 => ⟨w1, fun w => by omega⟩⟩
  · rcases v7 b hb hz with z | ⟨i, hi, z⟩ | z
    · exact Or.inl z
    · by_cases e : i = k
      · right; right
        exact na_inj (by have := kc_T9 hb; omega) (by have := kc_T9 q2; omega) (z.symm.trans (e ▸ q1))
      · exact Or.inr (Or.inl ⟨i, by omega, z⟩)
    · have := hb.1; omega
  · refine gr_mono (v8 b hb hz) (fun d hd => gr_root ?_) (fun _ _ hc he => gr_step hc he)
    rcases hd with z | z | ⟨h9, i, hi, z⟩ | z | z
    · exact Or.inl z
    · exact Or.inr (Or.inl z)
    · by_cases e : i = k
      · have ea := na_inj (by omega) (by have := kc_T9 q2; omega) (z.symm.trans (e ▸ q1))
        exact Or.inr (Or.inr (Or.inr (Or.inl ⟨by have := q2.1; omega, ea⟩)))
      · exact Or.inr (Or.inr (Or.inl ⟨h9, i, by omega, z⟩))
    · omega
    · exact Or.inr (Or.inr (Or.inr (Or.inr z)))
  · obtain ⟨b, r1, r2, r3, r4⟩ := v9 i (by omega)
    refine ⟨b, r1, r2, r3, fun z => ?_⟩
    have := v10 i k (by omega) (by omega) (by rw [r1, q1, z])
    omega
end KC
end
section
theorem na_384 (a : Nat) : 384 + nI a = nI (4 * 96 + a) := nI_add 384 a
noncomputable def kc_ne (rf : Nat → Int32) : Nat := ct_c (fun a => 1 ≤ a ∧ a ≤ 48 ∧ rf a ≠ 0) 96
section C4
variable {zhf zhn zcn zyn zsc zph zsa zgc zsd zs2 : Int32} {zrg zfl ztk zco znx zff zfc zmv zrm zrf zsu zss zgs zfa zst zt2 zse zpa zba : Nat → Int32}
theorem xk_suspect {post : SX → Prop} {b kS : Nat} (hb : kc_T (vw_c ztk 4) b) (hS : kc_S (vw_c ztk 4) (vw_s zsu) zss kS)
    (K : ∀ zsu' zss' kS', kc_S (vw_c ztk 4) (vw_s zsu') zss' kS' → (∀ a, vw_s zsu a ≠ 0 → vw_s zsu' a ≠ 0) → vw_s zsu' b ≠ 0 → post (zhf, zhn, zcn, zyn, nI kS', zph, zsa, zgc, zsd, zs2, zrg, zfl, ztk, upd zco (4 * 96 + b) 3, znx, zff, zfc, zmv, zrm, zrf, zsu', zss', zgs, zfa, zst, zt2, zse, zpa, zba)) :
    wpX_suspect post (zhf, zhn, zcn, zyn, nI kS, zph, zsa, zgc, zsd, zs2, zrg, zfl, ztk, zco, znx, zff, zfc, zmv, zrm, zrf, zsu, zss, zgs, zfa, zst, zt2, zse, zpa, zba) (nI b) := by
  have hb9 := kc_T9 hb
  have h48 := kc_S48 hS
  have hsu : vw_s zsu b = zsu b := vw_s_at hb9
  show vp_in (384 + nI b) 672 ∧ ∀ zco', zco' = upd zco (384 + nI b).toNatClampNeg (vp_nar .byte 3) → vp_in (nI b) 96 ∧ ((zsu (nI b).toNatClampNeg = 0 → vp_in (nI b) 96 ∧ ∀ zsu', zsu' = upd zsu (nI b).toNatClampNeg (vp_nar .boolean 1) → vp_in (nI kS) 96 ∧ ∀ zss', zss' = upd zss (nI kS).toNatClampNeg (vp_nar .byte (nI b).toInt8.toInt32) → ∀ zsc', zsc' = nI kS + 1 → post (zhf, zhn, zcn, zyn, zsc', zph, zsa, zgc, zsd, zs2, zrg, zfl, ztk, zco', znx, zff, zfc, zmv, zrm, zrf, zsu', zss', zgs, zfa, zst, zt2, zse, zpa, zba)) ∧ (¬ zsu (nI b).toNatClampNeg = 0 → post (zhf, zhn, zcn, zyn, nI kS, zph, zsa, zgc, zsd, zs2, zrg, zfl, ztk, zco', znx, zff, zfc, zmv, zrm, zrf, zsu, zss, zgs, zfa, zst, zt2, zse, zpa, zba)))
  rw [na_384, nI_clamp (n := 4 * 96 + b) (by omega), nI_clamp (n := b) (by omega), nI_clamp (n := kS) (by omega), na_3, na_t, na_b (by omega), nI_1]
  refine ⟨vp_in_nI (by omega) (by omega), nm_e ⟨vp_in_nI hb9 (by omega), ?_⟩⟩
  by_cases h0 : zsu b = 0
  · refine br_t h0 ⟨vp_in_nI hb9 (by omega), nm_e ⟨vp_in_nI (by omega) (by omega), nm_e (nm_e ?_)⟩⟩
    refine K _ _ (kS + 1) (by rw [vw_s_s hb9]; exact kc_Sadd hS hb (hsu.trans h0)) (fun a ha => ?_) (by rw [vw_s_s hb9, pk_us]; exact na_n10)
    rw [vw_s_s hb9]
    by_cases e : a = b
    · rw [e, pk_us]; exact na_n10
    · rw [pk_un e]; exact ha
  · exact br_f h0 (K zsu zss kS hS (fun _ h => h) (by rw [hsu]; exact h0))
theorem xk_drop {post : SX → Prop} {D : Nat → Prop} {y : Int32} {k kS cur : Nat}
    (V : kc_V (vw_r zrg 4) (vw_f zfl 4) (vw_c ztk 4) (vw_c zco 4) (vw_c znx 4) (zff 4) (zfc 4) (vw_s zrf) (vw_s zsu) zss kS zst k cur D y)
    (K : ∀ zrf' zco' zsu' zss' zst' kS' k', kc_V (vw_r zrg 4) (vw_f zfl 4) (vw_c ztk 4) (vw_c zco' 4) (vw_c znx 4) (zff 4) (zfc 4) (vw_s zrf') (vw_s zsu') zss' kS' zst' k' cur D 1 →
      2 * kc_ne (vw_s zrf') + k' ≤ 2 * kc_ne (vw_s zrf) + k → (∀ e', e' ≠ 4 → vw_c zco' e' = vw_c zco e') → post (zhf, zhn, zcn, zyn, nI kS', zph, zsa, zgc, nI k', zs2, zrg, zfl, ztk, zco', znx, zff, zfc, zmv, zrm, zrf', zsu', zss', zgs, zfa, zst', zt2, zse, zpa, zba)) :
    wpX_dropReference post (zhf, zhn, zcn, zyn, nI kS, zph, zsa, zgc, nI k, zs2, zrg, zfl, ztk, zco, znx, zff, zfc, zmv, zrm, zrf, zsu, zss, zgs, zfa, zst, zt2, zse, zpa, zba) y := by
  have hV := V
  obtain ⟨v1, v2, v3, v4, v5, v6, v7, v8, v9, v10, v11, v12, v13⟩ := V
  rcases v3 with ho | ⟨b, hb, rfl⟩
  · refine nm_e ?_
    refine xp_odd ho ?_
    exact br_t rfl (K zrf zco zsu zss zst kS k (kc_odd ho hV) (Nat.le_refl _) (fun _ _ => rfl))
  · have hb9 := kc_T9 hb
    refine nm_r (gr_sh (by omega)) ?_
    refine xp_ref (by omega) ?_
    refine br_f na_n10 ⟨vp_in_nI hb9 (by omega), vp_in_nI hb9 (by omega), ?_⟩
    have hle := kc_le (D := D) (R := vw_r zrg 4) (F := vw_f zfl 4) (a := b)
    have hr : zrf b = nI (kc_n D (vw_r zrg 4) (vw_f zfl 4) b + 1) := by
      rw [← vw_s_at (g := zrf) hb9, v4 b hb.1 hb.2.1, kc_et rfl]
    rw [nI_clamp (n := b) (by omega), hr, na_sm (by omega)]
    refine nm_e ⟨vp_in_nI hb9 (by omega), ?_⟩
    rw [pk_us]
    by_cases h0 : kc_n D (vw_r zrg 4) (vw_f zfl 4) b = 0
    · refine br_t (by rw [h0]; rfl) ?_
      refine xp_push (by omega) (by omega) ?_
      have V' := kc_drop0 hV hb h0
      have e0 : nI (kc_n D (vw_r zrg 4) (vw_f zfl 4) b) = 0 := by rw [h0]; rfl
      rw [e0]
      refine K _ zco zsu zss _ kS (k + 1) (by rw [vw_s_s hb9]; exact V') ?_ (fun _ _ => rfl)
      rw [vw_s_s hb9]
      have hrb : vw_s zrf b ≠ 0 := by rw [vw_s_at hb9, hr]; exact nI_ne0 (by omega) (by omega)
      have := ct_add (P := fun a => 1 ≤ a ∧ a ≤ 48 ∧ upd (vw_s zrf) b 0 a ≠ 0) (Q := fun a => 1 ≤ a ∧ a ≤ 48 ∧ vw_s zrf a ≠ 0) (a := b) 96 hb9 (fun z => z.2.2 pk_us) (fun i _ => by
        by_cases e : i = b
        · rw [e]; exact ⟨fun _ => Or.inr rfl, fun _ => ⟨hb.1, hb.2.1, hrb⟩⟩
        · rw [pk_un e]; exact ⟨Or.inl, fun z => z.resolve_right e⟩)
      unfold kc_ne; omega
    · refine br_f (nI_ne0 (by omega) (by omega)) ?_
      refine xk_suspect hb v5 fun zsu' zss' kS' s1 s2 s3 => ?_
      refine K _ _ zsu' zss' zst kS' k (by rw [vw_s_s hb9, vw_c_s hb9]; exact kc_drop1 hV hb h0 s1 s2 s3) ?_ (fun e' n => vw_c_o hb9 n)
      rw [vw_s_s hb9]
      have hrb : vw_s zrf b ≠ 0 := by rw [vw_s_at hb9, hr]; exact nI_ne0 (by omega) (by omega)
      have : kc_ne (upd (vw_s zrf) b (nI (kc_n D (vw_r zrg 4) (vw_f zfl 4) b))) = kc_ne (vw_s zrf) := ct_congr 96 fun i _ => by
        by_cases e : i = b
        · rw [e, pk_us]; exact ⟨fun z => ⟨z.1, z.2.1, hrb⟩, fun z => ⟨z.1, z.2.1, nI_ne0 (by omega) (by omega)⟩⟩
        · rw [pk_un e]
      omega
theorem xk_fields {post : SX → Prop} {J : TW_10} {cur : Nat} (mu : Nat)
    (W : Nat → (Nat → Int32) × (Nat → Nat → Int32) × (Nat → Int32) × (Nat → Int32) × (Nat → Int32) × Int32 × Int32)
    (K : ∀ zrf' zco' zsu' zss' zst' zfl' ztk' znx' zff' zfc' kS' k', kc_V (vw_r zrg 4) (vw_f zfl' 4) (vw_c ztk' 4) (vw_c zco' 4) (vw_c znx' 4) (zff' 4) (zfc' 4) (vw_s zrf') (vw_s zsu') zss' kS' zst' k' 0 (kc_D (vw_c ztk' 4) 0 0) 1 →
      2 * kc_ne (vw_s zrf') + k' ≤ mu → (∀ e', e' ≠ 4 → vw_v e' zrg zfl' ztk' zco' znx' zff' zfc' = W e') → (∀ g, kc_T (vw_c ztk' 4) g → kc_T (vw_c ztk 4) g) → (∀ a, kc_T (vw_c ztk 4) a → a ≠ cur → vw_f zfl' 4 a = vw_f zfl 4 a ∧ kc_T (vw_c ztk' 4) a) → J zhf zhn zcn zyn (nI kS') zph zsa zgc (nI k') zs2 zrg zfl' ztk' zco' znx' zff' zfc' zmv zrm zrf' zsu' zss' zgs zfa zst' zt2 zse zpa zba) :
    ∀ (n g k kS : Nat) (zrf zco zsu zss zst : Nat → Int32), g ≤ 3 → 3 < n + g → kc_T (vw_c ztk 4) cur → kc_V (vw_r zrg 4) (vw_f zfl 4) (vw_c ztk 4) (vw_c zco 4) (vw_c znx 4) (zff 4) (zfc 4) (vw_s zrf) (vw_s zsu) zss kS zst k cur (kc_D (vw_c ztk 4) cur g) 1 →
      2 * kc_ne (vw_s zrf) + k ≤ mu → (∀ e', e' ≠ 4 → vw_v e' zrg zfl ztk zco znx zff zfc = W e') → wX_unrefer_39 post J (nI cur) n (nI g) zhf zhn zcn zyn (nI kS) zph zsa zgc (nI k) zs2 zrg zfl ztk zco znx zff zfc zmv zrm zrf zsu zss zgs zfa zst zt2 zse zpa zba := by
  intro n
  induction n with
  | zero => intro g k kS _ _ _ _ _ h1 h2; omega
  | succ n ih =>
    intro g k kS zrf zco zsu zss zst h1 h2 hc V hmu hW
    have hc9 := kc_T9 hc
    have hc1 := hc.1
    have hc48 := hc.2.1
    by_cases h3 : g = 3
    · subst h3
      refine br_t (by decide) ?_
      refine xp_clear (e := 4) (by omega) hc9 fun zfl' f1 f2 => ?_
      rw [na_384, nI_clamp (n := 4 * 96 + cur) (by omega), na_2]
      refine ⟨vp_in_nI (by omega) (by omega), nm_e ⟨vp_in_nI hc9 (by omega), ?_⟩⟩
      have V1 := kc_clear V hc1
      rw [← f1] at V1
      have hF : ∀ g, g < 3 → vw_f zfl' 4 cur g = 1 := fun g _ => by rw [f1, vw_ws]
      have hFo : ∀ a, a ≠ cur → vw_f zfl' 4 a = vw_f zfl 4 a := fun a ha => by funext h; rw [f1, vw_wn ha]
      have hsu : vw_s zsu cur = zsu cur := vw_s_at hc9
      rw [nI_clamp (n := cur) (by omega)]
      by_cases h0 : zsu cur = 0
      · refine br_t h0 ?_
        refine xf_release (e := 4) (last := 48) (by omega) hc1 hc48 (by omega) V1.1 hc.2.2 fun ztk' zco' znx' zff' zfc' r1 r2 r3 r4 => ?_
        rw [r1] at r3
        have V2 := kc_fin2 (w := 0) V1 hc hF (hsu.trans h0) r3
        have ec : vw_c zco' 4 = upd (vw_c zco 4) cur 0 := by
          rw [r2, vw_c_s hc9]
          funext j
          by_cases e : j = cur
          · rw [e, pk_us, pk_us]
          · rw [pk_un e, pk_un e, pk_un e]
        rw [← r1, ← ec] at V2
        refine K zrf zco' zsu zss zst zfl' ztk' znx' zff' zfc' kS k V2 hmu (fun e' n => ?_) (fun a ha => ?_) (fun a ha hn => ⟨hFo a hn, ?_⟩)
        · exact (r4 e' n).trans (((vw_v_co (vw_c_o hc9 n)).trans (vw_v_fl (f2 e' n))).trans (hW e' n))
        · rw [r1] at ha
          by_cases e : a = cur
          · rw [e]; exact hc
          · unfold kc_T at ha; rw [pk_un e] at ha; exact ha
        · rw [r1]; unfold kc_T; rw [pk_un hn]; exact ha
      · refine br_f h0 ?_
        have V2 := kc_fin1 V1 hc hF (by rw [hsu]; exact h0)
        rw [← vw_c_s hc9] at V2
        exact K zrf _ zsu zss zst zfl' ztk znx zff zfc kS k V2 hmu (fun e' n => ((vw_v_co (vw_c_o hc9 n)).trans (vw_v_fl (f2 e' n))).trans (hW e' n)) (fun _ h => h) (fun a ha hn => ⟨hFo a hn, ha⟩)
    · refine br_f (nI_ge (b := 3) (by omega) (by omega)) ?_
      refine xp_fieldOf (e := 4) (by omega) hc9 (by omega) ?_
      have V1 := kc_pend (D' := kc_D (vw_c ztk 4) cur (g + 1)) (g := g) V hc (by omega) ⟨by rw [show (3 * cur + g) / 3 = cur by omega]; exact hc, fun w => by omega⟩ (fun i => ⟨fun z => ⟨⟨z.1, fun w => z.2 ⟨w.1, by omega⟩⟩, fun w => z.2 ⟨by omega, by omega⟩⟩, fun z => ⟨z.1.1, fun w => ?_⟩⟩)
      · refine xk_drop V1 fun zrf' zco' zsu' zss' zst' kS' k' V2 hmu' ho => ?_
        refine nm_r (nI_1 g) ?_
        exact ih (g + 1) k' kS' zrf' zco' zsu' zss' zst' (by omega) (by omega) hc V2 (by omega) (fun e' n => (vw_v_co (ho e' n)).trans (hW e' n))
      · by_cases e : i % 3 = g
        · exact z.2 (by omega)
        · exact z.1.2 ⟨w.1, by omega⟩
end C4
end
section
section KC
variable {R : Nat → Int32} {F : Nat → Nat → Int32} {T C N : Nat → Int32} {f c : Int32} {rf su ss : Nat → Int32} {kS : Nat} {st : Nat → Int32} {k cur : Nat} {D : Nat → Prop} {y : Int32}
theorem kc_st0 {st' : Nat → Int32} (V : kc_V R F T C N f c rf su ss kS st 0 cur D y) : kc_V R F T C N f c rf su ss kS st' 0 cur D y := by
  obtain ⟨v1, v2, v3, v4, v5, v6, v7, v8, v9, v10, v11, v12, v13⟩ := V
  refine ⟨v1, v2, v3, v4, v5, v6, fun a ha hz => ?_, fun a ha hz => ?_, fun i hi => absurd hi (Nat.not_lt_zero i), fun i j hi => absurd hi (Nat.not_lt_zero i), v11, v12, v13⟩
  · rcases v7 a ha hz with z | ⟨i, hi, _⟩ | z
    · exact Or.inl z
    · exact absurd hi (Nat.not_lt_zero i)
    · exact Or.inr (Or.inr z)
  · refine gr_mono (v8 a ha hz) (fun d hd => gr_root ?_) (fun _ _ hc he => gr_step hc he)
    rcases hd with z | z | ⟨_, i, hi, _⟩ | z | z
    · exact Or.inl z
    · exact Or.inr (Or.inl z)
    · exact absurd hi (Nat.not_lt_zero i)
    · exact Or.inr (Or.inr (Or.inr (Or.inl z)))
    · exact Or.inr (Or.inr (Or.inr (Or.inr z)))
theorem kc_Xpos {F0 : Nat → Nat → Int32} {a : Nat} (hX : ∀ a, gr_X R F0 a → kc_T T a ∧ F a = F0 a) (ha : gr_X R F0 a) : 0 < kc_n (kc_D T 0 0) R F a := by
  have : gr_X R F0 a ∧ 0 < kc_n (kc_D T 0 0) R F a := by
    refine gr_ind ha (fun a => gr_X R F0 a ∧ 0 < kc_n (kc_D T 0 0) R F a) ?_ ?_
    · rintro b ⟨h9, r, hr, e⟩
      exact ⟨gr_root ⟨h9, r, hr, e⟩, kc_preg hr e⟩
    · rintro c b hcx hc ⟨h9, f, hf, e⟩
      have hcT := hX c hcx
      refine ⟨gr_step hcx ⟨h9, f, hf, e⟩, kc_pcell hcT.1.2.1 hf ⟨by rw [show (3 * c + f) / 3 = c by omega]; exact hcT.1, fun w => by omega⟩ (by rw [hcT.2]; exact e)⟩
  exact this.2
/-- a register is given a content; the old one pends -/
theorem kc_set {r : Nat} {x : Int32} {rf' C' : Nat → Int32} (V : kc_V R F T C N f c rf su ss kS st 0 cur (kc_D T 0 0) 1) (hr : r < 6) (hx : gr_wf (kc_T T) x) (hcur : cur = 0 ∨ x = nI (2 * cur))
    (hrf : ∀ a, 1 ≤ a → a ≤ 48 → rf' a = nI (kc_n (kc_D T 0 0) R F a + kc_e x a)) (hC1 : ∀ b, b < 96 → x = nI (2 * b) → C' b = 2) (hC2 : ∀ a, x ≠ nI (2 * a) → C' a = C a) :
    kc_V (upd R r x) F T C' N f c rf' su ss kS st 0 0 (kc_D T 0 0) (R r) := by
  obtain ⟨v1, v2, v3, v4, v5, v6, v7, v8, v9, v10, v11, v12, v13⟩ := V
  have key : ∀ a, kc_n (kc_D T 0 0) (upd R r x) F a + kc_e (R r) a = kc_n (kc_D T 0 0) R F a + kc_e x a := fun a => kc_reg hr
  refine ⟨v1, ⟨fun r' hr' => ?_, v2.2⟩, v2.1 r hr, fun a h1 h2 => by rw [key a]; exact hrf a h1 h2, v5, fun a ha => ?_, fun a ha => ?_, fun a ha => ?_, fun i hi => absurd hi (Nat.not_lt_zero i), fun i j hi => absurd hi (Nat.not_lt_zero i), Or.inl rfl, ?_, fun i hi w1 w2 => ⟨w1, fun w => by omega⟩⟩
  · by_cases e : r' = r
    · rw [e, pk_us]; exact hx
    · rw [pk_un e]; exact v2.1 r' hr'
  · by_cases e : x = nI (2 * a)
    · exact Or.inl (hC1 a (kc_T9 ha) e)
    · rw [hC2 a e]; exact v6 a ha
  · rw [key a]
    intro hz
    have he : x ≠ nI (2 * a) := fun z => by rw [kc_et z] at hz; omega
    have h0 : kc_n (kc_D T 0 0) R F a + kc_e 1 a = 0 := by rw [kc_e1 (kc_T9 ha)]; omega
    rcases v7 a ha h0 with z | ⟨i, hi, _⟩ | z
    · exact Or.inl ⟨z.1, by rw [hC2 a he]; exact z.2.1, z.2.2⟩
    · exact absurd hi (Nat.not_lt_zero i)
    · rcases hcur with w | w
      · have := ha.1; omega
      · exact absurd (z ▸ w) he
  · rw [key a]
    intro hz
    have hxr : ∀ b, b < 96 → x = nI (2 * b) → gr_R (upd R r x) b := fun b hb e => ⟨hb, r, hr, by rw [pk_us]; exact e⟩
    by_cases he : x = nI (2 * a)
    · exact gr_root (Or.inl (hxr a (kc_T9 ha) he))
    · rw [kc_ef he] at hz
      refine gr_mono (v8 a ha (by rw [kc_e1 (kc_T9 ha)]; exact hz)) (fun d hd => ?_) (fun _ _ hc he => gr_step hc he)
      rcases hd with ⟨h9, r', hr', e⟩ | z | ⟨_, i, hi, _⟩ | z | z
      · by_cases er : r' = r
        · rw [er] at e; exact gr_root (Or.inr (Or.inr (Or.inr (Or.inr ⟨h9, e⟩))))
        · exact gr_root (Or.inl ⟨h9, r', hr', by rw [pk_un er]; exact e⟩)
      · by_cases ed : x = nI (2 * d)
        · exact gr_root (Or.inl (hxr d (kc_T9 z.1) ed))
        · exact gr_root (Or.inr (Or.inl ⟨z.1, by rw [hC2 d ed]; exact z.2⟩))
      · exact absurd hi (Nat.not_lt_zero i)
      · rcases hcur with w | w
        · omega
        · rcases v11 with w' | w'
          · omega
          · exact gr_root (Or.inl (hxr d (by rw [z.2]; exact kc_T9 w'.1) (z.2 ▸ w)))
      · exact absurd z.2 (gr_odne gr_od1 (by omega))
  · have := ct_mono (P := fun a => 1 ≤ a ∧ a ≤ 48 ∧ rf' a ≠ 0) (Q := fun i => 1 ≤ i ∧ i < 49) 96 fun i _ z => ⟨z.1, by omega⟩
    rw [ct_range (by omega) 96 (by omega)] at this
    omega
/-- a field is given a content; the old one pends -/
theorem kc_put {p g : Nat} {x : Int32} {rf' C' : Nat → Int32} (V : kc_V R F T C N f c rf su ss kS st 0 0 (kc_D T 0 0) 1) (hp : gr_X R F p) (hg : g < 3) (hx : gr_wf (kc_T T) x)
    (hrf : ∀ a, 1 ≤ a → a ≤ 48 → rf' a = nI (kc_n (kc_D T 0 0) R F a + kc_e x a)) (hC1 : ∀ b, b < 96 → x = nI (2 * b) → C' b = 2) (hC2 : ∀ a, x ≠ nI (2 * a) → C' a = C a) :
    kc_V R (vw_u F p g x) T C' N f c rf' su ss kS st 0 0 (kc_D T 0 0) (F p g) := by
  obtain ⟨v1, v2, v3, v4, v5, v6, v7, v8, v9, v10, v11, v12, v13⟩ := V
  have hpT : kc_T T p := gr_WG_X v2 hp
  have hp48 := hpT.2.1
  have hpn : 0 < kc_n (kc_D T 0 0) R F p := kc_Xpos (fun a ha => ⟨gr_WG_X v2 ha, rfl⟩) hp
  have hDp : kc_D T 0 0 (3 * p + g) := ⟨by rw [show (3 * p + g) / 3 = p by omega]; exact hpT, fun w => by omega⟩
  have key : ∀ a, kc_n (kc_D T 0 0) R (vw_u F p g x) a + kc_e (F p g) a = kc_n (kc_D T 0 0) R F a + kc_e x a := fun a => kc_fld hp48 hg hDp
  refine ⟨v1, ⟨v2.1, fun a ha h hh => ?_, v2.2.2⟩, v2.2.1 p hpT g hg, fun a h1 h2 => by rw [key a]; exact hrf a h1 h2, v5, fun a ha => ?_, fun a ha => ?_, fun a ha => ?_, fun i hi => absurd hi (Nat.not_lt_zero i), fun i j hi => absurd hi (Nat.not_lt_zero i), Or.inl rfl, ?_, fun i hi w1 w2 => ⟨w1, fun w => by omega⟩⟩
  · by_cases e : a = p ∧ h = g
    · rw [e.1, e.2, vw_us]; exact hx
    · rw [vw_un (by omega)]; exact v2.2.1 a ha h hh
  · by_cases e : x = nI (2 * a)
    · exact Or.inl (hC1 a (kc_T9 ha) e)
    · rw [hC2 a e]; exact v6 a ha
  · rw [key a]
    intro hz
    have he : x ≠ nI (2 * a) := fun z => by rw [kc_et z] at hz; omega
    have h0 : kc_n (kc_D T 0 0) R F a + kc_e 1 a = 0 := by rw [kc_e1 (kc_T9 ha)]; omega
    rcases v7 a ha h0 with z | ⟨i, hi, _⟩ | z
    · refine Or.inl ⟨z.1, by rw [hC2 a he]; exact z.2.1, fun h hh => ?_⟩
      have : a ≠ p := fun w => by rw [w] at hz; omega
      rw [vw_un (Or.inl this)]; exact z.2.2 h hh
    · exact absurd hi (Nat.not_lt_zero i)
    · have := ha.1; omega
  · rw [key a]
    intro hz
    have hstep : ∀ d b, gr_rea (kc_rt R T C' st 0 0 (F p g)) (kc_E (kc_D T 0 0) (vw_u F p g x)) d → ∀ h, h < 3 → kc_D T 0 0 (3 * d + h) → b < 96 → F d h = nI (2 * b) → gr_rea (kc_rt R T C' st 0 0 (F p g)) (kc_E (kc_D T 0 0) (vw_u F p g x)) b := by
      intro d b hd h hh hD h9 e
      by_cases es : d = p ∧ h = g
      · rw [es.1, es.2] at e
        exact gr_root (Or.inr (Or.inr (Or.inr (Or.inr ⟨h9, e⟩))))
      · exact gr_step hd ⟨h9, h, hh, hD, by rw [vw_un (by omega)]; exact e⟩
    have hXn : ∀ d, gr_X R F d → gr_rea (kc_rt R T C' st 0 0 (F p g)) (kc_E (kc_D T 0 0) (vw_u F p g x)) d := by
      intro d hd
      refine gr_ind hd _ (fun b hb => gr_root (Or.inl hb)) ?_
      rintro c b hcx hc ⟨h9, h, hh, e⟩
      have hcT : kc_T T c := gr_WG_X v2 hcx
      exact hstep c b hc h hh ⟨by rw [show (3 * c + h) / 3 = c by omega]; exact hcT, fun w => by omega⟩ h9 e
    have hxr : ∀ b, b < 96 → x = nI (2 * b) → gr_rea (kc_rt R T C' st 0 0 (F p g)) (kc_E (kc_D T 0 0) (vw_u F p g x)) b := fun b hb e =>
      gr_step (hXn p hp) ⟨hb, g, hg, hDp, by rw [vw_us]; exact e⟩
    by_cases he : x = nI (2 * a)
    · exact hxr a (kc_T9 ha) he
    · rw [kc_ef he] at hz
      refine gr_mono (v8 a ha (by rw [kc_e1 (kc_T9 ha)]; exact hz)) (fun d hd => ?_) (fun d b hc he => ?_)
      · rcases hd with z | z | ⟨_, i, hi, _⟩ | z | z
        · exact gr_root (Or.inl z)
        · by_cases ed : x = nI (2 * d)
          · exact hxr d (kc_T9 z.1) ed
          · exact gr_root (Or.inr (Or.inl ⟨z.1, by rw [hC2 d ed]; exact z.2⟩))
        · exact absurd hi (Nat.not_lt_zero i)
        · omega
        · exact absurd z.2 (gr_odne gr_od1 (by omega))
      · obtain ⟨h9, h, hh, hD, e⟩ := he
        exact hstep d b hc h hh hD h9 e
  · have := ct_mono (P := fun a => 1 ≤ a ∧ a ≤ 48 ∧ rf' a ≠ 0) (Q := fun i => 1 ≤ i ∧ i < 49) 96 fun i _ z => ⟨z.1, by omega⟩
    rw [ct_range (by omega) 96 (by omega)] at this
    omega
theorem kc_free {a : Nat} (hG : gr_WG R F (kc_T T)) (ha : a ≤ 48) (ht : ¬ kc_T T a) : kc_n (kc_D T 0 0) R F a = 0 := by
  unfold kc_n
  rw [ct_zero 6 (fun r hr e => ht (gr_tgt (hG.1 r hr) (fun b hb => kc_T9 hb) (by omega) e)), ct_zero 147 (fun i hi e => ht (gr_tgt (hG.2.1 (i / 3) e.1.1 (i % 3) (by omega)) (fun b hb => kc_T9 hb) (by omega) e.2))]
/-- a new cell, to which nothing refers yet -/
theorem kc_new {a : Nat} {f' c' : Int32} (V : kc_V R F T C N f c rf su ss kS st 0 0 (kc_D T 0 0) 1) (h1 : 1 ≤ a) (h2 : a ≤ 48) (ht : T a = 0) (hok : fr_ok 48 (upd T a 1) N f' c') :
    kc_V R (vw_w F a (fun _ => 1)) (upd T a 1) (upd C a 2) N f' c' rf su ss kS st 0 a (kc_D (upd T a 1) 0 0) 1 := by
  obtain ⟨v1, v2, v3, v4, v5, v6, v7, v8, v9, v10, v11, v12, v13⟩ := V
  have hna : ¬ kc_T T a := fun z => z.2.2 ht
  have hT : ∀ b, kc_T (upd T a 1) b ↔ kc_T T b ∨ b = a := fun b => by
    by_cases e : b = a
    · rw [e]; exact ⟨fun _ => Or.inr rfl, fun _ => ⟨h1, h2, by rw [pk_us]; exact na_n10⟩⟩
    · unfold kc_T; rw [pk_un e]; exact ⟨Or.inl, fun z => z.resolve_right e⟩
  have key : ∀ b, b < 96 → kc_n (kc_D (upd T a 1) 0 0) R (vw_w F a (fun _ => 1)) b = kc_n (kc_D T 0 0) R F b := fun b hb => kc_congr fun i hi => by
    by_cases e : i / 3 = a
    · rw [e, vw_ws]
      exact ⟨fun z => absurd z.2 (gr_odne gr_od1 (by omega)), fun z => absurd (e ▸ z.1.1) hna⟩
    · rw [vw_wn e]
      exact ⟨fun z => ⟨⟨((hT _).mp z.1.1).resolve_right e, z.1.2⟩, z.2⟩, fun z => ⟨⟨(hT _).mpr (Or.inl z.1.1), z.1.2⟩, z.2⟩⟩
  have h0 := kc_free v2 h2 hna
  have hne : ∀ b, kc_T T b → b ≠ a := fun b hb e => hna (e ▸ hb)
  refine ⟨hok, ⟨fun r hr => gr_wf_mono (v2.1 r hr) fun b hb => (hT b).mpr (Or.inl hb), fun b hb g hg => ?_, fun b hb => ?_⟩, Or.inl gr_od1, fun b q1 q2 => by rw [key b (by omega)]; exact v4 b q1 q2, ⟨fun i hi => ?_, v5.2⟩, fun b hb => ?_, fun b hb => ?_, fun b hb => ?_, fun i hi => absurd hi (Nat.not_lt_zero i), fun i j hi => absurd hi (Nat.not_lt_zero i), Or.inr ⟨(hT a).mpr (Or.inr rfl), by rw [key a (by omega), h0, kc_e1 (by omega)]⟩, v12, fun i hi w1 w2 => ⟨w1, fun w => by omega⟩⟩
  · by_cases e : b = a
    · rw [e, vw_ws]; exact Or.inl gr_od1
    · rw [vw_wn e]; exact gr_wf_mono (v2.2.1 b (((hT b).mp hb).resolve_right e) g hg) fun d hd => (hT d).mpr (Or.inl hd)
  · rcases (hT b).mp hb with z | z
    · exact v2.2.2 b z
    · omega
  · obtain ⟨b, q1, q2, q3⟩ := v5.1 i hi
    exact ⟨b, q1, (hT b).mpr (Or.inl q2), q3⟩
  · rcases (hT b).mp hb with z | z
    · rw [pk_un (hne b z)]; exact v6 b z
    · rw [z, pk_us]; exact Or.inl rfl
  · rw [key b (kc_T9 hb)]
    intro hz
    rcases (hT b).mp hb with z | z
    · rcases v7 b z hz with w | ⟨i, hi, _⟩ | w
      · exact Or.inl ⟨w.1, by rw [pk_un (hne b z)]; exact w.2.1, fun g hg => by rw [vw_wn (hne b z)]; exact w.2.2 g hg⟩
      · exact absurd hi (Nat.not_lt_zero i)
      · have := z.1; omega
    · exact Or.inr (Or.inr z)
  · rw [key b (kc_T9 hb)]
    intro hz
    have hbT : kc_T T b := ((hT b).mp hb).resolve_right fun e => by rw [e, h0, kc_e1 (by omega)] at hz; omega
    refine gr_mono (v8 b hbT hz) (fun d hd => gr_root ?_) (fun d b hc he => gr_step hc ?_)
    · rcases hd with z | z | ⟨_, i, hi, _⟩ | z | z
      · exact Or.inl z
      · exact Or.inr (Or.inl ⟨(hT d).mpr (Or.inl z.1), by rw [pk_un (hne d z.1)]; exact z.2⟩)
      · exact absurd hi (Nat.not_lt_zero i)
      · omega
      · exact Or.inr (Or.inr (Or.inr (Or.inr z)))
    · obtain ⟨h9, h, hh, hD, e⟩ := he
      have hd : kc_T T d := by have := hD.1; rw [show (3 * d + h) / 3 = d by omega] at this; exact this
      exact ⟨h9, h, hh, ⟨(hT _).mpr (Or.inl hD.1), hD.2⟩, by rw [vw_wn (hne d hd)]; exact e⟩
end KC
def jc_4 (R : Nat → Int32) (F : Nat → Nat → Int32) (T C N : Nat → Int32) (f c sc : Int32) (rf su ss : Nat → Int32) (v : SY) : Prop :=
  ∃ φ kS, is_I φ R F v ∧ sc = nI kS ∧ kc_V R F T C N f c rf su ss kS (fun _ => 0) 0 0 (kc_D T 0 0) 1
section C4
variable {zhf zhn zcn zyn zsc zph zsa zgc zsd zs2 : Int32} {zrg zfl ztk zco znx zff zfc zmv zrm zrf zsu zss zgs zfa zst zt2 zse zpa zba : Nat → Int32}
theorem xk_stack {post : SX → Prop} (F0 : Nat → Nat → Int32)
    (W : Nat → (Nat → Int32) × (Nat → Nat → Int32) × (Nat → Int32) × (Nat → Int32) × (Nat → Int32) × Int32 × Int32)
    (K : ∀ zrf' zco' zsu' zss' zst' zfl' ztk' znx' zff' zfc' kS', kc_V (vw_r zrg 4) (vw_f zfl' 4) (vw_c ztk' 4) (vw_c zco' 4) (vw_c znx' 4) (zff' 4) (zfc' 4) (vw_s zrf') (vw_s zsu') zss' kS' zst' 0 0 (kc_D (vw_c ztk' 4) 0 0) 1 →
      (∀ a, gr_X (vw_r zrg 4) F0 a → kc_T (vw_c ztk' 4) a ∧ vw_f zfl' 4 a = F0 a) → (∀ e', e' ≠ 4 → vw_v e' zrg zfl' ztk' zco' znx' zff' zfc' = W e') → post (zhf, zhn, zcn, zyn, nI kS', zph, zsa, zgc, 0, zs2, zrg, zfl', ztk', zco', znx', zff', zfc', zmv, zrm, zrf', zsu', zss', zgs, zfa, zst', zt2, zse, zpa, zba)) :
    ∀ (n k kS : Nat) (zrf zco zsu zss zst zfl ztk znx zff zfc : Nat → Int32), kc_V (vw_r zrg 4) (vw_f zfl 4) (vw_c ztk 4) (vw_c zco 4) (vw_c znx 4) (zff 4) (zfc 4) (vw_s zrf) (vw_s zsu) zss kS zst k 0 (kc_D (vw_c ztk 4) 0 0) 1 →
      2 * kc_ne (vw_s zrf) + k < n → (∀ a, gr_X (vw_r zrg 4) F0 a → kc_T (vw_c ztk 4) a ∧ vw_f zfl 4 a = F0 a) → (∀ e', e' ≠ 4 → vw_v e' zrg zfl ztk zco znx zff zfc = W e') → wX_unrefer_10 post n zhf zhn zcn zyn (nI kS) zph zsa zgc (nI k) zs2 zrg zfl ztk zco znx zff zfc zmv zrm zrf zsu zss zgs zfa zst zt2 zse zpa zba := by
  intro n
  induction n with
  | zero => intro k kS _ _ _ _ _ _ _ _ _ _ _ h; omega
  | succ n ih =>
    intro k kS zrf zco zsu zss zst zfl ztk znx zff zfc V hmu hX hW
    have h12 : k + ct_c (fun a => 1 ≤ a ∧ a ≤ 48 ∧ vw_s zrf a ≠ 0) 96 ≤ 48 := V.2.2.2.2.2.2.2.2.2.2.2.1
    cases k with
    | zero => exact br_t (by decide) (K zrf zco zsu zss zst zfl ztk znx zff zfc kS V hX hW)
    | succ k =>
      refine br_f (nI_nle (by omega) (by omega)) ?_
      refine nm_r (nI_pred k) ⟨vp_in_nI (by omega) (by omega), ?_⟩
      obtain ⟨a, ea, ha, V1⟩ := kc_pop V
      rw [nI_clamp (n := k) (by omega)]
      refine nm_r ea ⟨4, ?_⟩
      have hna : ¬ gr_X (vw_r zrg 4) F0 a := fun z => by
        have h1 := kc_Xpos hX z
        rcases V1.2.2.2.2.2.2.2.2.2.2.1 with w | w
        · have := ha.1; omega
        · have eD : kc_D (vw_c ztk 4) a 0 = kc_D (vw_c ztk 4) 0 0 := by
            funext i; exact propext ⟨fun z => ⟨z.1, fun w => by omega⟩, fun z => ⟨z.1, fun w => by omega⟩⟩
          have h2 := w.2
          rw [eD] at h2
          omega
      refine xk_fields (post := post) (2 * kc_ne (vw_s zrf) + k) W (fun zrf' zco' zsu' zss' zst' zfl' ztk' znx' zff' zfc' kS' k' V2 hmu2 hW2 _ hX2 => ?_) 4 0 k kS zrf zco zsu zss zst (by omega) (by omega) ha V1 (Nat.le_refl _) hW
      refine ih k' kS' zrf' zco' zsu' zss' zst' zfl' ztk' znx' zff' zfc' V2 (by omega) (fun b hb => ?_) hW2
      have h3 := hX b hb
      have h4 := hX2 b h3.1 (fun e => hna (e ▸ hb))
      exact ⟨h4.2, h4.1.trans h3.2⟩
theorem xk_unrefer {post : SX → Prop} {y : Int32} {kS : Nat} (V : kc_V (vw_r zrg 4) (vw_f zfl 4) (vw_c ztk 4) (vw_c zco 4) (vw_c znx 4) (zff 4) (zfc 4) (vw_s zrf) (vw_s zsu) zss kS zst 0 0 (kc_D (vw_c ztk 4) 0 0) y)
    (K : ∀ zrf' zco' zsu' zss' zst' zfl' ztk' znx' zff' zfc' kS', kc_V (vw_r zrg 4) (vw_f zfl' 4) (vw_c ztk' 4) (vw_c zco' 4) (vw_c znx' 4) (zff' 4) (zfc' 4) (vw_s zrf') (vw_s zsu') zss' kS' (fun _ => 0) 0 0 (kc_D (vw_c ztk' 4) 0 0) 1 →
      (∀ a, gr_X (vw_r zrg 4) (vw_f zfl 4) a → vw_f zfl' 4 a = vw_f zfl 4 a) → (∀ e', e' ≠ 4 → vw_v e' zrg zfl' ztk' zco' znx' zff' zfc' = vw_v e' zrg zfl ztk zco znx zff zfc) → post (zhf, zhn, zcn, zyn, nI kS', zph, zsa, zgc, 0, zs2, zrg, zfl', ztk', zco', znx', zff', zfc', zmv, zrm, zrf', zsu', zss', zgs, zfa, zst', zt2, zse, zpa, zba)) :
    wpX_unrefer post (zhf, zhn, zcn, zyn, nI kS, zph, zsa, zgc, zsd, zs2, zrg, zfl, ztk, zco, znx, zff, zfc, zmv, zrm, zrf, zsu, zss, zgs, zfa, zst, zt2, zse, zpa, zba) y := by
  unfold wpX_unrefer
  refine xk_drop (k := 0) V fun zrf' zco' zsu' zss' zst' kS' k' V1 hmu ho => ?_
  refine ⟨2 * kc_ne (vw_s zrf) + 1, ?_⟩
  refine xk_stack (post := post) (vw_f zfl 4) (fun e' => vw_v e' zrg zfl ztk zco znx zff zfc) (fun zrf2 zco2 zsu2 zss2 zst2 zfl2 ztk2 znx2 zff2 zfc2 kS2 V2 hX2 hW2 => ?_) _ k' kS' zrf' zco' zsu' zss' zst' zfl ztk znx zff zfc V1 (by omega) (fun a ha => ⟨gr_WG_X V1.2.1 ha, rfl⟩) (fun e' n => vw_v_co (ho e' n))
  exact K zrf2 zco2 zsu2 zss2 zst2 zfl2 ztk2 znx2 zff2 zfc2 kS2 (kc_st0 V2) (fun a ha => (hX2 a ha).2) hW2
theorem xk_refer {post : SX → Prop} {x : Int32} {n : Nat → Nat} (hx : gr_wf (kc_T (vw_c ztk 4)) x) (hn : ∀ a, n a ≤ 200) (hr : ∀ a, 1 ≤ a → a ≤ 48 → vw_s zrf a = nI (n a))
    (K : ∀ zrf' zco', (∀ a, 1 ≤ a → a ≤ 48 → vw_s zrf' a = nI (n a + kc_e x a)) → (∀ b, b < 96 → x = nI (2 * b) → vw_c zco' 4 b = 2) → (∀ a, x ≠ nI (2 * a) → vw_c zco' 4 a = vw_c zco 4 a) → (∀ e', e' ≠ 4 → vw_c zco' e' = vw_c zco e') → post (zhf, zhn, zcn, zyn, zsc, zph, zsa, zgc, zsd, zs2, zrg, zfl, ztk, zco', znx, zff, zfc, zmv, zrm, zrf', zsu, zss, zgs, zfa, zst, zt2, zse, zpa, zba)) : wpX_refer post (zhf, zhn, zcn, zyn, zsc, zph, zsa, zgc, zsd, zs2, zrg, zfl, ztk, zco, znx, zff, zfc, zmv, zrm, zrf, zsu, zss, zgs, zfa, zst, zt2, zse, zpa, zba) x := by
  unfold wpX_refer
  rcases hx with ho | ⟨b, hb, rfl⟩
  · refine xp_odd ho ?_
    exact br_t rfl (K zrf zco (fun a h1 h2 => by rw [kc_eo ho (by omega)]; exact hr a h1 h2) (fun b hb e => absurd e (gr_odne ho (by omega))) (fun _ _ => rfl) (fun _ _ => rfl))
  · have hb9 := kc_T9 hb
    refine xp_ref (by omega) ?_
    refine br_f na_n10 ?_
    have e : zrf b = nI (n b) := by rw [← vw_s_at (g := zrf) hb9]; exact hr b hb.1 hb.2.1
    have := hn b
    rw [gr_sh (by omega), na_384, nI_clamp (n := b) (by omega), nI_clamp (n := 4 * 96 + b) (by omega), e, na_sp (by omega), na_2]
    refine ⟨vp_in_nI hb9 (by omega), vp_in_nI hb9 (by omega), nm_e ⟨vp_in_nI (by omega) (by omega), nm_e ?_⟩⟩
    refine K _ _ (fun a h1 h2 => ?_) (fun d hd e => ?_) (fun a ha => ?_) (fun e' n => vw_c_o hb9 n)
    · rw [vw_s_s hb9, kc_er hb9 (by omega)]
      by_cases ea : a = b
      · rw [ea, pk_us, if_pos rfl]
      · rw [pk_un ea, if_neg (fun z => ea z.symm)]; exact hr a h1 h2
    · rw [vw_c_s hb9, ← na_inj2 hb9 hd e, pk_us]
    · rw [vw_c_s hb9, pk_un fun z => ha (by rw [z])]
end C4
end
section
section C4
variable {zhf zhn zcn zyn zsc zph zsa zgc zsd zs2 : Int32} {zrg zfl ztk zco znx zff zfc zmv zrm zrf zsu zss zgs zfa zst zt2 zse zpa zba : Nat → Int32}
theorem xk_setreg {post : SX → Prop} {r kS cur : Nat} {x : Int32} {Cg : Nat → Int32} (V : kc_V (vw_r zrg 4) (vw_f zfl 4) (vw_c ztk 4) Cg (vw_c znx 4) (zff 4) (zfc 4) (vw_s zrf) (vw_s zsu) zss kS zst 0 cur (kc_D (vw_c ztk 4) 0 0) 1)
    (hCg : ∀ a, x ≠ nI (2 * a) → Cg a = vw_c zco 4 a) (hr : r < 6) (hx : gr_wf (kc_T (vw_c ztk 4)) x) (hcur : cur = 0 ∨ x = nI (2 * cur))
    (K : ∀ zrf' zco' zsu' zss' zst' zfl' ztk' znx' zff' zfc' kS', kc_V (upd (vw_r zrg 4) r x) (vw_f zfl' 4) (vw_c ztk' 4) (vw_c zco' 4) (vw_c znx' 4) (zff' 4) (zfc' 4) (vw_s zrf') (vw_s zsu') zss' kS' (fun _ => 0) 0 0 (kc_D (vw_c ztk' 4) 0 0) 1 →
      (∀ a, gr_X (upd (vw_r zrg 4) r x) (vw_f zfl 4) a → vw_f zfl' 4 a = vw_f zfl 4 a) → (∀ e', e' ≠ 4 → vw_v e' (upd zrg (4 * 6 + r) x) zfl' ztk' zco' znx' zff' zfc' = vw_v e' zrg zfl ztk zco znx zff zfc) → post (zhf, zhn, zcn, zyn, nI kS', zph, zsa, zgc, 0, zs2, upd zrg (4 * 6 + r) x, zfl', ztk', zco', znx', zff', zfc', zmv, zrm, zrf', zsu', zss', zgs, zfa, zst', zt2, zse, zpa, zba)) :
    wpX_setRegister post (zhf, zhn, zcn, zyn, nI kS, zph, zsa, zgc, zsd, zs2, zrg, zfl, ztk, zco, znx, zff, zfc, zmv, zrm, zrf, zsu, zss, zgs, zfa, zst, zt2, zse, zpa, zba) 4 (nI r) x := by
  refine nm_r (na_r 4 r) ⟨vp_in_nI (by omega) (by omega), ?_⟩
  have hR : zrg (4 * 6 + r) = vw_r zrg 4 r := (vw_r_at hr).symm
  rw [nI_clamp (by omega), hR]
  refine nm_e (br_t rfl ?_)
  refine xk_refer (n := fun a => kc_n (kc_D (vw_c ztk 4) 0 0) (vw_r zrg 4) (vw_f zfl 4) a) hx (fun a => by have := kc_le (D := kc_D (vw_c ztk 4) 0 0) (R := vw_r zrg 4) (F := vw_f zfl 4) (a := a); omega) (fun a h1 h2 => ?_) fun zrf1 zco1 r1 r2 r3 r4 => ?_
  · have := V.2.2.2.1 a h1 h2
    rw [kc_e1 (by omega)] at this; exact this
  · refine And.intro (vp_in_nI (by omega) (by omega)) ?_
    rw [nI_clamp (by omega)]
    refine nm_e (br_t rfl ?_)
    have V1 := kc_set (C' := vw_c zco1 4) (rf' := vw_s zrf1) V hr hx hcur r1 r2 (fun a ha => (r3 a ha).trans (hCg a ha).symm)
    rw [← vw_r_s hr] at V1
    refine xk_unrefer V1 fun zrf' zco' zsu' zss' zst' zfl' ztk' znx' zff' zfc' kS' V2 hX hW => ?_
    rw [vw_r_s hr] at V2 hX
    refine K zrf' zco' zsu' zss' zst' zfl' ztk' znx' zff' zfc' kS' V2 hX fun e' n => (hW e' n).trans ?_
    show (vw_r (upd zrg (4 * 6 + r) x) e', vw_f zfl e', vw_c ztk e', vw_c zco1 e', vw_c znx e', zff e', zfc e') = _
    rw [vw_r_o hr n, r4 e' n]; rfl
theorem st_4 {post : SX → Prop} {r : Nat} {x y : Int32} {yr yf : Nat → Int32} (h : jc_4 (vw_r zrg 4) (vw_f zfl 4) (vw_c ztk 4) (vw_c zco 4) (vw_c znx 4) (zff 4) (zfc 4) zsc (vw_s zrf) (vw_s zsu) zss (yr, yf)) (hr : r < 6) (hv : op_v (vw_r zrg 4) (vw_f zfl 4) (yr, yf) x y)
    (K : ∀ zrf' zco' zsu' zss' zst' zfl' ztk' znx' zff' zfc' zsc', jc_4 (upd (vw_r zrg 4) r x) (vw_f zfl' 4) (vw_c ztk' 4) (vw_c zco' 4) (vw_c znx' 4) (zff' 4) (zfc' 4) zsc' (vw_s zrf') (vw_s zsu') zss' (upd yr r y, yf) →
      (∀ e', e' ≠ 4 → vw_v e' (upd zrg (4 * 6 + r) x) zfl' ztk' zco' znx' zff' zfc' = vw_v e' zrg zfl ztk zco znx zff zfc) → post (zhf, zhn, zcn, zyn, zsc', zph, zsa, zgc, 0, zs2, upd zrg (4 * 6 + r) x, zfl', ztk', zco', znx', zff', zfc', zmv, zrm, zrf', zsu', zss', zgs, zfa, zst', zt2, zse, zpa, zba)) :
    wpX_setRegister post (zhf, zhn, zcn, zyn, zsc, zph, zsa, zgc, zsd, zs2, zrg, zfl, ztk, zco, znx, zff, zfc, zmv, zrm, zrf, zsu, zss, zgs, zfa, zst, zt2, zse, zpa, zba) 4 (nI r) x := by
  obtain ⟨φ, kS, I, rfl, V⟩ := h
  have I' := is_set (r := r) I (hv.1 φ I) hv.2
  refine xk_setreg (kc_st0 V) (fun _ _ => rfl) hr (gr_wf_mono (op_wf I hv) fun a ha => gr_WG_X V.2.1 ha) (Or.inl rfl) fun zrf' zco' zsu' zss' zst' zfl' ztk' znx' zff' zfc' kS' V2 hX hW => ?_
  exact K zrf' zco' zsu' zss' zst' zfl' ztk' znx' zff' zfc' _ ⟨φ, kS', is_stay I' fun a ha f _ => by rw [hX a ha], rfl, V2⟩ hW
theorem pt_4 {post : SX → Prop} {a p g : Nat} {x y : Int32} {yr yf : Nat → Int32} (h : jc_4 (vw_r zrg 4) (vw_f zfl 4) (vw_c ztk 4) (vw_c zco 4) (vw_c znx 4) (zff 4) (zfc 4) zsc (vw_s zrf) (vw_s zsu) zss (yr, yf)) (hg : g < 3) (hv : op_v (vw_r zrg 4) (vw_f zfl 4) (yr, yf) x y) (hp : op_a (vw_r zrg 4) (vw_f zfl 4) (yr, yf) a p)
    (K : ∀ zrf' zco' zsu' zss' zst' zfl' ztk' znx' zff' zfc' zsc', jc_4 (vw_r zrg 4) (vw_f zfl' 4) (vw_c ztk' 4) (vw_c zco' 4) (vw_c znx' 4) (zff' 4) (zfc' 4) zsc' (vw_s zrf') (vw_s zsu') zss' (yr, upd yf (3 * p + g) y) →
      (∀ e', e' ≠ 4 → vw_v e' zrg zfl' ztk' zco' znx' zff' zfc' = vw_v e' zrg zfl ztk zco znx zff zfc) → post (zhf, zhn, zcn, zyn, zsc', zph, zsa, zgc, 0, zs2, zrg, zfl', ztk', zco', znx', zff', zfc', zmv, zrm, zrf', zsu', zss', zgs, zfa, zst', zt2, zse, zpa, zba)) :
    wpX_setField post (zhf, zhn, zcn, zyn, zsc, zph, zsa, zgc, zsd, zs2, zrg, zfl, ztk, zco, znx, zff, zfc, zmv, zrm, zrf, zsu, zss, zgs, zfa, zst, zt2, zse, zpa, zba) 4 (nI a) (nI g) x := by
  obtain ⟨φ, kS, I, rfl, V⟩ := h
  have hXa : gr_X (vw_r zrg 4) (vw_f zfl 4) a := (is_X I a).mpr ⟨p, hp.1, (hp.2 φ I).symm⟩
  have ha : a < 96 := ((is_G I).2.2 a hXa).2
  have I' := is_put I hp.1 hg (hv.1 φ I) hv.2
  rw [← hp.2 φ I] at I'
  have hx : gr_wf (kc_T (vw_c ztk 4)) x := gr_wf_mono (op_wf I hv) fun a ha => gr_WG_X V.2.1 ha
  unfold wpX_setField
  refine xp_fieldOf (e := 4) (by omega) ha hg ?_
  refine br_t rfl ?_
  refine xk_refer (n := fun a => kc_n (kc_D (vw_c ztk 4) 0 0) (vw_r zrg 4) (vw_f zfl 4) a) hx (fun a => by have := kc_le (D := kc_D (vw_c ztk 4) 0 0) (R := vw_r zrg 4) (F := vw_f zfl 4) (a := a); omega) (fun a h1 h2 => ?_) fun zrf1 zco1 r1 r2 r3 r4 => ?_
  · have := V.2.2.2.1 a h1 h2
    rw [kc_e1 (by omega)] at this; exact this
  · refine xp_store (e := 4) (by omega) ha hg fun zfl1 f1 f2 => ?_
    refine br_t rfl ?_
    have V1 := kc_put (C' := vw_c zco1 4) (rf' := vw_s zrf1) (kc_st0 (st' := zst) V) hXa hg hx r1 r2 r3
    rw [← f1] at V1 I'
    refine xk_unrefer V1 fun zrf' zco' zsu' zss' zst' zfl' ztk' znx' zff' zfc' kS' V2 hX hW => ?_
    refine K zrf' zco' zsu' zss' zst' zfl' ztk' znx' zff' zfc' _ ⟨φ, kS', is_stay I' fun a ha f _ => by rw [hX a ha], rfl, V2⟩ fun e' n => (hW e' n).trans ?_
    show (vw_r zrg e', vw_f zfl1 e', vw_c ztk e', vw_c zco1 e', vw_c znx e', zff e', zfc e') = _
    rw [f2 e' n, r4 e' n]; rfl
end C4
/-! trying without: a suspect's references, and so on, are taken away for a time -/
def kt_D (T C : Nat → Int32) (cur g : Nat) (i : Nat) : Prop := kc_T T (i / 3) ∧ (C (i / 3) ≠ 1 ∨ (i / 3 = cur ∧ g ≤ i % 3))
noncomputable def kt_w (T C : Nat → Int32) : Nat := ct_c (fun a => kc_T T a ∧ C a ≠ 1) 96
def kt_V (R : Nat → Int32) (F : Nat → Nat → Int32) (T C0 C rf : Nat → Int32) (Kp : Nat → Prop) (st : Nat → Int32) (k cur g : Nat) : Prop :=
  (∀ a, 1 ≤ a → a ≤ 48 → rf a = nI (kc_n (kt_D T C cur g) R F a)) ∧
  (∀ a f b, kc_T T a → C a = 1 → f < 3 → F a f = nI (2 * b) → b < 96 → C b = 1 ∨ (∃ i, i < k ∧ st i = nI b) ∨ (a = cur ∧ g ≤ f)) ∧
  (∀ i, i < k → ∃ a, st i = nI a ∧ kc_T T a ∧ gr_rea Kp (gr_E F) a) ∧ (∀ a, kc_T T a → C a = 1 → gr_rea Kp (gr_E F) a) ∧ (∀ a, C a = C0 a ∨ (C a = 1 ∧ kc_T T a)) ∧ (∀ a, C0 a = 1 → C a = 1)
theorem kt_w48 {T C : Nat → Int32} : kt_w T C ≤ 48 := by
  have := ct_mono (P := fun a => kc_T T a ∧ C a ≠ 1) (Q := fun i => 1 ≤ i ∧ i < 49) 96 fun i _ z => ⟨z.1.1, by have := z.1.2.1; omega⟩
  rw [ct_range (by omega) 96 (by omega)] at this
  exact this
theorem kt_grey {T C : Nat → Int32} {a : Nat} (ha : kc_T T a) (hc : C a ≠ 1) : kt_w T C = kt_w T (upd C a 1) + 1 := by
  refine ct_add (a := a) 96 (kc_T9 ha) (fun z => z.2 pk_us) fun i _ => ?_
  by_cases e : i = a
  · rw [e]; exact ⟨fun _ => Or.inr rfl, fun _ => ⟨ha, hc⟩⟩
  · rw [pk_un e]; exact ⟨Or.inl, fun z => z.resolve_right e⟩
section KT
variable {R : Nat → Int32} {F : Nat → Nat → Int32} {T C0 C rf : Nat → Int32} {Kp : Nat → Prop} {st : Nat → Int32} {k cur g : Nat}
theorem kt_enter {a : Nat} (V : kt_V R F T C0 C rf Kp st (k + 1) 0 0) (hs : st k = nI a) (ha : kc_T T a) (hc : C a ≠ 1) (hr : gr_rea Kp (gr_E F) a) : kt_V R F T C0 (upd C a 1) rf Kp st k a 0 := by
  obtain ⟨v1, v2, v3, v4, v5, v6⟩ := V
  have ha9 := kc_T9 ha
  refine ⟨fun b h1 h2 => ?_, fun c f b hcT h1 h3 e h9 => ?_, fun i hi => v3 i (by omega), fun b hb h1 => ?_, fun b => ?_, fun b hb => ?_⟩
  · rw [v1 b h1 h2]
    congr 1
    refine kc_congr fun i hi => ⟨fun z => ⟨⟨z.1.1, ?_⟩, z.2⟩, fun z => ⟨⟨z.1.1, ?_⟩, z.2⟩⟩
    · by_cases e : i / 3 = a
      · exact Or.inr ⟨e, by omega⟩
      · rw [pk_un e]
        refine Or.inl (z.1.2.resolve_right fun w => ?_)
        have := z.1.1.1; omega
    · by_cases e : i / 3 = a
      · rw [e]; exact Or.inl hc
      · rcases z.1.2 with w | w
        · rw [pk_un e] at w; exact Or.inl w
        · exact absurd w.1 e
  · by_cases ec : c = a
    · exact Or.inr (Or.inr ⟨ec, by omega⟩)
    · rw [pk_un ec] at h1
      rcases v2 c f b hcT h1 h3 e h9 with z | ⟨i, hi, z⟩ | z
      · left
        by_cases eb : b = a
        · rw [eb, pk_us]
        · rw [pk_un eb]; exact z
      · by_cases ei : i = k
        · left
          rw [na_inj (a := b) (b := a) (by omega) (by omega) (z.symm.trans (ei ▸ hs)), pk_us]
        · exact Or.inr (Or.inl ⟨i, by omega, z⟩)
      · have := hcT.1; omega
  · by_cases e : b = a
    · rw [e]; exact hr
    · rw [pk_un e] at h1; exact v4 b hb h1
  · by_cases e : b = a
    · rw [e, pk_us]; exact Or.inr ⟨rfl, ha⟩
    · rw [pk_un e]; exact v5 b
  · by_cases e : b = a
    · rw [e, pk_us]
    · rw [pk_un e]; exact v6 b hb
theorem kt_skip {a : Nat} (V : kt_V R F T C0 C rf Kp st (k + 1) 0 0) (hs : st k = nI a) (ha : kc_T T a) (hc : C a = 1) : kt_V R F T C0 C rf Kp st k 0 0 := by
  obtain ⟨v1, v2, v3, v4, v5, v6⟩ := V
  have ha9 := kc_T9 ha
  refine ⟨v1, fun c f b hcT h1 h3 e h9 => ?_, fun i hi => v3 i (by omega), v4, v5, v6⟩
  rcases v2 c f b hcT h1 h3 e h9 with z | ⟨i, hi, z⟩ | z
  · exact Or.inl z
  · by_cases ei : i = k
    · left
      rw [na_inj (a := b) (b := a) (by omega) (by omega) (z.symm.trans (ei ▸ hs))]; exact hc
    · exact Or.inr (Or.inl ⟨i, by omega, z⟩)
  · exact Or.inr (Or.inr z)
theorem kt_slot (V : kt_V R F T C0 C rf Kp st k cur g) (hc : kc_T T cur) (hC : C cur = 1) (hg : g < 3) (a : Nat) : kc_n (kt_D T C cur g) R F a = kc_n (kt_D T C cur (g + 1)) R F a + kc_e (F cur g) a := by
  have h48 := hc.2.1
  have := kc_slot (D := kt_D T C cur g) (D' := kt_D T C cur (g + 1)) (R := R) (F := F) (a := a) (j := 3 * cur + g) (by omega) ⟨by rw [show (3 * cur + g) / 3 = cur by omega]; exact hc, Or.inr ⟨by omega, by omega⟩⟩ (fun i hi => ⟨fun z => ⟨⟨z.1, z.2.imp id fun w => ⟨w.1, by omega⟩⟩, fun e => ?_⟩, fun z => ⟨z.1.1, ?_⟩⟩)
  · rw [show (3 * cur + g) / 3 = cur by omega, show (3 * cur + g) % 3 = g by omega] at this; exact this
  · rcases z.2 with w | w
    · rw [show i / 3 = cur by omega] at w; exact w hC
    · omega
  · rcases z.1.2 with w | w
    · exact Or.inl w
    · exact Or.inr ⟨w.1, by omega⟩
theorem kt_odd (V : kt_V R F T C0 C rf Kp st k cur g) (hc : kc_T T cur) (hC : C cur = 1) (hg : g < 3) (ho : gr_od (F cur g)) : kt_V R F T C0 C rf Kp st k cur (g + 1) := by
  have hV := V
  obtain ⟨v1, v2, v3, v4, v5, v6⟩ := V
  refine ⟨fun a h1 h2 => ?_, fun c f b hcT h1 h3 e h9 => ?_, v3, v4, v5, v6⟩
  · rw [v1 a h1 h2, kt_slot hV hc hC hg a, kc_eo ho (by omega)]; rfl
  · rcases v2 c f b hcT h1 h3 e h9 with z | z | z
    · exact Or.inl z
    · exact Or.inr (Or.inl z)
    · by_cases ef : f = g
      · rw [z.1, ef] at e; exact absurd e (gr_odne ho (by omega))
      · exact Or.inr (Or.inr ⟨z.1, by omega⟩)
theorem kt_ref {b : Nat} (V : kt_V R F T C0 C rf Kp st k cur g) (hc : kc_T T cur) (hC : C cur = 1) (hg : g < 3) (hb : kc_T T b) (eb : F cur g = nI (2 * b)) :
    kt_V R F T C0 C (upd rf b (nI (kc_n (kt_D T C cur (g + 1)) R F b))) Kp (upd st k (nI b)) (k + 1) cur (g + 1) ∧ rf b = nI (kc_n (kt_D T C cur (g + 1)) R F b + 1) := by
  have hV := V
  obtain ⟨v1, v2, v3, v4, v5, v6⟩ := V
  have hb9 := kc_T9 hb
  refine ⟨⟨fun a h1 h2 => ?_, fun c f d hcT h1 h3 e h9 => ?_, fun i hi => ?_, v4, v5, v6⟩, ?_⟩
  · by_cases e : a = b
    · rw [e, pk_us]
    · rw [pk_un e, v1 a h1 h2, kt_slot hV hc hC hg a, kc_ef fun z => e (na_inj2 (by omega) hb9 (z.symm.trans eb))]; rfl
  · rcases v2 c f d hcT h1 h3 e h9 with z | ⟨i, hi, z⟩ | z
    · exact Or.inl z
    · exact Or.inr (Or.inl ⟨i, by omega, by rw [pk_un (by omega)]; exact z⟩)
    · by_cases ef : f = g
      · rw [z.1, ef] at e
        exact Or.inr (Or.inl ⟨k, by omega, by rw [pk_us, na_inj2 h9 hb9 (e.symm.trans eb)]⟩)
      · exact Or.inr (Or.inr ⟨z.1, by omega⟩)
  · by_cases e : i = k
    · exact ⟨b, by rw [e, pk_us], hb, gr_step (v4 cur hc hC) ⟨hb9, g, hg, eb⟩⟩
    · obtain ⟨a, q1, q2, q3⟩ := v3 i (by omega)
      exact ⟨a, by rw [pk_un e]; exact q1, q2, q3⟩
  · rw [v1 b hb.1 hb.2.1, kt_slot hV hc hC hg b, kc_et eb]
theorem kt_done (V : kt_V R F T C0 C rf Kp st k cur 3) (hC : C cur = 1) : kt_V R F T C0 C rf Kp st k 0 0 := by
  obtain ⟨v1, v2, v3, v4, v5, v6⟩ := V
  refine ⟨fun a h1 h2 => ?_, fun c f b hcT h1 h3 e h9 => ?_, v3, v4, v5, v6⟩
  · rw [v1 a h1 h2]
    congr 1
    refine kc_congr fun i hi => ⟨fun z => ⟨⟨z.1.1, Or.inl (z.1.2.resolve_right fun w => by omega)⟩, z.2⟩, fun z => ⟨⟨z.1.1, Or.inl (z.1.2.resolve_right fun w => ?_)⟩, z.2⟩⟩
    have := z.1.1.1; omega
  · rcases v2 c f b hcT h1 h3 e h9 with z | z | z
    · exact Or.inl z
    · exact Or.inr (Or.inl z)
    · omega
end KT
section C4
variable {zhf zhn zcn zyn zsc zph zsa zgc zsd zs2 : Int32} {zrg zfl ztk zco znx zff zfc zmv zrm zrf zsu zss zgs zfa zst zt2 zse zpa zba : Nat → Int32}
theorem xk_tfields {post : SX → Prop} {J : TW_10} {Kp : Nat → Prop} {C0 : Nat → Int32} {cur : Nat} (hG : gr_WG (vw_r zrg 4) (vw_f zfl 4) (kc_T (vw_c ztk 4))) (hc : kc_T (vw_c ztk 4) cur) (hC : vw_c zco 4 cur = 1) (mu : Nat) (hmu : mu ≤ 145)
    (K : ∀ zrf' zst' k', kt_V (vw_r zrg 4) (vw_f zfl 4) (vw_c ztk 4) C0 (vw_c zco 4) (vw_s zrf') Kp zst' k' 0 0 → k' + 3 * kt_w (vw_c ztk 4) (vw_c zco 4) ≤ mu → J zhf zhn zcn zyn zsc zph zsa zgc (nI k') zs2 zrg zfl ztk zco znx zff zfc zmv zrm zrf' zsu zss zgs zfa zst' zt2 zse zpa zba) :
    ∀ (n g k : Nat) (zrf zst : Nat → Int32), g ≤ 3 → 3 < n + g → kt_V (vw_r zrg 4) (vw_f zfl 4) (vw_c ztk 4) C0 (vw_c zco 4) (vw_s zrf) Kp zst k cur g → k + (3 - g) + 3 * kt_w (vw_c ztk 4) (vw_c zco 4) ≤ mu →
      wX_tryWithout_64 post J (nI cur) n (nI g) zhf zhn zcn zyn zsc zph zsa zgc (nI k) zs2 zrg zfl ztk zco znx zff zfc zmv zrm zrf zsu zss zgs zfa zst zt2 zse zpa zba := by
  intro n
  induction n with
  | zero => intro g k _ _ h1 h2; omega
  | succ n ih =>
    intro g k zrf zst h1 h2 V hb
    have hc9 := kc_T9 hc
    by_cases h3 : g = 3
    · subst h3
      exact br_t (by decide) (K zrf zst k (kt_done V hC) (by omega))
    · refine br_f (nI_ge (b := 3) (by omega) (by omega)) ?_
      refine xp_fieldOf (e := 4) (by omega) hc9 (by omega) ?_
      rcases hG.2.1 cur hc g (by omega) with ho | ⟨b, hbT, eb⟩
      · refine xp_odd ho ?_
        refine br_t rfl (nm_r (nI_1 g) ?_)
        exact ih (g + 1) k zrf zst (by omega) (by omega) (kt_odd V hc hC (by omega) ho) (by omega)
      · have hb9 := kc_T9 hbT
        obtain ⟨V1, er⟩ := kt_ref V hc hC (by omega) hbT eb
        rw [eb]
        refine xp_ref (by omega) ?_
        refine br_f na_n10 ?_
        have hle := kc_le (D := kt_D (vw_c ztk 4) (vw_c zco 4) cur (g + 1)) (R := vw_r zrg 4) (F := vw_f zfl 4) (a := b)
        have er' : zrf b = nI (kc_n (kt_D (vw_c ztk 4) (vw_c zco 4) cur (g + 1)) (vw_r zrg 4) (vw_f zfl 4) b + 1) := by rw [← vw_s_at (g := zrf) hb9]; exact er
        rw [gr_sh (by omega), nI_clamp (n := b) (by omega), er', na_sm (by omega)]
        refine ⟨vp_in_nI hb9 (by omega), vp_in_nI hb9 (by omega), nm_e ?_⟩
        refine xp_push (by omega) (by omega) ?_
        refine nm_r (nI_1 g) ?_
        rw [← vw_s_s hb9] at V1
        exact ih (g + 1) (k + 1) _ _ (by omega) (by omega) V1 (by omega)
theorem xk_tloop {post : SX → Prop} {Kp : Nat → Prop} {C0 : Nat → Int32} (hG : gr_WG (vw_r zrg 4) (vw_f zfl 4) (kc_T (vw_c ztk 4))) (zcoi : Nat → Int32)
    (K : ∀ zrf' zst' zco', kt_V (vw_r zrg 4) (vw_f zfl 4) (vw_c ztk 4) C0 (vw_c zco' 4) (vw_s zrf') Kp zst' 0 0 0 → (∀ e', e' ≠ 4 → vw_c zco' e' = vw_c zcoi e') → post (zhf, zhn, zcn, zyn, zsc, zph, zsa, zgc, 0, zs2, zrg, zfl, ztk, zco', znx, zff, zfc, zmv, zrm, zrf', zsu, zss, zgs, zfa, zst', zt2, zse, zpa, zba)) :
    ∀ (n k : Nat) (zrf zst zco : Nat → Int32), kt_V (vw_r zrg 4) (vw_f zfl 4) (vw_c ztk 4) C0 (vw_c zco 4) (vw_s zrf) Kp zst k 0 0 → k + 3 * kt_w (vw_c ztk 4) (vw_c zco 4) < n → k + 3 * kt_w (vw_c ztk 4) (vw_c zco 4) ≤ 145 → (∀ e', e' ≠ 4 → vw_c zco e' = vw_c zcoi e') →
      wX_tryWithout_10 post n zhf zhn zcn zyn zsc zph zsa zgc (nI k) zs2 zrg zfl ztk zco znx zff zfc zmv zrm zrf zsu zss zgs zfa zst zt2 zse zpa zba := by
  intro n
  induction n with
  | zero => intro k _ _ _ _ h; omega
  | succ n ih =>
    intro k zrf zst zco V hn hb ho
    cases k with
    | zero => exact br_t (by decide) (K zrf zst zco V ho)
    | succ k =>
      refine br_f (nI_nle (by omega) (by omega)) ?_
      refine nm_r (nI_pred k) ⟨vp_in_nI (by omega) (by omega), ?_⟩
      obtain ⟨a, ea, ha, hr⟩ := V.2.2.1 k (by omega)
      have ha9 := kc_T9 ha
      rw [nI_clamp (n := k) (by omega)]
      refine nm_r ea ?_
      rw [na_384, nI_clamp (n := 4 * 96 + a) (by omega)]
      refine ⟨vp_in_nI (by omega) (by omega), ?_⟩
      have hC : vw_c zco 4 a = zco (4 * 96 + a) := vw_c_at ha9
      by_cases c1 : zco (4 * 96 + a) = 1
      · refine br_t c1 ?_
        exact ih k zrf zst zco (kt_skip V ea ha (hC.trans c1)) (by omega) (by omega) ho
      · refine br_f c1 ⟨vp_in_nI (by omega) (by omega), ?_⟩
        rw [na_1]
        refine nm_e ⟨4, ?_⟩
        have hw := kt_grey (C := vw_c zco 4) ha (by rw [hC]; exact c1)
        have V1 := kt_enter V ea ha (by rw [hC]; exact c1) hr
        rw [← vw_c_s ha9] at V1 hw
        refine xk_tfields (post := post) hG ha (by rw [vw_c_s ha9, pk_us]) (k + 3 + 3 * kt_w (vw_c ztk 4) (vw_c (upd zco (4 * 96 + a) 1) 4)) (by omega) (fun zrf' zst' k' V2 hm => ?_) 4 0 k zrf zst (by omega) (by omega) V1 (by omega)
        exact ih k' zrf' zst' _ V2 (by omega) (by omega) (fun e' n => (vw_c_o ha9 n).trans (ho e' n))
theorem kt_push {R : Nat → Int32} {F : Nat → Nat → Int32} {T C0 C rf : Nat → Int32} {Kp : Nat → Prop} {st : Nat → Int32} {a : Nat} (V : kt_V R F T C0 C rf Kp st 0 0 0) (ha : kc_T T a) (hr : gr_rea Kp (gr_E F) a) : kt_V R F T C0 C rf Kp (upd st 0 (nI a)) 1 0 0 := by
  obtain ⟨v1, v2, v3, v4, v5, v6⟩ := V
  refine ⟨v1, fun c f b hcT h1 h3 e h9 => ?_, fun i hi => ⟨a, by rw [show i = 0 by omega, pk_us], ha, hr⟩, v4, v5, v6⟩
  rcases v2 c f b hcT h1 h3 e h9 with z | ⟨i, hi, _⟩ | z
  · exact Or.inl z
  · exact absurd hi (Nat.not_lt_zero i)
  · exact Or.inr (Or.inr z)
theorem xk_try {post : SX → Prop} {Kp : Nat → Prop} {a : Nat} (hG : gr_WG (vw_r zrg 4) (vw_f zfl 4) (kc_T (vw_c ztk 4))) (ha : kc_T (vw_c ztk 4) a) (hr : gr_rea Kp (gr_E (vw_f zfl 4)) a)
    (V : kt_V (vw_r zrg 4) (vw_f zfl 4) (vw_c ztk 4) (vw_c zco 4) (vw_c zco 4) (vw_s zrf) Kp zst 0 0 0)
    (K : ∀ zrf' zst' zco', kt_V (vw_r zrg 4) (vw_f zfl 4) (vw_c ztk 4) (vw_c zco 4) (vw_c zco' 4) (vw_s zrf') Kp zst' 0 0 0 → vw_c zco' 4 a = 1 → (∀ e', e' ≠ 4 → vw_c zco' e' = vw_c zco e') → post (zhf, zhn, zcn, zyn, zsc, zph, zsa, zgc, 0, zs2, zrg, zfl, ztk, zco', znx, zff, zfc, zmv, zrm, zrf', zsu, zss, zgs, zfa, zst', zt2, zse, zpa, zba)) :
    wpX_tryWithout post (zhf, zhn, zcn, zyn, zsc, zph, zsa, zgc, zsd, zs2, zrg, zfl, ztk, zco, znx, zff, zfc, zmv, zrm, zrf, zsu, zss, zgs, zfa, zst, zt2, zse, zpa, zba) (nI a) := by
  have ha9 := kc_T9 ha
  have hw48 := kt_w48 (T := vw_c ztk 4) (C := vw_c zco 4)
  have V1 := kt_push V ha hr
  unfold wpX_tryWithout
  refine xp_push (k := 0) (by omega) (by omega) ?_
  have hC : vw_c zco 4 a = zco (4 * 96 + a) := vw_c_at ha9
  by_cases c1 : zco (4 * 96 + a) = 1
  · refine ⟨200, ?_⟩
    exact xk_tloop (post := post) hG zco (fun zrf' zst' zco' V2 ho => K zrf' zst' zco' V2 (V2.2.2.2.2.2 a (hC.trans c1)) ho) 200 1 zrf _ zco V1 (by omega) (by omega) (fun _ _ => rfl)
  · refine ⟨200, ?_⟩
    refine br_f (by decide) ?_
    refine nm_r (nI_pred 0) ⟨vp_in_nI (by omega) (by omega), ?_⟩
    refine nm_r (e' := nI a) pk_us ?_
    rw [na_384, nI_clamp (n := 4 * 96 + a) (by omega)]
    refine ⟨vp_in_nI (by omega) (by omega), ?_⟩
    refine br_f c1 ⟨vp_in_nI (by omega) (by omega), ?_⟩
    rw [na_1]
    refine nm_e ⟨4, ?_⟩
    have hw := kt_grey (C := vw_c zco 4) ha (by rw [hC]; exact c1)
    obtain ⟨w1, w2, w3, w4, w5, w6⟩ := kt_enter V1 pk_us ha (by rw [hC]; exact c1) hr
    have V2 : kt_V (vw_r zrg 4) (vw_f zfl 4) (vw_c ztk 4) (upd (vw_c zco 4) a 1) (upd (vw_c zco 4) a 1) (vw_s zrf) Kp (upd zst 0 (nI a)) 0 a 0 := ⟨w1, w2, w3, w4, fun _ => Or.inl rfl, fun _ h => h⟩
    have ec : vw_c (upd zco (4 * 96 + a) 1) 4 = upd (vw_c zco 4) a 1 := vw_c_s ha9
    refine xk_tfields (post := post) (C0 := upd (vw_c zco 4) a 1) (Kp := Kp) hG ha (by rw [ec, pk_us]) 145 (by omega) (fun zrf' zst' k' V3 hm => ?_) 4 0 0 zrf _ (by omega) (by omega) (by rw [ec]; exact V2) (by rw [ec]; omega)
    refine xk_tloop (post := post) hG zco (fun zrf2 zst2 zco2 V4 ho => ?_) 199 k' zrf' zst' _ V3 (by omega) (by omega) (fun e' n => vw_c_o ha9 n)
    obtain ⟨x1, x2, x3, x4, x5, x6⟩ := V4
    refine K zrf2 zst2 zco2 ⟨x1, x2, x3, x4, fun b => ?_, fun b hb => x6 b ?_⟩ (x6 a pk_us) ho
    · by_cases e : b = a
      · exact Or.inr ⟨by rw [e]; exact x6 a pk_us, e ▸ ha⟩
      · have := x5 b; rw [pk_un e] at this; exact this
    · by_cases e : b = a
      · rw [e, pk_us]
      · rw [pk_un e]; exact hb
end C4
end
section
def k1_Kp (ss : Nat → Int32) (n a : Nat) : Prop := a < 96 ∧ ∃ j, j < n ∧ ss j = nI a
def k1_L (n i kS j : Nat) : Prop := j < n ∨ (i ≤ j ∧ j < kS)
def k1_I (R : Nat → Int32) (F : Nat → Nat → Int32) (T C N : Nat → Int32) (f c : Int32) (rf su ss : Nat → Int32) (kS n i : Nat) : Prop :=
  fr_ok 48 T N f c ∧ gr_WG R F (kc_T T) ∧ kt_V R F T C C rf (k1_Kp ss n) (fun _ => 0) 0 0 0 ∧ (∀ a, kc_T T a → C a = 1 ∨ C a = 2 ∨ C a = 3) ∧
  (∀ j, j < n → ∃ a, ss j = nI a ∧ kc_T T a ∧ C a = 1 ∧ su a ≠ 0) ∧ (∀ j, i ≤ j → j < kS → ∃ a, ss j = nI a ∧ kc_T T a ∧ su a ≠ 0) ∧
  (∀ j j', k1_L n i kS j → k1_L n i kS j' → ss j = ss j' → j = j') ∧ (∀ a, 1 ≤ a → a ≤ 48 → su a ≠ 0 → ∃ j, k1_L n i kS j ∧ ss j = nI a) ∧
  (∀ a, kc_T T a → kc_n (kc_D T 0 0) R F a = 0 → kc_z F C su a) ∧ (∀ a, kc_T T a → C a = 3 → su a ≠ 0 ∧ 0 < kc_n (kc_D T 0 0) R F a) ∧
  (∀ a, kc_T T a → 0 < kc_n (kc_D T 0 0) R F a → gr_rea (fun b => gr_R R b ∨ (kc_T T b ∧ (C b = 3 ∨ C b = 1))) (gr_E F) a) ∧ n ≤ i ∧ i ≤ kS ∧ kS ≤ 48
section KT
variable {R : Nat → Int32} {F : Nat → Nat → Int32} {T C0 C N rf su ss : Nat → Int32} {f c : Int32} {Kp Kp' : Nat → Prop} {st st' : Nat → Int32} {k cur g kS n i : Nat}
theorem kt_st0 (V : kt_V R F T C0 C rf Kp st 0 cur g) : kt_V R F T C0 C rf Kp st' 0 cur g := by
  obtain ⟨v1, v2, v3, v4, v5, v6⟩ := V
  refine ⟨v1, fun c f b hcT h1 h3 e h9 => ?_, fun i hi => absurd hi (Nat.not_lt_zero i), v4, v5, v6⟩
  rcases v2 c f b hcT h1 h3 e h9 with z | ⟨i, hi, _⟩ | z
  · exact Or.inl z
  · exact absurd hi (Nat.not_lt_zero i)
  · exact Or.inr (Or.inr z)
theorem kt_mono (V : kt_V R F T C0 C rf Kp st k cur g) (h : ∀ b, Kp b → Kp' b) : kt_V R F T C0 C rf Kp' st k cur g := by
  obtain ⟨v1, v2, v3, v4, v5, v6⟩ := V
  have hm : ∀ a, gr_rea Kp (gr_E F) a → gr_rea Kp' (gr_E F) a := fun a ha => gr_mono ha (fun b hb => gr_root (h b hb)) (fun _ _ hc he => gr_step hc he)
  exact ⟨v1, v2, fun i hi => (v3 i hi).elim fun a q => ⟨a, q.1, q.2.1, hm a q.2.2⟩, fun a ha h1 => hm a (v4 a ha h1), v5, v6⟩
theorem kt_clo (V : kt_V R F T C0 C rf Kp st 0 0 0) {a h b : Nat} (ha : kc_T T a) (h1 : C a = 1) (h3 : h < 3) (e : F a h = nI (2 * b)) (h9 : b < 96) : C b = 1 := by
  rcases V.2.1 a h b ha h1 h3 e h9 with z | ⟨i, hi, _⟩ | z
  · exact z
  · exact absurd hi (Nat.not_lt_zero i)
  · have := ha.1; omega
theorem k1_rc (V : kt_V R F T C0 C rf Kp st 0 0 0) {a : Nat} (ha : a < 96) (hc : C a ≠ 1) : kc_n (kt_D T C 0 0) R F a = kc_n (kc_D T 0 0) R F a := by
  refine kc_congr fun i hi => ⟨fun z => ⟨⟨z.1.1, fun w => by omega⟩, z.2⟩, fun z => ⟨⟨z.1.1, Or.inl fun w => ?_⟩, z.2⟩⟩
  exact hc (kt_clo V z.1.1 w (by omega) z.2 ha)
/-- a kept suspect -/
theorem k1_keep {a : Nat} {C' rf' : Nat → Int32} (I : k1_I R F T C N f c rf su ss kS n i) (hi : i < kS) (hs : ss i = nI a) (h3 : C a = 3) (V : kt_V R F T C C' rf' (k1_Kp (upd ss n (nI a)) (n + 1)) st 0 0 0) (ha1 : C' a = 1) :
    k1_I R F T C' N f c rf' su (upd ss n (nI a)) kS (n + 1) (i + 1) := by
  obtain ⟨i1, i2, i3, i4, i5, i6, i7, i8, i9, i10, i11, i12, i13, i14⟩ := I
  obtain ⟨v1, v2, v3, v4, v5, v6⟩ := id V
  obtain ⟨a', e', haT, hsu⟩ := i6 i (Nat.le_refl i) hi
  have haa : a' = a := by
    have h9 := kc_T9 haT
    by_cases hb : a < 96
    · exact na_inj (by omega) (by omega) (e'.symm.trans hs)
    · exact absurd (v4 a) (fun _ => by
        rcases v5 a with w | w
        · rw [w, h3] at ha1; exact absurd ha1 (by decide)
        · have := kc_T9 w.2; omega)
  subst haa
  have hval : ∀ j, k1_L (n + 1) (i + 1) kS j → ∃ j', k1_L n i kS j' ∧ upd ss n (nI a') j = ss j' ∧ (j = n → j' = i) ∧ (j ≠ n → j' = j) := fun j hj => by
    by_cases e : j = n
    · exact ⟨i, Or.inr ⟨Nat.le_refl i, hi⟩, by rw [e, pk_us]; exact hs.symm, fun _ => rfl, fun z => absurd e z⟩
    · refine ⟨j, ?_, pk_un e, fun z => absurd z e, fun _ => rfl⟩
      rcases hj with z | z
      · exact Or.inl (by omega)
      · exact Or.inr ⟨by omega, z.2⟩
  refine ⟨i1, i2, kt_st0 ⟨v1, v2, v3, v4, fun _ => Or.inl rfl, fun _ h => h⟩, fun b hb => ?_, fun j hj => ?_, fun j h1 h2 => ?_, fun j j' hj hj' e => ?_, fun b h1 h2 hsb => ?_, fun b hb hz => ?_, fun b hb hc => ?_, fun b hb hz => ?_, by omega, by omega, i14⟩
  · rcases v5 b with z | z
    · rw [z]; exact i4 b hb
    · exact Or.inl z.1
  · by_cases e : j = n
    · exact ⟨a', by rw [e, pk_us], haT, ha1, hsu⟩
    · obtain ⟨b, q1, q2, q3, q4⟩ := i5 j (by omega)
      exact ⟨b, by rw [pk_un e]; exact q1, q2, v6 b q3, q4⟩
  · rw [pk_un (by omega)]; exact i6 j (by omega) h2
  · obtain ⟨q, hq, eq, q1, q2⟩ := hval j hj
    obtain ⟨q', hq', eq', q1', q2'⟩ := hval j' hj'
    have := i7 q q' hq hq' (by rw [← eq, ← eq', e])
    by_cases en : j = n
    · by_cases en' : j' = n
      · omega
      · have h1 := q1 en
        have h2 := q2' en'
        rcases hj' with z | z
        · omega
        · omega
    · by_cases en' : j' = n
      · have h1 := q2 en
        have h2 := q1' en'
        rcases hj with z | z
        · omega
        · omega
      · have h1 := q2 en
        have h2 := q2' en'
        omega
  · obtain ⟨j, hj, e⟩ := i8 b h1 h2 hsb
    by_cases ej : j = i
    · refine ⟨n, Or.inl (by omega), ?_⟩
      rw [pk_us, ← hs, ← ej]; exact e
    · refine ⟨j, ?_, ?_⟩
      · rcases hj with z | z
        · exact Or.inl (by omega)
        · exact Or.inr ⟨by omega, z.2⟩
      · rw [pk_un]
        · exact e
        · rcases hj with z | z <;> omega
  · have hz0 := i9 b hb hz
    refine ⟨hz0.1, ?_, hz0.2.2⟩
    rcases v5 b with w | w
    · rw [w]; exact hz0.2.1
    · exfalso
      have hr := v4 b hb w.1
      have : b ≠ b ∨ False := gr_ind hr (fun x => x = b → b ≠ b ∨ False) (fun x hx e => by
        obtain ⟨_, j, hj, ej⟩ := hx
        rw [e] at ej
        by_cases en : j = n
        · rw [en, pk_us] at ej
          have := na_inj (by have := kc_T9 haT; omega) (by have := kc_T9 hb; omega) ej
          have h2 := hz0.2.1
          rw [← this, h3] at h2
          exact absurd h2 (by decide)
        · rw [pk_un en] at ej
          obtain ⟨d, q1, q2, q3, _⟩ := i5 j (by omega)
          have := na_inj (by have := kc_T9 q2; omega) (by have := kc_T9 hb; omega) (q1.symm.trans ej)
          have h2 := hz0.2.1
          rw [← this, q3] at h2
          exact absurd h2 (by decide)) (fun c x hc _ he e => by
        obtain ⟨h9, h, hh, ef⟩ := he
        rw [e] at ef
        have hcT : kc_T T c := by
          refine gr_ind hc (fun x => kc_T T x) (fun x hx => ?_) (fun c x _ hcT he => ?_)
          · obtain ⟨_, j, hj, ej⟩ := hx
            by_cases en : j = n
            · rw [en, pk_us] at ej
              rw [← na_inj (a := a') (b := x) (by have := kc_T9 haT; omega) (by omega) ej]; exact haT
            · rw [pk_un en] at ej
              obtain ⟨d, q1, q2, q3, _⟩ := i5 j (by omega)
              rw [← na_inj (a := d) (b := x) (by have := kc_T9 q2; omega) (by omega) (q1.symm.trans ej)]; exact q2
          · obtain ⟨h9, h, hh, e⟩ := he
            exact gr_tgt (i2.2.1 c hcT h hh) (fun a ha => kc_T9 ha) h9 e
        have := kc_pcell (D := kc_D T 0 0) (R := R) hcT.2.1 hh ⟨by rw [show (3 * c + h) / 3 = c by omega]; exact hcT, fun w => by omega⟩ ef
        omega) rfl
      rcases this with z | z
      · exact z rfl
      · exact z
  · rcases v5 b with w | w
    · rw [w] at hc; exact i10 b hb hc
    · rw [w.1] at hc; exact absurd hc (by decide)
  · refine gr_mono (i11 b hb hz) (fun d hd => gr_root ?_) (fun _ _ hc he => gr_step hc he)
    rcases hd with z | z
    · exact Or.inl z
    · refine Or.inr ⟨z.1, ?_⟩
      rcases v5 d with w | w
      · rw [w]; exact z.2
      · exact Or.inr w.1
/-- a suspect that is grey already, or has got references anew -/
theorem k1_drop {a : Nat} (I : k1_I R F T C N f c rf su ss kS n i) (hi : i < kS) (hs : ss i = nI a) (ha : kc_T T a) (h3 : C a ≠ 3) (hn : C a = 1 ∨ 0 < kc_n (kc_D T 0 0) R F a) :
    k1_I R F T C N f c rf (upd su a 0) ss kS n (i + 1) := by
  obtain ⟨i1, i2, i3, i4, i5, i6, i7, i8, i9, i10, i11, i12, i13, i14⟩ := I
  have ha9 := kc_T9 ha
  have hL : ∀ j, k1_L n (i + 1) kS j → k1_L n i kS j := fun j hj => hj.imp id fun z => ⟨by omega, z.2⟩
  have ne : ∀ j b, k1_L n (i + 1) kS j → ss j = nI b → kc_T T b → b ≠ a := fun j b hj e _ z => by
    have := i7 j i (hL j hj) (Or.inr ⟨Nat.le_refl i, hi⟩) (by rw [e, hs, z])
    rcases hj with w | w <;> omega
  refine ⟨i1, i2, i3, i4, fun j hj => ?_, fun j h1 h2 => ?_, fun j j' hj hj' => i7 j j' (hL j hj) (hL j' hj'), fun b h1 h2 hsb => ?_, fun b hb hz => ?_, fun b hb hc => ?_, i11, by omega, by omega, i14⟩
  · obtain ⟨b, q1, q2, q3, q4⟩ := i5 j hj
    exact ⟨b, q1, q2, q3, by rw [pk_un (ne j b (Or.inl hj) q1 q2)]; exact q4⟩
  · obtain ⟨b, q1, q2, q3⟩ := i6 j (by omega) h2
    exact ⟨b, q1, q2, by rw [pk_un (ne j b (Or.inr ⟨h1, h2⟩) q1 q2)]; exact q3⟩
  · have e : b ≠ a := fun z => by rw [z, pk_us] at hsb; exact hsb rfl
    rw [pk_un e] at hsb
    obtain ⟨j, hj, ej⟩ := i8 b h1 h2 hsb
    refine ⟨j, ?_, ej⟩
    rcases hj with z | z
    · exact Or.inl z
    · refine Or.inr ⟨?_, z.2⟩
      have : j ≠ i := fun w => e (na_inj (by omega) (by omega) (ej.symm.trans (w ▸ hs)))
      omega
  · have h0 := i9 b hb hz
    have e : b ≠ a := fun z => by
      rcases hn with w | w
      · have := h0.2.1; rw [z, w] at this; exact absurd this (by decide)
      · rw [z] at hz; omega
    exact ⟨by rw [pk_un e]; exact h0.1, h0.2.1, h0.2.2⟩
  · have e : b ≠ a := fun z => h3 (z ▸ hc)
    exact ⟨by rw [pk_un e]; exact (i10 b hb hc).1, (i10 b hb hc).2⟩
/-- a suspect without references is released -/
theorem k1_rel {a : Nat} {N' : Nat → Int32} {f' c' w : Int32} (I : k1_I R F T C N f c rf su ss kS n i) (hi : i < kS) (hs : ss i = nI a) (ha : kc_T T a) (h2 : C a = 2) (h0 : kc_n (kc_D T 0 0) R F a = 0) (hok : fr_ok 48 (upd T a 0) N' f' c') :
    k1_I R F (upd T a 0) (upd C a w) N' f' c' rf (upd su a 0) ss kS n (i + 1) := by
  obtain ⟨i1, i2, i3, i4, i5, i6, i7, i8, i9, i10, i11, i12, i13, i14⟩ := I
  have ha9 := kc_T9 ha
  have hz := i9 a ha h0
  have hL : ∀ j, k1_L n (i + 1) kS j → k1_L n i kS j := fun j hj => hj.imp id fun z => ⟨by omega, z.2⟩
  have ne : ∀ j b, k1_L n (i + 1) kS j → ss j = nI b → kc_T T b → b ≠ a := fun j b hj e _ z => by
    have := i7 j i (hL j hj) (Or.inr ⟨Nat.le_refl i, hi⟩) (by rw [e, hs, z])
    rcases hj with w | w <;> omega
  have hT : ∀ b, kc_T (upd T a 0) b ↔ kc_T T b ∧ b ≠ a := fun b => by
    by_cases e : b = a
    · rw [e]; exact ⟨fun z => absurd pk_us z.2.2, fun z => absurd rfl z.2⟩
    · unfold kc_T; rw [pk_un e]; exact ⟨fun z => ⟨z, e⟩, fun z => z.1⟩
  have hreg : ∀ r, r < 6 → R r ≠ nI (2 * a) := fun r hr e => by
    have := kc_preg (D := kc_D T 0 0) (F := F) hr e; omega
  have hfld : ∀ b, kc_T T b → ∀ g, g < 3 → F b g ≠ nI (2 * a) := fun b hb g hg e => by
    have := kc_pcell (D := kc_D T 0 0) (R := R) hb.2.1 hg ⟨by rw [show (3 * b + g) / 3 = b by omega]; exact hb, fun w => by omega⟩ e
    omega
  have key : ∀ b, b < 96 → kc_n (kc_D (upd T a 0) 0 0) R F b = kc_n (kc_D T 0 0) R F b := fun b hb => kc_congr fun i hi => by
    by_cases e : i / 3 = a
    · rw [e, hz.2.2 _ (by omega)]
      exact ⟨fun z => absurd z.2 (gr_odne gr_od1 (by omega)), fun z => absurd z.2 (gr_odne gr_od1 (by omega))⟩
    · exact ⟨fun z => ⟨⟨((hT _).mp z.1.1).1, z.1.2⟩, z.2⟩, fun z => ⟨⟨(hT _).mpr ⟨z.1.1, e⟩, z.1.2⟩, z.2⟩⟩
  have keyt : ∀ b, b < 96 → kc_n (kt_D (upd T a 0) (upd C a w) 0 0) R F b = kc_n (kt_D T C 0 0) R F b := fun b hb => kc_congr fun i hi => by
    by_cases e : i / 3 = a
    · rw [e, hz.2.2 _ (by omega)]
      exact ⟨fun z => absurd z.2 (gr_odne gr_od1 (by omega)), fun z => absurd z.2 (gr_odne gr_od1 (by omega))⟩
    · refine ⟨fun z => ⟨⟨((hT _).mp z.1.1).1, ?_⟩, z.2⟩, fun z => ⟨⟨(hT _).mpr ⟨z.1.1, e⟩, ?_⟩, z.2⟩⟩
      · have := z.1.2; rw [pk_un e] at this; exact this
      · rw [pk_un e]; exact z.1.2
  obtain ⟨v1, v2, v3, v4, v5, v6⟩ := i3
  have n12 : ¬ (2 : Int32) = 1 := by decide
  refine ⟨hok, ⟨fun r hr => ?_, fun b hb g hg => ?_, fun b hb => i2.2.2 b ((hT b).mp hb).1⟩, ⟨fun b q1 q2 => by rw [keyt b (by omega)]; exact v1 b q1 q2, fun b h d hb hc hh e h9 => ?_, fun j hj => absurd hj (Nat.not_lt_zero j), fun b hb hc => ?_, fun _ => Or.inl rfl, fun _ h => h⟩, fun b hb => ?_, fun j hj => ?_, fun j q1 q2 => ?_, fun j j' hj hj' => i7 j j' (hL j hj) (hL j' hj'), fun b q1 q2 hsb => ?_, fun b hb hzz => ?_, fun b hb hc => ?_, fun b hb hzz => ?_, by omega, by omega, i14⟩
  · exact gr_wfm (i2.1 r hr) fun b hb e => (hT b).mpr ⟨hb, fun z => hreg r hr (z ▸ e)⟩
  · exact gr_wfm (i2.2.1 b ((hT b).mp hb).1 g hg) fun d hd e => (hT d).mpr ⟨hd, fun z => hfld b ((hT b).mp hb).1 g hg (z ▸ e)⟩
  · have hb' := (hT b).mp hb
    rw [pk_un hb'.2] at hc
    rcases v2 b h d hb'.1 hc hh e h9 with z | ⟨j, hj, _⟩ | z
    · left
      have : d ≠ a := fun q => n12 (by rw [← h2, ← q]; exact z)
      rw [pk_un this]; exact z
    · exact absurd hj (Nat.not_lt_zero j)
    · have := hb'.1.1; omega
  · have hb' := (hT b).mp hb
    rw [pk_un hb'.2] at hc
    exact v4 b hb'.1 hc
  · have hb' := (hT b).mp hb
    rw [pk_un hb'.2]; exact i4 b hb'.1
  · obtain ⟨b, q1, q2, q3, q4⟩ := i5 j hj
    have e := ne j b (Or.inl hj) q1 q2
    exact ⟨b, q1, (hT b).mpr ⟨q2, e⟩, by rw [pk_un e]; exact q3, by rw [pk_un e]; exact q4⟩
  · obtain ⟨b, r1, r2, r3⟩ := i6 j (by omega) q2
    have e := ne j b (Or.inr ⟨q1, q2⟩) r1 r2
    exact ⟨b, r1, (hT b).mpr ⟨r2, e⟩, by rw [pk_un e]; exact r3⟩
  · have e : b ≠ a := fun z => by rw [z, pk_us] at hsb; exact hsb rfl
    rw [pk_un e] at hsb
    obtain ⟨j, hj, ej⟩ := i8 b q1 q2 hsb
    refine ⟨j, ?_, ej⟩
    rcases hj with z | z
    · exact Or.inl z
    · refine Or.inr ⟨?_, z.2⟩
      have : j ≠ i := fun w => e (na_inj (by omega) (by omega) (ej.symm.trans (w ▸ hs)))
      omega
  · have hb' := (hT b).mp hb
    rw [key b (kc_T9 hb)] at hzz
    have := i9 b hb'.1 hzz
    exact ⟨by rw [pk_un hb'.2]; exact this.1, by rw [pk_un hb'.2]; exact this.2.1, this.2.2⟩
  · have hb' := (hT b).mp hb
    rw [pk_un hb'.2] at hc
    rw [pk_un hb'.2, key b (kc_T9 hb)]
    exact i10 b hb'.1 hc
  · have hb' := (hT b).mp hb
    rw [key b (kc_T9 hb)] at hzz
    have h8 := gr_drop (cur := a) (i11 b hb'.1 hzz) (rt' := fun d => d ≠ a ∧ (gr_R R d ∨ (kc_T T d ∧ (C d = 3 ∨ C d = 1)))) (fun d hd => by
      by_cases e : d = a
      · exact Or.inl e
      · exact Or.inr ⟨e, hd⟩) (fun d hd => by
      obtain ⟨h9, h, hh, e⟩ := hd
      rw [hz.2.2 h hh] at e
      exact absurd e (gr_odne gr_od1 (by omega)))
    refine gr_mono (h8.resolve_left hb'.2) (fun d hd => gr_root ?_) (fun _ _ hc he => gr_step hc he)
    rcases hd.2 with z | z
    · exact Or.inl z
    · exact Or.inr ⟨(hT d).mpr ⟨z.1, hd.1⟩, by rw [pk_un hd.1]; exact z.2⟩
end KT
section C4
variable {zhf zhn zcn zyn zsc zph zsa zgc zsd zs2 : Int32} {zrg zfl ztk zco znx zff zfc zmv zrm zrf zsu zss zgs zfa zst zt2 zse zpa zba : Nat → Int32}
theorem xk_roots {post : Int32 → SX → Prop} {kS : Nat}
    (W : Nat → (Nat → Int32) × (Nat → Nat → Int32) × (Nat → Int32) × (Nat → Int32) × (Nat → Int32) × Int32 × Int32)
    (K : ∀ n ztk' zco' znx' zff' zfc' zrf' zsu' zss' zst' zsd', k1_I (vw_r zrg 4) (vw_f zfl 4) (vw_c ztk' 4) (vw_c zco' 4) (vw_c znx' 4) (zff' 4) (zfc' 4) (vw_s zrf') (vw_s zsu') zss' kS n kS → (∀ e', e' ≠ 4 → vw_v e' zrg zfl ztk' zco' znx' zff' zfc' = W e') →
      ∃ n105 : Nat, wX_collectByCounts_105 post (nI n) n105 0 zhf zhn zcn zyn (nI kS) zph zsa zgc zsd' zs2 zrg zfl ztk' zco' znx' zff' zfc' zmv zrm zrf' zsu' zss' zgs zfa zst' zt2 zse zpa zba) :
    ∀ (m n i : Nat) (zsd : Int32) (ztk zco znx zff zfc zrf zsu zss zst : Nat → Int32), kS < m + i → k1_I (vw_r zrg 4) (vw_f zfl 4) (vw_c ztk 4) (vw_c zco 4) (vw_c znx 4) (zff 4) (zfc 4) (vw_s zrf) (vw_s zsu) zss kS n i → (∀ e', e' ≠ 4 → vw_v e' zrg zfl ztk zco znx zff zfc = W e') →
      wX_collectByCounts_4 post m (nI n) (nI i) zhf zhn zcn zyn (nI kS) zph zsa zgc zsd zs2 zrg zfl ztk zco znx zff zfc zmv zrm zrf zsu zss zgs zfa zst zt2 zse zpa zba := by
  intro m
  induction m with
  | zero => intro n i _ _ _ _ _ _ _ _ _ _ h I; have := I.2.2.2.2.2.2.2.2.2.2.2.2.1; omega
  | succ m ih =>
    intro n i zsd ztk zco znx zff zfc zrf zsu zss zst hm I hW
    have hni := I.2.2.2.2.2.2.2.2.2.2.2.1
    have hik := I.2.2.2.2.2.2.2.2.2.2.2.2.1
    have hk48 := I.2.2.2.2.2.2.2.2.2.2.2.2.2
    by_cases hi : i = kS
    · subst hi
      exact br_t (nI_le (Nat.le_refl _) (by omega)) (K n ztk zco znx zff zfc zrf zsu zss zst zsd I hW)
    · refine br_f (nI_ge (by omega) (by omega)) ⟨vp_in_nI (by omega) (by omega), ?_⟩
      obtain ⟨a, ea, ha, hsu⟩ := I.2.2.2.2.2.1 i (Nat.le_refl i) (by omega)
      have ha9 := kc_T9 ha
      have hV := I.2.2.1
      rw [nI_clamp (n := i) (by omega)]
      refine nm_r ea ?_
      rw [na_384, nI_clamp (n := 4 * 96 + a) (by omega)]
      refine ⟨vp_in_nI (by omega) (by omega), ?_⟩
      have hC : vw_c zco 4 a = zco (4 * 96 + a) := vw_c_at ha9
      have hrf : vw_s zrf a = zrf a := vw_s_at ha9
      have hle := kc_le (D := kt_D (vw_c ztk 4) (vw_c zco 4) 0 0) (R := vw_r zrg 4) (F := vw_f zfl 4) (a := a)
      have hrv : zrf a = nI (kc_n (kt_D (vw_c ztk 4) (vw_c zco 4) 0 0) (vw_r zrg 4) (vw_f zfl 4) a) := by rw [← hrf]; exact hV.1 a ha.1 ha.2.1
      by_cases c3 : zco (4 * 96 + a) = 3
      · refine br_t c3 ⟨vp_in_nI ha9 (by omega), ?_⟩
        have hC3 := hC.trans c3
        have hpos := (I.2.2.2.2.2.2.2.2.2.1 a ha hC3).2
        rw [nI_clamp (n := a) (by omega), hrv, k1_rc hV ha9 (by rw [hC3]; decide)]
        have hle2 := kc_le (D := kc_D (vw_c ztk 4) 0 0) (R := vw_r zrg 4) (F := vw_f zfl 4) (a := a)
        refine br_f (nI_nle hpos (by omega)) ?_
        refine xk_try (Kp := k1_Kp (upd zss n (nI a)) (n + 1)) I.2.1 ha (gr_root ⟨ha9, n, by omega, pk_us⟩) (kt_st0 (kt_mono hV fun b hb => ⟨hb.1, hb.2.elim fun j hj => ⟨j, by omega, by rw [pk_un (by omega)]; exact hj.2⟩⟩)) fun zrf' zst' zco' V1 hc1 ho => ?_
        refine ⟨vp_in_nI (by omega) (by omega), ?_⟩
        rw [nI_clamp (n := n) (by omega), na_b (by omega)]
        refine nm_e (nm_r (nI_1 n) (nm_r (nI_1 i) ?_))
        exact ih (n + 1) (i + 1) _ ztk zco' znx zff zfc zrf' zsu _ zst' (by omega) (k1_keep I (by omega) ea hC3 V1 hc1) (fun e' q => (vw_v_co (ho e' q)).trans (hW e' q))
      · refine br_f c3 ?_
        refine And.intro (vp_in_nI ha9 (by omega)) ?_
        rw [nI_clamp (n := a) (by omega), na_f]
        refine nm_e ⟨vp_in_nI ha9 (by omega), ?_⟩
        have hC3 : vw_c zco 4 a ≠ 3 := by rw [hC]; exact c3
        have go : (vw_c zco 4 a = 1 ∨ 0 < kc_n (kc_D (vw_c ztk 4) 0 0) (vw_r zrg 4) (vw_f zfl 4) a) → wX_collectByCounts_4 post m (nI n) (nI (i + 1)) zhf zhn zcn zyn (nI kS) zph zsa zgc zsd zs2 zrg zfl ztk zco znx zff zfc zmv zrm zrf (upd zsu a 0) zss zgs zfa zst zt2 zse zpa zba := fun hn => by
          have I' := k1_drop I (by omega) ea ha hC3 hn
          rw [← vw_s_s ha9] at I'
          exact ih n (i + 1) zsd ztk zco znx zff zfc zrf _ zss zst (by omega) I' hW
        by_cases r0 : zrf a = 0
        · refine br_t r0 ?_
          rw [na_384, nI_clamp (n := 4 * 96 + a) (by omega)]
          refine ⟨vp_in_nI (by omega) (by omega), ?_⟩
          by_cases c2 : zco (4 * 96 + a) = 2
          · refine br_t c2 ?_
            have hC2 := hC.trans c2
            have h0 : kc_n (kc_D (vw_c ztk 4) 0 0) (vw_r zrg 4) (vw_f zfl 4) a = 0 := by
              rw [← k1_rc hV ha9 (by rw [hC2]; decide)]
              exact na_inj (b := 0) (by omega) (by omega) (hrv.symm.trans r0)
            refine xf_release (e := 4) (last := 48) (by omega) ha.1 ha.2.1 (by omega) I.1 ha.2.2 fun ztk' zco' znx' zff' zfc' r1 r2 r3 r4 => ?_
            refine nm_r (nI_1 i) ?_
            rw [r1] at r3
            have I' := k1_rel (w := 0) I (by omega) ea ha hC2 h0 r3
            rw [← r1, ← r2, ← vw_s_s ha9] at I'
            exact ih n (i + 1) zsd ztk' zco' znx' zff' zfc' zrf _ zss zst (by omega) I' (fun e' q => (r4 e' q).trans (hW e' q))
          · refine br_f c2 (nm_r (nI_1 i) (go (Or.inl ?_)))
            rcases I.2.2.2.1 a ha with z | z | z
            · exact z
            · exact absurd (hC.symm.trans z) c2
            · exact absurd z hC3
        · refine br_f r0 (nm_r (nI_1 i) (go ?_))
          by_cases c1 : vw_c zco 4 a = 1
          · exact Or.inl c1
          · right
            rw [← k1_rc hV ha9 c1]
            by_cases z : kc_n (kt_D (vw_c ztk 4) (vw_c zco 4) 0 0) (vw_r zrg 4) (vw_f zfl 4) a = 0
            · exact absurd (by rw [hrv, z]; rfl) r0
            · omega
end C4
end
section
/-! judging: what still has references gives back all that come from there -/
def jg_D (T C s2 : Nat → Int32) (k2 cur g : Nat) (i : Nat) : Prop := kc_T T (i / 3) ∧ C (i / 3) = 2 ∧ ¬ (∃ j, j < k2 ∧ s2 j = nI (i / 3)) ∧ ¬ (i / 3 = cur ∧ g ≤ i % 3)
noncomputable def jg_w (T C : Nat → Int32) : Nat := ct_c (fun a => kc_T T a ∧ C a ≠ 2) 96
noncomputable def jg_y (T C : Nat → Int32) : Nat := ct_c (fun a => kc_T T a ∧ C a = 1) 96
def jg_V (R : Nat → Int32) (F : Nat → Nat → Int32) (T : Nat → Int32) (G0 : Nat → Prop) (C1 C rf s2 : Nat → Int32) (k2 cur g : Nat) : Prop :=
  (∀ a, 1 ≤ a → a ≤ 48 → rf a = nI (kc_n (jg_D T C s2 k2 cur g) R F a)) ∧ (∀ a, kc_T T a → C a = 0 → rf a = 0) ∧ (∀ a, kc_T T a → C a = 2 → gr_X R F a) ∧
  (∀ c f b, kc_T T c → G0 c → C c = 2 → f < 3 → F c f = nI (2 * b) → b < 96 → C b = 2 ∨ (∃ j, j < k2 ∧ s2 j = nI c) ∨ (c = cur ∧ g ≤ f)) ∧
  (∀ j, j < k2 → ∃ a, s2 j = nI a ∧ kc_T T a ∧ C a = 2 ∧ a ≠ cur) ∧ (∀ i j, i < k2 → j < k2 → s2 i = s2 j → i = j) ∧ (∀ a, C a = C1 a ∨ (C a = 2 ∧ kc_T T a)) ∧ k2 + jg_w T C ≤ 48 + 1
theorem jg_w48 {T C : Nat → Int32} : jg_w T C ≤ 48 := by
  have := ct_mono (P := fun a => kc_T T a ∧ C a ≠ 2) (Q := fun i => 1 ≤ i ∧ i < 49) 96 fun i _ z => ⟨z.1.1, by have := z.1.2.1; omega⟩
  rw [ct_range (by omega) 96 (by omega)] at this
  exact this
theorem jg_y48 {T C : Nat → Int32} : jg_y T C ≤ 48 := by
  have := ct_mono (P := fun a => kc_T T a ∧ C a = 1) (Q := fun i => 1 ≤ i ∧ i < 49) 96 fun i _ z => ⟨z.1.1, by have := z.1.2.1; omega⟩
  rw [ct_range (by omega) 96 (by omega)] at this
  exact this
theorem jg_wb {T C : Nat → Int32} {a : Nat} (ha : kc_T T a) (hc : C a ≠ 2) : jg_w T C = jg_w T (upd C a 2) + 1 := by
  refine ct_add (a := a) 96 (kc_T9 ha) (fun z => z.2 pk_us) fun i _ => ?_
  by_cases e : i = a
  · rw [e]; exact ⟨fun _ => Or.inr rfl, fun _ => ⟨ha, hc⟩⟩
  · rw [pk_un e]; exact ⟨Or.inl, fun z => z.resolve_right e⟩
section JG
variable {R : Nat → Int32} {F : Nat → Nat → Int32} {T C1 C rf s2 : Nat → Int32} {G0 : Nat → Prop} {k2 cur g : Nat}
theorem jg_pop (V : jg_V R F T G0 C1 C rf s2 (k2 + 1) 0 0) : ∃ a, s2 k2 = nI a ∧ kc_T T a ∧ C a = 2 ∧ jg_V R F T G0 C1 C rf s2 k2 a 0 := by
  obtain ⟨v1, v2, v3, v4, v5, v6, v7, v8⟩ := V
  obtain ⟨a, q1, q2, q3, q4⟩ := v5 k2 (by omega)
  have ha9 := kc_T9 q2
  refine ⟨a, q1, q2, q3, fun b h1 h2 => ?_, v2, v3, fun c f b hc hg h2 h3 e h9 => ?_, fun j hj => ?_, fun i j hi hj => v6 i j (by omega) (by omega), v7, by omega⟩
  · rw [v1 b h1 h2]
    congr 1
    refine kc_congr fun i hi => ⟨fun z => ⟨⟨z.1.1, z.1.2.1, fun w => z.1.2.2.1 (w.elim fun j hj => ⟨j, by omega, hj.2⟩), fun w => z.1.2.2.1 ⟨k2, by omega, by rw [w.1]; exact q1⟩⟩, z.2⟩, fun z => ⟨⟨z.1.1, z.1.2.1, fun w => ?_, fun w => ?_⟩, z.2⟩⟩
    · obtain ⟨j, hj, e⟩ := w
      by_cases ej : j = k2
      · refine z.1.2.2.2 ⟨na_inj (by have := kc_T9 z.1.1; omega) (by omega) ((ej ▸ e).symm.trans q1), by omega⟩
      · exact z.1.2.2.1 ⟨j, by omega, e⟩
    · have := z.1.1.1; omega
  · rcases v4 c f b hc hg h2 h3 e h9 with z | ⟨j, hj, z⟩ | z
    · exact Or.inl z
    · by_cases ej : j = k2
      · refine Or.inr (Or.inr ⟨na_inj (by have := kc_T9 hc; omega) (by omega) ((ej ▸ z).symm.trans q1), by omega⟩)
      · exact Or.inr (Or.inl ⟨j, by omega, z⟩)
    · have := hc.1; omega
  · obtain ⟨b, r1, r2, r3, r4⟩ := v5 j (by omega)
    refine ⟨b, r1, r2, r3, fun z => ?_⟩
    have := v6 j k2 (by omega) (by omega) (by rw [r1, q1, z])
    omega
theorem jg_slot (V : jg_V R F T G0 C1 C rf s2 k2 cur g) (hc : kc_T T cur) (hC : C cur = 2) (hg : g < 3) (a : Nat) : kc_n (jg_D T C s2 k2 cur (g + 1)) R F a = kc_n (jg_D T C s2 k2 cur g) R F a + kc_e (F cur g) a := by
  have h48 := hc.2.1
  have hns : ¬ ∃ j, j < k2 ∧ s2 j = nI cur := fun ⟨j, hj, e⟩ => by
    obtain ⟨b, r1, r2, r3, r4⟩ := V.2.2.2.2.1 j hj
    exact r4 (na_inj (by have := kc_T9 r2; omega) (by have := kc_T9 hc; omega) (r1.symm.trans e))
  have e1 : (3 * cur + g) / 3 = cur := by omega
  have := kc_slot (D := jg_D T C s2 k2 cur (g + 1)) (D' := jg_D T C s2 k2 cur g) (R := R) (F := F) (a := a) (j := 3 * cur + g) (by omega) ⟨by rw [e1]; exact hc, by rw [e1]; exact hC, by rw [e1]; exact hns, fun w => by omega⟩
    (fun i hi => ⟨fun z => ⟨⟨z.1, z.2.1, z.2.2.1, fun w => z.2.2.2 ⟨w.1, by omega⟩⟩, fun e => z.2.2.2 ⟨by omega, by omega⟩⟩, fun z => ⟨z.1.1, z.1.2.1, z.1.2.2.1, fun w => ?_⟩⟩)
  · rw [e1, show (3 * cur + g) % 3 = g by omega] at this; exact this
  · by_cases e : i % 3 = g
    · exact z.2 (by omega)
    · exact z.1.2.2.2 ⟨w.1, by omega⟩
theorem jg_odd (V : jg_V R F T G0 C1 C rf s2 k2 cur g) (hc : kc_T T cur) (hC : C cur = 2) (hg : g < 3) (ho : gr_od (F cur g)) : jg_V R F T G0 C1 C rf s2 k2 cur (g + 1) := by
  have hV := V
  obtain ⟨v1, v2, v3, v4, v5, v6, v7, v8⟩ := V
  refine ⟨fun a h1 h2 => ?_, v2, v3, fun c f b hcT hG h2 h3 e h9 => ?_, v5, v6, v7, v8⟩
  · rw [v1 a h1 h2, jg_slot hV hc hC hg a, kc_eo ho (by omega)]; rfl
  · rcases v4 c f b hcT hG h2 h3 e h9 with z | z | z
    · exact Or.inl z
    · exact Or.inr (Or.inl z)
    · by_cases ef : f = g
      · rw [z.1, ef] at e; exact absurd e (gr_odne ho (by omega))
      · exact Or.inr (Or.inr ⟨z.1, by omega⟩)
theorem jg_ref {b : Nat} (V : jg_V R F T G0 C1 C rf s2 k2 cur g) (hc : kc_T T cur) (hC : C cur = 2) (hg : g < 3) (hb : kc_T T b) (eb : F cur g = nI (2 * b)) (hCb : C b = 2) :
    jg_V R F T G0 C1 C (upd rf b (nI (kc_n (jg_D T C s2 k2 cur g) R F b + 1))) s2 k2 cur (g + 1) := by
  have hV := V
  obtain ⟨v1, v2, v3, v4, v5, v6, v7, v8⟩ := V
  have hb9 := kc_T9 hb
  refine ⟨fun a h1 h2 => ?_, fun a ha h0 => ?_, v3, fun c f d hcT hG h2 h3 e h9 => ?_, v5, v6, v7, v8⟩
  · rw [jg_slot hV hc hC hg a]
    by_cases e : a = b
    · rw [e, pk_us, kc_et eb]
    · rw [pk_un e, v1 a h1 h2, kc_ef fun z => e (na_inj2 (by omega) hb9 (z.symm.trans eb))]; rfl
  · have : a ≠ b := fun z => by rw [z, hCb] at h0; exact absurd h0 (by decide)
    rw [pk_un this]; exact v2 a ha h0
  · rcases v4 c f d hcT hG h2 h3 e h9 with z | z | z
    · exact Or.inl z
    · exact Or.inr (Or.inl z)
    · by_cases ef : f = g
      · rw [z.1, ef] at e
        left; rw [na_inj2 h9 hb9 (e.symm.trans eb)]; exact hCb
      · exact Or.inr (Or.inr ⟨z.1, by omega⟩)
theorem jg_ref2 {b : Nat} (V : jg_V R F T G0 C1 C rf s2 k2 cur g) (hc : kc_T T cur) (hC : C cur = 2) (hg : g < 3) (hb : kc_T T b) (eb : F cur g = nI (2 * b)) (hCb : C b ≠ 2) :
    jg_V R F T G0 C1 (upd C b 2) (upd rf b (nI (kc_n (jg_D T C s2 k2 cur g) R F b + 1))) (upd s2 k2 (nI b)) (k2 + 1) cur (g + 1) := by
  have hV := V
  obtain ⟨v1, v2, v3, v4, v5, v6, v7, v8⟩ := V
  have hb9 := kc_T9 hb
  have hbc : b ≠ cur := fun z => hCb (z ▸ hC)
  have hcb : cur ≠ b := fun z => hbc z.symm
  have hbs : ∀ j, j < k2 → s2 j ≠ nI b := fun j hj e => by
    obtain ⟨d, r1, r2, r3, r4⟩ := v5 j hj
    have : d = b := na_inj (by have := kc_T9 r2; omega) (by omega) (r1.symm.trans e)
    exact hCb (this ▸ r3)
  have key : ∀ a, kc_n (jg_D T (upd C b 2) (upd s2 k2 (nI b)) (k2 + 1) cur (g + 1)) R F a = kc_n (jg_D T C s2 k2 cur (g + 1)) R F a := fun a => kc_congr fun i hi => by
    refine ⟨fun z => ?_, fun z => ?_⟩
    · have e : i / 3 ≠ b := fun w => z.1.2.2.1 ⟨k2, by omega, by rw [pk_us, w]⟩
      have h2 := z.1.2.1
      rw [pk_un e] at h2
      exact ⟨⟨z.1.1, h2, fun w => z.1.2.2.1 (w.elim fun j hj => ⟨j, by omega, by rw [pk_un (by omega)]; exact hj.2⟩), z.1.2.2.2⟩, z.2⟩
    · have e : i / 3 ≠ b := fun w => hCb (w ▸ z.1.2.1)
      refine ⟨⟨z.1.1, by rw [pk_un e]; exact z.1.2.1, fun w => ?_, z.1.2.2.2⟩, z.2⟩
      obtain ⟨j, hj, ej⟩ := w
      by_cases e2 : j = k2
      · rw [e2, pk_us] at ej
        exact e (na_inj (by have := kc_T9 z.1.1; omega) (by omega) ej.symm)
      · rw [pk_un e2] at ej; exact z.1.2.2.1 ⟨j, by omega, ej⟩
  have hbX : gr_X R F b := gr_step (v3 cur hc hC) ⟨hb9, g, hg, eb⟩
  refine ⟨fun a h1 h2 => ?_, fun a ha h0 => ?_, fun a ha h2 => ?_, fun c f d hcT hG h2 h3 e h9 => ?_, fun j hj => ?_, fun i j hi hj e => ?_, fun a => ?_, ?_⟩
  · rw [key a, jg_slot hV hc hC hg a]
    by_cases e : a = b
    · rw [e, pk_us, kc_et eb]
    · rw [pk_un e, v1 a h1 h2, kc_ef fun z => e (na_inj2 (by omega) hb9 (z.symm.trans eb))]; rfl
  · have : a ≠ b := fun z => by rw [z, pk_us] at h0; exact absurd h0 (by decide)
    rw [pk_un this] at h0 ⊢; exact v2 a ha h0
  · by_cases e : a = b
    · rw [e]; exact hbX
    · rw [pk_un e] at h2; exact v3 a ha h2
  · have up : ∀ x, C x = 2 → upd C b 2 x = 2 := fun x hx => by
      by_cases ex : x = b
      · rw [ex, pk_us]
      · rw [pk_un ex]; exact hx
    by_cases ec : c = b
    · exact Or.inr (Or.inl ⟨k2, by omega, by rw [pk_us, ec]⟩)
    · rw [pk_un ec] at h2
      rcases v4 c f d hcT hG h2 h3 e h9 with z | ⟨j, hj, z⟩ | z
      · exact Or.inl (up d z)
      · exact Or.inr (Or.inl ⟨j, by omega, by rw [pk_un (by omega)]; exact z⟩)
      · by_cases ef : f = g
        · rw [z.1, ef] at e
          left; rw [na_inj2 h9 hb9 (e.symm.trans eb), pk_us]
        · exact Or.inr (Or.inr ⟨z.1, by omega⟩)
  · by_cases e : j = k2
    · exact ⟨b, by rw [e, pk_us], hb, pk_us, hbc⟩
    · obtain ⟨d, r1, r2, r3, r4⟩ := v5 j (by omega)
      refine ⟨d, by rw [pk_un e]; exact r1, r2, ?_, r4⟩
      rw [pk_un (show d ≠ b from fun z => hCb (z ▸ r3))]; exact r3
  · by_cases ei : i = k2
    · by_cases ej : j = k2
      · omega
      · rw [ei, pk_us, pk_un ej] at e; exact absurd e.symm (hbs j (by omega))
    · by_cases ej : j = k2
      · rw [ej, pk_us, pk_un ei] at e; exact absurd e (hbs i (by omega))
      · rw [pk_un ei, pk_un ej] at e; exact v6 i j (by omega) (by omega) e
  · by_cases e : a = b
    · rw [e, pk_us]; exact Or.inr ⟨rfl, hb⟩
    · rw [pk_un e]; exact v7 a
  · have := jg_wb hb hCb; omega
theorem jg_done (V : jg_V R F T G0 C1 C rf s2 k2 cur 3) : jg_V R F T G0 C1 C rf s2 k2 0 0 := by
  obtain ⟨v1, v2, v3, v4, v5, v6, v7, v8⟩ := V
  refine ⟨fun a h1 h2 => ?_, v2, v3, fun c f b hcT hG h2 h3 e h9 => ?_, fun j hj => ?_, v6, v7, v8⟩
  · rw [v1 a h1 h2]
    congr 1
    refine kc_congr fun i hi => ⟨fun z => ⟨⟨z.1.1, z.1.2.1, z.1.2.2.1, fun w => ?_⟩, z.2⟩, fun z => ⟨⟨z.1.1, z.1.2.1, z.1.2.2.1, fun w => by omega⟩, z.2⟩⟩
    have := z.1.1.1; omega
  · rcases v4 c f b hcT hG h2 h3 e h9 with z | z | z
    · exact Or.inl z
    · exact Or.inr (Or.inl z)
    · omega
  · obtain ⟨d, r1, r2, r3, r4⟩ := v5 j hj
    exact ⟨d, r1, r2, r3, by have := r2.1; omega⟩
theorem jg_start {a : Nat} (V : jg_V R F T G0 C C rf s2 0 0 0) (ha : kc_T T a) (hc : C a ≠ 2) (hX : gr_X R F a) : jg_V R F T G0 C (upd C a 2) rf (upd s2 0 (nI a)) 1 0 0 := by
  obtain ⟨v1, v2, v3, v4, v5, v6, v7, v8⟩ := V
  have ha9 := kc_T9 ha
  refine ⟨fun b h1 h2 => ?_, fun b hb h0 => ?_, fun b hb h2 => ?_, fun c f d hcT hG h2 h3 e h9 => ?_, fun j hj => ⟨a, by rw [show j = 0 by omega, pk_us], ha, pk_us, by have := ha.1; omega⟩, fun i j hi hj _ => by omega, fun b => ?_, ?_⟩
  · rw [v1 b h1 h2]
    congr 1
    refine kc_congr fun i hi => ⟨fun z => ?_, fun z => ?_⟩
    · have e : i / 3 ≠ a := fun w => hc (w ▸ z.1.2.1)
      refine ⟨⟨z.1.1, by rw [pk_un e]; exact z.1.2.1, fun w => ?_, z.1.2.2.2⟩, z.2⟩
      obtain ⟨j, hj, ej⟩ := w
      rw [show j = 0 by omega, pk_us] at ej
      exact e (na_inj (by have := kc_T9 z.1.1; omega) (by omega) ej.symm)
    · have e : i / 3 ≠ a := fun w => z.1.2.2.1 ⟨0, by omega, by rw [pk_us, w]⟩
      have h2 := z.1.2.1
      rw [pk_un e] at h2
      exact ⟨⟨z.1.1, h2, fun ⟨j, hj, _⟩ => absurd hj (Nat.not_lt_zero j), z.1.2.2.2⟩, z.2⟩
  · have : b ≠ a := fun z => by rw [z, pk_us] at h0; exact absurd h0 (by decide)
    rw [pk_un this] at h0; exact v2 b hb h0
  · by_cases e : b = a
    · rw [e]; exact hX
    · rw [pk_un e] at h2; exact v3 b hb h2
  · by_cases ec : c = a
    · exact Or.inr (Or.inl ⟨0, by omega, by rw [pk_us, ec]⟩)
    · rw [pk_un ec] at h2
      rcases v4 c f d hcT hG h2 h3 e h9 with z | ⟨j, hj, _⟩ | z
      · left
        by_cases ed : d = a
        · rw [ed, pk_us]
        · rw [pk_un ed]; exact z
      · exact absurd hj (Nat.not_lt_zero j)
      · exact Or.inr (Or.inr z)
  · by_cases e : b = a
    · rw [e, pk_us]; exact Or.inr ⟨rfl, ha⟩
    · rw [pk_un e]; exact Or.inl rfl
  · have := jg_wb ha hc
    have := jg_w48 (T := T) (C := C)
    omega
end JG
section C4
variable {zhf zhn zcn zyn zsc zph zsa zgc zsd zs2 : Int32} {zrg zfl ztk zco znx zff zfc zmv zrm zrf zsu zss zgs zfa zst zt2 zse zpa zba : Nat → Int32}
theorem xk_gfields {post : SX → Prop} {J : TW_10} {G0 : Nat → Prop} {C1 : Nat → Int32} {cur : Nat} (hG : gr_WG (vw_r zrg 4) (vw_f zfl 4) (kc_T (vw_c ztk 4))) (hc : kc_T (vw_c ztk 4) cur) (mu : Nat) (zcoi : Nat → Int32)
    (K : ∀ zrf' zco' zt2' k', jg_V (vw_r zrg 4) (vw_f zfl 4) (vw_c ztk 4) G0 C1 (vw_c zco' 4) (vw_s zrf') zt2' k' 0 0 → 2 * jg_w (vw_c ztk 4) (vw_c zco' 4) + k' ≤ mu → (∀ e', e' ≠ 4 → vw_c zco' e' = vw_c zcoi e') → J zhf zhn zcn zyn zsc zph zsa zgc zsd (nI k') zrg zfl ztk zco' znx zff zfc zmv zrm zrf' zsu zss zgs zfa zst zt2' zse zpa zba) :
    ∀ (n g k : Nat) (zrf zco zt2 : Nat → Int32), g ≤ 3 → 3 < n + g → vw_c zco 4 cur = 2 → jg_V (vw_r zrg 4) (vw_f zfl 4) (vw_c ztk 4) G0 C1 (vw_c zco 4) (vw_s zrf) zt2 k cur g → 2 * jg_w (vw_c ztk 4) (vw_c zco 4) + k ≤ mu → (∀ e', e' ≠ 4 → vw_c zco e' = vw_c zcoi e') →
      wX_giveBack_53 post J (nI cur) n (nI g) zhf zhn zcn zyn zsc zph zsa zgc zsd (nI k) zrg zfl ztk zco znx zff zfc zmv zrm zrf zsu zss zgs zfa zst zt2 zse zpa zba := by
  intro n
  induction n with
  | zero => intro g k _ _ _ h1 h2; omega
  | succ n ih =>
    intro g k zrf zco zt2 h1 h2 hC V hmu ho
    have hc9 := kc_T9 hc
    by_cases h3 : g = 3
    · subst h3
      exact br_t (by decide) (K zrf zco zt2 k (jg_done V) hmu ho)
    · refine br_f (nI_ge (b := 3) (by omega) (by omega)) ?_
      refine xp_fieldOf (e := 4) (by omega) hc9 (by omega) ?_
      rcases hG.2.1 cur hc g (by omega) with hod | ⟨b, hb, eb⟩
      · refine xp_odd hod ?_
        refine br_t rfl (nm_r (nI_1 g) ?_)
        exact ih (g + 1) k zrf zco zt2 (by omega) (by omega) hC (jg_odd V hc hC (by omega) hod) hmu ho
      · have hb9 := kc_T9 hb
        have h8 := V.2.2.2.2.2.2.2
        have hle := kc_le (D := jg_D (vw_c ztk 4) (vw_c zco 4) zt2 k cur g) (R := vw_r zrg 4) (F := vw_f zfl 4) (a := b)
        have er : zrf b = nI (kc_n (jg_D (vw_c ztk 4) (vw_c zco 4) zt2 k cur g) (vw_r zrg 4) (vw_f zfl 4) b) := by rw [← vw_s_at (g := zrf) hb9]; exact V.1 b hb.1 hb.2.1
        rw [eb]
        refine xp_ref (by omega) ?_
        refine br_f na_n10 ?_
        rw [gr_sh (by omega)]
        unfold wpX_giveBackTo
        refine And.intro (vp_in_nI hb9 (by omega)) (And.intro (vp_in_nI hb9 (by omega)) ?_)
        rw [nI_clamp (n := b) (by omega), er, na_sp (by omega)]
        refine nm_e ?_
        rw [na_384, nI_clamp (n := 4 * 96 + b) (by omega)]
        refine And.intro (vp_in_nI (by omega) (by omega)) ?_
        have hCb : vw_c zco 4 b = zco (4 * 96 + b) := vw_c_at hb9
        by_cases c2 : zco (4 * 96 + b) = 2
        · refine br_t c2 ?_
          refine nm_r (nI_1 g) ?_
          have V1 := jg_ref V hc hC (by omega) hb eb (hCb.trans c2)
          rw [← vw_s_s hb9] at V1
          exact ih (g + 1) k _ zco zt2 (by omega) (by omega) hC V1 hmu ho
        · refine br_f c2 ⟨vp_in_nI (by omega) (by omega), ?_⟩
          rw [na_2, nI_clamp (n := k) (by omega), na_b (by omega)]
          refine nm_e ⟨vp_in_nI (by omega) (by omega), nm_e (nm_r (nI_1 k) ?_)⟩
          refine nm_r (nI_1 g) ?_
          have hw := jg_wb (C := vw_c zco 4) hb (by rw [hCb]; exact c2)
          have V1 := jg_ref2 V hc hC (by omega) hb eb (by rw [hCb]; exact c2)
          rw [← vw_s_s hb9, ← vw_c_s hb9] at V1
          rw [← vw_c_s hb9] at hw
          refine ih (g + 1) (k + 1) _ _ _ (by omega) (by omega) ?_ V1 (by omega) (fun e' n => (vw_c_o hb9 n).trans (ho e' n))
          rw [vw_c_s hb9]
          by_cases e : cur = b
          · rw [e, pk_us]
          · rw [pk_un e]; exact hC
theorem xk_gloop {post : SX → Prop} {G0 : Nat → Prop} {C1 : Nat → Int32} (hG : gr_WG (vw_r zrg 4) (vw_f zfl 4) (kc_T (vw_c ztk 4))) (zcoi : Nat → Int32)
    (K : ∀ zrf' zco' zt2', jg_V (vw_r zrg 4) (vw_f zfl 4) (vw_c ztk 4) G0 C1 (vw_c zco' 4) (vw_s zrf') zt2' 0 0 0 → (∀ e', e' ≠ 4 → vw_c zco' e' = vw_c zcoi e') → post (zhf, zhn, zcn, zyn, zsc, zph, zsa, zgc, zsd, 0, zrg, zfl, ztk, zco', znx, zff, zfc, zmv, zrm, zrf', zsu, zss, zgs, zfa, zst, zt2', zse, zpa, zba)) :
    ∀ (n k : Nat) (zrf zco zt2 : Nat → Int32), jg_V (vw_r zrg 4) (vw_f zfl 4) (vw_c ztk 4) G0 C1 (vw_c zco 4) (vw_s zrf) zt2 k 0 0 → 2 * jg_w (vw_c ztk 4) (vw_c zco 4) + k < n → (∀ e', e' ≠ 4 → vw_c zco e' = vw_c zcoi e') →
      wX_giveBack_24 post n zhf zhn zcn zyn zsc zph zsa zgc zsd (nI k) zrg zfl ztk zco znx zff zfc zmv zrm zrf zsu zss zgs zfa zst zt2 zse zpa zba := by
  intro n
  induction n with
  | zero => intro k _ _ _ _ h; omega
  | succ n ih =>
    intro k zrf zco zt2 V hn ho
    have h8 := V.2.2.2.2.2.2.2
    cases k with
    | zero => exact br_t (by decide) (K zrf zco zt2 V ho)
    | succ k =>
      refine br_f (nI_nle (by omega) (by omega)) ?_
      refine nm_r (nI_pred k) ⟨vp_in_nI (by omega) (by omega), ?_⟩
      obtain ⟨a, ea, ha, hC, V1⟩ := jg_pop V
      rw [nI_clamp (n := k) (by omega)]
      refine nm_r ea ⟨4, ?_⟩
      refine xk_gfields (post := post) hG ha (2 * jg_w (vw_c ztk 4) (vw_c zco 4) + k) zcoi (fun zrf' zco' zt2' k' V2 hm ho2 => ?_) 4 0 k zrf zco zt2 (by omega) (by omega) hC V1 (Nat.le_refl _) ho
      exact ih k' zrf' zco' zt2' V2 (by omega) ho2
theorem xk_give {post : SX → Prop} {G0 : Nat → Prop} {a : Nat} (hG : gr_WG (vw_r zrg 4) (vw_f zfl 4) (kc_T (vw_c ztk 4))) (ha : kc_T (vw_c ztk 4) a) (hc : vw_c zco 4 a ≠ 2) (hX : gr_X (vw_r zrg 4) (vw_f zfl 4) a)
    (V : jg_V (vw_r zrg 4) (vw_f zfl 4) (vw_c ztk 4) G0 (vw_c zco 4) (vw_c zco 4) (vw_s zrf) zt2 0 0 0)
    (K : ∀ zrf' zco' zt2', jg_V (vw_r zrg 4) (vw_f zfl 4) (vw_c ztk 4) G0 (vw_c zco 4) (vw_c zco' 4) (vw_s zrf') zt2' 0 0 0 → vw_c zco' 4 a = 2 → (∀ e', e' ≠ 4 → vw_c zco' e' = vw_c zco e') → post (zhf, zhn, zcn, zyn, zsc, zph, zsa, zgc, zsd, 0, zrg, zfl, ztk, zco', znx, zff, zfc, zmv, zrm, zrf', zsu, zss, zgs, zfa, zst, zt2', zse, zpa, zba)) :
    wpX_giveBack post (zhf, zhn, zcn, zyn, zsc, zph, zsa, zgc, zsd, zs2, zrg, zfl, ztk, zco, znx, zff, zfc, zmv, zrm, zrf, zsu, zss, zgs, zfa, zst, zt2, zse, zpa, zba) (nI a) := by
  have ha9 := kc_T9 ha
  have V1 := jg_start V ha hc hX
  have hw := jg_w48 (T := vw_c ztk 4) (C := upd (vw_c zco 4) a 2)
  show ∀ zt2', zt2' = upd zt2 0 (vp_nar .byte (nI a).toInt8.toInt32) → vp_in (384 + nI a) 672 ∧ ∀ zco', zco' = upd zco (384 + nI a).toNatClampNeg (vp_nar .byte 2) → ∃ n24 : Nat, wX_giveBack_24 post n24 zhf zhn zcn zyn zsc zph zsa zgc zsd (nI 1) zrg zfl ztk zco' znx zff zfc zmv zrm zrf zsu zss zgs zfa zst zt2' zse zpa zba
  rw [na_b (by omega), na_384, nI_clamp (n := 4 * 96 + a) (by omega), na_2]
  refine nm_e ⟨vp_in_nI (by omega) (by omega), nm_e ⟨200, ?_⟩⟩
  have ec : vw_c (upd zco (4 * 96 + a) 2) 4 = upd (vw_c zco 4) a 2 := vw_c_s ha9
  have V2 : jg_V (vw_r zrg 4) (vw_f zfl 4) (vw_c ztk 4) G0 (upd (vw_c zco 4) a 2) (upd (vw_c zco 4) a 2) (vw_s zrf) (upd zt2 0 (nI a)) 1 0 0 := by
    obtain ⟨w1, w2, w3, w4, w5, w6, w7, w8⟩ := V1
    exact ⟨w1, w2, w3, w4, w5, w6, fun _ => Or.inl rfl, w8⟩
  refine xk_gloop (post := post) (C1 := upd (vw_c zco 4) a 2) hG zco (fun zrf' zco' zt2' V3 ho => ?_) 200 1 zrf _ _ (by rw [ec]; exact V2) (by rw [ec]; omega) (fun e' n => vw_c_o ha9 n)
  obtain ⟨w1, w2, w3, w4, w5, w6, w7, w8⟩ := V3
  refine K zrf' zco' zt2' ⟨w1, w2, w3, w4, w5, w6, fun b => ?_, w8⟩ ?_ ho
  · by_cases e : b = a
    · have := w7 a; rw [pk_us] at this
      rw [e]; exact Or.inr ⟨this.elim id fun z => z.1, ha⟩
    · have := w7 b; rw [pk_un e] at this; exact this
  · have := w7 a; rw [pk_us] at this; exact this.elim id fun z => z.1
end C4
end
section
def j2_V (R : Nat → Int32) (F : Nat → Nat → Int32) (T : Nat → Int32) (G0 : Nat → Prop) (C rf s2 st : Nat → Int32) (k : Nat) : Prop :=
  jg_V R F T G0 C C rf s2 0 0 0 ∧ (∀ a, kc_T T a → C a = 0 ∨ C a = 1 ∨ C a = 2) ∧ (∀ c f b, kc_T T c → C c = 0 → f < 3 → F c f = nI (2 * b) → b < 96 → C b ≠ 1 ∨ ∃ i, i < k ∧ st i = nI b) ∧ (∀ a, kc_T T a → C a ≠ 2 → G0 a) ∧ (∀ i, i < k → ∃ a, st i = nI a ∧ kc_T T a)
section J2
variable {R : Nat → Int32} {F : Nat → Nat → Int32} {T C rf s2 st : Nat → Int32} {G0 : Nat → Prop} {k : Nat}
theorem jg_self {C1 s2' : Nat → Int32} (V : jg_V R F T G0 C1 C rf s2 0 0 0) : jg_V R F T G0 C C rf s2' 0 0 0 := by
  obtain ⟨w1, w2, w3, w4, w5, w6, w7, w8⟩ := V
  refine ⟨fun a h1 h2 => ?_, w2, w3, fun c f b h1 h2 h3 h4 h5 h6 => ?_, fun j hj => absurd hj (Nat.not_lt_zero j), fun j _ hj => absurd hj (Nat.not_lt_zero j), fun _ => Or.inl rfl, w8⟩
  · rw [w1 a h1 h2]
    congr 1
    exact kc_congr fun i hi => ⟨fun z => ⟨⟨z.1.1, z.1.2.1, fun ⟨j, hj, _⟩ => absurd hj (Nat.not_lt_zero j), z.1.2.2.2⟩, z.2⟩, fun z => ⟨⟨z.1.1, z.1.2.1, fun ⟨j, hj, _⟩ => absurd hj (Nat.not_lt_zero j), z.1.2.2.2⟩, z.2⟩⟩
  · rcases w4 c f b h1 h2 h3 h4 h5 h6 with z | ⟨j, hj, _⟩ | z
    · exact Or.inl z
    · exact absurd hj (Nat.not_lt_zero j)
    · exact Or.inr (Or.inr z)
theorem j2_skip {a : Nat} (V : j2_V R F T G0 C rf s2 st (k + 1)) (hs : st k = nI a) (ha : kc_T T a) (hc : C a ≠ 1) : j2_V R F T G0 C rf s2 st k := by
  obtain ⟨v1, v2, v3, v4, v5⟩ := V
  refine ⟨v1, v2, fun c f b h1 h2 h3 h4 h5 => ?_, v4, fun i hi => v5 i (by omega)⟩
  rcases v3 c f b h1 h2 h3 h4 h5 with z | ⟨i, hi, z⟩
  · exact Or.inl z
  · by_cases ei : i = k
    · left
      rw [na_inj (a := b) (b := a) (by omega) (by have := kc_T9 ha; omega) ((ei ▸ z).symm.trans hs)]; exact hc
    · exact Or.inr ⟨i, by omega, z⟩
/-- a grey cell with a reference of something live is live -/
theorem j2_live {a : Nat} (V : jg_V R F T G0 C C rf s2 0 0 0) (ha : kc_T T a) (hr : rf a ≠ 0) : gr_X R F a := by
  have ha9 := kc_T9 ha
  apply Classical.byContradiction
  intro hn
  apply hr
  rw [V.1 a ha.1 ha.2.1]
  have : kc_n (jg_D T C s2 0 0 0) R F a = 0 := by
    unfold kc_n
    rw [ct_zero 6 fun r h6 e => hn (gr_root ⟨ha9, r, h6, e⟩), ct_zero 147 fun i hi z => hn (gr_step (V.2.2.1 _ z.1.1 z.1.2.1) ⟨ha9, i % 3, by omega, z.2⟩)]
  rw [this]; rfl
theorem j2_white {a k' : Nat} {st' : Nat → Int32} (V : j2_V R F T G0 C rf s2 st (k + 1)) (hs : st k = nI a) (ha : kc_T T a) (hc : C a = 1) (hr : rf a = 0) (hk : k ≤ k') (h1 : ∀ i, i < k → st' i = st i)
    (h2 : ∀ f b, f < 3 → F a f = nI (2 * b) → b < 96 → ∃ i, i < k' ∧ st' i = nI b) (h3 : ∀ i, k ≤ i → i < k' → ∃ b, st' i = nI b ∧ kc_T T b) : j2_V R F T G0 (upd C a 0) rf s2 st' k' := by
  obtain ⟨⟨w1, w2, w3, w4, w5, w6, w7, w8⟩, v2, v3, v4, v5⟩ := V
  have ha9 := kc_T9 ha
  have n2 : ∀ b, (upd C a 0) b = 2 ↔ C b = 2 := fun b => by
    by_cases e : b = a
    · rw [e, pk_us, hc]; decide
    · rw [pk_un e]
  refine ⟨⟨fun b q1 q2 => ?_, fun b hb h0 => ?_, fun b hb q => w3 b hb ((n2 b).mp q), fun c f b q1 q2 q3 q4 q5 q6 => ?_, fun j hj => absurd hj (Nat.not_lt_zero j), fun j _ hj => absurd hj (Nat.not_lt_zero j), fun _ => Or.inl rfl, ?_⟩, fun b hb => ?_, fun c f b q1 q2 q3 q4 q5 => ?_, fun b hb q => v4 b hb fun z => q ((n2 b).mpr z), fun i hi => ?_⟩
  · rw [w1 b q1 q2]
    congr 1
    exact kc_congr fun i hi => ⟨fun z => ⟨⟨z.1.1, (n2 _).mpr z.1.2.1, z.1.2.2⟩, z.2⟩, fun z => ⟨⟨z.1.1, (n2 _).mp z.1.2.1, z.1.2.2⟩, z.2⟩⟩
  · by_cases e : b = a
    · rw [e]; exact hr
    · rw [pk_un e] at h0; exact w2 b hb h0
  · rcases w4 c f b q1 q2 ((n2 c).mp q3) q4 q5 q6 with z | z | z
    · exact Or.inl ((n2 b).mpr z)
    · exact Or.inr (Or.inl z)
    · exact Or.inr (Or.inr z)
  · have : jg_w T (upd C a 0) = jg_w T C := ct_congr 96 fun i _ => ⟨fun z => ⟨z.1, fun w => z.2 ((n2 i).mpr w)⟩, fun z => ⟨z.1, fun w => z.2 ((n2 i).mp w)⟩⟩
    omega
  · by_cases e : b = a
    · rw [e, pk_us]; exact Or.inl rfl
    · rw [pk_un e]; exact v2 b hb
  · by_cases ec : c = a
    · rw [ec] at q4; exact Or.inr (h2 f b q3 q4 q5)
    · rw [pk_un ec] at q2
      by_cases eb : b = a
      · left; rw [eb, pk_us]; decide
      · rw [pk_un eb]
        rcases v3 c f b q1 q2 q3 q4 q5 with z | ⟨i, hi, z⟩
        · exact Or.inl z
        · by_cases ei : i = k
          · exact absurd (na_inj (a := b) (b := a) (by omega) (by omega) ((ei ▸ z).symm.trans hs)) eb
          · exact Or.inr ⟨i, by omega, by rw [h1 i (by omega)]; exact z⟩
  · by_cases h : i < k
    · rw [h1 i h]; exact v5 i (by omega)
    · exact h3 i (by omega) hi
theorem j2_gave {a : Nat} {C' rf' s2' : Nat → Int32} (V : j2_V R F T G0 C rf s2 st (k + 1)) (hs : st k = nI a) (ha : kc_T T a) (V1 : jg_V R F T G0 C C' rf' s2' 0 0 0) (ha2 : C' a = 2) : j2_V R F T G0 C' rf' s2' st k := by
  obtain ⟨_, v2, v3, v4, v5⟩ := V
  have h7 := V1.2.2.2.2.2.2.1
  refine ⟨jg_self V1, fun b hb => ?_, fun c f b q1 q2 q3 q4 q5 => ?_, fun b hb q => ?_, fun i hi => v5 i (by omega)⟩
  · rcases h7 b with z | z
    · rw [z]; exact v2 b hb
    · exact Or.inr (Or.inr z.1)
  · have hC : C c = 0 := by
      rcases h7 c with z | z
      · rw [← z]; exact q2
      · rw [z.1] at q2; exact absurd q2 (by decide)
    rcases h7 b with zb | zb
    · rcases v3 c f b q1 hC q3 q4 q5 with z | ⟨i, hi, z⟩
      · left; rw [zb]; exact z
      · by_cases ei : i = k
        · left
          rw [na_inj (a := b) (b := a) (by omega) (by have := kc_T9 ha; omega) ((ei ▸ z).symm.trans hs), ha2]; decide
        · exact Or.inr ⟨i, by omega, z⟩
    · left; rw [zb.1]; decide
  · rcases h7 b with z | z
    · exact v4 b hb (by rw [← z]; exact q)
    · exact absurd z.1 q
end J2
section C4
variable {zhf zhn zcn zyn zsc zph zsa zgc zsd zs2 : Int32} {zrg zfl ztk zco znx zff zfc zmv zrm zrf zsu zss zgs zfa zst zt2 zse zpa zba : Nat → Int32}
theorem xk_pushref {post : SX → Prop} {P : Nat → Prop} {a k0 : Nat} (ha : a < 96) (hP : ∀ b, P b → b < 96) (hw : ∀ f, f < 3 → gr_wf P (vw_f zfl 4 a f)) (hk0 : k0 ≤ 300)
    (K : ∀ zst' k', k0 ≤ k' → k' ≤ k0 + 3 → (∀ i, i < k0 → zst' i = zst i) → (∀ f b, f < 3 → vw_f zfl 4 a f = nI (2 * b) → b < 96 → ∃ i, i < k' ∧ zst' i = nI b) → (∀ i, k0 ≤ i → i < k' → ∃ b, zst' i = nI b ∧ P b) → post (zhf, zhn, zcn, zyn, zsc, zph, zsa, zgc, nI k', zs2, zrg, zfl, ztk, zco, znx, zff, zfc, zmv, zrm, zrf, zsu, zss, zgs, zfa, zst', zt2, zse, zpa, zba)) :
    wpX_pushReferred post (zhf, zhn, zcn, zyn, zsc, zph, zsa, zgc, nI k0, zs2, zrg, zfl, ztk, zco, znx, zff, zfc, zmv, zrm, zrf, zsu, zss, zgs, zfa, zst, zt2, zse, zpa, zba) (nI a) := by
  show ∃ n2 : Nat, wX_pushReferred_2 post (nI a) n2 (nI 0) zhf zhn zcn zyn zsc zph zsa zgc (nI k0) zs2 zrg zfl ztk zco znx zff zfc zmv zrm zrf zsu zss zgs zfa zst zt2 zse zpa zba
  refine ⟨4, ?_⟩
  have key : ∀ (n g k : Nat) (zst1 : Nat → Int32), g ≤ 3 → 3 < n + g → k0 ≤ k → k ≤ k0 + g → (∀ i, i < k0 → zst1 i = zst i) → (∀ f b, f < g → vw_f zfl 4 a f = nI (2 * b) → b < 96 → ∃ i, i < k ∧ zst1 i = nI b) → (∀ i, k0 ≤ i → i < k → ∃ b, zst1 i = nI b ∧ P b) →
      wX_pushReferred_2 post (nI a) n (nI g) zhf zhn zcn zyn zsc zph zsa zgc (nI k) zs2 zrg zfl ztk zco znx zff zfc zmv zrm zrf zsu zss zgs zfa zst1 zt2 zse zpa zba := by
    intro n
    induction n with
    | zero => intro g k _ h1 h2; omega
    | succ n ih =>
      intro g k zst1 h1 h2 h3 h4 i1 i2 i3
      by_cases hg : g = 3
      · subst hg
        exact br_t (by decide) (K zst1 k h3 h4 i1 i2 i3)
      · refine br_f (nI_ge (b := 3) (by omega) (by omega)) ?_
        refine xp_fieldOf (e := 4) (by omega) ha (by omega) ?_
        rcases hw g (by omega) with ho | ⟨b, hb, eb⟩
        · refine xp_odd ho ?_
          refine br_t rfl (nm_r (nI_1 g) ?_)
          refine ih (g + 1) k zst1 (by omega) (by omega) h3 (by omega) i1 (fun f b hf e h9 => ?_) i3
          by_cases ef : f = g
          · rw [ef] at e; exact absurd e (gr_odne ho (by omega))
          · exact i2 f b (by omega) e h9
        · have hb9 := hP b hb
          rw [eb]
          refine xp_ref (by omega) ?_
          refine br_f na_n10 ?_
          rw [gr_sh (by omega)]
          refine xp_push (by omega) (by omega) ?_
          refine nm_r (nI_1 g) ?_
          refine ih (g + 1) (k + 1) _ (by omega) (by omega) (by omega) (by omega) (fun i hi => by rw [pk_un (by omega)]; exact i1 i hi) (fun f d hf e h9 => ?_) (fun i q1 q2 => ?_)
          · by_cases ef : f = g
            · rw [ef] at e
              exact ⟨k, by omega, by rw [pk_us, na_inj2 hb9 h9 (eb.symm.trans e)]⟩
            · obtain ⟨i, hi, ei⟩ := i2 f d (by omega) e h9
              exact ⟨i, by omega, by rw [pk_un (by omega)]; exact ei⟩
          · by_cases ei : i = k
            · exact ⟨b, by rw [ei, pk_us], hb⟩
            · rw [pk_un ei]; exact i3 i q1 (by omega)
  exact key 4 0 k0 zst (by omega) (by omega) (Nat.le_refl _) (by omega) (fun _ _ => rfl) (fun f b hf => absurd hf (Nat.not_lt_zero f)) (fun i h1 h2 => by omega)
theorem jg_yl {T C C' : Nat → Int32} {a : Nat} (ha : kc_T T a) (hc : C a = 1) (hc' : C' a ≠ 1) (h : ∀ b, C' b = 1 → C b = 1) : jg_y T C' + 1 ≤ jg_y T C :=
  ct_lt (P := fun b => kc_T T b ∧ C' b = 1) (Q := fun b => kc_T T b ∧ C b = 1) (a := a) 96 (fun i _ z => ⟨z.1, h i z.2⟩) (kc_T9 ha) ⟨ha, hc⟩ (fun z => hc' z.2)
theorem xk_jloop {post : SX → Prop} {G0 : Nat → Prop} (Ci : Nat → Int32) (hG : gr_WG (vw_r zrg 4) (vw_f zfl 4) (kc_T (vw_c ztk 4))) (zcoi : Nat → Int32)
    (K : ∀ zrf' zco' zst' zt2' zs2', j2_V (vw_r zrg 4) (vw_f zfl 4) (vw_c ztk 4) G0 (vw_c zco' 4) (vw_s zrf') zt2' zst' 0 → (∀ b, Ci b ≠ 1 → vw_c zco' 4 b ≠ 1) → (∀ e', e' ≠ 4 → vw_c zco' e' = vw_c zcoi e') → post (zhf, zhn, zcn, zyn, zsc, zph, zsa, zgc, 0, zs2', zrg, zfl, ztk, zco', znx, zff, zfc, zmv, zrm, zrf', zsu, zss, zgs, zfa, zst', zt2', zse, zpa, zba)) :
    ∀ (n k : Nat) (zs2 : Int32) (zrf zco zst zt2 : Nat → Int32), j2_V (vw_r zrg 4) (vw_f zfl 4) (vw_c ztk 4) G0 (vw_c zco 4) (vw_s zrf) zt2 zst k → k + 3 * jg_y (vw_c ztk 4) (vw_c zco 4) < n → k + 3 * jg_y (vw_c ztk 4) (vw_c zco 4) ≤ 145 → (∀ b, Ci b ≠ 1 → vw_c zco 4 b ≠ 1) → (∀ e', e' ≠ 4 → vw_c zco e' = vw_c zcoi e') →
      wX_judge_10 post n zhf zhn zcn zyn zsc zph zsa zgc (nI k) zs2 zrg zfl ztk zco znx zff zfc zmv zrm zrf zsu zss zgs zfa zst zt2 zse zpa zba := by
  intro n
  induction n with
  | zero => intro k _ _ _ _ _ _ h; omega
  | succ n ih =>
    intro k zs2 zrf zco zst zt2 V hn hb hCi ho
    cases k with
    | zero => exact br_t (by decide) (K zrf zco zst zt2 zs2 V hCi ho)
    | succ k =>
      refine br_f (nI_nle (by omega) (by omega)) ?_
      refine nm_r (nI_pred k) ⟨vp_in_nI (by omega) (by omega), ?_⟩
      obtain ⟨a, ea, ha⟩ := V.2.2.2.2 k (by omega)
      have ha9 := kc_T9 ha
      rw [nI_clamp (n := k) (by omega)]
      refine nm_r ea ?_
      rw [na_384, nI_clamp (n := 4 * 96 + a) (by omega)]
      refine ⟨vp_in_nI (by omega) (by omega), ?_⟩
      have hC : vw_c zco 4 a = zco (4 * 96 + a) := vw_c_at ha9
      have hrf : vw_s zrf a = zrf a := vw_s_at ha9
      by_cases c1 : zco (4 * 96 + a) = 1
      · refine br_t c1 ⟨vp_in_nI ha9 (by omega), ?_⟩
        have hC1 := hC.trans c1
        have hle := kc_le (D := jg_D (vw_c ztk 4) (vw_c zco 4) zt2 0 0 0) (R := vw_r zrg 4) (F := vw_f zfl 4) (a := a)
        have er : zrf a = nI (kc_n (jg_D (vw_c ztk 4) (vw_c zco 4) zt2 0 0 0) (vw_r zrg 4) (vw_f zfl 4) a) := by rw [← hrf]; exact V.1.1 a ha.1 ha.2.1
        rw [nI_clamp (n := a) (by omega), er]
        by_cases h0 : kc_n (jg_D (vw_c ztk 4) (vw_c zco 4) zt2 0 0 0) (vw_r zrg 4) (vw_f zfl 4) a = 0
        · refine br_t (by rw [h0]; decide) ⟨vp_in_nI (by omega) (by omega), ?_⟩
          rw [na_0]
          refine nm_e ?_
          refine xk_pushref (P := kc_T (vw_c ztk 4)) ha9 (fun b hb => kc_T9 hb) (hG.2.1 a ha) (by omega) fun zst' k' p1 p2 p3 p4 p5 => ?_
          have V1 := j2_white V ea ha hC1 (by rw [hrf, er, h0]; rfl) p1 p3 p4 p5
          rw [← vw_c_s ha9] at V1
          have hsub : ∀ b, vw_c (upd zco (4 * 96 + a) 0) 4 b = 1 → vw_c zco 4 b = 1 := fun b hb => by
            rw [vw_c_s ha9] at hb
            by_cases e : b = a
            · rw [e, pk_us] at hb; exact absurd hb (by decide)
            · rw [pk_un e] at hb; exact hb
          have hy := jg_yl (C' := vw_c (upd zco (4 * 96 + a) 0) 4) ha hC1 (by rw [vw_c_s ha9, pk_us]; decide) hsub
          exact ih k' zs2 zrf _ zst' zt2 V1 (by omega) (by omega) (fun b hb z => hCi b hb (hsub b z)) (fun e' q => (vw_c_o ha9 q).trans (ho e' q))
        · refine br_f (nI_nle (by omega) (by omega)) ?_
          refine xk_give hG ha (by rw [hC1]; decide) (j2_live V.1 ha (by rw [hrf, er]; exact nI_ne0 (by omega) (by omega))) V.1 fun zrf' zco' zt2' V1 h2 ho2 => ?_
          have h7 := V1.2.2.2.2.2.2.1
          have hsub : ∀ b, vw_c zco' 4 b = 1 → vw_c zco 4 b = 1 := fun b hb => by
            rcases h7 b with z | z
            · rw [← z]; exact hb
            · rw [z.1] at hb; exact absurd hb (by decide)
          have hy := jg_yl (C' := vw_c zco' 4) ha hC1 (by rw [h2]; decide) hsub
          exact ih k _ zrf' zco' zst zt2' (j2_gave V ea ha V1 h2) (by omega) (by omega) (fun b hb z => hCi b hb (hsub b z)) (fun e' q => (ho2 e' q).trans (ho e' q))
      · refine br_f c1 ?_
        exact ih k zs2 zrf zco zst zt2 (j2_skip V ea ha (by rw [hC]; exact c1)) (by omega) (by omega) hCi ho
theorem xk_judge {post : SX → Prop} {G0 : Nat → Prop} {a : Nat} (hG : gr_WG (vw_r zrg 4) (vw_f zfl 4) (kc_T (vw_c ztk 4))) (ha : kc_T (vw_c ztk 4) a) (V : j2_V (vw_r zrg 4) (vw_f zfl 4) (vw_c ztk 4) G0 (vw_c zco 4) (vw_s zrf) zt2 zst 0)
    (K : ∀ zrf' zco' zst' zt2' zs2', j2_V (vw_r zrg 4) (vw_f zfl 4) (vw_c ztk 4) G0 (vw_c zco' 4) (vw_s zrf') zt2' zst' 0 → vw_c zco' 4 a ≠ 1 → (∀ b, vw_c zco 4 b ≠ 1 → vw_c zco' 4 b ≠ 1) → (∀ e', e' ≠ 4 → vw_c zco' e' = vw_c zco e') → post (zhf, zhn, zcn, zyn, zsc, zph, zsa, zgc, 0, zs2', zrg, zfl, ztk, zco', znx, zff, zfc, zmv, zrm, zrf', zsu, zss, zgs, zfa, zst', zt2', zse, zpa, zba)) :
    wpX_judge post (zhf, zhn, zcn, zyn, zsc, zph, zsa, zgc, zsd, zs2, zrg, zfl, ztk, zco, znx, zff, zfc, zmv, zrm, zrf, zsu, zss, zgs, zfa, zst, zt2, zse, zpa, zba) (nI a) := by
  have ha9 := kc_T9 ha
  have hy48 := jg_y48 (T := vw_c ztk 4) (C := vw_c zco 4)
  have hC : vw_c zco 4 a = zco (4 * 96 + a) := vw_c_at ha9
  have hrf : vw_s zrf a = zrf a := vw_s_at ha9
  have V1 : j2_V (vw_r zrg 4) (vw_f zfl 4) (vw_c ztk 4) G0 (vw_c zco 4) (vw_s zrf) zt2 (upd zst 0 (nI a)) 1 := by
    obtain ⟨v1, v2, v3, v4, v5⟩ := V
    exact ⟨v1, v2, fun c f b q1 q2 q3 q4 q5 => (v3 c f b q1 q2 q3 q4 q5).imp id fun ⟨i, hi, _⟩ => absurd hi (Nat.not_lt_zero i), v4, fun i hi => ⟨a, by rw [show i = 0 by omega, pk_us], ha⟩⟩
  unfold wpX_judge
  refine xp_push (k := 0) (by omega) (by omega) ?_
  refine ⟨200, ?_⟩
  refine br_f (by decide) ?_
  refine nm_r (nI_pred 0) ⟨vp_in_nI (by omega) (by omega), ?_⟩
  refine nm_r (e' := nI a) pk_us ?_
  rw [na_384, nI_clamp (n := 4 * 96 + a) (by omega)]
  refine ⟨vp_in_nI (by omega) (by omega), ?_⟩
  by_cases c1 : zco (4 * 96 + a) = 1
  · refine br_t c1 ⟨vp_in_nI ha9 (by omega), ?_⟩
    have hC1 := hC.trans c1
    have hle := kc_le (D := jg_D (vw_c ztk 4) (vw_c zco 4) zt2 0 0 0) (R := vw_r zrg 4) (F := vw_f zfl 4) (a := a)
    have er : zrf a = nI (kc_n (jg_D (vw_c ztk 4) (vw_c zco 4) zt2 0 0 0) (vw_r zrg 4) (vw_f zfl 4) a) := by rw [← hrf]; exact V.1.1 a ha.1 ha.2.1
    rw [nI_clamp (n := a) (by omega), er]
    by_cases h0 : kc_n (jg_D (vw_c ztk 4) (vw_c zco 4) zt2 0 0 0) (vw_r zrg 4) (vw_f zfl 4) a = 0
    · refine br_t (by rw [h0]; decide) ⟨vp_in_nI (by omega) (by omega), ?_⟩
      rw [na_0]
      refine nm_e ?_
      refine xk_pushref (k0 := 0) (P := kc_T (vw_c ztk 4)) ha9 (fun b hb => kc_T9 hb) (hG.2.1 a ha) (by omega) fun zst' k' p1 p2 p3 p4 p5 => ?_
      have V2 := j2_white V1 pk_us ha hC1 (by rw [hrf, er, h0]; rfl) p1 p3 p4 p5
      rw [← vw_c_s ha9] at V2
      have ec : vw_c (upd zco (4 * 96 + a) 0) 4 = upd (vw_c zco 4) a 0 := vw_c_s ha9
      have hsub : ∀ b, vw_c (upd zco (4 * 96 + a) 0) 4 b = 1 → vw_c zco 4 b = 1 := fun b hb => by
        rw [ec] at hb
        by_cases e : b = a
        · rw [e, pk_us] at hb; exact absurd hb (by decide)
        · rw [pk_un e] at hb; exact hb
      have hy := jg_yl (C' := vw_c (upd zco (4 * 96 + a) 0) 4) ha hC1 (by rw [ec, pk_us]; decide) hsub
      refine xk_jloop (post := post) (vw_c (upd zco (4 * 96 + a) 0) 4) hG zco (fun zrf' zco' zst2 zt2' zs2' V3 hCi ho => K zrf' zco' zst2 zt2' zs2' V3 (hCi a (by rw [ec, pk_us]; decide)) (fun b hb => hCi b fun z => hb (hsub b z)) ho) 199 k' zs2 zrf _ zst' zt2 V2 (by omega) (by omega) (fun _ h => h) (fun e' q => vw_c_o ha9 q)
    · refine br_f (nI_nle (by omega) (by omega)) ?_
      refine xk_give hG ha (by rw [hC1]; decide) (j2_live V.1 ha (by rw [hrf, er]; exact nI_ne0 (by omega) (by omega))) V.1 fun zrf' zco' zt2' V2 h2 ho2 => ?_
      have h7 := V2.2.2.2.2.2.2.1
      have hsub : ∀ b, vw_c zco' 4 b = 1 → vw_c zco 4 b = 1 := fun b hb => by
        rcases h7 b with z | z
        · rw [← z]; exact hb
        · rw [z.1] at hb; exact absurd hb (by decide)
      have hy := jg_yl (C' := vw_c zco' 4) ha hC1 (by rw [h2]; decide) hsub
      refine xk_jloop (post := post) (vw_c zco' 4) hG zco (fun zrf2 zco2 zst2 zt22 zs22 V3 hCi ho => K zrf2 zco2 zst2 zt22 zs22 V3 (hCi a (by rw [h2]; decide)) (fun b hb => hCi b fun z => hb (hsub b z)) ho) 199 0 _ zrf' zco' _ zt2' (j2_gave V1 pk_us ha V2 h2) (by omega) (by omega) (fun _ h => h) ho2
  · refine br_f c1 ?_
    have hC1 : vw_c zco 4 a ≠ 1 := by rw [hC]; exact c1
    refine xk_jloop (post := post) (vw_c zco 4) hG zco (fun zrf2 zco2 zst2 zt22 zs22 V3 hCi ho => K zrf2 zco2 zst2 zt22 zs22 V3 (hCi a hC1) hCi ho) 199 0 zs2 zrf zco _ zt2 (j2_skip V1 pk_us ha hC1) (by omega) (by omega) (fun _ h => h) (fun _ _ => rfl)
end C4
end
section
/-! taking what is needless -/
def k3_rt (su st : Nat → Int32) (k : Nat) (b : Nat) : Prop := b < 96 ∧ ((∃ i, i < k ∧ st i = nI b) ∨ (1 ≤ b ∧ b ≤ 48 ∧ su b ≠ 0))
def k3_E (T C : Nat → Int32) (F : Nat → Nat → Int32) (c b : Nat) : Prop := kc_T T c ∧ C c = 0 ∧ gr_E F c b
def k3_P (b : Nat) : Prop := 1 ≤ b ∧ b ≤ 48
def k3_V (R : Nat → Int32) (F0 : Nat → Nat → Int32) (F : Nat → Nat → Int32) (T C N : Nat → Int32) (f c : Int32) (rf su st : Nat → Int32) (k : Nat) : Prop :=
  fr_ok 48 T N f c ∧ (∀ a, gr_X R F0 a → kc_T T a ∧ C a = 2 ∧ F a = F0 a) ∧ (∀ a, kc_T T a → C a = 0 ∨ gr_X R F0 a) ∧ (∀ a, 1 ≤ a → a ≤ 48 → rf a = nI (kc_n (fun i => gr_X R F0 (i / 3)) R F0 a)) ∧
  (∀ a, kc_T T a → C a = 0 → ∀ g, g < 3 → gr_wf k3_P (F a g)) ∧ (∀ a, kc_T T a → C a = 0 → gr_rea (k3_rt su st k) (k3_E T C F) a) ∧ (∀ i, i < k → ∃ a, st i = nI a ∧ k3_P a)
noncomputable def k3_w (T C : Nat → Int32) : Nat := ct_c (fun a => kc_T T a ∧ C a = 0) 96
theorem k3_w48 {T C : Nat → Int32} : k3_w T C ≤ 48 := by
  have := ct_mono (P := fun a => kc_T T a ∧ C a = 0) (Q := fun i => 1 ≤ i ∧ i < 49) 96 fun i _ z => ⟨z.1.1, by have := z.1.2.1; omega⟩
  rw [ct_range (by omega) 96 (by omega)] at this
  exact this
section K3
variable {R : Nat → Int32} {F0 F : Nat → Nat → Int32} {T C N : Nat → Int32} {f c : Int32} {rf su st : Nat → Int32} {k : Nat}
theorem k3_rc0 {a : Nat} (ha : a < 96) (hn : ¬ gr_X R F0 a) : kc_n (fun i => gr_X R F0 (i / 3)) R F0 a = 0 := by
  unfold kc_n
  rw [ct_zero 6 fun r h6 e => hn (gr_root ⟨ha, r, h6, e⟩), ct_zero 147 fun i hi z => hn (gr_step z.1 ⟨ha, i % 3, by omega, z.2⟩)]
theorem k3_skip {a : Nat} (V : k3_V R F0 F T C N f c rf su st (k + 1)) (hs : st k = nI a) (ha : k3_P a) (h : kc_T T a → C a = 0 → su a ≠ 0) : k3_V R F0 F T C N f c rf su st k := by
  obtain ⟨v1, v2, v3, v4, v5, v6, v7⟩ := V
  have ha48 := ha.2
  refine ⟨v1, v2, v3, v4, v5, fun x hx hc => ?_, fun i hi => v7 i (by omega)⟩
  have : (x = a ∧ ¬ (kc_T T a ∧ C a = 0)) ∨ gr_rea (k3_rt su st k) (k3_E T C F) x := by
    refine v6 x hx hc (fun x => (x = a ∧ ¬ (kc_T T a ∧ C a = 0)) ∨ gr_rea (k3_rt su st k) (k3_E T C F) x) (fun b hb => ?_) (fun d b hd he => ?_)
    · obtain ⟨h9, ⟨i, hi, e⟩ | z⟩ := hb
      · by_cases ei : i = k
        · have eb : b = a := na_inj (by omega) (by omega) ((ei ▸ e).symm.trans hs)
          by_cases hw : kc_T T a ∧ C a = 0
          · exact Or.inr (gr_root ⟨h9, Or.inr (by rw [eb]; exact ⟨ha.1, ha.2, h hw.1 hw.2⟩)⟩)
          · exact Or.inl ⟨eb, hw⟩
        · exact Or.inr (gr_root ⟨h9, Or.inl ⟨i, by omega, e⟩⟩)
      · exact Or.inr (gr_root ⟨h9, Or.inr z⟩)
    · rcases hd with z | z
      · exact absurd ⟨z.1 ▸ he.1, z.1 ▸ he.2.1⟩ z.2
      · exact Or.inr (gr_step z he)
  exact this.resolve_left fun z => z.2 (z.1 ▸ ⟨hx, hc⟩)
theorem k3_take {a k' : Nat} {st' N' : Nat → Int32} {f' c' : Int32} (V : k3_V R F0 F T C N f c rf su st (k + 1)) (hs : st k = nI a) (ha : kc_T T a) (hc : C a = 0) (hok : fr_ok 48 (upd T a 0) N' f' c') (hk : k ≤ k') (h1 : ∀ i, i < k → st' i = st i)
    (h2 : ∀ g b, g < 3 → F a g = nI (2 * b) → b < 96 → ∃ i, i < k' ∧ st' i = nI b) (h3 : ∀ i, k ≤ i → i < k' → ∃ b, st' i = nI b ∧ k3_P b) :
    k3_V R F0 (vw_w F a (fun _ => 1)) (upd T a 0) (upd C a 0) N' f' c' (upd rf a 0) su st' k' := by
  obtain ⟨v1, v2, v3, v4, v5, v6, v7⟩ := V
  have ha9 := kc_T9 ha
  have hnX : ¬ gr_X R F0 a := fun z => by have := (v2 a z).2.1; rw [hc] at this; exact absurd this (by decide)
  have hT : ∀ b, kc_T (upd T a 0) b ↔ kc_T T b ∧ b ≠ a := fun b => by
    by_cases e : b = a
    · rw [e]; exact ⟨fun z => absurd pk_us z.2.2, fun z => absurd rfl z.2⟩
    · unfold kc_T; rw [pk_un e]; exact ⟨fun z => ⟨z, e⟩, fun z => z.1⟩
  refine ⟨hok, fun b hb => ?_, fun b hb => ?_, fun b q1 q2 => ?_, fun b hb h0 g hg => ?_, fun b hb h0 => ?_, fun i hi => ?_⟩
  · have e : b ≠ a := fun z => hnX (z ▸ hb)
    have := v2 b hb
    exact ⟨(hT b).mpr ⟨this.1, e⟩, by rw [pk_un e]; exact this.2.1, by funext g; rw [vw_wn e, this.2.2]⟩
  · have hb' := (hT b).mp hb
    rw [pk_un hb'.2]; exact v3 b hb'.1
  · by_cases e : b = a
    · rw [e, pk_us, k3_rc0 ha9 hnX]; rfl
    · rw [pk_un e]; exact v4 b q1 q2
  · have hb' := (hT b).mp hb
    rw [pk_un hb'.2] at h0
    rw [vw_wn hb'.2]; exact v5 b hb'.1 h0 g hg
  · have hb' := (hT b).mp hb
    rw [pk_un hb'.2] at h0
    have : b = a ∨ gr_rea (k3_rt su st' k') (k3_E (upd T a 0) (upd C a 0) (vw_w F a (fun _ => 1))) b := by
      refine v6 b hb'.1 h0 (fun x => x = a ∨ gr_rea (k3_rt su st' k') (k3_E (upd T a 0) (upd C a 0) (vw_w F a (fun _ => 1))) x) (fun d hd => ?_) (fun d x hd he => ?_)
      · obtain ⟨h9, ⟨i, hi, e⟩ | z⟩ := hd
        · by_cases ei : i = k
          · exact Or.inl (na_inj (by omega) (by omega) ((ei ▸ e).symm.trans hs))
          · exact Or.inr (gr_root ⟨h9, Or.inl ⟨i, by omega, by rw [h1 i (by omega)]; exact e⟩⟩)
        · exact Or.inr (gr_root ⟨h9, Or.inr z⟩)
      · obtain ⟨q1, q2, h9, g, hg, e⟩ := he
        by_cases ed : d = a
        · rw [ed] at e
          exact Or.inr (gr_root ⟨h9, Or.inl (h2 g x hg e h9)⟩)
        · exact Or.inr (gr_step (hd.resolve_left ed) ⟨(hT d).mpr ⟨q1, ed⟩, by rw [pk_un ed]; exact q2, h9, g, hg, by rw [vw_wn ed]; exact e⟩)
    exact this.resolve_left hb'.2
  · by_cases h : i < k
    · rw [h1 i h]; exact v7 i (by omega)
    · exact h3 i (by omega) hi
theorem k3_wl {a : Nat} (ha : kc_T T a) (hc : C a = 0) : k3_w (upd T a 0) (upd C a 0) + 1 ≤ k3_w T C := by
  refine ct_lt (P := fun b => kc_T (upd T a 0) b ∧ upd C a 0 b = 0) (Q := fun b => kc_T T b ∧ C b = 0) (a := a) 96 (fun i _ z => ?_) (kc_T9 ha) ⟨ha, hc⟩ (fun z => z.1.2.2 pk_us)
  have e : i ≠ a := fun q => z.1.2.2 (by rw [q, pk_us])
  unfold kc_T at z ⊢
  rw [pk_un e, pk_un e] at z
  exact z
end K3
section C4
variable {zhf zhn zcn zyn zsc zph zsa zgc zsd zs2 : Int32} {zrg zfl ztk zco znx zff zfc zmv zrm zrf zsu zss zgs zfa zst zt2 zse zpa zba : Nat → Int32}
theorem xk_nloop {post : SX → Prop} {F0 : Nat → Nat → Int32}
    (W : Nat → (Nat → Int32) × (Nat → Nat → Int32) × (Nat → Int32) × (Nat → Int32) × (Nat → Int32) × Int32 × Int32)
    (K : ∀ zfl' ztk' zco' znx' zff' zfc' zrf' zst', k3_V (vw_r zrg 4) F0 (vw_f zfl' 4) (vw_c ztk' 4) (vw_c zco' 4) (vw_c znx' 4) (zff' 4) (zfc' 4) (vw_s zrf') (vw_s zsu) zst' 0 → (∀ e', e' ≠ 4 → vw_v e' zrg zfl' ztk' zco' znx' zff' zfc' = W e') → post (zhf, zhn, zcn, zyn, zsc, zph, zsa, zgc, 0, zs2, zrg, zfl', ztk', zco', znx', zff', zfc', zmv, zrm, zrf', zsu, zss, zgs, zfa, zst', zt2, zse, zpa, zba)) :
    ∀ (n k : Nat) (zfl ztk zco znx zff zfc zrf zst : Nat → Int32), k3_V (vw_r zrg 4) F0 (vw_f zfl 4) (vw_c ztk 4) (vw_c zco 4) (vw_c znx 4) (zff 4) (zfc 4) (vw_s zrf) (vw_s zsu) zst k → k + 3 * k3_w (vw_c ztk 4) (vw_c zco 4) < n → k + 3 * k3_w (vw_c ztk 4) (vw_c zco 4) ≤ 145 → (∀ e', e' ≠ 4 → vw_v e' zrg zfl ztk zco znx zff zfc = W e') →
      wX_takeNeedless_10 post n zhf zhn zcn zyn zsc zph zsa zgc (nI k) zs2 zrg zfl ztk zco znx zff zfc zmv zrm zrf zsu zss zgs zfa zst zt2 zse zpa zba := by
  intro n
  induction n with
  | zero => intro k _ _ _ _ _ _ _ _ _ h; omega
  | succ n ih =>
    intro k zfl ztk zco znx zff zfc zrf zst V hn hb hW
    cases k with
    | zero => exact br_t (by decide) (K zfl ztk zco znx zff zfc zrf zst V hW)
    | succ k =>
      refine br_f (nI_nle (by omega) (by omega)) ?_
      refine nm_r (nI_pred k) ⟨vp_in_nI (by omega) (by omega), ?_⟩
      obtain ⟨a, ea, haP⟩ := V.2.2.2.2.2.2 k (by omega)
      have ha1 := haP.1
      have ha48 := haP.2
      have ha9 : a < 96 := by omega
      rw [nI_clamp (n := k) (by omega)]
      refine nm_r ea ?_
      rw [na_384, nI_clamp (n := 4 * 96 + a) (by omega)]
      refine ⟨vp_in_nI (by omega) (by omega), ?_⟩
      have hC : vw_c zco 4 a = zco (4 * 96 + a) := vw_c_at ha9
      have hT : vw_c ztk 4 a = ztk (4 * 96 + a) := vw_c_at ha9
      have hsu : vw_s zsu a = zsu a := vw_s_at ha9
      have skip : (kc_T (vw_c ztk 4) a → vw_c zco 4 a = 0 → vw_s zsu a ≠ 0) → wX_takeNeedless_10 post n zhf zhn zcn zyn zsc zph zsa zgc (nI k) zs2 zrg zfl ztk zco znx zff zfc zmv zrm zrf zsu zss zgs zfa zst zt2 zse zpa zba := fun h => ih k zfl ztk zco znx zff zfc zrf zst (k3_skip V ea haP h) (by omega) (by omega) hW
      by_cases c0 : zco (4 * 96 + a) = 0
      · refine br_t c0 ⟨vp_in_nI ha9 (by omega), ?_⟩
        rw [nI_clamp (n := a) (by omega)]
        by_cases s0 : zsu a = 0
        · refine br_t s0 ⟨vp_in_nI (by omega) (by omega), ?_⟩
          by_cases t0 : ztk (4 * 96 + a) = 0
          · exact br_t t0 (skip fun z => absurd (hT.trans t0) z.2.2)
          · refine br_f t0 ⟨vp_in_nI (by omega) (by omega), ?_⟩
            have haT : kc_T (vw_c ztk 4) a := ⟨ha1, ha48, by rw [hT]; exact t0⟩
            have hC0 := hC.trans c0
            rw [na_2]
            refine nm_e ?_
            refine xk_pushref (P := k3_P) ha9 (fun b hb => by have := hb.2; omega) (V.2.2.2.2.1 a haT hC0) (by omega) fun zst' k' p1 p2 p3 p4 p5 => ?_
            refine xp_clear (e := 4) (by omega) ha9 fun zfl' f1 f2 => ?_
            refine ⟨vp_in_nI ha9 (by omega), ?_⟩
            rw [na_s0]
            refine nm_e ?_
            refine xf_release (e := 4) (last := 48) (by omega) ha1 ha48 (by omega) V.1 haT.2.2 fun ztk' zco' znx' zff' zfc' r1 r2 r3 r4 => ?_
            rw [r1] at r3
            have V1 := k3_take V ea haT hC0 r3 p1 p3 p4 p5
            have ec : vw_c zco' 4 = upd (vw_c zco 4) a 0 := by
              rw [r2, vw_c_s ha9]
              funext j
              by_cases e : j = a
              · rw [e, pk_us, pk_us]
              · rw [pk_un e, pk_un e, pk_un e]
            have hw := k3_wl haT hC0
            rw [← f1, ← r1, ← ec, ← vw_s_s ha9] at V1
            rw [← r1, ← ec] at hw
            refine ih k' zfl' ztk' zco' znx' zff' zfc' _ zst' V1 (by omega) (by omega) fun e' q => ?_
            exact (r4 e' q).trans (((vw_v_co (vw_c_o ha9 q)).trans (vw_v_fl (f2 e' q))).trans (hW e' q))
        · exact br_f s0 (skip fun _ _ => by rw [hsu]; exact s0)
      · exact br_f c0 (skip fun _ z => absurd (hC.symm.trans z) c0)
def k3_L (su ss : Nat → Int32) (n i : Nat) : Prop := (∀ j, j < n → ∃ a, ss j = nI a ∧ k3_P a) ∧ (∀ a, k3_P a → su a ≠ 0 → ∃ j, i ≤ j ∧ j < n ∧ ss j = nI a)
theorem xk_needless {post : Int32 → SX → Prop} {F0 : Nat → Nat → Int32} {m : Nat} (hm : m ≤ 48)
    (W : Nat → (Nat → Int32) × (Nat → Nat → Int32) × (Nat → Int32) × (Nat → Int32) × (Nat → Int32) × Int32 × Int32)
    (K : ∀ zfl' ztk' zco' znx' zff' zfc' zrf' zst' zsu' zsd', k3_V (vw_r zrg 4) F0 (vw_f zfl' 4) (vw_c ztk' 4) (vw_c zco' 4) (vw_c znx' 4) (zff' 4) (zfc' 4) (vw_s zrf') (vw_s zsu') zst' 0 → (∀ a, k3_P a → vw_s zsu' a = 0) → (∀ e', e' ≠ 4 → vw_v e' zrg zfl' ztk' zco' znx' zff' zfc' = W e') → post (48 - zfc' 4) (zhf, zhn, zcn, zyn, 0, zph, zsa, zgc, zsd', zs2, zrg, zfl', ztk', zco', znx', zff', zfc', zmv, zrm, zrf', zsu', zss, zgs, zfa, zst', zt2, zse, zpa, zba)) :
    ∀ (n i : Nat) (zsd : Int32) (zfl ztk zco znx zff zfc zrf zst zsu : Nat → Int32), i ≤ m → m < n + i → k3_V (vw_r zrg 4) F0 (vw_f zfl 4) (vw_c ztk 4) (vw_c zco 4) (vw_c znx 4) (zff 4) (zfc 4) (vw_s zrf) (vw_s zsu) zst 0 → k3_L (vw_s zsu) zss m i → (∀ e', e' ≠ 4 → vw_v e' zrg zfl ztk zco znx zff zfc = W e') →
      wX_collectByCounts_128 post (nI m) n (nI i) zhf zhn zcn zyn zsc zph zsa zgc zsd zs2 zrg zfl ztk zco znx zff zfc zmv zrm zrf zsu zss zgs zfa zst zt2 zse zpa zba := by
  intro n
  induction n with
  | zero => intro i _ _ _ _ _ _ _ _ _ _ h1 h2; omega
  | succ n ih =>
    intro i zsd zfl ztk zco znx zff zfc zrf zst zsu h1 h2 V L hW
    by_cases hi : i = m
    · subst hi
      refine br_t (nI_le (Nat.le_refl _) (by omega)) ?_
      refine K zfl ztk zco znx zff zfc zrf zst zsu zsd V (fun a ha => ?_) hW
      apply Classical.byContradiction
      intro hn
      obtain ⟨j, q1, q2, _⟩ := L.2 a ha hn
      omega
    · refine br_f (nI_ge (by omega) (by omega)) ⟨vp_in_nI (by omega) (by omega), ?_⟩
      obtain ⟨a, ea, haP⟩ := L.1 i (by omega)
      have ha1 := haP.1
      have ha48 := haP.2
      have ha9 : a < 96 := by omega
      rw [nI_clamp (n := i) (by omega), ea, nI_clamp (n := a) (by omega), na_f]
      refine ⟨vp_in_nI ha9 (by omega), nm_e ⟨vp_in_nI (by omega) (by omega), ?_⟩⟩
      unfold wpX_takeNeedless
      refine xp_push (k := 0) (by omega) (by omega) ?_
      refine ⟨200, ?_⟩
      have hw := k3_w48 (T := vw_c ztk 4) (C := vw_c zco 4)
      have V1 : k3_V (vw_r zrg 4) F0 (vw_f zfl 4) (vw_c ztk 4) (vw_c zco 4) (vw_c znx 4) (zff 4) (zfc 4) (vw_s zrf) (vw_s (upd zsu a 0)) (upd zst 0 (nI a)) 1 := by
        obtain ⟨v1, v2, v3, v4, v5, v6, v7⟩ := V
        refine ⟨v1, v2, v3, v4, v5, fun x hx hc => ?_, fun j hj => ⟨a, by rw [show j = 0 by omega, pk_us], haP⟩⟩
        refine gr_mono (v6 x hx hc) (fun d hd => gr_root ?_) (fun _ _ hc he => gr_step hc he)
        obtain ⟨h9, ⟨j, hj, _⟩ | z⟩ := hd
        · exact absurd hj (Nat.not_lt_zero j)
        · by_cases e : d = a
          · exact ⟨h9, Or.inl ⟨0, by omega, by rw [pk_us, e]⟩⟩
          · exact ⟨h9, Or.inr ⟨z.1, z.2.1, by rw [vw_s_s ha9, pk_un e]; exact z.2.2⟩⟩
      refine xk_nloop W (fun zfl' ztk' zco' znx' zff' zfc' zrf' zst' V2 hW2 => ?_) 200 1 zfl ztk zco znx zff zfc zrf _ V1 (by omega) (by omega) hW
      refine nm_r (nI_1 i) ?_
      refine ih (i + 1) _ zfl' ztk' zco' znx' zff' zfc' zrf' zst' _ (by omega) (by omega) V2 ⟨L.1, fun b hb hsb => ?_⟩ hW2
      have e : b ≠ a := fun z => by rw [z, vw_s_s ha9, pk_us] at hsb; exact hsb rfl
      rw [vw_s_s ha9, pk_un e] at hsb
      obtain ⟨j, q1, q2, q3⟩ := L.2 b hb hsb
      have : j ≠ i := fun z => e (na_inj (by have := hb.2; omega) (by omega) (q3.symm.trans (z ▸ ea)))
      exact ⟨j, by omega, q2, q3⟩
theorem xk_judges {post : Int32 → SX → Prop} {G0 : Nat → Prop} {m : Nat} (hm : m ≤ 48) (hG : gr_WG (vw_r zrg 4) (vw_f zfl 4) (kc_T (vw_c ztk 4))) (hL : ∀ j, j < m → ∃ a, zss j = nI a ∧ kc_T (vw_c ztk 4) a) (zcoi : Nat → Int32)
    (K : ∀ zrf' zco' zst' zt2' zs2' zsd', j2_V (vw_r zrg 4) (vw_f zfl 4) (vw_c ztk 4) G0 (vw_c zco' 4) (vw_s zrf') zt2' zst' 0 → (∀ j, j < m → ∀ a, kc_T (vw_c ztk 4) a → zss j = nI a → vw_c zco' 4 a ≠ 1) → (∀ e', e' ≠ 4 → vw_c zco' e' = vw_c zcoi e') → ∃ n128 : Nat, wX_collectByCounts_128 post (nI m) n128 0 zhf zhn zcn zyn zsc zph zsa zgc zsd' zs2' zrg zfl ztk zco' znx zff zfc zmv zrm zrf' zsu zss zgs zfa zst' zt2' zse zpa zba) :
    ∀ (n i : Nat) (zsd zs2 : Int32) (zrf zco zst zt2 : Nat → Int32), i ≤ m → m < n + i → j2_V (vw_r zrg 4) (vw_f zfl 4) (vw_c ztk 4) G0 (vw_c zco 4) (vw_s zrf) zt2 zst 0 → (∀ j, j < i → ∀ a, kc_T (vw_c ztk 4) a → zss j = nI a → vw_c zco 4 a ≠ 1) → (∀ e', e' ≠ 4 → vw_c zco e' = vw_c zcoi e') →
      wX_collectByCounts_105 post (nI m) n (nI i) zhf zhn zcn zyn zsc zph zsa zgc zsd zs2 zrg zfl ztk zco znx zff zfc zmv zrm zrf zsu zss zgs zfa zst zt2 zse zpa zba := by
  intro n
  induction n with
  | zero => intro i _ _ _ _ _ _ h1 h2; omega
  | succ n ih =>
    intro i zsd zs2 zrf zco zst zt2 h1 h2 V hj ho
    by_cases hi : i = m
    · subst hi
      exact br_t (nI_le (Nat.le_refl _) (by omega)) (K zrf zco zst zt2 zs2 zsd V hj ho)
    · refine br_f (nI_ge (by omega) (by omega)) ⟨vp_in_nI (by omega) (by omega), ?_⟩
      obtain ⟨a, ea, ha⟩ := hL i (by omega)
      rw [nI_clamp (n := i) (by omega), ea]
      refine xk_judge hG ha V fun zrf' zco' zst' zt2' zs2' V1 h3 h4 h5 => ?_
      refine nm_r (nI_1 i) ?_
      refine ih (i + 1) _ zs2' zrf' zco' zst' zt2' (by omega) (by omega) V1 (fun j hj' b hb e => ?_) (fun e' q => (h5 e' q).trans (ho e' q))
      by_cases ej : j = i
      · rw [← na_inj (a := a) (b := b) (by have := kc_T9 ha; omega) (by have := kc_T9 hb; omega) (ea.symm.trans (ej ▸ e))]; exact h3
      · exact h4 b (hj j (by omega) b hb e)
end C4
end
section
section KF
variable {R : Nat → Int32} {F F0 : Nat → Nat → Int32} {T C N : Nat → Int32} {f c : Int32} {rf su ss st : Nat → Int32} {kS n : Nat}
/-- at the start of a collection -/
theorem k1_begin (V : kc_V R F T C N f c rf su ss kS st 0 0 (kc_D T 0 0) 1) : k1_I R F T C N f c rf su ss kS 0 0 := by
  have h48 := kc_S48 V.2.2.2.2.1
  obtain ⟨v1, v2, v3, v4, v5, v6, v7, v8, v9, v10, v11, v12, v13⟩ := V
  have n1 : ∀ a, kc_T T a → C a ≠ 1 := fun a ha e => by
    rcases v6 a ha with z | z
    · rw [z] at e; exact absurd e (by decide)
    · rw [z.1] at e; exact absurd e (by decide)
  have hz : ∀ a, kc_T T a → kc_n (kc_D T 0 0) R F a = 0 → kc_z F C su a := fun a ha h0 => by
    rcases v7 a ha (by rw [h0, kc_e1 (kc_T9 ha)]) with z | ⟨i, hi, _⟩ | z
    · exact z
    · exact absurd hi (Nat.not_lt_zero i)
    · have := ha.1; omega
  refine ⟨v1, v2, ⟨fun a h1 h2 => ?_, fun a g b ha h1 => absurd h1 (n1 a ha), fun i hi => absurd hi (Nat.not_lt_zero i), fun a ha h1 => absurd h1 (n1 a ha), fun _ => Or.inl rfl, fun _ h => h⟩, fun a ha => Or.inr ((v6 a ha).imp id fun z => z.1), fun j hj => absurd hj (Nat.not_lt_zero j), fun j _ hj => v5.1 j hj, fun j j' hj hj' => v5.2.2.1 j j' (hj.elim (fun z => absurd z (Nat.not_lt_zero j)) fun z => z.2) (hj'.elim (fun z => absurd z (Nat.not_lt_zero j')) fun z => z.2), fun a h1 h2 hs => ?_, hz, fun a ha h3 => ?_, fun a ha hp => ?_, by omega, by omega, h48⟩
  · rw [v4 a h1 h2, kc_e1 (by omega)]
    show nI (kc_n (kc_D T 0 0) R F a) = _
    congr 1
    exact kc_congr fun i hi => ⟨fun z => ⟨⟨z.1.1, Or.inl (n1 _ z.1.1)⟩, z.2⟩, fun z => ⟨⟨z.1.1, fun w => by omega⟩, z.2⟩⟩
  · obtain ⟨i, hi, e⟩ := v5.2.1 a h1 h2 hs
    exact ⟨i, Or.inr ⟨by omega, hi⟩, e⟩
  · refine ⟨?_, ?_⟩
    · rcases v6 a ha with z | z
      · rw [z] at h3; exact absurd h3 (by decide)
      · exact z.2
    · apply Classical.byContradiction
      intro hn
      have := (hz a ha (by omega)).2.1
      rw [h3] at this; exact absurd this (by decide)
  · refine gr_mono (v8 a ha (by omega)) (fun d hd => gr_root ?_) (fun d b hc he => gr_step hc ?_)
    · rcases hd with z | z | ⟨_, i, hi, _⟩ | z | z
      · exact Or.inl z
      · exact Or.inr ⟨z.1, Or.inl z.2⟩
      · exact absurd hi (Nat.not_lt_zero i)
      · omega
      · exact absurd z.2 (gr_odne gr_od1 (by omega))
    · obtain ⟨h9, h, hh, _, e⟩ := he
      exact ⟨h9, h, hh, e⟩
/-- between the two: no suspect pends -/
theorem k1_end {s2 : Nat → Int32} (I : k1_I R F T C N f c rf su ss kS n kS) : j2_V R F T (fun a => kc_T T a ∧ C a = 1) C rf s2 st 0 := by
  obtain ⟨i1, i2, i3, i4, i5, i6, i7, i8, i9, i10, i11, i12, i13, i14⟩ := I
  have inK : ∀ a, kc_T T a → su a ≠ 0 → C a = 1 := fun a ha hs => by
    obtain ⟨j, hj, e⟩ := i8 a ha.1 ha.2.1 hs
    have hj' : j < n := hj.elim id fun z => by omega
    obtain ⟨b, q1, q2, q3, q4⟩ := i5 j hj'
    rw [na_inj (a := a) (b := b) (by have := kc_T9 ha; omega) (by have := kc_T9 q2; omega) (e.symm.trans q1)]; exact q3
  have c12 : ∀ a, kc_T T a → C a = 1 ∨ C a = 2 := fun a ha => by
    rcases i4 a ha with z | z | z
    · exact Or.inl z
    · exact Or.inr z
    · have := inK a ha (i10 a ha z).1
      rw [z] at this; exact absurd this (by decide)
  have hpos : ∀ a, kc_T T a → 0 < kc_n (kc_D T 0 0) R F a := fun a ha => by
    apply Classical.byContradiction
    intro hn
    have hz := i9 a ha (by omega)
    have := inK a ha hz.1
    rw [hz.2.1] at this; exact absurd this (by decide)
  have live : ∀ a, kc_T T a → C a = 2 → gr_X R F a := fun a ha h2 => by
    have : kc_T T a ∧ (C a = 1 ∨ gr_X R F a) := by
      refine i11 a ha (hpos a ha) (fun x => kc_T T x ∧ (C x = 1 ∨ gr_X R F x)) (fun b hb => ?_) (fun d b hd he => ?_)
      · rcases hb with z | z
        · have hx : gr_X R F b := gr_root z
          exact ⟨gr_WG_X i2 hx, Or.inr hx⟩
        · refine ⟨z.1, z.2.elim (fun w => ?_) Or.inl⟩
          have := c12 b z.1
          rw [w] at this; exact absurd this (by decide)
      · obtain ⟨h9, h, hh, e⟩ := he
        refine ⟨gr_tgt (i2.2.1 d hd.1 h hh) (fun a ha => kc_T9 ha) h9 e, ?_⟩
        rcases hd.2 with z | z
        · exact Or.inl (kt_clo i3 hd.1 z hh e h9)
        · exact Or.inr (gr_step z ⟨h9, h, hh, e⟩)
    rcases this.2 with z | z
    · rw [h2] at z; exact absurd z (by decide)
    · exact z
  refine ⟨⟨fun a h1 h2 => ?_, fun a ha h0 => ?_, live, fun c g b hc hg h2 => ?_, fun j hj => absurd hj (Nat.not_lt_zero j), fun j _ hj => absurd hj (Nat.not_lt_zero j), fun _ => Or.inl rfl, ?_⟩, fun a ha => Or.inr (c12 a ha), fun c g b hc h0 => ?_, fun a ha h2 => ⟨ha, (c12 a ha).resolve_right h2⟩, fun i hi => absurd hi (Nat.not_lt_zero i)⟩
  · rw [i3.1 a h1 h2]
    congr 1
    refine kc_congr fun i hi => ⟨fun z => ⟨⟨z.1.1, ?_, fun ⟨j, hj, _⟩ => absurd hj (Nat.not_lt_zero j), fun w => ?_⟩, z.2⟩, fun z => ⟨⟨z.1.1, Or.inl fun w => ?_⟩, z.2⟩⟩
    · refine (c12 _ z.1.1).resolve_left fun w => ?_
      rcases z.1.2 with q | q
      · exact q w
      · have := z.1.1.1; omega
    · have := z.1.1.1; omega
    · have := z.1.2.1; rw [w] at this; exact absurd this (by decide)
  · have := c12 a ha
    rw [h0] at this; exact absurd this (by decide)
  · rw [hg.2] at h2; exact absurd h2 (by decide)
  · have := jg_w48 (T := T) (C := C); omega
  · have := c12 c hc
    rw [h0] at this; exact absurd this (by decide)
/-- when all are judged: white is needless, black is live -/
theorem j2_end {C' rf' s2 : Nat → Int32} (I : k1_I R F T C N f c rf su ss kS n kS) (V : j2_V R F T (fun a => kc_T T a ∧ C a = 1) C' rf' s2 st 0) (hj : ∀ j, j < n → ∀ a, kc_T T a → ss j = nI a → C' a ≠ 1) :
    k3_V R F F T C' N f c rf' su st 0 ∧ k3_L su ss n 0 := by
  obtain ⟨i1, i2, i3, i4, i5, i6, i7, i8, i9, i10, i11, i12, i13, i14⟩ := I
  obtain ⟨⟨w1, w2, w3, w4, w5, w6, w7, w8⟩, v2, v3, v4, v5⟩ := V
  have hKp : ∀ a, k1_Kp ss n a → kc_T T a ∧ C a = 1 ∧ C' a ≠ 1 := fun a ha => by
    obtain ⟨h9, j, hjn, e⟩ := ha
    obtain ⟨b, q1, q2, q3, q4⟩ := i5 j hjn
    have : b = a := na_inj (by have := kc_T9 q2; omega) (by omega) (q1.symm.trans e)
    rw [← this]; exact ⟨q2, q3, hj j hjn b q2 q1⟩
  have hrea : ∀ a, gr_rea (k1_Kp ss n) (gr_E F) a → kc_T T a ∧ C a = 1 ∧ C' a ≠ 1 := fun a ha => by
    refine ha (fun x => kc_T T x ∧ C x = 1 ∧ C' x ≠ 1) hKp (fun d b hd he => ?_)
    obtain ⟨h9, h, hh, e⟩ := he
    refine ⟨gr_tgt (i2.2.1 d hd.1 h hh) (fun a ha => kc_T9 ha) h9 e, kt_clo i3 hd.1 hd.2.1 hh e h9, ?_⟩
    rcases v2 d hd.1 with z | z | z
    · rcases v3 d h b hd.1 z hh e h9 with q | ⟨i, hi, _⟩
      · exact q
      · exact absurd hi (Nat.not_lt_zero i)
    · exact absurd z hd.2.2
    · rcases w4 d h b hd.1 ⟨hd.1, hd.2.1⟩ z hh e h9 with q | ⟨i, hi, _⟩ | q
      · rw [q]; decide
      · exact absurd hi (Nat.not_lt_zero i)
      · have := hd.1.1; omega
  have c02 : ∀ a, kc_T T a → C' a = 0 ∨ C' a = 2 := fun a ha => by
    rcases v2 a ha with z | z | z
    · exact Or.inl z
    · exfalso
      have hg := v4 a ha (by rw [z]; decide)
      exact (hrea a (i3.2.2.2.1 a ha hg.2)).2.2 z
    · exact Or.inr z
  have hX2 : ∀ a, gr_X R F a → C' a = 2 := fun a ha => by
    have : gr_X R F a ∧ C' a = 2 := by
      refine gr_ind ha (fun x => gr_X R F x ∧ C' x = 2) ?_ ?_
      · rintro b ⟨h9, r, hr, e⟩
        have hx : gr_X R F b := gr_root ⟨h9, r, hr, e⟩
        have hT : kc_T T b := gr_WG_X i2 hx
        refine ⟨hx, (c02 b hT).resolve_left fun z => ?_⟩
        have h0 := w2 b hT z
        rw [w1 b hT.1 hT.2.1] at h0
        have hp := kc_preg (D := jg_D T C' s2 0 0 0) (F := F) hr e
        have hle := kc_le (D := jg_D T C' s2 0 0 0) (R := R) (F := F) (a := b)
        exact nI_ne0 hp (by omega) h0
      · rintro d b hdx hd ⟨h9, h, hh, e⟩
        have hx : gr_X R F b := gr_step hdx ⟨h9, h, hh, e⟩
        have hT : kc_T T b := gr_WG_X i2 hx
        have hdT : kc_T T d := gr_WG_X i2 hdx
        refine ⟨hx, (c02 b hT).resolve_left fun z => ?_⟩
        have h0 := w2 b hT z
        rw [w1 b hT.1 hT.2.1] at h0
        have e1 : (3 * d + h) / 3 = d := by omega
        have hp := kc_pcell (D := jg_D T C' s2 0 0 0) (R := R) hdT.2.1 hh ⟨by rw [e1]; exact hdT, by rw [e1]; exact hd.2, fun ⟨j, hj, _⟩ => absurd hj (Nat.not_lt_zero j), fun w => by have := hdT.1; omega⟩ e
        have hle := kc_le (D := jg_D T C' s2 0 0 0) (R := R) (F := F) (a := b)
        exact nI_ne0 hp (by omega) h0
    exact this.2
  refine ⟨⟨i1, fun a ha => ⟨gr_WG_X i2 ha, hX2 a ha, rfl⟩, fun a ha => (c02 a ha).imp id fun z => w3 a ha z, fun a h1 h2 => ?_, fun a ha h0 g hg => gr_wf_mono (i2.2.1 a ha g hg) fun b hb => ⟨hb.1, hb.2.1⟩, fun a ha h0 => ?_, fun i hi => absurd hi (Nat.not_lt_zero i)⟩, fun j hjn => ?_, fun a ha hs => ?_⟩
  · rw [w1 a h1 h2]
    congr 1
    refine kc_congr fun i hi => ⟨fun z => ⟨w3 _ z.1.1 z.1.2.1, z.2⟩, fun z => ⟨⟨gr_WG_X i2 z.1, hX2 _ z.1, fun ⟨j, hj, _⟩ => absurd hj (Nat.not_lt_zero j), fun w => ?_⟩, z.2⟩⟩
    have := (gr_WG_X i2 z.1).1; omega
  · have hg := v4 a ha (by rw [h0]; decide)
    have : C' a = 2 ∨ gr_rea (k3_rt su st 0) (k3_E T C' F) a := by
      have hr := i3.2.2.2.1 a ha hg.2
      have key : gr_rea (k1_Kp ss n) (gr_E F) a ∧ (C' a = 2 ∨ gr_rea (k3_rt su st 0) (k3_E T C' F) a) := by
        refine gr_ind hr (fun x => gr_rea (k1_Kp ss n) (gr_E F) x ∧ (C' x = 2 ∨ gr_rea (k3_rt su st 0) (k3_E T C' F) x)) (fun b hb => ⟨gr_root hb, Or.inr (gr_root ?_)⟩) (fun d b hdr hd he => ⟨gr_step hdr he, ?_⟩)
        · obtain ⟨h9, j, hjn, e⟩ := hb
          obtain ⟨x, q1, q2, q3, q4⟩ := i5 j hjn
          have ex : x = b := na_inj (by have := kc_T9 q2; omega) (by omega) (q1.symm.trans e)
          rw [← ex]
          exact ⟨kc_T9 q2, Or.inr ⟨q2.1, q2.2.1, q4⟩⟩
        · have hd3 := hrea d hdr
          obtain ⟨h9, h, hh, e⟩ := he
          rcases c02 d hd3.1 with z | z
          · exact Or.inr (gr_step (hd.2.resolve_left fun w => by rw [z] at w; exact absurd w (by decide)) ⟨hd3.1, z, h9, h, hh, e⟩)
          · rcases w4 d h b hd3.1 ⟨hd3.1, hd3.2.1⟩ z hh e h9 with q | ⟨i, hi, _⟩ | q
            · exact Or.inl q
            · exact absurd hi (Nat.not_lt_zero i)
            · have := hd3.1.1; omega
      exact key.2
    exact this.resolve_left fun z => by rw [h0] at z; exact absurd z (by decide)
  · obtain ⟨b, q1, q2, q3, q4⟩ := i5 j hjn
    exact ⟨b, q1, q2.1, q2.2.1⟩
  · obtain ⟨j, hjL, e⟩ := i8 a ha.1 ha.2 hs
    exact ⟨j, by omega, hjL.elim id fun z => by omega, e⟩
/-- at the end of a collection -/
theorem k3_end (V : k3_V R F0 F T C N f c rf su st 0) (hG : gr_WG R F0 (gr_X R F0)) (hs : ∀ a, k3_P a → su a = 0) : kc_V R F T C N f c rf su ss 0 (fun _ => 0) 0 0 (kc_D T 0 0) 1 ∧ (∀ a, kc_T T a → gr_X R F0 a) := by
  obtain ⟨v1, v2, v3, v4, v5, v6, v7⟩ := V
  have now : ∀ a, kc_T T a → C a ≠ 0 := fun a ha h0 => by
    refine (v6 a ha h0 (fun _ => False) (fun b hb => ?_) (fun _ _ h _ => h)).elim
    obtain ⟨_, ⟨i, hi, _⟩ | z⟩ := hb
    · exact absurd hi (Nat.not_lt_zero i)
    · exact z.2.2 (hs b ⟨z.1, z.2.1⟩)
  have hTX : ∀ a, kc_T T a → gr_X R F0 a := fun a ha => (v3 a ha).resolve_left (now a ha)
  have key : ∀ a, kc_n (kc_D T 0 0) R F a = kc_n (fun i => gr_X R F0 (i / 3)) R F0 a := fun a => kc_congr fun i hi => by
    refine ⟨fun z => ⟨hTX _ z.1.1, ?_⟩, fun z => ⟨⟨(v2 _ z.1).1, fun w => by omega⟩, ?_⟩⟩
    · rw [← (v2 _ (hTX _ z.1.1)).2.2]; exact z.2
    · rw [(v2 _ z.1).2.2]; exact z.2
  have hpos : ∀ a, gr_X R F0 a → 0 < kc_n (kc_D T 0 0) R F a := fun a ha => kc_Xpos (fun b hb => ⟨(v2 b hb).1, (v2 b hb).2.2⟩) ha
  refine ⟨⟨v1, ⟨fun r hr => gr_wf_mono (hG.1 r hr) fun a ha => (v2 a ha).1, fun a ha g hg => ?_, fun a ha => ⟨ha.1, kc_T9 ha⟩⟩, Or.inl gr_od1, fun a h1 h2 => by rw [key a, kc_e1 (by omega)]; exact v4 a h1 h2, ⟨fun i hi => absurd hi (Nat.not_lt_zero i), fun a h1 h2 h3 => absurd (hs a ⟨h1, h2⟩) h3, fun i _ hi => absurd hi (Nat.not_lt_zero i), ct_zero 96 fun i _ z => z.2.2 (hs i ⟨z.1, z.2.1⟩)⟩,
    fun a ha => Or.inl (v2 a (hTX a ha)).2.1, fun a ha hz => ?_, fun a ha _ => ?_, fun i hi => absurd hi (Nat.not_lt_zero i), fun i _ hi => absurd hi (Nat.not_lt_zero i), Or.inl rfl, ?_, fun i hi w1 w2 => ⟨w1, fun w => by omega⟩⟩, hTX⟩
  · rw [(v2 a (hTX a ha)).2.2]
    exact gr_wf_mono (hG.2.1 a (hTX a ha) g hg) fun b hb => (v2 b hb).1
  · have := hpos a (hTX a ha); omega
  · refine (gr_ind (hTX a ha) (fun x => gr_X R F0 x ∧ gr_rea (kc_rt R T C (fun _ => 0) 0 0 1) (kc_E (kc_D T 0 0) F) x) (fun b hb => ⟨gr_root hb, gr_root (Or.inl hb)⟩) ?_).2
    rintro d b hdx hd ⟨h9, h, hh, e⟩
    refine ⟨gr_step hdx ⟨h9, h, hh, e⟩, gr_step hd.2 ⟨h9, h, hh, ⟨?_, fun w => by omega⟩, by rw [(v2 d hdx).2.2]; exact e⟩⟩
    rw [show (3 * d + h) / 3 = d by omega]; exact (v2 d hdx).1
  · have := ct_mono (P := fun a => 1 ≤ a ∧ a ≤ 48 ∧ rf a ≠ 0) (Q := fun i => 1 ≤ i ∧ i < 49) 96 fun i _ z => ⟨z.1, by omega⟩
    rw [ct_range (by omega) 96 (by omega)] at this
    omega
end KF
section C4
variable {zhf zhn zcn zyn zsc zph zsa zgc zsd zs2 : Int32} {zrg zfl ztk zco znx zff zfc zmv zrm zrf zsu zss zgs zfa zst zt2 zse zpa zba : Nat → Int32}
theorem c4_collect {post : Int32 → SX → Prop} {v : SY} (h : jc_4 (vw_r zrg 4) (vw_f zfl 4) (vw_c ztk 4) (vw_c zco 4) (vw_c znx 4) (zff 4) (zfc 4) zsc (vw_s zrf) (vw_s zsu) zss v)
    (K : ∀ zfl' ztk' zco' znx' zff' zfc' zrf' zst' zsu' zss' zt2' zs2' zsd', jc_4 (vw_r zrg 4) (vw_f zfl' 4) (vw_c ztk' 4) (vw_c zco' 4) (vw_c znx' 4) (zff' 4) (zfc' 4) 0 (vw_s zrf') (vw_s zsu') zss' v → (∀ a, 1 ≤ a → a ≤ 48 → vw_c ztk' 4 a ≠ 0 → gr_X (vw_r zrg 4) (vw_f zfl' 4) a) →
      (∀ e', e' ≠ 4 → vw_v e' zrg zfl' ztk' zco' znx' zff' zfc' = vw_v e' zrg zfl ztk zco znx zff zfc) → post (nI (ct_c (yy_X v) 48)) (zhf, zhn, zcn, zyn, 0, zph, zsa, zgc, zsd', zs2', zrg, zfl', ztk', zco', znx', zff', zfc', zmv, zrm, zrf', zsu', zss', zgs, zfa, zst', zt2', zse, zpa, zba)) : wpX_collectByCounts post (zhf, zhn, zcn, zyn, zsc, zph, zsa, zgc, zsd, zs2, zrg, zfl, ztk, zco, znx, zff, zfc, zmv, zrm, zrf, zsu, zss, zgs, zfa, zst, zt2, zse, zpa, zba) := by
  obtain ⟨φ, kS, I, rfl, V⟩ := h
  have hk48 := kc_S48 V.2.2.2.2.1
  show ∃ n4 : Nat, wX_collectByCounts_4 post n4 (nI 0) (nI 0) zhf zhn zcn zyn (nI kS) zph zsa zgc zsd zs2 zrg zfl ztk zco znx zff zfc zmv zrm zrf zsu zss zgs zfa zst zt2 zse zpa zba
  refine ⟨kS + 1, ?_⟩
  refine xk_roots (post := post) (fun e' => vw_v e' zrg zfl ztk zco znx zff zfc) (fun n ztk1 zco1 znx1 zff1 zfc1 zrf1 zsu1 zss1 zst1 zsd1 I1 hW1 => ?_) (kS + 1) 0 0 zsd ztk zco znx zff zfc zrf zsu zss zst (by omega) (k1_begin V) (fun _ _ => rfl)
  have hn : n ≤ 48 := by
    have h1 := I1.2.2.2.2.2.2.2.2.2.2.2.1
    omega
  refine ⟨n + 1, ?_⟩
  refine xk_judges (post := post) (G0 := fun a => kc_T (vw_c ztk1 4) a ∧ vw_c zco1 4 a = 1) hn I1.2.1 (fun j hj => ?_) zco1 (fun zrf2 zco2 zst2 zt22 zs22 zsd2 V2 hj2 ho2 => ?_) (n + 1) 0 zsd1 zs2 zrf1 zco1 zst1 zt2 (by omega) (by omega) (k1_end I1) (fun j hj => absurd hj (Nat.not_lt_zero j)) (fun _ _ => rfl)
  · obtain ⟨a, q1, q2, _⟩ := I1.2.2.2.2.1 j hj
    exact ⟨a, q1, q2⟩
  · obtain ⟨V3, L3⟩ := j2_end I1 V2 hj2
    refine ⟨n + 1, ?_⟩
    refine xk_needless (post := post) (F0 := vw_f zfl 4) hn (fun e' => vw_v e' zrg zfl ztk zco znx zff zfc) (fun zfl4 ztk4 zco4 znx4 zff4 zfc4 zrf4 zst4 zsu4 zsd4 V4 hs4 hW4 => ?_) (n + 1) 0 zsd2 zfl ztk1 zco2 znx1 zff1 zfc1 zrf2 zst2 zsu1 (by omega) (by omega) V3 L3 (fun e' q => (vw_v_co (ho2 e' q)).trans (hW1 e' q))
    obtain ⟨V5, hTX⟩ := k3_end (ss := zss1) V4 (is_G I) hs4
    have I5 : is_I φ (vw_r zrg 4) (vw_f zfl4 4) v := is_stay I fun a ha g _ => by rw [(V4.2.1 a ha).2.2]
    have hX5 : ∀ a, gr_X (vw_r zrg 4) (vw_f zfl4 4) a ↔ gr_X (vw_r zrg 4) (vw_f zfl 4) a := fun a => (is_X I5 a).trans (is_X I a).symm
    have e : 48 - zfc4 4 = nI (ct_c (yy_X v) 48) := by
      rw [← is_cnt I]
      exact fr_left (last := 48) (by omega) V4.1 (fun a h1 h2 h3 => hTX a ⟨h1, h2, h3⟩) (fun a ha => (V4.2.1 a ha).1)
    rw [e]
    exact K zfl4 ztk4 zco4 znx4 zff4 zfc4 zrf4 zst4 zsu4 zss1 zt22 zs22 zsd4 ⟨φ, 0, I5, rfl, V5⟩ (fun a h1 h2 h3 => (hX5 a).mpr (hTX a ⟨h1, h2, h3⟩)) hW4
/-- a new cell of collector 4, to which nothing refers yet -/
def jc_4n (R : Nat → Int32) (F : Nat → Nat → Int32) (T C N : Nat → Int32) (f c sc : Int32) (rf su ss : Nat → Int32) (v : SY) (a : Nat) : Prop :=
  ∃ φ kS F0, is_I φ R F0 v ∧ F = vw_w F0 a (fun _ => 1) ∧ ¬ gr_X R F0 a ∧ sc = nI kS ∧ kc_V R F T (upd C a 2) N f c rf su ss kS (fun _ => 0) 0 a (kc_D T 0 0) 1
theorem nw_4t {post : Int32 → SX → Prop} {v : SY} (h : jc_4 (vw_r zrg 4) (vw_f zfl 4) (vw_c ztk 4) (vw_c zco 4) (vw_c znx 4) (zff 4) (zfc 4) zsc (vw_s zrf) (vw_s zsu) zss v) (hc : zfc 4 ≠ 0)
    (K : ∀ a ztk' zff' zfc' zfl', 1 ≤ a → a ≤ 48 → jc_4n (vw_r zrg 4) (vw_f zfl' 4) (vw_c ztk' 4) (vw_c zco 4) (vw_c znx 4) (zff' 4) (zfc' 4) zsc (vw_s zrf) (vw_s zsu) zss v a →
      (∀ e', e' ≠ 4 → vw_v e' zrg zfl' ztk' zco znx zff' zfc' = vw_v e' zrg zfl ztk zco znx zff zfc) → post (nI a) (zhf, zhn, zcn, zyn, zsc, zph, zsa, zgc, zsd, zs2, zrg, zfl', ztk', zco, znx, zff', zfc', zmv, zrm, zrf, zsu, zss, zgs, zfa, zst, zt2, zse, zpa, zba)) : wpX_takeFree post (zhf, zhn, zcn, zyn, zsc, zph, zsa, zgc, zsd, zs2, zrg, zfl, ztk, zco, znx, zff, zfc, zmv, zrm, zrf, zsu, zss, zgs, zfa, zst, zt2, zse, zpa, zba) 4 := by
  obtain ⟨φ, kS, I, rfl, V⟩ := h
  refine xf_take (e := 4) (last := 48) (by omega) (by omega) V.1 hc fun a ztk' zff' zfc' zfl' a1 a2 a3 a4 a5 a6 _ a8 => ?_
  refine K a ztk' zff' zfc' zfl' a1 a2 ⟨φ, kS, vw_f zfl 4, I, a5, fun z => (gr_WG_X V.2.1 z).2.2 a3, rfl, ?_⟩ a8
  rw [a4] at a6 ⊢
  rw [a5]
  exact kc_new V a1 a2 a3 a6
theorem nw_4 {post : Int32 → SX → Prop} {v : SY} (h : jc_4 (vw_r zrg 4) (vw_f zfl 4) (vw_c ztk 4) (vw_c zco 4) (vw_c znx 4) (zff 4) (zfc 4) zsc (vw_s zrf) (vw_s zsu) zss v) (h24 : ct_c (yy_X v) 48 < 24)
    (K : ∀ a zfl' ztk' zco' znx' zff' zfc' zrf' zst' zsu' zss' zt2' zs2' zsd' zsc', 1 ≤ a → a ≤ 48 → jc_4n (vw_r zrg 4) (vw_f zfl' 4) (vw_c ztk' 4) (vw_c zco' 4) (vw_c znx' 4) (zff' 4) (zfc' 4) zsc' (vw_s zrf') (vw_s zsu') zss' v a →
      (∀ e', e' ≠ 4 → vw_v e' zrg zfl' ztk' zco' znx' zff' zfc' = vw_v e' zrg zfl ztk zco znx zff zfc) → post (nI a) (zhf, zhn, zcn, zyn, zsc', zph, zsa, zgc, zsd', zs2', zrg, zfl', ztk', zco', znx', zff', zfc', zmv, zrm, zrf', zsu', zss', zgs, zfa, zst', zt2', zse, zpa, zba)) : wpX_newCell post (zhf, zhn, zcn, zyn, zsc, zph, zsa, zgc, zsd, zs2, zrg, zfl, ztk, zco, znx, zff, zfc, zmv, zrm, zrf, zsu, zss, zgs, zfa, zst, zt2, zse, zpa, zba) 4 := by
  refine br_f (by decide) (br_f (by decide) (br_f (by decide) (br_f (by decide) (br_f (by decide) (br_t rfl ?_)))))
  refine And.intro (vp_in_nI (n := 4) (by omega) (by omega)) ?_
  show ((zfc 4 = 0 → _) ∧ (¬ zfc 4 = 0 → _))
  by_cases h0 : zfc 4 = 0
  · refine br_t h0 ?_
    refine br_f (by decide) (br_f (by decide) (br_f (by decide) (br_f (by decide) (br_f (by decide) (br_f (by decide) (br_t rfl ?_))))))
    refine c4_collect h fun zfl1 ztk1 zco1 znx1 zff1 zfc1 zrf1 zst1 zsu1 zss1 zt21 zs21 zsd1 hj hT hV => ?_
    obtain ⟨φ, kS, I, _, V⟩ := id hj
    refine nw_4t hj (fr_pos (by omega) V.1 hT (by rw [is_cnt I]; omega)) fun a ztk' zff' zfc' zfl' a1 a2 a3 a4 => ?_
    exact K a zfl' ztk' zco1 znx1 zff' zfc' zrf1 zst1 zsu1 zss1 zt21 zs21 zsd1 _ a1 a2 a3 fun e' n => (a4 e' n).trans (hV e' n)
  · refine br_f h0 ?_
    refine nw_4t h h0 fun a ztk' zff' zfc' zfl' a1 a2 a3 a4 => ?_
    exact K a zfl' ztk' zco znx zff' zfc' zrf zst zsu zss zt2 zs2 zsd _ a1 a2 a3 a4
theorem st_4n {post : SX → Prop} {r a p : Nat} {yr yf yf' : Nat → Int32} (h : jc_4n (vw_r zrg 4) (vw_f zfl 4) (vw_c ztk 4) (vw_c zco 4) (vw_c znx 4) (zff 4) (zfc 4) zsc (vw_s zrf) (vw_s zsu) zss (yr, yf) a) (hr : r < 6) (ha1 : 1 ≤ a) (ha : a ≤ 48) (hn : op_n yr yf yf' p)
    (K : ∀ zrf' zco' zsu' zss' zst' zfl' ztk' znx' zff' zfc' zsc', jc_4 (upd (vw_r zrg 4) r (nI (2 * a))) (vw_f zfl' 4) (vw_c ztk' 4) (vw_c zco' 4) (vw_c znx' 4) (zff' 4) (zfc' 4) zsc' (vw_s zrf') (vw_s zsu') zss' (upd yr r (nI (10000 + p)), yf') →
      (∀ e', e' ≠ 4 → vw_v e' (upd zrg (4 * 6 + r) (nI (2 * a))) zfl' ztk' zco' znx' zff' zfc' = vw_v e' zrg zfl ztk zco znx zff zfc) → post (zhf, zhn, zcn, zyn, zsc', zph, zsa, zgc, 0, zs2, upd zrg (4 * 6 + r) (nI (2 * a)), zfl', ztk', zco', znx', zff', zfc', zmv, zrm, zrf', zsu', zss', zgs, zfa, zst', zt2, zse, zpa, zba)) :
    wpX_setRegister post (zhf, zhn, zcn, zyn, zsc, zph, zsa, zgc, zsd, zs2, zrg, zfl, ztk, zco, znx, zff, zfc, zmv, zrm, zrf, zsu, zss, zgs, zfa, zst, zt2, zse, zpa, zba) 4 (nI r) (nI (2 * a)) := by
  obtain ⟨φ, kS, F0, I, eF, hna, rfl, V⟩ := h
  have hT : kc_T (vw_c ztk 4) a := by
    rcases V.2.2.2.2.2.2.2.2.2.2.1 with z | z
    · omega
    · exact z.1
  have I' := is_new (r := r) (F' := vw_w F0 a (fun _ => 1)) I hn.1 hn.2.1 ha1 (by omega) hna hn.2.2.1 hn.2.2.2 (fun g _ => vw_ws) (fun c hc g _ => vw_wn fun e => hna (e ▸ hc))
  rw [← eF] at I'
  refine xk_setreg (kc_st0 V) (fun b hb => ?_) hr (Or.inr ⟨a, hT, rfl⟩) (Or.inr rfl) fun zrf' zco' zsu' zss' zst' zfl' ztk' znx' zff' zfc' kS' V2 hX hW => ?_
  · have : b ≠ a := fun z => hb (by rw [z])
    rw [pk_un this]
  · exact K zrf' zco' zsu' zss' zst' zfl' ztk' znx' zff' zfc' _ ⟨_, kS', is_stay I' fun b hb g _ => by rw [hX b hb], rfl, V2⟩ hW
end C4
end
section
/-! the seven together -/
abbrev rl_T : Type := (Nat → Int32) × (Nat → Nat → Int32) × (Nat → Int32) × (Nat → Int32) × (Nat → Int32) × Int32 × Int32
def jv_0 (V : rl_T) (v : SY) : Prop := jc_0 48 V.1 V.2.1 V.2.2.1 V.2.2.2.1 V.2.2.2.2.1 V.2.2.2.2.2.1 V.2.2.2.2.2.2 v
def jv_1 (V : rl_T) (hf hn : Int32) (v : SY) : Prop := jc_1 V.1 V.2.1 hf hn v
def jv_2 (V : rl_T) (cn : Int32) (v : SY) : Prop := jc_2 V.1 V.2.1 V.2.2.2.1 cn v
def jv_3 (V : rl_T) (yn : Int32) (rm : Nat → Int32) (v : SY) : Prop := jc_3 V.1 V.2.1 V.2.2.1 V.2.2.2.1 V.2.2.2.2.1 V.2.2.2.2.2.1 V.2.2.2.2.2.2 yn (vw_s rm) v
def jv_4 (V : rl_T) (sc : Int32) (rf su ss : Nat → Int32) (v : SY) : Prop := jc_4 V.1 V.2.1 V.2.2.1 V.2.2.2.1 V.2.2.2.2.1 V.2.2.2.2.2.1 V.2.2.2.2.2.2 sc (vw_s rf) (vw_s su) ss v
def jv_5 (V : rl_T) (ph sa gc : Int32) (gs : Nat → Int32) (v : SY) : Prop := jc_5 V.1 V.2.1 V.2.2.1 V.2.2.2.1 V.2.2.2.2.1 V.2.2.2.2.2.1 V.2.2.2.2.2.2 ph sa gc gs v
def rl_A (w : Nat → SY) (zrg zfl ztk zco znx zff zfc : Nat → Int32) (zhf zhn zcn zyn : Int32) (zrm : Nat → Int32) (zsc : Int32) (zrf zsu zss : Nat → Int32) (zph zsa zgc : Int32) (zgs : Nat → Int32) : Prop :=
  jv_0 (vw_v 0 zrg zfl ztk zco znx zff zfc) (w 0) ∧ jv_1 (vw_v 1 zrg zfl ztk zco znx zff zfc) zhf zhn (w 1) ∧ jv_2 (vw_v 2 zrg zfl ztk zco znx zff zfc) zcn (w 2) ∧ jv_3 (vw_v 3 zrg zfl ztk zco znx zff zfc) zyn zrm (w 3) ∧ jv_4 (vw_v 4 zrg zfl ztk zco znx zff zfc) zsc zrf zsu zss (w 4) ∧ jv_5 (vw_v 5 zrg zfl ztk zco znx zff zfc) zph zsa zgc zgs (w 5) ∧ jv_0 (vw_v 6 zrg zfl ztk zco znx zff zfc) (w 6)
section RL
variable {zhf zhn zcn zyn zsc zph zsa zgc zsd zs2 : Int32} {zrg zfl ztk zco znx zff zfc zmv zrm zrf zsu zss zgs zfa zst zt2 zse zpa zba : Nat → Int32}
variable {w : Nat → SY}
theorem rl_mk0 {v' : SY} {zrg' zfl' ztk' zco' znx' zff' zfc' : Nat → Int32} (A : rl_A w zrg zfl ztk zco znx zff zfc zhf zhn zcn zyn zrm zsc zrf zsu zss zph zsa zgc zgs) (h : jv_0 (vw_v 0 zrg' zfl' ztk' zco' znx' zff' zfc') v') (hV : ∀ e', e' ≠ 0 → vw_v e' zrg' zfl' ztk' zco' znx' zff' zfc' = vw_v e' zrg zfl ztk zco znx zff zfc) {w' : Nat → SY} (h1 : w' 0 = v') (h2 : ∀ e', e' ≠ 0 → w' e' = w e') : rl_A w' zrg' zfl' ztk' zco' znx' zff' zfc' zhf zhn zcn zyn zrm zsc zrf zsu zss zph zsa zgc zgs := by
  obtain ⟨a0, a1, a2, a3, a4, a5, a6⟩ := A
  unfold rl_A
  rw [h1, h2 1 (by decide), h2 2 (by decide), h2 3 (by decide), h2 4 (by decide), h2 5 (by decide), h2 6 (by decide), hV 1 (by decide), hV 2 (by decide), hV 3 (by decide), hV 4 (by decide), hV 5 (by decide), hV 6 (by decide)]
  exact ⟨h, a1, a2, a3, a4, a5, a6⟩
theorem rl_mk6 {v' : SY} {zrg' zfl' ztk' zco' znx' zff' zfc' : Nat → Int32} (A : rl_A w zrg zfl ztk zco znx zff zfc zhf zhn zcn zyn zrm zsc zrf zsu zss zph zsa zgc zgs) (h : jv_0 (vw_v 6 zrg' zfl' ztk' zco' znx' zff' zfc') v') (hV : ∀ e', e' ≠ 6 → vw_v e' zrg' zfl' ztk' zco' znx' zff' zfc' = vw_v e' zrg zfl ztk zco znx zff zfc) {w' : Nat → SY} (h1 : w' 6 = v') (h2 : ∀ e', e' ≠ 6 → w' e' = w e') : rl_A w' zrg' zfl' ztk' zco' znx' zff' zfc' zhf zhn zcn zyn zrm zsc zrf zsu zss zph zsa zgc zgs := by
  obtain ⟨a0, a1, a2, a3, a4, a5, a6⟩ := A
  unfold rl_A
  rw [h1, h2 0 (by decide), h2 1 (by decide), h2 2 (by decide), h2 3 (by decide), h2 4 (by decide), h2 5 (by decide), hV 0 (by decide), hV 1 (by decide), hV 2 (by decide), hV 3 (by decide), hV 4 (by decide), hV 5 (by decide)]
  exact ⟨a0, a1, a2, a3, a4, a5, h⟩
theorem rl_mk1 {v' : SY} {zhf' zhn' : Int32} {zrg' zfl' ztk' zco' znx' zff' zfc' : Nat → Int32} (A : rl_A w zrg zfl ztk zco znx zff zfc zhf zhn zcn zyn zrm zsc zrf zsu zss zph zsa zgc zgs) (h : jv_1 (vw_v 1 zrg' zfl' ztk' zco' znx' zff' zfc') zhf' zhn' v') (hV : ∀ e', e' ≠ 1 → vw_v e' zrg' zfl' ztk' zco' znx' zff' zfc' = vw_v e' zrg zfl ztk zco znx zff zfc) {w' : Nat → SY} (h1 : w' 1 = v') (h2 : ∀ e', e' ≠ 1 → w' e' = w e') : rl_A w' zrg' zfl' ztk' zco' znx' zff' zfc' zhf' zhn' zcn zyn zrm zsc zrf zsu zss zph zsa zgc zgs := by
  obtain ⟨a0, a1, a2, a3, a4, a5, a6⟩ := A
  unfold rl_A
  rw [h1, h2 0 (by decide), h2 2 (by decide), h2 3 (by decide), h2 4 (by decide), h2 5 (by decide), h2 6 (by decide), hV 0 (by decide), hV 2 (by decide), hV 3 (by decide), hV 4 (by decide), hV 5 (by decide), hV 6 (by decide)]
  exact ⟨a0, h, a2, a3, a4, a5, a6⟩
theorem rl_mk2 {v' : SY} {zcn' : Int32} {zrg' zfl' ztk' zco' znx' zff' zfc' : Nat → Int32} (A : rl_A w zrg zfl ztk zco znx zff zfc zhf zhn zcn zyn zrm zsc zrf zsu zss zph zsa zgc zgs) (h : jv_2 (vw_v 2 zrg' zfl' ztk' zco' znx' zff' zfc') zcn' v') (hV : ∀ e', e' ≠ 2 → vw_v e' zrg' zfl' ztk' zco' znx' zff' zfc' = vw_v e' zrg zfl ztk zco znx zff zfc) {w' : Nat → SY} (h1 : w' 2 = v') (h2 : ∀ e', e' ≠ 2 → w' e' = w e') : rl_A w' zrg' zfl' ztk' zco' znx' zff' zfc' zhf zhn zcn' zyn zrm zsc zrf zsu zss zph zsa zgc zgs := by
  obtain ⟨a0, a1, a2, a3, a4, a5, a6⟩ := A
  unfold rl_A
  rw [h1, h2 0 (by decide), h2 1 (by decide), h2 3 (by decide), h2 4 (by decide), h2 5 (by decide), h2 6 (by decide), hV 0 (by decide), hV 1 (by decide), hV 3 (by decide), hV 4 (by decide), hV 5 (by decide), hV 6 (by decide)]
  exact ⟨a0, a1, h, a3, a4, a5, a6⟩
theorem rl_mk3 {v' : SY} {zyn' : Int32} {zrg' zfl' ztk' zco' znx' zff' zfc' zrm' : Nat → Int32} (A : rl_A w zrg zfl ztk zco znx zff zfc zhf zhn zcn zyn zrm zsc zrf zsu zss zph zsa zgc zgs) (h : jv_3 (vw_v 3 zrg' zfl' ztk' zco' znx' zff' zfc') zyn' zrm' v') (hV : ∀ e', e' ≠ 3 → vw_v e' zrg' zfl' ztk' zco' znx' zff' zfc' = vw_v e' zrg zfl ztk zco znx zff zfc) {w' : Nat → SY} (h1 : w' 3 = v') (h2 : ∀ e', e' ≠ 3 → w' e' = w e') : rl_A w' zrg' zfl' ztk' zco' znx' zff' zfc' zhf zhn zcn zyn' zrm' zsc zrf zsu zss zph zsa zgc zgs := by
  obtain ⟨a0, a1, a2, a3, a4, a5, a6⟩ := A
  unfold rl_A
  rw [h1, h2 0 (by decide), h2 1 (by decide), h2 2 (by decide), h2 4 (by decide), h2 5 (by decide), h2 6 (by decide), hV 0 (by decide), hV 1 (by decide), hV 2 (by decide), hV 4 (by decide), hV 5 (by decide), hV 6 (by decide)]
  exact ⟨a0, a1, a2, h, a4, a5, a6⟩
theorem rl_mk4 {v' : SY} {zsc' : Int32} {zrg' zfl' ztk' zco' znx' zff' zfc' zrf' zsu' zss' : Nat → Int32} (A : rl_A w zrg zfl ztk zco znx zff zfc zhf zhn zcn zyn zrm zsc zrf zsu zss zph zsa zgc zgs) (h : jv_4 (vw_v 4 zrg' zfl' ztk' zco' znx' zff' zfc') zsc' zrf' zsu' zss' v') (hV : ∀ e', e' ≠ 4 → vw_v e' zrg' zfl' ztk' zco' znx' zff' zfc' = vw_v e' zrg zfl ztk zco znx zff zfc) {w' : Nat → SY} (h1 : w' 4 = v') (h2 : ∀ e', e' ≠ 4 → w' e' = w e') : rl_A w' zrg' zfl' ztk' zco' znx' zff' zfc' zhf zhn zcn zyn zrm zsc' zrf' zsu' zss' zph zsa zgc zgs := by
  obtain ⟨a0, a1, a2, a3, a4, a5, a6⟩ := A
  unfold rl_A
  rw [h1, h2 0 (by decide), h2 1 (by decide), h2 2 (by decide), h2 3 (by decide), h2 5 (by decide), h2 6 (by decide), hV 0 (by decide), hV 1 (by decide), hV 2 (by decide), hV 3 (by decide), hV 5 (by decide), hV 6 (by decide)]
  exact ⟨a0, a1, a2, a3, h, a5, a6⟩
theorem rl_mk5 {v' : SY} {zph' zsa' zgc' : Int32} {zrg' zfl' ztk' zco' znx' zff' zfc' zgs' : Nat → Int32} (A : rl_A w zrg zfl ztk zco znx zff zfc zhf zhn zcn zyn zrm zsc zrf zsu zss zph zsa zgc zgs) (h : jv_5 (vw_v 5 zrg' zfl' ztk' zco' znx' zff' zfc') zph' zsa' zgc' zgs' v') (hV : ∀ e', e' ≠ 5 → vw_v e' zrg' zfl' ztk' zco' znx' zff' zfc' = vw_v e' zrg zfl ztk zco znx zff zfc) {w' : Nat → SY} (h1 : w' 5 = v') (h2 : ∀ e', e' ≠ 5 → w' e' = w e') : rl_A w' zrg' zfl' ztk' zco' znx' zff' zfc' zhf zhn zcn zyn zrm zsc zrf zsu zss zph' zsa' zgc' zgs' := by
  obtain ⟨a0, a1, a2, a3, a4, a5, a6⟩ := A
  unfold rl_A
  rw [h1, h2 0 (by decide), h2 1 (by decide), h2 2 (by decide), h2 3 (by decide), h2 4 (by decide), h2 6 (by decide), hV 0 (by decide), hV 1 (by decide), hV 2 (by decide), hV 3 (by decide), hV 4 (by decide), hV 6 (by decide)]
  exact ⟨a0, a1, a2, a3, a4, h, a6⟩
theorem rl_7 {P : Nat → Prop} (h0 : P 0) (h1 : P 1) (h2 : P 2) (h3 : P 3) (h4 : P 4) (h5 : P 5) (h6 : P 6) : ∀ e, e < 7 → P e := by
  intro e he
  rcases e with _ | _ | _ | _ | _ | _ | _ | e
  · exact h0
  · exact h1
  · exact h2
  · exact h3
  · exact h4
  · exact h5
  · exact h6
  · omega
theorem rl_iso (A : rl_A w zrg zfl ztk zco znx zff zfc zhf zhn zcn zyn zrm zsc zrf zsu zss zph zsa zgc zgs) : ∀ e, e < 7 → ∃ φ, is_I φ (vw_r zrg e) (vw_f zfl e) (w e) := by
  obtain ⟨a0, a1, a2, a3, a4, a5, a6⟩ := A
  refine rl_7 (P := fun e => ∃ φ, is_I φ (vw_r zrg e) (vw_f zfl e) (w e)) ?_ ?_ ?_ ?_ ?_ ?_ ?_
  · obtain ⟨φ, I, _⟩ := a0; exact ⟨φ, I⟩
  · obtain ⟨φ, _, _, I, _⟩ := a1; exact ⟨φ, I⟩
  · obtain ⟨φ, _, I, _⟩ := a2; exact ⟨φ, I⟩
  · obtain ⟨φ, _, I, _⟩ := a3; exact ⟨φ, I⟩
  · obtain ⟨φ, _, I, _⟩ := a4; exact ⟨φ, I⟩
  · obtain ⟨φ, _, _, _, _, I, _⟩ := a5; exact ⟨φ, I⟩
  · obtain ⟨φ, I, _⟩ := a6; exact ⟨φ, I⟩
/-- a register of one collector is given a content -/
theorem rl_set {post : SX → Prop} {r : Nat} {x y : Int32} {yr yf : Nat → Int32} (hr : r < 6) (A : rl_A w zrg zfl ztk zco znx zff zfc zhf zhn zcn zyn zrm zsc zrf zsu zss zph zsa zgc zgs) : ∀ e, e < 7 → w e = (yr, yf) → op_v (vw_r zrg e) (vw_f zfl e) (yr, yf) x y →
    (∀ (zhf' zhn' zcn' zyn' zsc' zph' zsa' zgc' zsd' zs2' : Int32) (zrg' zfl' ztk' zco' znx' zff' zfc' zmv' zrm' zrf' zsu' zss' zgs' zfa' zst' zt2' zse' zpa' zba' : Nat → Int32), (∀ w', w' e = (upd yr r y, yf) → (∀ e', e' ≠ e → w' e' = w e') → rl_A w' zrg' zfl' ztk' zco' znx' zff' zfc' zhf' zhn' zcn' zyn' zrm' zsc' zrf' zsu' zss' zph' zsa' zgc' zgs') → post (zhf', zhn', zcn', zyn', zsc', zph', zsa', zgc', zsd', zs2', zrg', zfl', ztk', zco', znx', zff', zfc', zmv', zrm', zrf', zsu', zss', zgs', zfa', zst', zt2', zse', zpa', zba')) → wpX_setRegister post (zhf, zhn, zcn, zyn, zsc, zph, zsa, zgc, zsd, zs2, zrg, zfl, ztk, zco, znx, zff, zfc, zmv, zrm, zrf, zsu, zss, zgs, zfa, zst, zt2, zse, zpa, zba) (nI e) (nI r) x := by
  obtain ⟨a0, a1, a2, a3, a4, a5, a6⟩ := id A
  refine rl_7 (P := fun e => w e = (yr, yf) → op_v (vw_r zrg e) (vw_f zfl e) (yr, yf) x y → (∀ (zhf' zhn' zcn' zyn' zsc' zph' zsa' zgc' zsd' zs2' : Int32) (zrg' zfl' ztk' zco' znx' zff' zfc' zmv' zrm' zrf' zsu' zss' zgs' zfa' zst' zt2' zse' zpa' zba' : Nat → Int32), (∀ w', w' e = (upd yr r y, yf) → (∀ e', e' ≠ e → w' e' = w e') → rl_A w' zrg' zfl' ztk' zco' znx' zff' zfc' zhf' zhn' zcn' zyn' zrm' zsc' zrf' zsu' zss' zph' zsa' zgc' zgs') → post (zhf', zhn', zcn', zyn', zsc', zph', zsa', zgc', zsd', zs2', zrg', zfl', ztk', zco', znx', zff', zfc', zmv', zrm', zrf', zsu', zss', zgs', zfa', zst', zt2', zse', zpa', zba')) → wpX_setRegister post (zhf, zhn, zcn, zyn, zsc, zph, zsa, zgc, zsd, zs2, zrg, zfl, ztk, zco, znx, zff, zfc, zmv, zrm, zrf, zsu, zss, zgs, zfa, zst, zt2, zse, zpa, zba) (nI e) (nI r) x) ?_ ?_ ?_ ?_ ?_ ?_ ?_
  · intro hw hv K
    rw [hw] at a0
    refine xr_set (e := 0) (by omega) (by omega) hr (K _ _ _ _ _ _ _ _ _ _ _ _ _ _ _ _ _ _ _ _ _ _ _ _ _ _ _ _ _ fun w' h1 h2 => ?_)
    refine rl_mk0 A ?_ (fun e' n => vw_v_rg (vw_r_o hr n)) h1 h2
    have := jc_0_set (r := r) a0 hv
    show jc_0 48 (vw_r (upd zrg (0 * 6 + r) x) 0) _ _ _ _ _ _ _
    rw [vw_r_s hr]; exact this
  · intro hw hv K
    rw [hw] at a1
    refine xr_set (e := 1) (by omega) (by omega) hr (K _ _ _ _ _ _ _ _ _ _ _ _ _ _ _ _ _ _ _ _ _ _ _ _ _ _ _ _ _ fun w' h1 h2 => ?_)
    refine rl_mk1 A ?_ (fun e' n => vw_v_rg (vw_r_o hr n)) h1 h2
    have := jc_1_set (r := r) a1 hv
    show jc_1 (vw_r (upd zrg (1 * 6 + r) x) 1) _ _ _ _
    rw [vw_r_s hr]; exact this
  · intro hw hv K
    rw [hw] at a2
    refine xr_set (e := 2) (by omega) (by omega) hr (K _ _ _ _ _ _ _ _ _ _ _ _ _ _ _ _ _ _ _ _ _ _ _ _ _ _ _ _ _ fun w' h1 h2 => ?_)
    refine rl_mk2 A ?_ (fun e' n => vw_v_rg (vw_r_o hr n)) h1 h2
    have := jc_2_set (r := r) a2 hv
    show jc_2 (vw_r (upd zrg (2 * 6 + r) x) 2) _ _ _ _
    rw [vw_r_s hr]; exact this
  · intro hw hv K
    rw [hw] at a3
    refine xr_set (e := 3) (by omega) (by omega) hr (K _ _ _ _ _ _ _ _ _ _ _ _ _ _ _ _ _ _ _ _ _ _ _ _ _ _ _ _ _ fun w' h1 h2 => ?_)
    refine rl_mk3 A ?_ (fun e' n => vw_v_rg (vw_r_o hr n)) h1 h2
    have := jc_3_set (r := r) a3 hv
    show jc_3 (vw_r (upd zrg (3 * 6 + r) x) 3) _ _ _ _ _ _ _ _ _
    rw [vw_r_s hr]; exact this
  · intro hw hv K
    rw [hw] at a4
    refine st_4 a4 hr hv fun zrf' zco' zsu' zss' zst' zfl' ztk' znx' zff' zfc' zsc' hj hW => ?_
    refine K _ _ _ _ _ _ _ _ _ _ _ _ _ _ _ _ _ _ _ _ _ _ _ _ _ _ _ _ _ fun w' h1 h2 => ?_
    refine rl_mk4 A ?_ hW h1 h2
    show jc_4 (vw_r (upd zrg (4 * 6 + r) x) 4) _ _ _ _ _ _ _ _ _ _ _
    rw [vw_r_s hr]; exact hj
  · intro hw hv K
    rw [hw] at a5
    refine xr_set (e := 5) (by omega) (by omega) hr (K _ _ _ _ _ _ _ _ _ _ _ _ _ _ _ _ _ _ _ _ _ _ _ _ _ _ _ _ _ fun w' h1 h2 => ?_)
    refine rl_mk5 A ?_ (fun e' n => vw_v_rg (vw_r_o hr n)) h1 h2
    have := jc_5_set (r := r) a5 hv
    show jc_5 (vw_r (upd zrg (5 * 6 + r) x) 5) _ _ _ _ _ _ _ _ _ _ _
    rw [vw_r_s hr]; exact this
  · intro hw hv K
    rw [hw] at a6
    refine xr_set (e := 6) (by omega) (by omega) hr (K _ _ _ _ _ _ _ _ _ _ _ _ _ _ _ _ _ _ _ _ _ _ _ _ _ _ _ _ _ fun w' h1 h2 => ?_)
    refine rl_mk6 A ?_ (fun e' n => vw_v_rg (vw_r_o hr n)) h1 h2
    have := jc_0_set (r := r) a6 hv
    show jc_0 48 (vw_r (upd zrg (6 * 6 + r) x) 6) _ _ _ _ _ _ _
    rw [vw_r_s hr]; exact this
/-- the steps of collector 5 -/
theorem rl_work {post : SX → Prop} {m : Nat} (hm : m < 100) (A : rl_A w zrg zfl ztk zco znx zff zfc zhf zhn zcn zyn zrm zsc zrf zsu zss zph zsa zgc zgs) (K : ∀ (zhf' zhn' zcn' zyn' zsc' zph' zsa' zgc' zsd' zs2' : Int32) (zrg' zfl' ztk' zco' znx' zff' zfc' zmv' zrm' zrf' zsu' zss' zgs' zfa' zst' zt2' zse' zpa' zba' : Nat → Int32), rl_A w zrg' zfl' ztk' zco' znx' zff' zfc' zhf' zhn' zcn' zyn' zrm' zsc' zrf' zsu' zss' zph' zsa' zgc' zgs' → post (zhf', zhn', zcn', zyn', zsc', zph', zsa', zgc', zsd', zs2', zrg', zfl', ztk', zco', znx', zff', zfc', zmv', zrm', zrf', zsu', zss', zgs', zfa', zst', zt2', zse', zpa', zba')) : wpX_workOn post (zhf, zhn, zcn, zyn, zsc, zph, zsa, zgc, zsd, zs2, zrg, zfl, ztk, zco, znx, zff, zfc, zmv, zrm, zrf, zsu, zss, zgs, zfa, zst, zt2, zse, zpa, zba) (nI m) := by
  have a5 := A.2.2.2.2.2.1
  refine xs_work hm a5 fun ztk' zco' znx' zff' zfc' zgs' zgc' zph' zsa' hj hV => ?_
  refine K _ _ _ _ _ _ _ _ _ _ _ _ _ _ _ _ _ _ _ _ _ _ _ _ _ _ _ _ _ ?_
  exact rl_mk5 A (show jv_5 _ _ _ _ _ (w 5) from hj) hV rfl (fun _ _ => rfl)
end RL
end
section
section RL
variable {zhf zhn zcn zyn zsc zph zsa zgc zsd zs2 : Int32} {zrg zfl ztk zco znx zff zfc zmv zrm zrf zsu zss zgs zfa zst zt2 zse zpa zba : Nat → Int32}
variable {w : Nat → SY}
theorem pt_3 {post : SX → Prop} {a p g : Nat} {x y : Int32} {yr yf : Nat → Int32} (h : jc_3 (vw_r zrg 3) (vw_f zfl 3) (vw_c ztk 3) (vw_c zco 3) (vw_c znx 3) (zff 3) (zfc 3) zyn (vw_s zrm) (yr, yf)) (hv : op_v (vw_r zrg 3) (vw_f zfl 3) (yr, yf) x y) (hp : op_a (vw_r zrg 3) (vw_f zfl 3) (yr, yf) a p) (hg : g < 3)
    (K : ∀ zfl' zrm', jc_3 (vw_r zrg 3) (vw_f zfl' 3) (vw_c ztk 3) (vw_c zco 3) (vw_c znx 3) (zff 3) (zfc 3) zyn (vw_s zrm') (yr, upd yf (3 * p + g) y) → (∀ e', e' ≠ 3 → vw_v e' zrg zfl' ztk zco znx zff zfc = vw_v e' zrg zfl ztk zco znx zff zfc) → post (zhf, zhn, zcn, zyn, zsc, zph, zsa, zgc, zsd, zs2, zrg, zfl', ztk, zco, znx, zff, zfc, zmv, zrm', zrf, zsu, zss, zgs, zfa, zst, zt2, zse, zpa, zba)) :
    wpX_setField post (zhf, zhn, zcn, zyn, zsc, zph, zsa, zgc, zsd, zs2, zrg, zfl, ztk, zco, znx, zff, zfc, zmv, zrm, zrf, zsu, zss, zgs, zfa, zst, zt2, zse, zpa, zba) 3 (nI a) (nI g) x := by
  obtain ⟨φ, n, I, _⟩ := id h
  have hXa : gr_X (vw_r zrg 3) (vw_f zfl 3) a := (is_X I a).mpr ⟨p, hp.1, (hp.2 φ I).symm⟩
  have ha : a < 96 := ((is_G I).2.2 a hXa).2
  have hwf := op_wf I hv
  unfold wpX_setField
  refine xp_fieldOf (e := 3) (by omega) ha hg ?_
  refine br_f (by decide) ?_
  refine xp_store (e := 3) (by omega) ha hg fun zfl' f1 f2 => ?_
  refine br_f (by decide) (br_t rfl ⟨vp_in_nI ha (by omega), ?_⟩)
  rw [nI_clamp (by omega), na_f, na_t]
  have hrm : vw_s zrm a = zrm a := vw_s_at ha
  have fin : ∀ b : Int32, (a ≤ 64 → (zrm a ≠ 0 → b ≠ 0) ∧ (∀ d, 65 ≤ d → d < 96 → x = nI (2 * d) → b ≠ 0)) → post (zhf, zhn, zcn, zyn, zsc, zph, zsa, zgc, zsd, zs2, zrg, zfl', ztk, zco, znx, zff, zfc, zmv, upd zrm a b, zrf, zsu, zss, zgs, zfa, zst, zt2, zse, zpa, zba) := by
    intro b hb
    refine K zfl' _ ?_ (fun e' n => vw_v_fl (f2 e' n))
    rw [f1]
    refine jc_3_put h hv hp hg (fun d hd => by rw [vw_s_s ha, pk_un hd]) fun h64 => ?_
    rw [vw_s_s ha, pk_us, hrm]
    exact hb h64
  by_cases r0 : zrm a = 0
  · refine br_t r0 ?_
    by_cases h64 : 64 < a
    · exact br_t (nI_lt (a := 64) h64 (by omega)) ⟨vp_in_nI ha (by omega), nm_e (fin 0 fun z => by omega)⟩
    · refine br_f (nI_nlt (a := 64) (by omega) (by omega)) ?_
      rcases hwf with ho | ⟨d, hd, e⟩
      · exact xn_old (Or.inl ho) (br_t rfl ⟨vp_in_nI ha (by omega), nm_e (fin 0 fun _ => ⟨fun z => absurd r0 z, fun d _ hd e => absurd e (gr_odne ho (by omega))⟩)⟩)
      · have hd9 := ((is_G I).2.2 d hd).2
        by_cases h65 : d < 65
        · exact xn_old (Or.inr ⟨d, h65, e⟩) (br_t rfl ⟨vp_in_nI ha (by omega), nm_e (fin 0 fun _ => ⟨fun z => absurd r0 z, fun d' q1 q2 e' => by have := na_inj2 hd9 q2 (e.symm.trans e'); omega⟩)⟩)
        · subst e
          exact xn_new (by omega) hd9 (br_f na_n10 ⟨vp_in_nI ha (by omega), nm_e (fin 1 fun _ => ⟨fun _ => na_n10, fun _ _ _ _ => na_n10⟩)⟩)
  · exact br_f r0 ⟨vp_in_nI ha (by omega), nm_e (fin 1 fun _ => ⟨fun _ => na_n10, fun _ _ _ _ => na_n10⟩)⟩
/-- a field of one collector's cell is given a content -/
theorem rl_put {post : SX → Prop} {a p g : Nat} {x y : Int32} {yr yf : Nat → Int32} (hg : g < 3) (A : rl_A w zrg zfl ztk zco znx zff zfc zhf zhn zcn zyn zrm zsc zrf zsu zss zph zsa zgc zgs) : ∀ e, e < 7 → w e = (yr, yf) → op_v (vw_r zrg e) (vw_f zfl e) (yr, yf) x y → op_a (vw_r zrg e) (vw_f zfl e) (yr, yf) a p →
    (∀ (zhf' zhn' zcn' zyn' zsc' zph' zsa' zgc' zsd' zs2' : Int32) (zrg' zfl' ztk' zco' znx' zff' zfc' zmv' zrm' zrf' zsu' zss' zgs' zfa' zst' zt2' zse' zpa' zba' : Nat → Int32), (∀ w', w' e = (yr, upd yf (3 * p + g) y) → (∀ e', e' ≠ e → w' e' = w e') → rl_A w' zrg' zfl' ztk' zco' znx' zff' zfc' zhf' zhn' zcn' zyn' zrm' zsc' zrf' zsu' zss' zph' zsa' zgc' zgs') → post (zhf', zhn', zcn', zyn', zsc', zph', zsa', zgc', zsd', zs2', zrg', zfl', ztk', zco', znx', zff', zfc', zmv', zrm', zrf', zsu', zss', zgs', zfa', zst', zt2', zse', zpa', zba')) → wpX_setField post (zhf, zhn, zcn, zyn, zsc, zph, zsa, zgc, zsd, zs2, zrg, zfl, ztk, zco, znx, zff, zfc, zmv, zrm, zrf, zsu, zss, zgs, zfa, zst, zt2, zse, zpa, zba) (nI e) (nI a) (nI g) x := by
  obtain ⟨a0, a1, a2, a3, a4, a5, a6⟩ := id A
  have cell : ∀ e, e < 7 → w e = (yr, yf) → op_a (vw_r zrg e) (vw_f zfl e) (yr, yf) a p → a < 96 := fun e he hw hp => by
    obtain ⟨φ, I⟩ := rl_iso A e he
    rw [hw] at I
    rw [hp.2 φ I]; exact (I.2.2.2 p hp.1).2
  refine rl_7 (P := fun e => w e = (yr, yf) → op_v (vw_r zrg e) (vw_f zfl e) (yr, yf) x y → op_a (vw_r zrg e) (vw_f zfl e) (yr, yf) a p → (∀ (zhf' zhn' zcn' zyn' zsc' zph' zsa' zgc' zsd' zs2' : Int32) (zrg' zfl' ztk' zco' znx' zff' zfc' zmv' zrm' zrf' zsu' zss' zgs' zfa' zst' zt2' zse' zpa' zba' : Nat → Int32), (∀ w', w' e = (yr, upd yf (3 * p + g) y) → (∀ e', e' ≠ e → w' e' = w e') → rl_A w' zrg' zfl' ztk' zco' znx' zff' zfc' zhf' zhn' zcn' zyn' zrm' zsc' zrf' zsu' zss' zph' zsa' zgc' zgs') → post (zhf', zhn', zcn', zyn', zsc', zph', zsa', zgc', zsd', zs2', zrg', zfl', ztk', zco', znx', zff', zfc', zmv', zrm', zrf', zsu', zss', zgs', zfa', zst', zt2', zse', zpa', zba')) → wpX_setField post (zhf, zhn, zcn, zyn, zsc, zph, zsa, zgc, zsd, zs2, zrg, zfl, ztk, zco, znx, zff, zfc, zmv, zrm, zrf, zsu, zss, zgs, zfa, zst, zt2, zse, zpa, zba) (nI e) (nI a) (nI g) x) ?_ ?_ ?_ ?_ ?_ ?_ ?_
  · intro hw hv hp K
    have ha := cell 0 (by omega) hw hp
    rw [hw] at a0
    refine xr_put (e := 0) (by omega) (by omega) (by omega) (by omega) ha hg fun zfl' f1 f2 => ?_
    refine K _ _ _ _ _ _ _ _ _ _ _ _ _ _ _ _ _ _ _ _ _ _ _ _ _ _ _ _ _ fun w' h1 h2 => ?_
    refine rl_mk0 A ?_ (fun e' n => vw_v_fl (f2 e' n)) h1 h2
    have := jc_0_put a0 hv hp hg
    show jc_0 48 (vw_r zrg 0) (vw_f zfl' 0) _ _ _ _ _ _
    rw [f1]; exact this
  · intro hw hv hp K
    have ha := cell 1 (by omega) hw hp
    rw [hw] at a1
    refine xr_put (e := 1) (by omega) (by omega) (by omega) (by omega) ha hg fun zfl' f1 f2 => ?_
    refine K _ _ _ _ _ _ _ _ _ _ _ _ _ _ _ _ _ _ _ _ _ _ _ _ _ _ _ _ _ fun w' h1 h2 => ?_
    refine rl_mk1 A ?_ (fun e' n => vw_v_fl (f2 e' n)) h1 h2
    have := jc_1_put a1 hv hp hg
    show jc_1 (vw_r zrg 1) (vw_f zfl' 1) _ _ _
    rw [f1]; exact this
  · intro hw hv hp K
    have ha := cell 2 (by omega) hw hp
    rw [hw] at a2
    refine xr_put (e := 2) (by omega) (by omega) (by omega) (by omega) ha hg fun zfl' f1 f2 => ?_
    refine K _ _ _ _ _ _ _ _ _ _ _ _ _ _ _ _ _ _ _ _ _ _ _ _ _ _ _ _ _ fun w' h1 h2 => ?_
    refine rl_mk2 A ?_ (fun e' n => vw_v_fl (f2 e' n)) h1 h2
    have := jc_2_put a2 hv hp hg
    show jc_2 (vw_r zrg 2) (vw_f zfl' 2) _ _ _
    rw [f1]; exact this
  · intro hw hv hp K
    rw [hw] at a3
    refine pt_3 a3 hv hp hg fun zfl' zrm' hj hV => ?_
    refine K _ _ _ _ _ _ _ _ _ _ _ _ _ _ _ _ _ _ _ _ _ _ _ _ _ _ _ _ _ fun w' h1 h2 => ?_
    exact rl_mk3 A (show jv_3 _ _ _ _ from hj) hV h1 h2
  · intro hw hv hp K
    rw [hw] at a4
    refine pt_4 a4 hg hv hp fun zrf' zco' zsu' zss' zst' zfl' ztk' znx' zff' zfc' zsc' hj hV => ?_
    refine K _ _ _ _ _ _ _ _ _ _ _ _ _ _ _ _ _ _ _ _ _ _ _ _ _ _ _ _ _ fun w' h1 h2 => ?_
    exact rl_mk4 A (show jv_4 _ _ _ _ _ _ from hj) hV h1 h2
  · intro hw hv hp K
    rw [hw] at a5
    refine pt_5 a5 hv hp hg fun zfl' zco' zgs' zgc' hj hV => ?_
    refine K _ _ _ _ _ _ _ _ _ _ _ _ _ _ _ _ _ _ _ _ _ _ _ _ _ _ _ _ _ fun w' h1 h2 => ?_
    exact rl_mk5 A (show jv_5 _ _ _ _ _ _ from hj) hV h1 h2
  · intro hw hv hp K
    have ha := cell 6 (by omega) hw hp
    rw [hw] at a6
    refine xr_put (e := 6) (by omega) (by omega) (by omega) (by omega) ha hg fun zfl' f1 f2 => ?_
    refine K _ _ _ _ _ _ _ _ _ _ _ _ _ _ _ _ _ _ _ _ _ _ _ _ _ _ _ _ _ fun w' h1 h2 => ?_
    refine rl_mk6 A ?_ (fun e' n => vw_v_fl (f2 e' n)) h1 h2
    have := jc_0_put a6 hv hp hg
    show jc_0 48 (vw_r zrg 6) (vw_f zfl' 6) _ _ _ _ _ _
    rw [f1]; exact this
/-- a new cell of one collector goes to a register -/
theorem rl_new {post : SX → Prop} {post2 : Int32 → SX → Prop} {r p : Nat} {yr yf yf' : Nat → Int32} (hr : r < 6) (A : rl_A w zrg zfl ztk zco znx zff zfc zhf zhn zcn zyn zrm zsc zrf zsu zss zph zsa zgc zgs) (hn : op_n yr yf yf' p) (h24 : ct_c (yy_X (yr, yf)) 48 < 24) : ∀ e, e < 7 → w e = (yr, yf) →
    (∀ (a : Nat) (zhf' zhn' zcn' zyn' zsc' zph' zsa' zgc' zsd' zs2' : Int32) (zrg' zfl' ztk' zco' znx' zff' zfc' zmv' zrm' zrf' zsu' zss' zgs' zfa' zst' zt2' zse' zpa' zba' : Nat → Int32), wpX_setRegister post (zhf', zhn', zcn', zyn', zsc', zph', zsa', zgc', zsd', zs2', zrg', zfl', ztk', zco', znx', zff', zfc', zmv', zrm', zrf', zsu', zss', zgs', zfa', zst', zt2', zse', zpa', zba') (nI e) (nI r) (2 * nI a) → post2 (nI a) (zhf', zhn', zcn', zyn', zsc', zph', zsa', zgc', zsd', zs2', zrg', zfl', ztk', zco', znx', zff', zfc', zmv', zrm', zrf', zsu', zss', zgs', zfa', zst', zt2', zse', zpa', zba')) →
    (∀ (zhf' zhn' zcn' zyn' zsc' zph' zsa' zgc' zsd' zs2' : Int32) (zrg' zfl' ztk' zco' znx' zff' zfc' zmv' zrm' zrf' zsu' zss' zgs' zfa' zst' zt2' zse' zpa' zba' : Nat → Int32), (∀ w', w' e = (upd yr r (nI (10000 + p)), yf') → (∀ e', e' ≠ e → w' e' = w e') → rl_A w' zrg' zfl' ztk' zco' znx' zff' zfc' zhf' zhn' zcn' zyn' zrm' zsc' zrf' zsu' zss' zph' zsa' zgc' zgs') → post (zhf', zhn', zcn', zyn', zsc', zph', zsa', zgc', zsd', zs2', zrg', zfl', ztk', zco', znx', zff', zfc', zmv', zrm', zrf', zsu', zss', zgs', zfa', zst', zt2', zse', zpa', zba')) → wpX_newCell post2 (zhf, zhn, zcn, zyn, zsc, zph, zsa, zgc, zsd, zs2, zrg, zfl, ztk, zco, znx, zff, zfc, zmv, zrm, zrf, zsu, zss, zgs, zfa, zst, zt2, zse, zpa, zba) (nI e) := by
  obtain ⟨a0, a1, a2, a3, a4, a5, a6⟩ := id A
  refine rl_7 (P := fun e => w e = (yr, yf) → (∀ (a : Nat) (zhf' zhn' zcn' zyn' zsc' zph' zsa' zgc' zsd' zs2' : Int32) (zrg' zfl' ztk' zco' znx' zff' zfc' zmv' zrm' zrf' zsu' zss' zgs' zfa' zst' zt2' zse' zpa' zba' : Nat → Int32), wpX_setRegister post (zhf', zhn', zcn', zyn', zsc', zph', zsa', zgc', zsd', zs2', zrg', zfl', ztk', zco', znx', zff', zfc', zmv', zrm', zrf', zsu', zss', zgs', zfa', zst', zt2', zse', zpa', zba') (nI e) (nI r) (2 * nI a) → post2 (nI a) (zhf', zhn', zcn', zyn', zsc', zph', zsa', zgc', zsd', zs2', zrg', zfl', ztk', zco', znx', zff', zfc', zmv', zrm', zrf', zsu', zss', zgs', zfa', zst', zt2', zse', zpa', zba')) →
    (∀ (zhf' zhn' zcn' zyn' zsc' zph' zsa' zgc' zsd' zs2' : Int32) (zrg' zfl' ztk' zco' znx' zff' zfc' zmv' zrm' zrf' zsu' zss' zgs' zfa' zst' zt2' zse' zpa' zba' : Nat → Int32), (∀ w', w' e = (upd yr r (nI (10000 + p)), yf') → (∀ e', e' ≠ e → w' e' = w e') → rl_A w' zrg' zfl' ztk' zco' znx' zff' zfc' zhf' zhn' zcn' zyn' zrm' zsc' zrf' zsu' zss' zph' zsa' zgc' zgs') → post (zhf', zhn', zcn', zyn', zsc', zph', zsa', zgc', zsd', zs2', zrg', zfl', ztk', zco', znx', zff', zfc', zmv', zrm', zrf', zsu', zss', zgs', zfa', zst', zt2', zse', zpa', zba')) → wpX_newCell post2 (zhf, zhn, zcn, zyn, zsc, zph, zsa, zgc, zsd, zs2, zrg, zfl, ztk, zco, znx, zff, zfc, zmv, zrm, zrf, zsu, zss, zgs, zfa, zst, zt2, zse, zpa, zba) (nI e)) ?_ ?_ ?_ ?_ ?_ ?_ ?_
  · intro hw hp K
    rw [hw] at a0
    refine nw_0 a0 hn h24 fun a zsd' zst' zco' znx' ztk' zff' zfc' zfl' h1 h2 hj hV => ?_
    refine hp a _ _ _ _ _ _ _ _ _ _ _ _ _ _ _ _ _ _ _ _ _ _ _ _ _ _ _ _ _ ?_
    rw [na_d]
    refine xr_set (e := 0) (by omega) (by omega) hr (K _ _ _ _ _ _ _ _ _ _ _ _ _ _ _ _ _ _ _ _ _ _ _ _ _ _ _ _ _ fun w' k1 k2 => ?_)
    refine rl_mk0 A ?_ (fun e' n => (vw_v_rg (vw_r_o hr n)).trans (hV e' n)) k1 k2
    show jc_0 48 (vw_r (upd zrg (0 * 6 + r) (nI (2 * a))) 0) _ _ _ _ _ _ _
    rw [vw_r_s hr]; exact hj r
  · intro hw hp K
    rw [hw] at a1
    refine nw_1 a1 hn h24 fun a zmv' zrg' zhf' zhn' zfl' h1 h2 hj hV => ?_
    refine hp a _ _ _ _ _ _ _ _ _ _ _ _ _ _ _ _ _ _ _ _ _ _ _ _ _ _ _ _ _ ?_
    rw [na_d]
    refine xr_set (e := 1) (by omega) (by omega) hr (K _ _ _ _ _ _ _ _ _ _ _ _ _ _ _ _ _ _ _ _ _ _ _ _ _ _ _ _ _ fun w' k1 k2 => ?_)
    refine rl_mk1 A ?_ (fun e' n => (vw_v_rg (vw_r_o hr n)).trans (hV e' n)) k1 k2
    show jc_1 (vw_r (upd zrg' (1 * 6 + r) (nI (2 * a))) 1) _ _ _ _
    rw [vw_r_s hr]; exact hj r
  · intro hw hp K
    rw [hw] at a2
    refine nw_2 a2 hn h24 fun a zsd' zst' zmv' zrg' zcn' zco' zfl' h1 h2 hj hV => ?_
    refine hp a _ _ _ _ _ _ _ _ _ _ _ _ _ _ _ _ _ _ _ _ _ _ _ _ _ _ _ _ _ ?_
    rw [na_d]
    refine xr_set (e := 2) (by omega) (by omega) hr (K _ _ _ _ _ _ _ _ _ _ _ _ _ _ _ _ _ _ _ _ _ _ _ _ _ _ _ _ _ fun w' k1 k2 => ?_)
    refine rl_mk2 A ?_ (fun e' n => (vw_v_rg (vw_r_o hr n)).trans (hV e' n)) k1 k2
    show jc_2 (vw_r (upd zrg' (2 * 6 + r) (nI (2 * a))) 2) _ _ _ _
    rw [vw_r_s hr]; exact hj r
  · intro hw hp K
    rw [hw] at a3
    refine nw_3 a3 hn h24 fun a zsd' zyn' zmv' zst' ztk' zco' znx' zff' zfc' zfl' zrm' zrg' h1 h2 hj hV => ?_
    refine hp a _ _ _ _ _ _ _ _ _ _ _ _ _ _ _ _ _ _ _ _ _ _ _ _ _ _ _ _ _ ?_
    rw [na_d]
    refine xr_set (e := 3) (by omega) (by omega) hr (K _ _ _ _ _ _ _ _ _ _ _ _ _ _ _ _ _ _ _ _ _ _ _ _ _ _ _ _ _ fun w' k1 k2 => ?_)
    refine rl_mk3 A ?_ (fun e' n => (vw_v_rg (vw_r_o hr n)).trans (hV e' n)) k1 k2
    show jc_3 (vw_r (upd zrg' (3 * 6 + r) (nI (2 * a))) 3) _ _ _ _ _ _ _ _ _
    rw [vw_r_s hr]; exact hj r
  · intro hw hp K
    rw [hw] at a4
    refine nw_4 a4 h24 fun a zfl' ztk' zco' znx' zff' zfc' zrf' zst' zsu' zss' zt2' zs2' zsd' zsc' h1 h2 hj hV => ?_
    refine hp a _ _ _ _ _ _ _ _ _ _ _ _ _ _ _ _ _ _ _ _ _ _ _ _ _ _ _ _ _ ?_
    rw [na_d]
    refine st_4n hj hr h1 h2 hn fun zrf2 zco2 zsu2 zss2 zst2 zfl2 ztk2 znx2 zff2 zfc2 zsc2 hj2 hW => ?_
    refine K _ _ _ _ _ _ _ _ _ _ _ _ _ _ _ _ _ _ _ _ _ _ _ _ _ _ _ _ _ fun w' k1 k2 => ?_
    refine rl_mk4 A ?_ (fun e' n => (hW e' n).trans (hV e' n)) k1 k2
    show jc_4 (vw_r (upd zrg (4 * 6 + r) (nI (2 * a))) 4) _ _ _ _ _ _ _ _ _ _ _
    rw [vw_r_s hr]; exact hj2
  · intro hw hp K
    rw [hw] at a5
    refine nw_5 a5 hn h24 fun a ztk' zco' znx' zff' zfc' zfl' zgs' zgc' zph' zsa' h1 h2 hj hV => ?_
    refine hp a _ _ _ _ _ _ _ _ _ _ _ _ _ _ _ _ _ _ _ _ _ _ _ _ _ _ _ _ _ ?_
    rw [na_d]
    refine xr_set (e := 5) (by omega) (by omega) hr (K _ _ _ _ _ _ _ _ _ _ _ _ _ _ _ _ _ _ _ _ _ _ _ _ _ _ _ _ _ fun w' k1 k2 => ?_)
    refine rl_mk5 A ?_ (fun e' n => (vw_v_rg (vw_r_o hr n)).trans (hV e' n)) k1 k2
    show jc_5 (vw_r (upd zrg (5 * 6 + r) (nI (2 * a))) 5) _ _ _ _ _ _ _ _ _ _ _
    rw [vw_r_s hr]; exact hj r
  · intro hw hp K
    rw [hw] at a6
    refine nw_6 a6 hn h24 fun a zfa' zco' znx' ztk' zff' zfc' zfl' h1 h2 hj hV => ?_
    refine hp a _ _ _ _ _ _ _ _ _ _ _ _ _ _ _ _ _ _ _ _ _ _ _ _ _ _ _ _ _ ?_
    rw [na_d]
    refine xr_set (e := 6) (by omega) (by omega) hr (K _ _ _ _ _ _ _ _ _ _ _ _ _ _ _ _ _ _ _ _ _ _ _ _ _ _ _ _ _ fun w' k1 k2 => ?_)
    refine rl_mk6 A ?_ (fun e' n => (vw_v_rg (vw_r_o hr n)).trans (hV e' n)) k1 k2
    show jc_0 48 (vw_r (upd zrg (6 * 6 + r) (nI (2 * a))) 6) _ _ _ _ _ _ _
    rw [vw_r_s hr]; exact hj r
end RL
end
section
/-- the relation: the reference's graph, seven times -/
def i_Rel (k : Nat) (u : SX) (v : SY) : Prop := match u with
  | (zhf, zhn, zcn, zyn, zsc, zph, zsa, zgc, zsd, zs2, zrg, zfl, ztk, zco, znx, zff, zfc, zmv, zrm, zrf, zsu, zss, zgs, zfa, zst, zt2, zse, zpa, zba) => rl_A (fun _ => v) zrg zfl ztk zco znx zff zfc zhf zhn zcn zyn zrm zsc zrf zsu zss zph zsa zgc zgs ∧ ct_c (yy_X v) 48 ≤ 24
theorem i_up {k : Nat} {u : SX} {v : SY} (h : i_Rel k u v) : i_Rel (k + 4) u v := h
theorem rl_el {P : SX → SY → Prop} (h : ∀ (zhf zhn zcn zyn zsc zph zsa zgc zsd zs2 : Int32) (zrg zfl ztk zco znx zff zfc zmv zrm zrf zsu zss zgs zfa zst zt2 zse zpa zba yr yf : Nat → Int32), rl_A (fun _ => (yr, yf)) zrg zfl ztk zco znx zff zfc zhf zhn zcn zyn zrm zsc zrf zsu zss zph zsa zgc zgs → ct_c (yy_X (yr, yf)) 48 ≤ 24 → P (zhf, zhn, zcn, zyn, zsc, zph, zsa, zgc, zsd, zs2, zrg, zfl, ztk, zco, znx, zff, zfc, zmv, zrm, zrf, zsu, zss, zgs, zfa, zst, zt2, zse, zpa, zba) (yr, yf)) {k : Nat} {u : SX} {v : SY} (I : i_Rel k u v) : P u v :=
  match u, v, I with
  | (zhf, zhn, zcn, zyn, zsc, zph, zsa, zgc, zsd, zs2, zrg, zfl, ztk, zco, znx, zff, zfc, zmv, zrm, zrf, zsu, zss, zgs, zfa, zst, zt2, zse, zpa, zba), (yr, yf), I => h _ _ _ _ _ _ _ _ _ _ _ _ _ _ _ _ _ _ _ _ _ _ _ _ _ _ _ _ _ _ _ I.1 I.2
/-! arguments -/
theorem ar_c (x : Int32) {n : Nat} (h0 : 0 < n) (hn : n < 100) : (x < 0 ∨ (¬ x < 0 ∧ nI n ≤ x ∧ nI (n - 1) < x)) ∨ ∃ j, j < n ∧ x = nI j := by
  rcases pk_ix x (n := n) (by omega) with z | z | z
  · exact Or.inl (Or.inl z)
  · left; right
    have h1 := Int32.le_iff_toInt_le.mp z
    rw [nI_toInt (by omega)] at h1
    refine ⟨fun w => ?_, z, ?_⟩
    · have h2 := Int32.lt_iff_toInt_lt.mp w
      have h3 : (0 : Int32).toInt = 0 := by decide
      omega
    · rw [Int32.lt_iff_toInt_lt, nI_toInt (by omega)]; omega
  · exact Or.inr z
theorem ar_rx {post : Int32 → Prop} {r : Nat} (h : r < 6) (k : post 1) : wpX_isRegister post (nI r) := br_f (nI_pos (by omega)) (br_f (nI_ge (b := 6) h (by omega)) k)
theorem ar_rxn {post : Int32 → Prop} {x : Int32} (h : x < 0 ∨ (¬ x < 0 ∧ nI 6 ≤ x ∧ nI (6 - 1) < x)) (k : post 0) : wpX_isRegister post x := h.elim (fun z => br_t z k) fun z => br_f z.1 (br_t z.2.1 k)
theorem ar_fx {post : Int32 → Prop} {r : Nat} (h : r < 3) (k : post 1) : wpX_isField post (nI r) := br_f (nI_pos (by omega)) (br_f (nI_ge (b := 3) h (by omega)) k)
theorem ar_fxn {post : Int32 → Prop} {x : Int32} (h : x < 0 ∨ (¬ x < 0 ∧ nI 3 ≤ x ∧ nI (3 - 1) < x)) (k : post 0) : wpX_isField post x := h.elim (fun z => br_t z k) fun z => br_f z.1 (br_t z.2.1 k)
theorem ar_cx {post : Int32 → Prop} {r : Nat} (h : r < 7) (k : post 1) : wpX_isCollector post (nI r) := br_f (nI_pos (by omega)) (br_f (nI_ge (b := 7) h (by omega)) k)
theorem ar_cxn {post : Int32 → Prop} {x : Int32} (h : x < 0 ∨ (¬ x < 0 ∧ nI 7 ≤ x ∧ nI (7 - 1) < x)) (k : post 0) : wpX_isCollector post x := h.elim (fun z => br_t z k) fun z => br_f z.1 (br_t z.2.1 k)
section AY
variable {yr yf : Nat → Int32}
theorem ar_ry {post : Int32 → Prop} {r : Nat} (h : r < 6) (k : post 1) : wpY_isRegister post (yr, yf) (nI r) := br_f (nI_pos (by omega)) (br_f (nI_nlt (a := 5) (by omega) (by omega)) k)
theorem ar_ryn {post : Int32 → Prop} {x : Int32} (h : x < 0 ∨ (¬ x < 0 ∧ nI 6 ≤ x ∧ nI (6 - 1) < x)) (k : post 0) : wpY_isRegister post (yr, yf) x := h.elim (fun z => br_t z k) fun z => br_f z.1 (br_t z.2.2 k)
theorem ar_fy {post : Int32 → Prop} {r : Nat} (h : r < 3) (k : post 1) : wpY_isField post (yr, yf) (nI r) := br_f (nI_pos (by omega)) (br_f (nI_nlt (a := 2) (by omega) (by omega)) k)
theorem ar_fyn {post : Int32 → Prop} {x : Int32} (h : x < 0 ∨ (¬ x < 0 ∧ nI 3 ≤ x ∧ nI (3 - 1) < x)) (k : post 0) : wpY_isField post (yr, yf) x := h.elim (fun z => br_t z k) fun z => br_f z.1 (br_t z.2.2 k)
theorem ar_cy {post : Int32 → Prop} {r : Nat} (h : r < 7) (k : post 1) : wpY_isCollector post (yr, yf) (nI r) := br_f (nI_pos (by omega)) (br_f (nI_nlt (a := 6) (by omega) (by omega)) k)
theorem ar_cyn {post : Int32 → Prop} {x : Int32} (h : x < 0 ∨ (¬ x < 0 ∧ nI 7 ≤ x ∧ nI (7 - 1) < x)) (k : post 0) : wpY_isCollector post (yr, yf) x := h.elim (fun z => br_t z k) fun z => br_f z.1 (br_t z.2.2 k)
theorem ar_hyn {post : Int32 → Prop} {x : Int32} (h : x < 0 ∨ (¬ x < 0 ∧ nI 6 ≤ x ∧ nI (6 - 1) < x)) (k : post 0) : wpY_holds post (yr, yf) x := by
  unfold wpY_holds
  refine ar_ryn h ?_
  exact br_t rfl k
theorem ar_h0 {post : Int32 → Prop} {r : Nat} (h : r < 6) (hy : -999 ≤ yr r ∧ yr r ≤ 999) (k : post 0) : wpY_holds post (yr, yf) (nI r) := by
  unfold wpY_holds
  refine ar_ry h ?_
  refine br_f na_n10 ⟨vp_in_nI h (by omega), ?_⟩
  rw [nI_clamp (by omega)]
  exact br_t (yy_num hy) (br_t rfl k)
theorem ar_h1 {post : Int32 → Prop} {r p : Nat} (h : r < 6) (hp : p < 48) (hy : yr r = nI (10000 + p)) (k : post 1) : wpY_holds post (yr, yf) (nI r) := by
  unfold wpY_holds
  refine ar_ry h ?_
  refine br_f na_n10 ⟨vp_in_nI h (by omega), ?_⟩
  rw [nI_clamp (by omega), hy]
  exact br_f (yy_ge hp) (br_f na_n10 k)
theorem ar_pl {post : Int32 → Prop} {r p f : Nat} (h : r < 6) (hp : p < 48) (hy : yr r = nI (10000 + p)) (k : post (nI (3 * p + f))) : wpY_place post (yr, yf) (nI r) (nI f) := by
  show vp_in (nI r) 6 ∧ post ((3 * (yr (nI r).toNatClampNeg - 10000)) + nI f)
  refine ⟨vp_in_nI h (by omega), ?_⟩
  have e : nI (10000 + p) - 10000 = nI p := by
    rw [show (10000 : Int32) = nI 10000 from rfl, pk_sub (by omega)]; congr 1; omega
  rw [nI_clamp (by omega), hy, e, show (3 : Int32) = nI 3 from rfl, pk_mul, nI_add]
  exact k
end AY
/-! a call runs over the seven -/
def rl_m (v v' : SY) (e e' : Nat) : SY := if e' < e then v' else v
theorem rl_me {v v' : SY} {e : Nat} : rl_m v v' e e = v := if_neg (by omega)
theorem rl_ms {v v' : SY} {e : Nat} : rl_m v v' (e + 1) e = v' := if_pos (by omega)
theorem rl_mo {v v' : SY} {e e' : Nat} (h : e' ≠ e) : rl_m v v' (e + 1) e' = rl_m v v' e e' := by
  unfold rl_m
  by_cases z : e' < e
  · rw [if_pos z, if_pos (by omega)]
  · rw [if_neg z, if_neg (by omega)]
section RC
variable {zhf zhn zcn zyn zsc zph zsa zgc zsd zs2 : Int32} {zrg zfl ztk zco znx zff zfc zmv zrm zrf zsu zss zgs zfa zst zt2 zse zpa zba : Nat → Int32}
variable {yr yf : Nat → Int32}
theorem rl_congr {w w' : Nat → SY} (A : rl_A w zrg zfl ztk zco znx zff zfc zhf zhn zcn zyn zrm zsc zrf zsu zss zph zsa zgc zgs) (h : ∀ e, e < 7 → w' e = w e) : rl_A w' zrg zfl ztk zco znx zff zfc zhf zhn zcn zyn zrm zsc zrf zsu zss zph zsa zgc zgs := by
  unfold rl_A at A ⊢
  rw [h 0 (by omega), h 1 (by omega), h 2 (by omega), h 3 (by omega), h 4 (by omega), h 5 (by omega), h 6 (by omega)]
  exact A
theorem rl_m0 {v v' : SY} (A : rl_A (fun _ => v) zrg zfl ztk zco znx zff zfc zhf zhn zcn zyn zrm zsc zrf zsu zss zph zsa zgc zgs) : rl_A (rl_m v v' 0) zrg zfl ztk zco znx zff zfc zhf zhn zcn zyn zrm zsc zrf zsu zss zph zsa zgc zgs := rl_congr A fun e _ => if_neg (by omega)
theorem rl_m7 {v v' : SY} (A : rl_A (rl_m v v' 7) zrg zfl ztk zco znx zff zfc zhf zhn zcn zyn zrm zsc zrf zsu zss zph zsa zgc zgs) : rl_A (fun _ => v') zrg zfl ztk zco znx zff zfc zhf zhn zcn zyn zrm zsc zrf zsu zss zph zsa zgc zgs := rl_congr A fun e he => (if_pos he).symm
theorem op_num {R : Nat → Int32} {F : Nat → Nat → Int32} {v : SY} {y : Int32} (h : -999 ≤ y ∧ y ≤ 999) : op_v R F v (2 * y + 1) y := ⟨fun _ _ => Or.inl ⟨h.1, h.2, rfl⟩, fun p hp e => absurd e (yy_numne h hp)⟩
theorem op_reg {R : Nat → Int32} {F : Nat → Nat → Int32} {s : Nat} (hs : s < 6) : op_v R F (yr, yf) (R s) (yr s) := ⟨fun _ I => I.1 s hs, fun p hp e => gr_root ⟨hp, s, hs, e⟩⟩
theorem rc_number {post : Int32 → SX → Prop} {r : Nat} {y : Int32} (hr : r < 6) (hy : -999 ≤ y ∧ y ≤ 999) (K : ∀ (zhf' zhn' zcn' zyn' zsc' zph' zsa' zgc' zsd' zs2' : Int32) (zrg' zfl' ztk' zco' znx' zff' zfc' zmv' zrm' zrf' zsu' zss' zgs' zfa' zst' zt2' zse' zpa' zba' : Nat → Int32), rl_A (fun _ => (upd yr r y, yf)) zrg' zfl' ztk' zco' znx' zff' zfc' zhf' zhn' zcn' zyn' zrm' zsc' zrf' zsu' zss' zph' zsa' zgc' zgs' → post 1 (zhf', zhn', zcn', zyn', zsc', zph', zsa', zgc', zsd', zs2', zrg', zfl', ztk', zco', znx', zff', zfc', zmv', zrm', zrf', zsu', zss', zgs', zfa', zst', zt2', zse', zpa', zba')) :
    ∀ (n e : Nat) (zhf zhn zcn zyn zsc zph zsa zgc zsd zs2 : Int32) (zrg zfl ztk zco znx zff zfc zmv zrm zrf zsu zss zgs zfa zst zt2 zse zpa zba : Nat → Int32), e ≤ 7 → 7 < n + e → rl_A (rl_m (yr, yf) (upd yr r y, yf) e) zrg zfl ztk zco znx zff zfc zhf zhn zcn zyn zrm zsc zrf zsu zss zph zsa zgc zgs → wX_number_25 post (nI r) y n (nI e) zhf zhn zcn zyn zsc zph zsa zgc zsd zs2 zrg zfl ztk zco znx zff zfc zmv zrm zrf zsu zss zgs zfa zst zt2 zse zpa zba := by
  intro n
  induction n with
  | zero => intro e _ _ _ _ _ _ _ _ _ _ _ _ _ _ _ _ _ _ _ _ _ _ _ _ _ _ _ _ _ h1 h2; omega
  | succ n ih =>
    intro e zhf zhn zcn zyn zsc zph zsa zgc zsd zs2 zrg zfl ztk zco znx zff zfc zmv zrm zrf zsu zss zgs zfa zst zt2 zse zpa zba h1 h2 A
    by_cases h7 : e = 7
    · subst h7
      refine br_t (by decide) ?_
      refine rl_work (m := 1) (by omega) (rl_m7 A) fun zhf' zhn' zcn' zyn' zsc' zph' zsa' zgc' zsd' zs2' zrg' zfl' ztk' zco' znx' zff' zfc' zmv' zrm' zrf' zsu' zss' zgs' zfa' zst' zt2' zse' zpa' zba' A' => ?_
      exact K zhf' zhn' zcn' zyn' zsc' zph' zsa' zgc' zsd' zs2' zrg' zfl' ztk' zco' znx' zff' zfc' zmv' zrm' zrf' zsu' zss' zgs' zfa' zst' zt2' zse' zpa' zba' A'
    · refine br_f (nI_ge (b := 7) (by omega) (by omega)) ?_
      refine rl_set hr A e (by omega) rl_me (op_num hy) fun zhf' zhn' zcn' zyn' zsc' zph' zsa' zgc' zsd' zs2' zrg' zfl' ztk' zco' znx' zff' zfc' zmv' zrm' zrf' zsu' zss' zgs' zfa' zst' zt2' zse' zpa' zba' A' => ?_
      refine nm_r (nI_1 e) ?_
      exact ih (e + 1) zhf' zhn' zcn' zyn' zsc' zph' zsa' zgc' zsd' zs2' zrg' zfl' ztk' zco' znx' zff' zfc' zmv' zrm' zrf' zsu' zss' zgs' zfa' zst' zt2' zse' zpa' zba' (by omega) (by omega) (A' _ rl_ms fun e' h => rl_mo h)
theorem rc_copy {post : Int32 → SX → Prop} {r s : Nat} (hr : r < 6) (hs : s < 6) (K : ∀ (zhf' zhn' zcn' zyn' zsc' zph' zsa' zgc' zsd' zs2' : Int32) (zrg' zfl' ztk' zco' znx' zff' zfc' zmv' zrm' zrf' zsu' zss' zgs' zfa' zst' zt2' zse' zpa' zba' : Nat → Int32), rl_A (fun _ => (upd yr r (yr s), yf)) zrg' zfl' ztk' zco' znx' zff' zfc' zhf' zhn' zcn' zyn' zrm' zsc' zrf' zsu' zss' zph' zsa' zgc' zgs' → post 1 (zhf', zhn', zcn', zyn', zsc', zph', zsa', zgc', zsd', zs2', zrg', zfl', ztk', zco', znx', zff', zfc', zmv', zrm', zrf', zsu', zss', zgs', zfa', zst', zt2', zse', zpa', zba')) :
    ∀ (n e : Nat) (zhf zhn zcn zyn zsc zph zsa zgc zsd zs2 : Int32) (zrg zfl ztk zco znx zff zfc zmv zrm zrf zsu zss zgs zfa zst zt2 zse zpa zba : Nat → Int32), e ≤ 7 → 7 < n + e → rl_A (rl_m (yr, yf) (upd yr r (yr s), yf) e) zrg zfl ztk zco znx zff zfc zhf zhn zcn zyn zrm zsc zrf zsu zss zph zsa zgc zgs → wX_copy_18 post (nI r) (nI s) n (nI e) zhf zhn zcn zyn zsc zph zsa zgc zsd zs2 zrg zfl ztk zco znx zff zfc zmv zrm zrf zsu zss zgs zfa zst zt2 zse zpa zba := by
  intro n
  induction n with
  | zero => intro e _ _ _ _ _ _ _ _ _ _ _ _ _ _ _ _ _ _ _ _ _ _ _ _ _ _ _ _ _ h1 h2; omega
  | succ n ih =>
    intro e zhf zhn zcn zyn zsc zph zsa zgc zsd zs2 zrg zfl ztk zco znx zff zfc zmv zrm zrf zsu zss zgs zfa zst zt2 zse zpa zba h1 h2 A
    by_cases h7 : e = 7
    · subst h7
      refine br_t (by decide) ?_
      refine rl_work (m := 1) (by omega) (rl_m7 A) fun zhf' zhn' zcn' zyn' zsc' zph' zsa' zgc' zsd' zs2' zrg' zfl' ztk' zco' znx' zff' zfc' zmv' zrm' zrf' zsu' zss' zgs' zfa' zst' zt2' zse' zpa' zba' A' => ?_
      exact K zhf' zhn' zcn' zyn' zsc' zph' zsa' zgc' zsd' zs2' zrg' zfl' ztk' zco' znx' zff' zfc' zmv' zrm' zrf' zsu' zss' zgs' zfa' zst' zt2' zse' zpa' zba' A'
    · refine br_f (nI_ge (b := 7) (by omega) (by omega)) ?_
      have hR : zrg (e * 6 + s) = vw_r zrg e s := (vw_r_at hs).symm
      rw [na_r, nI_clamp (by omega), hR]
      refine ⟨vp_in_nI (by omega) (by omega), ?_⟩
      refine rl_set hr A e (by omega) rl_me (op_reg hs) fun zhf' zhn' zcn' zyn' zsc' zph' zsa' zgc' zsd' zs2' zrg' zfl' ztk' zco' znx' zff' zfc' zmv' zrm' zrf' zsu' zss' zgs' zfa' zst' zt2' zse' zpa' zba' A' => ?_
      refine nm_r (nI_1 e) ?_
      exact ih (e + 1) zhf' zhn' zcn' zyn' zsc' zph' zsa' zgc' zsd' zs2' zrg' zfl' ztk' zco' znx' zff' zfc' zmv' zrm' zrf' zsu' zss' zgs' zfa' zst' zt2' zse' zpa' zba' (by omega) (by omega) (A' _ rl_ms fun e' h => rl_mo h)
theorem rl_le {yr' yf' : Nat → Int32} (h : ct_c (yy_X (yr, yf)) 48 ≤ 24) (hs : ∀ p, yy_X (yr', yf') p → yy_X (yr, yf) p) : ct_c (yy_X (yr', yf')) 48 ≤ 24 := Nat.le_trans (ct_mono 48 fun i _ => hs i) h
end RC
theorem i_vc_number {k : Nat} {u : SX} {v : SY} (I : i_Rel k u v) (hk : k + 4 ≤ 2048) (v1 : Int32) (v2 : Int32) : wpX_number (fun r u' => wpY_number (fun r' v' => r' = r ∧ i_Rel (k + 4) u' v') v v1 v2) u v1 v2 := by
  refine rl_el (P := fun u v => wpX_number (fun r u' => wpY_number (fun r' v' => r' = r ∧ i_Rel (k + 4) u' v') v v1 v2) u v1 v2) ?_ I
  intro zhf zhn zcn zyn zsc zph zsa zgc zsd zs2 zrg zfl ztk zco znx zff zfc zmv zrm zrf zsu zss zgs zfa zst zt2 zse zpa zba yr yf A h24
  unfold wpX_number
  rcases ar_c v1 (n := 6) (by omega) (by omega) with hb | ⟨r, hr, rfl⟩
  · refine ar_rxn hb ?_
    refine br_t rfl ?_
    unfold wpY_number
    refine ar_ryn hb ?_
    exact br_t rfl ⟨rfl, A, h24⟩
  · refine ar_rx hr ?_
    refine br_f na_n10 ?_
    by_cases q1 : v2 < -999
    · refine br_t q1 ?_
      unfold wpY_number
      refine ar_ry hr ?_
      exact br_f na_n10 (br_t q1 ⟨rfl, A, h24⟩)
    · refine br_f q1 ?_
      by_cases q2 : v2 ≤ 999
      · refine br_t q2 ⟨8, ?_⟩
        have hy : -999 ≤ v2 ∧ v2 ≤ 999 := ⟨Int32.not_lt.mp q1, q2⟩
        refine rc_number hr hy (fun zhf' zhn' zcn' zyn' zsc' zph' zsa' zgc' zsd' zs2' zrg' zfl' ztk' zco' znx' zff' zfc' zmv' zrm' zrf' zsu' zss' zgs' zfa' zst' zt2' zse' zpa' zba' A' => ?_) 8 0 zhf zhn zcn zyn zsc zph zsa zgc zsd zs2 zrg zfl ztk zco znx zff zfc zmv zrm zrf zsu zss zgs zfa zst zt2 zse zpa zba (by omega) (by omega) (rl_m0 A)
        unfold wpY_number
        refine ar_ry hr ?_
        refine br_f na_n10 (br_f q1 (br_t q2 ⟨vp_in_nI hr (by omega), ?_⟩))
        rw [nI_clamp (by omega)]
        refine nm_e ⟨rfl, A', rl_le h24 fun p => yy_set fun p hp e => absurd e (yy_numne hy hp)⟩
      · refine br_f q2 ?_
        unfold wpY_number
        refine ar_ry hr ?_
        exact br_f na_n10 (br_f q1 (br_f q2 ⟨rfl, A, h24⟩))
theorem i_vc_copy {k : Nat} {u : SX} {v : SY} (I : i_Rel k u v) (hk : k + 4 ≤ 2048) (v1 : Int32) (v2 : Int32) : wpX_copy (fun r u' => wpY_copy (fun r' v' => r' = r ∧ i_Rel (k + 4) u' v') v v1 v2) u v1 v2 := by
  refine rl_el (P := fun u v => wpX_copy (fun r u' => wpY_copy (fun r' v' => r' = r ∧ i_Rel (k + 4) u' v') v v1 v2) u v1 v2) ?_ I
  intro zhf zhn zcn zyn zsc zph zsa zgc zsd zs2 zrg zfl ztk zco znx zff zfc zmv zrm zrf zsu zss zgs zfa zst zt2 zse zpa zba yr yf A h24
  unfold wpX_copy
  rcases ar_c v1 (n := 6) (by omega) (by omega) with hb | ⟨r, hr, rfl⟩
  · refine ar_rxn hb ?_
    refine br_t rfl ?_
    unfold wpY_copy
    refine ar_ryn hb ?_
    exact br_t rfl ⟨rfl, A, h24⟩
  · refine ar_rx hr ?_
    refine br_f na_n10 ?_
    rcases ar_c v2 (n := 6) (by omega) (by omega) with hb | ⟨s, hs, rfl⟩
    · refine ar_rxn hb ?_
      refine br_t rfl ?_
      unfold wpY_copy
      refine ar_ry hr ?_
      refine br_f na_n10 ?_
      refine ar_ryn hb ?_
      exact br_t rfl ⟨rfl, A, h24⟩
    · refine ar_rx hs ?_
      refine br_f na_n10 ⟨8, ?_⟩
      refine rc_copy hr hs (fun zhf' zhn' zcn' zyn' zsc' zph' zsa' zgc' zsd' zs2' zrg' zfl' ztk' zco' znx' zff' zfc' zmv' zrm' zrf' zsu' zss' zgs' zfa' zst' zt2' zse' zpa' zba' A' => ?_) 8 0 zhf zhn zcn zyn zsc zph zsa zgc zsd zs2 zrg zfl ztk zco znx zff zfc zmv zrm zrf zsu zss zgs zfa zst zt2 zse zpa zba (by omega) (by omega) (rl_m0 A)
      unfold wpY_copy
      refine ar_ry hr ?_
      refine br_f na_n10 ?_
      refine ar_ry hs ?_
      refine br_f na_n10 ⟨vp_in_nI hs (by omega), vp_in_nI hr (by omega), ?_⟩
      rw [nI_clamp (n := r) (by omega), nI_clamp (n := s) (by omega)]
      exact nm_e ⟨rfl, A', rl_le h24 fun p => yy_set fun p hp e => gr_root ⟨hp, s, hs, e⟩⟩
end
section
section RC
variable {zhf zhn zcn zyn zsc zph zsa zgc zsd zs2 : Int32} {zrg zfl ztk zco znx zff zfc zmv zrm zrf zsu zss zgs zfa zst zt2 zse zpa zba : Nat → Int32}
variable {yr yf : Nat → Int32}
theorem xp_cell {post : Int32 → Prop} {e s a : Nat} (he : e < 7) (hs : s < 6) (ha : a < 96) (h : vw_r zrg e s = nI (2 * a)) (k : post (nI a)) : wpX_cellOf post (zhf, zhn, zcn, zyn, zsc, zph, zsa, zgc, zsd, zs2, zrg, zfl, ztk, zco, znx, zff, zfc, zmv, zrm, zrf, zsu, zss, zgs, zfa, zst, zt2, zse, zpa, zba) (nI e) (nI s) := by
  show vp_in (nI e * 6 + nI s) 42 ∧ ∀ x, x = zrg (nI e * 6 + nI s).toNatClampNeg → wpX_isReference (fun q => (q = 0 → post 0) ∧ (¬ q = 0 → post (x >>> ((1 : Int32) &&& 31)))) x
  rw [na_r, nI_clamp (by omega), ← vw_r_at (g := zrg) (e := e) hs, h]
  refine ⟨vp_in_nI (by omega) (by omega), nm_e ?_⟩
  refine xp_ref (by omega) ?_
  refine br_f na_n10 ?_
  rw [gr_sh (by omega)]; exact k
theorem xp_cell0 {post : Int32 → Prop} {e s : Nat} (he : e < 7) (hs : s < 6) (h : gr_od (vw_r zrg e s)) (k : post 0) : wpX_cellOf post (zhf, zhn, zcn, zyn, zsc, zph, zsa, zgc, zsd, zs2, zrg, zfl, ztk, zco, znx, zff, zfc, zmv, zrm, zrf, zsu, zss, zgs, zfa, zst, zt2, zse, zpa, zba) (nI e) (nI s) := by
  show vp_in (nI e * 6 + nI s) 42 ∧ ∀ x, x = zrg (nI e * 6 + nI s).toNatClampNeg → wpX_isReference (fun q => (q = 0 → post 0) ∧ (¬ q = 0 → post (x >>> ((1 : Int32) &&& 31)))) x
  rw [na_r, nI_clamp (by omega), ← vw_r_at (g := zrg) (e := e) hs]
  refine ⟨vp_in_nI (by omega) (by omega), nm_e ?_⟩
  refine xp_odd h ?_
  exact br_t rfl k
theorem op_cell {R : Nat → Int32} {F : Nat → Nat → Int32} {s p : Nat} {φ : Nat → Nat} (I : is_I φ R F (yr, yf)) (hs : s < 6) (hp : p < 48) (hy : yr s = nI (10000 + p)) : R s = nI (2 * φ p) ∧ op_a R F (yr, yf) (φ p) p ∧ 1 ≤ φ p ∧ φ p < 96 := by
  have hx : yy_X (yr, yf) p := gr_root ⟨hp, s, hs, hy⟩
  have e := is_vr (I.1 s hs) hp hy
  refine ⟨e, ⟨hx, fun φ' I' => ?_⟩, I.2.2.2 p hx⟩
  exact na_inj2 (I.2.2.2 p hx).2 (I'.2.2.2 p hx).2 (e.symm.trans (is_vr (I'.1 s hs) hp hy))
theorem op_fld {R : Nat → Int32} {F : Nat → Nat → Int32} {a p g : Nat} (h : op_a R F (yr, yf) a p) (hg : g < 3) : op_v R F (yr, yf) (F a g) (yf (3 * p + g)) :=
  ⟨fun φ I => by rw [h.2 φ I]; exact I.2.1 p h.1 g hg, fun q hq e => gr_step h.1 ⟨hq, g, hg, e⟩⟩
theorem rc_get {post : Int32 → SX → Prop} {r s g p : Nat} (hr : r < 6) (hs : s < 6) (hg : g < 3) (hp : p < 48) (hy : yr s = nI (10000 + p)) (K : ∀ (zhf' zhn' zcn' zyn' zsc' zph' zsa' zgc' zsd' zs2' : Int32) (zrg' zfl' ztk' zco' znx' zff' zfc' zmv' zrm' zrf' zsu' zss' zgs' zfa' zst' zt2' zse' zpa' zba' : Nat → Int32), rl_A (fun _ => (upd yr r (yf (3 * p + g)), yf)) zrg' zfl' ztk' zco' znx' zff' zfc' zhf' zhn' zcn' zyn' zrm' zsc' zrf' zsu' zss' zph' zsa' zgc' zgs' → post 1 (zhf', zhn', zcn', zyn', zsc', zph', zsa', zgc', zsd', zs2', zrg', zfl', ztk', zco', znx', zff', zfc', zmv', zrm', zrf', zsu', zss', zgs', zfa', zst', zt2', zse', zpa', zba')) :
    ∀ (n e : Nat) (zhf zhn zcn zyn zsc zph zsa zgc zsd zs2 : Int32) (zrg zfl ztk zco znx zff zfc zmv zrm zrf zsu zss zgs zfa zst zt2 zse zpa zba : Nat → Int32), e ≤ 7 → 7 < n + e → rl_A (rl_m (yr, yf) (upd yr r (yf (3 * p + g)), yf) e) zrg zfl ztk zco znx zff zfc zhf zhn zcn zyn zrm zsc zrf zsu zss zph zsa zgc zgs → wX_get_35 post (nI r) (nI s) (nI g) n (nI e) zhf zhn zcn zyn zsc zph zsa zgc zsd zs2 zrg zfl ztk zco znx zff zfc zmv zrm zrf zsu zss zgs zfa zst zt2 zse zpa zba := by
  intro n
  induction n with
  | zero => intro e _ _ _ _ _ _ _ _ _ _ _ _ _ _ _ _ _ _ _ _ _ _ _ _ _ _ _ _ _ h1 h2; omega
  | succ n ih =>
    intro e zhf zhn zcn zyn zsc zph zsa zgc zsd zs2 zrg zfl ztk zco znx zff zfc zmv zrm zrf zsu zss zgs zfa zst zt2 zse zpa zba h1 h2 A
    by_cases h7 : e = 7
    · subst h7
      refine br_t (by decide) ?_
      refine rl_work (m := 1) (by omega) (rl_m7 A) fun zhf' zhn' zcn' zyn' zsc' zph' zsa' zgc' zsd' zs2' zrg' zfl' ztk' zco' znx' zff' zfc' zmv' zrm' zrf' zsu' zss' zgs' zfa' zst' zt2' zse' zpa' zba' A' => ?_
      exact K zhf' zhn' zcn' zyn' zsc' zph' zsa' zgc' zsd' zs2' zrg' zfl' ztk' zco' znx' zff' zfc' zmv' zrm' zrf' zsu' zss' zgs' zfa' zst' zt2' zse' zpa' zba' A'
    · refine br_f (nI_ge (b := 7) (by omega) (by omega)) ?_
      obtain ⟨φ, I⟩ := rl_iso A e (by omega)
      rw [rl_me] at I
      obtain ⟨eR, ha, ha1, ha9⟩ := op_cell I hs hp hy
      refine xp_cell (by omega) hs ha9 eR ?_
      refine xp_fieldOf (by omega) ha9 hg ?_
      refine rl_set hr A e (by omega) rl_me (op_fld ha hg) fun zhf' zhn' zcn' zyn' zsc' zph' zsa' zgc' zsd' zs2' zrg' zfl' ztk' zco' znx' zff' zfc' zmv' zrm' zrf' zsu' zss' zgs' zfa' zst' zt2' zse' zpa' zba' A' => ?_
      refine nm_r (nI_1 e) ?_
      exact ih (e + 1) zhf' zhn' zcn' zyn' zsc' zph' zsa' zgc' zsd' zs2' zrg' zfl' ztk' zco' znx' zff' zfc' zmv' zrm' zrf' zsu' zss' zgs' zfa' zst' zt2' zse' zpa' zba' (by omega) (by omega) (A' _ rl_ms fun e' h => rl_mo h)
theorem rc_put {post : Int32 → SX → Prop} {r s g p : Nat} (hr : r < 6) (hs : s < 6) (hg : g < 3) (hp : p < 48) (hy : yr r = nI (10000 + p)) (K : ∀ (zhf' zhn' zcn' zyn' zsc' zph' zsa' zgc' zsd' zs2' : Int32) (zrg' zfl' ztk' zco' znx' zff' zfc' zmv' zrm' zrf' zsu' zss' zgs' zfa' zst' zt2' zse' zpa' zba' : Nat → Int32), rl_A (fun _ => (yr, upd yf (3 * p + g) (yr s))) zrg' zfl' ztk' zco' znx' zff' zfc' zhf' zhn' zcn' zyn' zrm' zsc' zrf' zsu' zss' zph' zsa' zgc' zgs' → post 1 (zhf', zhn', zcn', zyn', zsc', zph', zsa', zgc', zsd', zs2', zrg', zfl', ztk', zco', znx', zff', zfc', zmv', zrm', zrf', zsu', zss', zgs', zfa', zst', zt2', zse', zpa', zba')) :
    ∀ (n e : Nat) (zhf zhn zcn zyn zsc zph zsa zgc zsd zs2 : Int32) (zrg zfl ztk zco znx zff zfc zmv zrm zrf zsu zss zgs zfa zst zt2 zse zpa zba : Nat → Int32), e ≤ 7 → 7 < n + e → rl_A (rl_m (yr, yf) (yr, upd yf (3 * p + g) (yr s)) e) zrg zfl ztk zco znx zff zfc zhf zhn zcn zyn zrm zsc zrf zsu zss zph zsa zgc zgs → wX_put_35 post (nI r) (nI g) (nI s) n (nI e) zhf zhn zcn zyn zsc zph zsa zgc zsd zs2 zrg zfl ztk zco znx zff zfc zmv zrm zrf zsu zss zgs zfa zst zt2 zse zpa zba := by
  intro n
  induction n with
  | zero => intro e _ _ _ _ _ _ _ _ _ _ _ _ _ _ _ _ _ _ _ _ _ _ _ _ _ _ _ _ _ h1 h2; omega
  | succ n ih =>
    intro e zhf zhn zcn zyn zsc zph zsa zgc zsd zs2 zrg zfl ztk zco znx zff zfc zmv zrm zrf zsu zss zgs zfa zst zt2 zse zpa zba h1 h2 A
    by_cases h7 : e = 7
    · subst h7
      refine br_t (by decide) ?_
      refine rl_work (m := 1) (by omega) (rl_m7 A) fun zhf' zhn' zcn' zyn' zsc' zph' zsa' zgc' zsd' zs2' zrg' zfl' ztk' zco' znx' zff' zfc' zmv' zrm' zrf' zsu' zss' zgs' zfa' zst' zt2' zse' zpa' zba' A' => ?_
      exact K zhf' zhn' zcn' zyn' zsc' zph' zsa' zgc' zsd' zs2' zrg' zfl' ztk' zco' znx' zff' zfc' zmv' zrm' zrf' zsu' zss' zgs' zfa' zst' zt2' zse' zpa' zba' A'
    · refine br_f (nI_ge (b := 7) (by omega) (by omega)) ?_
      obtain ⟨φ, I⟩ := rl_iso A e (by omega)
      rw [rl_me] at I
      obtain ⟨eR, ha, ha1, ha9⟩ := op_cell I hr hp hy
      refine xp_cell (by omega) hr ha9 eR ?_
      have hR : zrg (e * 6 + s) = vw_r zrg e s := (vw_r_at hs).symm
      rw [na_r, nI_clamp (by omega), hR]
      refine ⟨vp_in_nI (by omega) (by omega), ?_⟩
      refine rl_put hg A e (by omega) rl_me (op_reg hs) ha fun zhf' zhn' zcn' zyn' zsc' zph' zsa' zgc' zsd' zs2' zrg' zfl' ztk' zco' znx' zff' zfc' zmv' zrm' zrf' zsu' zss' zgs' zfa' zst' zt2' zse' zpa' zba' A' => ?_
      refine nm_r (nI_1 e) ?_
      exact ih (e + 1) zhf' zhn' zcn' zyn' zsc' zph' zsa' zgc' zsd' zs2' zrg' zfl' ztk' zco' znx' zff' zfc' zmv' zrm' zrf' zsu' zss' zgs' zfa' zst' zt2' zse' zpa' zba' (by omega) (by omega) (A' _ rl_ms fun e' h => rl_mo h)
end RC
theorem i_vc_get {k : Nat} {u : SX} {v : SY} (I : i_Rel k u v) (hk : k + 4 ≤ 2048) (v1 : Int32) (v2 : Int32) (v3 : Int32) : wpX_get (fun r u' => wpY_get (fun r' v' => r' = r ∧ i_Rel (k + 4) u' v') v v1 v2 v3) u v1 v2 v3 := by
  refine rl_el (P := fun u v => wpX_get (fun r u' => wpY_get (fun r' v' => r' = r ∧ i_Rel (k + 4) u' v') v v1 v2 v3) u v1 v2 v3) ?_ I
  intro zhf zhn zcn zyn zsc zph zsa zgc zsd zs2 zrg zfl ztk zco znx zff zfc zmv zrm zrf zsu zss zgs zfa zst zt2 zse zpa zba yr yf A h24
  unfold wpX_get
  rcases ar_c v1 (n := 6) (by omega) (by omega) with hb | ⟨r, hr, rfl⟩
  · refine ar_rxn hb ?_
    refine br_t rfl ?_
    unfold wpY_get
    refine ar_ryn hb ?_
    exact br_t rfl ⟨rfl, A, h24⟩
  · refine ar_rx hr ?_
    refine br_f na_n10 ?_
    rcases ar_c v2 (n := 6) (by omega) (by omega) with hb | ⟨s, hs, rfl⟩
    · refine ar_rxn hb ?_
      refine br_t rfl ?_
      unfold wpY_get
      refine ar_ry hr ?_
      refine br_f na_n10 ?_
      refine ar_hyn hb ?_
      exact br_t rfl ⟨rfl, A, h24⟩
    · refine ar_rx hs ?_
      refine br_f na_n10 ?_
      obtain ⟨φ, I0⟩ := rl_iso A 0 (by omega)
      rcases ar_c v3 (n := 3) (by omega) (by omega) with hb | ⟨g, hg, rfl⟩
      · refine ar_fxn hb ?_
        refine br_t rfl ?_
        unfold wpY_get
        refine ar_ry hr ?_
        refine br_f na_n10 ?_
        rcases is_vok (I0.1 s hs) with hn | ⟨p, hp, hy⟩
        · refine ar_h0 hs hn ?_
          exact br_t rfl ⟨rfl, A, h24⟩
        · refine ar_h1 hs hp hy ?_
          refine br_f na_n10 ?_
          refine ar_fyn hb ?_
          exact br_t rfl ⟨rfl, A, h24⟩
      · refine ar_fx hg ?_
        refine br_f na_n10 ?_
        rcases I0.1 s hs with ⟨n1, n2, ex⟩ | ⟨p, hp, hy, ex⟩
        · refine xp_cell0 (e := 0) (by omega) hs (by rw [ex]; exact is_od _) ?_
          refine br_t rfl ?_
          unfold wpY_get
          refine ar_ry hr ?_
          refine br_f na_n10 ?_
          refine ar_h0 hs ⟨n1, n2⟩ ?_
          exact br_t rfl ⟨rfl, A, h24⟩
        · obtain ⟨eR, ha, ha1, ha9⟩ := op_cell I0 hs hp hy
          refine xp_cell (e := 0) (by omega) hs ha9 eR ?_
          refine br_f (nI_ne0 ha1 (by omega)) ⟨8, ?_⟩
          refine rc_get hr hs hg hp hy (fun zhf' zhn' zcn' zyn' zsc' zph' zsa' zgc' zsd' zs2' zrg' zfl' ztk' zco' znx' zff' zfc' zmv' zrm' zrf' zsu' zss' zgs' zfa' zst' zt2' zse' zpa' zba' A' => ?_) 8 0 zhf zhn zcn zyn zsc zph zsa zgc zsd zs2 zrg zfl ztk zco znx zff zfc zmv zrm zrf zsu zss zgs zfa zst zt2 zse zpa zba (by omega) (by omega) (rl_m0 A)
          unfold wpY_get
          refine ar_ry hr ?_
          refine br_f na_n10 ?_
          refine ar_h1 hs hp hy ?_
          refine br_f na_n10 ?_
          refine ar_fy hg ?_
          refine br_f na_n10 ?_
          refine ar_pl hs hp hy ?_
          rw [nI_clamp (n := 3 * p + g) (by omega), nI_clamp (n := r) (by omega)]
          exact ⟨vp_in_nI (by omega) (by omega), vp_in_nI hr (by omega), nm_e ⟨rfl, A', rl_le h24 fun q => yy_set fun q hq e => gr_step ha.1 ⟨hq, g, hg, e⟩⟩⟩
theorem i_vc_put {k : Nat} {u : SX} {v : SY} (I : i_Rel k u v) (hk : k + 4 ≤ 2048) (v1 : Int32) (v2 : Int32) (v3 : Int32) : wpX_put (fun r u' => wpY_put (fun r' v' => r' = r ∧ i_Rel (k + 4) u' v') v v1 v2 v3) u v1 v2 v3 := by
  refine rl_el (P := fun u v => wpX_put (fun r u' => wpY_put (fun r' v' => r' = r ∧ i_Rel (k + 4) u' v') v v1 v2 v3) u v1 v2 v3) ?_ I
  intro zhf zhn zcn zyn zsc zph zsa zgc zsd zs2 zrg zfl ztk zco znx zff zfc zmv zrm zrf zsu zss zgs zfa zst zt2 zse zpa zba yr yf A h24
  unfold wpX_put
  rcases ar_c v1 (n := 6) (by omega) (by omega) with hb | ⟨r, hr, rfl⟩
  · refine ar_rxn hb ?_
    refine br_t rfl ?_
    unfold wpY_put
    refine ar_hyn hb ?_
    exact br_t rfl ⟨rfl, A, h24⟩
  · obtain ⟨φ, I0⟩ := rl_iso A 0 (by omega)
    refine ar_rx hr ?_
    refine br_f na_n10 ?_
    rcases ar_c v3 (n := 6) (by omega) (by omega) with hb | ⟨s, hs, rfl⟩
    · refine ar_rxn hb ?_
      refine br_t rfl ?_
      unfold wpY_put
      rcases is_vok (I0.1 r hr) with hn | ⟨p, hp, hy⟩
      · refine ar_h0 hr hn ?_
        exact br_t rfl ⟨rfl, A, h24⟩
      · refine ar_h1 hr hp hy ?_
        refine br_f na_n10 ?_
        rcases ar_c v2 (n := 3) (by omega) (by omega) with hb2 | ⟨g, hg, rfl⟩
        · refine ar_fyn hb2 ?_
          exact br_t rfl ⟨rfl, A, h24⟩
        · refine ar_fy hg ?_
          refine br_f na_n10 ?_
          refine ar_ryn hb ?_
          exact br_t rfl ⟨rfl, A, h24⟩
    · refine ar_rx hs ?_
      refine br_f na_n10 ?_
      rcases ar_c v2 (n := 3) (by omega) (by omega) with hb | ⟨g, hg, rfl⟩
      · refine ar_fxn hb ?_
        refine br_t rfl ?_
        unfold wpY_put
        rcases is_vok (I0.1 r hr) with hn | ⟨p, hp, hy⟩
        · refine ar_h0 hr hn ?_
          exact br_t rfl ⟨rfl, A, h24⟩
        · refine ar_h1 hr hp hy ?_
          refine br_f na_n10 ?_
          refine ar_fyn hb ?_
          exact br_t rfl ⟨rfl, A, h24⟩
      · refine ar_fx hg ?_
        refine br_f na_n10 ?_
        rcases I0.1 r hr with ⟨n1, n2, ex⟩ | ⟨p, hp, hy, ex⟩
        · refine xp_cell0 (e := 0) (by omega) hr (by rw [ex]; exact is_od _) ?_
          refine br_t rfl ?_
          unfold wpY_put
          refine ar_h0 hr ⟨n1, n2⟩ ?_
          exact br_t rfl ⟨rfl, A, h24⟩
        · obtain ⟨eR, ha, ha1, ha9⟩ := op_cell I0 hr hp hy
          refine xp_cell (e := 0) (by omega) hr ha9 eR ?_
          refine br_f (nI_ne0 ha1 (by omega)) ⟨8, ?_⟩
          refine rc_put hr hs hg hp hy (fun zhf' zhn' zcn' zyn' zsc' zph' zsa' zgc' zsd' zs2' zrg' zfl' ztk' zco' znx' zff' zfc' zmv' zrm' zrf' zsu' zss' zgs' zfa' zst' zt2' zse' zpa' zba' A' => ?_) 8 0 zhf zhn zcn zyn zsc zph zsa zgc zsd zs2 zrg zfl ztk zco znx zff zfc zmv zrm zrf zsu zss zgs zfa zst zt2 zse zpa zba (by omega) (by omega) (rl_m0 A)
          unfold wpY_put
          refine ar_h1 hr hp hy ?_
          refine br_f na_n10 ?_
          refine ar_fy hg ?_
          refine br_f na_n10 ?_
          refine ar_ry hs ?_
          refine br_f na_n10 ?_
          refine ar_pl hr hp hy ?_
          rw [nI_clamp (n := 3 * p + g) (by omega), nI_clamp (n := s) (by omega)]
          exact ⟨vp_in_nI hs (by omega), vp_in_nI (by omega) (by omega), nm_e ⟨rfl, A', rl_le h24 fun q => yy_put fun q hq e => gr_root ⟨hq, s, hs, e⟩⟩⟩
end
section
section RC
variable {zhf zhn zcn zyn zsc zph zsa zgc zsd zs2 : Int32} {zrg zfl ztk zco znx zff zfc zmv zrm zrf zsu zss zgs zfa zst zt2 zse zpa zba : Nat → Int32}
variable {yr yf : Nat → Int32} {v : SY}
theorem rc_count {post : Int32 → SX → Prop} {w : Nat → SY} {e : Nat} (he : e < 7) (A : rl_A w zrg zfl ztk zco znx zff zfc zhf zhn zcn zyn zrm zsc zrf zsu zss zph zsa zgc zgs) (K : ∀ zst' zse', post (nI (ct_c (yy_X (w e)) 48)) (zhf, zhn, zcn, zyn, zsc, zph, zsa, zgc, 0, zs2, zrg, zfl, ztk, zco, znx, zff, zfc, zmv, zrm, zrf, zsu, zss, zgs, zfa, zst', zt2, zse', zpa, zba)) : wpX_count post (zhf, zhn, zcn, zyn, zsc, zph, zsa, zgc, zsd, zs2, zrg, zfl, ztk, zco, znx, zff, zfc, zmv, zrm, zrf, zsu, zss, zgs, zfa, zst, zt2, zse, zpa, zba) (nI e) := by
  obtain ⟨φ, I⟩ := rl_iso A e he
  unfold wpX_count
  refine ar_cx he ?_
  refine br_f na_n10 ?_
  refine xw_all he (is_G I) fun zst' zse' _ _ => ?_
  rw [is_cnt I]
  exact K zst' zse'
theorem yc_ones {post : Int32 → Prop} (ok : yy_ok (yr, yf)) (K : post (nI (ct_c (yy_X (yr, yf)) 48))) : wpY_all (fun s => wpY_ones post (yr, yf) s) (yr, yf) := by
  refine yy_all ok fun s hs hb => ?_
  refine yy_ones hs ?_
  rw [ct_congr (Q := yy_X (yr, yf)) 48 fun i _ => hb i]
  exact K
theorem rc_make {post : Int32 → SX → Prop} {r p : Nat} {yf' : Nat → Int32} (hr : r < 6) (hn : op_n yr yf yf' p) (h24 : ct_c (yy_X (yr, yf)) 48 < 24) (K : ∀ (zhf' zhn' zcn' zyn' zsc' zph' zsa' zgc' zsd' zs2' : Int32) (zrg' zfl' ztk' zco' znx' zff' zfc' zmv' zrm' zrf' zsu' zss' zgs' zfa' zst' zt2' zse' zpa' zba' : Nat → Int32), rl_A (fun _ => (upd yr r (nI (10000 + p)), yf')) zrg' zfl' ztk' zco' znx' zff' zfc' zhf' zhn' zcn' zyn' zrm' zsc' zrf' zsu' zss' zph' zsa' zgc' zgs' → post (nI (ct_c (yy_X (upd yr r (nI (10000 + p)), yf')) 48)) (zhf', zhn', zcn', zyn', zsc', zph', zsa', zgc', zsd', zs2', zrg', zfl', ztk', zco', znx', zff', zfc', zmv', zrm', zrf', zsu', zss', zgs', zfa', zst', zt2', zse', zpa', zba')) :
    ∀ (n e : Nat) (zhf zhn zcn zyn zsc zph zsa zgc zsd zs2 : Int32) (zrg zfl ztk zco znx zff zfc zmv zrm zrf zsu zss zgs zfa zst zt2 zse zpa zba : Nat → Int32), e ≤ 7 → 7 < n + e → rl_A (rl_m (yr, yf) (upd yr r (nI (10000 + p)), yf') e) zrg zfl ztk zco znx zff zfc zhf zhn zcn zyn zrm zsc zrf zsu zss zph zsa zgc zgs → wX_make_27 post (nI r) n (nI e) zhf zhn zcn zyn zsc zph zsa zgc zsd zs2 zrg zfl ztk zco znx zff zfc zmv zrm zrf zsu zss zgs zfa zst zt2 zse zpa zba := by
  intro n
  induction n with
  | zero => intro e _ _ _ _ _ _ _ _ _ _ _ _ _ _ _ _ _ _ _ _ _ _ _ _ _ _ _ _ _ h1 h2; omega
  | succ n ih =>
    intro e zhf zhn zcn zyn zsc zph zsa zgc zsd zs2 zrg zfl ztk zco znx zff zfc zmv zrm zrf zsu zss zgs zfa zst zt2 zse zpa zba h1 h2 A
    by_cases h7 : e = 7
    · subst h7
      refine br_t (by decide) ?_
      refine rl_work (m := 3) (by omega) (rl_m7 A) fun zhf' zhn' zcn' zyn' zsc' zph' zsa' zgc' zsd' zs2' zrg' zfl' ztk' zco' znx' zff' zfc' zmv' zrm' zrf' zsu' zss' zgs' zfa' zst' zt2' zse' zpa' zba' A' => ?_
      refine rc_count (e := 2) (by omega) A' fun zst2 zse2 => ?_
      exact K _ _ _ _ _ _ _ _ _ _ _ _ _ _ _ _ _ _ _ _ _ _ _ _ _ _ _ _ _ A'
    · refine br_f (nI_ge (b := 7) (by omega) (by omega)) ?_
      refine rl_new hr A hn h24 e (by omega) rl_me (fun a zhf' zhn' zcn' zyn' zsc' zph' zsa' zgc' zsd' zs2' zrg' zfl' ztk' zco' znx' zff' zfc' zmv' zrm' zrf' zsu' zss' zgs' zfa' zst' zt2' zse' zpa' zba' h => h) fun zhf' zhn' zcn' zyn' zsc' zph' zsa' zgc' zsd' zs2' zrg' zfl' ztk' zco' znx' zff' zfc' zmv' zrm' zrf' zsu' zss' zgs' zfa' zst' zt2' zse' zpa' zba' A' => ?_
      refine nm_r (nI_1 e) ?_
      exact ih (e + 1) zhf' zhn' zcn' zyn' zsc' zph' zsa' zgc' zsd' zs2' zrg' zfl' ztk' zco' znx' zff' zfc' zmv' zrm' zrf' zsu' zss' zgs' zfa' zst' zt2' zse' zpa' zba' (by omega) (by omega) (A' _ rl_ms fun e' h => rl_mo h)
theorem yc_clear {post : Int32 → SY → Prop} {r p : Nat} (hr : r < 6) (hp : p < 48) (K : ∀ yf', (∀ g, g < 3 → yf' (3 * p + g) = 0) → (∀ i, (i < 3 * p ∨ 3 * p + 3 ≤ i) → yf' i = yf i) → wpY_all (fun s => wpY_ones (fun q => post q (upd yr r (nI (10000 + p)), yf')) (upd yr r (nI (10000 + p)), yf') s) (upd yr r (nI (10000 + p)), yf')) :
    ∃ n54 : Nat, wY_make_54 post (nI r) (nI p) n54 (nI 0) yr yf := by
  refine ⟨4, ?_⟩
  have key : ∀ (n g : Nat) (yf1 : Nat → Int32), g ≤ 3 → 3 < n + g → (∀ h, h < g → yf1 (3 * p + h) = 0) → (∀ i, (i < 3 * p ∨ 3 * p + 3 ≤ i) → yf1 i = yf i) → wY_make_54 post (nI r) (nI p) n (nI g) yr yf1 := by
    intro n
    induction n with
    | zero => intro g _ h1 h2; omega
    | succ n ih =>
      intro g yf1 h1 h2 i1 i2
      by_cases h3 : g = 3
      · subst h3
        refine br_t (by decide) ⟨vp_in_nI hr (by omega), ?_⟩
        rw [nI_clamp (by omega), show (10000 : Int32) + nI p = nI (10000 + p) from nI_add 10000 p]
        refine nm_e ?_
        exact K yf1 i1 i2
      · refine br_f (nI_ge (b := 3) (by omega) (by omega)) ?_
        rw [show (3 : Int32) * nI p + nI g = nI (3 * p + g) by rw [show (3 : Int32) = nI 3 from rfl, pk_mul, nI_add], nI_clamp (by omega)]
        refine ⟨vp_in_nI (by omega) (by omega), nm_e (nm_r (nI_1 g) ?_)⟩
        refine ih (g + 1) _ (by omega) (by omega) (fun h hh => ?_) (fun i hi => by rw [pk_un (by omega)]; exact i2 i hi)
        by_cases e : h = g
        · rw [e, pk_us]
        · rw [pk_un (by omega)]; exact i1 h (by omega)
  exact key 4 0 yf (by omega) (by omega) (fun h hh => absurd hh (Nat.not_lt_zero h)) (fun _ _ => rfl)
theorem yc_free {post : Int32 → SY → Prop} {x1 : Int32} {s : Nat} (hs : s < 2 ^ 48) (h24 : ct_c (fun i => s.testBit i = true) 48 < 24) (K : ∀ p, p < 48 → ¬ s.testBit p = true → (∀ j, j < p → s.testBit j = true) → ∃ n54 : Nat, wY_make_54 post x1 (nI p) n54 0 yr yf) :
    ∃ n34 : Nat, wY_make_34 post x1 (lN s) yr yf n34 (nI 0) := by
  refine ⟨25, ?_⟩
  have key : ∀ (n i : Nat), 24 < n + i → (∀ j, j < i → s.testBit j = true) → wY_make_34 post x1 (lN s) yr yf n (nI i) := by
    intro n
    induction n with
    | zero =>
      intro i h1 h2
      exfalso
      have h3 : ct_c (fun i => i < 24) 24 ≤ ct_c (fun i => s.testBit i = true) 24 := ct_mono 24 fun j hj _ => h2 j (by omega)
      have h4 := ct_mn (P := fun i => s.testBit i = true) (m := 24) 48 (by omega)
      rw [ct_congr (Q := fun i => 0 ≤ i ∧ i < 24) 24 (fun i hi => ⟨fun z => ⟨by omega, z⟩, fun z => z.2⟩), ct_range (by omega) 24 (by omega)] at h3
      omega
    | succ n ih =>
      intro i h1 h2
      have hi : i < 24 ∨ 24 ≤ i := by omega
      have hi24 : i < 24 := by
        rcases hi with z | z
        · exact z
        · exfalso
          have h3 : ct_c (fun i => i < 24) 24 ≤ ct_c (fun i => s.testBit i = true) 24 := ct_mono 24 fun j hj _ => h2 j (by omega)
          have h4 := ct_mn (P := fun i => s.testBit i = true) (m := 24) 48 (by omega)
          rw [ct_congr (Q := fun i => 0 ≤ i ∧ i < 24) 24 (fun i hi => ⟨fun z => ⟨by omega, z⟩, fun z => z.2⟩), ct_range (by omega) 24 (by omega)] at h3
          omega
      by_cases hb : s.testBit i = true
      · refine br_t ((yy_bit hs (by omega)).mpr hb) (nm_r (nI_1 i) ?_)
        refine ih (i + 1) (by omega) fun j hj => ?_
        by_cases e : j = i
        · rw [e]; exact hb
        · exact h2 j (by omega)
      · exact br_f (fun z => hb ((yy_bit hs (by omega)).mp z)) (K i (by omega) hb h2)
  exact key 25 0 (by omega) (fun j hj => absurd hj (Nat.not_lt_zero j))
end RC
theorem i_vc_make {k : Nat} {u : SX} {v : SY} (I : i_Rel k u v) (hk : k + 4 ≤ 2048) (v1 : Int32) : wpX_make (fun r u' => wpY_make (fun r' v' => r' = r ∧ i_Rel (k + 4) u' v') v v1) u v1 := by
  refine rl_el (P := fun u v => wpX_make (fun r u' => wpY_make (fun r' v' => r' = r ∧ i_Rel (k + 4) u' v') v v1) u v1) ?_ I
  intro zhf zhn zcn zyn zsc zph zsa zgc zsd zs2 zrg zfl ztk zco znx zff zfc zmv zrm zrf zsu zss zgs zfa zst zt2 zse zpa zba yr yf A h24
  unfold wpX_make
  obtain ⟨φ, I0⟩ := rl_iso A 0 (by omega)
  have ok : yy_ok (yr, yf) := is_ok I0
  rcases ar_c v1 (n := 6) (by omega) (by omega) with hb | ⟨r, hr, rfl⟩
  · refine ar_rxn hb ?_
    refine br_t rfl ?_
    unfold wpY_make
    refine ar_ryn hb ?_
    exact br_t rfl ⟨rfl, A, h24⟩
  · refine ar_rx hr ?_
    refine br_f na_n10 ?_
    refine rc_count (e := 1) (by omega) A fun zst' zse' => ?_
    have hle : ct_c (yy_X (yr, yf)) 48 ≤ 48 := ct_le 48
    by_cases hf : ct_c (yy_X (yr, yf)) 48 < 24
    · refine br_t (nI_lt (b := 24) hf (by omega)) ?_
      have hex : ∃ p, p < 48 ∧ ¬ yy_X (yr, yf) p := Classical.byContradiction fun hn => by
        have : ct_c (fun i => 0 ≤ i ∧ i < 48) 48 ≤ ct_c (yy_X (yr, yf)) 48 := ct_mono 48 fun i hi _ => Classical.byContradiction fun h => hn ⟨i, hi, h⟩
        rw [ct_range (by omega) 48 (by omega)] at this
        omega
      obtain ⟨p, ⟨hp, hpn⟩, hpl⟩ := pk_least _ hex
      have hn : op_n yr yf (fun i => if 3 * p ≤ i ∧ i < 3 * p + 3 then 0 else yf i) p :=
        ⟨hp, hpn, fun g hg => if_pos (by omega), fun c _ hc g hg => if_neg (by omega)⟩
      refine ⟨8, ?_⟩
      refine rc_make hr hn hf (fun zhf' zhn' zcn' zyn' zsc' zph' zsa' zgc' zsd' zs2' zrg' zfl' ztk' zco' znx' zff' zfc' zmv' zrm' zrf' zsu' zss' zgs' zfa' zst' zt2' zse' zpa' zba' A' => ?_) 8 0 _ _ _ _ _ _ _ _ _ _ _ _ _ _ _ _ _ _ _ _ _ _ _ _ _ _ _ _ _ (by omega) (by omega) (rl_m0 A)
      have h24' : ct_c (yy_X (upd yr r (nI (10000 + p)), fun i => if 3 * p ≤ i ∧ i < 3 * p + 3 then 0 else yf i)) 48 ≤ 24 := by
        have h1 := ct_mono (P := yy_X (upd yr r (nI (10000 + p)), fun i => if 3 * p ≤ i ∧ i < 3 * p + 3 then 0 else yf i)) (Q := fun i => yy_X (yr, yf) i ∨ i = p) 48 fun i _ hi => (yy_new hn.2.2.1 hn.2.2.2 hp hi).symm
        rw [ct_add (P := yy_X (yr, yf)) (a := p) 48 hp hpn (fun i _ => Iff.rfl)] at h1
        omega
      obtain ⟨φ', I'⟩ := rl_iso A' 0 (by omega)
      unfold wpY_make
      refine ar_ry hr ?_
      refine br_f na_n10 ?_
      refine yy_all ok fun s hs hb => ?_
      refine yy_ones hs ?_
      have ec : ct_c (fun i => s.testBit i = true) 48 = ct_c (yy_X (yr, yf)) 48 := ct_congr 48 fun i _ => hb i
      rw [ec]
      refine br_t (nI_lt (b := 24) hf (by omega)) ?_
      refine yc_free hs (by rw [ec]; exact hf) fun p' hp' hb1 hb2 => ?_
      have ep : p' = p := by
        rcases Nat.lt_trichotomy p' p with h | h | h
        · exact absurd ⟨hp', fun z => hb1 ((hb p').mpr z)⟩ (hpl p' h)
        · exact h
        · exact absurd ((hb p).mp (hb2 p h)) hpn
      subst ep
      refine yc_clear hr hp fun yf' c1 c2 => ?_
      have ey : yf' = fun i => if 3 * p' ≤ i ∧ i < 3 * p' + 3 then 0 else yf i := by
        funext i
        by_cases h : 3 * p' ≤ i ∧ i < 3 * p' + 3
        · rw [if_pos h]
          have := c1 (i - 3 * p') (by omega)
          rw [show 3 * p' + (i - 3 * p') = i by omega] at this; exact this
        · rw [if_neg h]; exact c2 i (by omega)
      rw [ey]
      exact yc_ones (is_ok I') ⟨rfl, A', h24'⟩
    · refine br_f (nI_nlt (b := 24) (by omega) (by omega)) ?_
      unfold wpY_make
      refine ar_ry hr ?_
      refine br_f na_n10 ?_
      refine yy_all ok fun s hs hb => ?_
      refine yy_ones hs ?_
      rw [ct_congr (Q := yy_X (yr, yf)) 48 fun i _ => hb i]
      exact br_f (nI_nlt (b := 24) (by omega) (by omega)) ⟨rfl, A, h24⟩
end
section
section RD
variable {zhf zhn zcn zyn zsc zph zsa zgc zsd zs2 : Int32} {zrg zfl ztk zco znx zff zfc zmv zrm zrf zsu zss zgs zfa zst zt2 zse zpa zba : Nat → Int32}
variable {yr yf : Nat → Int32} {v : SY}
theorem xp_sh0 {post : Int32 → Prop} {y : Int32} (h : -999 ≤ y ∧ y ≤ 999) (k : post y) : wpX_shown post (2 * y + 1) := by
  unfold wpX_shown
  refine xp_odd (is_od y) ?_
  refine br_t rfl ?_
  rw [is_sh h]; exact k
theorem xp_sh1 {post : Int32 → Prop} {a : Nat} (h : a < 96) (k : post (-3000)) : wpX_shown post (nI (2 * a)) := by
  unfold wpX_shown
  refine xp_ref (by omega) ?_
  exact br_f na_n10 k
theorem yp_sh0 {post : Int32 → Prop} {y : Int32} (h : -999 ≤ y ∧ y ≤ 999) (k : post y) : wpY_shown post (yr, yf) y := by
  unfold wpY_shown
  exact br_t (yy_num h) (br_t rfl k)
theorem yp_sh1 {post : Int32 → Prop} {p : Nat} (h : p < 48) (k : post (-3000)) : wpY_shown post (yr, yf) (nI (10000 + p)) := by
  unfold wpY_shown
  exact br_f (yy_ge h) (br_f na_n10 k)
end RD
theorem i_vc_value {k : Nat} {u : SX} {v : SY} (I : i_Rel k u v) (hk : k + 4 ≤ 2048) (v1 : Int32) (v2 : Int32) : wpX_value (fun r => wpY_value (fun r' => r' = r ∧ i_Rel (k + 4) u v) v v1 v2) u v1 v2 := by
  refine rl_el (P := fun u v => wpX_value (fun r => wpY_value (fun r' => r' = r ∧ i_Rel (k + 4) u v) v v1 v2) u v1 v2) ?_ I
  intro zhf zhn zcn zyn zsc zph zsa zgc zsd zs2 zrg zfl ztk zco znx zff zfc zmv zrm zrf zsu zss zgs zfa zst zt2 zse zpa zba yr yf A h24
  unfold wpX_value
  rcases ar_c v1 (n := 7) (by omega) (by omega) with hb | ⟨e, he, rfl⟩
  · refine ar_cxn hb ?_
    refine br_t rfl ?_
    unfold wpY_value
    refine ar_cyn hb ?_
    exact br_t rfl ⟨rfl, A, h24⟩
  · refine ar_cx he ?_
    refine br_f na_n10 ?_
    rcases ar_c v2 (n := 6) (by omega) (by omega) with hb | ⟨r, hr, rfl⟩
    · refine ar_rxn hb ?_
      refine br_t rfl ?_
      unfold wpY_value
      refine ar_cy he ?_
      refine br_f na_n10 ?_
      refine ar_ryn hb ?_
      exact br_t rfl ⟨rfl, A, h24⟩
    · refine ar_rx hr ?_
      refine br_f na_n10 ?_
      obtain ⟨φ, I0⟩ := rl_iso A e he
      rw [na_r, nI_clamp (by omega), ← vw_r_at (g := zrg) (e := e) hr]
      refine ⟨vp_in_nI (by omega) (by omega), ?_⟩
      have fin : ∀ q : Int32, wpY_shown (fun r' => r' = q ∧ i_Rel (k + 4) (zhf, zhn, zcn, zyn, zsc, zph, zsa, zgc, zsd, zs2, zrg, zfl, ztk, zco, znx, zff, zfc, zmv, zrm, zrf, zsu, zss, zgs, zfa, zst, zt2, zse, zpa, zba) (yr, yf)) (yr, yf) (yr r) → wpY_value (fun r' => r' = q ∧ i_Rel (k + 4) (zhf, zhn, zcn, zyn, zsc, zph, zsa, zgc, zsd, zs2, zrg, zfl, ztk, zco, znx, zff, zfc, zmv, zrm, zrf, zsu, zss, zgs, zfa, zst, zt2, zse, zpa, zba) (yr, yf)) (yr, yf) (nI e) (nI r) := by
        intro q hq
        unfold wpY_value
        refine ar_cy he ?_
        refine br_f na_n10 ?_
        refine ar_ry hr ?_
        refine br_f na_n10 ⟨vp_in_nI hr (by omega), ?_⟩
        rw [nI_clamp (by omega)]
        exact hq
      rcases I0.1 r hr with ⟨n1, n2, ex⟩ | ⟨p, hp, hy, ex⟩
      · rw [ex]
        exact xp_sh0 ⟨n1, n2⟩ (fin _ (yp_sh0 ⟨n1, n2⟩ ⟨rfl, A, h24⟩))
      · have hy' : yr r = nI (10000 + p) := hy
        have hx : yy_X (yr, yf) p := gr_root ⟨hp, r, hr, hy⟩
        rw [ex]
        refine xp_sh1 (I0.2.2.2 p hx).2 (fin _ ?_)
        rw [hy']
        exact yp_sh1 hp ⟨rfl, A, h24⟩
theorem i_vc_look {k : Nat} {u : SX} {v : SY} (I : i_Rel k u v) (hk : k + 4 ≤ 2048) (v1 : Int32) (v2 : Int32) (v3 : Int32) : wpX_look (fun r => wpY_look (fun r' => r' = r ∧ i_Rel (k + 4) u v) v v1 v2 v3) u v1 v2 v3 := by
  refine rl_el (P := fun u v => wpX_look (fun r => wpY_look (fun r' => r' = r ∧ i_Rel (k + 4) u v) v v1 v2 v3) u v1 v2 v3) ?_ I
  intro zhf zhn zcn zyn zsc zph zsa zgc zsd zs2 zrg zfl ztk zco znx zff zfc zmv zrm zrf zsu zss zgs zfa zst zt2 zse zpa zba yr yf A h24
  unfold wpX_look
  rcases ar_c v1 (n := 7) (by omega) (by omega) with hb | ⟨e, he, rfl⟩
  · refine ar_cxn hb ?_
    refine br_t rfl ?_
    unfold wpY_look
    refine ar_cyn hb ?_
    exact br_t rfl ⟨rfl, A, h24⟩
  · refine ar_cx he ?_
    refine br_f na_n10 ?_
    rcases ar_c v2 (n := 6) (by omega) (by omega) with hb | ⟨r, hr, rfl⟩
    · refine ar_rxn hb ?_
      refine br_t rfl ?_
      unfold wpY_look
      refine ar_cy he ?_
      refine br_f na_n10 ?_
      refine ar_hyn hb ?_
      exact br_t rfl ⟨rfl, A, h24⟩
    · refine ar_rx hr ?_
      refine br_f na_n10 ?_
      obtain ⟨φ, I0⟩ := rl_iso A e he
      rcases ar_c v3 (n := 3) (by omega) (by omega) with hb | ⟨g, hg, rfl⟩
      · refine ar_fxn hb ?_
        refine br_t rfl ?_
        unfold wpY_look
        refine ar_cy he ?_
        refine br_f na_n10 ?_
        rcases is_vok (I0.1 r hr) with hn | ⟨p, hp, hy⟩
        · refine ar_h0 hr hn ?_
          exact br_t rfl ⟨rfl, A, h24⟩
        · refine ar_h1 hr hp hy ?_
          refine br_f na_n10 ?_
          refine ar_fyn hb ?_
          exact br_t rfl ⟨rfl, A, h24⟩
      · refine ar_fx hg ?_
        refine br_f na_n10 ?_
        rcases I0.1 r hr with ⟨n1, n2, ex⟩ | ⟨p, hp, hy, ex⟩
        · refine xp_cell0 he hr (by rw [ex]; exact is_od _) ?_
          refine xp_fieldOf (a := 0) he (by omega) hg ?_
          refine br_t rfl ?_
          unfold wpY_look
          refine ar_cy he ?_
          refine br_f na_n10 ?_
          refine ar_h0 hr ⟨n1, n2⟩ ?_
          exact br_t rfl ⟨rfl, A, h24⟩
        · obtain ⟨eR, ha, ha1, ha9⟩ := op_cell I0 hr hp hy
          refine xp_cell he hr ha9 eR ?_
          refine xp_fieldOf he ha9 hg ?_
          refine br_f (nI_ne0 ha1 (by omega)) ?_
          have fin : ∀ q : Int32, wpY_shown (fun r' => r' = q ∧ i_Rel (k + 4) (zhf, zhn, zcn, zyn, zsc, zph, zsa, zgc, zsd, zs2, zrg, zfl, ztk, zco, znx, zff, zfc, zmv, zrm, zrf, zsu, zss, zgs, zfa, zst, zt2, zse, zpa, zba) (yr, yf)) (yr, yf) (yf (3 * p + g)) → wpY_look (fun r' => r' = q ∧ i_Rel (k + 4) (zhf, zhn, zcn, zyn, zsc, zph, zsa, zgc, zsd, zs2, zrg, zfl, ztk, zco, znx, zff, zfc, zmv, zrm, zrf, zsu, zss, zgs, zfa, zst, zt2, zse, zpa, zba) (yr, yf)) (yr, yf) (nI e) (nI r) (nI g) := by
            intro q hq
            unfold wpY_look
            refine ar_cy he ?_
            refine br_f na_n10 ?_
            refine ar_h1 hr hp hy ?_
            refine br_f na_n10 ?_
            refine ar_fy hg ?_
            refine br_f na_n10 ?_
            refine ar_pl hr hp hy ?_
            refine ⟨vp_in_nI (by omega) (by omega), ?_⟩
            rw [nI_clamp (by omega)]
            exact hq
          rcases I0.2.1 p ha.1 g hg with ⟨n1, n2, ex2⟩ | ⟨q, hq, hy2, ex2⟩
          · rw [ex2]
            exact xp_sh0 ⟨n1, n2⟩ (fin _ (yp_sh0 ⟨n1, n2⟩ ⟨rfl, A, h24⟩))
          · have hy2' : yf (3 * p + g) = nI (10000 + q) := hy2
            have hx : yy_X (yr, yf) q := gr_step ha.1 ⟨hq, g, hg, hy2⟩
            rw [ex2]
            refine xp_sh1 (I0.2.2.2 q hx).2 (fin _ ?_)
            rw [hy2']
            exact yp_sh1 hq ⟨rfl, A, h24⟩
theorem i_vc_same {k : Nat} {u : SX} {v : SY} (I : i_Rel k u v) (hk : k + 4 ≤ 2048) (v1 : Int32) (v2 : Int32) (v3 : Int32) : wpX_same (fun r => wpY_same (fun r' => r' = r ∧ i_Rel (k + 4) u v) v v1 v2 v3) u v1 v2 v3 := by
  refine rl_el (P := fun u v => wpX_same (fun r => wpY_same (fun r' => r' = r ∧ i_Rel (k + 4) u v) v v1 v2 v3) u v1 v2 v3) ?_ I
  intro zhf zhn zcn zyn zsc zph zsa zgc zsd zs2 zrg zfl ztk zco znx zff zfc zmv zrm zrf zsu zss zgs zfa zst zt2 zse zpa zba yr yf A h24
  unfold wpX_same
  rcases ar_c v1 (n := 7) (by omega) (by omega) with hb | ⟨e, he, rfl⟩
  · refine ar_cxn hb ?_
    refine br_t rfl ?_
    unfold wpY_same
    refine ar_cyn hb ?_
    exact br_t rfl ⟨rfl, A, h24⟩
  · refine ar_cx he ?_
    refine br_f na_n10 ?_
    obtain ⟨φ, I0⟩ := rl_iso A e he
    rcases ar_c v2 (n := 6) (by omega) (by omega) with hb | ⟨r, hr, rfl⟩
    · refine ar_rxn hb ?_
      refine br_t rfl ?_
      unfold wpY_same
      refine ar_cy he ?_
      refine br_f na_n10 ?_
      refine ar_hyn hb ?_
      exact br_t rfl ⟨rfl, A, h24⟩
    · refine ar_rx hr ?_
      refine br_f na_n10 ?_
      rcases ar_c v3 (n := 6) (by omega) (by omega) with hb | ⟨s, hs, rfl⟩
      · refine ar_rxn hb ?_
        refine br_t rfl ?_
        unfold wpY_same
        refine ar_cy he ?_
        refine br_f na_n10 ?_
        rcases is_vok (I0.1 r hr) with hn | ⟨p, hp, hy⟩
        · refine ar_h0 hr hn ?_
          exact br_t rfl ⟨rfl, A, h24⟩
        · refine ar_h1 hr hp hy ?_
          refine br_f na_n10 ?_
          refine ar_hyn hb ?_
          exact br_t rfl ⟨rfl, A, h24⟩
      · refine ar_rx hs ?_
        refine br_f na_n10 ?_
        rcases I0.1 r hr with ⟨n1, n2, ex⟩ | ⟨p, hp, hy, ex⟩
        · refine xp_cell0 he hr (by rw [ex]; exact is_od _) ?_
          refine br_t (by decide) ?_
          unfold wpY_same
          refine ar_cy he ?_
          refine br_f na_n10 ?_
          refine ar_h0 hr ⟨n1, n2⟩ ?_
          exact br_t rfl ⟨rfl, A, h24⟩
        · obtain ⟨eR, ha, ha1, ha9⟩ := op_cell I0 hr hp hy
          refine xp_cell he hr ha9 eR ?_
          refine br_f (nI_nle ha1 (by omega)) ?_
          rcases I0.1 s hs with ⟨n1, n2, ex2⟩ | ⟨q, hq, hy2, ex2⟩
          · refine xp_cell0 he hs (by rw [ex2]; exact is_od _) ?_
            refine br_f (nI_ne0 ha1 (by omega)) ?_
            unfold wpY_same
            refine ar_cy he ?_
            refine br_f na_n10 ?_
            refine ar_h1 hr hp hy ?_
            refine br_f na_n10 ?_
            refine ar_h0 hs ⟨n1, n2⟩ ?_
            exact br_t rfl ⟨rfl, A, h24⟩
          · obtain ⟨eR2, ha2, ha12, ha92⟩ := op_cell I0 hs hq hy2
            refine xp_cell he hs ha92 eR2 ?_
            have fin : ∀ z : Int32, ((yr r = yr s → (1 : Int32) = z ∧ i_Rel (k + 4) (zhf, zhn, zcn, zyn, zsc, zph, zsa, zgc, zsd, zs2, zrg, zfl, ztk, zco, znx, zff, zfc, zmv, zrm, zrf, zsu, zss, zgs, zfa, zst, zt2, zse, zpa, zba) (yr, yf)) ∧ (¬ yr r = yr s → (0 : Int32) = z ∧ i_Rel (k + 4) (zhf, zhn, zcn, zyn, zsc, zph, zsa, zgc, zsd, zs2, zrg, zfl, ztk, zco, znx, zff, zfc, zmv, zrm, zrf, zsu, zss, zgs, zfa, zst, zt2, zse, zpa, zba) (yr, yf))) → wpY_same (fun r' => r' = z ∧ i_Rel (k + 4) (zhf, zhn, zcn, zyn, zsc, zph, zsa, zgc, zsd, zs2, zrg, zfl, ztk, zco, znx, zff, zfc, zmv, zrm, zrf, zsu, zss, zgs, zfa, zst, zt2, zse, zpa, zba) (yr, yf)) (yr, yf) (nI e) (nI r) (nI s) := by
              intro z hz
              unfold wpY_same
              refine ar_cy he ?_
              refine br_f na_n10 ?_
              refine ar_h1 hr hp hy ?_
              refine br_f na_n10 ?_
              refine ar_h1 hs hq hy2 ?_
              refine br_f na_n10 ⟨vp_in_nI hr (by omega), vp_in_nI hs (by omega), ?_⟩
              rw [nI_clamp (n := r) (by omega), nI_clamp (n := s) (by omega)]
              exact hz
            have hyr : yr r = nI (10000 + p) := hy
            have hys : yr s = nI (10000 + q) := hy2
            by_cases e2 : p = q
            · subst e2
              exact br_t rfl (fin 1 (br_t (hyr.trans hys.symm) ⟨rfl, A, h24⟩))
            · refine br_f (fun z => e2 (I0.2.2.1 p q ha.1 ha2.1 (na_inj (by omega) (by omega) z))) (fin 0 (br_f (fun z => e2 (yy_inj hp hq (hyr.symm.trans (z.trans hys)))) ⟨rfl, A, h24⟩))
theorem i_vc_count {k : Nat} {u : SX} {v : SY} (I : i_Rel k u v) (hk : k + 4 ≤ 2048) (v1 : Int32) : wpX_count (fun r u' => wpY_count (fun r' => r' = r ∧ i_Rel (k + 4) u' v) v v1) u v1 := by
  refine rl_el (P := fun u v => wpX_count (fun r u' => wpY_count (fun r' => r' = r ∧ i_Rel (k + 4) u' v) v v1) u v1) ?_ I
  intro zhf zhn zcn zyn zsc zph zsa zgc zsd zs2 zrg zfl ztk zco znx zff zfc zmv zrm zrf zsu zss zgs zfa zst zt2 zse zpa zba yr yf A h24
  rcases ar_c v1 (n := 7) (by omega) (by omega) with hb | ⟨e, he, rfl⟩
  · unfold wpX_count
    refine ar_cxn hb ?_
    refine br_t rfl ?_
    unfold wpY_count
    refine ar_cyn hb ?_
    exact br_t rfl ⟨rfl, A, h24⟩
  · obtain ⟨φ, I0⟩ := rl_iso A e he
    refine rc_count he A fun zst' zse' => ?_
    unfold wpY_count
    refine ar_cy he ?_
    refine br_f na_n10 ?_
    exact yc_ones (is_ok I0) ⟨rfl, A, h24⟩
/-! one root -/
theorem is_one {φ : Nat → Nat} {R : Nat → Int32} {F : Nat → Nat → Int32} {yr yf : Nat → Int32} {r : Nat} (I : is_I φ R F (yr, yf)) (hr : r < 6) : is_I φ (fun _ => R r) F (fun _ => yr r, yf) := by
  have sub : ∀ p, yy_X (fun _ => yr r, yf) p → yy_X (yr, yf) p := fun p hp => gr_mono hp (fun b hb => gr_root ⟨hb.1, r, hr, hb.2.elim fun _ h => h.2⟩) (fun _ _ hc he => gr_step hc he)
  exact ⟨fun _ _ => I.1 r hr, fun p hp => I.2.1 p (sub p hp), fun p q hp hq => I.2.2.1 p q (sub p hp) (sub q hq), fun p hp => I.2.2.2 p (sub p hp)⟩
theorem i_vc_reach {k : Nat} {u : SX} {v : SY} (I : i_Rel k u v) (hk : k + 4 ≤ 2048) (v1 : Int32) (v2 : Int32) : wpX_reach (fun r u' => wpY_reach (fun r' => r' = r ∧ i_Rel (k + 4) u' v) v v1 v2) u v1 v2 := by
  refine rl_el (P := fun u v => wpX_reach (fun r u' => wpY_reach (fun r' => r' = r ∧ i_Rel (k + 4) u' v) v v1 v2) u v1 v2) ?_ I
  intro zhf zhn zcn zyn zsc zph zsa zgc zsd zs2 zrg zfl ztk zco znx zff zfc zmv zrm zrf zsu zss zgs zfa zst zt2 zse zpa zba yr yf A h24
  unfold wpX_reach
  rcases ar_c v1 (n := 7) (by omega) (by omega) with hb | ⟨e, he, rfl⟩
  · refine ar_cxn hb ?_
    refine br_t rfl ?_
    unfold wpY_reach
    refine ar_cyn hb ?_
    exact br_t rfl ⟨rfl, A, h24⟩
  · refine ar_cx he ?_
    refine br_f na_n10 ?_
    rcases ar_c v2 (n := 6) (by omega) (by omega) with hb | ⟨r, hr, rfl⟩
    · refine ar_rxn hb ?_
      refine br_t rfl ?_
      unfold wpY_reach
      refine ar_cy he ?_
      refine br_f na_n10 ?_
      refine ar_ryn hb ?_
      exact br_t rfl ⟨rfl, A, h24⟩
    · refine ar_rx hr ?_
      refine br_f na_n10 ?_
      obtain ⟨φ, I0⟩ := rl_iso A e he
      have I1 := is_one I0 hr
      have G := is_G I1
      have h9 : ∀ a, gr_X (fun _ => vw_r zrg e r) (vw_f zfl e) a → a < 96 := fun a ha => (G.2.2 a ha).2
      refine xw_start fun zse0 h0 => ?_
      rw [na_r, nI_clamp (by omega)]
      refine And.intro (vp_in_nI (by omega) (by omega)) ?_
      rw [← vw_r_at (g := zrg) (e := e) hr]
      refine xw_visit (rt := gr_R (fun _ => vw_r zrg e r)) (k := 0) (p := 0) (G.1 0 (by omega)) h9 (wk_0 h0) fun zst' zse' k' I' hc' hm hs => ?_
      refine ⟨97, ?_⟩
      refine xw_finish (post := _) (rt := gr_R (fun _ => vw_r zrg e r)) he h9 (fun a ha => G.2.1 a ha) (fun zst2 zse2 _ _ => ?_) 97 0 k' zst' zse' (by omega) I' (hc' _ (wk_0cl h0)) (fun b hb => hb.2.elim fun _ h => hm b hb.1 h.2)
      have ec : ct_c (gr_rea (gr_R (fun _ => vw_r zrg e r)) (gr_E (vw_f zfl e))) 96 = ct_c (yy_X (fun _ => yr r, yf)) 48 := is_cnt I1
      rw [ec]
      unfold wpY_reach
      refine ar_cy he ?_
      refine br_f na_n10 ?_
      refine ar_ry hr ?_
      refine br_f na_n10 ⟨vp_in_nI hr (by omega), ?_⟩
      rw [nI_clamp (by omega)]
      have eqX : ∀ i, gr_rea (fun i => Nat.testBit 0 i = true ∨ (i < 48 ∧ yr r = nI (10000 + i))) (yy_E (yr, yf)) i ↔ yy_X (fun _ => yr r, yf) i := fun i => by
        constructor
        · intro h
          refine gr_mono h (fun b hb => ?_) (fun _ _ hc he => gr_step hc he)
          rcases hb with z | z
          · rw [Nat.zero_testBit] at z; exact absurd z (by decide)
          · exact gr_root ⟨z.1, 0, by omega, z.2⟩
        · intro h
          exact gr_mono h (fun b hb => gr_root (Or.inr ⟨hb.1, hb.2.elim fun _ h => h.2⟩)) (fun _ _ hc he => gr_step hc he)
      refine yy_from (s := 0) (by decide) (is_vok (I0.1 r hr)) (fun p hp f hf => (is_ok I1).2 p ((eqX p).mp hp) f hf) fun s' hs' hb' => ?_
      refine yy_ones hs' ?_
      rw [ct_congr (Q := yy_X (fun _ => yr r, yf)) 48 fun i _ => (hb' i).trans (eqX i)]
      exact ⟨rfl, A, h24⟩
section RD
variable {zhf zhn zcn zyn zsc zph zsa zgc zsd zs2 : Int32} {zrg zfl ztk zco znx zff zfc zmv zrm zrf zsu zss zgs zfa zst zt2 zse zpa zba : Nat → Int32}
variable {v : SY}
theorem rc_collect {post : Int32 → SX → Prop} (A : rl_A (fun _ => v) zrg zfl ztk zco znx zff zfc zhf zhn zcn zyn zrm zsc zrf zsu zss zph zsa zgc zgs) (h24 : ct_c (yy_X v) 48 ≤ 24) : ∀ e, e < 7 → (∀ (zhf' zhn' zcn' zyn' zsc' zph' zsa' zgc' zsd' zs2' : Int32) (zrg' zfl' ztk' zco' znx' zff' zfc' zmv' zrm' zrf' zsu' zss' zgs' zfa' zst' zt2' zse' zpa' zba' : Nat → Int32), rl_A (fun _ => v) zrg' zfl' ztk' zco' znx' zff' zfc' zhf' zhn' zcn' zyn' zrm' zsc' zrf' zsu' zss' zph' zsa' zgc' zgs' → post (nI (ct_c (yy_X v) 48)) (zhf', zhn', zcn', zyn', zsc', zph', zsa', zgc', zsd', zs2', zrg', zfl', ztk', zco', znx', zff', zfc', zmv', zrm', zrf', zsu', zss', zgs', zfa', zst', zt2', zse', zpa', zba')) → wpX_collectNow post (zhf, zhn, zcn, zyn, zsc, zph, zsa, zgc, zsd, zs2, zrg, zfl, ztk, zco, znx, zff, zfc, zmv, zrm, zrf, zsu, zss, zgs, zfa, zst, zt2, zse, zpa, zba) (nI e) := by
  obtain ⟨a0, a1, a2, a3, a4, a5, a6⟩ := id A
  refine rl_7 (P := fun e => (∀ (zhf' zhn' zcn' zyn' zsc' zph' zsa' zgc' zsd' zs2' : Int32) (zrg' zfl' ztk' zco' znx' zff' zfc' zmv' zrm' zrf' zsu' zss' zgs' zfa' zst' zt2' zse' zpa' zba' : Nat → Int32), rl_A (fun _ => v) zrg' zfl' ztk' zco' znx' zff' zfc' zhf' zhn' zcn' zyn' zrm' zsc' zrf' zsu' zss' zph' zsa' zgc' zgs' → post (nI (ct_c (yy_X v) 48)) (zhf', zhn', zcn', zyn', zsc', zph', zsa', zgc', zsd', zs2', zrg', zfl', ztk', zco', znx', zff', zfc', zmv', zrm', zrf', zsu', zss', zgs', zfa', zst', zt2', zse', zpa', zba')) → wpX_collectNow post (zhf, zhn, zcn, zyn, zsc, zph, zsa, zgc, zsd, zs2, zrg, zfl, ztk, zco, znx, zff, zfc, zmv, zrm, zrf, zsu, zss, zgs, zfa, zst, zt2, zse, zpa, zba) (nI e)) ?_ ?_ ?_ ?_ ?_ ?_ ?_
  · intro K
    refine br_f (by decide) (br_f (by decide) (br_t rfl ?_))
    refine c0_collect a0 fun zst' ztk' zco' znx' zff' zfc' hj _ hV => ?_
    exact K _ _ _ _ _ _ _ _ _ _ _ _ _ _ _ _ _ _ _ _ _ _ _ _ _ _ _ _ _ (rl_mk0 A (show jv_0 _ v from hj) hV rfl (fun _ _ => rfl))
  · intro K
    refine br_f (by decide) (br_f (by decide) (br_f (by decide) (br_t rfl ?_)))
    refine c1_collect a1 h24 fun zmv' zfl' zrg' zhf' zhn' hj _ hV => ?_
    exact K _ _ _ _ _ _ _ _ _ _ _ _ _ _ _ _ _ _ _ _ _ _ _ _ _ _ _ _ _ (rl_mk1 A (show jv_1 _ _ _ v from hj) hV rfl (fun _ _ => rfl))
  · intro K
    refine br_f (by decide) (br_f (by decide) (br_f (by decide) (br_f (by decide) (br_t rfl ?_))))
    refine c2_collect a2 fun zst' zmv' zrg' zco' zfl' hj hV => ?_
    exact K _ _ _ _ _ _ _ _ _ _ _ _ _ _ _ _ _ _ _ _ _ _ _ _ _ _ _ _ _ (rl_mk2 A (show jv_2 _ _ v from hj) hV rfl (fun _ _ => rfl))
  · intro K
    refine br_f (by decide) (br_f (by decide) (br_f (by decide) (br_f (by decide) (br_f (by decide) (br_t rfl ?_)))))
    refine c3_collect a3 h24 fun zmv' zst' ztk' zco' znx' zff' zfc' zfl' zrm' zrg' hj hV => ?_
    exact K _ _ _ _ _ _ _ _ _ _ _ _ _ _ _ _ _ _ _ _ _ _ _ _ _ _ _ _ _ (rl_mk3 A (show jv_3 _ _ _ v from hj) hV rfl (fun _ _ => rfl))
  · intro K
    refine br_f (by decide) (br_f (by decide) (br_f (by decide) (br_f (by decide) (br_f (by decide) (br_f (by decide) (br_t rfl ?_))))))
    refine c4_collect a4 fun zfl' ztk' zco' znx' zff' zfc' zrf' zst' zsu' zss' zt2' zs2' zsd' hj _ hV => ?_
    exact K _ _ _ _ _ _ _ _ _ _ _ _ _ _ _ _ _ _ _ _ _ _ _ _ _ _ _ _ _ (rl_mk4 A (show jv_4 _ _ _ _ _ v from hj) hV rfl (fun _ _ => rfl))
  · intro K
    refine br_f (by decide) (br_f (by decide) (br_f (by decide) (br_f (by decide) (br_f (by decide) (br_f (by decide) (br_f (by decide) (br_t rfl ?_)))))))
    refine c5_collect a5 fun ztk' zco' znx' zff' zfc' zgs' zgc' zph' zsa' hj _ hV => ?_
    exact K _ _ _ _ _ _ _ _ _ _ _ _ _ _ _ _ _ _ _ _ _ _ _ _ _ _ _ _ _ (rl_mk5 A (show jv_5 _ _ _ _ _ v from hj) hV rfl (fun _ _ => rfl))
  · intro K
    refine br_f (by decide) (br_t (by decide) ?_)
    refine c6_collect a6 fun zfl' zfa' ztk' zco' znx' zff' zfc' _ hj _ hV => ?_
    exact K _ _ _ _ _ _ _ _ _ _ _ _ _ _ _ _ _ _ _ _ _ _ _ _ _ _ _ _ _ (rl_mk6 A (show jv_0 _ v from hj) hV rfl (fun _ _ => rfl))
end RD
theorem i_vc_collect {k : Nat} {u : SX} {v : SY} (I : i_Rel k u v) (hk : k + 4 ≤ 2048) (v1 : Int32) : wpX_collect (fun r u' => wpY_collect (fun r' => r' = r ∧ i_Rel (k + 4) u' v) v v1) u v1 := by
  refine rl_el (P := fun u v => wpX_collect (fun r u' => wpY_collect (fun r' => r' = r ∧ i_Rel (k + 4) u' v) v v1) u v1) ?_ I
  intro zhf zhn zcn zyn zsc zph zsa zgc zsd zs2 zrg zfl ztk zco znx zff zfc zmv zrm zrf zsu zss zgs zfa zst zt2 zse zpa zba yr yf A h24
  unfold wpX_collect
  rcases ar_c v1 (n := 7) (by omega) (by omega) with hb | ⟨e, he, rfl⟩
  · refine ar_cxn hb ?_
    refine br_t rfl ?_
    unfold wpY_collect wpY_count
    refine ar_cyn hb ?_
    exact br_t rfl ⟨rfl, A, h24⟩
  · refine ar_cx he ?_
    refine br_f na_n10 ?_
    refine rc_collect A h24 e he fun zhf' zhn' zcn' zyn' zsc' zph' zsa' zgc' zsd' zs2' zrg' zfl' ztk' zco' znx' zff' zfc' zmv' zrm' zrf' zsu' zss' zgs' zfa' zst' zt2' zse' zpa' zba' A' => ?_
    obtain ⟨φ, I0⟩ := rl_iso A e he
    unfold wpY_collect wpY_count
    refine ar_cy he ?_
    refine br_f na_n10 ?_
    exact yc_ones (is_ok I0) ⟨rfl, A', h24⟩
end
section
/-! sums -/
def sm_s (g : Nat → Int32) : Nat → Int32
  | 0 => 0
  | n + 1 => sm_s g n + g n
theorem sm_congr {g h : Nat → Int32} : ∀ n, (∀ i, i < n → g i = h i) → sm_s g n = sm_s h n
  | 0, _ => rfl
  | n + 1, e => by
    show sm_s g n + g n = sm_s h n + h n
    rw [sm_congr n fun i hi => e i (by omega), e n (by omega)]
theorem sm_zero {g : Nat → Int32} : ∀ n, (∀ i, i < n → g i = 0) → sm_s g n = 0
  | 0, _ => rfl
  | n + 1, e => by
    show sm_s g n + g n = 0
    rw [sm_zero n fun i hi => e i (by omega), e n (by omega)]; rfl
theorem sm_upd {g : Nat → Int32} {a : Nat} : ∀ n, a < n → sm_s g n = sm_s (upd g a 0) n + g a
  | 0, h => absurd h (Nat.not_lt_zero a)
  | n + 1, h => by
    show sm_s g n + g n = sm_s (upd g a 0) n + upd g a 0 n + g a
    by_cases e : a = n
    · subst e
      rw [pk_us, sm_congr (g := upd g a 0) (h := g) a fun i hi => pk_un (by omega), Int32.add_zero]
    · rw [pk_un (fun z => e z.symm), sm_upd (g := g) (a := a) n (by omega), Int32.add_assoc, Int32.add_assoc, Int32.add_comm (g a)]
theorem sm_map {P : Nat → Prop} {h : Nat → Int32} (φ : Nat → Nat) (m : Nat) : ∀ (n : Nat) (g : Nat → Int32), (∀ p, p < n → P p → φ p < m ∧ g (φ p) = h p) → (∀ p, p < n → ¬ P p → h p = 0) → (∀ p q, p < n → q < n → P p → P q → φ p = φ q → p = q) →
    (∀ a, a < m → (¬ ∃ p, p < n ∧ P p ∧ φ p = a) → g a = 0) → sm_s g m = sm_s h n
  | 0, g, _, _, _, h4 => by
    rw [sm_zero m fun i hi => h4 i hi fun ⟨p, hp, _⟩ => absurd hp (Nat.not_lt_zero p)]; rfl
  | n + 1, g, h1, h2, h3, h4 => by
    show sm_s g m = sm_s h n + h n
    by_cases hP : P n
    · have hn := h1 n (by omega) hP
      rw [sm_upd m hn.1, hn.2]
      congr 1
      refine sm_map φ m n (upd g (φ n) 0) (fun p hp hpp => ?_) (fun p hp => h2 p (by omega)) (fun p q hp hq => h3 p q (by omega) (by omega)) (fun a ha hno => ?_)
      · have hne : φ p ≠ φ n := fun e => by have := h3 p n (by omega) (by omega) hpp hP e; omega
        rw [pk_un hne]; exact h1 p (by omega) hpp
      · by_cases e : a = φ n
        · rw [e, pk_us]
        · rw [pk_un e]
          refine h4 a ha fun ⟨p, hp, hpp, ep⟩ => ?_
          by_cases ep2 : p = n
          · exact e (by rw [← ep, ep2])
          · exact hno ⟨p, by omega, hpp, ep⟩
    · rw [h2 n (by omega) hP, Int32.add_zero]
      refine sm_map φ m n g (fun p hp => h1 p (by omega)) (fun p hp => h2 p (by omega)) (fun p q hp hq => h3 p q (by omega) (by omega)) (fun a ha hno => ?_)
      refine h4 a ha fun ⟨p, hp, hpp, ep⟩ => ?_
      by_cases ep2 : p = n
      · exact hP (ep2 ▸ hpp)
      · exact hno ⟨p, by omega, hpp, ep⟩
theorem sm_3 {g : Nat → Int32} : ∀ n, sm_s g (3 * n) = sm_s (fun p => g (3 * p) + g (3 * p + 1) + g (3 * p + 2)) n
  | 0 => rfl
  | n + 1 => by
    show sm_s g (3 * n + 3) = sm_s (fun p => g (3 * p) + g (3 * p + 1) + g (3 * p + 2)) n + (g (3 * n) + g (3 * n + 1) + g (3 * n + 2))
    rw [← sm_3 n]
    show sm_s g (3 * n) + g (3 * n) + g (3 * n + 1) + g (3 * n + 2) = _
    rw [Int32.add_assoc, Int32.add_assoc, Int32.add_assoc]
/-- what a content adds -/
def sm_x (x : Int32) : Int32 := if (x &&& 1) = 0 then 0 else x >>> ((1 : Int32) &&& 31)
def sm_y (y : Int32) : Int32 := if y < 10000 then y else 0
theorem sm_xy {φ : Nat → Nat} {x y : Int32} (h : is_v φ x y) (h9 : ∀ p, p < 48 → y = nI (10000 + p) → φ p < 96) : sm_x x = sm_y y := by
  rcases h with ⟨n1, n2, ex⟩ | ⟨p, hp, ey, ex⟩
  · rw [sm_x, sm_y, if_pos (yy_num ⟨n1, n2⟩), ex, if_neg (is_od y), is_sh ⟨n1, n2⟩]
  · have := h9 p hp ey
    rw [sm_x, sm_y, ey, if_neg (yy_ge hp), ex, if_pos (gr_even (by omega))]
section SU
variable {zhf zhn zcn zyn zsc zph zsa zgc zsd zs2 : Int32} {zrg zfl ztk zco znx zff zfc zmv zrm zrf zsu zss zgs zfa zst zt2 zse zpa zba : Nat → Int32}
theorem xu_inner {post : Int32 → SX → Prop} {J : Int32 → Int32 → Prop} {e a : Nat} {x2 : Int32} (he : e < 7) (ha : a < 96)
    (k0 : zse a = 0 → J x2 (nI (a + 1))) (k1 : zse a ≠ 0 → J (x2 + sm_x (vw_f zfl e a 0) + sm_x (vw_f zfl e a 1) + sm_x (vw_f zfl e a 2)) (nI (a + 1))) : wX_sum_30 post J (nI e) (nI a) zhf zhn zcn zyn zsc zph zsa zgc zsd zs2 zrg zfl ztk zco znx zff zfc zmv zrm zrf zsu zss zgs zfa zst zt2 zse zpa zba 4 x2 0 := by
  by_cases h0 : zse a = 0
  · refine br_f (by decide) ⟨vp_in_nI ha (by omega), ?_⟩
    rw [nI_clamp (by omega)]
    exact br_t h0 (nm_r (nI_1 a) (k0 h0))
  · have step : ∀ (n g : Nat) (x : Int32), g < 3 → wX_sum_30 post J (nI e) (nI a) zhf zhn zcn zyn zsc zph zsa zgc zsd zs2 zrg zfl ztk zco znx zff zfc zmv zrm zrf zsu zss zgs zfa zst zt2 zse zpa zba n (x + sm_x (vw_f zfl e a g)) (nI (g + 1)) → wX_sum_30 post J (nI e) (nI a) zhf zhn zcn zyn zsc zph zsa zgc zsd zs2 zrg zfl ztk zco znx zff zfc zmv zrm zrf zsu zss zgs zfa zst zt2 zse zpa zba (n + 1) x (nI g) := by
      intro n g x hg h
      refine br_f (nI_ge (b := 3) hg (by omega)) ⟨vp_in_nI ha (by omega), ?_⟩
      rw [nI_clamp (by omega)]
      refine br_f h0 ?_
      refine xp_fieldOf he ha hg ?_
      by_cases ev : (vw_f zfl e a g &&& 1) = 0
      · refine br_t ev (br_f na_n10 ?_)
        refine nm_r (e' := x + sm_x (vw_f zfl e a g)) (by rw [sm_x, if_pos ev]) (nm_r (nI_1 g) h)
      · refine br_f ev (br_t rfl ?_)
        refine nm_r (e' := x + sm_x (vw_f zfl e a g)) (by rw [sm_x, if_neg ev]) (nm_r (nI_1 g) h)
    refine step 3 0 x2 (by omega) ?_
    refine step 2 1 _ (by omega) ?_
    refine step 1 2 _ (by omega) ?_
    exact br_t (by decide) (nm_r (nI_1 a) (k1 h0))
theorem xu_outer {post : Int32 → SX → Prop} {e : Nat} (he : e < 7) (g : Nat → Int32) (hg0 : ∀ a, a < 96 → zse a = 0 → g a = 0) (hg1 : ∀ a, a < 96 → zse a ≠ 0 → g a = sm_x (vw_f zfl e a 0) + sm_x (vw_f zfl e a 1) + sm_x (vw_f zfl e a 2)) (K : post (sm_s g 96) (zhf, zhn, zcn, zyn, zsc, zph, zsa, zgc, zsd, zs2, zrg, zfl, ztk, zco, znx, zff, zfc, zmv, zrm, zrf, zsu, zss, zgs, zfa, zst, zt2, zse, zpa, zba)) :
    ∀ (n a : Nat), a ≤ 96 → 96 < n + a → wX_sum_21 post (nI e) zhf zhn zcn zyn zsc zph zsa zgc zsd zs2 zrg zfl ztk zco znx zff zfc zmv zrm zrf zsu zss zgs zfa zst zt2 zse zpa zba n (sm_s g a) (nI a) := by
  intro n
  induction n with
  | zero => intro a h1 h2; omega
  | succ n ih =>
    intro a h1 h2
    by_cases h96 : a = 96
    · subst h96; exact br_t (by decide) K
    · refine br_f (nI_ge (b := 96) (by omega) (by omega)) ⟨4, ?_⟩
      have hi := ih (a + 1) (by omega) (by omega)
      refine xu_inner he (by omega) (fun h0 => ?_) (fun h0 => ?_)
      · have : sm_s g (a + 1) = sm_s g a := by
          show sm_s g a + g a = _
          rw [hg0 a (by omega) h0, Int32.add_zero]
        rw [this] at hi; exact hi
      · have : sm_s g (a + 1) = sm_s g a + sm_x (vw_f zfl e a 0) + sm_x (vw_f zfl e a 1) + sm_x (vw_f zfl e a 2) := by
          show sm_s g a + g a = _
          rw [hg1 a (by omega) h0, Int32.add_assoc, Int32.add_assoc, Int32.add_assoc]
        rw [this] at hi; exact hi
end SU
theorem yu_loop {yr yf : Nat → Int32} {post : Int32 → Prop} {s : Nat} {x1 : Int32} (hs : s < 2 ^ 48) (g : Nat → Int32) (hg0 : ∀ c, c < 144 → ¬ s.testBit (c / 3) = true → g c = 0) (hg1 : ∀ c, c < 144 → s.testBit (c / 3) = true → g c = sm_y (yf c))
    (K : wpY_isCollector (fun q => (q = 0 → post (-1000)) ∧ (¬ q = 0 → post (sm_s g 144))) (yr, yf) x1) :
    ∀ (n c : Nat), c ≤ 144 → 144 < n + c → wY_sum_11 post x1 (lN s) yr yf n (sm_s g c) (nI c) := by
  intro n
  induction n with
  | zero => intro c h1 h2; omega
  | succ n ih =>
    intro c h1 h2
    by_cases h144 : c = 144
    · subst h144; exact br_t (by decide) K
    · refine br_f (nI_ge (b := 144) (by omega) (by omega)) ⟨by decide, ?_⟩
      rw [show (3 : Int32) = nI 3 from rfl, pk_div (by omega) (by omega) (by omega)]
      have hi := ih (c + 1) (by omega) (by omega)
      have skip : g c = 0 → wY_sum_11 post x1 (lN s) yr yf n (sm_s g c) (nI (c + 1)) := fun h => by
        have : sm_s g (c + 1) = sm_s g c := by
          show sm_s g c + g c = _
          rw [h, Int32.add_zero]
        rw [this] at hi; exact hi
      by_cases hb : s.testBit (c / 3) = true
      · refine br_t ((yy_bit hs (by omega)).mpr hb) ⟨vp_in_nI (by omega) (by omega), ?_⟩
        rw [nI_clamp (by omega)]
        have hgc := hg1 c (by omega) hb
        by_cases hn : yf c < 10000
        · refine br_t hn (br_t rfl ⟨vp_in_nI (by omega) (by omega), ?_⟩)
          refine nm_r (e' := sm_s g (c + 1)) ?_ (nm_r (nI_1 c) hi)
          show sm_s g c + yf c = sm_s g c + g c
          rw [hgc, sm_y, if_pos hn]
        · refine br_f hn (br_f na_n10 (nm_r (nI_1 c) (skip ?_)))
          rw [hgc, sm_y, if_neg hn]
      · refine br_f (fun z => hb ((yy_bit hs (by omega)).mp z)) (nm_r (nI_1 c) (skip (hg0 c (by omega) hb)))
theorem i_vc_sum {k : Nat} {u : SX} {v : SY} (I : i_Rel k u v) (hk : k + 4 ≤ 2048) (v1 : Int32) : wpX_sum (fun r u' => wpY_sum (fun r' => r' = r ∧ i_Rel (k + 4) u' v) v v1) u v1 := by
  refine rl_el (P := fun u v => wpX_sum (fun r u' => wpY_sum (fun r' => r' = r ∧ i_Rel (k + 4) u' v) v v1) u v1) ?_ I
  intro zhf zhn zcn zyn zsc zph zsa zgc zsd zs2 zrg zfl ztk zco znx zff zfc zmv zrm zrf zsu zss zgs zfa zst zt2 zse zpa zba yr yf A h24
  unfold wpX_sum
  have ysum : ∀ {post : Int32 → Prop}, (∀ s, s < 2 ^ 48 → (∀ i, s.testBit i = true ↔ yy_X (yr, yf) i) → wpY_isCollector (fun q => (q = 0 → post (-1000)) ∧ (¬ q = 0 → post (sm_s (fun c => @ite Int32 (yy_X (yr, yf) (c / 3)) (Classical.propDecidable _) (sm_y (yf c)) 0) 144))) (yr, yf) v1) → wpY_sum post (yr, yf) v1 := by
    intro post h
    obtain ⟨φ, I0⟩ := rl_iso A 0 (by omega)
    unfold wpY_sum
    refine yy_all (is_ok I0) fun s hs hb => ?_
    refine ⟨145, ?_⟩
    exact yu_loop hs (fun c => @ite Int32 (yy_X (yr, yf) (c / 3)) (Classical.propDecidable _) (sm_y (yf c)) 0) (fun c _ hn => if_neg fun z => hn ((hb _).mpr z)) (fun c _ hp => if_pos ((hb _).mp hp)) (h s hs hb) 145 0 (by omega) (by omega)
  rcases ar_c v1 (n := 7) (by omega) (by omega) with hbad | ⟨e, he, rfl⟩
  · refine ar_cxn hbad ?_
    refine br_t rfl ?_
    refine ysum fun s hs hb => ?_
    refine ar_cyn hbad ?_
    exact br_t rfl ⟨rfl, A, h24⟩
  · refine ar_cx he ?_
    refine br_f na_n10 ?_
    obtain ⟨φ, I0⟩ := rl_iso A e he
    have G := is_G I0
    refine xw_all he G fun zst' zse' m1 m2 => ?_
    refine ⟨96, ?_⟩
    have hse : ∀ a, a < 96 → (zse' a = 0 ↔ ¬ gr_X (vw_r zrg e) (vw_f zfl e) a) := fun a ha => by
      rw [← vw_s_at (g := zse') ha]
      exact ⟨fun z hx => by rw [m1 a hx] at z; exact absurd z (by decide), fun z => m2 a z⟩
    have key := xu_outer (zhf := zhf) (zhn := zhn) (zcn := zcn) (zyn := zyn) (zsc := zsc) (zph := zph) (zsa := zsa) (zgc := zgc) (zsd := 0) (zs2 := zs2) (zrg := zrg) (zfl := zfl) (ztk := ztk) (zco := zco) (znx := znx) (zff := zff) (zfc := zfc) (zmv := zmv) (zrm := zrm) (zrf := zrf) (zsu := zsu) (zss := zss) (zgs := zgs) (zfa := zfa) (zst := zst') (zt2 := zt2) (zse := zse') (zpa := zpa) (zba := zba)
      (post := fun r u' => wpY_sum (fun r' => r' = r ∧ i_Rel (k + 4) u' (yr, yf)) (yr, yf) (nI e)) he
      (fun a => @ite Int32 (gr_X (vw_r zrg e) (vw_f zfl e) a) (Classical.propDecidable _) (sm_x (vw_f zfl e a 0) + sm_x (vw_f zfl e a 1) + sm_x (vw_f zfl e a 2)) 0) (fun a ha h0 => if_neg ((hse a ha).mp h0)) (fun a ha h0 => if_pos (Classical.byContradiction fun z => h0 ((hse a ha).mpr z))) ?_ 96 1 (by omega) (by omega)
    · have e1 : sm_s (fun a => @ite Int32 (gr_X (vw_r zrg e) (vw_f zfl e) a) (Classical.propDecidable _) (sm_x (vw_f zfl e a 0) + sm_x (vw_f zfl e a 1) + sm_x (vw_f zfl e a 2)) 0) 1 = 0 := by
        refine sm_zero 1 fun i hi => if_neg fun z => ?_
        have := (G.2.2 i z).1; omega
      rw [e1] at key
      exact key
    · refine ysum fun s hs hb => ?_
      refine ar_cy he ?_
      refine br_f na_n10 ⟨?_, A, h24⟩
      rw [show (144 : Nat) = 3 * 48 from rfl, sm_3]
      symm
      refine sm_map (P := yy_X (yr, yf)) φ 96 48 _ (fun p hp hx => ⟨(I0.2.2.2 p hx).2, ?_⟩) (fun p hp hx => ?_) (fun p q _ _ hp hq e => I0.2.2.1 p q hp hq e) (fun a ha hno => if_neg fun z => ?_)
      · have hxa : gr_X (vw_r zrg e) (vw_f zfl e) (φ p) := (is_X I0 _).mpr ⟨p, hx, rfl⟩
        have ev : ∀ f, f < 3 → sm_x (vw_f zfl e (φ p) f) = sm_y (yf (3 * p + f)) := fun f hf => sm_xy (I0.2.1 p hx f hf) fun q hq ey => (I0.2.2.2 q (gr_step hx ⟨hq, f, hf, ey⟩)).2
        show @ite Int32 (gr_X (vw_r zrg e) (vw_f zfl e) (φ p)) (Classical.propDecidable _) _ 0 = @ite Int32 (yy_X (yr, yf) (3 * p / 3)) (Classical.propDecidable _) _ 0 + @ite Int32 (yy_X (yr, yf) ((3 * p + 1) / 3)) (Classical.propDecidable _) _ 0 + @ite Int32 (yy_X (yr, yf) ((3 * p + 2) / 3)) (Classical.propDecidable _) _ 0
        rw [if_pos hxa, show 3 * p / 3 = p by omega, show (3 * p + 1) / 3 = p by omega, show (3 * p + 2) / 3 = p by omega, if_pos hx, if_pos hx, if_pos hx, ev 0 (by omega), ev 1 (by omega), ev 2 (by omega)]; rfl
      · show @ite Int32 (yy_X (yr, yf) (3 * p / 3)) (Classical.propDecidable _) _ 0 + @ite Int32 (yy_X (yr, yf) ((3 * p + 1) / 3)) (Classical.propDecidable _) _ 0 + @ite Int32 (yy_X (yr, yf) ((3 * p + 2) / 3)) (Classical.propDecidable _) _ 0 = 0
        rw [show 3 * p / 3 = p by omega, show (3 * p + 1) / 3 = p by omega, show (3 * p + 2) / 3 = p by omega, if_neg hx, if_neg hx, if_neg hx]; rfl
      · obtain ⟨p, hp, ep⟩ := (is_X I0 a).mp z
        exact hno ⟨p, yy_lt hp, hp, ep⟩
end
section
/-! pairing two collectors' cells -/
def ag_I (φ ψ : Nat → Nat) (v : SY) (pa ba st : Nat → Int32) (k p : Nat) : Prop :=
  (∀ a, pa a = 0 ∨ ∃ q, yy_X v q ∧ a = φ q ∧ pa a = nI (ψ q) ∧ ba (ψ q) = nI (φ q)) ∧ (∀ b, ba b = 0 ∨ ∃ q, yy_X v q ∧ b = ψ q ∧ pa (φ q) = nI (ψ q)) ∧
  (∀ i, i < k → ∃ q, yy_X v q ∧ st i = nI (φ q) ∧ pa (φ q) ≠ 0) ∧ ct_c (fun a => pa a ≠ 0) 96 = p + k
section AG
variable {zhf zhn zcn zyn zsc zph zsa zgc zsd zs2 : Int32} {zrg zfl ztk zco znx zff zfc zmv zrm zrf zsu zss zgs zfa zst zt2 zse zpa zba : Nat → Int32}
variable {φ ψ : Nat → Nat} {v : SY}
theorem ag_k {pa ba st : Nat → Int32} {k p : Nat} (I : ag_I φ ψ v pa ba st k p) : p + k ≤ 96 := by
  have := ct_le (P := fun a => pa a ≠ 0) 96
  have := I.2.2.2
  omega
theorem ag_alike {post : Int32 → SX → Prop} {x y z : Int32} {k p : Nat} (hx : is_v φ x z) (hy : is_v ψ y z) (hz : ∀ q, q < 48 → z = nI (10000 + q) → yy_X v q)
    (hφ : ∀ q, yy_X v q → 1 ≤ φ q ∧ φ q < 96) (hψ : ∀ q, yy_X v q → 1 ≤ ψ q ∧ ψ q < 96) (iφ : ∀ q r, yy_X v q → yy_X v r → φ q = φ r → q = r) (iψ : ∀ q r, yy_X v q → yy_X v r → ψ q = ψ r → q = r)
    (I : ag_I φ ψ v (vw_s zpa) (vw_s zba) zst k p)
    (K : ∀ zpa' zba' zst' k', ag_I φ ψ v (vw_s zpa') (vw_s zba') zst' k' p → (∀ a, vw_s zpa a ≠ 0 → vw_s zpa' a ≠ 0) → post 1 (zhf, zhn, zcn, zyn, zsc, zph, zsa, zgc, nI k', zs2, zrg, zfl, ztk, zco, znx, zff, zfc, zmv, zrm, zrf, zsu, zss, zgs, zfa, zst', zt2, zse, zpa', zba')) : wpX_isAlike post (zhf, zhn, zcn, zyn, zsc, zph, zsa, zgc, nI k, zs2, zrg, zfl, ztk, zco, znx, zff, zfc, zmv, zrm, zrf, zsu, zss, zgs, zfa, zst, zt2, zse, zpa, zba) x y := by
  have hk := ag_k I
  unfold wpX_isAlike
  rcases hx with ⟨n1, n2, ex⟩ | ⟨q, hq, ez, ex⟩
  · rw [ex]
    refine xp_odd (is_od z) ?_
    refine br_t rfl ?_
    rcases hy with ⟨_, _, ey⟩ | ⟨q, hq, ez, _⟩
    · rw [ey]
      exact br_t rfl (K zpa zba zst k I fun _ h => h)
    · exact absurd ez (yy_numne ⟨n1, n2⟩ hq)
  · have hyy := is_vr hy hq ez
    have hX := hz q hq ez
    have ha := hφ q hX
    have hb := hψ q hX
    rw [ex, hyy]
    refine xp_ref (by omega) ?_
    refine br_f na_n10 ?_
    refine xp_ref (by omega) ?_
    refine br_f na_n10 (nm_r (gr_sh (by omega)) (nm_r (gr_sh (by omega)) ?_))
    rw [nI_clamp (n := φ q) (by omega), nI_clamp (n := ψ q) (by omega)]
    refine ⟨vp_in_nI ha.2 (by omega), ?_⟩
    have vpa : vw_s zpa (φ q) = zpa (φ q) := vw_s_at ha.2
    have vba : vw_s zba (ψ q) = zba (ψ q) := vw_s_at hb.2
    have fin : ∀ (zsd : Int32) (zpa zba zst : Nat → Int32), zpa (φ q) = nI (ψ q) → zba (ψ q) = nI (φ q) → post 1 (zhf, zhn, zcn, zyn, zsc, zph, zsa, zgc, zsd, zs2, zrg, zfl, ztk, zco, znx, zff, zfc, zmv, zrm, zrf, zsu, zss, zgs, zfa, zst, zt2, zse, zpa, zba) → wX_isAlike_76 post (nI (φ q)) (nI (ψ q)) zhf zhn zcn zyn zsc zph zsa zgc zsd zs2 zrg zfl ztk zco znx zff zfc zmv zrm zrf zsu zss zgs zfa zst zt2 zse zpa zba := by
      intro zsd zpa zba zst h1 h2 h3
      refine And.intro (vp_in_nI ha.2 (by omega)) ?_
      rw [nI_clamp (n := φ q) (by omega), nI_clamp (n := ψ q) (by omega)]
      exact br_t h1 ⟨vp_in_nI hb.2 (by omega), br_t h2 h3⟩
    by_cases h0 : zpa (φ q) = 0
    · refine br_t h0 ⟨vp_in_nI hb.2 (by omega), ?_⟩
      have hb0 : zba (ψ q) = 0 := by
        rw [← vba]
        rcases I.2.1 (ψ q) with w | ⟨r, hr, er, hp⟩
        · exact w
        · have : q = r := iψ q r hX hr er
          rw [← this, vpa, h0] at hp
          exact absurd hp.symm (nI_ne0 (by omega) (by omega))
      refine br_t hb0 ⟨vp_in_nI ha.2 (by omega), ?_⟩
      rw [na_b (by omega), na_b (by omega)]
      refine nm_e ⟨vp_in_nI hb.2 (by omega), nm_e ?_⟩
      refine xp_push (by omega) (by omega) ?_
      refine fin _ _ _ _ pk_us pk_us ?_
      refine K _ _ _ (k + 1) ⟨fun a => ?_, fun b => ?_, fun i hi => ?_, ?_⟩ (fun a hpa => ?_)
      · rw [vw_s_s ha.2, vw_s_s hb.2]
        by_cases e : a = φ q
        · rw [e, pk_us]; exact Or.inr ⟨q, hX, rfl, rfl, pk_us⟩
        · rw [pk_un e]
          refine (I.1 a).imp id fun ⟨r, hr, er, h1, h2⟩ => ⟨r, hr, er, h1, ?_⟩
          have : ψ r ≠ ψ q := fun w => e (by rw [er, iψ r q hr hX w])
          rw [pk_un this]; exact h2
      · rw [vw_s_s ha.2, vw_s_s hb.2]
        by_cases e : b = ψ q
        · exact Or.inr ⟨q, hX, e, pk_us⟩
        · rw [pk_un e]
          refine (I.2.1 b).imp id fun ⟨r, hr, er, h1⟩ => ⟨r, hr, er, ?_⟩
          have : φ r ≠ φ q := fun w => e (by rw [er, iφ r q hr hX w])
          rw [pk_un this]; exact h1
      · rw [vw_s_s ha.2]
        by_cases e : i = k
        · exact ⟨q, hX, by rw [e, pk_us], by rw [pk_us]; exact nI_ne0 (by omega) (by omega)⟩
        · obtain ⟨r, hr, h1, h2⟩ := I.2.2.1 i (by omega)
          refine ⟨r, hr, by rw [pk_un e]; exact h1, ?_⟩
          by_cases e2 : φ r = φ q
          · rw [e2, pk_us]; exact nI_ne0 (by omega) (by omega)
          · rw [pk_un e2]; exact h2
      · rw [vw_s_s ha.2, ct_add (P := fun a => vw_s zpa a ≠ 0) (a := φ q) 96 ha.2 (fun w => w (vpa.trans h0)) (fun i _ => ?_), I.2.2.2]
        · omega
        · show upd (vw_s zpa) (φ q) (nI (ψ q)) i ≠ 0 ↔ _
          by_cases e : i = φ q
          · rw [e, pk_us]; exact ⟨fun _ => Or.inr rfl, fun _ => nI_ne0 (by omega) (by omega)⟩
          · rw [pk_un e]; exact ⟨Or.inl, fun w => w.resolve_right e⟩
      · rw [vw_s_s ha.2]
        by_cases e : a = φ q
        · rw [e, pk_us]; exact nI_ne0 (by omega) (by omega)
        · rw [pk_un e]; exact hpa
    · refine br_f h0 ?_
      obtain ⟨r, hr, er, h1, h2⟩ := (I.1 (φ q)).resolve_left (by rw [vpa]; exact h0)
      have eq : q = r := iφ q r hX hr er
      rw [← eq] at h1 h2
      exact fin _ zpa zba zst (by rw [← vpa]; exact h1) (by rw [← vba]; exact h2) (K zpa zba zst k I fun _ h => h)
variable {e f : Nat}
theorem ag_fields {post : Int32 → SX → Prop} {J : TW_11} {q p : Nat} (he : e < 7) (hf : f < 7) (I1 : is_I φ (vw_r zrg e) (vw_f zfl e) v) (I2 : is_I ψ (vw_r zrg f) (vw_f zfl f) v) (hq : yy_X v q)
    (K : ∀ zpa' zba' zst' k', ag_I φ ψ v (vw_s zpa') (vw_s zba') zst' k' p → J 1 zhf zhn zcn zyn zsc zph zsa zgc (nI k') zs2 zrg zfl ztk zco znx zff zfc zmv zrm zrf zsu zss zgs zfa zst' zt2 zse zpa' zba') :
    ∀ (n g k : Nat) (zpa zba zst : Nat → Int32), g ≤ 3 → 3 < n + g → ag_I φ ψ v (vw_s zpa) (vw_s zba) zst k p → vw_s zpa (φ q) ≠ 0 → wX_agree_135 post J (nI e) (nI f) (nI (φ q)) n 1 (nI g) zhf zhn zcn zyn zsc zph zsa zgc (nI k) zs2 zrg zfl ztk zco znx zff zfc zmv zrm zrf zsu zss zgs zfa zst zt2 zse zpa zba := by
  intro n
  induction n with
  | zero => intro g k _ _ _ h1 h2; omega
  | succ n ih =>
    intro g k zpa zba zst h1 h2 I hpa
    have ha := I1.2.2.2 q hq
    have hb := I2.2.2.2 q hq
    by_cases h3 : g = 3
    · subst h3
      exact br_t (by decide) (K zpa zba zst k I)
    · refine br_f (nI_ge (b := 3) (by omega) (by omega)) (br_f na_n10 ?_)
      refine xp_fieldOf he ha.2 (by omega) ?_
      refine ⟨vp_in_nI ha.2 (by omega), ?_⟩
      have hpv : zpa (φ q) = nI (ψ q) := by
        rw [← vw_s_at (g := zpa) ha.2]
        obtain ⟨r, hr, er, h1, h2⟩ := (I.1 (φ q)).resolve_left hpa
        rw [I1.2.2.1 q r hq hr er]; rw [I1.2.2.1 q r hq hr er] at h1; exact h1
      rw [nI_clamp (n := φ q) (by omega), hpv]
      refine xp_fieldOf hf hb.2 (by omega) ?_
      refine ag_alike (v := v) (I1.2.1 q hq g (by omega)) (I2.2.1 q hq g (by omega)) (fun r hr ez => gr_step hq ⟨hr, g, by omega, ez⟩) I1.2.2.2 I2.2.2.2 I1.2.2.1 I2.2.2.1 I fun zpa' zba' zst' k' I' hm => ?_
      refine nm_r (nI_1 g) ?_
      exact ih (g + 1) k' zpa' zba' zst' (by omega) (by omega) I' (hm _ hpa)
theorem ag_stack {post : Int32 → SX → Prop} (he : e < 7) (hf : f < 7) (I1 : is_I φ (vw_r zrg e) (vw_f zfl e) v) (I2 : is_I ψ (vw_r zrg f) (vw_f zfl f) v)
    (K : ∀ zpa' zba' zst' zsd', post 1 (zhf, zhn, zcn, zyn, zsc, zph, zsa, zgc, zsd', zs2, zrg, zfl, ztk, zco, znx, zff, zfc, zmv, zrm, zrf, zsu, zss, zgs, zfa, zst', zt2, zse, zpa', zba')) :
    ∀ (n k p : Nat) (zpa zba zst : Nat → Int32), 97 ≤ n + p → ag_I φ ψ v (vw_s zpa) (vw_s zba) zst k p → wX_agree_100 post (nI e) (nI f) n 1 zhf zhn zcn zyn zsc zph zsa zgc (nI k) zs2 zrg zfl ztk zco znx zff zfc zmv zrm zrf zsu zss zgs zfa zst zt2 zse zpa zba := by
  intro n
  induction n with
  | zero => intro k p _ _ _ h I; have := ag_k I; omega
  | succ n ih =>
    intro k p zpa zba zst h I
    have hk := ag_k I
    cases k with
    | zero => exact br_t (by decide) ⟨narrow_b1, K zpa zba zst _⟩
    | succ k =>
      refine br_f (nI_nle (by omega) (by omega)) (br_f na_n10 (nm_r (nI_pred k) ⟨vp_in_nI (by omega) (by omega), ?_⟩))
      obtain ⟨q, hq, es, hpa⟩ := I.2.2.1 k (by omega)
      rw [nI_clamp (by omega)]
      refine nm_r es ⟨4, ?_⟩
      refine ag_fields (post := post) he hf I1 I2 hq (fun zpa' zba' zst' k' I' => ?_) 4 0 k zpa zba zst (by omega) (by omega) (p := p + 1) ⟨I.1, I.2.1, fun i hi => I.2.2.1 i (by omega), by rw [I.2.2.2]; omega⟩ hpa
      exact ih k' (p + 1) zpa' zba' zst' (by omega) I'
theorem ag_regs {post : Int32 → SX → Prop} (he : e < 7) (hf : f < 7) (I1 : is_I φ (vw_r zrg e) (vw_f zfl e) v) (I2 : is_I ψ (vw_r zrg f) (vw_f zfl f) v)
    (K : ∀ zpa' zba' zst' zsd', post 1 (zhf, zhn, zcn, zyn, zsc, zph, zsa, zgc, zsd', zs2, zrg, zfl, ztk, zco, znx, zff, zfc, zmv, zrm, zrf, zsu, zss, zgs, zfa, zst', zt2, zse, zpa', zba')) :
    ∀ (n r k : Nat) (zpa zba zst : Nat → Int32), r ≤ 6 → 6 < n + r → ag_I φ ψ v (vw_s zpa) (vw_s zba) zst k 0 → wX_agree_54 post (nI e) (nI f) n 1 (nI r) zhf zhn zcn zyn zsc zph zsa zgc (nI k) zs2 zrg zfl ztk zco znx zff zfc zmv zrm zrf zsu zss zgs zfa zst zt2 zse zpa zba := by
  intro n
  induction n with
  | zero => intro r k _ _ _ h1 h2; omega
  | succ n ih =>
    intro r k zpa zba zst h1 h2 I
    by_cases h6 : r = 6
    · subst h6
      refine br_t (by decide) ⟨97, ?_⟩
      exact ag_stack (post := post) he hf I1 I2 K 97 k 0 zpa zba zst (by omega) I
    · refine br_f (nI_ge (b := 6) (by omega) (by omega)) (br_f na_n10 ?_)
      rw [na_r, na_r, nI_clamp (n := e * 6 + r) (by omega), nI_clamp (n := f * 6 + r) (by omega), ← vw_r_at (g := zrg) (e := e) (r := r) (by omega), ← vw_r_at (g := zrg) (e := f) (r := r) (by omega)]
      refine ⟨vp_in_nI (by omega) (by omega), vp_in_nI (by omega) (by omega), ?_⟩
      refine ag_alike (v := v) (I1.1 r (by omega)) (I2.1 r (by omega)) (fun q hq ez => gr_root ⟨hq, r, by omega, ez⟩) I1.2.2.2 I2.2.2.2 I1.2.2.1 I2.2.2.1 I fun zpa' zba' zst' k' I' _ => ?_
      refine nm_r (nI_1 r) ?_
      exact ih (r + 1) k' zpa' zba' zst' (by omega) (by omega) I'
end AG
theorem i_vc_agree {k : Nat} {u : SX} {v : SY} (I : i_Rel k u v) (hk : k + 4 ≤ 2048) (v1 : Int32) (v2 : Int32) : wpX_agree (fun r u' => wpY_agree (fun r' => r' = r ∧ i_Rel (k + 4) u' v) v v1 v2) u v1 v2 := by
  refine rl_el (P := fun u v => wpX_agree (fun r u' => wpY_agree (fun r' => r' = r ∧ i_Rel (k + 4) u' v) v v1 v2) u v1 v2) ?_ I
  intro zhf zhn zcn zyn zsc zph zsa zgc zsd zs2 zrg zfl ztk zco znx zff zfc zmv zrm zrf zsu zss zgs zfa zst zt2 zse zpa zba yr yf A h24
  unfold wpX_agree
  rcases ar_c v1 (n := 7) (by omega) (by omega) with hb | ⟨e, he, rfl⟩
  · refine ar_cxn hb ?_
    refine br_t rfl ?_
    unfold wpY_agree
    refine ar_cyn hb ?_
    exact br_t rfl ⟨rfl, A, h24⟩
  · refine ar_cx he ?_
    refine br_f na_n10 ?_
    rcases ar_c v2 (n := 7) (by omega) (by omega) with hb | ⟨f, hf, rfl⟩
    · refine ar_cxn hb ?_
      refine br_t rfl ?_
      unfold wpY_agree
      refine ar_cy he ?_
      refine br_f na_n10 ?_
      refine ar_cyn hb ?_
      exact br_t rfl ⟨rfl, A, h24⟩
    · refine ar_cx hf ?_
      refine br_f na_n10 ⟨97, ?_⟩
      obtain ⟨φ, I1⟩ := rl_iso A e he
      obtain ⟨ψ, I2⟩ := rl_iso A f hf
      have key : ∀ (n i : Nat) (zpa zba : Nat → Int32), i ≤ 96 → 96 < n + i → (∀ a, a < i → zpa a = 0 ∧ zba a = 0) → wX_agree_23 (fun r u' => wpY_agree (fun r' => r' = r ∧ i_Rel (k + 4) u' (yr, yf)) (yr, yf) (nI e) (nI f)) (nI e) (nI f) zhf zhn zcn zyn zsc zph zsa zgc (nI 0) zs2 n (nI i) zrg zfl ztk zco znx zff zfc zmv zrm zrf zsu zss zgs zfa zst zt2 zse zpa zba := by
        intro n
        induction n with
        | zero => intro i _ _ h1 h2; omega
        | succ n ih =>
          intro i zpa zba h1 h2 hz
          by_cases hi : i = 96
          · subst hi
            have z1 : ∀ a, vw_s zpa a = 0 := fun a => by
              by_cases ha : a < 96
              · rw [vw_s_at ha]; exact (hz a ha).1
              · exact vw_s_hi (by omega)
            have z2 : ∀ a, vw_s zba a = 0 := fun a => by
              by_cases ha : a < 96
              · rw [vw_s_at ha]; exact (hz a ha).2
              · exact vw_s_hi (by omega)
            refine br_t (by decide) ⟨7, ?_⟩
            refine ag_regs he hf I1 I2 (fun zpa' zba' zst' zsd' => ?_) 7 0 0 zpa zba zst (by omega) (by omega) ⟨fun a => Or.inl (z1 a), fun b => Or.inl (z2 b), fun i hi => absurd hi (Nat.not_lt_zero i), ct_zero 96 fun i _ z => z (z1 i)⟩
            unfold wpY_agree
            refine ar_cy he ?_
            refine br_f na_n10 ?_
            refine ar_cy hf ?_
            exact br_f na_n10 ⟨rfl, A, h24⟩
          · refine br_f (nI_ge (b := 96) (by omega) (by omega)) ⟨vp_in_nI (by omega) (by omega), ?_⟩
            rw [nI_clamp (by omega), na_0]
            refine nm_e ⟨vp_in_nI (by omega) (by omega), nm_e (nm_r (nI_1 i) ?_)⟩
            refine ih (i + 1) _ _ (by omega) (by omega) fun a ha => ?_
            by_cases e : a = i
            · rw [e, pk_us, pk_us]; exact ⟨rfl, rfl⟩
            · rw [pk_un e, pk_un e]; exact hz a (by omega)
      exact key 97 0 zpa zba (by omega) (by omega) (fun a ha => absurd ha (Nat.not_lt_zero a))
end
section
section SO
variable {zhf zhn zcn zyn zsc zph zsa zgc zsd zs2 : Int32} {zrg zfl ztk zco znx zff zfc zmv zrm zrf zsu zss zgs zfa zst zt2 zse zpa zba : Nat → Int32}
/-- as many cells are free as are not taken -/
theorem xo_free {post : Int32 → SX → Prop} {e last : Nat} (he : e < 7) (hl : last < 96) (h1 : 1 ≤ last) (hok : fr_ok last (vw_c ztk e) (vw_c znx e) (zff e) (zfc e)) (G : gr_WG (vw_r zrg e) (vw_f zfl e) (gr_X (vw_r zrg e) (vw_f zfl e)))
    (hX : ∀ a, gr_X (vw_r zrg e) (vw_f zfl e) a → a ≤ last → vw_c ztk e a ≠ 0) (K : ∀ zst' zse', post 1 (zhf, zhn, zcn, zyn, zsc, zph, zsa, zgc, 0, zs2, zrg, zfl, ztk, zco, znx, zff, zfc, zmv, zrm, zrf, zsu, zss, zgs, zfa, zst', zt2, zse', zpa, zba)) : wpX_areFreeSound post (zhf, zhn, zcn, zyn, zsc, zph, zsa, zgc, zsd, zs2, zrg, zfl, ztk, zco, znx, zff, zfc, zmv, zrm, zrf, zsu, zss, zgs, zfa, zst, zt2, zse, zpa, zba) (nI e) (nI last) := by
  obtain ⟨l, hd, hm, hch, hc⟩ := hok
  have hlen : l.length = ct_c (fun a => 1 ≤ a ∧ a ≤ last ∧ vw_c ztk e a = 0) 96 := (fr_len hd hm).resolve_right (by omega)
  have hle : ct_c (fun a => 1 ≤ a ∧ a ≤ last ∧ vw_c ztk e a = 0) 96 ≤ 96 := ct_le 96
  -- the second loop
  have key2 : ∀ (zst zse : Nat → Int32) (m1 : ∀ a, gr_X (vw_r zrg e) (vw_f zfl e) a → vw_s zse a = 1) (m2 : ∀ a, ¬ gr_X (vw_r zrg e) (vw_f zfl e) a → vw_s zse a = 0) (n a : Nat), 1 ≤ a → a ≤ last + 1 → last + 1 < n + a →
      wX_areFreeSound_61 post (nI e) (nI last) zhf zhn zcn zyn zsc zph zsa zgc 0 zs2 zrg zfl ztk zco znx zff zfc zmv zrm zrf zsu zss zgs zfa zst zt2 zse zpa zba n (nI (l.length + ct_c (fun i => 1 ≤ i ∧ i < a ∧ vw_c ztk e i ≠ 0) 96)) 1 (nI a) := by
    intro zst zse m1 m2 n
    induction n with
    | zero => intro a q1 q2 q3; omega
    | succ n ih =>
      intro a q1 q2 q3
      by_cases ha : a = last + 1
      · subst ha
        refine br_t (nI_lt (by omega) (by omega)) (br_f na_n10 (br_t ?_ (K zst zse)))
        have s1 := ct_split (P := fun a => 1 ≤ a ∧ a < last + 1) (Q := fun a => vw_c ztk e a = 0) 96
        rw [ct_range (by omega) 96 (by omega)] at s1
        have s2 : ct_c (fun a => (1 ≤ a ∧ a < last + 1) ∧ vw_c ztk e a = 0) 96 = ct_c (fun a => 1 ≤ a ∧ a ≤ last ∧ vw_c ztk e a = 0) 96 := ct_congr 96 fun i _ => ⟨fun z => ⟨z.1.1, by omega, z.2⟩, fun z => ⟨⟨z.1, by omega⟩, z.2.2⟩⟩
        have s3 : ct_c (fun a => (1 ≤ a ∧ a < last + 1) ∧ ¬ vw_c ztk e a = 0) 96 = ct_c (fun i => 1 ≤ i ∧ i < last + 1 ∧ vw_c ztk e i ≠ 0) 96 := ct_congr 96 fun i _ => ⟨fun z => ⟨z.1.1, z.1.2, z.2⟩, fun z => ⟨⟨z.1, z.2.1⟩, z.2.2⟩⟩
        congr 1; omega
      · have ha9 : a < 96 := by omega
        have hT : ztk (e * 96 + a) = vw_c ztk e a := (vw_c_at ha9).symm
        have hS : zse a = vw_s zse a := (vw_s_at ha9).symm
        have next := ih (a + 1) (by omega) (by omega) (by omega)
        refine br_f (nI_nlt (by omega) (by omega)) ?_
        rw [na_c, nI_clamp (n := e * 96 + a) (by omega), hT]
        refine ⟨vp_in_nI (by omega) (by omega), ?_⟩
        have tail : ∀ z : Int32, nI (l.length + ct_c (fun i => 1 ≤ i ∧ i < a ∧ vw_c ztk e i ≠ 0) 96) + z = nI (l.length + ct_c (fun i => 1 ≤ i ∧ i < a + 1 ∧ vw_c ztk e i ≠ 0) 96) →
            wX_areFreeSound_88 post (wX_areFreeSound_61 post (nI e) (nI last) zhf zhn zcn zyn zsc zph zsa zgc 0 zs2 zrg zfl ztk zco znx zff zfc zmv zrm zrf zsu zss zgs zfa zst zt2 zse zpa zba n) (nI e) (nI last) 1 (nI a) z (nI (l.length + ct_c (fun i => 1 ≤ i ∧ i < a ∧ vw_c ztk e i ≠ 0) 96)) zhf zhn zcn zyn zsc zph zsa zgc 0 zs2 zrg zfl ztk zco znx zff zfc zmv zrm zrf zsu zss zgs zfa zst zt2 zse zpa zba := by
          intro z ez
          refine nm_r ez (br_f na_n10 ⟨vp_in_nI ha9 (by omega), ?_⟩)
          rw [nI_clamp (n := a) (by omega), hS]
          by_cases hx : gr_X (vw_r zrg e) (vw_f zfl e) a
          · refine br_f (by rw [m1 a hx]; exact na_n10) ?_
            rw [na_c, nI_clamp (n := e * 96 + a) (by omega), hT]
            exact ⟨vp_in_nI (by omega) (by omega), br_f (hX a hx (by omega)) (nm_r (nI_1 a) next)⟩
          · exact br_t (m2 a hx) (nm_r (nI_1 a) next)
        by_cases t0 : vw_c ztk e a = 0
        · refine br_t t0 (tail 0 ?_)
          rw [Int32.add_zero, ct_congr (P := fun i => 1 ≤ i ∧ i < a ∧ vw_c ztk e i ≠ 0) (Q := fun i => 1 ≤ i ∧ i < a + 1 ∧ vw_c ztk e i ≠ 0) 96 fun i _ => ⟨fun z => ⟨z.1, by omega, z.2.2⟩, fun z => ⟨z.1, ?_, z.2.2⟩⟩]
          have : i ≠ a := fun q => z.2.2 (q ▸ t0)
          omega
        · refine br_f t0 (tail 1 ?_)
          rw [nI_1, ct_add (P := fun i => 1 ≤ i ∧ i < a ∧ vw_c ztk e i ≠ 0) (Q := fun i => 1 ≤ i ∧ i < a + 1 ∧ vw_c ztk e i ≠ 0) (a := a) 96 ha9 (fun z => by omega) (fun i _ => ⟨fun z => ?_, fun z => ?_⟩)]
          · rfl
          · by_cases q : i = a
            · exact Or.inr q
            · exact Or.inl ⟨z.1, by omega, z.2.2⟩
          · rcases z with z | z
            · exact ⟨z.1, by omega, z.2.2⟩
            · subst z; exact ⟨q1, by omega, t0⟩
  have key1 : ∀ (l' : List Nat) (x : Int32) (n j : Nat), l'.length < n → j + l'.length = l.length → (∀ a, a ∈ l' → 1 ≤ a ∧ a ≤ last) → fr_ch (vw_c znx e) x l' → wX_areFreeSound_10 post (nI e) (nI last) zhf zhn zcn zyn zsc zph zsa zgc zsd zs2 zrg zfl ztk zco znx zff zfc zmv zrm zrf zsu zss zgs zfa zst zt2 zse zpa zba n (nI j) x := by
    intro l'
    induction l' with
    | nil =>
      intro x n j hn hj _ hx
      obtain ⟨m, rfl⟩ : ∃ m, n = m + 1 := ⟨n - 1, by have : ([] : List Nat).length = 0 := rfl; omega⟩
      have hx0 : x = 0 := hx
      subst hx0
      refine br_t (by decide) ⟨vp_in_nI he (by omega), ?_⟩
      rw [nI_clamp (n := e) (by omega)]
      have hj' : j = l.length := hj
      refine br_t (by rw [hc, hj']) ?_
      refine xw_all he G fun zst' zse' m1 m2 => ?_
      refine ⟨last + 1, ?_⟩
      have := key2 zst' zse' m1 m2 (last + 1) 1 (by omega) (by omega) (by omega)
      rw [ct_zero (P := fun i => 1 ≤ i ∧ i < 1 ∧ vw_c ztk e i ≠ 0) 96 (fun i _ z => by omega), Nat.add_zero, ← hj'] at this
      exact this
    | cons a l' ih =>
      intro x n j hn hj hin hx
      rw [List.length_cons] at hn hj
      obtain ⟨m, rfl⟩ : ∃ m, n = m + 1 := ⟨n - 1, by omega⟩
      have ha := hin a List.mem_cons_self
      have ha9 : a < 96 := by omega
      rw [hx.1]
      refine br_f (nI_nle (by omega) (by omega)) (nm_r (nI_1 j) ?_)
      rw [na_c, nI_clamp (n := e * 96 + a) (by omega), ← vw_c_at (g := znx) (e := e) ha9]
      refine ⟨vp_in_nI (by omega) (by omega), nm_e ?_⟩
      exact ih _ m (j + 1) (by omega) (by omega) (fun b hb => hin b (List.mem_cons_of_mem _ hb)) hx.2
  show vp_in (nI e) 7 ∧ ∀ x4, x4 = zff (nI e).toNatClampNeg → ∃ n10 : Nat, wX_areFreeSound_10 post (nI e) (nI last) zhf zhn zcn zyn zsc zph zsa zgc zsd zs2 zrg zfl ztk zco znx zff zfc zmv zrm zrf zsu zss zgs zfa zst zt2 zse zpa zba n10 (nI 0) x4
  rw [nI_clamp (n := e) (by omega)]
  exact ⟨vp_in_nI he (by omega), nm_e ⟨l.length + 1, key1 l _ _ 0 (by omega) (by omega) (fun a ha => ⟨((hm a).mp ha).1, ((hm a).mp ha).2.1⟩) hch⟩⟩
theorem xo_moved {post : Int32 → SX → Prop} {h n m : Nat} (G1 : gr_WG (vw_r zrg 1) (vw_f zfl 1) (gr_X (vw_r zrg 1) (vw_f zfl 1))) (G2 : gr_WG (vw_r zrg 2) (vw_f zfl 2) (gr_X (vw_r zrg 2) (vw_f zfl 2))) (hn : n < 1000) (hm : m < 1000)
    (h1 : ∀ a, gr_X (vw_r zrg 1) (vw_f zfl 1) a → h ≤ a ∧ a < n) (h2 : ∀ a, gr_X (vw_r zrg 2) (vw_f zfl 2) a → a < m) (hh : h < 1000) (K : ∀ zst' zse', post 1 (nI h, nI n, nI m, zyn, zsc, zph, zsa, zgc, 0, zs2, zrg, zfl, ztk, zco, znx, zff, zfc, zmv, zrm, zrf, zsu, zss, zgs, zfa, zst', zt2, zse', zpa, zba)) : wpX_areMovedSound post (nI h, nI n, nI m, zyn, zsc, zph, zsa, zgc, zsd, zs2, zrg, zfl, ztk, zco, znx, zff, zfc, zmv, zrm, zrf, zsu, zss, zgs, zfa, zst, zt2, zse, zpa, zba) := by
  unfold wpX_areMovedSound
  refine xw_all (e := 1) (by omega) G1 fun zst1 zse1 m1 m2 => ?_
  refine ⟨96, ?_⟩
  have key2 : ∀ (zst zse : Nat → Int32) (m1 : ∀ a, gr_X (vw_r zrg 2) (vw_f zfl 2) a → vw_s zse a = 1) (m2 : ∀ a, ¬ gr_X (vw_r zrg 2) (vw_f zfl 2) a → vw_s zse a = 0) (k a : Nat), 1 ≤ a → a ≤ 96 → 96 < k + a → wX_areMovedSound_65 post (nI h) (nI n) (nI m) zyn zsc zph zsa zgc 0 zs2 zrg zfl ztk zco znx zff zfc zmv zrm zrf zsu zss zgs zfa zst zt2 zse zpa zba k 1 (nI a) := by
    intro zst zse m1 m2 k
    induction k with
    | zero => intro a q1 q2 q3; omega
    | succ k ih =>
      intro a q1 q2 q3
      by_cases ha : a = 96
      · subst ha; exact br_t (by decide) ⟨narrow_b1, K zst zse⟩
      · have next := ih (a + 1) (by omega) (by omega) (by omega)
        refine br_f (nI_ge (b := 96) (by omega) (by omega)) (br_f na_n10 ⟨vp_in_nI (by omega) (by omega), ?_⟩)
        rw [nI_clamp (n := a) (by omega), ← vw_s_at (g := zse) (a := a) (by omega)]
        by_cases hx : gr_X (vw_r zrg 2) (vw_f zfl 2) a
        · have := h2 a hx
          exact br_f (by rw [m1 a hx]; exact na_n10) (br_f (nI_ge (by omega) (by omega)) (nm_r (nI_1 a) next))
        · exact br_t (m2 a hx) (nm_r (nI_1 a) next)
  have key1 : ∀ (k a : Nat), 1 ≤ a → a ≤ 96 → 96 < k + a → wX_areMovedSound_10 post (nI h) (nI n) (nI m) zyn zsc zph zsa zgc 0 zs2 zrg zfl ztk zco znx zff zfc zmv zrm zrf zsu zss zgs zfa zst1 zt2 zse1 zpa zba k 1 (nI a) := by
    intro k
    induction k with
    | zero => intro a q1 q2 q3; omega
    | succ k ih =>
      intro a q1 q2 q3
      by_cases ha : a = 96
      · subst ha
        refine br_t (by decide) ?_
        refine xw_all (e := 2) (by omega) G2 fun zst2 zse2 p1 p2 => ?_
        exact ⟨96, key2 zst2 zse2 p1 p2 96 1 (by omega) (by omega) (by omega)⟩
      · have next := ih (a + 1) (by omega) (by omega) (by omega)
        refine br_f (nI_ge (b := 96) (by omega) (by omega)) (br_f na_n10 ⟨vp_in_nI (by omega) (by omega), ?_⟩)
        rw [nI_clamp (n := a) (by omega), ← vw_s_at (g := zse1) (a := a) (by omega)]
        by_cases hx : gr_X (vw_r zrg 1) (vw_f zfl 1) a
        · have := h1 a hx
          exact br_f (by rw [m1 a hx]; exact na_n10) (br_f (nI_nlt (by omega) (by omega)) (br_f (nI_ge (by omega) (by omega)) (nm_r (nI_1 a) next)))
        · exact br_t (m2 a hx) (nm_r (nI_1 a) next)
  exact key1 96 1 (by omega) (by omega) (by omega)
theorem xo_nursery {post : Int32 → Prop} {v : SY} (hj : jc_3 (vw_r zrg 3) (vw_f zfl 3) (vw_c ztk 3) (vw_c zco 3) (vw_c znx 3) (zff 3) (zfc 3) zyn (vw_s zrm) v) (K : post 1) : wpX_isNurserySound post (zhf, zhn, zcn, zyn, zsc, zph, zsa, zgc, zsd, zs2, zrg, zfl, ztk, zco, znx, zff, zfc, zmv, zrm, zrf, zsu, zss, zgs, zfa, zst, zt2, zse, zpa, zba) := by
  obtain ⟨φ, n, I, hok, hC, hn, h65, h81, hG, hr0, hrT, hry⟩ := hj
  show ∃ n4 : Nat, wX_isNurserySound_4 post zhf zhn zcn zyn zsc zph zsa zgc zsd zs2 zrg zfl ztk zco znx zff zfc zmv zrm zrf zsu zss zgs zfa zst zt2 zse zpa zba n4 1 (nI 1)
  refine ⟨65, ?_⟩
  have inner : ∀ (J : Int32 → Int32 → Prop) (a : Nat), 1 ≤ a → a ≤ 64 → J 1 (nI (a + 1)) → ∀ (k g : Nat), g ≤ 3 → 3 < k + g → wX_isNurserySound_12 post J (nI a) zhf zhn zcn zyn zsc zph zsa zgc zsd zs2 zrg zfl ztk zco znx zff zfc zmv zrm zrf zsu zss zgs zfa zst zt2 zse zpa zba k 1 (nI g) := by
    intro J a a1 a2 hJ k
    induction k with
    | zero => intro g q1 q2; omega
    | succ k ih =>
      intro g q1 q2
      by_cases h3 : g = 3
      · subst h3; exact br_t (by decide) (nm_r (nI_1 a) hJ)
      · have next := ih (g + 1) (by omega) (by omega)
        refine br_f (nI_ge (b := 3) (by omega) (by omega)) ?_
        rw [na_288, nI_clamp (n := 3 * 96 + a) (by omega), ← vw_c_at (g := ztk) (e := 3) (a := a) (by omega)]
        refine ⟨vp_in_nI (by omega) (by omega), ?_⟩
        by_cases t0 : vw_c ztk 3 a = 0
        · exact br_t t0 (nm_r (nI_1 a) hJ)
        · refine br_f t0 ?_
          refine xp_fieldOf (e := 3) (by omega) (by omega) (by omega) ?_
          refine br_f na_n10 ?_
          rcases hG.2.1 a (Or.inl ⟨a1, a2, t0⟩) g (by omega) with ho | ⟨b, hb, eb⟩
          · exact xn_old (Or.inl ho) (br_t rfl (nm_r (nI_1 g) next))
          · have hb9 := (hG.2.2 b hb).2
            by_cases h6 : b < 65
            · exact xn_old (Or.inr ⟨b, h6, eb⟩) (br_t rfl (nm_r (nI_1 g) next))
            · have hrm := hry a g b a1 a2 t0 (by omega) eb (by omega) hb9
              rw [eb]
              refine xn_new (by omega) hb9 (br_f na_n10 ⟨vp_in_nI (by omega) (by omega), ?_⟩)
              rw [nI_clamp (n := a) (by omega), ← vw_s_at (g := zrm) (a := a) (by omega)]
              exact br_f hrm (nm_r (nI_1 g) next)
  have key : ∀ (k a : Nat), 1 ≤ a → a ≤ 65 → 65 < k + a → wX_isNurserySound_4 post zhf zhn zcn zyn zsc zph zsa zgc zsd zs2 zrg zfl ztk zco znx zff zfc zmv zrm zrf zsu zss zgs zfa zst zt2 zse zpa zba k 1 (nI a) := by
    intro k
    induction k with
    | zero => intro a q1 q2 q3; omega
    | succ k ih =>
      intro a q1 q2 q3
      by_cases ha : a = 65
      · subst ha; exact br_t (by decide) ⟨narrow_b1, K⟩
      · refine br_f (nI_nlt (a := 64) (by omega) (by omega)) ⟨4, ?_⟩
        exact inner _ a q1 (by omega) (ih (a + 1) (by omega) (by omega) (by omega)) 4 0 (by omega) (by omega)
  exact key 65 1 (by omega) (by omega) (by omega)
theorem xo_counts {post : Int32 → Prop} {v : SY} (hj : jc_4 (vw_r zrg 4) (vw_f zfl 4) (vw_c ztk 4) (vw_c zco 4) (vw_c znx 4) (zff 4) (zfc 4) zsc (vw_s zrf) (vw_s zsu) zss v) (K : post 1) : wpX_areCountsSound post (zhf, zhn, zcn, zyn, zsc, zph, zsa, zgc, zsd, zs2, zrg, zfl, ztk, zco, znx, zff, zfc, zmv, zrm, zrf, zsu, zss, zgs, zfa, zst, zt2, zse, zpa, zba) := by
  obtain ⟨φ, kS, I, hsc, V⟩ := hj
  have hG := V.2.1
  show ∃ n4 : Nat, wX_areCountsSound_4 post zhf zhn zcn zyn zsc zph zsa zgc zsd zs2 zrg zfl ztk zco znx zff zfc zmv zrm zrf zsu zss zgs zfa zst zt2 zse zpa zba n4 1 (nI 1)
  refine ⟨49, ?_⟩
  have slots : ∀ (J : Int32 → Int32 → Prop) (a : Nat), 1 ≤ a → a ≤ 48 → J 1 (nI (a + 1)) → ∀ (k i : Nat), 3 ≤ i → i ≤ 147 → 147 < k + i →
      wX_areCountsSound_50 post J 1 (nI a) zhf zhn zcn zyn zsc zph zsa zgc zsd zs2 zrg zfl ztk zco znx zff zfc zmv zrm zrf zsu zss zgs zfa zst zt2 zse zpa zba k (nI (ct_c (fun r => vw_r zrg 4 r = nI (2 * a)) 6 + ct_c (fun j => kc_D (vw_c ztk 4) 0 0 j ∧ vw_f zfl 4 (j / 3) (j % 3) = nI (2 * a)) i)) (nI i) := by
    intro J a a1 a2 hJ k
    induction k with
    | zero => intro i q1 q2 q3; omega
    | succ k ih =>
      intro i q1 q2 q3
      by_cases hi : i = 147
      · subst hi
        refine br_t (by decide) (br_f na_n10 ?_)
        rw [na_384, nI_clamp (n := 4 * 96 + a) (by omega), ← vw_c_at (g := ztk) (e := 4) (a := a) (by omega)]
        refine ⟨vp_in_nI (by omega) (by omega), ?_⟩
        by_cases t0 : vw_c ztk 4 a = 0
        · exact br_t t0 (nm_r (nI_1 a) hJ)
        · refine br_f t0 ⟨vp_in_nI (by omega) (by omega), ?_⟩
          rw [nI_clamp (n := a) (by omega), ← vw_s_at (g := zrf) (a := a) (by omega)]
          refine br_t ?_ (nm_r (nI_1 a) hJ)
          rw [V.2.2.2.1 a a1 a2, kc_e1 (by omega)]; rfl
      · have hi3 : i / 3 < 96 := by omega
        refine br_f (nI_ge (b := 147) (by omega) (by omega)) ⟨by decide, ?_⟩
        rw [show (3 : Int32) = nI 3 from rfl, pk_div (by omega) (by omega) (by omega), na_384, nI_clamp (n := 4 * 96 + i / 3) (by omega), ← vw_c_at (g := ztk) (e := 4) (a := i / 3) hi3]
        refine ⟨vp_in_nI (by omega) (by omega), ?_⟩
        have next := ih (i + 1) (by omega) (by omega) (by omega)
        have no : ¬ (kc_D (vw_c ztk 4) 0 0 i ∧ vw_f zfl 4 (i / 3) (i % 3) = nI (2 * a)) → wX_areCountsSound_95 post J (wX_areCountsSound_50 post J 1 (nI a) zhf zhn zcn zyn zsc zph zsa zgc zsd zs2 zrg zfl ztk zco znx zff zfc zmv zrm zrf zsu zss zgs zfa zst zt2 zse zpa zba k) 1 (nI a) (nI (ct_c (fun r => vw_r zrg 4 r = nI (2 * a)) 6 + ct_c (fun j => kc_D (vw_c ztk 4) 0 0 j ∧ vw_f zfl 4 (j / 3) (j % 3) = nI (2 * a)) i)) (nI i) zhf zhn zcn zyn zsc zph zsa zgc zsd zs2 zrg zfl ztk zco znx zff zfc zmv zrm zrf zsu zss zgs zfa zst zt2 zse zpa zba := fun hz => by
          refine br_t rfl (nm_r (Int32.add_zero _) (nm_r (nI_1 i) ?_))
          rw [ct_f (P := fun j => kc_D (vw_c ztk 4) 0 0 j ∧ vw_f zfl 4 (j / 3) (j % 3) = nI (2 * a)) hz] at next
          exact next
        by_cases t0 : vw_c ztk 4 (i / 3) = 0
        · exact br_t t0 (no fun z => z.1.1.2.2 t0)
        · refine br_f t0 ?_
          have e1 : (1152 : Int32) + nI i = nI ((4 * 96 + i / 3) * 3 + i % 3) := by
            rw [show (1152 : Int32) = nI 1152 from rfl, nI_add]; congr 1; omega
          rw [e1, nI_clamp (n := (4 * 96 + i / 3) * 3 + i % 3) (by omega), ← vw_f_at (g := zfl) (e := 4) hi3 (show i % 3 < 3 by omega), na_d a]
          refine ⟨vp_in_nI (by omega) (by omega), ?_⟩
          by_cases ev : vw_f zfl 4 (i / 3) (i % 3) = nI (2 * a)
          · refine br_t ev (br_f na_n10 (nm_r (nI_1 _) (nm_r (nI_1 i) ?_)))
            rw [ct_t (P := fun j => kc_D (vw_c ztk 4) 0 0 j ∧ vw_f zfl 4 (j / 3) (j % 3) = nI (2 * a)) ⟨⟨⟨by omega, by omega, t0⟩, fun w => by omega⟩, ev⟩] at next
            exact next
          · exact br_f ev (no fun z => ev z.2)
  have regs : ∀ (J : Int32 → Int32 → Prop) (a : Nat), 1 ≤ a → a ≤ 48 → J 1 (nI (a + 1)) → ∀ (k r : Nat), r ≤ 6 → 6 < k + r → wX_areCountsSound_15 post J 1 (nI a) zhf zhn zcn zyn zsc zph zsa zgc zsd zs2 zrg zfl ztk zco znx zff zfc zmv zrm zrf zsu zss zgs zfa zst zt2 zse zpa zba k (nI (ct_c (fun r => vw_r zrg 4 r = nI (2 * a)) r)) (nI r) := by
    intro J a a1 a2 hJ k
    induction k with
    | zero => intro r q1 q2; omega
    | succ k ih =>
      intro r q1 q2
      by_cases hr : r = 6
      · subst hr
        refine br_t (by decide) ⟨145, ?_⟩
        have := slots J a a1 a2 hJ 145 3 (by omega) (by omega) (by omega)
        rw [ct_zero (P := fun j => kc_D (vw_c ztk 4) 0 0 j ∧ vw_f zfl 4 (j / 3) (j % 3) = nI (2 * a)) 3 (fun j hj z => by have := z.1.1.1; omega), Nat.add_zero] at this
        exact this
      · have next := ih (r + 1) (by omega) (by omega)
        refine br_f (nI_ge (b := 6) (by omega) (by omega)) ?_
        rcases hG.1 r (by omega) with ho | ⟨b, hb, eb⟩
        · refine xp_cell0 (e := 4) (by omega) (by omega) ho ?_
          refine br_f (fun z => nI_ne0 (n := a) (by omega) (by omega) z.symm) (nm_r (Int32.add_zero _) (nm_r (nI_1 r) ?_))
          rw [ct_f (P := fun r => vw_r zrg 4 r = nI (2 * a)) (gr_odne ho (by omega))] at next
          exact next
        · have hb9 := kc_T9 hb
          refine xp_cell (e := 4) (by omega) (by omega) hb9 eb ?_
          by_cases e : b = a
          · rw [e] at eb ⊢
            refine br_t rfl (nm_r (nI_1 _) (nm_r (nI_1 r) ?_))
            rw [ct_t (P := fun r => vw_r zrg 4 r = nI (2 * a)) eb] at next
            exact next
          · refine br_f (fun z => e (na_inj (by omega) (by omega) z)) (nm_r (Int32.add_zero _) (nm_r (nI_1 r) ?_))
            rw [ct_f (P := fun r => vw_r zrg 4 r = nI (2 * a)) (fun z => e (na_inj2 hb9 (by omega) (eb.symm.trans z)))] at next
            exact next
  have key : ∀ (k a : Nat), 1 ≤ a → a ≤ 49 → 49 < k + a → wX_areCountsSound_4 post zhf zhn zcn zyn zsc zph zsa zgc zsd zs2 zrg zfl ztk zco znx zff zfc zmv zrm zrf zsu zss zgs zfa zst zt2 zse zpa zba k 1 (nI a) := by
    intro k
    induction k with
    | zero => intro a q1 q2 q3; omega
    | succ k ih =>
      intro a q1 q2 q3
      by_cases ha : a = 49
      · subst ha; exact br_t (by decide) ⟨narrow_b1, K⟩
      · refine br_f (nI_nlt (a := 48) (by omega) (by omega)) ⟨7, ?_⟩
        exact regs _ a q1 (by omega) (ih (a + 1) (by omega) (by omega) (by omega)) 7 0 (by omega) (by omega)
  exact key 49 1 (by omega) (by omega) (by omega)
theorem xo_steps {post : Int32 → Prop} {v : SY} (hj : jc_5 (vw_r zrg 5) (vw_f zfl 5) (vw_c ztk 5) (vw_c zco 5) (vw_c znx 5) (zff 5) (zfc 5) zph zsa zgc zgs v) (K : post 1) : wpX_areStepsSound post (zhf, zhn, zcn, zyn, zsc, zph, zsa, zgc, zsd, zs2, zrg, zfl, ztk, zco, znx, zff, zfc, zmv, zrm, zrf, zsu, zss, zgs, zfa, zst, zt2, zse, zpa, zba) := by
  obtain ⟨φ, Q, p, s, g, I, rfl, rfl, rfl, J⟩ := hj
  have hp2 := st_p2 J
  show ∃ n4 : Nat, wX_areStepsSound_4 post zhf zhn zcn zyn zsc (nI p) (nI s) (nI g) zsd zs2 zrg zfl ztk zco znx zff zfc zmv zrm zrf zsu zss zgs zfa zst zt2 zse zpa zba n4 1 (nI 1)
  refine ⟨65, ?_⟩
  by_cases p1 : p = 1
  · subst p1
    obtain ⟨hok, hQT, hG, hJ⟩ := J
    obtain ⟨_, hc, hg, hb⟩ : 1 = 1 ∧ st_c Q (vw_c zco 5) ∧ st_g (vw_c zco 5) zgs g ∧ st_b (vw_f zfl 5) (vw_c zco 5) (fun _ _ => False) := by
      rcases hJ with z | z | z
      · exact absurd z.1 (by omega)
      · exact z
      · exact absurd z.1 (by omega)
    have inner : ∀ (J4 : Int32 → Int32 → Prop) (a : Nat) (x3 : Int32), 1 ≤ a → a ≤ 64 → (x3 ≠ 0 → vw_c zco 5 a = 2) → J4 1 (nI (a + 1)) → ∀ (k f : Nat), f ≤ 3 → 3 < k + f → wX_areStepsSound_54 post J4 (nI a) x3 zhf zhn zcn zyn zsc (nI 1) (nI s) (nI g) zsd zs2 zrg zfl ztk zco znx zff zfc zmv zrm zrf zsu zss zgs zfa zst zt2 zse zpa zba k 1 (nI f) := by
      intro J4 a x3 a1 a2 h2 hJ4 k
      induction k with
      | zero => intro f q1 q2; omega
      | succ k ih =>
        intro f q1 q2
        by_cases h3 : f = 3
        · subst h3; exact br_t (by decide) (nm_r (nI_1 a) hJ4)
        · have next := ih (f + 1) (by omega) (by omega)
          refine br_f (nI_ge (b := 3) (by omega) (by omega)) ?_
          by_cases x0 : x3 = 0
          · exact br_t x0 (nm_r (nI_1 a) hJ4)
          · refine br_f x0 ?_
            have hC2 := h2 x0
            have hQa : Q a := by
              rcases hc a with z | z
              · rw [z] at hC2; exact absurd hC2 (by decide)
              · exact z.1
            refine xp_fieldOf (e := 5) (by omega) (by omega) (by omega) ?_
            refine br_f na_n10 ?_
            rcases hG.2.1 a hQa f (by omega) with ho | ⟨b, hbQ, eb⟩
            · refine xp_odd ho ?_
              exact br_t rfl (nm_r (nI_1 f) next)
            · have hb9 := (hG.2.2 b hbQ).2
              have hnz := (hb a f b hC2 (by omega) eb hb9).resolve_right id
              rw [eb]
              refine xp_ref (by omega) ?_
              refine br_f na_n10 ?_
              rw [gr_sh (by omega), na_480, nI_clamp (n := 5 * 96 + b) (by omega), ← vw_c_at (g := zco) (e := 5) hb9]
              exact ⟨vp_in_nI (by omega) (by omega), br_f hnz (nm_r (nI_1 f) next)⟩
    have key : ∀ (k a : Nat), 1 ≤ a → a ≤ 65 → 65 < k + a → wX_areStepsSound_4 post zhf zhn zcn zyn zsc (nI 1) (nI s) (nI g) zsd zs2 zrg zfl ztk zco znx zff zfc zmv zrm zrf zsu zss zgs zfa zst zt2 zse zpa zba k 1 (nI a) := by
      intro k
      induction k with
      | zero => intro a q1 q2 q3; omega
      | succ k ih =>
        intro a q1 q2 q3
        by_cases ha : a = 65
        · subst ha; exact br_t (by decide) ⟨narrow_b1, K⟩
        · have next := ih (a + 1) (by omega) (by omega) (by omega)
          refine br_f (nI_nlt (a := 64) (by omega) (by omega)) (br_t rfl ?_)
          rw [na_480, nI_clamp (n := 5 * 96 + a) (by omega), ← vw_c_at (g := ztk) (e := 5) (a := a) (by omega), ← vw_c_at (g := zco) (e := 5) (a := a) (by omega)]
          refine ⟨vp_in_nI (by omega) (by omega), ?_⟩
          by_cases t0 : vw_c ztk 5 a = 0
          · exact br_t t0 ⟨4, inner _ a 0 q1 (by omega) (fun z => absurd rfl z) next 4 0 (by omega) (by omega)⟩
          · refine br_f t0 ⟨vp_in_nI (by omega) (by omega), ?_⟩
            by_cases c2 : vw_c zco 5 a = 2
            · exact br_t c2 ⟨4, inner _ a 1 q1 (by omega) (fun _ => c2) next 4 0 (by omega) (by omega)⟩
            · exact br_f c2 ⟨4, inner _ a 0 q1 (by omega) (fun z => absurd rfl z) next 4 0 (by omega) (by omega)⟩
    exact key 65 1 (by omega) (by omega) (by omega)
  · exact br_f (by decide) (br_f (fun z => p1 (na_inj (b := 1) (by omega) (by omega) z)) ⟨narrow_b1, K⟩)
end SO
theorem i_vc_sound {k : Nat} {u : SX} {v : SY} (I : i_Rel k u v) (hk : k + 4 ≤ 2048) : wpX_sound (fun r u' => wpY_sound (fun r' => r' = r ∧ i_Rel (k + 4) u' v) v) u := by
  refine rl_el (P := fun u v => wpX_sound (fun r u' => wpY_sound (fun r' => r' = r ∧ i_Rel (k + 4) u' v) v) u) ?_ I
  intro zhf zhn zcn zyn zsc zph zsa zgc zsd zs2 zrg zfl ztk zco znx zff zfc zmv zrm zrf zsu zss zgs zfa zst zt2 zse zpa zba yr yf A h24
  obtain ⟨a0, a1, a2, a3, a4, a5, a6⟩ := id A
  obtain ⟨φ0, I0, f0, _, x0⟩ := id a0
  obtain ⟨φ1, h, n, I1, rfl, hh, rfl, n1, n2, x1⟩ := id a1
  obtain ⟨φ2, m, I2, rfl, m1, m2, _, x2⟩ := id a2
  obtain ⟨φ4, kS, I4, _, V4⟩ := id a4
  obtain ⟨φ5, Q, p, s, g, I5, _, _, _, J5⟩ := id a5
  obtain ⟨φ6, I6, f6, _, x6⟩ := id a6
  unfold wpX_sound
  refine xo_free (e := 0) (last := 48) (by omega) (by omega) (by omega) f0 (is_G I0) (fun a ha _ => (x0 a ha).2) fun zst1 zse1 => ?_
  refine br_f na_n10 ?_
  refine xo_free (e := 4) (last := 48) (by omega) (by omega) (by omega) V4.1 (is_G I4) (fun a ha _ => (gr_WG_X V4.2.1 ha).2.2) fun zst2 zse2 => ?_
  refine br_f na_n10 ?_
  refine xo_free (e := 6) (last := 48) (by omega) (by omega) (by omega) f6 (is_G I6) (fun a ha _ => (x6 a ha).2) fun zst3 zse3 => ?_
  refine br_f na_n10 ?_
  refine br_f na_n10 ?_
  refine xo_free (e := 5) (last := 64) (by omega) (by omega) (by omega) J5.1 (is_G I5) (fun a ha _ => (J5.2.1 a (gr_WG_X J5.2.2.1 ha)).2.2) fun zst4 zse4 => ?_
  refine br_f na_n10 ?_
  refine xo_moved (is_G I1) (is_G I2) (by omega) (by omega) x1 x2 (by omega) fun zst5 zse5 => ?_
  refine br_f na_n10 ?_
  refine xo_nursery a3 ?_
  refine br_f na_n10 ?_
  refine br_f na_n10 ?_
  refine xo_counts a4 ?_
  refine br_f na_n10 ?_
  refine xo_steps a5 ?_
  refine br_f na_n10 ?_
  exact ⟨rfl, A, h24⟩
end
section
section IN
variable {zhf zhn zcn zyn zsc zph zsa zgc zsd zs2 : Int32} {zrg zfl ztk zco znx zff zfc zmv zrm zrf zsu zss zgs zfa zst zt2 zse zpa zba : Nat → Int32}
theorem xi_fill {post : SX → Prop} {e last : Nat} (he : e < 7) (hl : last < 96) (h1 : zff e = 0) (h2 : zfc e = 0) (hT : ∀ a, vw_c ztk e a = 0) (hC : ∀ a, vw_c zco e a = 0)
    (K : ∀ ztk' zco' znx' zff' zfc', fr_ok last (vw_c ztk' e) (vw_c znx' e) (zff' e) (zfc' e) → (∀ a, vw_c ztk' e a = 0) → (∀ a, vw_c zco' e a = 0) → (∀ e', e' ≠ e → vw_v e' zrg zfl ztk' zco' znx' zff' zfc' = vw_v e' zrg zfl ztk zco znx zff zfc) → post (zhf, zhn, zcn, zyn, zsc, zph, zsa, zgc, zsd, zs2, zrg, zfl, ztk', zco', znx', zff', zfc', zmv, zrm, zrf, zsu, zss, zgs, zfa, zst, zt2, zse, zpa, zba)) :
    wpX_fillFree post (zhf, zhn, zcn, zyn, zsc, zph, zsa, zgc, zsd, zs2, zrg, zfl, ztk, zco, znx, zff, zfc, zmv, zrm, zrf, zsu, zss, zgs, zfa, zst, zt2, zse, zpa, zba) (nI e) (nI last) := by
  show ∃ n2 : Nat, wX_fillFree_2 post (nI e) n2 (nI last) zhf zhn zcn zyn zsc zph zsa zgc zsd zs2 zrg zfl ztk zco znx zff zfc zmv zrm zrf zsu zss zgs zfa zst zt2 zse zpa zba
  refine ⟨last + 1, ?_⟩
  have key : ∀ (n i : Nat) (ztk1 zco1 znx1 zff1 zfc1 : Nat → Int32), i ≤ last → i < n → fr_ch (vw_c znx1 e) (zff1 e) (List.range' (i + 1) (last - i)) → zfc1 e = nI (last - i) → (∀ a, vw_c ztk1 e a = 0) → (∀ a, vw_c zco1 e a = 0) → (∀ e', e' ≠ e → vw_v e' zrg zfl ztk1 zco1 znx1 zff1 zfc1 = vw_v e' zrg zfl ztk zco znx zff zfc) →
      wX_fillFree_2 post (nI e) n (nI i) zhf zhn zcn zyn zsc zph zsa zgc zsd zs2 zrg zfl ztk1 zco1 znx1 zff1 zfc1 zmv zrm zrf zsu zss zgs zfa zst zt2 zse zpa zba := by
    intro n
    induction n with
    | zero => intro i _ _ _ _ _ q1 q2; omega
    | succ n ih =>
      intro i ztk1 zco1 znx1 zff1 zfc1 q1 q2 hch hfc hT1 hC1 hV
      cases i with
      | zero =>
        refine br_t (by decide) (K ztk1 zco1 znx1 zff1 zfc1 ⟨List.range' 1 last, List.nodup_range', fun a => ?_, hch, by rw [hfc, List.length_range']; rfl⟩ hT1 hC1 hV)
        rw [List.mem_range'_1]
        exact ⟨fun z => ⟨z.1, by omega, hT1 a⟩, fun z => ⟨z.1, by omega⟩⟩
      | succ j =>
        have ha : j + 1 < 96 := by omega
        refine br_f (nI_nle (by omega) (by omega)) ?_
        have hb : ∃ b, b < 96 ∧ zff1 e = nI b := by
          by_cases hj : last - (j + 1) = 0
          · rw [hj] at hch; exact ⟨0, by omega, hch⟩
          · obtain ⟨d, hd⟩ : ∃ d, last - (j + 1) = d + 1 := ⟨last - (j + 1) - 1, by omega⟩
            rw [hd, List.range'_succ] at hch
            exact ⟨j + 1 + 1, by omega, hch.1⟩
        obtain ⟨b, hb9, eb⟩ := hb
        refine xp_release he ha hb9 eb hfc (by omega) ?_
        refine nm_r (pk_m1 j) ?_
        refine ih j _ _ _ _ _ (by omega) (by omega) ?_ ?_ (fun a => ?_) (fun a => ?_) (fun e' n => (vw_v_5 (vw_c_o ha n) (vw_c_o ha n) (vw_c_o ha n) (pk_un n) (pk_un n)).trans (hV e' n))
        · rw [show last - j = (last - (j + 1)) + 1 by omega, List.range'_succ]
          refine ⟨pk_us, ?_⟩
          rw [vw_c_s ha, pk_us]
          refine fr_chu _ _ (fun z => ?_) hch
          rw [List.mem_range'_1] at z
          omega
        · rw [pk_us]; congr 1; omega
        · rw [vw_c_s ha]
          by_cases q : a = j + 1
          · rw [q, pk_us]
          · rw [pk_un q]; exact hT1 a
        · rw [vw_c_s ha]
          by_cases q : a = j + 1
          · rw [q, pk_us]
          · rw [pk_un q]; exact hC1 a
  refine key (last + 1) last ztk zco znx zff zfc (Nat.le_refl _) (by omega) ?_ ?_ hT hC (fun _ _ => rfl)
  · rw [Nat.sub_self]; exact h1
  · rw [Nat.sub_self, h2]; rfl
end IN
theorem in_v : is_v (fun _ => 0) 1 0 := Or.inl ⟨by decide, by decide, by decide⟩
theorem in_X {p : Nat} : ¬ yy_X ((fun _ => 0), (fun _ => 0)) p := fun h => by
  refine (h (fun _ => False) (fun b hb => ?_) (fun _ _ h _ => h)).elim
  obtain ⟨h8, r, _, e⟩ := hb
  exact yy_numne (y := 0) ⟨by decide, by decide⟩ h8 e
theorem in_I {R : Nat → Int32} {F : Nat → Nat → Int32} (hR : ∀ r, r < 6 → R r = 1) : is_I (fun _ => 0) R F ((fun _ => 0), (fun _ => 0)) :=
  ⟨fun r hr => by rw [hR r hr]; exact in_v, fun p hp => absurd hp in_X, fun p q hp => absurd hp in_X, fun p hp => absurd hp in_X⟩
theorem in_G {R : Nat → Int32} {F : Nat → Nat → Int32} {P : Nat → Prop} (hR : ∀ r, r < 6 → R r = 1) (hP : ∀ a, ¬ P a) : gr_WG R F P :=
  ⟨fun r hr => Or.inl (by rw [hR r hr]; exact gr_od1), fun a ha => absurd ha (hP a), fun a ha => absurd ha (hP a)⟩
theorem in_n {R : Nat → Int32} {F : Nat → Nat → Int32} {a : Nat} (hR : ∀ r, r < 6 → R r = 1) : ¬ gr_X R F a := fun h => by
  obtain ⟨p, hp, _⟩ := (is_X (in_I (F := F) hR) a).mp h
  exact in_X hp
theorem in_0 {last : Nat} {R : Nat → Int32} {F : Nat → Nat → Int32} {T C N : Nat → Int32} {f c : Int32} (hR : ∀ r, r < 6 → R r = 1) (hok : fr_ok last T N f c) (hC : ∀ a, C a = 0) : jc_0 last R F T C N f c ((fun _ => 0), (fun _ => 0)) :=
  ⟨_, in_I hR, hok, hC, fun a ha => absurd ha (in_n hR)⟩
theorem in_4 {R : Nat → Int32} {F : Nat → Nat → Int32} {T C N : Nat → Int32} {f c : Int32} {rf su ss : Nat → Int32} (hR : ∀ r, r < 6 → R r = 1) (hok : fr_ok 48 T N f c) (hT : ∀ a, T a = 0) (hr : ∀ a, rf a = 0) (hs : ∀ a, su a = 0) : jc_4 R F T C N f c 0 rf su ss ((fun _ => 0), (fun _ => 0)) := by
  have hk : ∀ a, ¬ kc_T T a := fun a z => z.2.2 (hT a)
  refine ⟨_, 0, in_I hR, rfl, hok, in_G hR hk, Or.inl gr_od1, fun a h1 h2 => ?_, ⟨fun i hi => absurd hi (Nat.not_lt_zero i), fun a _ _ h => absurd (hs a) h, fun i _ hi => absurd hi (Nat.not_lt_zero i), ct_zero 96 fun i _ z => z.2.2 (hs i)⟩, fun a ha => absurd ha (hk a), fun a ha => absurd ha (hk a), fun a ha => absurd ha (hk a), fun i hi => absurd hi (Nat.not_lt_zero i), fun i _ hi => absurd hi (Nat.not_lt_zero i), Or.inl rfl, ?_, fun i _ h => absurd h (hk _)⟩
  · rw [kc_free (in_G hR hk) h2 (hk a), kc_e1 (by omega)]; exact hr a
  · rw [ct_zero 96 fun i _ z => z.2.2 (hr i)]; omega
theorem in_5 {R : Nat → Int32} {F : Nat → Nat → Int32} {T C N gs : Nat → Int32} {f c : Int32} (hR : ∀ r, r < 6 → R r = 1) (hok : fr_ok 64 T N f c) (hT : ∀ a, T a = 0) (hC : ∀ a, C a = 0) : jc_5 R F T C N f c 0 0 0 gs ((fun _ => 0), (fun _ => 0)) :=
  ⟨_, fun _ => False, 0, 0, 0, in_I hR, rfl, rfl, rfl, hok, fun a h => h.elim, in_G hR (fun _ h => h), Or.inl ⟨rfl, hC, fun a _ _ h => absurd (hT a) h⟩⟩
theorem in_3 {R : Nat → Int32} {F : Nat → Nat → Int32} {T C N rm : Nat → Int32} {f c : Int32} (hR : ∀ r, r < 6 → R r = 1) (hok : fr_ok 64 T N f c) (hT : ∀ a, T a = 0) (hC : ∀ a, C a = 0) (hr : ∀ a, rm a = 0) : jc_3 R F T C N f c 65 rm ((fun _ => 0), (fun _ => 0)) :=
  ⟨_, 65, in_I hR, hok, hC, rfl, by omega, by omega, in_G hR (fun a z => z.elim (fun w => w.2.2 (hT a)) fun w => by omega), hr 0, fun a _ h => absurd (hr a) h, fun a _ _ _ _ h => absurd (hT a) h⟩
theorem in_c {e : Nat} : ∀ a, vw_c (fun _ => 0) e a = 0 := fun a => by
  unfold vw_c; split <;> rfl
theorem in_s : ∀ a, vw_s (fun _ => 0) a = 0 := fun a => by
  unfold vw_s; split <;> rfl
theorem i_vc0 : wpX_init (fun u => wpY_init (fun v => i_Rel 0 u v)) := by
  have fin : ∀ zrg : Nat → Int32, (∀ i, i < 42 → zrg i = 1) →
      wpX_fillFree (fun u => wpX_fillFree (fun u => wpX_fillFree (fun u => wpX_fillFree (fun u => wpX_fillFree (fun u => wpY_init (fun v => i_Rel 0 u v)) u 6 48) u 5 64) u 4 48) u 3 64)
        (1, 1, 1, 65, 0, 0, 0, 0, 0, 0, zrg, (fun _ => 0), (fun _ => 0), (fun _ => 0), (fun _ => 0), (fun _ => 0), (fun _ => 0), (fun _ => 0), (fun _ => 0), (fun _ => 0), (fun _ => 0), (fun _ => 0), (fun _ => 0), (fun _ => 0), (fun _ => 0), (fun _ => 0), (fun _ => 0), (fun _ => 0), (fun _ => 0)) 0 48 := by
    intro zrg hrg
    have hR : ∀ e, e < 7 → ∀ r, r < 6 → vw_r zrg e r = 1 := fun e he r hr => by rw [vw_r_at hr]; exact hrg _ (by omega)
    refine xi_fill (e := 0) (last := 48) (by omega) (by omega) rfl rfl in_c in_c fun ztk1 zco1 znx1 zff1 zfc1 o1 t1 c1 V1 => ?_
    have V13 := V1 3 (by omega)
    have V14 := V1 4 (by omega)
    have V15 := V1 5 (by omega)
    have V16 := V1 6 (by omega)
    refine xi_fill (e := 3) (last := 64) (by omega) (by omega) (congrArg (fun x => x.2.2.2.2.2.1) V13) (congrArg (fun x => x.2.2.2.2.2.2) V13) (fun a => (congrArg (fun x => x.2.2.1 a) V13).trans (in_c (e := 3) a)) (fun a => (congrArg (fun x => x.2.2.2.1 a) V13).trans (in_c (e := 3) a)) fun ztk2 zco2 znx2 zff2 zfc2 o2 t2 c2 V2 => ?_
    have V24 := (V2 4 (by omega)).trans V14
    have V25 := (V2 5 (by omega)).trans V15
    have V26 := (V2 6 (by omega)).trans V16
    refine xi_fill (e := 4) (last := 48) (by omega) (by omega) (congrArg (fun x => x.2.2.2.2.2.1) V24) (congrArg (fun x => x.2.2.2.2.2.2) V24) (fun a => (congrArg (fun x => x.2.2.1 a) V24).trans (in_c (e := 4) a)) (fun a => (congrArg (fun x => x.2.2.2.1 a) V24).trans (in_c (e := 4) a)) fun ztk3 zco3 znx3 zff3 zfc3 o3 t3 c3 V3 => ?_
    have V35 := (V3 5 (by omega)).trans V25
    have V36 := (V3 6 (by omega)).trans V26
    refine xi_fill (e := 5) (last := 64) (by omega) (by omega) (congrArg (fun x => x.2.2.2.2.2.1) V35) (congrArg (fun x => x.2.2.2.2.2.2) V35) (fun a => (congrArg (fun x => x.2.2.1 a) V35).trans (in_c (e := 5) a)) (fun a => (congrArg (fun x => x.2.2.2.1 a) V35).trans (in_c (e := 5) a)) fun ztk4 zco4 znx4 zff4 zfc4 o4 t4 c4 V4 => ?_
    have V46 := (V4 6 (by omega)).trans V36
    refine xi_fill (e := 6) (last := 48) (by omega) (by omega) (congrArg (fun x => x.2.2.2.2.2.1) V46) (congrArg (fun x => x.2.2.2.2.2.2) V46) (fun a => (congrArg (fun x => x.2.2.1 a) V46).trans (in_c (e := 6) a)) (fun a => (congrArg (fun x => x.2.2.2.1 a) V46).trans (in_c (e := 6) a)) fun ztk5 zco5 znx5 zff5 zfc5 o5 t5 c5 V5 => ?_
    have W0 := (V5 0 (by omega)).trans ((V4 0 (by omega)).trans ((V3 0 (by omega)).trans (V2 0 (by omega))))
    have W2 := (V5 2 (by omega)).trans ((V4 2 (by omega)).trans ((V3 2 (by omega)).trans ((V2 2 (by omega)).trans (V1 2 (by omega)))))
    have W3 := (V5 3 (by omega)).trans ((V4 3 (by omega)).trans (V3 3 (by omega)))
    have W4 := (V5 4 (by omega)).trans (V4 4 (by omega))
    have W5 := V5 5 (by omega)
    refine ⟨⟨?_, ?_, ?_, ?_, ?_, ?_, ?_⟩, ?_⟩
    · rw [W0]; exact in_0 (hR 0 (by omega)) o1 c1
    · exact ⟨_, 1, 1, in_I (hR 1 (by omega)), rfl, Or.inl rfl, rfl, by omega, by omega, fun a ha => absurd ha (in_n (hR 1 (by omega)))⟩
    · rw [W2]; exact ⟨_, 1, in_I (hR 2 (by omega)), rfl, by omega, by omega, in_c (e := 2), fun a ha => absurd ha (in_n (hR 2 (by omega)))⟩
    · rw [W3]; exact in_3 (hR 3 (by omega)) o2 t2 c2 in_s
    · rw [W4]; exact in_4 (hR 4 (by omega)) o3 t3 in_s in_s
    · rw [W5]; exact in_5 (hR 5 (by omega)) o4 t4 c4
    · exact in_0 (hR 6 (by omega)) o5 c5
    · rw [ct_zero 48 fun i _ => in_X]; omega
  show ∃ n185 : Nat, wX_init_185 (fun u => wpY_init (fun v => i_Rel 0 u v)) 1 1 1 65 0 0 0 0 0 0 n185 (nI 0) (fun _ => 0) (fun _ => 0) (fun _ => 0) (fun _ => 0) (fun _ => 0) (fun _ => 0) (fun _ => 0) (fun _ => 0) (fun _ => 0) (fun _ => 0) (fun _ => 0) (fun _ => 0) (fun _ => 0) (fun _ => 0) (fun _ => 0) (fun _ => 0) (fun _ => 0) (fun _ => 0) (fun _ => 0)
  refine ⟨43, ?_⟩
  have key : ∀ (n i : Nat) (zrg : Nat → Int32), i ≤ 42 → 42 < n + i → (∀ j, j < i → zrg j = 1) → wX_init_185 (fun u => wpY_init (fun v => i_Rel 0 u v)) 1 1 1 65 0 0 0 0 0 0 n (nI i) zrg (fun _ => 0) (fun _ => 0) (fun _ => 0) (fun _ => 0) (fun _ => 0) (fun _ => 0) (fun _ => 0) (fun _ => 0) (fun _ => 0) (fun _ => 0) (fun _ => 0) (fun _ => 0) (fun _ => 0) (fun _ => 0) (fun _ => 0) (fun _ => 0) (fun _ => 0) (fun _ => 0) := by
    intro n
    induction n with
    | zero => intro i _ h1 h2; omega
    | succ n ih =>
      intro i zrg h1 h2 hz
      by_cases hi : i = 42
      · subst hi
        exact br_t (by decide) (fin zrg hz)
      · refine br_f (nI_ge (b := 42) (by omega) (by omega)) ⟨vp_in_nI (by omega) (by omega), ?_⟩
        rw [nI_clamp (by omega)]
        refine nm_e (nm_r (nI_1 i) ?_)
        refine ih (i + 1) _ (by omega) (by omega) fun j hj => ?_
        by_cases e : j = i
        · rw [e, pk_us]
        · rw [pk_un e]; exact hz j (by omega)
  exact key 43 0 (fun _ => 0) (by omega) (by omega) (fun j hj => absurd hj (Nat.not_lt_zero j))
end
