section
/-! pure rows to paste: stores, nI and lN arithmetic, masks, shifts, narrowing, branches by naturals (pk_le, pk_lt, pk_eq), loops (lp1 .. lp16: the measure of the state; rp1 ..: recursion), negatives. Take what you need -/
theorem pk_us {f : Nat → Int32} {k : Nat} {x : Int32} : upd f k x k = x := if_pos rfl
theorem pk_un {f : Nat → Int32} {k j : Nat} {x : Int32} (h : j ≠ k) : upd f k x j = f j := if_neg h
theorem pk_uLs {f : Nat → Int64} {k : Nat} {x : Int64} : vp_updL f k x k = x := if_pos rfl
theorem pk_uLn {f : Nat → Int64} {k j : Nat} {x : Int64} (h : j ≠ k) : vp_updL f k x j = f j := if_neg h
theorem pk_sub {a b : Nat} (h : b ≤ a) : nI a - nI b = nI (a - b) := by
  obtain ⟨c, rfl⟩ : ∃ c, a = c + b := ⟨a - b, by omega⟩
  rw [← nI_add, Int32.add_sub_cancel, Nat.add_sub_cancel]
theorem pk_m1 (n : Nat) : nI (n + 1) + (-1) = nI n := by
  rw [← nI_1, Int32.add_assoc, show (1 : Int32) + (-1) = 0 from rfl, Int32.add_zero]
theorem pk_mul (a b : Nat) : nI a * nI b = nI (a * b) := (Int32.ofNat_mul a b).symm
theorem pk_div {a d : Nat} (ha : a < 2 ^ 31) (h0 : 0 < d) (hd : d < 2 ^ 31) : nI a / nI d = nI (a / d) := by
  apply Int32.toInt_inj.mp
  rw [lg_idiv_nonneg (by rw [nI_toInt ha]; omega) (by rw [nI_toInt hd]; omega), nI_toInt ha, nI_toInt hd, nI_toInt (Nat.lt_of_le_of_lt (Nat.div_le_self a d) ha)]
  first | rfl | exact (Int.natCast_ediv _ _).symm
theorem pk_rem {a d : Nat} (ha : a < 2 ^ 31) (h0 : 0 < d) (hd : d < 2 ^ 31) : nI a - nI a / nI d * nI d = nI (a % d) := by
  rw [pk_div ha h0 hd, pk_mul, pk_sub (Nat.div_mul_le_self a d)]
  exact congrArg nI (by have := Nat.div_add_mod' a d; omega)
theorem pk_sub_toInt {a b : Nat} (ha : a < 2 ^ 30) (hb : b < 2 ^ 30) : (nI a - nI b).toInt = (a : Int) - b := by
  rw [Int32.toInt_sub, nI_toInt (by omega), nI_toInt (by omega)]
  exact Int.bmod_eq_of_le (by omega) (by omega)
theorem pk_sneg {a b : Nat} (hb : b < 2 ^ 30) (h : a < b) : nI a - nI b < 0 := by
  rw [Int32.lt_iff_toInt_lt, pk_sub_toInt (by omega) hb, show (0 : Int32).toInt = 0 from by decide]
  omega
theorem pk_ix (x : Int32) {n : Nat} (hn : n < 2 ^ 31) : x < 0 ∨ nI n ≤ x ∨ ∃ j : Nat, j < n ∧ x = nI j := by
  by_cases h : x < 0
  · exact Or.inl h
  · obtain ⟨j, hj, rfl⟩ := nI_of h
    by_cases h2 : j < n
    · exact Or.inr (Or.inr ⟨j, h2, rfl⟩)
    · exact Or.inr (Or.inl (nI_le (by omega) hj))
theorem pk_le {x y : Int32} {A B : Prop} (a b : Nat) (f : a ≤ b → A) (g : b < a → B) (hx : x = nI a := by rfl) (hy : y = nI b := by rfl) (ha : a < 2 ^ 31 := by omega) (hb : b < 2 ^ 31 := by omega) : (x ≤ y → A) ∧ (¬ x ≤ y → B) := by
  subst hx hy
  rw [nI_leI ha hb]
  exact ⟨f, fun z => g (by omega)⟩
theorem pk_lt {x y : Int32} {A B : Prop} (a b : Nat) (f : a < b → A) (g : b ≤ a → B) (hx : x = nI a := by rfl) (hy : y = nI b := by rfl) (ha : a < 2 ^ 31 := by omega) (hb : b < 2 ^ 31 := by omega) : (x < y → A) ∧ (¬ x < y → B) := by
  subst hx hy
  rw [nI_ltI ha hb]
  exact ⟨f, fun z => g (by omega)⟩
theorem pk_eq {x y : Int32} {A B : Prop} (a b : Nat) (f : a = b → A) (g : a ≠ b → B) (hx : x = nI a := by rfl) (hy : y = nI b := by rfl) (ha : a < 2 ^ 31 := by omega) (hb : b < 2 ^ 31 := by omega) : (x = y → A) ∧ (¬ x = y → B) := by
  subst hx hy
  rw [nI_eq ha hb]
  exact ⟨f, g⟩
theorem pk_in {x : Int32} (n N : Nat) (h : n < N) (hx : x = nI n := by rfl) (hN : N < 2 ^ 31 := by omega) : vp_in x N := by
  subst hx
  exact vp_in_nI h hN
theorem pk_cl {x : Int32} (n : Nat) (hx : x = nI n := by rfl) (h : n < 2 ^ 31 := by omega) : x.toNatClampNeg = n := by
  subst hx
  exact nI_clamp h
theorem pk_tn {n : Nat} (h : n < 2 ^ 32) : (nI n).toBitVec.toNat = n := Nat.mod_eq_of_lt h
theorem pk_and (x : Int32) {m : Int32} (k : Nat) (hm : m.toBitVec.toNat = 2 ^ k - 1) : x &&& m = nI (x.toBitVec.toNat % 2 ^ k) := by
  apply Int32.toBitVec_inj.mp
  apply BitVec.eq_of_toNat_eq
  rw [Int32.toBitVec_and, BitVec.toNat_and, hm, Nat.and_two_pow_sub_one_eq_mod]
  show _ = (BitVec.ofNat 32 _).toNat
  rw [BitVec.toNat_ofNat]
  exact (Nat.mod_eq_of_lt (Nat.lt_of_le_of_lt (Nat.mod_le _ _) x.toBitVec.isLt)).symm
theorem pk_andN {n : Nat} (h : n < 2 ^ 32) {m : Int32} (k : Nat) (hm : m.toBitVec.toNat = 2 ^ k - 1) : nI n &&& m = nI (n % 2 ^ k) := by
  rw [pk_and _ k hm, pk_tn h]
theorem pk_andE (x : Int32) {m : Int32} (k : Nat) (hm : m.toBitVec.toNat = 2 ^ k - 1) : ∃ j : Nat, j < 2 ^ k ∧ x &&& m = nI j := ⟨_, Nat.mod_lt _ (Nat.two_pow_pos k), pk_and x k hm⟩
theorem pk_andIn (x : Int32) {m : Int32} (k : Nat) (hm : m.toBitVec.toNat = 2 ^ k - 1) (hk : k ≤ 30) : vp_in (x &&& m) (2 ^ k) := by
  obtain ⟨j, hj, e⟩ := pk_andE x k hm
  rw [e]
  exact vp_in_nI hj (Nat.lt_of_le_of_lt (Nat.pow_le_pow_right (by decide) hk) (by decide))
theorem pk_shl (a s : Int32) (k : Nat) (hs : (s.toBitVec.smod 32).toNat = k) : (a <<< s).toBitVec.toNat = a.toBitVec.toNat * 2 ^ k % 2 ^ 32 := by
  show (a.toBitVec <<< (s.toBitVec.smod 32).toNat).toNat = _
  rw [hs, BitVec.toNat_shiftLeft, Nat.shiftLeft_eq]
theorem pk_shlN {n : Nat} (s : Int32) (k : Nat) (hs : (s.toBitVec.smod 32).toNat = k) (h : n * 2 ^ k < 2 ^ 32) : nI n <<< s = nI (n * 2 ^ k) := by
  apply Int32.toBitVec_inj.mp
  apply BitVec.eq_of_toNat_eq
  have hn : n < 2 ^ 32 := Nat.lt_of_le_of_lt (Nat.le_mul_of_pos_right n (Nat.two_pow_pos k)) h
  rw [pk_shl _ _ k hs, pk_tn hn, pk_tn h, Nat.mod_eq_of_lt h]
theorem pk_shr (a s : Int32) (k : Nat) (hs : (s.toBitVec.smod 32).toNat = k) : (a >>> s).toInt = a.toInt >>> k := by
  show (a.toBitVec.sshiftRight (s.toBitVec.smod 32).toNat).toInt = _
  rw [hs, BitVec.toInt_sshiftRight]
  rfl
theorem pk_shrN {n : Nat} (h : n < 2 ^ 31) (s : Int32) (k : Nat) (hs : (s.toBitVec.smod 32).toNat = k) : nI n >>> s = nI (n / 2 ^ k) := by
  apply Int32.toInt_inj.mp
  have h2 : n / 2 ^ k ≤ n := Nat.div_le_self _ _
  rw [pk_shr _ _ k hs, nI_toInt h, nI_toInt (by omega), Int.shiftRight_eq_div_pow]
  rfl
theorem pk_ushr (x s : Int32) (k : Nat) (hs : ((s.toUInt32 &&& Int32.toUInt32 31).toBitVec % 32).toNat = k) : (x.toUInt32 >>> (s.toUInt32 &&& Int32.toUInt32 31)).toInt32.toBitVec.toNat = x.toBitVec.toNat / 2 ^ k := by
  have e : (x.toUInt32 >>> (s.toUInt32 &&& Int32.toUInt32 31)).toInt32.toBitVec = x.toBitVec >>> k := by
    rw [← hs]
    exact UInt32.toBitVec_shiftRight _ _
  rw [e, BitVec.toNat_ushiftRight, Nat.shiftRight_eq_div_pow]
theorem pk_ushrN {n : Nat} (hn : n < 2 ^ 32) (s : Int32) (k : Nat) (hs : ((s.toUInt32 &&& Int32.toUInt32 31).toBitVec % 32).toNat = k) : ((nI n).toUInt32 >>> (s.toUInt32 &&& Int32.toUInt32 31)).toInt32 = nI (n / 2 ^ k) := by
  apply Int32.toBitVec_inj.mp
  apply BitVec.eq_of_toNat_eq
  rw [pk_ushr _ s k hs, pk_tn hn, pk_tn (Nat.lt_of_le_of_lt (Nat.div_le_self _ _) hn)]
theorem pk_nb (z : Int32) : narrow .byte (.int z.toInt8.toInt32) = .int z.toInt8.toInt32 := congrArg Value.int (by simp)
theorem pk_ns (z : Int32) : narrow .short (.int z.toInt16.toInt32) = .int z.toInt16.toInt32 := congrArg Value.int (by simp)
theorem pk_fb (r : Int32) : fits .byte (.int r.toInt8.toInt32) = true := by
  have ⟨a, b⟩ := lg_i2b_range r
  have h1 : (-128 : Int32).toInt = -128 := by decide
  have h2 : (127 : Int32).toInt = 127 := by decide
  simp only [fits, Bool.and_eq_true, decide_eq_true_eq, Int32.le_iff_toInt_le, h1, h2]
  omega
theorem pk_fs (r : Int32) : fits .short (.int r.toInt16.toInt32) = true := by
  have ⟨a, b⟩ := lg_i2s_range r
  have h1 : (-32768 : Int32).toInt = -32768 := by decide
  have h2 : (32767 : Int32).toInt = 32767 := by decide
  simp only [fits, Bool.and_eq_true, decide_eq_true_eq, Int32.le_iff_toInt_le, h1, h2]
  omega
theorem pk_charN {q : Nat} (hq : q < 65536) : narrow .char (.int (nI q)) = .int (nI q) ∧ fits .char (.int (nI q)) = true := by
  constructor
  · have e : (nI q).toUInt32.toUInt16.toUInt32.toInt32 = nI q := by
      apply Int32.toBitVec_inj.mp
      apply BitVec.eq_of_toNat_eq
      show (nI q).toUInt32.toUInt16.toUInt32.toNat = q % 2 ^ 32
      rw [UInt16.toNat_toUInt32, UInt32.toNat_toUInt16, show (nI q).toUInt32.toNat = q % 2 ^ 32 from rfl]
      omega
    exact congrArg Value.int e
  · have a : (0 : Int32) ≤ nI q := nI_pos' (by omega)
    have b : nI q ≤ 65535 := nI_le (b := 65535) (by omega) (by decide)
    show (decide ((0 : Int32) ≤ nI q) && decide (nI q ≤ 65535)) = true
    rw [decide_eq_true a, decide_eq_true b]
    rfl
theorem pk_char (x : Int32) : (x.toUInt32 % 65536).toInt32 = nI (x.toBitVec.toNat % 65536) := by
  apply Int32.toBitVec_inj.mp
  apply BitVec.eq_of_toNat_eq
  rw [pk_tn (by omega)]
  show (x.toUInt32 % 65536).toNat = _
  rw [UInt32.toNat_mod]
  rfl
theorem pk_nc (x : Int32) : narrow .char (.int (x.toUInt32 % 65536).toInt32) = .int (x.toUInt32 % 65536).toInt32 := by
  rw [pk_char]
  exact (pk_charN (Nat.mod_lt _ (by decide))).1
theorem pk_fc (x : Int32) : fits .char (.int (x.toUInt32 % 65536).toInt32) = true := by
  rw [pk_char]
  exact (pk_charN (Nat.mod_lt _ (by decide))).2
theorem pk_vb (z : Int32) : vp_nar .byte z.toInt8.toInt32 = z.toInt8.toInt32 := by rw [vp_nar_byte]; simp
theorem pk_vs (z : Int32) : vp_nar .short z.toInt16.toInt32 = z.toInt16.toInt32 := by rw [vp_nar_short]; simp
theorem pk_vc (z : Int32) : vp_nar .char (z.toUInt32 % 65536).toInt32 = (z.toUInt32 % 65536).toInt32 := Value.int.inj (pk_nc z)
theorem pk_lT {n : Nat} (h : n < 2 ^ 63) : (lN n).toInt = (n : Int) := lg_ofNat_toInt h
theorem pk_lLT {a b : Nat} (ha : a < 2 ^ 63) (hb : b < 2 ^ 63) : lN a < lN b ↔ a < b := by
  rw [Int64.lt_iff_toInt_lt, pk_lT ha, pk_lT hb]; omega
theorem pk_lLE {a b : Nat} (ha : a < 2 ^ 63) (hb : b < 2 ^ 63) : lN a ≤ lN b ↔ a ≤ b := by
  rw [Int64.le_iff_toInt_le, pk_lT ha, pk_lT hb]; omega
theorem pk_lEQ {a b : Nat} (ha : a < 2 ^ 63) (hb : b < 2 ^ 63) : lN a = lN b ↔ a = b := by
  rw [← Int64.toInt_inj, pk_lT ha, pk_lT hb]; omega
theorem pk_lOf {x : Int64} (h : ¬ x < 0) : ∃ k : Nat, k < 2 ^ 63 ∧ x = lN k := by
  rw [Int64.lt_iff_toInt_lt] at h
  have h0 : (0 : Int64).toInt = 0 := by decide
  have hx := Int64.toInt_lt x
  refine ⟨x.toInt.toNat, by omega, Int64.toInt_inj.mp ?_⟩
  rw [pk_lT (by omega)]
  omega
theorem pk_lDiv {a b : Nat} (ha : a < 2 ^ 63) (h0 : 0 < b) (hb : b < 2 ^ 63) : lN a / lN b = lN (a / b) := by
  apply Int64.toInt_inj.mp
  rw [lg_ldiv_nonneg (by rw [pk_lT ha]; omega) (by rw [pk_lT hb]; omega), pk_lT ha, pk_lT hb, pk_lT (Nat.lt_of_le_of_lt (Nat.div_le_self a b) ha)]
  rfl
theorem pk_lRem {a b : Nat} (ha : a < 2 ^ 63) (h0 : 0 < b) (hb : b < 2 ^ 63) : lN a - lN a / lN b * lN b = lN (a % b) := by
  rw [pk_lDiv ha h0 hb, lN_mul, lN_sub (Nat.div_mul_le_self a b)]
  exact congrArg lN (by have := Nat.div_add_mod' a b; omega)
theorem pk_loop {σ : Type} (W : Nat → Nat → σ → Prop) (I : Nat → σ → Prop) (e i0 : Nat) (s : σ) (hi : i0 ≤ e) (h0 : I i0 s) (hx : ∀ n s, I e s → W (n + 1) e s)
    (hs : ∀ n i s, i < e → I i s → (∀ s', I (i + 1) s' → W n (i + 1) s') → W (n + 1) i s) : ∃ n, W n i0 s :=
  ⟨e + 1, loop_i W I e hx hs (e + 1) i0 s hi (by omega) h0⟩
theorem pk_loopD {σ : Type} (W : Nat → Nat → σ → Prop) (I : Nat → σ → Prop) (hx : ∀ n s, I 0 s → W (n + 1) 0 s)
    (hs : ∀ n i s, I (i + 1) s → (∀ s', I i s' → W n i s') → W (n + 1) (i + 1) s) : ∀ (e : Nat) (s : σ), I e s → W (e + 1) e s := by
  intro e
  induction e with
  | zero => exact fun s h => hx 0 s h
  | succ e ih => exact fun s h => hs (e + 1) e s h (fun s' h' => ih s' h')
theorem lp1 {A1 : Type} (W : Nat → A1 → Prop) (I : A1 → Prop) (μ : A1 → Nat) (hs : ∀ (n : Nat) (a1 : A1), I a1 → (∀ (b1 : A1), I b1 → μ b1 < μ a1 → W n b1) → W (n + 1) a1) (a1 : A1) (h : I a1) : ∃ n, W n a1 :=
  loop_m (σ := A1) (fun n s => W n s) (fun s => I s) (fun s => μ s) (fun n s hI hk => hs n s hI (fun b1 h9 hm => hk b1 h9 hm)) a1 h
theorem lp2 {A1 A2 : Type} (W : Nat → A1 → A2 → Prop) (I : A1 → A2 → Prop) (μ : A1 → A2 → Nat) (hs : ∀ (n : Nat) (a1 : A1) (a2 : A2), I a1 a2 → (∀ (b1 : A1) (b2 : A2), I b1 b2 → μ b1 b2 < μ a1 a2 → W n b1 b2) → W (n + 1) a1 a2) (a1 : A1) (a2 : A2) (h : I a1 a2) : ∃ n, W n a1 a2 :=
  loop_m (σ := A1 × A2) (fun n s => W n s.1 s.2) (fun s => I s.1 s.2) (fun s => μ s.1 s.2) (fun n s hI hk => hs n s.1 s.2 hI (fun b1 b2 h9 hm => hk (b1, b2) h9 hm)) (a1, a2) h
theorem lp3 {A1 A2 A3 : Type} (W : Nat → A1 → A2 → A3 → Prop) (I : A1 → A2 → A3 → Prop) (μ : A1 → A2 → A3 → Nat) (hs : ∀ (n : Nat) (a1 : A1) (a2 : A2) (a3 : A3), I a1 a2 a3 → (∀ (b1 : A1) (b2 : A2) (b3 : A3), I b1 b2 b3 → μ b1 b2 b3 < μ a1 a2 a3 → W n b1 b2 b3) → W (n + 1) a1 a2 a3) (a1 : A1) (a2 : A2) (a3 : A3) (h : I a1 a2 a3) : ∃ n, W n a1 a2 a3 :=
  loop_m (σ := A1 × A2 × A3) (fun n s => W n s.1 s.2.1 s.2.2) (fun s => I s.1 s.2.1 s.2.2) (fun s => μ s.1 s.2.1 s.2.2) (fun n s hI hk => hs n s.1 s.2.1 s.2.2 hI (fun b1 b2 b3 h9 hm => hk (b1, b2, b3) h9 hm)) (a1, a2, a3) h
theorem lp4 {A1 A2 A3 A4 : Type} (W : Nat → A1 → A2 → A3 → A4 → Prop) (I : A1 → A2 → A3 → A4 → Prop) (μ : A1 → A2 → A3 → A4 → Nat) (hs : ∀ (n : Nat) (a1 : A1) (a2 : A2) (a3 : A3) (a4 : A4), I a1 a2 a3 a4 → (∀ (b1 : A1) (b2 : A2) (b3 : A3) (b4 : A4), I b1 b2 b3 b4 → μ b1 b2 b3 b4 < μ a1 a2 a3 a4 → W n b1 b2 b3 b4) → W (n + 1) a1 a2 a3 a4) (a1 : A1) (a2 : A2) (a3 : A3) (a4 : A4) (h : I a1 a2 a3 a4) : ∃ n, W n a1 a2 a3 a4 :=
  loop_m (σ := A1 × A2 × A3 × A4) (fun n s => W n s.1 s.2.1 s.2.2.1 s.2.2.2) (fun s => I s.1 s.2.1 s.2.2.1 s.2.2.2) (fun s => μ s.1 s.2.1 s.2.2.1 s.2.2.2) (fun n s hI hk => hs n s.1 s.2.1 s.2.2.1 s.2.2.2 hI (fun b1 b2 b3 b4 h9 hm => hk (b1, b2, b3, b4) h9 hm)) (a1, a2, a3, a4) h
theorem lp5 {A1 A2 A3 A4 A5 : Type} (W : Nat → A1 → A2 → A3 → A4 → A5 → Prop) (I : A1 → A2 → A3 → A4 → A5 → Prop) (μ : A1 → A2 → A3 → A4 → A5 → Nat) (hs : ∀ (n : Nat) (a1 : A1) (a2 : A2) (a3 : A3) (a4 : A4) (a5 : A5), I a1 a2 a3 a4 a5 → (∀ (b1 : A1) (b2 : A2) (b3 : A3) (b4 : A4) (b5 : A5), I b1 b2 b3 b4 b5 → μ b1 b2 b3 b4 b5 < μ a1 a2 a3 a4 a5 → W n b1 b2 b3 b4 b5) → W (n + 1) a1 a2 a3 a4 a5) (a1 : A1) (a2 : A2) (a3 : A3) (a4 : A4) (a5 : A5) (h : I a1 a2 a3 a4 a5) : ∃ n, W n a1 a2 a3 a4 a5 :=
  loop_m (σ := A1 × A2 × A3 × A4 × A5) (fun n s => W n s.1 s.2.1 s.2.2.1 s.2.2.2.1 s.2.2.2.2) (fun s => I s.1 s.2.1 s.2.2.1 s.2.2.2.1 s.2.2.2.2) (fun s => μ s.1 s.2.1 s.2.2.1 s.2.2.2.1 s.2.2.2.2) (fun n s hI hk => hs n s.1 s.2.1 s.2.2.1 s.2.2.2.1 s.2.2.2.2 hI (fun b1 b2 b3 b4 b5 h9 hm => hk (b1, b2, b3, b4, b5) h9 hm)) (a1, a2, a3, a4, a5) h
theorem lp6 {A1 A2 A3 A4 A5 A6 : Type} (W : Nat → A1 → A2 → A3 → A4 → A5 → A6 → Prop) (I : A1 → A2 → A3 → A4 → A5 → A6 → Prop) (μ : A1 → A2 → A3 → A4 → A5 → A6 → Nat) (hs : ∀ (n : Nat) (a1 : A1) (a2 : A2) (a3 : A3) (a4 : A4) (a5 : A5) (a6 : A6), I a1 a2 a3 a4 a5 a6 → (∀ (b1 : A1) (b2 : A2) (b3 : A3) (b4 : A4) (b5 : A5) (b6 : A6), I b1 b2 b3 b4 b5 b6 → μ b1 b2 b3 b4 b5 b6 < μ a1 a2 a3 a4 a5 a6 → W n b1 b2 b3 b4 b5 b6) → W (n + 1) a1 a2 a3 a4 a5 a6) (a1 : A1) (a2 : A2) (a3 : A3) (a4 : A4) (a5 : A5) (a6 : A6) (h : I a1 a2 a3 a4 a5 a6) : ∃ n, W n a1 a2 a3 a4 a5 a6 :=
  loop_m (σ := A1 × A2 × A3 × A4 × A5 × A6) (fun n s => W n s.1 s.2.1 s.2.2.1 s.2.2.2.1 s.2.2.2.2.1 s.2.2.2.2.2) (fun s => I s.1 s.2.1 s.2.2.1 s.2.2.2.1 s.2.2.2.2.1 s.2.2.2.2.2) (fun s => μ s.1 s.2.1 s.2.2.1 s.2.2.2.1 s.2.2.2.2.1 s.2.2.2.2.2) (fun n s hI hk => hs n s.1 s.2.1 s.2.2.1 s.2.2.2.1 s.2.2.2.2.1 s.2.2.2.2.2 hI (fun b1 b2 b3 b4 b5 b6 h9 hm => hk (b1, b2, b3, b4, b5, b6) h9 hm)) (a1, a2, a3, a4, a5, a6) h
theorem lp7 {A1 A2 A3 A4 A5 A6 A7 : Type} (W : Nat → A1 → A2 → A3 → A4 → A5 → A6 → A7 → Prop) (I : A1 → A2 → A3 → A4 → A5 → A6 → A7 → Prop) (μ : A1 → A2 → A3 → A4 → A5 → A6 → A7 → Nat) (hs : ∀ (n : Nat) (a1 : A1) (a2 : A2) (a3 : A3) (a4 : A4) (a5 : A5) (a6 : A6) (a7 : A7), I a1 a2 a3 a4 a5 a6 a7 → (∀ (b1 : A1) (b2 : A2) (b3 : A3) (b4 : A4) (b5 : A5) (b6 : A6) (b7 : A7), I b1 b2 b3 b4 b5 b6 b7 → μ b1 b2 b3 b4 b5 b6 b7 < μ a1 a2 a3 a4 a5 a6 a7 → W n b1 b2 b3 b4 b5 b6 b7) → W (n + 1) a1 a2 a3 a4 a5 a6 a7) (a1 : A1) (a2 : A2) (a3 : A3) (a4 : A4) (a5 : A5) (a6 : A6) (a7 : A7) (h : I a1 a2 a3 a4 a5 a6 a7) : ∃ n, W n a1 a2 a3 a4 a5 a6 a7 :=
  loop_m (σ := A1 × A2 × A3 × A4 × A5 × A6 × A7) (fun n s => W n s.1 s.2.1 s.2.2.1 s.2.2.2.1 s.2.2.2.2.1 s.2.2.2.2.2.1 s.2.2.2.2.2.2) (fun s => I s.1 s.2.1 s.2.2.1 s.2.2.2.1 s.2.2.2.2.1 s.2.2.2.2.2.1 s.2.2.2.2.2.2) (fun s => μ s.1 s.2.1 s.2.2.1 s.2.2.2.1 s.2.2.2.2.1 s.2.2.2.2.2.1 s.2.2.2.2.2.2) (fun n s hI hk => hs n s.1 s.2.1 s.2.2.1 s.2.2.2.1 s.2.2.2.2.1 s.2.2.2.2.2.1 s.2.2.2.2.2.2 hI (fun b1 b2 b3 b4 b5 b6 b7 h9 hm => hk (b1, b2, b3, b4, b5, b6, b7) h9 hm)) (a1, a2, a3, a4, a5, a6, a7) h
theorem lp8 {A1 A2 A3 A4 A5 A6 A7 A8 : Type} (W : Nat → A1 → A2 → A3 → A4 → A5 → A6 → A7 → A8 → Prop) (I : A1 → A2 → A3 → A4 → A5 → A6 → A7 → A8 → Prop) (μ : A1 → A2 → A3 → A4 → A5 → A6 → A7 → A8 → Nat) (hs : ∀ (n : Nat) (a1 : A1) (a2 : A2) (a3 : A3) (a4 : A4) (a5 : A5) (a6 : A6) (a7 : A7) (a8 : A8), I a1 a2 a3 a4 a5 a6 a7 a8 → (∀ (b1 : A1) (b2 : A2) (b3 : A3) (b4 : A4) (b5 : A5) (b6 : A6) (b7 : A7) (b8 : A8), I b1 b2 b3 b4 b5 b6 b7 b8 → μ b1 b2 b3 b4 b5 b6 b7 b8 < μ a1 a2 a3 a4 a5 a6 a7 a8 → W n b1 b2 b3 b4 b5 b6 b7 b8) → W (n + 1) a1 a2 a3 a4 a5 a6 a7 a8) (a1 : A1) (a2 : A2) (a3 : A3) (a4 : A4) (a5 : A5) (a6 : A6) (a7 : A7) (a8 : A8) (h : I a1 a2 a3 a4 a5 a6 a7 a8) : ∃ n, W n a1 a2 a3 a4 a5 a6 a7 a8 :=
  loop_m (σ := A1 × A2 × A3 × A4 × A5 × A6 × A7 × A8) (fun n s => W n s.1 s.2.1 s.2.2.1 s.2.2.2.1 s.2.2.2.2.1 s.2.2.2.2.2.1 s.2.2.2.2.2.2.1 s.2.2.2.2.2.2.2) (fun s => I s.1 s.2.1 s.2.2.1 s.2.2.2.1 s.2.2.2.2.1 s.2.2.2.2.2.1 s.2.2.2.2.2.2.1 s.2.2.2.2.2.2.2) (fun s => μ s.1 s.2.1 s.2.2.1 s.2.2.2.1 s.2.2.2.2.1 s.2.2.2.2.2.1 s.2.2.2.2.2.2.1 s.2.2.2.2.2.2.2) (fun n s hI hk => hs n s.1 s.2.1 s.2.2.1 s.2.2.2.1 s.2.2.2.2.1 s.2.2.2.2.2.1 s.2.2.2.2.2.2.1 s.2.2.2.2.2.2.2 hI (fun b1 b2 b3 b4 b5 b6 b7 b8 h9 hm => hk (b1, b2, b3, b4, b5, b6, b7, b8) h9 hm)) (a1, a2, a3, a4, a5, a6, a7, a8) h
theorem lp9 {A1 A2 A3 A4 A5 A6 A7 A8 A9 : Type} (W : Nat → A1 → A2 → A3 → A4 → A5 → A6 → A7 → A8 → A9 → Prop) (I : A1 → A2 → A3 → A4 → A5 → A6 → A7 → A8 → A9 → Prop) (μ : A1 → A2 → A3 → A4 → A5 → A6 → A7 → A8 → A9 → Nat) (hs : ∀ (n : Nat) (a1 : A1) (a2 : A2) (a3 : A3) (a4 : A4) (a5 : A5) (a6 : A6) (a7 : A7) (a8 : A8) (a9 : A9), I a1 a2 a3 a4 a5 a6 a7 a8 a9 → (∀ (b1 : A1) (b2 : A2) (b3 : A3) (b4 : A4) (b5 : A5) (b6 : A6) (b7 : A7) (b8 : A8) (b9 : A9), I b1 b2 b3 b4 b5 b6 b7 b8 b9 → μ b1 b2 b3 b4 b5 b6 b7 b8 b9 < μ a1 a2 a3 a4 a5 a6 a7 a8 a9 → W n b1 b2 b3 b4 b5 b6 b7 b8 b9) → W (n + 1) a1 a2 a3 a4 a5 a6 a7 a8 a9) (a1 : A1) (a2 : A2) (a3 : A3) (a4 : A4) (a5 : A5) (a6 : A6) (a7 : A7) (a8 : A8) (a9 : A9) (h : I a1 a2 a3 a4 a5 a6 a7 a8 a9) : ∃ n, W n a1 a2 a3 a4 a5 a6 a7 a8 a9 :=
  loop_m (σ := A1 × A2 × A3 × A4 × A5 × A6 × A7 × A8 × A9) (fun n s => W n s.1 s.2.1 s.2.2.1 s.2.2.2.1 s.2.2.2.2.1 s.2.2.2.2.2.1 s.2.2.2.2.2.2.1 s.2.2.2.2.2.2.2.1 s.2.2.2.2.2.2.2.2) (fun s => I s.1 s.2.1 s.2.2.1 s.2.2.2.1 s.2.2.2.2.1 s.2.2.2.2.2.1 s.2.2.2.2.2.2.1 s.2.2.2.2.2.2.2.1 s.2.2.2.2.2.2.2.2) (fun s => μ s.1 s.2.1 s.2.2.1 s.2.2.2.1 s.2.2.2.2.1 s.2.2.2.2.2.1 s.2.2.2.2.2.2.1 s.2.2.2.2.2.2.2.1 s.2.2.2.2.2.2.2.2) (fun n s hI hk => hs n s.1 s.2.1 s.2.2.1 s.2.2.2.1 s.2.2.2.2.1 s.2.2.2.2.2.1 s.2.2.2.2.2.2.1 s.2.2.2.2.2.2.2.1 s.2.2.2.2.2.2.2.2 hI (fun b1 b2 b3 b4 b5 b6 b7 b8 b9 h9 hm => hk (b1, b2, b3, b4, b5, b6, b7, b8, b9) h9 hm)) (a1, a2, a3, a4, a5, a6, a7, a8, a9) h
theorem lp10 {A1 A2 A3 A4 A5 A6 A7 A8 A9 A10 : Type} (W : Nat → A1 → A2 → A3 → A4 → A5 → A6 → A7 → A8 → A9 → A10 → Prop) (I : A1 → A2 → A3 → A4 → A5 → A6 → A7 → A8 → A9 → A10 → Prop) (μ : A1 → A2 → A3 → A4 → A5 → A6 → A7 → A8 → A9 → A10 → Nat) (hs : ∀ (n : Nat) (a1 : A1) (a2 : A2) (a3 : A3) (a4 : A4) (a5 : A5) (a6 : A6) (a7 : A7) (a8 : A8) (a9 : A9) (a10 : A10), I a1 a2 a3 a4 a5 a6 a7 a8 a9 a10 → (∀ (b1 : A1) (b2 : A2) (b3 : A3) (b4 : A4) (b5 : A5) (b6 : A6) (b7 : A7) (b8 : A8) (b9 : A9) (b10 : A10), I b1 b2 b3 b4 b5 b6 b7 b8 b9 b10 → μ b1 b2 b3 b4 b5 b6 b7 b8 b9 b10 < μ a1 a2 a3 a4 a5 a6 a7 a8 a9 a10 → W n b1 b2 b3 b4 b5 b6 b7 b8 b9 b10) → W (n + 1) a1 a2 a3 a4 a5 a6 a7 a8 a9 a10) (a1 : A1) (a2 : A2) (a3 : A3) (a4 : A4) (a5 : A5) (a6 : A6) (a7 : A7) (a8 : A8) (a9 : A9) (a10 : A10) (h : I a1 a2 a3 a4 a5 a6 a7 a8 a9 a10) : ∃ n, W n a1 a2 a3 a4 a5 a6 a7 a8 a9 a10 :=
  loop_m (σ := A1 × A2 × A3 × A4 × A5 × A6 × A7 × A8 × A9 × A10) (fun n s => W n s.1 s.2.1 s.2.2.1 s.2.2.2.1 s.2.2.2.2.1 s.2.2.2.2.2.1 s.2.2.2.2.2.2.1 s.2.2.2.2.2.2.2.1 s.2.2.2.2.2.2.2.2.1 s.2.2.2.2.2.2.2.2.2) (fun s => I s.1 s.2.1 s.2.2.1 s.2.2.2.1 s.2.2.2.2.1 s.2.2.2.2.2.1 s.2.2.2.2.2.2.1 s.2.2.2.2.2.2.2.1 s.2.2.2.2.2.2.2.2.1 s.2.2.2.2.2.2.2.2.2) (fun s => μ s.1 s.2.1 s.2.2.1 s.2.2.2.1 s.2.2.2.2.1 s.2.2.2.2.2.1 s.2.2.2.2.2.2.1 s.2.2.2.2.2.2.2.1 s.2.2.2.2.2.2.2.2.1 s.2.2.2.2.2.2.2.2.2) (fun n s hI hk => hs n s.1 s.2.1 s.2.2.1 s.2.2.2.1 s.2.2.2.2.1 s.2.2.2.2.2.1 s.2.2.2.2.2.2.1 s.2.2.2.2.2.2.2.1 s.2.2.2.2.2.2.2.2.1 s.2.2.2.2.2.2.2.2.2 hI (fun b1 b2 b3 b4 b5 b6 b7 b8 b9 b10 h9 hm => hk (b1, b2, b3, b4, b5, b6, b7, b8, b9, b10) h9 hm)) (a1, a2, a3, a4, a5, a6, a7, a8, a9, a10) h
theorem lp11 {A1 A2 A3 A4 A5 A6 A7 A8 A9 A10 A11 : Type} (W : Nat → A1 → A2 → A3 → A4 → A5 → A6 → A7 → A8 → A9 → A10 → A11 → Prop) (I : A1 → A2 → A3 → A4 → A5 → A6 → A7 → A8 → A9 → A10 → A11 → Prop) (μ : A1 → A2 → A3 → A4 → A5 → A6 → A7 → A8 → A9 → A10 → A11 → Nat) (hs : ∀ (n : Nat) (a1 : A1) (a2 : A2) (a3 : A3) (a4 : A4) (a5 : A5) (a6 : A6) (a7 : A7) (a8 : A8) (a9 : A9) (a10 : A10) (a11 : A11), I a1 a2 a3 a4 a5 a6 a7 a8 a9 a10 a11 → (∀ (b1 : A1) (b2 : A2) (b3 : A3) (b4 : A4) (b5 : A5) (b6 : A6) (b7 : A7) (b8 : A8) (b9 : A9) (b10 : A10) (b11 : A11), I b1 b2 b3 b4 b5 b6 b7 b8 b9 b10 b11 → μ b1 b2 b3 b4 b5 b6 b7 b8 b9 b10 b11 < μ a1 a2 a3 a4 a5 a6 a7 a8 a9 a10 a11 → W n b1 b2 b3 b4 b5 b6 b7 b8 b9 b10 b11) → W (n + 1) a1 a2 a3 a4 a5 a6 a7 a8 a9 a10 a11) (a1 : A1) (a2 : A2) (a3 : A3) (a4 : A4) (a5 : A5) (a6 : A6) (a7 : A7) (a8 : A8) (a9 : A9) (a10 : A10) (a11 : A11) (h : I a1 a2 a3 a4 a5 a6 a7 a8 a9 a10 a11) : ∃ n, W n a1 a2 a3 a4 a5 a6 a7 a8 a9 a10 a11 :=
  loop_m (σ := A1 × A2 × A3 × A4 × A5 × A6 × A7 × A8 × A9 × A10 × A11) (fun n s => W n s.1 s.2.1 s.2.2.1 s.2.2.2.1 s.2.2.2.2.1 s.2.2.2.2.2.1 s.2.2.2.2.2.2.1 s.2.2.2.2.2.2.2.1 s.2.2.2.2.2.2.2.2.1 s.2.2.2.2.2.2.2.2.2.1 s.2.2.2.2.2.2.2.2.2.2) (fun s => I s.1 s.2.1 s.2.2.1 s.2.2.2.1 s.2.2.2.2.1 s.2.2.2.2.2.1 s.2.2.2.2.2.2.1 s.2.2.2.2.2.2.2.1 s.2.2.2.2.2.2.2.2.1 s.2.2.2.2.2.2.2.2.2.1 s.2.2.2.2.2.2.2.2.2.2) (fun s => μ s.1 s.2.1 s.2.2.1 s.2.2.2.1 s.2.2.2.2.1 s.2.2.2.2.2.1 s.2.2.2.2.2.2.1 s.2.2.2.2.2.2.2.1 s.2.2.2.2.2.2.2.2.1 s.2.2.2.2.2.2.2.2.2.1 s.2.2.2.2.2.2.2.2.2.2) (fun n s hI hk => hs n s.1 s.2.1 s.2.2.1 s.2.2.2.1 s.2.2.2.2.1 s.2.2.2.2.2.1 s.2.2.2.2.2.2.1 s.2.2.2.2.2.2.2.1 s.2.2.2.2.2.2.2.2.1 s.2.2.2.2.2.2.2.2.2.1 s.2.2.2.2.2.2.2.2.2.2 hI (fun b1 b2 b3 b4 b5 b6 b7 b8 b9 b10 b11 h9 hm => hk (b1, b2, b3, b4, b5, b6, b7, b8, b9, b10, b11) h9 hm)) (a1, a2, a3, a4, a5, a6, a7, a8, a9, a10, a11) h
theorem lp12 {A1 A2 A3 A4 A5 A6 A7 A8 A9 A10 A11 A12 : Type} (W : Nat → A1 → A2 → A3 → A4 → A5 → A6 → A7 → A8 → A9 → A10 → A11 → A12 → Prop) (I : A1 → A2 → A3 → A4 → A5 → A6 → A7 → A8 → A9 → A10 → A11 → A12 → Prop) (μ : A1 → A2 → A3 → A4 → A5 → A6 → A7 → A8 → A9 → A10 → A11 → A12 → Nat) (hs : ∀ (n : Nat) (a1 : A1) (a2 : A2) (a3 : A3) (a4 : A4) (a5 : A5) (a6 : A6) (a7 : A7) (a8 : A8) (a9 : A9) (a10 : A10) (a11 : A11) (a12 : A12), I a1 a2 a3 a4 a5 a6 a7 a8 a9 a10 a11 a12 → (∀ (b1 : A1) (b2 : A2) (b3 : A3) (b4 : A4) (b5 : A5) (b6 : A6) (b7 : A7) (b8 : A8) (b9 : A9) (b10 : A10) (b11 : A11) (b12 : A12), I b1 b2 b3 b4 b5 b6 b7 b8 b9 b10 b11 b12 → μ b1 b2 b3 b4 b5 b6 b7 b8 b9 b10 b11 b12 < μ a1 a2 a3 a4 a5 a6 a7 a8 a9 a10 a11 a12 → W n b1 b2 b3 b4 b5 b6 b7 b8 b9 b10 b11 b12) → W (n + 1) a1 a2 a3 a4 a5 a6 a7 a8 a9 a10 a11 a12) (a1 : A1) (a2 : A2) (a3 : A3) (a4 : A4) (a5 : A5) (a6 : A6) (a7 : A7) (a8 : A8) (a9 : A9) (a10 : A10) (a11 : A11) (a12 : A12) (h : I a1 a2 a3 a4 a5 a6 a7 a8 a9 a10 a11 a12) : ∃ n, W n a1 a2 a3 a4 a5 a6 a7 a8 a9 a10 a11 a12 :=
  loop_m (σ := A1 × A2 × A3 × A4 × A5 × A6 × A7 × A8 × A9 × A10 × A11 × A12) (fun n s => W n s.1 s.2.1 s.2.2.1 s.2.2.2.1 s.2.2.2.2.1 s.2.2.2.2.2.1 s.2.2.2.2.2.2.1 s.2.2.2.2.2.2.2.1 s.2.2.2.2.2.2.2.2.1 s.2.2.2.2.2.2.2.2.2.1 s.2.2.2.2.2.2.2.2.2.2.1 s.2.2.2.2.2.2.2.2.2.2.2) (fun s => I s.1 s.2.1 s.2.2.1 s.2.2.2.1 s.2.2.2.2.1 s.2.2.2.2.2.1 s.2.2.2.2.2.2.1 s.2.2.2.2.2.2.2.1 s.2.2.2.2.2.2.2.2.1 s.2.2.2.2.2.2.2.2.2.1 s.2.2.2.2.2.2.2.2.2.2.1 s.2.2.2.2.2.2.2.2.2.2.2) (fun s => μ s.1 s.2.1 s.2.2.1 s.2.2.2.1 s.2.2.2.2.1 s.2.2.2.2.2.1 s.2.2.2.2.2.2.1 s.2.2.2.2.2.2.2.1 s.2.2.2.2.2.2.2.2.1 s.2.2.2.2.2.2.2.2.2.1 s.2.2.2.2.2.2.2.2.2.2.1 s.2.2.2.2.2.2.2.2.2.2.2) (fun n s hI hk => hs n s.1 s.2.1 s.2.2.1 s.2.2.2.1 s.2.2.2.2.1 s.2.2.2.2.2.1 s.2.2.2.2.2.2.1 s.2.2.2.2.2.2.2.1 s.2.2.2.2.2.2.2.2.1 s.2.2.2.2.2.2.2.2.2.1 s.2.2.2.2.2.2.2.2.2.2.1 s.2.2.2.2.2.2.2.2.2.2.2 hI (fun b1 b2 b3 b4 b5 b6 b7 b8 b9 b10 b11 b12 h9 hm => hk (b1, b2, b3, b4, b5, b6, b7, b8, b9, b10, b11, b12) h9 hm)) (a1, a2, a3, a4, a5, a6, a7, a8, a9, a10, a11, a12) h
theorem lp13 {A1 A2 A3 A4 A5 A6 A7 A8 A9 A10 A11 A12 A13 : Type} (W : Nat → A1 → A2 → A3 → A4 → A5 → A6 → A7 → A8 → A9 → A10 → A11 → A12 → A13 → Prop) (I : A1 → A2 → A3 → A4 → A5 → A6 → A7 → A8 → A9 → A10 → A11 → A12 → A13 → Prop) (μ : A1 → A2 → A3 → A4 → A5 → A6 → A7 → A8 → A9 → A10 → A11 → A12 → A13 → Nat) (hs : ∀ (n : Nat) (a1 : A1) (a2 : A2) (a3 : A3) (a4 : A4) (a5 : A5) (a6 : A6) (a7 : A7) (a8 : A8) (a9 : A9) (a10 : A10) (a11 : A11) (a12 : A12) (a13 : A13), I a1 a2 a3 a4 a5 a6 a7 a8 a9 a10 a11 a12 a13 → (∀ (b1 : A1) (b2 : A2) (b3 : A3) (b4 : A4) (b5 : A5) (b6 : A6) (b7 : A7) (b8 : A8) (b9 : A9) (b10 : A10) (b11 : A11) (b12 : A12) (b13 : A13), I b1 b2 b3 b4 b5 b6 b7 b8 b9 b10 b11 b12 b13 → μ b1 b2 b3 b4 b5 b6 b7 b8 b9 b10 b11 b12 b13 < μ a1 a2 a3 a4 a5 a6 a7 a8 a9 a10 a11 a12 a13 → W n b1 b2 b3 b4 b5 b6 b7 b8 b9 b10 b11 b12 b13) → W (n + 1) a1 a2 a3 a4 a5 a6 a7 a8 a9 a10 a11 a12 a13) (a1 : A1) (a2 : A2) (a3 : A3) (a4 : A4) (a5 : A5) (a6 : A6) (a7 : A7) (a8 : A8) (a9 : A9) (a10 : A10) (a11 : A11) (a12 : A12) (a13 : A13) (h : I a1 a2 a3 a4 a5 a6 a7 a8 a9 a10 a11 a12 a13) : ∃ n, W n a1 a2 a3 a4 a5 a6 a7 a8 a9 a10 a11 a12 a13 :=
  loop_m (σ := A1 × A2 × A3 × A4 × A5 × A6 × A7 × A8 × A9 × A10 × A11 × A12 × A13) (fun n s => W n s.1 s.2.1 s.2.2.1 s.2.2.2.1 s.2.2.2.2.1 s.2.2.2.2.2.1 s.2.2.2.2.2.2.1 s.2.2.2.2.2.2.2.1 s.2.2.2.2.2.2.2.2.1 s.2.2.2.2.2.2.2.2.2.1 s.2.2.2.2.2.2.2.2.2.2.1 s.2.2.2.2.2.2.2.2.2.2.2.1 s.2.2.2.2.2.2.2.2.2.2.2.2) (fun s => I s.1 s.2.1 s.2.2.1 s.2.2.2.1 s.2.2.2.2.1 s.2.2.2.2.2.1 s.2.2.2.2.2.2.1 s.2.2.2.2.2.2.2.1 s.2.2.2.2.2.2.2.2.1 s.2.2.2.2.2.2.2.2.2.1 s.2.2.2.2.2.2.2.2.2.2.1 s.2.2.2.2.2.2.2.2.2.2.2.1 s.2.2.2.2.2.2.2.2.2.2.2.2) (fun s => μ s.1 s.2.1 s.2.2.1 s.2.2.2.1 s.2.2.2.2.1 s.2.2.2.2.2.1 s.2.2.2.2.2.2.1 s.2.2.2.2.2.2.2.1 s.2.2.2.2.2.2.2.2.1 s.2.2.2.2.2.2.2.2.2.1 s.2.2.2.2.2.2.2.2.2.2.1 s.2.2.2.2.2.2.2.2.2.2.2.1 s.2.2.2.2.2.2.2.2.2.2.2.2) (fun n s hI hk => hs n s.1 s.2.1 s.2.2.1 s.2.2.2.1 s.2.2.2.2.1 s.2.2.2.2.2.1 s.2.2.2.2.2.2.1 s.2.2.2.2.2.2.2.1 s.2.2.2.2.2.2.2.2.1 s.2.2.2.2.2.2.2.2.2.1 s.2.2.2.2.2.2.2.2.2.2.1 s.2.2.2.2.2.2.2.2.2.2.2.1 s.2.2.2.2.2.2.2.2.2.2.2.2 hI (fun b1 b2 b3 b4 b5 b6 b7 b8 b9 b10 b11 b12 b13 h9 hm => hk (b1, b2, b3, b4, b5, b6, b7, b8, b9, b10, b11, b12, b13) h9 hm)) (a1, a2, a3, a4, a5, a6, a7, a8, a9, a10, a11, a12, a13) h
theorem lp14 {A1 A2 A3 A4 A5 A6 A7 A8 A9 A10 A11 A12 A13 A14 : Type} (W : Nat → A1 → A2 → A3 → A4 → A5 → A6 → A7 → A8 → A9 → A10 → A11 → A12 → A13 → A14 → Prop) (I : A1 → A2 → A3 → A4 → A5 → A6 → A7 → A8 → A9 → A10 → A11 → A12 → A13 → A14 → Prop) (μ : A1 → A2 → A3 → A4 → A5 → A6 → A7 → A8 → A9 → A10 → A11 → A12 → A13 → A14 → Nat) (hs : ∀ (n : Nat) (a1 : A1) (a2 : A2) (a3 : A3) (a4 : A4) (a5 : A5) (a6 : A6) (a7 : A7) (a8 : A8) (a9 : A9) (a10 : A10) (a11 : A11) (a12 : A12) (a13 : A13) (a14 : A14), I a1 a2 a3 a4 a5 a6 a7 a8 a9 a10 a11 a12 a13 a14 → (∀ (b1 : A1) (b2 : A2) (b3 : A3) (b4 : A4) (b5 : A5) (b6 : A6) (b7 : A7) (b8 : A8) (b9 : A9) (b10 : A10) (b11 : A11) (b12 : A12) (b13 : A13) (b14 : A14), I b1 b2 b3 b4 b5 b6 b7 b8 b9 b10 b11 b12 b13 b14 → μ b1 b2 b3 b4 b5 b6 b7 b8 b9 b10 b11 b12 b13 b14 < μ a1 a2 a3 a4 a5 a6 a7 a8 a9 a10 a11 a12 a13 a14 → W n b1 b2 b3 b4 b5 b6 b7 b8 b9 b10 b11 b12 b13 b14) → W (n + 1) a1 a2 a3 a4 a5 a6 a7 a8 a9 a10 a11 a12 a13 a14) (a1 : A1) (a2 : A2) (a3 : A3) (a4 : A4) (a5 : A5) (a6 : A6) (a7 : A7) (a8 : A8) (a9 : A9) (a10 : A10) (a11 : A11) (a12 : A12) (a13 : A13) (a14 : A14) (h : I a1 a2 a3 a4 a5 a6 a7 a8 a9 a10 a11 a12 a13 a14) : ∃ n, W n a1 a2 a3 a4 a5 a6 a7 a8 a9 a10 a11 a12 a13 a14 :=
  loop_m (σ := A1 × A2 × A3 × A4 × A5 × A6 × A7 × A8 × A9 × A10 × A11 × A12 × A13 × A14) (fun n s => W n s.1 s.2.1 s.2.2.1 s.2.2.2.1 s.2.2.2.2.1 s.2.2.2.2.2.1 s.2.2.2.2.2.2.1 s.2.2.2.2.2.2.2.1 s.2.2.2.2.2.2.2.2.1 s.2.2.2.2.2.2.2.2.2.1 s.2.2.2.2.2.2.2.2.2.2.1 s.2.2.2.2.2.2.2.2.2.2.2.1 s.2.2.2.2.2.2.2.2.2.2.2.2.1 s.2.2.2.2.2.2.2.2.2.2.2.2.2) (fun s => I s.1 s.2.1 s.2.2.1 s.2.2.2.1 s.2.2.2.2.1 s.2.2.2.2.2.1 s.2.2.2.2.2.2.1 s.2.2.2.2.2.2.2.1 s.2.2.2.2.2.2.2.2.1 s.2.2.2.2.2.2.2.2.2.1 s.2.2.2.2.2.2.2.2.2.2.1 s.2.2.2.2.2.2.2.2.2.2.2.1 s.2.2.2.2.2.2.2.2.2.2.2.2.1 s.2.2.2.2.2.2.2.2.2.2.2.2.2) (fun s => μ s.1 s.2.1 s.2.2.1 s.2.2.2.1 s.2.2.2.2.1 s.2.2.2.2.2.1 s.2.2.2.2.2.2.1 s.2.2.2.2.2.2.2.1 s.2.2.2.2.2.2.2.2.1 s.2.2.2.2.2.2.2.2.2.1 s.2.2.2.2.2.2.2.2.2.2.1 s.2.2.2.2.2.2.2.2.2.2.2.1 s.2.2.2.2.2.2.2.2.2.2.2.2.1 s.2.2.2.2.2.2.2.2.2.2.2.2.2) (fun n s hI hk => hs n s.1 s.2.1 s.2.2.1 s.2.2.2.1 s.2.2.2.2.1 s.2.2.2.2.2.1 s.2.2.2.2.2.2.1 s.2.2.2.2.2.2.2.1 s.2.2.2.2.2.2.2.2.1 s.2.2.2.2.2.2.2.2.2.1 s.2.2.2.2.2.2.2.2.2.2.1 s.2.2.2.2.2.2.2.2.2.2.2.1 s.2.2.2.2.2.2.2.2.2.2.2.2.1 s.2.2.2.2.2.2.2.2.2.2.2.2.2 hI (fun b1 b2 b3 b4 b5 b6 b7 b8 b9 b10 b11 b12 b13 b14 h9 hm => hk (b1, b2, b3, b4, b5, b6, b7, b8, b9, b10, b11, b12, b13, b14) h9 hm)) (a1, a2, a3, a4, a5, a6, a7, a8, a9, a10, a11, a12, a13, a14) h
theorem lp15 {A1 A2 A3 A4 A5 A6 A7 A8 A9 A10 A11 A12 A13 A14 A15 : Type} (W : Nat → A1 → A2 → A3 → A4 → A5 → A6 → A7 → A8 → A9 → A10 → A11 → A12 → A13 → A14 → A15 → Prop) (I : A1 → A2 → A3 → A4 → A5 → A6 → A7 → A8 → A9 → A10 → A11 → A12 → A13 → A14 → A15 → Prop) (μ : A1 → A2 → A3 → A4 → A5 → A6 → A7 → A8 → A9 → A10 → A11 → A12 → A13 → A14 → A15 → Nat) (hs : ∀ (n : Nat) (a1 : A1) (a2 : A2) (a3 : A3) (a4 : A4) (a5 : A5) (a6 : A6) (a7 : A7) (a8 : A8) (a9 : A9) (a10 : A10) (a11 : A11) (a12 : A12) (a13 : A13) (a14 : A14) (a15 : A15), I a1 a2 a3 a4 a5 a6 a7 a8 a9 a10 a11 a12 a13 a14 a15 → (∀ (b1 : A1) (b2 : A2) (b3 : A3) (b4 : A4) (b5 : A5) (b6 : A6) (b7 : A7) (b8 : A8) (b9 : A9) (b10 : A10) (b11 : A11) (b12 : A12) (b13 : A13) (b14 : A14) (b15 : A15), I b1 b2 b3 b4 b5 b6 b7 b8 b9 b10 b11 b12 b13 b14 b15 → μ b1 b2 b3 b4 b5 b6 b7 b8 b9 b10 b11 b12 b13 b14 b15 < μ a1 a2 a3 a4 a5 a6 a7 a8 a9 a10 a11 a12 a13 a14 a15 → W n b1 b2 b3 b4 b5 b6 b7 b8 b9 b10 b11 b12 b13 b14 b15) → W (n + 1) a1 a2 a3 a4 a5 a6 a7 a8 a9 a10 a11 a12 a13 a14 a15) (a1 : A1) (a2 : A2) (a3 : A3) (a4 : A4) (a5 : A5) (a6 : A6) (a7 : A7) (a8 : A8) (a9 : A9) (a10 : A10) (a11 : A11) (a12 : A12) (a13 : A13) (a14 : A14) (a15 : A15) (h : I a1 a2 a3 a4 a5 a6 a7 a8 a9 a10 a11 a12 a13 a14 a15) : ∃ n, W n a1 a2 a3 a4 a5 a6 a7 a8 a9 a10 a11 a12 a13 a14 a15 :=
  loop_m (σ := A1 × A2 × A3 × A4 × A5 × A6 × A7 × A8 × A9 × A10 × A11 × A12 × A13 × A14 × A15) (fun n s => W n s.1 s.2.1 s.2.2.1 s.2.2.2.1 s.2.2.2.2.1 s.2.2.2.2.2.1 s.2.2.2.2.2.2.1 s.2.2.2.2.2.2.2.1 s.2.2.2.2.2.2.2.2.1 s.2.2.2.2.2.2.2.2.2.1 s.2.2.2.2.2.2.2.2.2.2.1 s.2.2.2.2.2.2.2.2.2.2.2.1 s.2.2.2.2.2.2.2.2.2.2.2.2.1 s.2.2.2.2.2.2.2.2.2.2.2.2.2.1 s.2.2.2.2.2.2.2.2.2.2.2.2.2.2) (fun s => I s.1 s.2.1 s.2.2.1 s.2.2.2.1 s.2.2.2.2.1 s.2.2.2.2.2.1 s.2.2.2.2.2.2.1 s.2.2.2.2.2.2.2.1 s.2.2.2.2.2.2.2.2.1 s.2.2.2.2.2.2.2.2.2.1 s.2.2.2.2.2.2.2.2.2.2.1 s.2.2.2.2.2.2.2.2.2.2.2.1 s.2.2.2.2.2.2.2.2.2.2.2.2.1 s.2.2.2.2.2.2.2.2.2.2.2.2.2.1 s.2.2.2.2.2.2.2.2.2.2.2.2.2.2) (fun s => μ s.1 s.2.1 s.2.2.1 s.2.2.2.1 s.2.2.2.2.1 s.2.2.2.2.2.1 s.2.2.2.2.2.2.1 s.2.2.2.2.2.2.2.1 s.2.2.2.2.2.2.2.2.1 s.2.2.2.2.2.2.2.2.2.1 s.2.2.2.2.2.2.2.2.2.2.1 s.2.2.2.2.2.2.2.2.2.2.2.1 s.2.2.2.2.2.2.2.2.2.2.2.2.1 s.2.2.2.2.2.2.2.2.2.2.2.2.2.1 s.2.2.2.2.2.2.2.2.2.2.2.2.2.2) (fun n s hI hk => hs n s.1 s.2.1 s.2.2.1 s.2.2.2.1 s.2.2.2.2.1 s.2.2.2.2.2.1 s.2.2.2.2.2.2.1 s.2.2.2.2.2.2.2.1 s.2.2.2.2.2.2.2.2.1 s.2.2.2.2.2.2.2.2.2.1 s.2.2.2.2.2.2.2.2.2.2.1 s.2.2.2.2.2.2.2.2.2.2.2.1 s.2.2.2.2.2.2.2.2.2.2.2.2.1 s.2.2.2.2.2.2.2.2.2.2.2.2.2.1 s.2.2.2.2.2.2.2.2.2.2.2.2.2.2 hI (fun b1 b2 b3 b4 b5 b6 b7 b8 b9 b10 b11 b12 b13 b14 b15 h9 hm => hk (b1, b2, b3, b4, b5, b6, b7, b8, b9, b10, b11, b12, b13, b14, b15) h9 hm)) (a1, a2, a3, a4, a5, a6, a7, a8, a9, a10, a11, a12, a13, a14, a15) h
theorem lp16 {A1 A2 A3 A4 A5 A6 A7 A8 A9 A10 A11 A12 A13 A14 A15 A16 : Type} (W : Nat → A1 → A2 → A3 → A4 → A5 → A6 → A7 → A8 → A9 → A10 → A11 → A12 → A13 → A14 → A15 → A16 → Prop) (I : A1 → A2 → A3 → A4 → A5 → A6 → A7 → A8 → A9 → A10 → A11 → A12 → A13 → A14 → A15 → A16 → Prop) (μ : A1 → A2 → A3 → A4 → A5 → A6 → A7 → A8 → A9 → A10 → A11 → A12 → A13 → A14 → A15 → A16 → Nat) (hs : ∀ (n : Nat) (a1 : A1) (a2 : A2) (a3 : A3) (a4 : A4) (a5 : A5) (a6 : A6) (a7 : A7) (a8 : A8) (a9 : A9) (a10 : A10) (a11 : A11) (a12 : A12) (a13 : A13) (a14 : A14) (a15 : A15) (a16 : A16), I a1 a2 a3 a4 a5 a6 a7 a8 a9 a10 a11 a12 a13 a14 a15 a16 → (∀ (b1 : A1) (b2 : A2) (b3 : A3) (b4 : A4) (b5 : A5) (b6 : A6) (b7 : A7) (b8 : A8) (b9 : A9) (b10 : A10) (b11 : A11) (b12 : A12) (b13 : A13) (b14 : A14) (b15 : A15) (b16 : A16), I b1 b2 b3 b4 b5 b6 b7 b8 b9 b10 b11 b12 b13 b14 b15 b16 → μ b1 b2 b3 b4 b5 b6 b7 b8 b9 b10 b11 b12 b13 b14 b15 b16 < μ a1 a2 a3 a4 a5 a6 a7 a8 a9 a10 a11 a12 a13 a14 a15 a16 → W n b1 b2 b3 b4 b5 b6 b7 b8 b9 b10 b11 b12 b13 b14 b15 b16) → W (n + 1) a1 a2 a3 a4 a5 a6 a7 a8 a9 a10 a11 a12 a13 a14 a15 a16) (a1 : A1) (a2 : A2) (a3 : A3) (a4 : A4) (a5 : A5) (a6 : A6) (a7 : A7) (a8 : A8) (a9 : A9) (a10 : A10) (a11 : A11) (a12 : A12) (a13 : A13) (a14 : A14) (a15 : A15) (a16 : A16) (h : I a1 a2 a3 a4 a5 a6 a7 a8 a9 a10 a11 a12 a13 a14 a15 a16) : ∃ n, W n a1 a2 a3 a4 a5 a6 a7 a8 a9 a10 a11 a12 a13 a14 a15 a16 :=
  loop_m (σ := A1 × A2 × A3 × A4 × A5 × A6 × A7 × A8 × A9 × A10 × A11 × A12 × A13 × A14 × A15 × A16) (fun n s => W n s.1 s.2.1 s.2.2.1 s.2.2.2.1 s.2.2.2.2.1 s.2.2.2.2.2.1 s.2.2.2.2.2.2.1 s.2.2.2.2.2.2.2.1 s.2.2.2.2.2.2.2.2.1 s.2.2.2.2.2.2.2.2.2.1 s.2.2.2.2.2.2.2.2.2.2.1 s.2.2.2.2.2.2.2.2.2.2.2.1 s.2.2.2.2.2.2.2.2.2.2.2.2.1 s.2.2.2.2.2.2.2.2.2.2.2.2.2.1 s.2.2.2.2.2.2.2.2.2.2.2.2.2.2.1 s.2.2.2.2.2.2.2.2.2.2.2.2.2.2.2) (fun s => I s.1 s.2.1 s.2.2.1 s.2.2.2.1 s.2.2.2.2.1 s.2.2.2.2.2.1 s.2.2.2.2.2.2.1 s.2.2.2.2.2.2.2.1 s.2.2.2.2.2.2.2.2.1 s.2.2.2.2.2.2.2.2.2.1 s.2.2.2.2.2.2.2.2.2.2.1 s.2.2.2.2.2.2.2.2.2.2.2.1 s.2.2.2.2.2.2.2.2.2.2.2.2.1 s.2.2.2.2.2.2.2.2.2.2.2.2.2.1 s.2.2.2.2.2.2.2.2.2.2.2.2.2.2.1 s.2.2.2.2.2.2.2.2.2.2.2.2.2.2.2) (fun s => μ s.1 s.2.1 s.2.2.1 s.2.2.2.1 s.2.2.2.2.1 s.2.2.2.2.2.1 s.2.2.2.2.2.2.1 s.2.2.2.2.2.2.2.1 s.2.2.2.2.2.2.2.2.1 s.2.2.2.2.2.2.2.2.2.1 s.2.2.2.2.2.2.2.2.2.2.1 s.2.2.2.2.2.2.2.2.2.2.2.1 s.2.2.2.2.2.2.2.2.2.2.2.2.1 s.2.2.2.2.2.2.2.2.2.2.2.2.2.1 s.2.2.2.2.2.2.2.2.2.2.2.2.2.2.1 s.2.2.2.2.2.2.2.2.2.2.2.2.2.2.2) (fun n s hI hk => hs n s.1 s.2.1 s.2.2.1 s.2.2.2.1 s.2.2.2.2.1 s.2.2.2.2.2.1 s.2.2.2.2.2.2.1 s.2.2.2.2.2.2.2.1 s.2.2.2.2.2.2.2.2.1 s.2.2.2.2.2.2.2.2.2.1 s.2.2.2.2.2.2.2.2.2.2.1 s.2.2.2.2.2.2.2.2.2.2.2.1 s.2.2.2.2.2.2.2.2.2.2.2.2.1 s.2.2.2.2.2.2.2.2.2.2.2.2.2.1 s.2.2.2.2.2.2.2.2.2.2.2.2.2.2.1 s.2.2.2.2.2.2.2.2.2.2.2.2.2.2.2 hI (fun b1 b2 b3 b4 b5 b6 b7 b8 b9 b10 b11 b12 b13 b14 b15 b16 h9 hm => hk (b1, b2, b3, b4, b5, b6, b7, b8, b9, b10, b11, b12, b13, b14, b15, b16) h9 hm)) (a1, a2, a3, a4, a5, a6, a7, a8, a9, a10, a11, a12, a13, a14, a15, a16) h
theorem pk_least (P : Nat → Prop) (h : ∃ k, P k) : ∃ k, P k ∧ ∀ j, j < k → ¬ P j := by
  obtain ⟨k, hk⟩ := h
  induction k using Nat.strongRecOn with
  | ind k ih =>
    by_cases e : ∃ j, j < k ∧ P j
    · obtain ⟨j, hj, pj⟩ := e
      exact ih j hj pj
    · exact ⟨k, hk, fun j hj pj => e ⟨j, hj, pj⟩⟩
theorem rp1 {ρ A1 : Type} (W : Nat → (ρ → Prop) → A1 → Prop) (ok : A1 → Prop) (μ : A1 → Nat) (val : A1 → ρ)
    (hs : ∀ (d : Nat) (post : ρ → Prop) (a1 : A1), ok a1 → post (val a1) → (∀ (post' : ρ → Prop) (b1 : A1), ok b1 → μ b1 < μ a1 → post' (val b1) → W d post' b1) → W (d + 1) post a1) :
    ∀ (d : Nat) (post : ρ → Prop) (a1 : A1), ok a1 → μ a1 < d → post (val a1) → W d post a1 := by
  intro d
  induction d with
  | zero => intro post a1 _ h; omega
  | succ d ih =>
    intro post a1 ho hm hp
    exact hs d post a1 ho hp (fun post' b1 ho' hm' hp' => ih post' b1 ho' (by omega) hp')
theorem rp2 {ρ A1 A2 : Type} (W : Nat → (ρ → Prop) → A1 → A2 → Prop) (ok : A1 → A2 → Prop) (μ : A1 → A2 → Nat) (val : A1 → A2 → ρ)
    (hs : ∀ (d : Nat) (post : ρ → Prop) (a1 : A1) (a2 : A2), ok a1 a2 → post (val a1 a2) → (∀ (post' : ρ → Prop) (b1 : A1) (b2 : A2), ok b1 b2 → μ b1 b2 < μ a1 a2 → post' (val b1 b2) → W d post' b1 b2) → W (d + 1) post a1 a2) :
    ∀ (d : Nat) (post : ρ → Prop) (a1 : A1) (a2 : A2), ok a1 a2 → μ a1 a2 < d → post (val a1 a2) → W d post a1 a2 := by
  intro d
  induction d with
  | zero => intro post a1 a2 _ h; omega
  | succ d ih =>
    intro post a1 a2 ho hm hp
    exact hs d post a1 a2 ho hp (fun post' b1 b2 ho' hm' hp' => ih post' b1 b2 ho' (by omega) hp')
theorem rp3 {ρ A1 A2 A3 : Type} (W : Nat → (ρ → Prop) → A1 → A2 → A3 → Prop) (ok : A1 → A2 → A3 → Prop) (μ : A1 → A2 → A3 → Nat) (val : A1 → A2 → A3 → ρ)
    (hs : ∀ (d : Nat) (post : ρ → Prop) (a1 : A1) (a2 : A2) (a3 : A3), ok a1 a2 a3 → post (val a1 a2 a3) → (∀ (post' : ρ → Prop) (b1 : A1) (b2 : A2) (b3 : A3), ok b1 b2 b3 → μ b1 b2 b3 < μ a1 a2 a3 → post' (val b1 b2 b3) → W d post' b1 b2 b3) → W (d + 1) post a1 a2 a3) :
    ∀ (d : Nat) (post : ρ → Prop) (a1 : A1) (a2 : A2) (a3 : A3), ok a1 a2 a3 → μ a1 a2 a3 < d → post (val a1 a2 a3) → W d post a1 a2 a3 := by
  intro d
  induction d with
  | zero => intro post a1 a2 a3 _ h; omega
  | succ d ih =>
    intro post a1 a2 a3 ho hm hp
    exact hs d post a1 a2 a3 ho hp (fun post' b1 b2 b3 ho' hm' hp' => ih post' b1 b2 b3 ho' (by omega) hp')
theorem rp4 {ρ A1 A2 A3 A4 : Type} (W : Nat → (ρ → Prop) → A1 → A2 → A3 → A4 → Prop) (ok : A1 → A2 → A3 → A4 → Prop) (μ : A1 → A2 → A3 → A4 → Nat) (val : A1 → A2 → A3 → A4 → ρ)
    (hs : ∀ (d : Nat) (post : ρ → Prop) (a1 : A1) (a2 : A2) (a3 : A3) (a4 : A4), ok a1 a2 a3 a4 → post (val a1 a2 a3 a4) → (∀ (post' : ρ → Prop) (b1 : A1) (b2 : A2) (b3 : A3) (b4 : A4), ok b1 b2 b3 b4 → μ b1 b2 b3 b4 < μ a1 a2 a3 a4 → post' (val b1 b2 b3 b4) → W d post' b1 b2 b3 b4) → W (d + 1) post a1 a2 a3 a4) :
    ∀ (d : Nat) (post : ρ → Prop) (a1 : A1) (a2 : A2) (a3 : A3) (a4 : A4), ok a1 a2 a3 a4 → μ a1 a2 a3 a4 < d → post (val a1 a2 a3 a4) → W d post a1 a2 a3 a4 := by
  intro d
  induction d with
  | zero => intro post a1 a2 a3 a4 _ h; omega
  | succ d ih =>
    intro post a1 a2 a3 a4 ho hm hp
    exact hs d post a1 a2 a3 a4 ho hp (fun post' b1 b2 b3 b4 ho' hm' hp' => ih post' b1 b2 b3 b4 ho' (by omega) hp')
theorem rp5 {ρ A1 A2 A3 A4 A5 : Type} (W : Nat → (ρ → Prop) → A1 → A2 → A3 → A4 → A5 → Prop) (ok : A1 → A2 → A3 → A4 → A5 → Prop) (μ : A1 → A2 → A3 → A4 → A5 → Nat) (val : A1 → A2 → A3 → A4 → A5 → ρ)
    (hs : ∀ (d : Nat) (post : ρ → Prop) (a1 : A1) (a2 : A2) (a3 : A3) (a4 : A4) (a5 : A5), ok a1 a2 a3 a4 a5 → post (val a1 a2 a3 a4 a5) → (∀ (post' : ρ → Prop) (b1 : A1) (b2 : A2) (b3 : A3) (b4 : A4) (b5 : A5), ok b1 b2 b3 b4 b5 → μ b1 b2 b3 b4 b5 < μ a1 a2 a3 a4 a5 → post' (val b1 b2 b3 b4 b5) → W d post' b1 b2 b3 b4 b5) → W (d + 1) post a1 a2 a3 a4 a5) :
    ∀ (d : Nat) (post : ρ → Prop) (a1 : A1) (a2 : A2) (a3 : A3) (a4 : A4) (a5 : A5), ok a1 a2 a3 a4 a5 → μ a1 a2 a3 a4 a5 < d → post (val a1 a2 a3 a4 a5) → W d post a1 a2 a3 a4 a5 := by
  intro d
  induction d with
  | zero => intro post a1 a2 a3 a4 a5 _ h; omega
  | succ d ih =>
    intro post a1 a2 a3 a4 a5 ho hm hp
    exact hs d post a1 a2 a3 a4 a5 ho hp (fun post' b1 b2 b3 b4 b5 ho' hm' hp' => ih post' b1 b2 b3 b4 b5 ho' (by omega) hp')
theorem rp6 {ρ A1 A2 A3 A4 A5 A6 : Type} (W : Nat → (ρ → Prop) → A1 → A2 → A3 → A4 → A5 → A6 → Prop) (ok : A1 → A2 → A3 → A4 → A5 → A6 → Prop) (μ : A1 → A2 → A3 → A4 → A5 → A6 → Nat) (val : A1 → A2 → A3 → A4 → A5 → A6 → ρ)
    (hs : ∀ (d : Nat) (post : ρ → Prop) (a1 : A1) (a2 : A2) (a3 : A3) (a4 : A4) (a5 : A5) (a6 : A6), ok a1 a2 a3 a4 a5 a6 → post (val a1 a2 a3 a4 a5 a6) → (∀ (post' : ρ → Prop) (b1 : A1) (b2 : A2) (b3 : A3) (b4 : A4) (b5 : A5) (b6 : A6), ok b1 b2 b3 b4 b5 b6 → μ b1 b2 b3 b4 b5 b6 < μ a1 a2 a3 a4 a5 a6 → post' (val b1 b2 b3 b4 b5 b6) → W d post' b1 b2 b3 b4 b5 b6) → W (d + 1) post a1 a2 a3 a4 a5 a6) :
    ∀ (d : Nat) (post : ρ → Prop) (a1 : A1) (a2 : A2) (a3 : A3) (a4 : A4) (a5 : A5) (a6 : A6), ok a1 a2 a3 a4 a5 a6 → μ a1 a2 a3 a4 a5 a6 < d → post (val a1 a2 a3 a4 a5 a6) → W d post a1 a2 a3 a4 a5 a6 := by
  intro d
  induction d with
  | zero => intro post a1 a2 a3 a4 a5 a6 _ h; omega
  | succ d ih =>
    intro post a1 a2 a3 a4 a5 a6 ho hm hp
    exact hs d post a1 a2 a3 a4 a5 a6 ho hp (fun post' b1 b2 b3 b4 b5 b6 ho' hm' hp' => ih post' b1 b2 b3 b4 b5 b6 ho' (by omega) hp')
theorem rec_p {σ ρ : Type} (W : Nat → (ρ → Prop) → σ → Prop) (ok : σ → Prop) (μ : σ → Nat) (val : σ → ρ)
    (hs : ∀ d s post, ok s → post (val s) → (∀ s' post', ok s' → μ s' < μ s → post' (val s') → W d post' s') → W (d + 1) post s) :
    ∀ d s post, ok s → μ s < d → post (val s) → W d post s := by
  intro d
  induction d with
  | zero => intro s post _ h; omega
  | succ d ih =>
    intro s post ho hm hp
    exact hs d s post ho hp (fun s' post' ho' hm' hp' => ih s' post' ho' (by omega) hp')
theorem rec_q {σ ρ : Type} (W : Nat → (ρ → Prop) → σ → Prop) (ok : σ → Prop) (μ : σ → Nat) (Q : σ → ρ → Prop)
    (hs : ∀ d s post, ok s → (∀ r, Q s r → post r) → (∀ s' post', ok s' → μ s' < μ s → (∀ r, Q s' r → post' r) → W d post' s') → W (d + 1) post s) :
    ∀ d s post, ok s → μ s < d → (∀ r, Q s r → post r) → W d post s := by
  intro d
  induction d with
  | zero => intro s post _ h; omega
  | succ d ih =>
    intro s post ho hm hp
    exact hs d s post ho hp (fun s' post' ho' hm' hp' => ih s' post' ho' (by omega) hp')
def bx_sum (f : Nat → Int32) : Nat → Int32
  | 0 => 0
  | n + 1 => bx_sum f n + f n
theorem ek_u {A : Prop} {B : Nat → Prop} {k N : Nat} (hk : k < N) (h : B k) : (some k = none → A) ∧ (∀ y : Nat, some k = some y → (y < N ∧ B y)) :=
  ⟨fun z => absurd z (Option.some_ne_none k), fun _ e => (by cases e; exact ⟨hk, h⟩)⟩
theorem ek_nu {A : Prop} {B : Nat → Prop} (h : A) : ((none : Option Nat) = none → A) ∧ (∀ y : Nat, (none : Option Nat) = some y → B y) :=
  ⟨fun _ => h, fun _ e => (by cases e)⟩
theorem ek_if {c d A B : Prop} (e : c ↔ d) (f : d → A) (g : ¬ d → B) : (c → A) ∧ (¬ c → B) :=
  ⟨fun z => f (e.mp z), fun z => g (fun y => z (e.mpr y))⟩
theorem ek_v {α : Sort _} {P : α → Prop} {a b : α} (e : a = b) (h : P b) : P a := e ▸ h
theorem co_some {x : Option Nat} {A : Prop} {B : Nat → Prop} (i : Nat) (h : B i) (hx : x = some i := by rfl) : (x = none → A) ∧ (∀ y : Nat, x = some y → B y) := by
  subst hx
  exact ⟨fun e => (nomatch e), fun y e => Option.some.inj e ▸ h⟩
theorem co_none {x : Option Nat} {A : Prop} {B : Nat → Prop} (h : A) (hx : x = none := by rfl) : (x = none → A) ∧ (∀ y : Nat, x = some y → B y) := by
  subst hx
  exact ⟨fun _ => h, fun y e => (nomatch e)⟩
theorem co_any {x : Option Nat} {A : Prop} {B : Nat → Prop} (hn : x = none → A) (hs : ∀ i : Nat, x = some i → B i) : (x = none → A) ∧ (∀ y : Nat, x = some y → B y) := ⟨hn, hs⟩
theorem co_2 {P : Nat → Prop} (h0 : P 0) (h1 : P 1) {i : Nat} (hi : i < 2) : P i :=
  match i, hi with
  | 0, _ => h0
  | 1, _ => h1
theorem co_3 {P : Nat → Prop} (h0 : P 0) (h1 : P 1) (h2 : P 2) {i : Nat} (hi : i < 3) : P i :=
  match i, hi with
  | 0, _ => h0
  | 1, _ => h1
  | 2, _ => h2
theorem co_4 {P : Nat → Prop} (h0 : P 0) (h1 : P 1) (h2 : P 2) (h3 : P 3) {i : Nat} (hi : i < 4) : P i :=
  match i, hi with
  | 0, _ => h0
  | 1, _ => h1
  | 2, _ => h2
  | 3, _ => h3
theorem co_dec {N : Nat} {P : Nat → Prop} [DecidablePred P] (h : (List.range N).all (fun i => decide (P i)) = true) {i : Nat} (hi : i < N) : P i := by
  have := List.all_eq_true.mp h i (List.mem_range.mpr hi)
  exact of_decide_eq_true this
theorem co_tab {α : Type} {l : List α} {d : α} {P : α → Prop} (h : ∀ a, a ∈ l → P a) {i : Nat} (hi : i < l.length) : P (l.getD i d) := by
  rw [List.getD_eq_getElem?_getD, List.getElem?_eq_getElem hi]
  exact h _ (List.getElem_mem hi)
theorem pk_mu {x : Int32} {L : Nat} (h0 : ¬ x < 0) (h : ¬ nI L ≤ x) (hL : L < 2 ^ 31) : ∃ j : Nat, j < L ∧ x = nI j ∧ x + 1 = nI (j + 1) ∧ x.toNatClampNeg = j ∧ L - (x + 1).toNatClampNeg < L - x.toNatClampNeg := by
  obtain ⟨j, hj, rfl⟩ := nI_of h0
  have hl : j < L := Nat.not_le.mp fun q => h (nI_le q hj)
  refine ⟨j, hl, rfl, nI_1 j, nI_clamp hj, ?_⟩
  rw [nI_1, nI_clamp (by omega), nI_clamp hj]
  omega
theorem op_s {α : Type} {r : Option α} {A : Prop} {B : α → Prop} {y : α} (h : r = some y) (b : B y) : (r = none → A) ∧ ∀ z, r = some z → B z :=
  ⟨fun e => (by rw [h] at e; cases e), fun z e => (by rw [h] at e; cases e; exact b)⟩
def l_holds {α : Type} (a : Nat → Option Nat) (LP : List Nat) (p : Nat → α) (c : Nat) (b : Nat → α) : Prop :=
  ∀ j, j < c → ∃ y, a j = some y ∧ y ∈ LP ∧ p y = b j
theorem l_holds_0 {α : Type} {a : Nat → Option Nat} {LP : List Nat} {p b : Nat → α} : l_holds a LP p 0 b := fun j h => absurd h (Nat.not_lt_zero j)
theorem l_in_new (LP : List Nat) (q : Nat) : q ∈ LP ++ [q] := List.mem_append.mpr (Or.inr (List.mem_singleton.mpr rfl))
def l_sum (b : Nat → Int32) : Nat → Int32
  | 0 => 0
  | k + 1 => l_sum b k + b k
theorem sb_shr0 (x : Int32) : x >>> ((0 : Int32) &&& 31) = x := by
  rw [show ((0 : Int32) &&& 31) = 0 by decide]
  simp
theorem sb_shl0 (x : Int32) : x <<< ((0 : Int32) &&& 31) = x := by
  rw [show ((0 : Int32) &&& 31) = 0 by decide]
  simp
theorem sb_cl0 : (0 : Int32).toNatClampNeg = 0 := by decide
theorem sb_m1 {p : Nat} (h : 0 < p) : nI p + (-1) = nI (p - 1) := by
  obtain ⟨q, rfl⟩ : ∃ q, p = q + 1 := ⟨p - 1, by omega⟩
  exact pk_m1 q
def sb_b (c : Nat) : Int32 := (nI c).toInt8.toInt32
theorem sb_byte : ∀ c, c < 256 → sb_b c &&& 255 = nI c ∧ ((nI c).toUInt32 % 65536).toInt32 = nI c ∧ nI c ≤ 255 := by decide +kernel
def sb_Fit (a : Nat → Int32) : Prop := ∀ j, fits .byte (.int (a j)) = true
def sb_Lat (t : Nat → Nat) (n : Nat) (a : Nat → Int32) : Prop := ∀ j, j < n → t j < 256 ∧ a j = sb_b (t j)
theorem sb_fitB (c : Nat) : fits .byte (.int (sb_b c)) = true := pk_fb _
theorem sb_fit0 : sb_Fit (fun _ => 0) := fun _ => by
  show fits .byte (.int 0) = true
  decide
theorem sb_fitU {a : Nat → Int32} {k : Nat} {x : Int32} (h : sb_Fit a) (hx : fits .byte (.int x) = true) : sb_Fit (upd a k x) := by
  intro j
  by_cases e : j = k
  · subst e
    rw [pk_us]
    exact hx
  · rw [pk_un e]
    exact h j
def sb_cat (t : Nat → Nat) (n : Nat) (s : Nat → Nat) : Nat → Nat := fun j => if j < n then t j else s (j - n)
theorem sb_cat_lo {t s : Nat → Nat} {n j : Nat} (h : j < n) : sb_cat t n s j = t j := if_pos h
theorem sb_cat_hi {t s : Nat → Nat} {n j : Nat} : sb_cat t n s (n + j) = s j := by
  show (if n + j < n then t (n + j) else s (n + j - n)) = s j
  rw [if_neg (by omega), Nat.add_sub_cancel_left]
theorem sb_latPut {t s : Nat → Nat} {n w : Nat} {a a' : Nat → Int32} (h : sb_Lat t n a) (hk : ∀ j, j < n → a' j = a j) (hs : ∀ i, i < w → s i < 256 ∧ a' (n + i) = sb_b (s i)) : sb_Lat (sb_cat t n s) (n + w) a' := by
  intro j hj
  by_cases e : j < n
  · rw [sb_cat_lo e, hk j e]
    exact h j e
  · obtain ⟨i, rfl⟩ : ∃ i, j = n + i := ⟨j - n, by omega⟩
    rw [sb_cat_hi]
    exact hs i (by omega)
theorem sb_latKeep {t : Nat → Nat} {n : Nat} {a a' : Nat → Int32} (h : sb_Lat t n a) (hk : ∀ j, j < n → a' j = a j) : sb_Lat t n a' := fun j hj => by
  rw [hk j hj]
  exact h j hj
def sb_cap (q m : Nat) : Nat := if q ≤ m then m else if 2 * m + 2 < q then q else 2 * m + 2
def sb_Room (q m mc ms : Nat) : Prop := q ≤ m ∨ (1 ≤ mc ∧ sb_cap q m ≤ ms ∧ sb_cap q m ≤ 65536)
theorem sb_cap_ge (q m : Nat) : q ≤ sb_cap q m := by
  unfold sb_cap
  split
  · omega
  · split <;> omega
theorem sb_cap_gem (q m : Nat) : m ≤ sb_cap q m := by
  unfold sb_cap
  split
  · omega
  · split <;> omega
theorem sb_cap_le {q m mc ms : Nat} (hm : m ≤ 65536) (hr : sb_Room q m mc ms) : sb_cap q m ≤ 65536 := by
  rcases hr with h | h
  · rw [sb_cap, if_pos h]
    exact hm
  · exact h.2.2
theorem sb_at {P : Int32 → Prop} {x y : Int32} (e : x = y) (h : P y) : P x := e ▸ h
def sb_dg (w : Nat) : Nat := if w < 10 then 1 else if w < 100 then 2 else if w < 1000 then 3 else if w < 10000 then 4 else if w < 100000 then 5 else if w < 1000000 then 6 else if w < 10000000 then 7 else if w < 100000000 then 8 else if w < 1000000000 then 9 else 10
def sb_dec (v : Nat) : Nat → Nat := fun i => 48 + v / 10 ^ (sb_dg v - 1 - i) % 10
theorem sb_dg_in (w : Nat) : 1 ≤ sb_dg w ∧ sb_dg w ≤ 10 := by
  unfold sb_dg
  constructor <;> (repeat' split) <;> omega
theorem sb_dg100 {w : Nat} (h : 100 ≤ w) (hw : w < 2 ^ 31) : sb_dg w = sb_dg (w / 100) + 2 := by
  rw [sb_dg, sb_dg, if_neg (show ¬ w < 10 by omega), if_neg (show ¬ w < 100 by omega)]
  by_cases h3 : w < 1000
  · rw [if_pos h3, if_pos (show w / 100 < 10 by omega)]
  rw [if_neg h3, if_neg (show ¬ w / 100 < 10 by omega)]
  by_cases h4 : w < 10000
  · rw [if_pos h4, if_pos (show w / 100 < 100 by omega)]
  rw [if_neg h4, if_neg (show ¬ w / 100 < 100 by omega)]
  by_cases h5 : w < 100000
  · rw [if_pos h5, if_pos (show w / 100 < 1000 by omega)]
  rw [if_neg h5, if_neg (show ¬ w / 100 < 1000 by omega)]
  by_cases h6 : w < 1000000
  · rw [if_pos h6, if_pos (show w / 100 < 10000 by omega)]
  rw [if_neg h6, if_neg (show ¬ w / 100 < 10000 by omega)]
  by_cases h7 : w < 10000000
  · rw [if_pos h7, if_pos (show w / 100 < 100000 by omega)]
  rw [if_neg h7, if_neg (show ¬ w / 100 < 100000 by omega)]
  by_cases h8 : w < 100000000
  · rw [if_pos h8, if_pos (show w / 100 < 1000000 by omega)]
  rw [if_neg h8, if_neg (show ¬ w / 100 < 1000000 by omega)]
  by_cases h9 : w < 1000000000
  · rw [if_pos h9, if_pos (show w / 100 < 10000000 by omega)]
  rw [if_neg h9, if_neg (show ¬ w / 100 < 10000000 by omega)]
  rw [if_pos (show w / 100 < 100000000 by omega)]
theorem sb_negT {w : Nat} (h : w < 2 ^ 31) : (-nI w).toInt = -(w : Int) := by
  rw [Int32.toInt_neg, nI_toInt h]
  exact Int.bmod_eq_of_le (by omega) (by omega)
theorem sb_nle {a b : Nat} (ha : a < 2 ^ 31) (hb : b < 2 ^ 31) : -nI a ≤ -nI b ↔ b ≤ a := by
  rw [Int32.le_iff_toInt_le, sb_negT ha, sb_negT hb]
  omega
theorem sb_nlt {a b : Nat} (ha : a < 2 ^ 31) (hb : b < 2 ^ 31) : -nI a < -nI b ↔ b < a := by
  rw [Int32.lt_iff_toInt_lt, sb_negT ha, sb_negT hb]
  omega
theorem sb_cmp {A B : Prop} {x : Int32} (v c : Nat) (f : c ≤ v → A) (g : v < c → B) (hv : v < 2 ^ 31) (hx : x = -nI c := by rfl) (hc : c < 2 ^ 31 := by omega) : (-nI v ≤ x → A) ∧ (¬ -nI v ≤ x → B) := by
  subst hx
  rw [sb_nle hv hc]
  exact ⟨f, fun z => g (by omega)⟩
theorem sb_ndiv {w : Nat} (hw : w < 2 ^ 31) : (-nI w) / 100 = -nI (w / 100) := by
  apply Int32.toInt_inj.mp
  have h100 : (100 : Int32).toInt = 100 := by decide
  rw [Int32.toInt_div, sb_negT hw, h100, sb_negT (by omega), Int.neg_tdiv, Int.tdiv_eq_ediv_of_nonneg (by omega), Int.bmod_eq_of_le (by omega) (by omega)]
  omega
theorem sb_nrem {w : Nat} (hw : w < 2 ^ 31) : (-nI (w / 100)) * 100 - (-nI w) = nI (w % 100) := by
  have h := pk_rem (a := w) (d := 100) hw (by decide) (by decide)
  rw [pk_div hw (by decide) (by decide)] at h
  rw [← h]
  show (-nI (w / 100)) * nI 100 - (-nI w) = nI w - nI (w / 100) * nI 100
  rw [Int32.neg_mul, Int32.sub_neg, Int32.add_comm, ← Int32.sub_eq_add_neg]
end
section
/-! rows on bits, shifts and unsigned numbers, to paste: each family out of a closed proof of our own, whole with what it rests on; each by itself clean at Lean in its own claim (generation 39, form 5). Take a family whole -/
/-! ===== Int32 by its bits: bt x i ===== -/
def bt (x : Int32) (i : Nat) : Bool := x.toBitVec.getLsbD i
theorem b_ext {x y : Int32} (h : ∀ i, i < 32 → bt x i = bt y i) : x = y := Int32.toBitVec_inj.mp (BitVec.eq_of_getLsbD_eq (fun i hi => h i hi))
theorem b_or (x y : Int32) (i : Nat) : bt (x ||| y) i = (bt x i || bt y i) := by unfold bt; rw [Int32.toBitVec_or, BitVec.getLsbD_or]
theorem b_and (x y : Int32) (i : Nat) : bt (x &&& y) i = (bt x i && bt y i) := by unfold bt; rw [Int32.toBitVec_and, BitVec.getLsbD_and]
theorem b_xor (x y : Int32) (i : Nat) : bt (x ^^^ y) i = (bt x i ^^ bt y i) := by unfold bt; rw [Int32.toBitVec_xor, BitVec.getLsbD_xor]
theorem b_big {x : Int32} {i : Nat} (h : 32 ≤ i) : bt x i = false := BitVec.getLsbD_of_ge _ _ h
theorem b_255 (i : Nat) : bt 255 i = decide (i < 8) := by
  rcases Nat.lt_or_ge i 32 with h | h
  · exact (by decide +kernel : ∀ i, i < 32 → bt 255 i = decide (i < 8)) i h
  · rw [b_big h, decide_eq_false (by omega)]
theorem b_65535 (i : Nat) : bt 65535 i = decide (i < 16) := by
  rcases Nat.lt_or_ge i 32 with h | h
  · exact (by decide +kernel : ∀ i, i < 32 → bt 65535 i = decide (i < 16)) i h
  · rw [b_big h, decide_eq_false (by omega)]
theorem b_m1 : ∀ i, i < 32 → bt (-1) i = true := by decide +kernel
theorem b_0 (i : Nat) : bt 0 i = false := BitVec.getLsbD_zero
theorem s_l : ∀ n, n < 32 → ((nI n &&& 31).toBitVec.smod 32).toNat = n := by decide +kernel
theorem s_u : ∀ n, n < 32 → (((nI n).toUInt32 &&& Int32.toUInt32 31).toBitVec % 32).toNat = n := by decide +kernel
theorem b_shl (n : Nat) (hn : n < 32) (x : Int32) {i : Nat} (hi : i < 32) : bt (x <<< (nI n &&& 31)) i = (decide (n ≤ i) && bt x (i - n)) := by
  unfold bt
  rw [Int32.toBitVec_shiftLeft]
  show (x.toBitVec <<< ((nI n &&& 31).toBitVec.smod 32).toNat).getLsbD i = _
  rw [s_l n hn, BitVec.getLsbD_shiftLeft]
  rcases Nat.lt_or_ge i n with h | h
  · simp [h, Nat.not_le.mpr h]
  · simp [hi, h, Nat.not_lt.mpr h]
theorem b_ushr (n : Nat) (hn : n < 32) (x : Int32) (i : Nat) : bt ((x.toUInt32 >>> ((nI n).toUInt32 &&& Int32.toUInt32 31)).toInt32) i = bt x (n + i) := by
  show (x.toUInt32 >>> ((nI n).toUInt32 &&& Int32.toUInt32 31)).toBitVec.getLsbD i = x.toUInt32.toBitVec.getLsbD (n + i)
  rw [UInt32.toBitVec_shiftRight]
  show (x.toUInt32.toBitVec >>> (((nI n).toUInt32 &&& Int32.toUInt32 31).toBitVec % 32).toNat).getLsbD i = _
  rw [s_u n hn, BitVec.getLsbD_ushiftRight]
theorem b_sshr (n : Nat) (hn : n < 32) (x : Int32) {i : Nat} (hi : i < 32) : bt (x >>> (nI n &&& 31)) i = if n + i < 32 then bt x (n + i) else bt x 31 := by
  unfold bt
  rw [Int32.toBitVec_shiftRight]
  show (x.toBitVec.sshiftRight ((nI n &&& 31).toBitVec.smod 32).toNat).getLsbD i = _
  rw [s_l n hn, BitVec.getLsbD_sshiftRight, BitVec.msb_eq_getLsbD_last]
  simp [hi]
theorem b_shl8 (x : Int32) {i : Nat} (hi : i < 32) : bt (x <<< ((8 : Int32) &&& 31)) i = (decide (8 ≤ i) && bt x (i - 8)) := b_shl 8 (by omega) x hi
theorem b_shl16 (x : Int32) {i : Nat} (hi : i < 32) : bt (x <<< ((16 : Int32) &&& 31)) i = (decide (16 ≤ i) && bt x (i - 16)) := b_shl 16 (by omega) x hi
theorem b_shl24 (x : Int32) {i : Nat} (hi : i < 32) : bt (x <<< ((24 : Int32) &&& 31)) i = (decide (24 ≤ i) && bt x (i - 24)) := b_shl 24 (by omega) x hi
theorem b_sshr8 (x : Int32) {i : Nat} (hi : i < 32) : bt (x >>> ((8 : Int32) &&& 31)) i = if 8 + i < 32 then bt x (8 + i) else bt x 31 := b_sshr 8 (by omega) x hi
/-! ===== nI under and, xor, >>>, one bit, 65535 ===== -/
theorem nx_and (a b : Nat) : nI a &&& nI b = nI (a &&& b) := by
  apply Int32.toBitVec_inj.1
  show BitVec.ofNat 32 a &&& BitVec.ofNat 32 b = BitVec.ofNat 32 (a &&& b)
  apply BitVec.eq_of_getLsbD_eq
  intro i hi
  simp [hi]
theorem nx_xor (a b : Nat) : nI a ^^^ nI b = nI (a ^^^ b) := by
  apply Int32.toBitVec_inj.1
  show BitVec.ofNat 32 a ^^^ BitVec.ofNat 32 b = BitVec.ofNat 32 (a ^^^ b)
  apply BitVec.eq_of_getLsbD_eq
  intro i hi
  simp [hi]
theorem nx_cnt : ∀ j : Fin 32, (UInt32.ofNat j.val &&& Int32.toUInt32 31).toNat % 32 = j.val := by decide +kernel
theorem nx_ush {k j : Nat} (hk : k < 65536) (hj : j < 32) : ((nI k).toUInt32 >>> ((nI j).toUInt32 &&& Int32.toUInt32 31)).toInt32 = nI (k >>> j) := by
  have hs : k >>> j ≤ k := by
    rw [Nat.shiftRight_eq_div_pow]
    exact Nat.div_le_self _ _
  have e2 : UInt32.ofNat k >>> (UInt32.ofNat j &&& Int32.toUInt32 31) = UInt32.ofNat (k >>> j) := by
    apply UInt32.toNat_inj.1
    have h1 : (UInt32.ofNat k).toNat = k := Nat.mod_eq_of_lt (by omega)
    have h2 : (UInt32.ofNat (k >>> j)).toNat = k >>> j := Nat.mod_eq_of_lt (by omega)
    rw [UInt32.toNat_shiftRight, nx_cnt ⟨j, hj⟩, h1, h2]
  show (UInt32.ofNat k >>> (UInt32.ofNat j &&& Int32.toUInt32 31)).toInt32 = _
  rw [e2]
  rfl
theorem nx_bit {k j : Nat} (hk : k < 65536) (hj : j < 16) : (((nI k).toUInt32 >>> ((nI j).toUInt32 &&& Int32.toUInt32 31)).toInt32 &&& 1) = 0 ↔ k.testBit j = false := by
  rw [nx_ush hk (by omega)]
  show nI (k >>> j) &&& nI 1 = 0 ↔ _
  rw [nx_and, Nat.and_one_is_mod, ← nI_0, nI_eq (by omega) (by omega), Nat.testBit_eq_decide_div_mod_eq, Nat.shiftRight_eq_div_pow, decide_eq_false_iff_not]
  generalize k / 2 ^ j = z
  omega
theorem nx_mod (k : Nat) : nI k &&& 65535 = nI (k % 65536) := by
  show nI k &&& nI 65535 = _
  rw [nx_and, show (65535 : Nat) = 2 ^ 16 - 1 from rfl, Nat.and_two_pow_sub_one_eq_mod]
theorem nx_m16 {k : Nat} (h : k < 65536) : nI k &&& 65535 = nI k := by rw [nx_mod, Nat.mod_eq_of_lt h]
theorem nx_mask (x : Int32) : ∃ k, k < 65536 ∧ x &&& 65535 = nI k := by
  have e : x = nI x.toBitVec.toNat := by
    apply Int32.toBitVec_inj.1
    show x.toBitVec = BitVec.ofNat 32 x.toBitVec.toNat
    simp
  refine ⟨x.toBitVec.toNat % 65536, Nat.mod_lt _ (by omega), ?_⟩
  rw [← nx_mod, ← e]
/-! ===== Int32 as a set of bits: test, set ===== -/
def nf_M (m : Int32) : Nat := 4294967296 - m.toBitVec.toNat
theorem nf_sh : ∀ l, l < 32 → ((1 : Int32) <<< (nI l &&& 31)).toBitVec = BitVec.twoPow 32 l := by decide +kernel
theorem nf_sl : ∀ l, l < 32 → (((nI l).toUInt32 &&& Int32.toUInt32 31).toBitVec % 32).toNat = l := by decide +kernel
theorem nf_tp : ∀ l, l < 32 → BitVec.twoPow 32 l ≠ 0#32 := by decide +kernel
theorem nf_bit (m : Int32) (l : Nat) (hl : l < 32) : ((m.toUInt32 >>> ((nI l).toUInt32 &&& Int32.toUInt32 31)).toInt32 &&& 1) = 0 ↔ (m &&& ((1 : Int32) <<< (nI l &&& 31))) = 0 := by
  have e : ((m.toUInt32 >>> ((nI l).toUInt32 &&& Int32.toUInt32 31)).toInt32).toBitVec = m.toBitVec >>> l := by
    show m.toBitVec >>> (((nI l).toUInt32 &&& Int32.toUInt32 31).toBitVec % 32) = m.toBitVec >>> l
    rw [BitVec.ushiftRight_eq', nf_sl l hl]
  rw [← Int32.toBitVec_inj, ← Int32.toBitVec_inj, Int32.toBitVec_and, Int32.toBitVec_and, nf_sh l hl, e, BitVec.and_twoPow]
  show (m.toBitVec >>> l &&& 1#32) = 0#32 ↔ _ = 0#32
  rw [BitVec.and_one_eq_setWidth_ofBool_getLsbD, BitVec.getLsbD_ushiftRight, Nat.add_zero]
  cases hb : m.toBitVec.getLsbD l
  · exact ⟨fun _ => by simp, fun _ => by decide⟩
  · exact ⟨fun z => absurd z (by decide), fun z => absurd ((if_pos rfl).symm.trans z) (nf_tp l hl)⟩
theorem nf_gr (m k : Int32) (h : m &&& k = 0) (hk : k ≠ 0) : nf_M (m ||| k) < nf_M m := by
  have hm := m.toBitVec.isLt
  have hm' := (m ||| k).toBitVec.isLt
  have h1 : m.toBitVec.toNat ≤ (m ||| k).toBitVec.toNat := by
    rw [Int32.toBitVec_or, BitVec.toNat_or]
    exact Nat.left_le_or
  have h2 : m.toBitVec.toNat ≠ (m ||| k).toBitVec.toNat := by
    intro e
    have e2 : m = m ||| k := Int32.toBitVec_inj.mp (BitVec.eq_of_toNat_eq e)
    apply hk
    apply Int32.toBitVec_inj.mp
    show k.toBitVec = 0#32
    apply BitVec.eq_of_getLsbD_eq
    intro i hi
    have a : m.toBitVec.getLsbD i = (m.toBitVec.getLsbD i || k.toBitVec.getLsbD i) := by rw [← BitVec.getLsbD_or, ← Int32.toBitVec_or, ← e2]
    have b : (m.toBitVec.getLsbD i && k.toBitVec.getLsbD i) = false := by
      rw [← BitVec.getLsbD_and, ← Int32.toBitVec_and, h]
      exact BitVec.getLsbD_zero
    rw [BitVec.getLsbD_zero]
    revert a b
    cases m.toBitVec.getLsbD i <;> cases k.toBitVec.getLsbD i <;> simp
  unfold nf_M
  omega
/-! ===== a byte read unsigned ===== -/
theorem bp_b (x : Int32) : x.toInt8.toInt32 &&& 255 = x &&& 255 := by
  apply Int32.toBitVec_inj.mp
  rw [Int32.toBitVec_and, Int32.toBitVec_and, Int8.toBitVec_toInt32, Int32.toBitVec_toInt8]
  apply BitVec.eq_of_getLsbD_eq
  intro i hi
  rw [BitVec.getLsbD_and, BitVec.getLsbD_and]
  have hm : ∀ i < 32, 8 ≤ i → (255 : Int32).toBitVec.getLsbD i = false := by decide
  rcases Nat.lt_or_ge i 8 with z | z
  · rw [BitVec.getLsbD_signExtend, BitVec.getLsbD_signExtend, if_pos z, if_pos hi]
    simp only [z, hi, decide_true, Bool.true_and]
  · rw [hm i hi z]; simp
/-! ===== the char cast and 65535 ===== -/
theorem em_w (v : Int32) : ∃ w : Nat, w < 65536 ∧ (v.toUInt32 % 65536).toInt32 = nI w ∧ v &&& 65535 = nI w := by
  have hr := lw_u16_r v
  have h0 : (0 : Int32).toInt = 0 := by decide
  obtain ⟨w, h1, h2⟩ := nI_of (x := lw_u16 v) (by rw [Int32.lt_iff_toInt_lt]; omega)
  have h3 : (v.toUInt32 % 65536).toInt32 = nI w := h2
  rw [h2, nI_toInt h1] at hr
  exact ⟨w, by omega, h3, by rw [← lg_i2c_mask, ← lg_i2c_nf, h3]⟩
/-! ===== Int64 as a set of bits: test, set, clear ===== -/
theorem ts_nf {x : Bool} (h : ¬ x = false) : x = true := by cases x <;> first | rfl | exact absurd rfl h
theorem ts_nt {x : Bool} (h : ¬ x = true) : x = false := by cases x <;> first | rfl | exact absurd rfl h
theorem ts_bit {w : Int64} {s : UInt64} {j : Nat} (hj : j < 64) (hs : s.toNat = j) : ((w.toUInt64 >>> s).toInt64 &&& 1) = 0 ↔ w.toBitVec.getLsbD j = false := by
  have e : (w.toUInt64 >>> s).toInt64.toBitVec = w.toBitVec >>> j := by
    apply BitVec.eq_of_toNat_eq
    show (w.toUInt64 >>> s).toNat = _
    rw [UInt64.toNat_shiftRight, hs, Nat.mod_eq_of_lt hj, BitVec.toNat_ushiftRight]
    rfl
  rw [← Int64.toBitVec_inj, Int64.toBitVec_and, e]
  show w.toBitVec >>> j &&& 1#64 = 0#64 ↔ _
  constructor
  · intro h
    have t := congrArg (fun x => x.getLsbD 0) h
    simpa using t
  · intro h
    apply BitVec.eq_of_getLsbD_eq
    intro i hi
    cases i with
    | zero => simp [h]
    | succ i => simp
theorem ts_or {w m : Int64} {j : Nat} (hj : j < 64) (hm : m.toBitVec = BitVec.twoPow 64 j) : (w ||| m) = w ↔ w.toBitVec.getLsbD j = true := by
  rw [← Int64.toBitVec_inj, Int64.toBitVec_or, hm]
  constructor
  · intro h
    have t := congrArg (fun x => x.getLsbD j) h
    simp only [BitVec.getLsbD_or, BitVec.getLsbD_twoPow] at t
    simpa [hj] using t.symm
  · intro h
    apply BitVec.eq_of_getLsbD_eq
    intro i hi
    rw [BitVec.getLsbD_or, BitVec.getLsbD_twoPow]
    by_cases e : j = i
    · subst e; rw [h, Bool.true_or]
    · simp [e]
theorem ts_and {w m : Int64} {j : Nat} (hj : j < 64) (hm : m.toBitVec = BitVec.twoPow 64 j) : (w &&& (m ^^^ (-1))) = w ↔ w.toBitVec.getLsbD j = false := by
  have ha : (-1 : Int64).toBitVec = BitVec.allOnes 64 := by decide
  rw [← Int64.toBitVec_inj, Int64.toBitVec_and, Int64.toBitVec_xor, hm, ha]
  constructor
  · intro h
    have t := congrArg (fun x => x.getLsbD j) h
    simp only [BitVec.getLsbD_and, BitVec.getLsbD_xor, BitVec.getLsbD_twoPow, BitVec.getLsbD_allOnes] at t
    simpa [hj] using t.symm
  · intro h
    apply BitVec.eq_of_getLsbD_eq
    intro i hi
    rw [BitVec.getLsbD_and, BitVec.getLsbD_xor, BitVec.getLsbD_twoPow, BitVec.getLsbD_allOnes]
    by_cases e : j = i
    · subst e; rw [h, Bool.false_and]
    · simp [e, hi]
/-! ===== lN n to 2^64: shifts, and, or, masks, one bit ===== -/
theorem wb_tb (n : Nat) : (lN n).toBitVec = BitVec.ofNat 64 n := rfl
theorem wb_inj {a b : Int64} (h : a.toBitVec = b.toBitVec) : a = b := Int64.toBitVec_inj.mp h
theorem wb_tn {n : Nat} (h : n < 2 ^ 64) : (lN n).toBitVec.toNat = n := by rw [wb_tb, BitVec.toNat_ofNat, Nat.mod_eq_of_lt h]
theorem wb_of (x : Int64) : ∃ n, n < 2 ^ 64 ∧ x = lN n := ⟨x.toBitVec.toNat, x.toBitVec.isLt, wb_inj (by rw [wb_tb]; simp)⟩
theorem wb_of32 (x : Int32) : ∃ n, n < 2 ^ 32 ∧ x = nI n := ⟨x.toBitVec.toNat, x.toBitVec.isLt, Int32.toBitVec_inj.mp (by show _ = BitVec.ofNat 32 _; simp)⟩
theorem wb_c : ∀ k, k < 64 → ((nI k).toInt64 &&& 63) = lN k := by decide +kernel
theorem wb_cu : ∀ k, k < 64 → ((nI k).toInt64.toUInt64 &&& Int64.toUInt64 63) = UInt64.ofNat k := by decide +kernel
theorem wb_sm : ∀ k, k < 64 → (BitVec.ofNat 64 k).smod 64 = BitVec.ofNat 64 k := by decide +kernel
theorem wb_pw {a b : Nat} (h : a ≤ b) : 2 ^ b = 2 ^ a * 2 ^ (b - a) := by rw [← Nat.pow_add]; congr 1; omega
theorem wb_lt2 {a b : Nat} (h : a < b) : 2 ^ a < 2 ^ b := Nat.pow_lt_pow_right (by decide) h
theorem wb_mod (n : Nat) : lN n = lN (n % 2 ^ 64) := wb_inj (by rw [wb_tb, wb_tb]; apply BitVec.eq_of_toNat_eq; rw [BitVec.toNat_ofNat, BitVec.toNat_ofNat, Nat.mod_mod])
theorem wb_shr {n k : Nat} (hn : n < 2 ^ 64) (hk : k < 64) : ((lN n).toUInt64 >>> ((nI k).toInt64.toUInt64 &&& Int64.toUInt64 63)).toInt64 = lN (n / 2 ^ k) := by
  rw [wb_cu k hk]
  apply wb_inj
  apply BitVec.eq_of_toNat_eq
  show ((lN n).toUInt64 >>> UInt64.ofNat k).toNat = (BitVec.ofNat 64 _).toNat
  have h1 : (UInt64.ofNat k).toNat = k := by
    show (BitVec.ofNat 64 k).toNat = k
    rw [BitVec.toNat_ofNat, Nat.mod_eq_of_lt (by omega)]
  have h2 : (lN n).toUInt64.toNat = n := wb_tn hn
  rw [UInt64.toNat_shiftRight, h1, h2, Nat.mod_eq_of_lt hk, Nat.shiftRight_eq_div_pow, BitVec.toNat_ofNat, Nat.mod_eq_of_lt (Nat.lt_of_le_of_lt (Nat.div_le_self _ _) hn)]
theorem wb_shl (n : Nat) {k : Nat} (hk : k < 64) : lN n <<< ((nI k).toInt64 &&& 63) = lN (n * 2 ^ k) := by
  rw [wb_c k hk]
  apply wb_inj
  rw [Int64.toBitVec_shiftLeft, wb_tb, wb_tb, wb_tb, wb_sm k hk]
  apply BitVec.eq_of_toNat_eq
  rw [BitVec.shiftLeft_eq', BitVec.toNat_shiftLeft, BitVec.toNat_ofNat, BitVec.toNat_ofNat, BitVec.toNat_ofNat, Nat.mod_eq_of_lt (show k < 2 ^ 64 by omega), Nat.shiftLeft_eq, Nat.mul_mod, Nat.mod_mod, ← Nat.mul_mod]
theorem wb_and {a b : Nat} (ha : a < 2 ^ 64) (hb : b < 2 ^ 64) : lN a &&& lN b = lN (a &&& b) := by
  apply wb_inj
  rw [Int64.toBitVec_and, wb_tb, wb_tb, wb_tb]
  apply BitVec.eq_of_toNat_eq
  rw [BitVec.toNat_and, BitVec.toNat_ofNat, BitVec.toNat_ofNat, BitVec.toNat_ofNat, Nat.mod_eq_of_lt ha, Nat.mod_eq_of_lt hb, Nat.mod_eq_of_lt (Nat.and_lt_two_pow _ hb)]
theorem wb_or {a b : Nat} (ha : a < 2 ^ 64) (hb : b < 2 ^ 64) : lN a ||| lN b = lN (a ||| b) := by
  apply wb_inj
  rw [Int64.toBitVec_or, wb_tb, wb_tb, wb_tb]
  apply BitVec.eq_of_toNat_eq
  rw [BitVec.toNat_or, BitVec.toNat_ofNat, BitVec.toNat_ofNat, BitVec.toNat_ofNat, Nat.mod_eq_of_lt ha, Nat.mod_eq_of_lt hb, Nat.mod_eq_of_lt (Nat.or_lt_two_pow ha hb)]
theorem wb_mask {n k : Nat} (hn : n < 2 ^ 64) (hk : k < 64) : lN n &&& lN (2 ^ k - 1) = lN (n % 2 ^ k) := by
  rw [wb_and hn (by have := wb_lt2 hk; omega), Nat.and_two_pow_sub_one_eq_mod]
theorem wb_a1 {n : Nat} (hn : n < 2 ^ 64) : lN n &&& 1 = lN (n % 2) := wb_mask (k := 1) hn (by decide)
theorem wb_bit {n k : Nat} (hn : n < 2 ^ 64) (hk : k < 64) : ((lN n).toUInt64 >>> ((nI k).toInt64.toUInt64 &&& Int64.toUInt64 63)).toInt64 &&& 1 = lN (n / 2 ^ k % 2) := by
  rw [wb_shr hn hk, wb_a1 (Nat.lt_of_le_of_lt (Nat.div_le_self _ _) hn)]
theorem wb_xor {q k : Nat} (hk : k < 63) (h : 2 ^ k ≤ q) (h2 : q < 2 ^ (k + 1)) : lN q ^^^ lN (2 ^ k) = lN (q - 2 ^ k) := by
  obtain ⟨r, rfl⟩ : ∃ r, q = 2 ^ k + r := ⟨q - 2 ^ k, by omega⟩
  have hr : r < 2 ^ k := by rw [Nat.pow_succ] at h2; omega
  have hx : (2 ^ k + r) ^^^ 2 ^ k = r := by
    apply Nat.eq_of_testBit_eq
    intro i
    rw [Nat.testBit_xor, Nat.testBit_two_pow]
    rcases Nat.lt_trichotomy i k with h | h | h
    · rw [Nat.testBit_two_pow_add_gt h]
      simp [show ¬ k = i by omega]
    · subst h
      rw [Nat.testBit_two_pow_add_eq]
      simp
    · have a1 : 2 ^ (k + 1) ≤ 2 ^ i := Nat.pow_le_pow_right (by decide) h
      rw [Nat.testBit_lt_two_pow (show 2 ^ k + r < 2 ^ i by omega), Nat.testBit_lt_two_pow (show r < 2 ^ i by omega)]
      simp [show ¬ k = i by omega]
  have b1 := wb_lt2 (show k + 1 < 64 by omega)
  have b2 := wb_lt2 (show k < 64 by omega)
  apply wb_inj
  rw [Int64.toBitVec_xor, wb_tb, wb_tb, wb_tb]
  apply BitVec.eq_of_toNat_eq
  rw [BitVec.toNat_xor, BitVec.toNat_ofNat, BitVec.toNat_ofNat, BitVec.toNat_ofNat, Nat.mod_eq_of_lt (by omega : 2 ^ k + r < 2 ^ 64), Nat.mod_eq_of_lt b2, hx, Nat.add_sub_cancel_left, Nat.mod_eq_of_lt (by omega)]
/-! ===== lN: masks, 'or' of parts that don't overlap is a sum ===== -/
theorem u_tn {n : Nat} (h : n < 2 ^ 64) : (UInt64.ofNat n).toNat = n := Nat.mod_eq_of_lt h
theorem g_and {a b c : Nat} (ha : a < 2 ^ 64) (hb : b < 2 ^ 64) (hc : a &&& b = c) : lN a &&& lN b = lN c := by
  subst hc
  have h : UInt64.ofNat a &&& UInt64.ofNat b = UInt64.ofNat (a &&& b) := UInt64.toNat_inj.mp (by rw [UInt64.toNat_and, u_tn ha, u_tn hb, u_tn (Nat.and_lt_two_pow a hb)])
  have h2 := congrArg UInt64.toInt64 h
  exact h2
theorem g_and1 {a : Nat} (ha : a < 2 ^ 64) : lN a &&& 1 = lN (a % 2) := g_and (b := 1) ha (by decide) (Nat.and_two_pow_sub_one_eq_mod a 1)
theorem g_mask {a s p : Nat} (hp : 2 ^ s = p) (hs : s < 64) (ha : a < 2 ^ 64) : lN a &&& lN (p - 1) = lN (a % p) := by
  subst hp
  have := Nat.pow_lt_pow_right (show 1 < 2 by decide) hs
  exact g_and ha (by omega) (Nat.and_two_pow_sub_one_eq_mod a s)
theorem g_or {k p a b : Nat} (hp : 2 ^ k = p) (ha : a < p) (h : b * p + a < 2 ^ 64) : lN (b * p) ||| lN a = lN (b * p + a) := by
  subst hp
  have h1 : b * 2 ^ k ||| a = b * 2 ^ k + a := by rw [← Nat.shiftLeft_eq, Nat.shiftLeft_add_eq_or_of_lt ha]
  have h3 : UInt64.ofNat (b * 2 ^ k) ||| UInt64.ofNat a = UInt64.ofNat (b * 2 ^ k + a) := UInt64.toNat_inj.mp (by rw [UInt64.toNat_or, u_tn (by omega), u_tn (by omega), u_tn h, h1])
  have h2 := congrArg UInt64.toInt64 h3
  exact h2
theorem g_or' {k p a b : Nat} (hp : 2 ^ k = p) (ha : a < p) (h : a + b * p < 2 ^ 64) : lN a ||| lN (b * p) = lN (a + b * p) := by
  rw [Int64.or_comm, g_or hp ha (by omega), Nat.add_comm]
theorem g_ushr {a k p : Nat} {y : UInt64} (hy : y = UInt64.ofNat k) (hk : k < 64) (hp : 2 ^ k = p) (ha : a < 2 ^ 64) : ((lN a).toUInt64 >>> y).toInt64 = lN (a / p) := by
  subst hy hp
  have h : UInt64.ofNat a >>> UInt64.ofNat k = UInt64.ofNat (a / 2 ^ k) := UInt64.toNat_inj.mp (by rw [UInt64.toNat_shiftRight, u_tn ha, u_tn (by omega), u_tn (Nat.lt_of_le_of_lt (Nat.div_le_self _ _) ha), Nat.mod_eq_of_lt hk, Nat.shiftRight_eq_div_pow])
  have h2 := congrArg UInt64.toInt64 h
  exact h2
theorem g_shl {a k p : Nat} {y : Int64} (hy : y.toBitVec.smod 64 = BitVec.ofNat 64 k) (hk : k < 64) (hp : 2 ^ k = p) (ha : a < 2 ^ 64) : lN a <<< y = lN (a * p) := by
  subst hp
  apply Int64.toBitVec_inj.mp
  rw [Int64.toBitVec_shiftLeft, hy]
  apply BitVec.eq_of_toNat_eq
  have hb : (lN a).toBitVec.toNat = a := Nat.mod_eq_of_lt ha
  have hk' : (BitVec.ofNat 64 k).toNat = k := Nat.mod_eq_of_lt (by omega)
  have h : ((lN a).toBitVec <<< BitVec.ofNat 64 k).toNat = (a * 2 ^ k) % 2 ^ 64 := by simp only [BitVec.shiftLeft_eq', BitVec.toNat_shiftLeft, hb, hk', Nat.shiftLeft_eq]
  exact h
/-! ===== lN to 2^62 under >> and >>> ===== -/
theorem pf_lI {a : Nat} (h : a < 2 ^ 63) : (lN a).toInt = (a : Int) := lg_ofNat_toInt h
theorem pf_shr {a d : Nat} {D : Int64} (hD : (D.toBitVec.smod 64).toNat = d) (h : a < 2 ^ 62) : lN a >>> D = lN (a / 2 ^ d) := by
  have hd : a / 2 ^ d ≤ a := Nat.div_le_self _ _
  apply Int64.toInt_inj.mp
  have e : (lN a >>> D).toInt = (lN a).toInt >>> d := by
    rw [← hD]
    exact BitVec.toInt_sshiftRight ..
  rw [e, Int.shiftRight_eq_div_pow, pf_lI (by omega), pf_lI (by omega)]
  rfl
theorem pf_ushr {a d : Nat} {D : UInt64} (hD : D.toNat % 64 = d) (h : a < 2 ^ 62) : ((lN a).toUInt64 >>> D).toInt64 = lN (a / 2 ^ d) := by
  have hd : a / 2 ^ d ≤ a := Nat.div_le_self _ _
  have e : (lN a).toUInt64 >>> D = UInt64.ofNat (a / 2 ^ d) := UInt64.toNat_inj.mp (by
    rw [UInt64.toNat_shiftRight, hD, Nat.shiftRight_eq_div_pow, UInt64.toNat_ofNat']
    show (UInt64.ofNat a).toNat / 2 ^ d = _
    rw [UInt64.toNat_ofNat', Nat.mod_eq_of_lt (by omega), Nat.mod_eq_of_lt (by omega)])
  rw [e]
  rfl
theorem pf_andw (x : Int64) : ∃ m, m < 2 ^ 32 ∧ x &&& 4294967295 = lN m := ⟨x.toBitVec.toNat % 2 ^ 32, Nat.mod_lt _ (by decide), Int64.toBitVec_inj.mp (BitVec.eq_of_toNat_eq (by
  show (x.toBitVec &&& 4294967295#64).toNat = (BitVec.ofNat 64 (x.toBitVec.toNat % 2 ^ 32)).toNat
  rw [BitVec.toNat_and, show (4294967295#64).toNat = 2 ^ 32 - 1 from by decide, Nat.and_two_pow_sub_one_eq_mod, BitVec.toNat_ofNat]
  omega))⟩
/-! ===== Int64 as an unsigned number: uN x ===== -/
def uN (x : Int64) : Nat := x.toUInt64.toNat
theorem uN_lt (x : Int64) : uN x < 18446744073709551616 := x.toUInt64.toNat_lt
theorem uN_inj {x y : Int64} (h : uN x = uN y) : x = y := congrArg UInt64.toInt64 (UInt64.toNat_inj.mp h)
theorem uN_add (x y : Int64) : uN (x + y) = (uN x + uN y) % 18446744073709551616 := by
  show (x.toUInt64 + y.toUInt64).toNat = _
  exact UInt64.toNat_add _ _
theorem uN_mul (x y : Int64) : uN (x * y) = (uN x * uN y) % 18446744073709551616 := by
  show (x.toUInt64 * y.toUInt64).toNat = _
  exact UInt64.toNat_mul _ _
theorem uN_shl (x : Int64) : uN (x <<< ((1 : Int32).toInt64 &&& 63)) = (2 * uN x) % 18446744073709551616 := by
  have h : (((1 : Int32).toInt64 &&& 63).toBitVec.smod 64).toNat = 1 := by decide
  show (x.toBitVec <<< (((1 : Int32).toInt64 &&& 63).toBitVec.smod 64).toNat).toNat = _
  rw [h, BitVec.toNat_shiftLeft, Nat.shiftLeft_eq, Nat.mul_comm]
  rfl
theorem uN_shr (x : Int64) (s : UInt64) : uN (x.toUInt64 >>> s).toInt64 = uN x / 2 ^ (s.toNat % 64) := by
  show (x.toUInt64 >>> s).toNat = _
  rw [UInt64.toNat_shiftRight, Nat.shiftRight_eq_div_pow]
  rfl
theorem uN_s32 (x : Int64) : uN (x.toUInt64 >>> ((32 : Int32).toInt64.toUInt64 &&& Int64.toUInt64 63)).toInt64 = uN x / 4294967296 := by
  have h : ((32 : Int32).toInt64.toUInt64 &&& Int64.toUInt64 63).toNat % 64 = 32 := by decide
  rw [uN_shr, h]
theorem uN_s63 (x : Int64) : uN (x.toUInt64 >>> ((63 : Int32).toInt64.toUInt64 &&& Int64.toUInt64 63)).toInt64 = uN x / 9223372036854775808 := by
  have h : ((63 : Int32).toInt64.toUInt64 &&& Int64.toUInt64 63).toNat % 64 = 63 := by decide
  rw [uN_shr, h]
theorem uN_lo (x : Int64) : uN (x &&& 4294967295) = uN x % 4294967296 := by
  show (x.toUInt64 &&& Int64.toUInt64 4294967295).toNat = _
  rw [UInt64.toNat_and]
  exact Nat.and_two_pow_sub_one_eq_mod _ 32
theorem uN_bit (x : Int64) : (x &&& 1) = 0 ↔ uN x % 2 = 0 := by
  have h : uN (x &&& 1) = uN x % 2 := by
    show (x.toUInt64 &&& Int64.toUInt64 1).toNat = _
    rw [UInt64.toNat_and]
    exact Nat.and_two_pow_sub_one_eq_mod _ 1
  rw [← h]
  exact ⟨fun z => by rw [z]; rfl, fun z => uN_inj (z.trans rfl)⟩
theorem uN_or {x y : Int64} (hy : uN y < 2) : uN ((x <<< ((1 : Int32).toInt64 &&& 63)) ||| y) = (2 * uN x) % 18446744073709551616 + uN y := by
  have h1 : uN ((x <<< ((1 : Int32).toInt64 &&& 63)) ||| y) = uN (x <<< ((1 : Int32).toInt64 &&& 63)) ||| uN y := UInt64.toNat_or _ _
  have h2 : (2 * uN x) % 18446744073709551616 = 2 ^ 1 * (uN x % 9223372036854775808) := by omega
  rw [h1, uN_shl, h2]
  exact (Nat.two_pow_add_eq_or_of_lt (i := 1) hy _).symm
theorem nat_xor {a : Nat} (h : a < 18446744073709551616) : a ^^^ 2 ^ 63 = (a + 9223372036854775808) % 18446744073709551616 := by
  have h1 : (a ^^^ 2 ^ 63) % 2 ^ 63 = a % 2 ^ 63 := by rw [Nat.xor_mod_two_pow, Nat.mod_self, Nat.xor_zero]
  have h2 : (a ^^^ 2 ^ 63) / 2 ^ 63 = (a / 2 ^ 63) ^^^ 1 := by rw [Nat.xor_div_two_pow, Nat.div_self (Nat.two_pow_pos 63)]
  have h3 : a / 2 ^ 63 = 0 ∨ a / 2 ^ 63 = 1 := by omega
  generalize a ^^^ 2 ^ 63 = t at h1 h2
  rcases h3 with h3 | h3
  · rw [h3] at h2
    have h2 : t / 2 ^ 63 = 1 := h2
    omega
  · rw [h3] at h2
    have h2 : t / 2 ^ 63 = 0 := h2
    omega
theorem uN_xor (x : Int64) : uN (x ^^^ (-9223372036854775808)) = (uN x + 9223372036854775808) % 18446744073709551616 := by
  rw [← nat_xor (uN_lt x)]
  exact UInt64.toNat_xor _ _
theorem uN_int (x : Int64) : x.toInt = if 2 * uN x < 18446744073709551616 then (uN x : Int) else (uN x : Int) - 18446744073709551616 := BitVec.toInt_eq_toNat_cond _
theorem uN_le (x y : Int64) : (x ^^^ (-9223372036854775808)) ≤ (y ^^^ (-9223372036854775808)) ↔ uN x ≤ uN y := by
  have hx := uN_lt x
  have hy := uN_lt y
  rw [Int64.le_iff_toInt_le, uN_int, uN_int, uN_xor, uN_xor]
  omega
theorem uN_sk (x : Int64) {k : Nat} (hk : k < 64) : uN (x.toUInt64 >>> ((nI k).toInt64.toUInt64 &&& Int64.toUInt64 63)).toInt64 = uN x / 2 ^ k := by
  have h : ((nI k).toInt64.toUInt64 &&& Int64.toUInt64 63).toNat % 64 = k := by
    rw [nI_l (by omega), UInt64.toNat_and]
    have e : (lN k).toUInt64.toNat = k % 2 ^ 64 := rfl
    have e2 : (Int64.toUInt64 63).toNat = 2 ^ 6 - 1 := by decide
    rw [e, e2, Nat.and_two_pow_sub_one_eq_mod]
    omega
  rw [uN_shr, h]
/-! ===== unsigned comparison by xor with the least ===== -/
theorem lN_bv (n : Nat) : (lN n).toBitVec = BitVec.ofNat 64 n := rfl
theorem lN_nat {n : Nat} (h : n < 2 ^ 64) : (lN n).toBitVec.toNat = n := by rw [lN_bv, BitVec.toNat_ofNat]; exact Nat.mod_eq_of_lt h
theorem lN_xor (a b : Nat) : lN a ^^^ lN b = lN (a ^^^ b) := by
  apply Int64.toBitVec_inj.mp; rw [Int64.toBitVec_xor, lN_bv, lN_bv, lN_bv]; apply BitVec.eq_of_getLsbD_eq; intro i hi; simp [BitVec.getLsbD_ofNat, Nat.testBit_xor, hi]
theorem lN_ti {m : Nat} (h : m < 2 ^ 64) : (lN m).toInt = if m < 2 ^ 63 then (m : Int) else (m : Int) - 2 ^ 64 := by
  have c := BitVec.toInt_eq_toNat_cond (lN m).toBitVec
  rw [lN_nat h] at c
  show (lN m).toBitVec.toInt = _
  rw [c]
  split <;> split <;> omega
theorem xor63 {x : Nat} (h : x < 2 ^ 63) : x ^^^ 2 ^ 63 = 2 ^ 63 + x := by
  apply Nat.eq_of_testBit_eq
  intro i
  rw [Nat.testBit_xor, Nat.testBit_two_pow]
  rcases Nat.lt_trichotomy i 63 with z | z | z
  · rw [Nat.testBit_two_pow_add_gt z, decide_eq_false (by omega)]; simp
  · subst z; rw [Nat.testBit_two_pow_add_eq]; simp
  · have hp : 2 ^ 64 ≤ 2 ^ i := Nat.pow_le_pow_right (by decide) z
    rw [Nat.testBit_lt_two_pow (show x < 2 ^ i by omega), Nat.testBit_lt_two_pow (show 2 ^ 63 + x < 2 ^ i by omega), decide_eq_false (by omega)]; rfl
theorem xorS {a : Nat} (h : a < 2 ^ 64) : (lN a ^^^ (-9223372036854775808)).toInt = (a : Int) - 2 ^ 63 := by
  rw [show (-9223372036854775808 : Int64) = lN (2 ^ 63) from by decide +kernel, lN_xor]
  rcases Nat.lt_or_ge a (2 ^ 63) with z | z
  · rw [xor63 z, lN_ti (by omega), if_neg (by omega)]; omega
  · obtain ⟨x, rfl⟩ : ∃ x, a = 2 ^ 63 + x := ⟨a - 2 ^ 63, by omega⟩
    rw [← xor63 (by omega), Nat.xor_assoc, Nat.xor_self, Nat.xor_zero, lN_ti (by omega), if_pos (by omega), xor63 (by omega)]; omega
theorem ultL {a b : Nat} (ha : a < 2 ^ 64) (hb : b < 2 ^ 64) : ((lN b ^^^ (-9223372036854775808)) ≤ (lN a ^^^ (-9223372036854775808))) ↔ b ≤ a := by
  rw [Int64.le_iff_toInt_le, xorS ha, xorS hb]; omega
/-! ===== Int64 masks of n low bits ===== -/
theorem cr_bits (W U M : BitVec 64) : ((W &&& U) &&& (U &&& (M ^^^ BitVec.allOnes 64))) = 0#64 ↔ (W &&& U) &&& M = W &&& U := by
  constructor
  · intro h
    apply BitVec.eq_of_getLsbD_eq
    intro i hi
    have e := congrArg (fun x => BitVec.getLsbD x i) h
    simp only [BitVec.getLsbD_and, BitVec.getLsbD_xor, BitVec.getLsbD_allOnes, BitVec.getLsbD_zero, hi, decide_true] at e ⊢
    revert e
    cases W.getLsbD i <;> cases U.getLsbD i <;> cases M.getLsbD i <;> decide
  · intro h
    apply BitVec.eq_of_getLsbD_eq
    intro i hi
    have e := congrArg (fun x => BitVec.getLsbD x i) h
    simp only [BitVec.getLsbD_and, BitVec.getLsbD_xor, BitVec.getLsbD_allOnes, BitVec.getLsbD_zero, hi, decide_true] at e ⊢
    revert e
    cases W.getLsbD i <;> cases U.getLsbD i <;> cases M.getLsbD i <;> decide
theorem cr_mask (w U m : Int64) (n : Nat) (hm : m.toBitVec.toNat = 2 ^ n - 1) : ((w &&& U) &&& (U &&& (m ^^^ (-1)))) = 0 ↔ (w &&& U).toBitVec.toNat < 2 ^ n := by
  have e0 : (-1 : Int64).toBitVec = BitVec.allOnes 64 := by decide
  have z0 : (0 : Int64).toBitVec = 0#64 := by decide
  rw [← Int64.toBitVec_inj, z0, Int64.toBitVec_and, Int64.toBitVec_and, Int64.toBitVec_and, Int64.toBitVec_xor, e0, cr_bits]
  generalize w.toBitVec &&& U.toBitVec = T
  rw [← BitVec.toNat_inj, BitVec.toNat_and, hm, Nat.and_two_pow_sub_one_eq_mod]
  constructor
  · intro h
    have t := Nat.mod_lt T.toNat (Nat.two_pow_pos n)
    rw [h] at t
    exact t
  · exact Nat.mod_eq_of_lt
theorem cr_shr (t : Int64) (x : UInt64) (n : Nat) (hx : x.toNat % 64 = n) : (t.toUInt64 >>> x).toInt64 = 0 ↔ t.toBitVec.toNat < 2 ^ n := by
  rw [← Int64.toBitVec_inj, ← BitVec.toNat_inj]
  show (t.toUInt64 >>> x).toNat = 0 ↔ t.toUInt64.toNat < 2 ^ n
  rw [UInt64.toNat_shiftRight, hx, Nat.shiftRight_eq_div_pow]
  constructor
  · intro h
    have d : t.toUInt64.toNat / 2 ^ n < 1 := by
      rw [h]
      decide
    have e := (Nat.div_lt_iff_lt_mul (Nat.two_pow_pos n)).mp d
    rw [Nat.one_mul] at e
    exact e
  · exact Nat.div_eq_of_lt
theorem cr_amt (s : Int64) : ∃ n, n < 64 ∧ s &&& 63 = lN n ∧ (s.toUInt64 &&& Int64.toUInt64 63).toNat % 64 = n := by
  have e : (s.toUInt64 &&& Int64.toUInt64 63).toNat = s.toUInt64.toNat % 2 ^ 6 := by
    rw [UInt64.toNat_and, show (Int64.toUInt64 63).toNat = 2 ^ 6 - 1 from by decide, Nat.and_two_pow_sub_one_eq_mod]
  refine ⟨s.toUInt64.toNat % 2 ^ 6, by omega, ?_, by omega⟩
  rw [← Int64.toBitVec_inj, ← BitVec.toNat_inj]
  show (s.toUInt64 &&& Int64.toUInt64 63).toNat = (BitVec.ofNat 64 (s.toUInt64.toNat % 2 ^ 6)).toNat
  rw [e, BitVec.toNat_ofNat]
  omega
end
section
section PGA
/-! bits of longs and ints; highBit, lowBit -/
def pg_tb (x : Int64) (i : Nat) : Bool := x.toBitVec.getLsbD i
theorem pg_tb_ext {x y : Int64} (h : ∀ i, i < 64 → pg_tb x i = pg_tb y i) : x = y := Int64.toBitVec_inj.mp (BitVec.eq_of_getLsbD_eq (fun i hi => h i hi))
theorem pg_tb_and (x y : Int64) (i : Nat) : pg_tb (x &&& y) i = (pg_tb x i && pg_tb y i) := by unfold pg_tb; rw [Int64.toBitVec_and, BitVec.getLsbD_and]
theorem pg_tb_or (x y : Int64) (i : Nat) : pg_tb (x ||| y) i = (pg_tb x i || pg_tb y i) := by unfold pg_tb; rw [Int64.toBitVec_or, BitVec.getLsbD_or]
theorem pg_tb_xor (x y : Int64) (i : Nat) : pg_tb (x ^^^ y) i = (pg_tb x i ^^ pg_tb y i) := by unfold pg_tb; rw [Int64.toBitVec_xor, BitVec.getLsbD_xor]
theorem pg_tb_big {x : Int64} {i : Nat} (h : 64 ≤ i) : pg_tb x i = false := BitVec.getLsbD_of_ge _ _ h
theorem pg_tb_m1 : ∀ i, i < 64 → pg_tb (-1) i = true := by decide +kernel
theorem pg_tb_0 (i : Nat) : pg_tb 0 i = false := BitVec.getLsbD_zero
theorem pg_tb_N {n i : Nat} (hi : i < 64) : pg_tb (lN n) i = n.testBit i := by
  unfold pg_tb
  rw [wb_tb, BitVec.getLsbD_ofNat]
  simp [hi]
theorem pg_tb_u (x : Int64) (i : Nat) : pg_tb x i = (uN x).testBit i := rfl
theorem pg_one {s : Nat} (hs : s < 64) : (1 : Int64) <<< ((nI s).toInt64 &&& 63) = lN (2 ^ s) := by
  have h := wb_shl 1 hs
  rw [Nat.one_mul] at h
  exact h
theorem pg_tb_one {s i : Nat} (hs : s < 64) (hi : i < 64) : pg_tb ((1 : Int64) <<< ((nI s).toInt64 &&& 63)) i = decide (i = s) := by
  rw [pg_one hs, pg_tb_N hi, Nat.testBit_two_pow]
  by_cases h : s = i
  · subst h; simp
  · simp [h, Ne.symm h]
theorem pg_tb_clr {x : Int64} {s i : Nat} (hs : s < 64) (hi : i < 64) : pg_tb (x &&& (((1 : Int64) <<< ((nI s).toInt64 &&& 63)) ^^^ (-1))) i = (pg_tb x i && !decide (i = s)) := by
  rw [pg_tb_and, pg_tb_xor, pg_tb_one hs hi, pg_tb_m1 i hi, Bool.xor_true]
theorem pg_tb_set {x : Int64} {s i : Nat} (hs : s < 64) (hi : i < 64) : pg_tb (x ||| ((1 : Int64) <<< ((nI s).toInt64 &&& 63))) i = (pg_tb x i || decide (i = s)) := by
  rw [pg_tb_or, pg_tb_one hs hi]
theorem pg_tb_flip {x : Int64} {s i : Nat} (hs : s < 64) (hi : i < 64) : pg_tb (x ^^^ ((1 : Int64) <<< ((nI s).toInt64 &&& 63))) i = (pg_tb x i ^^ decide (i = s)) := by
  rw [pg_tb_xor, pg_tb_one hs hi]
theorem pg_tb_nz {x : Int64} (h : ¬ x = 0) : ∃ i, i < 64 ∧ pg_tb x i = true := by
  apply Classical.byContradiction
  intro hn
  apply h
  apply pg_tb_ext
  intro i hi
  rw [pg_tb_0]
  cases hb : pg_tb x i with
  | false => rfl
  | true => exact absurd ⟨i, hi, hb⟩ hn
theorem pg_tb_ne {x : Int64} {i : Nat} (h : pg_tb x i = true) : ¬ x = 0 := by
  intro e
  rw [e, pg_tb_0] at h
  exact absurd h (by decide)
theorem pg_bt_one {s i : Nat} (hs : s < 32) : bt ((1 : Int32) <<< (nI s &&& 31)) i = decide (i = s) := by
  unfold bt
  rw [nf_sh s hs, BitVec.getLsbD_twoPow]
  by_cases h : s = i
  · subst h; simp [hs]
  · simp [h, Ne.symm h]
theorem pg_bt_clr {x : Int32} {s i : Nat} (hs : s < 32) (hi : i < 32) : bt (x &&& (((1 : Int32) <<< (nI s &&& 31)) ^^^ (-1))) i = (bt x i && !decide (i = s)) := by
  rw [b_and, b_xor, pg_bt_one hs, b_m1 i hi, Bool.xor_true]
theorem pg_bt_set {x : Int32} {s i : Nat} (hs : s < 32) : bt (x ||| ((1 : Int32) <<< (nI s &&& 31))) i = (bt x i || decide (i = s)) := by
  rw [b_or, pg_bt_one hs]
theorem pg_bt_nz {x : Int32} (h : ¬ x = 0) : ∃ i, i < 32 ∧ bt x i = true := by
  apply Classical.byContradiction
  intro hn
  apply h
  apply b_ext
  intro i hi
  rw [b_0]
  cases hb : bt x i with
  | false => rfl
  | true => exact absurd ⟨i, hi, hb⟩ hn
theorem pg_bt_ne {x : Int32} {i : Nat} (h : bt x i = true) : ¬ x = 0 := by
  intro e
  rw [e, b_0] at h
  exact absurd h (by decide)
theorem pg_shz (x : Int64) {k : Nat} (hk : k < 64) : ((x.toUInt64 >>> ((nI k).toInt64.toUInt64 &&& Int64.toUInt64 63)).toInt64 = 0) ↔ uN x < 2 ^ k := by
  have h := uN_sk x hk
  have h0 : uN 0 = 0 := rfl
  constructor
  · intro e
    rw [e, h0] at h
    have d : uN x / 2 ^ k < 1 := by omega
    have e2 := (Nat.div_lt_iff_lt_mul (Nat.two_pow_pos k)).mp d
    rw [Nat.one_mul] at e2
    exact e2
  · intro e
    apply uN_inj
    rw [h, Nat.div_eq_of_lt e, h0]
theorem pg_half : ∀ d, d < 6 → nI (2 ^ d) >>> ((1 : Int32) &&& 31) = if d = 0 then 0 else nI (2 ^ (d - 1)) := by decide +kernel
variable {fc : Int32} {fa : Int32} {fm : Int32} {fr : Int32} {fs : Int64} {ft : Int32} {fq : Int32} {fx : Int32} {lv : Int64} {fb : Int32} {gr : Int32} {gl : Int32} {gc : Int32} {al : (Nat → Int32)} {ar : (Nat → Int32)} {sn : (Nat → Int32)} {ay : (Nat → Int32)} {an : (Nat → Int32)} {ap : (Nat → Int32)} {pd : (Nat → Int32)} {pc : (Nat → Int64)} {ct : (Nat → Int32)} {la : (Nat → Int32)} {ra : (Nat → Int32)} {bb : (Nat → Int32)} {bl : (Nat → Int32)} {br : (Nat → Int32)} {bs : (Nat → Int32)} {bm : (Nat → Int32)}
theorem pg_hbL {post : Int32 → Prop} {x : Int64} {m : Nat} (hm : m < 64) (h1 : 2 ^ m ≤ uN x) (h2 : uN x < 2 ^ (m + 1)) (hp : post (nI m)) :
    ∀ d w a : Nat, d < 6 → w = 2 ^ d → a ≤ m → m < a + 2 * w → a + 2 * w ≤ 64 → wX_highBit_6 post x fc fa fm fr fs ft fq fx lv fb gr gl gc al ar sn ay an ap pd pc ct la ra bb bl br bs bm (d + 2) (nI a) (nI w) := by
  intro d
  induction d with
  | zero =>
    intro w a hd hw ha h3 h4
    have hw1 : w = 1 := by rw [hw]
    subst hw1
    have hsum : nI a + nI 1 = nI (a + 1) := nI_add a 1
    refine br_f (nI_nle (by omega) (by omega)) ?_
    have hz : nI 1 >>> ((1 : Int32) &&& 31) = nI 0 := by decide +kernel
    refine br_c (fun hc => ?_) (fun hc => ?_)
    · rw [hsum, pg_shz x (by omega)] at hc
      have : m = a := by
        rcases Nat.lt_or_ge a m with z | z
        · have := Nat.pow_le_pow_right (show 0 < 2 by decide) (show a + 1 ≤ m from z)
          omega
        · omega
      subst this
      refine nm_r hz ?_
      exact br_t (by rw [nI_0]; exact Int32.le_refl 0) hp
    · rw [hsum, pg_shz x (by omega)] at hc
      have : m = a + 1 := by
        rcases Nat.lt_or_ge a m with z | z
        · omega
        · have := Nat.pow_le_pow_right (show 0 < 2 by decide) (show m + 1 ≤ a + 1 by omega)
          omega
      subst this
      refine nm_r hsum (nm_r hz ?_)
      exact br_t (by rw [nI_0]; exact Int32.le_refl 0) hp
  | succ d ih =>
    intro w a hd hw ha h3 h4
    have hw2 : w = 2 * 2 ^ d := by rw [hw, Nat.pow_succ, Nat.mul_comm]
    have hpos := Nat.two_pow_pos d
    have hsum : nI a + nI w = nI (a + w) := nI_add a w
    have hz : nI w >>> ((1 : Int32) &&& 31) = nI (2 ^ d) := by
      have := pg_half (d + 1) hd
      rw [hw]
      simpa using this
    refine br_f (nI_nle (by omega) (by omega)) ?_
    refine br_c (fun hc => ?_) (fun hc => ?_)
    · rw [hsum, pg_shz x (by omega)] at hc
      have : m < a + w := by
        rcases Nat.lt_or_ge m (a + w) with z | z
        · exact z
        · have := Nat.pow_le_pow_right (show 0 < 2 by decide) z
          omega
      refine nm_r hz ?_
      exact ih (2 ^ d) a (by omega) rfl ha (by omega) (by omega)
    · rw [hsum, pg_shz x (by omega)] at hc
      have : a + w ≤ m := by
        rcases Nat.lt_or_ge m (a + w) with z | z
        · have := Nat.pow_le_pow_right (show 0 < 2 by decide) (show m + 1 ≤ a + w by omega)
          omega
        · exact z
      refine nm_r hsum (nm_r hz ?_)
      exact ih (2 ^ d) (a + w) (by omega) rfl this (by omega) (by omega)
theorem pg_hb {post : Int32 → Prop} {x : Int64} (m : Nat) (hm : m < 64) (h1 : 2 ^ m ≤ uN x) (h2 : uN x < 2 ^ (m + 1)) (hp : post (nI m)) : wpX_highBit post (fc, fa, fm, fr, fs, ft, fq, fx, lv, fb, gr, gl, gc, al, ar, sn, ay, an, ap, pd, pc, ct, la, ra, bb, bl, br, bs, bm) x :=
  Exists.intro 7 (pg_hbL hm h1 h2 hp 5 32 0 (by omega) rfl (by omega) (by omega) (by omega))
theorem pg_hbB {post : Int32 → Prop} {x : Int64} (m : Nat) (hm : m < 64) (h1 : pg_tb x m = true) (h2 : ∀ j, m < j → j < 64 → pg_tb x j = false) (hp : post (nI m)) : wpX_highBit post (fc, fa, fm, fr, fs, ft, fq, fx, lv, fb, gr, gl, gc, al, ar, sn, ay, an, ap, pd, pc, ct, la, ra, bb, bl, br, bs, bm) x := by
  refine pg_hb m hm (Nat.ge_two_pow_of_testBit (x := uN x) (i := m) (by rw [← pg_tb_u]; exact h1)) (Nat.lt_pow_two_of_testBit (uN x) ?_) hp
  intro i hi
  rw [← pg_tb_u]
  rcases Nat.lt_or_ge i 64 with z | z
  · exact h2 i hi z
  · exact pg_tb_big z
theorem pg_neg {x : Int64} {m : Nat} (h1 : pg_tb x m = true) (h2 : ∀ j, j < m → pg_tb x j = false) {j : Nat} (hj : j < 64) : pg_tb (-x) j = if j < m then false else if j = m then true else !pg_tb x j := by
  unfold pg_tb at *
  rw [Int64.toBitVec_neg, BitVec.getLsbD_neg]
  rcases Nat.lt_trichotomy j m with z | z | z
  · rw [if_pos z, h2 j z]
    have : ¬ ∃ k, k < j ∧ x.toBitVec.getLsbD k = true := by
      rintro ⟨k, hk, hb⟩
      rw [h2 k (by omega)] at hb
      exact absurd hb (by decide)
    simp [this]
  · subst z
    rw [if_neg (Nat.lt_irrefl _), if_pos rfl, h1]
    have : ¬ ∃ k, k < j ∧ x.toBitVec.getLsbD k = true := by
      rintro ⟨k, hk, hb⟩
      rw [h2 k (by omega)] at hb
      exact absurd hb (by decide)
    simp [this]
  · rw [if_neg (by omega), if_neg (by omega)]
    have : ∃ k, k < j ∧ x.toBitVec.getLsbD k = true := ⟨m, z, h1⟩
    simp [this, hj]
theorem pg_low {x : Int64} {m : Nat} (h1 : pg_tb x m = true) (h2 : ∀ j, j < m → pg_tb x j = false) {j : Nat} (hj : j < 64) : pg_tb (x &&& (-x)) j = decide (j = m) := by
  rw [pg_tb_and, pg_neg h1 h2 hj]
  rcases Nat.lt_trichotomy j m with z | z | z
  · rw [if_pos z, Bool.and_false, decide_eq_false (by omega)]
  · subst z
    rw [if_neg (Nat.lt_irrefl _), if_pos rfl, h1]
    simp
  · rw [if_neg (by omega), if_neg (by omega), decide_eq_false (by omega)]
    simp
theorem pg_m1 (x : Int64) {j : Nat} (hj : j < 64) : pg_tb (x - 1) j = !pg_tb (-x) j := by
  have h : (x - 1).toBitVec = ~~~ (-x).toBitVec := by
    rw [BitVec.not_eq_neg_add, Int64.toBitVec_neg, BitVec.neg_neg, Int64.toBitVec_sub]
    rfl
  unfold pg_tb
  rw [h, BitVec.getLsbD_not]
  simp [hj]
theorem pg_drop {x : Int64} {m : Nat} (h1 : pg_tb x m = true) (h2 : ∀ j, j < m → pg_tb x j = false) {j : Nat} (hj : j < 64) : pg_tb (x &&& (x - 1)) j = (pg_tb x j && !decide (j = m)) := by
  rw [pg_tb_and, pg_m1 x hj, pg_neg h1 h2 hj]
  rcases Nat.lt_trichotomy j m with z | z | z
  · rw [if_pos z, h2 j z]
    simp
  · subst z
    rw [if_neg (Nat.lt_irrefl _), if_pos rfl, h1]
    simp
  · rw [if_neg (by omega), if_neg (by omega), decide_eq_false (by omega)]
    cases pg_tb x j <;> rfl
theorem pg_lb {post : Int32 → Prop} {x : Int64} (m : Nat) (hm : m < 64) (h1 : pg_tb x m = true) (h2 : ∀ j, j < m → pg_tb x j = false) (hp : post (nI m)) : wpX_lowBit post (fc, fa, fm, fr, fs, ft, fq, fx, lv, fb, gr, gl, gc, al, ar, sn, ay, an, ap, pd, pc, ct, la, ra, bb, bl, br, bs, bm) x := by
  show wpX_highBit (fun r => post r) (fc, fa, fm, fr, fs, ft, fq, fx, lv, fb, gr, gl, gc, al, ar, sn, ay, an, ap, pd, pc, ct, la, ra, bb, bl, br, bs, bm) (x &&& (-x))
  refine pg_hbB m hm ?_ ?_ hp
  · rw [pg_low h1 h2 hm]; simp
  · intro j hj hj2
    rw [pg_low h1 h2 hj2, decide_eq_false (by omega)]
/-- an int of the same low bits, as a long -/
theorem pg_ext {x : Int32} {i : Nat} (hi : i < 32) : pg_tb x.toInt64 i = bt x i := by
  unfold pg_tb bt
  rw [Int32.toBitVec_toInt64, BitVec.getLsbD_signExtend]
  have : i < 64 := by omega
  simp [hi, this]
/-- a natural has a least witness -/
theorem pg_first {P : Nat → Prop} {k : Nat} (h : P k) : ∃ m, m ≤ k ∧ P m ∧ ∀ j, j < m → ¬ P j := by
  obtain ⟨m, hm, hl⟩ := pk_least P ⟨k, h⟩
  refine ⟨m, ?_, hm, hl⟩
  rcases Nat.lt_or_ge k m with z | z
  · exact absurd h (hl k z)
  · exact z
end PGA
end
section
section PGB
/-! the queue: rightsAt, leftsAt, levels say which codes have which frequency (2 or more) -/
def pg_up {α : Type} (f : Nat → α) (k : Nat) (x : α) : Nat → α := fun j => if j = k then x else f j
theorem pg_ups {α : Type} {f : Nat → α} {k : Nat} {x : α} : pg_up f k x k = x := if_pos rfl
theorem pg_upn {α : Type} {f : Nat → α} {k j : Nat} {x : α} (h : j ≠ k) : pg_up f k x j = f j := if_neg h
def pg_Q (lv : Int64) (la ra : Nat → Int32) (f : Nat → Nat) : Prop :=
  (∀ v l r, v < 49 → l < 32 → r < 32 → (bt (ra (v * 32 + l)) r = true ↔ f (l * 32 + r) = v ∧ 2 ≤ v)) ∧
  (∀ v l, v < 49 → l < 32 → (bt (la v) l = true ↔ ¬ ra (v * 32 + l) = 0)) ∧
  (∀ v, v < 64 → (pg_tb lv v = true ↔ v < 49 ∧ ¬ la v = 0))
theorem pg_Q_congr {lv : Int64} {la ra : Nat → Int32} {f g : Nat → Nat} (h : ∀ c, c < 1024 → f c = g c) (hQ : pg_Q lv la ra f) : pg_Q lv la ra g := by
  refine ⟨fun v l r hv hl hr => ?_, hQ.2.1, hQ.2.2⟩
  rw [← h (l * 32 + r) (by omega)]
  exact hQ.1 v l r hv hl hr
theorem pg_cl {l r : Nat} (hl : l < 32) (hr : r < 32) : nI (l * 32 + r) >>> ((5 : Int32) &&& 31) = nI l := by
  rw [pk_shrN (by omega) _ 5 (by decide)]
  exact congrArg nI (by omega)
theorem pg_cr {l r : Nat} (hl : l < 32) (hr : r < 32) : nI (l * 32 + r) &&& 31 = nI r := by
  rw [pk_andN (by omega) 5 (by decide)]
  exact congrArg nI (by omega)
theorem pg_row (v l : Nat) : nI v * 32 + nI l = nI (v * 32 + l) := by
  show nI v * nI 32 + nI l = _
  rw [pk_mul, nI_add]
variable {fc : Int32} {fa : Int32} {fm : Int32} {fr : Int32} {fs : Int64} {ft : Int32} {fq : Int32} {fx : Int32} {lv : Int64} {fb : Int32} {gr : Int32} {gl : Int32} {gc : Int32} {al : (Nat → Int32)} {ar : (Nat → Int32)} {sn : (Nat → Int32)} {ay : (Nat → Int32)} {an : (Nat → Int32)} {ap : (Nat → Int32)} {pd : (Nat → Int32)} {pc : (Nat → Int64)} {ct : (Nat → Int32)} {la : (Nat → Int32)} {ra : (Nat → Int32)} {bb : (Nat → Int32)} {bl : (Nat → Int32)} {br : (Nat → Int32)} {bs : (Nat → Int32)} {bm : (Nat → Int32)}
theorem pg_deq67 {post : SX → Prop} {v : Nat} (hv : v < 49) (h3 : ∀ w, w < 64 → w ≠ v → (pg_tb lv w = true ↔ w < 49 ∧ ¬ la w = 0)) (h3v : pg_tb lv v = true)
    (hp : ∀ lv' : Int64, (∀ w, w < 64 → (pg_tb lv' w = true ↔ w < 49 ∧ ¬ la w = 0)) → post (fc, fa, fm, fr, fs, ft, fq, fx, lv', fb, gr, gl, gc, al, ar, sn, ay, an, ap, pd, pc, ct, la, ra, bb, bl, br, bs, bm)) : wX_dequeue_67 post (nI v) fc fa fm fr fs ft fq fx lv fb gr gl gc al ar sn ay an ap pd pc ct la ra bb bl br bs bm := by
  have hcl : (nI v).toNatClampNeg = v := nI_clamp (by omega)
  refine And.intro (vp_in_nI hv (by omega)) (br_c (fun h0 => ?_) (fun h0 => ?_))
  · rw [hcl] at h0
    refine nm_e (hp _ ?_)
    intro w hw
    rw [pg_tb_clr (by omega) hw]
    by_cases e : w = v
    · subst e; simp [h0]
    · simp only [e, decide_false, Bool.not_false, Bool.and_true]
      exact h3 w hw e
  · rw [hcl] at h0
    refine hp _ ?_
    intro w hw
    by_cases e : w = v
    · subst e
      exact ⟨fun _ => ⟨hv, h0⟩, fun _ => h3v⟩
    · exact h3 w hw e
theorem pg_deqMid {post : SX → Prop} {v l : Nat} (hv : v < 49) (hl : l < 32) (h2 : ∀ v' l', v' < 49 → l' < 32 → ¬ (v' = v ∧ l' = l) → (bt (la v') l' = true ↔ ¬ ra (v' * 32 + l') = 0)) (h2v : bt (la v) l = true)
    (h3 : ∀ w, w < 64 → (pg_tb lv w = true ↔ w < 49 ∧ ¬ la w = 0))
    (hp : ∀ (lv' : Int64) (la' : Nat → Int32), (∀ v' l', v' < 49 → l' < 32 → (bt (la' v') l' = true ↔ ¬ ra (v' * 32 + l') = 0)) → (∀ w, w < 64 → (pg_tb lv' w = true ↔ w < 49 ∧ ¬ la' w = 0)) → post (fc, fa, fm, fr, fs, ft, fq, fx, lv', fb, gr, gl, gc, al, ar, sn, ay, an, ap, pd, pc, ct, la', ra, bb, bl, br, bs, bm)) :
    (ra (v * 32 + l) = 0 → wX_dequeue_67 post (nI v) fc fa fm fr fs ft fq fx lv fb gr gl gc al ar sn ay an ap pd pc ct (upd la v (la v &&& (((1 : Int32) <<< (nI l &&& 31)) ^^^ (-1)))) ra bb bl br bs bm) ∧ (¬ ra (v * 32 + l) = 0 → wX_dequeue_67 post (nI v) fc fa fm fr fs ft fq fx lv fb gr gl gc al ar sn ay an ap pd pc ct la ra bb bl br bs bm) := by
  have hlv : pg_tb lv v = true := (h3 v (by omega)).mpr ⟨hv, pg_bt_ne h2v⟩
  constructor
  · intro h0
    refine pg_deq67 hv ?_ hlv ?_
    · intro w hw e
      rw [pk_un e]
      exact h3 w hw
    · intro lv' h3'
      refine hp lv' _ ?_ h3'
      intro v' l' hv' hl'
      by_cases e : v' = v
      · subst e
        rw [pk_us, pg_bt_clr hl hl']
        by_cases e2 : l' = l
        · subst e2; simp [h0]
        · simp only [e2, decide_false, Bool.not_false, Bool.and_true]
          exact h2 v' l' hv' hl' (fun z => e2 z.2)
      · rw [pk_un e]
        exact h2 v' l' hv' hl' (fun z => e z.1)
  · intro h0
    refine pg_deq67 hv ?_ hlv ?_
    · intro w hw e
      exact h3 w hw
    · intro lv' h3'
      refine hp lv' _ ?_ h3'
      intro v' l' hv' hl'
      by_cases e : v' = v ∧ l' = l
      · obtain ⟨rfl, rfl⟩ := e
        exact ⟨fun _ => h0, fun _ => h2v⟩
      · exact h2 v' l' hv' hl' e
theorem pg_deq {post : SX → Prop} {f : Nat → Nat} {l r : Nat} (hl : l < 32) (hr : r < 32) (hQ : pg_Q lv la ra f) (hc : ct (l * 32 + r) = nI (f (l * 32 + r))) (hf : f (l * 32 + r) < 49)
    (hp : ∀ (lv' : Int64) (la' ra' : Nat → Int32), pg_Q lv' la' ra' (pg_up f (l * 32 + r) 0) → post (fc, fa, fm, fr, fs, ft, fq, fx, lv', fb, gr, gl, gc, al, ar, sn, ay, an, ap, pd, pc, ct, la', ra', bb, bl, br, bs, bm)) : wpX_dequeue post (fc, fa, fm, fr, fs, ft, fq, fx, lv, fb, gr, gl, gc, al, ar, sn, ay, an, ap, pd, pc, ct, la, ra, bb, bl, br, bs, bm) (nI (l * 32 + r)) := by
  obtain ⟨h1, h2, h3⟩ := hQ
  generalize hv : f (l * 32 + r) = v at hc hf
  refine And.intro (vp_in_nI (by omega) (by omega)) (nm_r (e' := nI v) (by rw [nI_clamp (by omega)]; exact hc) ?_)
  refine pk_le 2 v (fun h2v => ?_) (fun h2v => ?_)
  · have hi : vp_in (nI (v * 32 + l)) 1568 := vp_in_nI (by omega) (by omega)
    have hcl : (nI (v * 32 + l)).toNatClampNeg = v * 32 + l := nI_clamp (by omega)
    have hclv : (nI v).toNatClampNeg = v := nI_clamp (by omega)
    have hin : vp_in (nI v) 49 := vp_in_nI hf (by omega)
    have hbit : bt (ra (v * 32 + l)) r = true := (h1 v l r hf hl hr).mpr ⟨hv, h2v⟩
    refine nm_r (e' := nI l) (pg_cl hl hr) (nm_r (e' := nI (v * 32 + l)) (pg_row v l) (And.intro hi (And.intro hi
      (nm_r (e' := upd ra (v * 32 + l) (ra (v * 32 + l) &&& (((1 : Int32) <<< (nI r &&& 31)) ^^^ (-1)))) (by rw [hcl, pg_cr hl hr]) (And.intro hi ?_)))))
    have hrow : ∀ v' l', l' < 32 → ¬ (v' = v ∧ l' = l) → v' * 32 + l' ≠ v * 32 + l := by intro v' l' a b c; apply b; omega
    have h1' : ∀ v' l' r', v' < 49 → l' < 32 → r' < 32 → (bt (upd ra (v * 32 + l) (ra (v * 32 + l) &&& (((1 : Int32) <<< (nI r &&& 31)) ^^^ (-1))) (v' * 32 + l')) r' = true ↔ pg_up f (l * 32 + r) 0 (l' * 32 + r') = v' ∧ 2 ≤ v') := by
      intro v' l' r' hv' hl' hr'
      by_cases e : v' = v ∧ l' = l
      · obtain ⟨rfl, rfl⟩ := e
        rw [pk_us, pg_bt_clr hr hr']
        by_cases e2 : r' = r
        · subst e2
          rw [pg_ups]
          simp
          omega
        · rw [pg_upn (by omega)]
          simp only [e2, decide_false, Bool.not_false, Bool.and_true]
          exact h1 v' l' r' hv' hl' hr'
      · rw [pk_un (hrow v' l' hl' e)]
        by_cases e2 : l' * 32 + r' = l * 32 + r
        · have e3 : l' = l ∧ r' = r := by omega
          obtain ⟨rfl, rfl⟩ := e3
          rw [pg_ups, h1 v' l' r' hv' hl' hr', hv]
          constructor
          · rintro ⟨rfl, z⟩; exact absurd ⟨rfl, rfl⟩ e
          · rintro ⟨z, z2⟩; omega
        · rw [pg_upn e2]
          exact h1 v' l' r' hv' hl' hr'
    have h2' : ∀ v' l', v' < 49 → l' < 32 → ¬ (v' = v ∧ l' = l) → (bt (la v') l' = true ↔ ¬ upd ra (v * 32 + l) (ra (v * 32 + l) &&& (((1 : Int32) <<< (nI r &&& 31)) ^^^ (-1))) (v' * 32 + l') = 0) := by
      intro v' l' hv' hl' e
      rw [pk_un (hrow v' l' hl' e)]
      exact h2 v' l' hv' hl'
    have M := pg_deqMid (post := post) (lv := lv) (la := la) (ra := upd ra (v * 32 + l) (ra (v * 32 + l) &&& (((1 : Int32) <<< (nI r &&& 31)) ^^^ (-1)))) hf hl h2' ((h2 v l hf hl).mpr (pg_bt_ne hbit)) h3
      (fun lv' la' a b => hp lv' la' _ ⟨h1', a, b⟩)
    refine br_c (fun h0 => ?_) (fun h0 => ?_)
    · rw [hcl] at h0
      refine And.intro hin (And.intro hin (nm_r (e' := upd la v (la v &&& (((1 : Int32) <<< (nI l &&& 31)) ^^^ (-1)))) (by rw [hclv]) ?_))
      exact M.1 h0
    · rw [hcl] at h0
      exact M.2 h0
  · refine hp lv la ra ⟨?_, h2, h3⟩
    intro v' l' r' hv' hl' hr'
    by_cases e2 : l' * 32 + r' = l * 32 + r
    · have e3 : l' = l ∧ r' = r := by omega
      obtain ⟨rfl, rfl⟩ := e3
      rw [pg_ups, h1 v' l' r' hv' hl' hr', hv]
      omega
    · rw [pg_upn e2]
      exact h1 v' l' r' hv' hl' hr'
theorem pg_enq {post : SX → Prop} {f : Nat → Nat} {l r w : Nat} (hl : l < 32) (hr : r < 32) (hQ : pg_Q lv la ra f) (h0 : f (l * 32 + r) = 0) (hc : ct (l * 32 + r) = nI w) (hw : w < 49)
    (hp : ∀ (lv' : Int64) (la' ra' : Nat → Int32), pg_Q lv' la' ra' (pg_up f (l * 32 + r) w) → post (fc, fa, fm, fr, fs, ft, fq, fx, lv', fb, gr, gl, gc, al, ar, sn, ay, an, ap, pd, pc, ct, la', ra', bb, bl, br, bs, bm)) : wpX_enqueue post (fc, fa, fm, fr, fs, ft, fq, fx, lv, fb, gr, gl, gc, al, ar, sn, ay, an, ap, pd, pc, ct, la, ra, bb, bl, br, bs, bm) (nI (l * 32 + r)) := by
  obtain ⟨h1, h2, h3⟩ := hQ
  refine And.intro (vp_in_nI (by omega) (by omega)) (nm_r (e' := nI w) (by rw [nI_clamp (by omega)]; exact hc) ?_)
  refine pk_le 2 w (fun h2v => ?_) (fun h2v => ?_)
  · have hi : vp_in (nI w * 32 + nI l) 1568 := by rw [pg_row]; exact vp_in_nI (by omega) (by omega)
    have hcl : (nI w * 32 + nI l).toNatClampNeg = w * 32 + l := by rw [pg_row]; exact nI_clamp (by omega)
    have hclv : (nI w).toNatClampNeg = w := nI_clamp (by omega)
    have hin : vp_in (nI w) 49 := vp_in_nI hw (by omega)
    refine nm_r (e' := nI l) (pg_cl hl hr) (And.intro hi (And.intro hi (nm_r (e' := upd ra (w * 32 + l) (ra (w * 32 + l) ||| ((1 : Int32) <<< (nI r &&& 31)))) (by rw [hcl, pg_cr hl hr])
      (And.intro hin (And.intro hin (nm_r (e' := upd la w (la w ||| ((1 : Int32) <<< (nI l &&& 31)))) (by rw [hclv]) (nm_e ?_)))))))
    have hrow : ∀ v' l', l' < 32 → ¬ (v' = w ∧ l' = l) → v' * 32 + l' ≠ w * 32 + l := by intro v' l' a b c; apply b; omega
    have hset : bt (ra (w * 32 + l) ||| ((1 : Int32) <<< (nI r &&& 31))) r = true := by rw [pg_bt_set hr]; simp
    have hsetl : bt (la w ||| ((1 : Int32) <<< (nI l &&& 31))) l = true := by rw [pg_bt_set hl]; simp
    refine hp _ _ _ ⟨?_, ?_, ?_⟩
    · intro v' l' r' hv' hl' hr'
      by_cases e : v' = w ∧ l' = l
      · obtain ⟨rfl, rfl⟩ := e
        rw [pk_us, pg_bt_set hr]
        by_cases e2 : r' = r
        · subst e2
          rw [pg_ups]
          simp
          omega
        · rw [pg_upn (by omega)]
          simp only [e2, decide_false, Bool.or_false]
          exact h1 v' l' r' hv' hl' hr'
      · rw [pk_un (hrow v' l' hl' e)]
        by_cases e2 : l' * 32 + r' = l * 32 + r
        · have e3 : l' = l ∧ r' = r := by omega
          obtain ⟨rfl, rfl⟩ := e3
          rw [pg_ups, h1 v' l' r' hv' hl' hr', h0]
          constructor
          · rintro ⟨z, z2⟩; omega
          · rintro ⟨rfl, z⟩; exact absurd ⟨rfl, rfl⟩ e
        · rw [pg_upn e2]
          exact h1 v' l' r' hv' hl' hr'
    · intro v' l' hv' hl'
      by_cases e : v' = w
      · subst e
        rw [pk_us, pg_bt_set hl]
        by_cases e2 : l' = l
        · subst e2
          rw [pk_us]
          simp [pg_bt_ne hset]
        · rw [pk_un (by omega)]
          simp only [e2, decide_false, Bool.or_false]
          exact h2 v' l' hv' hl'
      · rw [pk_un e, pk_un (by omega)]
        exact h2 v' l' hv' hl'
    · intro v' hv'
      rw [pg_tb_set (by omega) hv']
      by_cases e : v' = w
      · subst e
        rw [pk_us]
        simp [pg_bt_ne hsetl, hw]
      · rw [pk_un e]
        simp only [e, decide_false, Bool.or_false]
        exact h3 v' hv'
  · refine hp lv la ra ⟨?_, h2, h3⟩
    intro v' l' r' hv' hl' hr'
    by_cases e2 : l' * 32 + r' = l * 32 + r
    · have e3 : l' = l ∧ r' = r := by omega
      obtain ⟨rfl, rfl⟩ := e3
      rw [pg_ups, h1 v' l' r' hv' hl' hr', h0]
      omega
    · rw [pg_upn e2]
      exact h1 v' l' r' hv' hl' hr'
theorem pg_shift {post : SX → Prop} {f : Nat → Nat} {l r s w : Nat} {d : Int32} (hl : l < 32) (hr : r < 32) (hQ : pg_Q lv la ra f) (hc : ct (l * 32 + r) = nI (f (l * 32 + r))) (hf : f (l * 32 + r) < 49) (hw : w < 49) (hd : nI (f (l * 32 + r)) + d = nI w)
    (hp : ∀ (lv' : Int64) (la' ra' : Nat → Int32), pg_Q lv' la' ra' (pg_up f (l * 32 + r) w) → post (fc, fa, fm, fr, fs, ft, fq, fx, lv', fb, gr, gl, gc, al, ar, sn, ay, an, ap, pd, vp_updL pc (l * 32 + r) (pc (l * 32 + r) ^^^ ((1 : Int64) <<< ((nI s).toInt64 &&& 63))), upd ct (l * 32 + r) (nI w), la', ra', bb, bl, br, bs, bm)) :
    wpX_shift post (fc, fa, fm, fr, fs, ft, fq, fx, lv, fb, gr, gl, gc, al, ar, sn, ay, an, ap, pd, pc, ct, la, ra, bb, bl, br, bs, bm) (nI (l * 32 + r)) (nI s) d := by
  have hcl : (nI (l * 32 + r)).toNatClampNeg = l * 32 + r := nI_clamp (by omega)
  have hin : vp_in (nI (l * 32 + r)) 1024 := vp_in_nI (by omega) (by omega)
  unfold wpX_shift
  refine pg_deq hl hr hQ hc hf ?_
  intro lv' la' ra' hQ'
  refine And.intro hin (And.intro hin (nm_r (e' := upd ct (l * 32 + r) (nI w)) (by rw [hcl, hc, hd]) (And.intro hin (And.intro hin
    (nm_r (e' := vp_updL pc (l * 32 + r) (pc (l * 32 + r) ^^^ ((1 : Int64) <<< ((nI s).toInt64 &&& 63)))) (by rw [hcl]) ?_)))))
  refine pg_enq hl hr hQ' pg_ups pk_us hw ?_
  intro lv'' la'' ra'' hQ''
  refine hp lv'' la'' ra'' (pg_Q_congr ?_ hQ'')
  intro c _
  by_cases e : c = l * 32 + r
  · subst e; rw [pg_ups, pg_ups]
  · rw [pg_upn e, pg_upn e, pg_upn e]
end PGB
end
section
section PGC
/-! the places: what 'placed' = pd says of places, counts and the queue -/
def pg_cn (pd : Nat → Int32) (c : Nat) : Nat → Nat
  | 0 => 0
  | n + 1 => pg_cn pd c n + (if pd n = nI c then 1 else 0)
theorem pg_cn_s (pd : Nat → Int32) (c n : Nat) : pg_cn pd c (n + 1) = pg_cn pd c n + (if pd n = nI c then 1 else 0) := rfl
theorem pg_cn_le (pd : Nat → Int32) (c : Nat) : ∀ n, pg_cn pd c n ≤ n := by
  intro n
  induction n with
  | zero => exact Nat.le_refl 0
  | succ n ih => rw [pg_cn_s]; split <;> omega
theorem pg_cn_congr {pd pd' : Nat → Int32} {c : Nat} : ∀ n, (∀ j, j < n → (pd j = nI c ↔ pd' j = nI c)) → pg_cn pd c n = pg_cn pd' c n := by
  intro n
  induction n with
  | zero => intro _; rfl
  | succ n ih =>
    intro h
    rw [pg_cn_s, pg_cn_s, ih (fun j hj => h j (by omega))]
    by_cases e : pd n = nI c
    · rw [if_pos e, if_pos ((h n (by omega)).mp e)]
    · rw [if_neg e, if_neg (fun z => e ((h n (by omega)).mpr z))]
theorem pg_cn_upd {pd : Nat → Int32} {c s : Nat} {x : Int32} : ∀ n, s < n → pg_cn (upd pd s x) c n + (if pd s = nI c then 1 else 0) = pg_cn pd c n + (if x = nI c then 1 else 0) := by
  intro n
  induction n with
  | zero => intro h; omega
  | succ n ih =>
    intro h
    rw [pg_cn_s, pg_cn_s]
    by_cases e : s = n
    · subst e
      rw [pk_us, pg_cn_congr (pd := upd pd s x) (pd' := pd) s (fun j hj => by rw [pk_un (by omega)])]
      omega
    · rw [pk_un (by omega)]
      have := ih (by omega)
      omega
theorem pg_cn_pos {pd : Nat → Int32} {c : Nat} : ∀ n, 0 < pg_cn pd c n → ∃ j, j < n ∧ pd j = nI c := by
  intro n
  induction n with
  | zero => intro h; exact absurd h (by show ¬ 0 < 0; omega)
  | succ n ih =>
    intro h
    by_cases e : pd n = nI c
    · exact ⟨n, by omega, e⟩
    · rw [pg_cn_s, if_neg e] at h
      obtain ⟨j, hj, hj2⟩ := ih h
      exact ⟨j, by omega, hj2⟩
theorem pg_cn_has {pd : Nat → Int32} {c j : Nat} (hj2 : pd j = nI c) : ∀ n, j < n → 0 < pg_cn pd c n := by
  intro n
  induction n with
  | zero => intro h; omega
  | succ n ih =>
    intro h
    rw [pg_cn_s]
    by_cases e : j = n
    · subst e; rw [if_pos hj2]; omega
    · have := ih (by omega)
      omega
theorem pg_m1ne {c : Nat} (h : c < 2 ^ 31) : ¬ (-1 : Int32) = nI c := by
  intro e
  have := nI_pos (n := c) h
  rw [← e] at this
  exact this (by decide)
theorem pg_updSelf {f : Nat → Int32} {k : Nat} {x : Int32} (h : f k = x) : upd f k x = f := by
  funext j
  by_cases e : j = k
  · subst e; rw [pk_us, h]
  · rw [pk_un e]
theorem pg_updUpd {f : Nat → Int32} {k : Nat} {x y : Int32} : upd (upd f k x) k y = upd f k y := by
  funext j
  by_cases e : j = k
  · subst e; rw [pk_us, pk_us]
  · rw [pk_un e, pk_un e, pk_un e]
def pg_K (pd : Nat → Int32) (pc : Nat → Int64) (ct la ra : Nat → Int32) (lv : Int64) : Prop :=
  pg_Q lv la ra (fun c => pg_cn pd c 48) ∧ (∀ c, c < 1024 → ct c = nI (pg_cn pd c 48)) ∧ (∀ c, c < 1024 → ∀ j, j < 64 → (pg_tb (pc c) j = true ↔ j < 48 ∧ pd j = nI c)) ∧
  (∀ j, j < 48 → pd j = -1 ∨ ∃ c, c < 1024 ∧ pd j = nI c)
theorem pg_lr {c : Nat} (h : c < 1024) : ∃ l r, l < 32 ∧ r < 32 ∧ c = l * 32 + r := ⟨c / 32, c % 32, by omega, by omega, by omega⟩
theorem pg_nI {a b : Nat} (h : nI a = nI b) (ha : a < 1024) (hb : b < 1024) : a = b := (nI_eq (by omega) (by omega)).mp h
variable {fc : Int32} {fa : Int32} {fm : Int32} {fr : Int32} {fs : Int64} {ft : Int32} {fq : Int32} {fx : Int32} {lv : Int64} {fb : Int32} {gr : Int32} {gl : Int32} {gc : Int32} {al : (Nat → Int32)} {ar : (Nat → Int32)} {sn : (Nat → Int32)} {ay : (Nat → Int32)} {an : (Nat → Int32)} {ap : (Nat → Int32)} {pd : (Nat → Int32)} {pc : (Nat → Int64)} {ct : (Nat → Int32)} {la : (Nat → Int32)} {ra : (Nat → Int32)} {bb : (Nat → Int32)} {bl : (Nat → Int32)} {br : (Nat → Int32)} {bs : (Nat → Int32)} {bm : (Nat → Int32)}
theorem pg_shRem {post : SX → Prop} {pd0 : Nat → Int32} {s c : Nat} (hK : pg_K pd0 pc ct la ra lv) (hs : s < 48) (hc : c < 1024) (hpd : pd0 s = nI c)
    (hp : ∀ (pc' : Nat → Int64) (ct' la' ra' : Nat → Int32) (lv' : Int64), pg_K (upd pd0 s (-1)) pc' ct' la' ra' lv' → post (fc, fa, fm, fr, fs, ft, fq, fx, lv', fb, gr, gl, gc, al, ar, sn, ay, an, ap, pd, pc', ct', la', ra', bb, bl, br, bs, bm)) :
    wpX_shift post (fc, fa, fm, fr, fs, ft, fq, fx, lv, fb, gr, gl, gc, al, ar, sn, ay, an, ap, pd, pc, ct, la, ra, bb, bl, br, bs, bm) (nI c) (nI s) (-1) := by
  obtain ⟨hQ, hct, hpc, hval⟩ := hK
  have hcn := pg_cn_has hpd 48 hs
  have hle := pg_cn_le pd0 c 48
  have key : ∀ c', c' < 1024 → pg_cn (upd pd0 s (-1)) c' 48 = if c' = c then pg_cn pd0 c 48 - 1 else pg_cn pd0 c' 48 := by
    intro c' hc'
    have h := pg_cn_upd (pd := pd0) (c := c') (s := s) (x := -1) 48 hs
    rw [if_neg (pg_m1ne (by omega)), hpd] at h
    by_cases e : c' = c
    · subst e
      rw [if_pos rfl] at h
      rw [if_pos rfl]
      omega
    · rw [if_neg (fun z => e (pg_nI z hc hc').symm)] at h
      rw [if_neg e]
      omega
  obtain ⟨l, r, hl, hr, e⟩ := pg_lr hc
  subst e
  refine pg_shift (w := pg_cn pd0 (l * 32 + r) 48 - 1) hl hr hQ (hct _ hc) (Nat.lt_of_le_of_lt hle (by omega)) (by omega) ?_ ?_
  · show nI (pg_cn pd0 (l * 32 + r) 48) + (-1) = _
    exact sb_m1 hcn
  · intro lv' la' ra' hQ'
    refine hp _ _ _ _ _ ⟨pg_Q_congr ?_ hQ', ?_, ?_, ?_⟩
    · intro c' hc'
      rw [key c' hc']
      by_cases e : c' = l * 32 + r
      · subst e; rw [pg_ups, if_pos rfl]
      · rw [pg_upn e, if_neg e]
    · intro c' hc'
      rw [key c' hc']
      by_cases e : c' = l * 32 + r
      · subst e; rw [pk_us, if_pos rfl]
      · rw [pk_un e, if_neg e, hct c' hc']
    · intro c' hc' j hj
      by_cases e : c' = l * 32 + r
      · subst e
        rw [pk_uLs, pg_tb_flip (by omega) hj]
        by_cases e2 : j = s
        · subst e2
          rw [(hpc _ hc' j hj).mpr ⟨hs, hpd⟩, pk_us]
          simp [pg_m1ne (show l * 32 + r < 2 ^ 31 by omega)]
        · rw [pk_un e2]
          simp only [e2, decide_false, Bool.xor_false]
          exact hpc _ hc' j hj
      · rw [pk_uLn e, hpc c' hc' j hj]
        by_cases e2 : j = s
        · subst e2
          rw [pk_us, hpd]
          constructor
          · rintro ⟨_, z⟩; exact absurd (pg_nI z hc hc').symm e
          · rintro ⟨_, z⟩; exact absurd z (pg_m1ne (by omega))
        · rw [pk_un e2]
    · intro j hj
      by_cases e2 : j = s
      · subst e2; rw [pk_us]; exact Or.inl rfl
      · rw [pk_un e2]; exact hval j hj
theorem pg_shAdd {post : SX → Prop} {pd0 : Nat → Int32} {s c : Nat} (hK : pg_K pd0 pc ct la ra lv) (hs : s < 48) (hc : c < 1024) (hpd : pd0 s = -1)
    (hp : ∀ (pc' : Nat → Int64) (ct' la' ra' : Nat → Int32) (lv' : Int64), pg_K (upd pd0 s (nI c)) pc' ct' la' ra' lv' → post (fc, fa, fm, fr, fs, ft, fq, fx, lv', fb, gr, gl, gc, al, ar, sn, ay, an, ap, pd, pc', ct', la', ra', bb, bl, br, bs, bm)) :
    wpX_shift post (fc, fa, fm, fr, fs, ft, fq, fx, lv, fb, gr, gl, gc, al, ar, sn, ay, an, ap, pd, pc, ct, la, ra, bb, bl, br, bs, bm) (nI c) (nI s) 1 := by
  obtain ⟨hQ, hct, hpc, hval⟩ := hK
  have key : ∀ c', c' < 1024 → pg_cn (upd pd0 s (nI c)) c' 48 = if c' = c then pg_cn pd0 c 48 + 1 else pg_cn pd0 c' 48 := by
    intro c' hc'
    have h := pg_cn_upd (pd := pd0) (c := c') (s := s) (x := nI c) 48 hs
    rw [hpd, if_neg (pg_m1ne (by omega))] at h
    by_cases e : c' = c
    · subst e
      rw [if_pos rfl] at h
      rw [if_pos rfl]
      omega
    · rw [if_neg (fun z => e (pg_nI z hc hc').symm)] at h
      rw [if_neg e]
      omega
  have hle := pg_cn_le (upd pd0 s (nI c)) c 48
  rw [key c hc, if_pos rfl] at hle
  obtain ⟨l, r, hl, hr, e⟩ := pg_lr hc
  subst e
  refine pg_shift (w := pg_cn pd0 (l * 32 + r) 48 + 1) hl hr hQ (hct _ hc) (by show pg_cn pd0 (l * 32 + r) 48 < 49; omega) (by omega) ?_ ?_
  · show nI (pg_cn pd0 (l * 32 + r) 48) + 1 = _
    exact nI_1 _
  · intro lv' la' ra' hQ'
    refine hp _ _ _ _ _ ⟨pg_Q_congr ?_ hQ', ?_, ?_, ?_⟩
    · intro c' hc'
      rw [key c' hc']
      by_cases e : c' = l * 32 + r
      · subst e; rw [pg_ups, if_pos rfl]
      · rw [pg_upn e, if_neg e]
    · intro c' hc'
      rw [key c' hc']
      by_cases e : c' = l * 32 + r
      · subst e; rw [pk_us, if_pos rfl]
      · rw [pk_un e, if_neg e, hct c' hc']
    · intro c' hc' j hj
      by_cases e : c' = l * 32 + r
      · subst e
        rw [pk_uLs, pg_tb_flip (by omega) hj]
        by_cases e2 : j = s
        · subst e2
          have hb : pg_tb (pc (l * 32 + r)) j = false := by
            apply ts_nt
            intro z
            have := ((hpc _ hc' j hj).mp z).2
            rw [hpd] at this
            exact pg_m1ne (by omega) this
          rw [hb, pk_us]
          simp [hs]
        · rw [pk_un e2]
          simp only [e2, decide_false, Bool.xor_false]
          exact hpc _ hc' j hj
      · rw [pk_uLn e, hpc c' hc' j hj]
        by_cases e2 : j = s
        · subst e2
          rw [pk_us, hpd]
          constructor
          · rintro ⟨_, z⟩; exact absurd z (pg_m1ne (by omega))
          · rintro ⟨_, z⟩; exact absurd (pg_nI z hc hc').symm e
        · rw [pk_un e2]
    · intro j hj
      by_cases e2 : j = s
      · subst e2; rw [pk_us]; exact Or.inr ⟨_, hc, rfl⟩
      · rw [pk_un e2]; exact hval j hj
theorem pg_sp32 {post : Int32 → SX → Prop} {pd0 : Nat → Int32} {s : Nat} {x : Int32} (hK : pg_K pd0 pc ct la ra lv) (hs : s < 48) (h0 : pd0 s = -1) (hx : x = -1 ∨ ∃ c, c < 1024 ∧ x = nI c)
    (hp : ∀ (pc' : Nat → Int64) (ct' la' ra' : Nat → Int32) (lv' : Int64), pg_K (upd pd0 s x) pc' ct' la' ra' lv' → post 1 (fc, fa, fm, fr, fs, ft, fq, fx, lv', fb, gr, gl, gc, al, ar, sn, ay, an, ap, pd, pc', ct', la', ra', bb, bl, br, bs, bm)) :
    wX_setPlace_32 post (nI s) x fc fa fm fr fs ft fq fx lv fb gr gl gc al ar sn ay an ap pd pc ct la ra bb bl br bs bm := by
  rcases hx with rfl | ⟨c, hc, rfl⟩
  · refine br_t (by decide) (hp _ _ _ _ _ ?_)
    rw [pg_updSelf h0]
    exact hK
  · refine br_f (nI_pos (by omega)) ?_
    exact pg_shAdd hK hs hc h0 hp
theorem pg_setPlace {post : Int32 → SX → Prop} {s : Nat} {x : Int32} (hK : pg_K pd pc ct la ra lv) (hs : s < 48) (hx : x = -1 ∨ ∃ c, c < 1024 ∧ x = nI c)
    (hp : ∀ (pc' : Nat → Int64) (ct' la' ra' : Nat → Int32) (lv' : Int64), pg_K (upd pd s x) pc' ct' la' ra' lv' → post (if pd s = x then 0 else 1) (fc, fa, fm, fr, fs, ft, fq, fx, lv', fb, gr, gl, gc, al, ar, sn, ay, an, ap, upd pd s x, pc', ct', la', ra', bb, bl, br, bs, bm)) :
    wpX_setPlace post (fc, fa, fm, fr, fs, ft, fq, fx, lv, fb, gr, gl, gc, al, ar, sn, ay, an, ap, pd, pc, ct, la, ra, bb, bl, br, bs, bm) (nI s) x := by
  have hcl : (nI s).toNatClampNeg = s := nI_clamp (by omega)
  have hin : vp_in (nI s) 48 := vp_in_nI hs (by omega)
  refine And.intro hin (nm_r (e' := pd s) (by rw [hcl]) ?_)
  by_cases h : pd s = x
  · refine br_t h ?_
    have := hp pc ct la ra lv (by rw [pg_updSelf h]; exact hK)
    rw [if_pos h, pg_updSelf h] at this
    exact this
  · rw [if_neg h] at hp
    refine br_f h (And.intro hin (nm_r (e' := upd pd s x) (by rw [hcl]) ?_))
    rcases hK.2.2.2 s hs with h1 | ⟨c, hc, h1⟩
    · refine br_t (by rw [h1]; decide) ?_
      exact pg_sp32 hK hs h1 hx hp
    · refine br_f (by rw [h1]; exact nI_pos (by omega)) ?_
      rw [h1]
      refine pg_shRem hK hs hc h1 ?_
      intro pc' ct' la' ra' lv' hK'
      refine pg_sp32 hK' hs pk_us hx ?_
      rw [pg_updUpd]
      exact hp
end PGC
end
section
section PGD
/-! the threaded sequence: index i < L lives in slot ps i and holds symbol sq i -/
def pg_P (L T : Nat) (sq ps : Nat → Nat) : Prop :=
  ps 0 = 0 ∧ ps L = T ∧ T ≤ 48 ∧ (∀ i, i < L → ps i < ps (i + 1)) ∧ (∀ i, i < L → sq i < 32)
def pg_S (L : Nat) (sq ps : Nat → Nat) (ay an ap : Nat → Int32) : Prop :=
  (∀ i, i < L → ay (ps i) = nI (sq i)) ∧ (∀ i, i < L → an (ps i) = if i + 1 < L then nI (ps (i + 1)) else -1) ∧ (∀ i, i < L → ap (ps i) = if i = 0 then -1 else nI (ps (i - 1)))
def pg_pc (b : Int32) (x y : Nat) : Int32 := if x = y ∧ b = nI (x * 32 + y) then -1 else nI (x * 32 + y)
def pg_pl (L : Nat) (sq ps : Nat → Nat) (pd : Nat → Int32) (i : Nat) : Int32 := if i + 1 < L then pg_pc (if i = 0 then -1 else pd (ps (i - 1))) (sq i) (sq (i + 1)) else -1
def pg_ok (L : Nat) (sq ps : Nat → Nat) (pd : Nat → Int32) (i : Nat) : Prop := pd (ps i) = pg_pl L sq ps pd i
def pg_D (L : Nat) (ps : Nat → Nat) (pd : Nat → Int32) : Prop := ∀ j, j < 48 → (∀ i, i < L → ps i ≠ j) → pd j = -1
theorem pg_mono {L T : Nat} {sq ps : Nat → Nat} (hP : pg_P L T sq ps) {i : Nat} : ∀ j, i < j → j ≤ L → ps i < ps j := by
  intro j
  induction j with
  | zero => intro h; omega
  | succ j ih =>
    intro h h2
    have h3 := hP.2.2.2.1 j (by omega)
    by_cases e : i = j
    · subst e; exact h3
    · have := ih (by omega) (by omega)
      omega
theorem pg_inj {L T : Nat} {sq ps : Nat → Nat} (hP : pg_P L T sq ps) {i j : Nat} (hi : i ≤ L) (hj : j ≤ L) (h : ps i = ps j) : i = j := by
  rcases Nat.lt_trichotomy i j with z | z | z
  · have := pg_mono hP j z hj; omega
  · exact z
  · have := pg_mono hP i z hi; omega
theorem pg_ne {L T : Nat} {sq ps : Nat → Nat} (hP : pg_P L T sq ps) {i j : Nat} (hi : i ≤ L) (hj : j ≤ L) (h : i ≠ j) : ps i ≠ ps j := fun z => h (pg_inj hP hi hj z)
theorem pg_lt {L T : Nat} {sq ps : Nat → Nat} (hP : pg_P L T sq ps) {i : Nat} (hi : i < L) : ps i < T := by
  have := pg_mono hP L hi (Nat.le_refl L)
  have := hP.2.1
  omega
theorem pg_lt48 {L T : Nat} {sq ps : Nat → Nat} (hP : pg_P L T sq ps) {i : Nat} (hi : i < L) : ps i < 48 := by
  have := pg_lt hP hi
  have := hP.2.2.1
  omega
theorem pg_ile {L T : Nat} {sq ps : Nat → Nat} (hP : pg_P L T sq ps) : ∀ i, i ≤ L → i ≤ ps i := by
  intro i
  induction i with
  | zero => intro _; omega
  | succ i ih =>
    intro h
    have := ih (by omega)
    have := hP.2.2.2.1 i (by omega)
    omega
theorem pg_L48 {L T : Nat} {sq ps : Nat → Nat} (hP : pg_P L T sq ps) : L ≤ T ∧ T ≤ 48 := by
  have := pg_ile hP L (Nat.le_refl L)
  have h2 := hP.2.1
  have h3 := hP.2.2.1
  omega
theorem pg_pc_val {b : Int32} {x y : Nat} (hx : x < 32) (hy : y < 32) : pg_pc b x y = -1 ∨ ∃ c, c < 1024 ∧ pg_pc b x y = nI c := by
  unfold pg_pc
  split
  · exact Or.inl rfl
  · exact Or.inr ⟨_, by omega, rfl⟩
theorem pg_pl_val {L T : Nat} {sq ps : Nat → Nat} {pd : Nat → Int32} {i : Nat} (hP : pg_P L T sq ps) (hi : i < L) : pg_pl L sq ps pd i = -1 ∨ ∃ c, c < 1024 ∧ pg_pl L sq ps pd i = nI c := by
  unfold pg_pl
  split
  · exact pg_pc_val (hP.2.2.2.2 i hi) (hP.2.2.2.2 (i + 1) (by omega))
  · exact Or.inl rfl
variable {fc : Int32} {fa : Int32} {fm : Int32} {fr : Int32} {fs : Int64} {ft : Int32} {fq : Int32} {fx : Int32} {lv : Int64} {fb : Int32} {gr : Int32} {gl : Int32} {gc : Int32} {al : (Nat → Int32)} {ar : (Nat → Int32)} {sn : (Nat → Int32)} {ay : (Nat → Int32)} {an : (Nat → Int32)} {ap : (Nat → Int32)} {pd : (Nat → Int32)} {pc : (Nat → Int64)} {ct : (Nat → Int32)} {la : (Nat → Int32)} {ra : (Nat → Int32)} {bb : (Nat → Int32)} {bl : (Nat → Int32)} {br : (Nat → Int32)} {bs : (Nat → Int32)} {bm : (Nat → Int32)}
theorem pg_plc {post : Int32 → Prop} {L T i : Nat} {sq ps : Nat → Nat} (hP : pg_P L T sq ps) (hS : pg_S L sq ps ay an ap) (hi : i < L) (hp : post (pg_pl L sq ps pd i)) : wpX_placeCode post (fc, fa, fm, fr, fs, ft, fq, fx, lv, fb, gr, gl, gc, al, ar, sn, ay, an, ap, pd, pc, ct, la, ra, bb, bl, br, bs, bm) (nI (ps i)) := by
  obtain ⟨hy, hn, hv⟩ := hS
  have h48 := pg_lt48 hP hi
  have hcl : (nI (ps i)).toNatClampNeg = ps i := nI_clamp (by omega)
  have hin : vp_in (nI (ps i)) 48 := vp_in_nI h48 (by omega)
  have hni := hn i hi
  unfold pg_pl at hp
  by_cases h : i + 1 < L
  · rw [if_pos h] at hni hp
    have h48' := pg_lt48 hP h
    have hcl' : (nI (ps (i + 1))).toNatClampNeg = ps (i + 1) := nI_clamp (by omega)
    have hin' : vp_in (nI (ps (i + 1))) 48 := vp_in_nI h48' (by omega)
    have hs1 := hP.2.2.2.2 i hi
    have hs2 := hP.2.2.2.2 (i + 1) h
    have hcode : ay (nI (ps i)).toNatClampNeg * 32 + ay (nI (ps (i + 1))).toNatClampNeg = nI (sq i * 32 + sq (i + 1)) := by
      rw [hcl, hcl', hy i hi, hy (i + 1) h, pg_row]
    refine And.intro hin (nm_r (e' := nI (ps (i + 1))) (by rw [hcl]; exact hni) (br_t (nI_pos' (by omega)) (And.intro hin (And.intro hin' (nm_r (e' := nI (sq i * 32 + sq (i + 1))) hcode (And.intro hin ?_))))))
    unfold pg_pc at hp
    by_cases h0 : i = 0
    · subst h0
      rw [if_pos rfl] at hp
      rw [if_neg (fun z => pg_m1ne (by omega) z.2)] at hp
      refine nm_r (e' := -1) (by rw [hcl, hv 0 hi, if_pos rfl]) (And.intro hin (And.intro hin' (br_c (fun _ => ?_) (fun _ => hp))))
      exact br_t (by decide) hp
    · rw [if_neg h0] at hp
      have h48p := pg_lt48 hP (show i - 1 < L by omega)
      have hclp : (nI (ps (i - 1))).toNatClampNeg = ps (i - 1) := nI_clamp (by omega)
      refine nm_r (e' := nI (ps (i - 1))) (by rw [hcl, hv i hi, if_neg h0]) (And.intro hin (And.intro hin' (br_c (fun he => ?_) (fun he => ?_))))
      · rw [hcl, hcl', hy i hi, hy (i + 1) h, nI_eq (by omega) (by omega)] at he
        refine br_f (nI_pos (by omega)) (And.intro (vp_in_nI h48p (by omega)) (br_c (fun hb => ?_) (fun hb => ?_)))
        · rw [hclp] at hb
          rw [if_pos ⟨he, hb⟩] at hp
          exact hp
        · rw [hclp] at hb
          rw [if_neg (fun z => hb z.2)] at hp
          exact hp
      · rw [hcl, hcl', hy i hi, hy (i + 1) h, nI_eq (by omega) (by omega)] at he
        rw [if_neg (fun z => he z.1)] at hp
        exact hp
  · rw [if_neg h] at hni hp
    exact And.intro hin (nm_r (e' := -1) (by rw [hcl]; exact hni) (br_f (by decide) hp))
theorem pg_rel {post : Int32 → SX → Prop} {L T i : Nat} {sq ps : Nat → Nat} {p : Int32} (hpp : p = nI (ps i)) (hP : pg_P L T sq ps) (hS : pg_S L sq ps ay an ap) (hK : pg_K pd pc ct la ra lv) (hi : i < L)
    (hp : ∀ (pc' : Nat → Int64) (ct' la' ra' : Nat → Int32) (lv' : Int64), pg_K (upd pd (ps i) (pg_pl L sq ps pd i)) pc' ct' la' ra' lv' → post (if pd (ps i) = pg_pl L sq ps pd i then 0 else 1) (fc, fa, fm, fr, fs, ft, fq, fx, lv', fb, gr, gl, gc, al, ar, sn, ay, an, ap, upd pd (ps i) (pg_pl L sq ps pd i), pc', ct', la', ra', bb, bl, br, bs, bm)) :
    wpX_relink post (fc, fa, fm, fr, fs, ft, fq, fx, lv, fb, gr, gl, gc, al, ar, sn, ay, an, ap, pd, pc, ct, la, ra, bb, bl, br, bs, bm) p := by
  subst hpp
  unfold wpX_relink
  refine pg_plc hP hS hi ?_
  refine pg_setPlace hK (pg_lt48 hP hi) (pg_pl_val hP hi) ?_
  intro pc' ct' la' ra' lv' hK'
  refine And.intro ?_ (hp pc' ct' la' ra' lv' hK')
  split
  · exact narrow_b0
  · exact narrow_b1
theorem pg_pl_congr {L : Nat} {sq ps : Nat → Nat} {pd pd' : Nat → Int32} {i : Nat} (h : 0 < i → pd' (ps (i - 1)) = pd (ps (i - 1))) : pg_pl L sq ps pd' i = pg_pl L sq ps pd i := by
  unfold pg_pl
  by_cases e : i = 0
  · subst e; rw [if_pos rfl, if_pos rfl]
  · rw [if_neg e, if_neg e, h (by omega)]
theorem pg_okSelf {L T i : Nat} {sq ps : Nat → Nat} (hP : pg_P L T sq ps) (hi : i < L) : pg_ok L sq ps (upd pd (ps i) (pg_pl L sq ps pd i)) i := by
  unfold pg_ok
  rw [pk_us]
  exact (pg_pl_congr (fun h => pk_un (pg_ne hP (i := i - 1) (j := i) (by omega) (by omega) (by omega)))).symm
theorem pg_okOther {L T i j : Nat} {x : Int32} {sq ps : Nat → Nat} (hP : pg_P L T sq ps) (hi : i < L) (hj : j < L) (h1 : j ≠ i) (h2 : j ≠ i + 1) (ho : pg_ok L sq ps pd j) : pg_ok L sq ps (upd pd (ps i) x) j := by
  unfold pg_ok at *
  rw [pk_un (pg_ne hP (by omega) (by omega) h1), ho]
  exact (pg_pl_congr (fun h => pk_un (pg_ne hP (i := j - 1) (j := i) (by omega) (by omega) (by omega)))).symm
theorem pg_Dupd {L T i : Nat} {x : Int32} {sq ps : Nat → Nat} (hP : pg_P L T sq ps) (hi : i < L) (hD : pg_D L ps pd) : pg_D L ps (upd pd (ps i) x) := by
  intro j hj h
  rw [pk_un (Ne.symm (h i hi))]
  exact hD j hj h
theorem pg_settle4 {post : SX → Prop} {L T : Nat} {sq ps : Nat → Nat} (hP : pg_P L T sq ps) (hS : pg_S L sq ps ay an ap)
    (hp : ∀ (pd' : Nat → Int32) (pc' : Nat → Int64) (ct' la' ra' : Nat → Int32) (lv' : Int64), pg_K pd' pc' ct' la' ra' lv' → pg_D L ps pd' → (∀ i, i < L → pg_ok L sq ps pd' i) → post (fc, fa, fm, fr, fs, ft, fq, fx, lv', fb, gr, gl, gc, al, ar, sn, ay, an, ap, pd', pc', ct', la', ra', bb, bl, br, bs, bm)) :
    ∀ (d j k : Nat) (pd : Nat → Int32) (pc : Nat → Int64) (ct la ra : Nat → Int32) (lv : Int64), j + d = L → k < j → pg_K pd pc ct la ra lv → pg_D L ps pd → (∀ i, i < L → i ≠ j → pg_ok L sq ps pd i) →
      wX_settle_4 post (d + 1) (if j < L then nI (ps j) else -1) (nI k) fc fa fm fr fs ft fq fx lv fb gr gl gc al ar sn ay an ap pd pc ct la ra bb bl br bs bm := by
  have hL := pg_L48 hP
  intro d
  induction d with
  | zero =>
    intro j k pd pc ct la ra lv hj hk hK hD ho
    rw [if_neg (by omega)]
    refine br_f (nI_ge (b := 48) (by omega) (by decide)) (br_t (by decide) ?_)
    exact hp _ _ _ _ _ _ hK hD (fun i hi => ho i hi (by omega))
  | succ d ih =>
    intro j k pd pc ct la ra lv hj hk hK hD ho
    have hjL : j < L := by omega
    have h48 := pg_lt48 hP hjL
    rw [if_pos hjL]
    refine br_f (nI_ge (b := 48) (by omega) (by decide)) (br_f (nI_pos (by omega)) ?_)
    refine pg_rel rfl hP hS hK hjL ?_
    intro pc' ct' la' ra' lv' hK'
    by_cases e : pd (ps j) = pg_pl L sq ps pd j
    · rw [if_pos e]
      refine br_t rfl ?_
      refine hp _ _ _ _ _ _ hK' (pg_Dupd hP hjL hD) ?_
      intro i hi
      rw [pg_updSelf e]
      by_cases e2 : i = j
      · subst e2; exact e
      · exact ho i hi e2
    · rw [if_neg e]
      refine br_f (by decide) (And.intro (vp_in_nI h48 (by omega)) (nm_r (e' := if j + 1 < L then nI (ps (j + 1)) else -1) ?_ (nm_r (e' := nI (k + 1)) (nI_1 k) ?_)))
      · rw [nI_clamp (by omega)]
        exact hS.2.1 j hjL
      · refine ih (j + 1) (k + 1) _ _ _ _ _ _ (by omega) (by omega) hK' (pg_Dupd hP hjL hD) ?_
        intro i hi e2
        by_cases e3 : i = j
        · subst e3; exact pg_okSelf hP hi
        · exact pg_okOther hP hjL hi e3 e2 (ho i hi e3)
theorem pg_settle {post : SX → Prop} {L T j : Nat} {sq ps : Nat → Nat} {x : Int32} (hx : x = if j < L then nI (ps j) else -1) (hP : pg_P L T sq ps) (hS : pg_S L sq ps ay an ap) (hj : j ≤ L) (hj0 : 0 < j) (hK : pg_K pd pc ct la ra lv) (hD : pg_D L ps pd) (ho : ∀ i, i < L → i ≠ j → pg_ok L sq ps pd i)
    (hp : ∀ (pd' : Nat → Int32) (pc' : Nat → Int64) (ct' la' ra' : Nat → Int32) (lv' : Int64), pg_K pd' pc' ct' la' ra' lv' → pg_D L ps pd' → (∀ i, i < L → pg_ok L sq ps pd' i) → post (fc, fa, fm, fr, fs, ft, fq, fx, lv', fb, gr, gl, gc, al, ar, sn, ay, an, ap, pd', pc', ct', la', ra', bb, bl, br, bs, bm)) :
    wpX_settle post (fc, fa, fm, fr, fs, ft, fq, fx, lv, fb, gr, gl, gc, al, ar, sn, ay, an, ap, pd, pc, ct, la, ra, bb, bl, br, bs, bm) x := by
  subst hx
  exact Exists.intro (L - j + 1) (pg_settle4 hP hS hp (L - j) j 0 pd pc ct la ra lv (by omega) hj0 hK hD ho)
end PGD
end
section
section PGE
/-! extend, forget, replace over the threaded sequence -/
def pg_St (L : Nat) (ps : Nat → Nat) (fs : Int64) (ft : Int32) : Prop :=
  (∀ j, j < 64 → (pg_tb fs j = true ↔ ∃ i, i < L ∧ ps i = j)) ∧ (ft = if L = 0 then -1 else nI (ps (L - 1)))
def pg_X (L T : Nat) (sq ps : Nat → Nat) (fs : Int64) (ft : Int32) (ay an ap pd : Nat → Int32) (pc : Nat → Int64) (ct la ra : Nat → Int32) (lv : Int64) : Prop :=
  pg_P L T sq ps ∧ pg_S L sq ps ay an ap ∧ pg_St L ps fs ft ∧ pg_K pd pc ct la ra lv ∧ pg_D L ps pd ∧ ∀ i, i < L → pg_ok L sq ps pd i
theorem pg_eP {L T s w : Nat} {sq ps : Nat → Nat} (hP : pg_P L T sq ps) (hs : s < 32) (hw1 : 1 ≤ w) (hT : T + w ≤ 48) : pg_P (L + 1) (T + w) (pg_up sq L s) (pg_up ps (L + 1) (T + w)) := by
  obtain ⟨h0, hL, _, hm, hq⟩ := hP
  refine ⟨?_, pg_ups, hT, ?_, ?_⟩
  · rw [pg_upn (by omega)]; exact h0
  · intro i hi
    by_cases e : i = L
    · subst e; rw [pg_ups, pg_upn (by omega), hL]; omega
    · rw [pg_upn (by omega), pg_upn (by omega)]; exact hm i (by omega)
  · intro i hi
    by_cases e : i = L
    · subst e; rw [pg_ups]; exact hs
    · rw [pg_upn e]; exact hq i (by omega)
theorem pg_eS {L T s w : Nat} {sq ps : Nat → Nat} {ay an an' ap : Nat → Int32} {ft : Int32} (hP : pg_P L T sq ps) (hS : pg_S L sq ps ay an ap) (hft : ft = if L = 0 then -1 else nI (ps (L - 1)))
    (h1 : ∀ i, i + 1 < L → an' (ps i) = an (ps i)) (h2 : 0 < L → an' (ps (L - 1)) = nI T) (h3 : an' T = -1) :
    pg_S (L + 1) (pg_up sq L s) (pg_up ps (L + 1) (T + w)) (upd ay T (nI s)) an' (upd ap T ft) := by
  obtain ⟨hy, hn, hv⟩ := hS
  have hL := hP.2.1
  refine ⟨?_, ?_, ?_⟩
  · intro i hi
    rw [pg_upn (show i ≠ L + 1 by omega)]
    by_cases e : i = L
    · subst e; rw [hL, pk_us, pg_ups]
    · have := pg_lt hP (show i < L by omega)
      rw [pk_un (by omega), pg_upn e]
      exact hy i (by omega)
  · intro i hi
    rw [pg_upn (show i ≠ L + 1 by omega)]
    by_cases e : i = L
    · subst e; rw [hL, h3, if_neg (by omega)]
    · rw [if_pos (by omega), pg_upn (show i + 1 ≠ L + 1 by omega)]
      by_cases e2 : i + 1 = L
      · have e3 : i = L - 1 := by omega
        rw [e2, hL, e3]
        exact h2 (by omega)
      · rw [h1 i (by omega), hn i (by omega), if_pos (by omega)]
  · intro i hi
    rw [pg_upn (show i ≠ L + 1 by omega), pg_upn (show i - 1 ≠ L + 1 by omega)]
    by_cases e : i = L
    · subst e; rw [hL, pk_us]; exact hft
    · have := pg_lt hP (show i < L by omega)
      rw [pk_un (by omega)]
      exact hv i (by omega)
theorem pg_eSt {L T w : Nat} {sq ps : Nat → Nat} {fs : Int64} {ft : Int32} (hP : pg_P L T sq ps) (hT : T < 48) (hS : pg_St L ps fs ft) :
    pg_St (L + 1) (pg_up ps (L + 1) (T + w)) (fs ||| ((1 : Int64) <<< ((nI T).toInt64 &&& 63))) (nI T) := by
  have hL := hP.2.1
  refine ⟨?_, ?_⟩
  · intro j hj
    rw [pg_tb_set (by omega) hj, Bool.or_eq_true, hS.1 j hj]
    constructor
    · rintro (⟨i, hi, e⟩ | e)
      · exact ⟨i, by omega, by rw [pg_upn (by omega)]; exact e⟩
      · refine ⟨L, by omega, ?_⟩
        rw [pg_upn (by omega), hL]
        exact (of_decide_eq_true e).symm
    · rintro ⟨i, hi, e⟩
      rw [pg_upn (by omega)] at e
      by_cases e2 : i = L
      · subst e2
        right
        rw [hL] at e
        exact decide_eq_true e.symm
      · exact Or.inl ⟨i, by omega, e⟩
  · rw [if_neg (by omega), pg_upn (by omega)]
    show nI T = nI (ps L)
    rw [hL]
theorem pg_eD {L T w : Nat} {ps : Nat → Nat} {pd : Nat → Int32} (hD : pg_D L ps pd) : pg_D (L + 1) (pg_up ps (L + 1) (T + w)) pd := by
  intro j hj h
  refine hD j hj (fun i hi => ?_)
  have := h i (by omega)
  rw [pg_upn (by omega)] at this
  exact this
theorem pg_ePl {L T s w i : Nat} {sq ps : Nat → Nat} {pd : Nat → Int32} (hi : i + 1 < L) : pg_pl (L + 1) (pg_up sq L s) (pg_up ps (L + 1) (T + w)) pd i = pg_pl L sq ps pd i := by
  unfold pg_pl
  rw [if_pos hi, if_pos (show i + 1 < L + 1 by omega), pg_upn (show i ≠ L by omega), pg_upn (show i + 1 ≠ L by omega), pg_upn (show i - 1 ≠ L + 1 by omega)]
variable {fc : Int32} {fa : Int32} {fm : Int32} {fr : Int32} {fs : Int64} {ft : Int32} {fq : Int32} {fx : Int32} {lv : Int64} {fb : Int32} {gr : Int32} {gl : Int32} {gc : Int32} {al : (Nat → Int32)} {ar : (Nat → Int32)} {sn : (Nat → Int32)} {ay : (Nat → Int32)} {an : (Nat → Int32)} {ap : (Nat → Int32)} {pd : (Nat → Int32)} {pc : (Nat → Int64)} {ct : (Nat → Int32)} {la : (Nat → Int32)} {ra : (Nat → Int32)} {bb : (Nat → Int32)} {bl : (Nat → Int32)} {br : (Nat → Int32)} {bs : (Nat → Int32)} {bm : (Nat → Int32)}
theorem pg_extend {post : SX → Prop} {L T s w : Nat} {sq ps : Nat → Nat} (hX : pg_X L T sq ps fs ft ay an ap pd pc ct la ra lv) (hs : s < 32) (hw : sn s = nI w) (hw1 : 1 ≤ w) (hT : T + w ≤ 48)
    (hp : ∀ (fs' : Int64) (ft' : Int32) (ay' an' ap' pd' : Nat → Int32) (pc' : Nat → Int64) (ct' la' ra' : Nat → Int32) (lv' : Int64), pg_X (L + 1) (T + w) (pg_up sq L s) (pg_up ps (L + 1) (T + w)) fs' ft' ay' an' ap' pd' pc' ct' la' ra' lv' → post (fc, fa, fm, fr, fs', ft', nI (L + 1), nI (T + w), lv', fb, gr, gl, gc, al, ar, sn, ay', an', ap', pd', pc', ct', la', ra', bb, bl, br, bs, bm)) :
    wpX_extend post (fc, fa, fm, fr, fs, ft, nI L, nI T, lv, fb, gr, gl, gc, al, ar, sn, ay, an, ap, pd, pc, ct, la, ra, bb, bl, br, bs, bm) (nI s) := by
  obtain ⟨hP, hS, hSt, hK, hD, hok⟩ := hX
  have hL := hP.2.1
  have hin : vp_in (nI T) 48 := vp_in_nI (by omega) (by omega)
  have hcl : (nI T).toNatClampNeg = T := nI_clamp (by omega)
  have hP' := pg_eP (s := s) hP hs hw1 hT
  have hSt' := pg_eSt (w := w) hP (by omega) hSt
  have hD' := pg_eD (T := T) (w := w) hD
  have hpdT : pd T = -1 := hD T (by omega) (fun i hi => by have := pg_lt hP hi; omega)
  have hokT : ∀ pd' : Nat → Int32, pd' T = -1 → pg_ok (L + 1) (pg_up sq L s) (pg_up ps (L + 1) (T + w)) pd' L := by
    intro pd' h
    unfold pg_ok pg_pl
    rw [if_neg (by omega), pg_upn (by omega), hL]
    exact h
  refine And.intro hin (nm_r (e' := upd ay T (nI s)) (by rw [hcl]) (And.intro hin (nm_r (e' := upd an T (-1)) (by rw [hcl]) (And.intro hin (nm_r (e' := upd ap T ft) (by rw [hcl])
    (nm_e (nm_r (e' := nI (L + 1)) (nI_1 L) (And.intro (vp_in_nI hs (by omega)) (nm_r (e' := nI (T + w)) (by rw [nI_clamp (by omega), hw, nI_add]) ?_)))))))))
  have hft := hSt.2
  by_cases h0 : L = 0
  · subst h0
    refine br_t (by rw [hft, if_pos rfl]; decide) (hp _ _ _ _ _ _ _ _ _ _ _ ⟨hP', ?_, hSt', hK, hD', ?_⟩)
    · exact pg_eS hP hS hft (fun i hi => by omega) (fun h => by omega) pk_us
    · intro i hi
      have e : i = 0 := by omega
      subst e
      exact hokT pd hpdT
  · rw [if_neg h0] at hft
    have hlt := pg_lt hP (show L - 1 < L by omega)
    have hcl' : (nI (ps (L - 1))).toNatClampNeg = ps (L - 1) := nI_clamp (by omega)
    have hps : pg_up ps (L + 1) (T + w) (L - 1) = ps (L - 1) := pg_upn (by omega)
    have hS' : pg_S (L + 1) (pg_up sq L s) (pg_up ps (L + 1) (T + w)) (upd ay T (nI s)) (upd (upd an T (-1)) (ps (L - 1)) (nI T)) (upd ap T ft) := by
      refine pg_eS hP hS hSt.2 ?_ (fun _ => pk_us) ?_
      · intro i hi
        have h1 := pg_mono hP (i := i) (L - 1) (by omega) (by omega)
        rw [pk_un (by omega), pk_un (by omega)]
      · rw [pk_un (by omega), pk_us]
    refine br_f (by rw [hft]; exact nI_pos (by omega)) (And.intro (by rw [hft]; exact vp_in_nI (by omega) (by omega)) (nm_r (e' := upd (upd an T (-1)) (ps (L - 1)) (nI T)) (by rw [hft, hcl']) ?_))
    refine pg_rel (i := L - 1) (by rw [hps]; exact hft) hP' hS' hK (by omega) ?_
    intro pc' ct' la' ra' lv' hK'
    refine hp _ _ _ _ _ _ _ _ _ _ _ ⟨hP', hS', hSt', hK', pg_Dupd hP' (by omega) hD', ?_⟩
    intro i hi
    by_cases e : i = L - 1
    · subst e; exact pg_okSelf hP' hi
    · by_cases e2 : i = L
      · subst e2
        refine hokT _ ?_
        rw [hps, pk_un (by omega)]
        exact hpdT
      · refine pg_okOther hP' (by omega) hi e (by omega) ?_
        unfold pg_ok
        rw [pg_ePl (by omega), pg_upn (by omega)]
        exact hok i (by omega)
theorem pg_forget4 {post : SX → Prop} {L T : Nat} {sq ps : Nat → Nat} (hP : pg_P L T sq ps) (hS : pg_S L sq ps ay an ap)
    (hp : ∀ (pd' : Nat → Int32) (pc' : Nat → Int64) (ct' la' ra' : Nat → Int32) (lv' : Int64), pg_K pd' pc' ct' la' ra' lv' → (∀ j, j < 48 → pd' j = -1) → post (fc, fa, fm, 0, 0, -1, 0, 0, lv', fb, gr, gl, gc, al, ar, sn, ay, an, ap, pd', pc', ct', la', ra', bb, bl, br, bs, bm)) :
    ∀ (d k : Nat) (x : Int32) (pd : Nat → Int32) (pc : Nat → Int64) (ct la ra : Nat → Int32) (lv : Int64), k + d = L → (k < L → x = nI (ps k)) → pg_K pd pc ct la ra lv → (∀ j, j < 48 → (∀ i, k ≤ i → i < L → ps i ≠ j) → pd j = -1) →
      wX_forget_4 post (d + 1) x (nI k) fc fa fm fr fs ft (nI L) fx lv fb gr gl gc al ar sn ay an ap pd pc ct la ra bb bl br bs bm := by
  have hL := pg_L48 hP
  intro d
  induction d with
  | zero =>
    intro k x pd pc ct la ra lv hk hx hK hD
    refine br_t (nI_le (by omega) (by omega)) ?_
    exact hp _ _ _ _ _ _ hK (fun j hj => hD j hj (fun i h1 h2 => by omega))
  | succ d ih =>
    intro k x pd pc ct la ra lv hk hx hK hD
    have hkL : k < L := by omega
    have h48 := pg_lt48 hP hkL
    rw [hx hkL]
    refine br_f (nI_ge (by omega) (by omega)) ?_
    refine pg_setPlace hK h48 (Or.inl rfl) ?_
    intro pc' ct' la' ra' lv' hK'
    refine And.intro (vp_in_nI h48 (by omega)) (nm_r (e' := if k + 1 < L then nI (ps (k + 1)) else -1) (by rw [nI_clamp (by omega)]; exact hS.2.1 k hkL) (nm_r (e' := nI (k + 1)) (nI_1 k) ?_))
    refine ih (k + 1) _ _ _ _ _ _ _ (by omega) (fun h => if_pos h) hK' ?_
    intro j hj h
    by_cases e : j = ps k
    · subst e; exact pk_us
    · rw [pk_un e]
      refine hD j hj (fun i h1 h2 => ?_)
      by_cases e2 : i = k
      · subst e2; exact Ne.symm e
      · exact h i (by omega) h2
theorem pg_forget {post : SX → Prop} {L T : Nat} {sq ps sq' : Nat → Nat} (hX : pg_X L T sq ps fs ft ay an ap pd pc ct la ra lv)
    (hp : ∀ (fs' : Int64) (ft' : Int32) (ay' an' ap' pd' : Nat → Int32) (pc' : Nat → Int64) (ct' la' ra' : Nat → Int32) (lv' : Int64), pg_X 0 0 sq' (fun _ => 0) fs' ft' ay' an' ap' pd' pc' ct' la' ra' lv' → post (fc, fa, fm, nI 0, fs', ft', nI 0, nI 0, lv', fb, gr, gl, gc, al, ar, sn, ay', an', ap', pd', pc', ct', la', ra', bb, bl, br, bs, bm)) :
    wpX_forget post (fc, fa, fm, fr, fs, ft, nI L, fx, lv, fb, gr, gl, gc, al, ar, sn, ay, an, ap, pd, pc, ct, la, ra, bb, bl, br, bs, bm) := by
  obtain ⟨hP, hS, hSt, hK, hD, hok⟩ := hX
  refine Exists.intro (L + 1) (pg_forget4 hP hS ?_ L 0 0 pd pc ct la ra lv (by omega) (fun _ => by rw [hP.1]; rfl) hK ?_)
  · intro pd' pc' ct' la' ra' lv' hK' hall
    refine hp 0 (-1) ay an ap pd' pc' ct' la' ra' lv' ⟨⟨rfl, rfl, by omega, fun i hi => by omega, fun i hi => by omega⟩, ⟨fun i hi => by omega, fun i hi => by omega, fun i hi => by omega⟩, ⟨?_, rfl⟩, hK', fun j hj _ => hall j hj, fun i hi => by omega⟩
    intro j hj
    rw [pg_tb_0]
    constructor
    · intro h; exact absurd h (by decide)
    · rintro ⟨i, hi, _⟩; omega
  · intro j hj h
    exact hD j hj (fun i hi => h i (by omega) hi)
end PGE
end
section
section PGF
/-! replace: indices i and i + 1 become one -/
def pg_ms (i N : Nat) (sq : Nat → Nat) : Nat → Nat := fun j => if j < i then sq j else if j = i then N else sq (j + 1)
def pg_mp (i : Nat) (ps : Nat → Nat) : Nat → Nat := fun j => if j ≤ i then ps j else ps (j + 1)
theorem pg_ms_lt {i N j : Nat} {sq : Nat → Nat} (h : j < i) : pg_ms i N sq j = sq j := if_pos h
theorem pg_ms_eq {i N : Nat} {sq : Nat → Nat} : pg_ms i N sq i = N := by unfold pg_ms; rw [if_neg (by omega), if_pos rfl]
theorem pg_ms_gt {i N j : Nat} {sq : Nat → Nat} (h : i < j) : pg_ms i N sq j = sq (j + 1) := by unfold pg_ms; rw [if_neg (by omega), if_neg (by omega)]
theorem pg_mp_le {i j : Nat} {ps : Nat → Nat} (h : j ≤ i) : pg_mp i ps j = ps j := if_pos h
theorem pg_mp_gt {i j : Nat} {ps : Nat → Nat} (h : i < j) : pg_mp i ps j = ps (j + 1) := if_neg (by omega)
theorem pg_mP {L T i N : Nat} {sq ps : Nat → Nat} (hP : pg_P L T sq ps) (hi : i + 1 < L) (hN : N < 32) : pg_P (L - 1) T (pg_ms i N sq) (pg_mp i ps) := by
  refine ⟨?_, ?_, hP.2.2.1, ?_, ?_⟩
  · rw [pg_mp_le (by omega)]; exact hP.1
  · rw [pg_mp_gt (by omega), show L - 1 + 1 = L by omega]; exact hP.2.1
  · intro j hj
    rcases Nat.lt_trichotomy j i with z | z | z
    · rw [pg_mp_le (by omega), pg_mp_le (by omega)]; exact hP.2.2.2.1 j (by omega)
    · subst z
      rw [pg_mp_le (by omega), pg_mp_gt (by omega)]
      exact pg_mono hP (j + 1 + 1) (by omega) (by omega)
    · rw [pg_mp_gt (by omega), pg_mp_gt (by omega)]; exact hP.2.2.2.1 (j + 1) (by omega)
  · intro j hj
    rcases Nat.lt_trichotomy j i with z | z | z
    · rw [pg_ms_lt z]; exact hP.2.2.2.2 j (by omega)
    · subst z; rw [pg_ms_eq]; exact hN
    · rw [pg_ms_gt z]; exact hP.2.2.2.2 (j + 1) (by omega)
theorem pg_mS {L T i N : Nat} {sq ps : Nat → Nat} {ay an ap ap' : Nat → Int32} (hP : pg_P L T sq ps) (hS : pg_S L sq ps ay an ap) (hi : i + 1 < L)
    (h1 : ∀ j, j < L → j ≠ i + 2 → ap' (ps j) = ap (ps j)) (h2 : i + 2 < L → ap' (ps (i + 2)) = nI (ps i)) :
    pg_S (L - 1) (pg_ms i N sq) (pg_mp i ps) (upd ay (ps i) (nI N)) (upd an (ps i) (if i + 2 < L then nI (ps (i + 2)) else -1)) ap' := by
  obtain ⟨hy, hn, hv⟩ := hS
  refine ⟨?_, ?_, ?_⟩
  · intro j hj
    rcases Nat.lt_trichotomy j i with z | z | z
    · rw [pg_ms_lt z, pg_mp_le (by omega), pk_un (pg_ne hP (by omega) (by omega) (by omega))]; exact hy j (by omega)
    · subst z; rw [pg_ms_eq, pg_mp_le (by omega), pk_us]
    · rw [pg_ms_gt z, pg_mp_gt (by omega), pk_un (pg_ne hP (by omega) (by omega) (by omega))]; exact hy (j + 1) (by omega)
  · intro j hj
    rcases Nat.lt_trichotomy j i with z | z | z
    · rw [pg_mp_le (by omega), pg_mp_le (by omega), pk_un (pg_ne hP (by omega) (by omega) (by omega)), hn j (by omega), if_pos (by omega), if_pos (by omega)]
    · subst z
      rw [pg_mp_le (by omega), pg_mp_gt (by omega), pk_us]
      by_cases e : j + 2 < L
      · rw [if_pos e, if_pos (by omega)]
      · rw [if_neg e, if_neg (by omega)]
    · rw [pg_mp_gt (by omega), pg_mp_gt (by omega), pk_un (pg_ne hP (by omega) (by omega) (by omega)), hn (j + 1) (by omega)]
      by_cases e : j + 1 + 1 < L
      · rw [if_pos e, if_pos (by omega)]
      · rw [if_neg e, if_neg (by omega)]
  · intro j hj
    by_cases z : j ≤ i
    · rw [pg_mp_le z, pg_mp_le (by omega), h1 j (by omega) (by omega)]
      exact hv j (by omega)
    · by_cases z2 : j = i + 1
      · subst z2
        rw [pg_mp_gt (by omega), if_neg (by omega), pg_mp_le (by omega)]
        exact h2 (by omega)
      · rw [pg_mp_gt (by omega), if_neg (by omega), pg_mp_gt (by omega), h1 (j + 1) (by omega) (by omega), hv (j + 1) (by omega), if_neg (by omega)]
        exact congrArg (fun t => nI (ps t)) (by omega)
theorem pg_mSt {L T i : Nat} {sq ps : Nat → Nat} {fs : Int64} {ft : Int32} (hP : pg_P L T sq ps) (hi : i + 1 < L) (hS : pg_St L ps fs ft) :
    pg_St (L - 1) (pg_mp i ps) (fs &&& (((1 : Int64) <<< ((nI (ps (i + 1))).toInt64 &&& 63)) ^^^ (-1))) (if i + 2 < L then ft else nI (ps i)) := by
  have h48 := pg_lt48 hP hi
  refine ⟨?_, ?_⟩
  · intro j hj
    rw [pg_tb_clr (by omega) hj, Bool.and_eq_true, hS.1 j hj]
    constructor
    · rintro ⟨⟨k, hk, e⟩, e2⟩
      have e3 : j ≠ ps (i + 1) := by simpa using e2
      have e4 : k ≠ i + 1 := by intro z; subst z; exact e3 e.symm
      by_cases z : k ≤ i
      · exact ⟨k, by omega, by rw [pg_mp_le z]; exact e⟩
      · refine ⟨k - 1, by omega, ?_⟩
        rw [pg_mp_gt (by omega), show k - 1 + 1 = k by omega]
        exact e
    · rintro ⟨k, hk, e⟩
      by_cases z : k ≤ i
      · rw [pg_mp_le z] at e
        have := pg_ne hP (i := k) (j := i + 1) (by omega) (by omega) (by omega)
        refine ⟨⟨k, by omega, e⟩, ?_⟩
        rw [← e]
        simpa using this
      · rw [pg_mp_gt (by omega)] at e
        have := pg_ne hP (i := k + 1) (j := i + 1) (by omega) (by omega) (by omega)
        refine ⟨⟨k + 1, by omega, e⟩, ?_⟩
        rw [← e]
        simpa using this
  · rw [if_neg (show ¬ L - 1 = 0 by omega)]
    by_cases e : i + 2 < L
    · rw [if_pos e, hS.2, if_neg (by omega), pg_mp_gt (by omega)]
      exact congrArg (fun t => nI (ps t)) (by omega)
    · rw [if_neg e, pg_mp_le (by omega)]
      exact congrArg (fun t => nI (ps t)) (by omega)
theorem pg_mD {L T i : Nat} {sq ps : Nat → Nat} {pd : Nat → Int32} (hP : pg_P L T sq ps) (hi : i + 1 < L) (hD : pg_D L ps pd) : pg_D (L - 1) (pg_mp i ps) (upd pd (ps (i + 1)) (-1)) := by
  intro j hj h
  by_cases e : j = ps (i + 1)
  · subst e; exact pk_us
  · rw [pk_un e]
    refine hD j hj (fun k hk => ?_)
    by_cases e2 : k = i + 1
    · subst e2; exact Ne.symm e
    · by_cases z : k ≤ i
      · have := h k (by omega)
        rw [pg_mp_le z] at this
        exact this
      · have := h (k - 1) (by omega)
        rw [pg_mp_gt (by omega), show k - 1 + 1 = k by omega] at this
        exact this
theorem pg_mok {L T i N j : Nat} {sq ps : Nat → Nat} {pd : Nat → Int32} (hP : pg_P L T sq ps) (hi : i + 1 < L) (hj : j < L - 1) (h1 : j + 1 ≠ i) (h2 : j ≠ i) (h3 : j ≠ i + 1) (hok : ∀ k, k < L → pg_ok L sq ps pd k) :
    pg_ok (L - 1) (pg_ms i N sq) (pg_mp i ps) (upd pd (ps (i + 1)) (-1)) j := by
  have F : ∀ k, k < L → k ≠ i + 1 → upd pd (ps (i + 1)) (-1) (ps k) = pd (ps k) := fun k hk e => pk_un (pg_ne hP (by omega) (by omega) e)
  unfold pg_ok
  by_cases z : j ≤ i
  · have H := hok j (by omega)
    unfold pg_ok at H
    rw [pg_mp_le z, F j (by omega) (by omega), H]
    unfold pg_pl
    rw [if_pos (show j + 1 < L by omega), if_pos (show j + 1 < L - 1 by omega), pg_ms_lt (show j < i by omega), pg_ms_lt (show j + 1 < i by omega), pg_mp_le (show j - 1 ≤ i by omega), F (j - 1) (by omega) (by omega)]
  · have H := hok (j + 1) (by omega)
    unfold pg_ok at H
    rw [pg_mp_gt (by omega), F (j + 1) (by omega) (by omega), H]
    unfold pg_pl
    by_cases e : j + 1 + 1 < L
    · rw [if_pos e, if_pos (show j + 1 < L - 1 by omega), pg_ms_gt (show i < j by omega), pg_ms_gt (show i < j + 1 by omega), pg_mp_gt (show i < j - 1 by omega), show j - 1 + 1 = j by omega, F j (by omega) (by omega), if_neg (show ¬ j + 1 = 0 by omega), if_neg (show ¬ j = 0 by omega), show j + 1 - 1 = j by omega]
    · rw [if_neg e, if_neg (show ¬ j + 1 < L - 1 by omega)]
variable {fc : Int32} {fa : Int32} {fm : Int32} {fr : Int32} {fs : Int64} {ft : Int32} {fq : Int32} {fx : Int32} {lv : Int64} {fb : Int32} {gr : Int32} {gl : Int32} {gc : Int32} {al : (Nat → Int32)} {ar : (Nat → Int32)} {sn : (Nat → Int32)} {ay : (Nat → Int32)} {an : (Nat → Int32)} {ap : (Nat → Int32)} {pd : (Nat → Int32)} {pc : (Nat → Int64)} {ct : (Nat → Int32)} {la : (Nat → Int32)} {ra : (Nat → Int32)} {bb : (Nat → Int32)} {bl : (Nat → Int32)} {br : (Nat → Int32)} {bs : (Nat → Int32)} {bm : (Nat → Int32)}
theorem pg_rep104 {post : SX → Prop} {L T i : Nat} {x1 x4 : Int32} {sq ps : Nat → Nat} (hx1 : x1 = nI (ps i)) (hx4 : x4 = if i + 1 < L then nI (ps (i + 1)) else -1) (hP : pg_P L T sq ps) (hS : pg_S L sq ps ay an ap) (hi : i < L) (hK : pg_K pd pc ct la ra lv) (hD : pg_D L ps pd)
    (ho : ∀ j, j < L → j ≠ i → j ≠ i + 1 → pg_ok L sq ps pd j)
    (hp : ∀ (pd' : Nat → Int32) (pc' : Nat → Int64) (ct' la' ra' : Nat → Int32) (lv' : Int64), pg_K pd' pc' ct' la' ra' lv' → pg_D L ps pd' → (∀ i, i < L → pg_ok L sq ps pd' i) → post (fc, fa, fm, fr, fs, ft, fq, fx, lv', fb, gr, gl, gc, al, ar, sn, ay, an, ap, pd', pc', ct', la', ra', bb, bl, br, bs, bm)) : wX_replace_104 post x1 x4 fc fa fm fr fs ft fq fx lv fb gr gl gc al ar sn ay an ap pd pc ct la ra bb bl br bs bm := by
  unfold wX_replace_104
  refine pg_rel hx1 hP hS hK hi ?_
  intro pc' ct' la' ra' lv' hK'
  refine pg_settle hx4 hP hS (by omega) (by omega) hK' (pg_Dupd hP hi hD) ?_ hp
  intro j hj e
  by_cases e2 : j = i
  · subst e2; exact pg_okSelf hP hj
  · exact pg_okOther hP hi hj e2 e (ho j hj e2 e)
theorem pg_rep58 {post : SX → Prop} {L0 L T i : Nat} {x1 x3 x4 : Int32} {sq ps : Nat → Nat} (hL0 : L0 = L + 1) (hx1 : x1 = nI (ps i)) (hx4 : x4 = if i + 1 < L then nI (ps (i + 1)) else -1) (hP : pg_P L T sq ps) (hS : pg_S L sq ps ay an ap) (hi : i < L) (hK : pg_K pd pc ct la ra lv) (hD : pg_D L ps pd)
    (ho : ∀ j, j < L → j + 1 ≠ i → j ≠ i → j ≠ i + 1 → pg_ok L sq ps pd j)
    (hp : ∀ (pd' : Nat → Int32) (pc' : Nat → Int64) (ct' la' ra' : Nat → Int32) (lv' : Int64), pg_K pd' pc' ct' la' ra' lv' → pg_D L ps pd' → (∀ i, i < L → pg_ok L sq ps pd' i) → post (fc, fa, fm, fr, fs &&& (((1 : Int64) <<< (x3.toInt64 &&& 63)) ^^^ (-1)), ft, nI L, fx, lv', fb, gr, gl, gc, al, ar, sn, ay, an, ap, pd', pc', ct', la', ra', bb, bl, br, bs, bm)) : wX_replace_58 post x1 x3 x4 fc fa fm fr fs ft (nI L0) fx lv fb gr gl gc al ar sn ay an ap pd pc ct la ra bb bl br bs bm := by
  have h48 := pg_lt48 hP hi
  have hin : vp_in x1 48 := by rw [hx1]; exact vp_in_nI h48 (by omega)
  have hap : ap x1.toNatClampNeg = if i = 0 then -1 else nI (ps (i - 1)) := by rw [hx1, nI_clamp (by omega)]; exact hS.2.2 i hi
  refine nm_e (nm_r (e' := nI L) (by rw [hL0]; exact nI_pred L) (And.intro hin ?_))
  by_cases h0 : i = 0
  · rw [if_pos h0] at hap
    refine br_t (by rw [hap]; decide) ?_
    exact pg_rep104 hx1 hx4 hP hS hi hK hD (fun j hj a b => ho j hj (by omega) a b) hp
  · rw [if_neg h0] at hap
    have h48' := pg_lt48 hP (show i - 1 < L by omega)
    refine br_f (by rw [hap]; exact nI_pos (by omega)) (And.intro hin ?_)
    refine pg_rel (i := i - 1) hap hP hS hK (by omega) ?_
    intro pc' ct' la' ra' lv' hK'
    refine pg_rep104 hx1 hx4 hP hS hi hK' (pg_Dupd hP (by omega) hD) ?_ hp
    intro j hj a b
    by_cases e2 : j = i - 1
    · subst e2; exact pg_okSelf hP hj
    · exact pg_okOther hP (by omega) hj e2 (by omega) (ho j hj (by omega) a b)
theorem pg_replace {post : SX → Prop} {L T i N : Nat} {sq ps : Nat → Nat} (hX : pg_X L T sq ps fs ft ay an ap pd pc ct la ra lv) (hi : i + 1 < L) (hN : N < 32)
    (hp : ∀ (fs' : Int64) (ft' : Int32) (ay' an' ap' pd' : Nat → Int32) (pc' : Nat → Int64) (ct' la' ra' : Nat → Int32) (lv' : Int64), pg_X (L - 1) T (pg_ms i N sq) (pg_mp i ps) fs' ft' ay' an' ap' pd' pc' ct' la' ra' lv' → post (fc, fa, fm, fr, fs', ft', nI (L - 1), fx, lv', fb, gr, gl, gc, al, ar, sn, ay', an', ap', pd', pc', ct', la', ra', bb, bl, br, bs, bm)) :
    wpX_replace post (fc, fa, fm, fr, fs, ft, nI L, fx, lv, fb, gr, gl, gc, al, ar, sn, ay, an, ap, pd, pc, ct, la, ra, bb, bl, br, bs, bm) (nI (ps i)) (nI N) := by
  obtain ⟨hP, hS, hSt, hK, hD, hok⟩ := hX
  have hPi := pg_lt48 hP (show i < L by omega)
  have hPg := pg_lt48 hP hi
  have hcl : (nI (ps i)).toNatClampNeg = ps i := nI_clamp (by omega)
  have hin : vp_in (nI (ps i)) 48 := vp_in_nI hPi (by omega)
  have hn1 := hS.2.1 i (by omega)
  rw [if_pos hi] at hn1
  have hn2 := hS.2.1 (i + 1) hi
  have hP' := pg_mP hP hi hN
  have hSt' := pg_mSt hP hi hSt
  have hD' := pg_mD hP hi hD
  have hps : pg_mp i ps i = ps i := pg_mp_le (by omega)
  have hx4 : (if i + 2 < L then nI (ps (i + 2)) else -1) = if i + 1 < L - 1 then nI (pg_mp i ps (i + 1)) else -1 := by
    rw [pg_mp_gt (by omega)]
    by_cases e : i + 2 < L
    · rw [if_pos e, if_pos (by omega)]
    · rw [if_neg e, if_neg (by omega)]
  refine And.intro hin (nm_r (e' := nI (ps (i + 1))) (by rw [hcl]; exact hn1) (And.intro (vp_in_nI hPg (by omega)) (nm_r (e' := if i + 2 < L then nI (ps (i + 2)) else -1) (by rw [nI_clamp (by omega)]; exact hn2) ?_)))
  refine pg_setPlace hK hPg (Or.inl rfl) ?_
  intro pc' ct' la' ra' lv' hK'
  refine And.intro hin (nm_r (e' := upd ay (ps i) (nI N)) (by rw [hcl]) (And.intro hin (nm_r (e' := upd an (ps i) (if i + 2 < L then nI (ps (i + 2)) else -1)) (by rw [hcl]) ?_)))
  by_cases e : i + 2 < L
  · have hP2 := pg_lt48 hP e
    have hne := pg_ne hP (i := i + 2) (j := i)
    rw [if_pos e] at hx4 hSt'
    have hS' := pg_mS (N := N) (ap' := upd ap (ps (i + 2)) (nI (ps i))) hP hS hi (fun j hj e2 => pk_un (pg_ne hP (by omega) (by omega) e2)) (fun _ => pk_us)
    rw [if_pos e] at hS' ⊢
    refine br_f (nI_pos (by omega)) (And.intro (vp_in_nI hP2 (by omega)) (nm_r (e' := upd ap (ps (i + 2)) (nI (ps i))) (by rw [nI_clamp (by omega)]) ?_))
    refine pg_rep58 (L := L - 1) (i := i) (by omega) (by rw [hps]) hx4 hP' hS' (by omega) hK' hD' (fun j hj a b c => pg_mok hP hi hj a b c hok) ?_
    intro pd'' pc'' ct'' la'' ra'' lv'' hK'' hD'' ho''
    exact hp _ _ _ _ _ _ _ _ _ _ _ ⟨hP', hS', hSt', hK'', hD'', ho''⟩
  · rw [if_neg e] at hx4 hSt'
    have hS' := pg_mS (N := N) (ap' := ap) hP hS hi (fun j hj e2 => rfl) (fun z => absurd z e)
    rw [if_neg e] at hS' ⊢
    refine br_t (by decide) ?_
    refine pg_rep58 (L := L - 1) (i := i) (by omega) (by rw [hps]) hx4 hP' hS' (by omega) hK' hD' (fun j hj a b c => pg_mok hP hi hj a b c hok) ?_
    intro pd'' pc'' ct'' la'' ra'' lv'' hK'' hD'' ho''
    exact hp _ _ _ _ _ _ _ _ _ _ _ ⟨hP', hS', hSt', hK'', hD'', ho''⟩
end PGF
end
section
section PGG
/-! the greedy places of a pair, and the rewriting -/
def pg_mt (x y L : Nat) (sq : Nat → Nat) (i : Nat) : Bool := decide (i + 1 < L ∧ sq i = x ∧ sq (i + 1) = y)
def pg_G (x y L : Nat) (sq : Nat → Nat) : Nat → Bool
  | 0 => pg_mt x y L sq 0
  | i + 1 => pg_mt x y L sq (i + 1) && !pg_G x y L sq i
theorem pg_G_s {x y L : Nat} {sq : Nat → Nat} {i : Nat} : pg_G x y L sq (i + 1) = (pg_mt x y L sq (i + 1) && !pg_G x y L sq i) := rfl
theorem pg_mt_iff {x y L : Nat} {sq : Nat → Nat} {i : Nat} : pg_mt x y L sq i = true ↔ i + 1 < L ∧ sq i = x ∧ sq (i + 1) = y := by
  unfold pg_mt; rw [decide_eq_true_iff]
theorem pg_G_mt {x y L : Nat} {sq : Nat → Nat} {i : Nat} (h : pg_G x y L sq i = true) : i + 1 < L ∧ sq i = x ∧ sq (i + 1) = y := by
  cases i with
  | zero => exact pg_mt_iff.mp h
  | succ i =>
    rw [pg_G_s, Bool.and_eq_true] at h
    exact pg_mt_iff.mp h.1
theorem pg_mt_congr {x y L L' : Nat} {sq sq' : Nat → Nat} {i i' : Nat} (h1 : i + 1 < L ↔ i' + 1 < L') (h2 : i + 1 < L → sq i = sq' i') (h3 : i + 1 < L → sq (i + 1) = sq' (i' + 1)) : pg_mt x y L sq i = pg_mt x y L' sq' i' := by
  unfold pg_mt
  by_cases e : i + 1 < L
  · have e' := h1.mp e
    rw [h2 e, h3 e]
    simp [e, e']
  · have e' : ¬ i' + 1 < L' := fun z => e (h1.mpr z)
    simp [e, e']
theorem pg_G_congr {x y L : Nat} {sq sq' : Nat → Nat} (h : ∀ i, i < L → sq i = sq' i) : ∀ i, pg_G x y L sq i = pg_G x y L sq' i := by
  intro i
  induction i with
  | zero => exact pg_mt_congr (by omega) (fun z => h _ (by omega)) (fun z => h _ (by omega))
  | succ i ih =>
    rw [pg_G_s, pg_G_s, ih]
    rw [pg_mt_congr (L' := L) (sq' := sq') (i' := i + 1) (by omega) (fun z => h _ (by omega)) (fun z => h _ (by omega))]
theorem pg_code {a b x y : Nat} (ha : a < 32) (hb : b < 32) (hx : x < 32) (hy : y < 32) : nI (a * 32 + b) = nI (x * 32 + y) ↔ a = x ∧ b = y := by
  rw [nI_eq (by omega) (by omega)]
  omega
theorem pg_pc_iff {b : Int32} {a c x y : Nat} (ha : a < 32) (hc : c < 32) (hx : x < 32) (hy : y < 32) : pg_pc b a c = nI (x * 32 + y) ↔ a = x ∧ c = y ∧ ¬ (x = y ∧ b = nI (x * 32 + y)) := by
  unfold pg_pc
  by_cases e : a = c ∧ b = nI (a * 32 + c)
  · rw [if_pos e]
    constructor
    · intro z; exact absurd z (pg_m1ne (by omega))
    · rintro ⟨rfl, rfl, z⟩; exact absurd e z
  · rw [if_neg e, pg_code ha hc hx hy]
    constructor
    · rintro ⟨rfl, rfl⟩; exact ⟨rfl, rfl, e⟩
    · rintro ⟨rfl, rfl, _⟩; exact ⟨rfl, rfl⟩
/-- where all places are right, those of the pair (x, y) are the greedy ones -/
theorem pg_okG {x y L T : Nat} {sq ps : Nat → Nat} {pd : Nat → Int32} (hP : pg_P L T sq ps) (hx : x < 32) (hy : y < 32) (hok : ∀ i, i < L → pg_ok L sq ps pd i) :
    ∀ i, i < L → (pd (ps i) = nI (x * 32 + y) ↔ pg_G x y L sq i = true) := by
  intro i
  induction i with
  | zero =>
    intro hi
    rw [hok 0 hi]
    unfold pg_pl
    by_cases e : 0 + 1 < L
    · rw [if_pos e, if_pos rfl, pg_pc_iff (hP.2.2.2.2 0 hi) (hP.2.2.2.2 (0 + 1) e) hx hy]
      show _ ↔ pg_mt x y L sq 0 = true
      rw [pg_mt_iff]
      constructor
      · rintro ⟨a, b, _⟩; exact ⟨e, a, b⟩
      · rintro ⟨_, a, b⟩; exact ⟨a, b, fun z => pg_m1ne (by omega) z.2⟩
    · rw [if_neg e]
      constructor
      · intro z; exact absurd z (pg_m1ne (by omega))
      · intro z; exact absurd (pg_G_mt z).1 e
  | succ i ih =>
    intro hi
    have IH := ih (by omega)
    rw [hok (i + 1) hi]
    unfold pg_pl
    by_cases e : i + 1 + 1 < L
    · rw [if_pos e, if_neg (by omega), show i + 1 - 1 = i by omega, pg_pc_iff (hP.2.2.2.2 _ hi) (hP.2.2.2.2 _ e) hx hy, IH, pg_G_s, Bool.and_eq_true, pg_mt_iff, Bool.not_eq_true']
      constructor
      · rintro ⟨a, b, c⟩
        refine ⟨⟨e, a, b⟩, ?_⟩
        apply ts_nt
        intro z
        have := (pg_G_mt z).2.2
        exact c ⟨by omega, z⟩
      · rintro ⟨⟨_, a, b⟩, c⟩
        refine ⟨a, b, ?_⟩
        rintro ⟨_, z⟩
        rw [z] at c
        exact absurd c (by decide)
    · rw [if_neg e]
      constructor
      · intro z; exact absurd z (pg_m1ne (by omega))
      · intro z; exact absurd (pg_G_mt z).1 e
/-- the number of greedy places below n -/
def pg_gc (x y L : Nat) (sq : Nat → Nat) : Nat → Nat
  | 0 => 0
  | n + 1 => pg_gc x y L sq n + (if pg_G x y L sq n = true then 1 else 0)
theorem pg_gc_s {x y L : Nat} {sq : Nat → Nat} {n : Nat} : pg_gc x y L sq (n + 1) = pg_gc x y L sq n + (if pg_G x y L sq n = true then 1 else 0) := rfl
theorem pg_cnGap {pd : Nat → Int32} {c a : Nat} : ∀ b, a ≤ b → (∀ j, a ≤ j → j < b → ¬ pd j = nI c) → pg_cn pd c b = pg_cn pd c a := by
  intro b
  induction b with
  | zero => intro h _; rw [show a = 0 by omega]
  | succ b ih =>
    intro h h2
    by_cases e : a = b + 1
    · rw [e]
    · rw [pg_cn_s, if_neg (h2 b (by omega) (by omega)), Nat.add_zero]
      exact ih (by omega) (fun j h3 h4 => h2 j h3 (by omega))
theorem pg_cnG {x y L T : Nat} {sq ps : Nat → Nat} {pd : Nat → Int32} (hP : pg_P L T sq ps) (hx : x < 32) (hy : y < 32) (hD : pg_D L ps pd) (hok : ∀ i, i < L → pg_ok L sq ps pd i) :
    pg_cn pd (x * 32 + y) 48 = pg_gc x y L sq L := by
  have hoff : ∀ j, j < 48 → (∀ i, i < L → ps i ≠ j) → ¬ pd j = nI (x * 32 + y) := by
    intro j hj h
    rw [hD j hj h]
    exact pg_m1ne (by omega)
  have key : ∀ i, i ≤ L → pg_cn pd (x * 32 + y) (ps i) = pg_gc x y L sq i := by
    intro i
    induction i with
    | zero => intro _; rw [hP.1]; rfl
    | succ i ih =>
      intro hi
      have h1 := hP.2.2.2.1 i (by omega)
      have hiL : ps (i + 1) ≤ 48 := by
        rcases Nat.lt_or_ge (i + 1) L with z | z
        · have := pg_lt48 hP z; omega
        · have e : i + 1 = L := by omega
          rw [e, hP.2.1]; exact hP.2.2.1
      rw [pg_cnGap (a := ps i + 1) (ps (i + 1)) (by omega), pg_cn_s, ih (by omega), pg_gc_s]
      · have hG := pg_okG hP hx hy hok i (by omega)
        by_cases e : pd (ps i) = nI (x * 32 + y)
        · rw [if_pos e, if_pos (hG.mp e)]
        · rw [if_neg e, if_neg (fun z => e (hG.mpr z))]
      · intro j h2 h3
        refine hoff j (by omega) (fun k hk e => ?_)
        rcases Nat.lt_trichotomy k i with z | z | z
        · have := pg_mono hP i z (by omega); omega
        · subst z; omega
        · rcases Nat.lt_or_ge (i + 1) k with z2 | z2
          · have := pg_mono hP k z2 (by omega); omega
          · have e2 : k = i + 1 := by omega
            subst e2; omega
  have h48 := hP.2.2.1
  have hTL := hP.2.1
  rw [← key L (Nat.le_refl L), hTL]
  refine pg_cnGap 48 h48 (fun j h1 h2 => hoff j h2 (fun i hi e => ?_))
  have := pg_lt hP hi
  omega
/-- merging the first greedy place -/
theorem pg_mG {x y N L i0 : Nat} {sq : Nat → Nat} (hNx : N ≠ x) (hNy : N ≠ y) (h0 : pg_G x y L sq i0 = true) (hf : ∀ j, j < i0 → pg_G x y L sq j = false) :
    (∀ j, j ≤ i0 → pg_G x y (L - 1) (pg_ms i0 N sq) j = false) ∧ (∀ j, i0 < j → pg_G x y (L - 1) (pg_ms i0 N sq) j = pg_G x y L sq (j + 1)) := by
  have hL := (pg_G_mt h0).1
  have hmt : ∀ j, j < i0 → pg_mt x y L sq j = false := by
    intro j hj
    cases j with
    | zero => exact hf 0 hj
    | succ j =>
      have := hf (j + 1) hj
      rw [pg_G_s, hf j (by omega)] at this
      simpa using this
  have hlow : ∀ j, j ≤ i0 → pg_mt x y (L - 1) (pg_ms i0 N sq) j = false := by
    intro j hj
    apply ts_nt
    intro z
    obtain ⟨a, b, c⟩ := pg_mt_iff.mp z
    rcases Nat.lt_trichotomy j i0 with t | t | t
    · rw [pg_ms_lt t] at b
      by_cases e : j + 1 = i0
      · rw [e, pg_ms_eq] at c; exact hNy c
      · rw [pg_ms_lt (by omega)] at c
        have := hmt j t
        rw [pg_mt_iff.mpr ⟨by omega, b, c⟩] at this
        exact absurd this (by decide)
    · subst t; rw [pg_ms_eq] at b; exact hNx b
    · omega
  have hlowG : ∀ j, j ≤ i0 → pg_G x y (L - 1) (pg_ms i0 N sq) j = false := by
    intro j hj
    cases j with
    | zero => exact hlow 0 hj
    | succ j => rw [pg_G_s, hlow (j + 1) hj]; rfl
  refine ⟨hlowG, ?_⟩
  have hmt2 : ∀ j, i0 < j → pg_mt x y (L - 1) (pg_ms i0 N sq) j = pg_mt x y L sq (j + 1) := by
    intro j hj
    refine pg_mt_congr (by omega) (fun _ => pg_ms_gt hj) (fun _ => pg_ms_gt (by omega))
  have h1 : pg_G x y L sq (i0 + 1) = false := by rw [pg_G_s, h0]; simp
  intro j
  induction j with
  | zero => intro h; omega
  | succ j ih =>
    intro hj
    rw [pg_G_s, hmt2 (j + 1) hj, pg_G_s (i := j + 1)]
    by_cases e : i0 = j
    · subst e; rw [hlowG i0 (Nat.le_refl _), h1]
    · rw [ih (by omega)]
/-- index i is the second of a place -/
def pg_sk (x y L : Nat) (sq : Nat → Nat) : Nat → Bool
  | 0 => false
  | i + 1 => pg_G x y L sq i
/-- out, of length Lo, is sq with every greedy place of (x, y) written N -/
def pg_Rw (x y N L : Nat) (sq : Nat → Nat) (Lo : Nat) (out : Nat → Nat) : Prop :=
  ∃ kp : Nat → Nat, kp 0 = 0 ∧ kp L = Lo ∧ ∀ i, i < L → (pg_sk x y L sq i = true → kp (i + 1) = kp i) ∧ (pg_sk x y L sq i = false → kp (i + 1) = kp i + 1 ∧ out (kp i) = if pg_G x y L sq i = true then N else sq i)
theorem pg_RwRefl {x y N L : Nat} {sq : Nat → Nat} (h : ∀ i, i < L → pg_G x y L sq i = false) : pg_Rw x y N L sq L sq := by
  refine ⟨fun i => i, rfl, rfl, fun i hi => ⟨?_, ?_⟩⟩
  · intro z
    cases i with
    | zero => exact absurd z Bool.false_ne_true
    | succ i =>
      have z2 : pg_G x y L sq i = true := z
      rw [h i (by omega)] at z2
      exact absurd z2 (by decide)
  · intro _
    rw [h i hi]
    exact ⟨rfl, rfl⟩
theorem pg_RwStep {x y N L i0 Lo : Nat} {sq out : Nat → Nat} (hNx : N ≠ x) (hNy : N ≠ y) (h0 : pg_G x y L sq i0 = true) (hf : ∀ j, j < i0 → pg_G x y L sq j = false)
    (h : pg_Rw x y N (L - 1) (pg_ms i0 N sq) Lo out) : pg_Rw x y N L sq Lo out := by
  obtain ⟨kp, hk0, hkL, hk⟩ := h
  obtain ⟨g1, g2⟩ := pg_mG hNx hNy h0 hf
  have hL := (pg_G_mt h0).1
  have s1 : ∀ j, j ≤ i0 + 1 → pg_sk x y (L - 1) (pg_ms i0 N sq) j = false := by
    intro j hj
    cases j with
    | zero => rfl
    | succ j => exact g1 j (by omega)
  have s2 : ∀ j, i0 + 1 < j → pg_sk x y (L - 1) (pg_ms i0 N sq) j = pg_sk x y L sq (j + 1) := by
    intro j hj
    cases j with
    | zero => omega
    | succ j => exact g2 j (by omega)
  have s3 : ∀ j, j ≤ i0 → pg_sk x y L sq j = false := by
    intro j hj
    cases j with
    | zero => rfl
    | succ j => exact hf j (by omega)
  have s4 : pg_sk x y L sq (i0 + 1) = true := h0
  have g3 : pg_G x y L sq (i0 + 1) = false := by rw [pg_G_s, h0]; simp
  have s5 : pg_sk x y L sq (i0 + 2) = false := g3
  refine ⟨fun i => if i ≤ i0 + 1 then kp i else kp (i - 1), ?_, ?_, ?_⟩
  · show (if 0 ≤ i0 + 1 then kp 0 else kp (0 - 1)) = 0
    rw [if_pos (by omega)]; exact hk0
  · show (if L ≤ i0 + 1 then kp L else kp (L - 1)) = Lo
    rw [if_neg (by omega)]; exact hkL
  · intro i hi
    show (pg_sk x y L sq i = true → (if i + 1 ≤ i0 + 1 then kp (i + 1) else kp (i + 1 - 1)) = (if i ≤ i0 + 1 then kp i else kp (i - 1))) ∧ (pg_sk x y L sq i = false → (if i + 1 ≤ i0 + 1 then kp (i + 1) else kp (i + 1 - 1)) = (if i ≤ i0 + 1 then kp i else kp (i - 1)) + 1 ∧ out (if i ≤ i0 + 1 then kp i else kp (i - 1)) = if pg_G x y L sq i = true then N else sq i)
    rcases Nat.lt_or_ge i (i0 + 1) with z | z
    · rw [s3 i (by omega), if_pos (by omega), if_pos (by omega)]
      refine ⟨fun t => absurd t (by decide), fun _ => ?_⟩
      have H := (hk i (by omega)).2 (s1 i (by omega))
      refine ⟨H.1, ?_⟩
      rw [H.2, g1 i (by omega), if_neg (by decide)]
      by_cases e : i = i0
      · subst e; rw [pg_ms_eq, if_pos h0]
      · rw [pg_ms_lt (by omega), hf i (by omega), if_neg (by decide)]
    · by_cases e : i = i0 + 1
      · subst e
        rw [s4, if_neg (by omega), if_pos (by omega)]
        exact ⟨fun _ => rfl, fun t => absurd t (by decide)⟩
      · rw [if_neg (by omega), if_neg (by omega)]
        have e1 : i - 1 + 1 = i := by omega
        have H := hk (i - 1) (by omega)
        rw [e1] at H
        have hsk : pg_sk x y (L - 1) (pg_ms i0 N sq) (i - 1) = pg_sk x y L sq i := by
          by_cases e2 : i = i0 + 2
          · subst e2
            rw [s1 _ (by omega), s5]
          · rw [s2 (i - 1) (by omega), e1]
        have hgg : pg_G x y (L - 1) (pg_ms i0 N sq) (i - 1) = pg_G x y L sq i := by rw [g2 (i - 1) (by omega), e1]
        rw [hsk, hgg, pg_ms_gt (by omega), e1] at H
        exact H
end PGG
end
section
section PGH
/-! replaceAll: the greedy places of a pair, from the left -/
theorem pg_slotG {x y L T : Nat} {sq ps : Nat → Nat} {pd : Nat → Int32} (hP : pg_P L T sq ps) (hx : x < 32) (hy : y < 32) (hD : pg_D L ps pd) (hok : ∀ i, i < L → pg_ok L sq ps pd i) {j : Nat} (hj : j < 48) :
    pd j = nI (x * 32 + y) ↔ ∃ i, i < L ∧ ps i = j ∧ pg_G x y L sq i = true := by
  constructor
  · intro h
    by_cases e : ∃ i, i < L ∧ ps i = j
    · obtain ⟨i, hi, rfl⟩ := e
      exact ⟨i, hi, rfl, (pg_okG hP hx hy hok i hi).mp h⟩
    · have := hD j hj (fun i hi z => e ⟨i, hi, z⟩)
      rw [this] at h
      exact absurd h (pg_m1ne (by omega))
  · rintro ⟨i, hi, rfl, hG⟩
    exact (pg_okG hP hx hy hok i hi).mpr hG
theorem pg_slotM {x y N L T i0 : Nat} {sq ps : Nat → Nat} (hP : pg_P L T sq ps) (hNx : N ≠ x) (hNy : N ≠ y) (h0 : pg_G x y L sq i0 = true) (hf : ∀ j, j < i0 → pg_G x y L sq j = false) {j : Nat} :
    (∃ k, k < L - 1 ∧ pg_mp i0 ps k = j ∧ pg_G x y (L - 1) (pg_ms i0 N sq) k = true) ↔ (∃ i, i < L ∧ ps i = j ∧ pg_G x y L sq i = true) ∧ j ≠ ps i0 := by
  obtain ⟨g1, g2⟩ := pg_mG hNx hNy h0 hf
  have hL := (pg_G_mt h0).1
  have g3 : pg_G x y L sq (i0 + 1) = false := by rw [pg_G_s, h0]; simp
  constructor
  · rintro ⟨k, hk, e, hG⟩
    rcases Nat.lt_or_ge i0 k with z | z
    · rw [g2 k z] at hG
      rw [pg_mp_gt z] at e
      refine ⟨⟨k + 1, by omega, e, hG⟩, ?_⟩
      rw [← e]
      exact pg_ne hP (by omega) (by omega) (by omega)
    · rw [g1 k z] at hG
      exact absurd hG (by decide)
  · rintro ⟨⟨i, hi, e, hG⟩, hne⟩
    have a1 : i ≠ i0 := by intro z; subst z; exact hne e.symm
    have a2 : i ≠ i0 + 1 := by intro z; subst z; rw [g3] at hG; exact absurd hG (by decide)
    have a3 : ¬ i < i0 := by intro z; rw [hf i z] at hG; exact absurd hG (by decide)
    have e1 : i - 1 + 1 = i := by omega
    refine ⟨i - 1, by omega, ?_, ?_⟩
    · rw [pg_mp_gt (by omega), e1]; exact e
    · rw [g2 (i - 1) (by omega), e1]; exact hG
variable {fc : Int32} {fa : Int32} {fm : Int32} {fr : Int32} {fs : Int64} {ft : Int32} {fq : Int32} {fx : Int32} {lv : Int64} {fb : Int32} {gr : Int32} {gl : Int32} {gc : Int32} {al : (Nat → Int32)} {ar : (Nat → Int32)} {sn : (Nat → Int32)} {ay : (Nat → Int32)} {an : (Nat → Int32)} {ap : (Nat → Int32)} {pd : (Nat → Int32)} {pc : (Nat → Int64)} {ct : (Nat → Int32)} {la : (Nat → Int32)} {ra : (Nat → Int32)} {bb : (Nat → Int32)} {bl : (Nat → Int32)} {br : (Nat → Int32)} {bs : (Nat → Int32)} {bm : (Nat → Int32)}
theorem pg_repAll18 {post : SX → Prop} {x y N T : Nat} {tot : Nat} {Inv : Nat → (Nat → Nat) → (Nat → Nat) → Prop} (hx : x < 32) (hy : y < 32) (hN : N < 32) (hNx : N ≠ x) (hNy : N ≠ y) (htot : tot ≤ 48)
    (hI : ∀ (L : Nat) (sq ps : Nat → Nat) (i : Nat), Inv L sq ps → i + 1 < L → sq i = x → sq (i + 1) = y → Inv (L - 1) (pg_ms i N sq) (pg_mp i ps)) :
    ∀ (m k L : Nat) (sq ps : Nat → Nat) (fs : Int64) (ft : Int32) (ay an ap pd : Nat → Int32) (pc : Nat → Int64) (ct la ra : Nat → Int32) (lv : Int64), pg_cn pd (x * 32 + y) 48 = m → k + m = tot → pg_X L T sq ps fs ft ay an ap pd pc ct la ra lv → Inv L sq ps →
      (∀ (L' : Nat) (sq' ps' : Nat → Nat) (fs' : Int64) (ft' : Int32) (ay' an' ap' pd' : Nat → Int32) (pc' : Nat → Int64) (ct' la' ra' : Nat → Int32) (lv' : Int64), pg_X L' T sq' ps' fs' ft' ay' an' ap' pd' pc' ct' la' ra' lv' → pg_Rw x y N L sq L' sq' → Inv L' sq' ps' → post (fc, fa, fm, fr, fs', ft', nI L', fx, lv', fb, gr, gl, gc, al, ar, sn, ay', an', ap', pd', pc', ct', la', ra', bb, bl, br, bs, bm)) →
      wX_replaceAll_18 post (nI N) (nI tot) (m + 1) (pc (x * 32 + y)) (nI k) fc fa fm fr fs ft (nI L) fx lv fb gr gl gc al ar sn ay an ap pd pc ct la ra bb bl br bs bm := by
  intro m
  induction m with
  | zero =>
    intro k L sq ps fs ft ay an ap pd pc ct la ra lv hm hk hX hInv hp
    refine br_t (nI_le (by omega) (by omega)) (hp L sq ps _ _ _ _ _ _ _ _ _ _ _ hX (pg_RwRefl ?_) hInv)
    intro i hi
    apply ts_nt
    intro hG
    have h48 := pg_lt48 hX.1 hi
    have := pg_cn_has (((pg_okG hX.1 hx hy hX.2.2.2.2.2 i hi)).mpr hG) 48 h48
    omega
  | succ m ih =>
    intro k L sq ps fs ft ay an ap pd pc ct la ra lv hm hk hX hInv hp
    obtain ⟨hP, hS, hSt, hK, hD, hok⟩ := id hX
    have hc : x * 32 + y < 1024 := by omega
    have slot : ∀ {j : Nat}, j < 48 → (pd j = nI (x * 32 + y) ↔ ∃ i, i < L ∧ ps i = j ∧ pg_G x y L sq i = true) := fun hj => pg_slotG hP hx hy hD hok hj
    obtain ⟨j1, hj1, hj1c⟩ := pg_cn_pos (pd := pd) (c := x * 32 + y) 48 (by omega)
    obtain ⟨i1, hi1, _, hG1⟩ := (slot hj1).mp hj1c
    obtain ⟨i0, hi01, hG0, hfst⟩ := pg_first (P := fun i => pg_G x y L sq i = true) hG1
    have hfst' : ∀ j, j < i0 → pg_G x y L sq j = false := fun j hj => ts_nt (hfst j hj)
    have hmt := pg_G_mt hG0
    have h48 := pg_lt48 hP (show i0 < L by omega)
    have hbit : pg_tb (pc (x * 32 + y)) (ps i0) = true := (hK.2.2.1 _ hc _ (by omega)).mpr ⟨h48, (slot h48).mpr ⟨i0, by omega, rfl, hG0⟩⟩
    have hlow : ∀ j, j < ps i0 → pg_tb (pc (x * 32 + y)) j = false := by
      intro j hj
      apply ts_nt
      intro z
      obtain ⟨i, hi, e, hG⟩ := (slot (by omega)).mp ((hK.2.2.1 _ hc _ (by omega)).mp z).2
      rcases Nat.lt_trichotomy i i0 with t | t | t
      · exact hfst i t hG
      · subst t; omega
      · have := pg_mono hP i t (by omega); omega
    refine br_f (nI_ge (by omega) (by omega)) ?_
    refine pg_lb (ps i0) (by omega) hbit hlow (nm_e ?_)
    refine pg_replace hX (show i0 + 1 < L by omega) hN ?_
    intro fs' ft' ay' an' ap' pd' pc' ct' la' ra' lv' hX'
    obtain ⟨hP', hS', hSt', hK', hD', hok'⟩ := id hX'
    have slot' : ∀ {j : Nat}, j < 48 → (pd' j = nI (x * 32 + y) ↔ pd j = nI (x * 32 + y) ∧ j ≠ ps i0) := by
      intro j hj
      rw [pg_slotG hP' hx hy hD' hok' hj, pg_slotM hP hNx hNy hG0 hfst', slot hj]
    have e : pc (x * 32 + y) &&& (pc (x * 32 + y) - 1) = pc' (x * 32 + y) := by
      apply pg_tb_ext
      intro j hj
      rw [pg_drop hbit hlow hj]
      have A := hK.2.2.1 _ hc j hj
      have B := hK'.2.2.1 _ hc j hj
      by_cases hj48 : j < 48
      · rw [slot' hj48] at B
        by_cases e2 : j = ps i0
        · subst e2
          have : pg_tb (pc' (x * 32 + y)) (ps i0) = false := ts_nt (fun z => (B.mp z).2.2 rfl)
          rw [this]; simp
        · have C : pg_tb (pc' (x * 32 + y)) j = pg_tb (pc (x * 32 + y)) j := by
            apply Bool.eq_iff_iff.mpr
            rw [A, B]
            constructor
            · rintro ⟨a, b, _⟩; exact ⟨a, b⟩
            · rintro ⟨a, b⟩; exact ⟨a, b, e2⟩
          rw [C]; simp [e2]
      · have A' : pg_tb (pc (x * 32 + y)) j = false := ts_nt (fun z => hj48 (A.mp z).1)
        have B' : pg_tb (pc' (x * 32 + y)) j = false := ts_nt (fun z => hj48 (B.mp z).1)
        rw [A', B']; rfl
    have hcn : pg_cn pd' (x * 32 + y) 48 = m := by
      have h1 := pg_cn_upd (pd := pd) (c := x * 32 + y) (s := ps i0) (x := -1) 48 h48
      rw [if_pos ((slot h48).mpr ⟨i0, by omega, rfl, hG0⟩), if_neg (pg_m1ne (by omega))] at h1
      have h2 : pg_cn pd' (x * 32 + y) 48 = pg_cn (upd pd (ps i0) (-1)) (x * 32 + y) 48 := by
        refine pg_cn_congr 48 (fun j hj => ?_)
        rw [slot' hj]
        by_cases e2 : j = ps i0
        · subst e2
          rw [pk_us]
          constructor
          · rintro ⟨_, z⟩; exact absurd rfl z
          · intro z; exact absurd z (pg_m1ne (by omega))
        · rw [pk_un e2]
          exact ⟨fun z => z.1, fun z => ⟨z, e2⟩⟩
      omega
    refine nm_r (e' := nI (k + 1)) (nI_1 k) ?_
    rw [e]
    refine ih (k + 1) (L - 1) _ _ _ _ _ _ _ _ _ _ _ _ _ hcn (by omega) hX' (hI L sq ps i0 hInv hmt.1 hmt.2.1 hmt.2.2) ?_
    intro L' sq' ps' fs'' ft'' ay'' an'' ap'' pd'' pc'' ct'' la'' ra'' lv'' hX'' hRw hInv''
    exact hp L' sq' ps' _ _ _ _ _ _ _ _ _ _ _ hX'' (pg_RwStep hNx hNy hG0 hfst' hRw) hInv''
theorem pg_replaceAll {post : SX → Prop} {x y N L T : Nat} {sq ps : Nat → Nat} {Inv : Nat → (Nat → Nat) → (Nat → Nat) → Prop} (hx : x < 32) (hy : y < 32) (hN : N < 32) (hNx : N ≠ x) (hNy : N ≠ y)
    (hI : ∀ (L : Nat) (sq ps : Nat → Nat) (i : Nat), Inv L sq ps → i + 1 < L → sq i = x → sq (i + 1) = y → Inv (L - 1) (pg_ms i N sq) (pg_mp i ps))
    (hX : pg_X L T sq ps fs ft ay an ap pd pc ct la ra lv) (hInv : Inv L sq ps)
    (hp : ∀ (L' : Nat) (sq' ps' : Nat → Nat) (fs' : Int64) (ft' : Int32) (ay' an' ap' pd' : Nat → Int32) (pc' : Nat → Int64) (ct' la' ra' : Nat → Int32) (lv' : Int64), pg_X L' T sq' ps' fs' ft' ay' an' ap' pd' pc' ct' la' ra' lv' → pg_Rw x y N L sq L' sq' → Inv L' sq' ps' → post (fc, fa, fm, fr, fs', ft', nI L', fx, lv', fb, gr, gl, gc, al, ar, sn, ay', an', ap', pd', pc', ct', la', ra', bb, bl, br, bs, bm)) :
    wpX_replaceAll post (fc, fa, fm, fr, fs, ft, nI L, fx, lv, fb, gr, gl, gc, al, ar, sn, ay, an, ap, pd, pc, ct, la, ra, bb, bl, br, bs, bm) (nI (x * 32 + y)) (nI N) := by
  have hcl : (nI (x * 32 + y)).toNatClampNeg = x * 32 + y := nI_clamp (by omega)
  have hin : vp_in (nI (x * 32 + y)) 1024 := vp_in_nI (by omega) (by omega)
  refine And.intro hin (nm_r (e' := pc (x * 32 + y)) (by rw [hcl]) (And.intro hin (nm_r (e' := nI (pg_cn pd (x * 32 + y) 48)) (by rw [hcl]; exact hX.2.2.2.1.2.1 _ (by omega)) ?_)))
  exact Exists.intro (pg_cn pd (x * 32 + y) 48 + 1) (pg_repAll18 hx hy hN hNx hNy (pg_cn_le _ _ _) hI (pg_cn pd (x * 32 + y) 48) 0 L sq ps _ _ _ _ _ _ _ _ _ _ _ rfl (by omega) hX hInv hp)
/-! which pair step takes -/
theorem pg_last {P : Nat → Prop} {n k : Nat} (hk : k < n) (h : P k) : ∃ m, m < n ∧ P m ∧ ∀ j, m < j → j < n → ¬ P j := by
  obtain ⟨m, hm, hPm, hl⟩ := pg_first (P := fun i => i < n ∧ P (n - 1 - i)) (k := n - 1 - k) ⟨by omega, by rw [show n - 1 - (n - 1 - k) = k by omega]; exact h⟩
  refine ⟨n - 1 - m, by omega, hPm.2, ?_⟩
  intro j h1 h2 h3
  refine hl (n - 1 - j) (by omega) ⟨by omega, ?_⟩
  rw [show n - 1 - (n - 1 - j) = j by omega]
  exact h3
theorem pg_lev0 {f : Nat → Nat} (hQ : pg_Q lv la ra f) (h0 : lv = 0) {l r : Nat} (hl : l < 32) (hr : r < 32) (hf : f (l * 32 + r) < 49) : f (l * 32 + r) < 2 := by
  obtain ⟨h1, h2, h3⟩ := hQ
  rcases Nat.lt_or_ge (f (l * 32 + r)) 2 with z | z
  · exact z
  · have a := (h1 _ l r hf hl hr).mpr ⟨rfl, z⟩
    have b := (h2 _ l hf hl).mpr (pg_bt_ne a)
    have c := (h3 _ (by omega)).mpr ⟨hf, pg_bt_ne b⟩
    exact absurd h0 (pg_tb_ne c)
theorem pg_levN {f : Nat → Nat} (hQ : pg_Q lv la ra f) (h0 : ¬ lv = 0) (hf : ∀ c, c < 1024 → f c < 49) :
    ∃ v l r, v < 49 ∧ 2 ≤ v ∧ l < 32 ∧ r < 32 ∧ f (l * 32 + r) = v ∧ (∀ l' r', l' < 32 → r' < 32 → f (l' * 32 + r') ≤ v) ∧ (∀ l' r', l' < 32 → r' < 32 → (l' < l ∨ l' = l ∧ r' < r) → f (l' * 32 + r') < v) ∧
      (pg_tb lv v = true ∧ ∀ j, v < j → j < 64 → pg_tb lv j = false) ∧ (bt (la v) l = true ∧ ∀ j, j < l → bt (la v) j = false) ∧ (bt (ra (v * 32 + l)) r = true ∧ ∀ j, j < r → bt (ra (v * 32 + l)) j = false) := by
  obtain ⟨h1, h2, h3⟩ := hQ
  obtain ⟨i, hi, hb⟩ := pg_tb_nz h0
  obtain ⟨v, hv64, hv, hvl⟩ := pg_last (P := fun i => pg_tb lv i = true) hi hb
  obtain ⟨hv49, hla⟩ := (h3 v hv64).mp hv
  obtain ⟨i2, hi2, hb2⟩ := pg_bt_nz hla
  obtain ⟨l, hl2, hl, hll⟩ := pg_first (P := fun i => bt (la v) i = true) hb2
  have hl32 : l < 32 := by omega
  have hra := (h2 v l hv49 hl32).mp hl
  obtain ⟨i3, hi3, hb3⟩ := pg_bt_nz hra
  obtain ⟨r, hr2, hr, hrl⟩ := pg_first (P := fun i => bt (ra (v * 32 + l)) i = true) hb3
  have hr32 : r < 32 := by omega
  obtain ⟨hfv, h2v⟩ := (h1 v l r hv49 hl32 hr32).mp hr
  have hmax : ∀ l' r', l' < 32 → r' < 32 → f (l' * 32 + r') ≤ v := by
    intro l' r' hl' hr'
    rcases Nat.lt_or_ge v (f (l' * 32 + r')) with z | z
    · have hf' := hf (l' * 32 + r') (by omega)
      have a := (h1 _ l' r' hf' hl' hr').mpr ⟨rfl, by omega⟩
      have b := (h2 _ l' hf' hl').mpr (pg_bt_ne a)
      have c := (h3 _ (by omega)).mpr ⟨hf', pg_bt_ne b⟩
      exact absurd c (hvl _ z (by omega))
    · exact z
  refine ⟨v, l, r, hv49, h2v, hl32, hr32, hfv, hmax, ?_, ⟨hv, fun j a b => ts_nt (hvl j a b)⟩, ⟨hl, fun j a => ts_nt (hll j a)⟩, ⟨hr, fun j a => ts_nt (hrl j a)⟩⟩
  intro l' r' hl' hr' hlt
  have hle := hmax l' r' hl' hr'
  rcases Nat.lt_or_ge (f (l' * 32 + r')) v with z | z
  · exact z
  · exfalso
    have e : f (l' * 32 + r') = v := by omega
    have a := (h1 v l' r' hv49 hl' hr').mpr ⟨e, h2v⟩
    rcases hlt with t | ⟨t, t2⟩
    · exact hll l' t ((h2 v l' hv49 hl').mpr (pg_bt_ne a))
    · subst t; exact hrl r' t2 a
end PGH
end
section
section PGI
/-! the reference: frequency, the choice of the pair, the rewriting -/
theorem pg_G_sk {x y L : Nat} {sq : Nat → Nat} (i : Nat) : pg_G x y L sq i = (pg_mt x y L sq i && !pg_sk x y L sq i) := by
  cases i with
  | zero =>
    show pg_mt x y L sq 0 = (pg_mt x y L sq 0 && !false)
    simp
  | succ i => rfl
theorem pg_gc_le {x y L : Nat} {sq : Nat → Nat} : ∀ n, pg_gc x y L sq n ≤ n := by
  intro n
  induction n with
  | zero => exact Nat.le_refl 0
  | succ n ih => rw [pg_gc_s]; split <;> omega
theorem pg_clp {p : Nat} (hp : p < 1000) : (nI p + 1).toNatClampNeg = p + 1 := by rw [nI_1, nI_clamp (by omega)]
variable {yc : Int32} {ya : Int32} {ym : Int32} {yx : Int32} {yq : Int32} {yr : Int32} {yb : Int32} {yk : Int32} {tt : (Nat → Int32)} {tu : (Nat → Int32)} {ts : (Nat → Int32)} {tv : (Nat → Int32)} {sd : (Nat → Int32)} {ex : (Nat → Int32)} {yB : (Nat → Int32)}
theorem pg_fr26 {post : Int32 → Prop} {a b L : Nat} {sq : Nat → Nat} (hL : L ≤ 48) (hsq : ∀ i, i < L → ts i = nI (sq i)) (hq : ∀ i, i < L → sq i < 32) (ha : a < 32) (hb : b < 32) (hp : post (nI (pg_gc a b L sq L))) :
    ∀ d p nx : Nat, p + 1 + d = L → (pg_sk a b L sq p = true → nx = p + 1) → (pg_sk a b L sq p = false → nx ≤ p) →
      wY_frequency_26 post (nI a) (nI b) yc ya ym yx (nI L) yr yb yk tt tu ts tv sd ex yB (d + 1) (nI (pg_gc a b L sq p)) (nI nx) (nI p) := by
  intro d
  induction d with
  | zero =>
    intro p nx hpd h1 h2
    have hG : pg_G a b L sq p = false := ts_nt (fun z => by have := (pg_G_mt z).1; omega)
    have e3 : pg_gc a b L sq (p + 1) = pg_gc a b L sq p := by rw [pg_gc_s, hG]; simp
    rw [show p + 1 = L from hpd] at e3
    rw [e3] at hp
    exact pk_le L (p + 1) (fun _ => hp) (fun h => absurd h (by omega)) rfl (nI_1 p)
  | succ d ih =>
    intro p nx hpd h1 h2
    have hnx : nx ≤ p + 1 := by
      cases hs : pg_sk a b L sq p with
      | true => have := h1 hs; omega
      | false => have := h2 hs; omega
    have hcl : (nI p).toNatClampNeg = p := nI_clamp (by omega)
    have hcl1 : (nI p + 1).toNatClampNeg = p + 1 := pg_clp (by omega)
    have hskip : ∀ nx', pg_G a b L sq p = false → nx' ≤ p + 1 → wY_frequency_26 post (nI a) (nI b) yc ya ym yx (nI L) yr yb yk tt tu ts tv sd ex yB (d + 1) (nI (pg_gc a b L sq p)) (nI nx') (nI (p + 1)) := by
      intro nx' hG hn
      have I := ih (p + 1) nx' (by omega) (fun z => by have z2 : pg_G a b L sq p = true := z; rw [hG] at z2; exact absurd z2 (by decide)) (fun _ => hn)
      rw [pg_gc_s, hG] at I
      simpa using I
    refine pk_le L (p + 1) (fun h => absurd h (by omega)) (fun _ => ?_) rfl (nI_1 p)
    refine pk_lt p nx (fun h => ?_) (fun h => ?_)
    · have hs : pg_sk a b L sq p = true := by
        cases hs : pg_sk a b L sq p with
        | true => rfl
        | false => have := h2 hs; omega
      refine nm_r (nI_1 p) (hskip nx ?_ hnx)
      rw [pg_G_sk, hs]; simp
    · have hs : pg_sk a b L sq p = false := by
        cases hs : pg_sk a b L sq p with
        | false => rfl
        | true => have := h1 hs; omega
      have hsp := hsq p (by omega)
      have hsp1 := hsq (p + 1) (by omega)
      have hq1 := hq p (by omega)
      have hq2 := hq (p + 1) (by omega)
      refine And.intro (vp_in_nI (by omega) (by omega)) ?_
      refine pk_eq (sq p) a (fun e1 => ?_) (fun e1 => ?_) (by rw [hcl]; exact hsp) rfl
      · refine And.intro (by rw [nI_1]; exact vp_in_nI (by omega) (by omega)) ?_
        refine pk_eq (sq (p + 1)) b (fun e2 => ?_) (fun e2 => ?_) (by rw [hcl1]; exact hsp1) rfl
        · have hG : pg_G a b L sq p = true := by
            rw [pg_G_sk, hs, pg_mt_iff.mpr ⟨by omega, e1, e2⟩]; rfl
          have I := ih (p + 1) (p + 2) (by omega) (fun _ => rfl) (fun z => by have z2 : pg_G a b L sq p = false := z; rw [hG] at z2; exact absurd z2 (by decide))
          rw [pg_gc_s, hG, if_pos rfl] at I
          exact nm_r (nI_1 _) (nm_r (nI_add p 2) (nm_r (nI_1 p) I))
        · refine nm_r (nI_1 p) (hskip nx ?_ hnx)
          exact ts_nt (fun z => e2 (pg_G_mt z).2.2)
      · refine nm_r (nI_1 p) (hskip nx ?_ hnx)
        exact ts_nt (fun z => e1 (pg_G_mt z).2.1)
theorem pg_defY {post : Int32 → Prop} {A R s : Nat} (hs : s < A + R) (hA : A + R < 1000) (hp : post 1) : wpY_defined post (yc, nI A, ym, yx, yq, nI R, yb, yk, tt, tu, ts, tv, sd, ex, yB) (nI s) :=
  br_f (nI_pos (by omega)) (br_f (by rw [nI_add]; exact nI_ge hs (by omega)) hp)
theorem pg_defYn {post : Int32 → Prop} {A R : Nat} {x : Int32} (hx : x < 0 ∨ nI (A + R) ≤ x) (hp : post 0) : wpY_defined post (yc, nI A, ym, yx, yq, nI R, yb, yk, tt, tu, ts, tv, sd, ex, yB) x := by
  by_cases h : x < 0
  · exact br_t h hp
  · refine br_f h (br_t ?_ hp)
    rw [nI_add]
    rcases hx with z | z
    · exact absurd z h
    · exact z
theorem pg_freqY {post : Int32 → Prop} {a b A R L : Nat} {sq : Nat → Nat} (hL : L ≤ 48) (hsq : ∀ i, i < L → ts i = nI (sq i)) (hq : ∀ i, i < L → sq i < 32) (hAR : A + R ≤ 32) (ha : a < A + R) (hb : b < A + R) (hp : post (nI (pg_gc a b L sq L))) :
    wpY_frequency post (yc, nI A, ym, yx, nI L, nI R, yb, yk, tt, tu, ts, tv, sd, ex, yB) (nI a) (nI b) := by
  unfold wpY_frequency
  refine pg_defY ha (by omega) (br_f (by decide) ?_)
  refine pg_defY hb (by omega) (br_f (by decide) ?_)
  by_cases h0 : L = 0
  · subst h0
    exact ⟨1, br_t (by decide) hp⟩
  · exact ⟨L - 1 + 1, pg_fr26 hL hsq hq (by omega) (by omega) hp (L - 1) 0 0 (by omega) (fun z => absurd z Bool.false_ne_true) (fun _ => by omega)⟩
theorem pg_y32 {post : Int32 → SY → Prop} {J15 : Int32 → Int32 → Int32 → Int32 → Prop} {x4 x5 : Int32} {a A R : Nat} {F : Nat → Nat → Nat} {Inv : Nat → Nat → Nat → Nat → Nat → Prop} (hS : A + R ≤ 32)
    (hfr : ∀ b, b < A + R → ∀ q : Int32 → Prop, q (nI (F a b)) → wpY_frequency q (yc, nI A, ym, yx, yq, nI R, yb, yk, tt, tu, ts, tv, sd, ex, yB) (nI a) (nI b)) (hF : ∀ b, b < A + R → F a b < 2 ^ 31)
    (hB : ∀ b f x y, Inv a b f x y → f < 2 ^ 31)
    (h1 : ∀ b f x y, b < A + R → Inv a b f x y → F a b ≤ f → Inv a (b + 1) f x y)
    (h2 : ∀ b f x y, b < A + R → Inv a b f x y → f < F a b → Inv a (b + 1) (F a b) a b)
    (hJ : ∀ f x y, Inv a (A + R) f x y → J15 (nI f) (nI x) (nI y) (nI (a + 1))) :
    ∀ d b f x y : Nat, b + d = A + R → Inv a b f x y → wY_step_32 post J15 x4 x5 (nI a) yc (nI A) ym yx yq (nI R) yb yk tt tu ts tv sd ex yB (d + 1) (nI f) (nI x) (nI y) (nI b) := by
  intro d
  induction d with
  | zero =>
    intro b f x y hb hI
    have e : b = A + R := hb
    subst e
    exact br_t (by rw [nI_add]; exact nI_le (Nat.le_refl _) (by omega)) (nm_r (nI_1 a) (hJ f x y hI))
  | succ d ih =>
    intro b f x y hb hI
    refine br_f (by rw [nI_add]; exact nI_ge (by omega) (by omega)) (hfr b (by omega) _ ?_)
    refine pk_le (F a b) f (fun h => ?_) (fun h => ?_) rfl rfl (hF b (by omega)) (hB b f x y hI)
    · exact nm_r (nI_1 b) (ih (b + 1) f x y (by omega) (h1 b f x y (by omega) hI h))
    · exact nm_r (nI_1 b) (ih (b + 1) (F a b) a b (by omega) (h2 b f x y (by omega) hI h))
theorem pg_y15 {post : Int32 → SY → Prop} {x4 x5 : Int32} {A R : Nat} {F : Nat → Nat → Nat} {Inv : Nat → Nat → Nat → Nat → Nat → Prop} (hS : A + R ≤ 32)
    (hfr : ∀ a b, a < A + R → b < A + R → ∀ q : Int32 → Prop, q (nI (F a b)) → wpY_frequency q (yc, nI A, ym, yx, yq, nI R, yb, yk, tt, tu, ts, tv, sd, ex, yB) (nI a) (nI b)) (hF : ∀ a b, a < A + R → b < A + R → F a b < 2 ^ 31)
    (hB : ∀ a b f x y, Inv a b f x y → f < 2 ^ 31)
    (h1 : ∀ a b f x y, a < A + R → b < A + R → Inv a b f x y → F a b ≤ f → Inv a (b + 1) f x y)
    (h2 : ∀ a b f x y, a < A + R → b < A + R → Inv a b f x y → f < F a b → Inv a (b + 1) (F a b) a b)
    (h3 : ∀ a f x y, a < A + R → Inv a (A + R) f x y → Inv (a + 1) 0 f x y)
    (hx : ∀ f x y, Inv (A + R) 0 f x y → wY_step_15 post x4 x5 yc (nI A) ym yx yq (nI R) yb yk tt tu ts tv sd ex yB 1 (nI f) (nI x) (nI y) (nI (A + R))) :
    ∀ d a f x y : Nat, a + d = A + R → Inv a 0 f x y → wY_step_15 post x4 x5 yc (nI A) ym yx yq (nI R) yb yk tt tu ts tv sd ex yB (d + 1) (nI f) (nI x) (nI y) (nI a) := by
  intro d
  induction d with
  | zero =>
    intro a f x y ha hI
    have e : a = A + R := ha
    subst e
    exact hx f x y hI
  | succ d ih =>
    intro a f x y ha hI
    refine br_f (by rw [nI_add]; exact nI_ge (by omega) (by omega)) ?_
    have haS : a < A + R := by omega
    exact Exists.intro (A + R + 1) (pg_y32 hS (fun b hb => hfr a b haS hb) (fun b hb => hF a b haS hb) (hB a) (fun b f x y hb => h1 a b f x y haS hb) (fun b f x y hb => h2 a b f x y haS hb)
      (fun f x y hI' => ih (a + 1) f x y (by omega) (h3 a f x y haS hI')) (A + R) 0 f x y (by omega) hI)
theorem pg_y198 {post : Int32 → SY → Prop} {J : Int32 → Int32 → Int32 → (Nat → Int32) → (Nat → Int32) → (Nat → Int32) → (Nat → Int32) → (Nat → Int32) → (Nat → Int32) → (Nat → Int32) → Prop} {x1 x2 x3 z : Int32} {k p : Nat} (hk : k < 48)
    (h : J (nI (k + 1)) (nI (p + 1)) (nI (p + 1)) tt tu (upd ts k z) tv sd ex yB) : wY_step_198 post J x1 x2 x3 (nI k) (nI p) 0 z (nI k) yc ya ym yx yq yr yb yk tt tu ts tv sd ex yB :=
  And.intro (vp_in_nI hk (by omega)) (nm_r (e' := upd ts k z) (by rw [nI_clamp (by omega)]) (nm_r (nI_1 k) (br_t rfl (nm_r (nI_1 p) (nm_r (nI_1 p) h)))))
theorem pg_y198p {post : Int32 → SY → Prop} {J : Int32 → Int32 → Int32 → (Nat → Int32) → (Nat → Int32) → (Nat → Int32) → (Nat → Int32) → (Nat → Int32) → (Nat → Int32) → (Nat → Int32) → Prop} {x1 x2 x3 z : Int32} {k p : Nat} (hk : k < 48)
    (h : J (nI (k + 1)) (nI (p + 2)) (nI (p + 1)) tt tu (upd ts k z) tv sd ex yB) : wY_step_198 post J x1 x2 x3 (nI k) (nI p) 1 z (nI k) yc ya ym yx yq yr yb yk tt tu ts tv sd ex yB :=
  And.intro (vp_in_nI hk (by omega)) (nm_r (e' := upd ts k z) (by rw [nI_clamp (by omega)]) (nm_r (nI_1 k) (br_f (by decide) (nm_r (nI_add p 2) (nm_r (nI_1 p) h)))))
theorem pg_y107 {x1 : Int32} {x y A R L Lo : Nat} {sq out kp : Nat → Nat} (hL : L ≤ 48) (hR : R < 23) (hAR : A + R < 32) (hx : x < 32) (hy : y < 32) (hq : ∀ i, i < L → sq i < 32) (hk0 : kp 0 = 0) (hkL : kp L = Lo)
    (hk : ∀ i, i < L → (pg_sk x y L sq i = true → kp (i + 1) = kp i) ∧ (pg_sk x y L sq i = false → kp (i + 1) = kp i + 1 ∧ out (kp i) = if pg_G x y L sq i = true then A + R else sq i)) :
    ∀ (d p nx : Nat) (ts : Nat → Int32), p + d = L → (pg_sk x y L sq p = true → nx = p + 1) → (pg_sk x y L sq p = false → nx ≤ p) → (∀ j, j < kp p → ts j = nI (out j)) → (∀ j, p ≤ j → j < L → ts j = nI (sq j)) →
      ∃ ts' : Nat → Int32, (∀ j, j < Lo → ts' j = nI (out j)) ∧ ∀ post : Int32 → SY → Prop, post x1 (yc, nI A, ym, yx, nI Lo, nI (R + 1), yb, yk, tt, tu, ts', tv, upd (upd sd (2 * R) (nI x)) (2 * R + 1) (nI y), ex, yB) →
        wY_step_107 post x1 (nI x) (nI y) yc (nI A) ym yx (nI L) (nI R) yb yk (d + 1) (nI (kp p)) (nI nx) (nI p) tt tu ts tv sd ex yB := by
  have hkle : ∀ i, i ≤ L → kp i ≤ i := by
    intro i
    induction i with
    | zero => intro _; omega
    | succ i ih =>
      intro hi
      have h1 := hk i (by omega)
      have h2 := ih (by omega)
      cases hs : pg_sk x y L sq i with
      | true => have := h1.1 hs; omega
      | false => have := (h1.2 hs).1; omega
  intro d
  induction d with
  | zero =>
    intro p nx ts hpd h1 h2 hlo hhi
    have e : p = L := hpd
    subst e
    refine ⟨ts, fun j hj => hlo j (by omega), fun post hp => ?_⟩
    have h2R : (2 : Int32) * nI R = nI (2 * R) := pk_mul 2 R
    refine br_t (nI_le (Nat.le_refl _) (by omega)) ?_
    rw [h2R]
    refine And.intro (vp_in_nI (by omega) (by omega)) (nm_r (e' := upd sd (2 * R) (nI x)) (by rw [nI_clamp (by omega)]) (And.intro (by rw [nI_1]; exact vp_in_nI (by omega) (by omega)) (nm_r (e' := upd (upd sd (2 * R) (nI x)) (2 * R + 1) (nI y)) (by rw [pg_clp (by omega)]) (nm_r (nI_1 R) ?_))))
    rw [hkL]
    exact hp
  | succ d ih =>
    intro p nx ts hpd h1 h2 hlo hhi
    have hpL : p < L := by omega
    have hkp := hkle p (by omega)
    have hcl : (nI p).toNatClampNeg = p := nI_clamp (by omega)
    have hcl1 : (nI p + 1).toNatClampNeg = p + 1 := pg_clp (by omega)
    have hin : vp_in (nI p) 48 := vp_in_nI (by omega) (by omega)
    cases hs : pg_sk x y L sq p with
    | true =>
      have hn := h1 hs
      have hG : pg_G x y L sq p = false := by rw [pg_G_sk, hs]; simp
      obtain ⟨ts', ha, hb⟩ := ih (p + 1) nx ts (by omega) (fun z => by have z2 : pg_G x y L sq p = true := z; rw [hG] at z2; exact absurd z2 (by decide)) (fun _ => by omega) (by rw [(hk p hpL).1 hs]; exact hlo) (fun j a b => hhi j (by omega) b)
      refine ⟨ts', ha, fun post hp => ?_⟩
      have W := hb post hp
      rw [(hk p hpL).1 hs] at W
      exact br_f (nI_ge (by omega) (by omega)) (br_f (nI_ge (by omega) (by omega)) (nm_r (nI_1 p) W))
    | false =>
      have hn := h2 hs
      obtain ⟨hk1, hout⟩ := (hk p hpL).2 hs
      cases hG : pg_G x y L sq p with
      | true =>
        obtain ⟨m1, m2, m3⟩ := pg_G_mt hG
        rw [hG, if_pos rfl] at hout
        obtain ⟨ts', ha, hb⟩ := ih (p + 1) (p + 2) (upd ts (kp p) (nI (A + R))) (by omega) (fun _ => rfl) (fun z => by have z2 : pg_G x y L sq p = false := z; rw [hG] at z2; exact absurd z2 (by decide))
          (by
            rw [hk1]
            intro j hj
            by_cases e : j = kp p
            · subst e; rw [pk_us, hout]
            · rw [pk_un e]; exact hlo j (by omega))
          (fun j a b => by rw [pk_un (by omega)]; exact hhi j (by omega) b)
        refine ⟨ts', ha, fun post hp => ?_⟩
        have W := hb post hp
        rw [hk1] at W
        refine br_f (nI_ge (by omega) (by omega)) (br_t (nI_le (by omega) (by omega)) (br_f (by rw [nI_1]; exact nI_ge (by omega) (by omega)) (And.intro hin ?_)))
        refine br_t (by rw [hcl, hhi p (by omega) hpL, m2]) (And.intro (by rw [nI_1]; exact vp_in_nI (by omega) (by omega)) (br_t (by rw [hcl1, hhi (p + 1) (by omega) m1, m3]) ?_))
        refine br_f (by decide) ?_
        rw [nI_add]
        exact pg_y198p (by omega) W
      | false =>
        rw [hG, if_neg (by decide)] at hout
        obtain ⟨ts', ha, hb⟩ := ih (p + 1) (p + 1) (upd ts (kp p) (ts p)) (by omega) (fun z => by have z2 : pg_G x y L sq p = true := z; rw [hG] at z2; exact absurd z2 (by decide)) (fun _ => Nat.le_refl _)
          (by
            rw [hk1]
            intro j hj
            by_cases e : j = kp p
            · subst e; rw [pk_us, hout]; exact hhi p (Nat.le_refl _) hpL
            · rw [pk_un e]; exact hlo j (by omega))
          (fun j a b => by rw [pk_un (by omega)]; exact hhi j (by omega) b)
        refine ⟨ts', ha, fun post hp => ?_⟩
        have W := hb post hp
        rw [hk1] at W
        have W0 : wY_step_165 post (wY_step_107 post x1 (nI x) (nI y) yc (nI A) ym yx (nI L) (nI R) yb yk (d + 1)) x1 (nI x) (nI y) (nI (kp p)) (nI p) yc (nI A) ym yx (nI L) (nI R) yb yk tt tu ts tv sd ex yB := by
          unfold wY_step_165
          refine br_t rfl (And.intro hin ?_)
          rw [hcl]
          exact pg_y198 (by omega) W
        have hm : ¬ (p + 1 < L ∧ sq p = x ∧ sq (p + 1) = y) := by
          intro z
          have t : pg_G x y L sq p = true := by rw [pg_G_sk, hs, pg_mt_iff.mpr z]; rfl
          rw [hG] at t
          exact absurd t (by decide)
        have hqp := hq p hpL
        refine br_f (nI_ge (by omega) (by omega)) (br_t (nI_le (by omega) (by omega)) ?_)
        refine pk_le L (p + 1) (fun _ => W0) (fun h => ?_) rfl (nI_1 p)
        have hqp1 := hq (p + 1) h
        refine And.intro hin (pk_eq (sq p) x (fun e1 => ?_) (fun _ => W0) (by rw [hcl]; exact hhi p (Nat.le_refl _) hpL) rfl)
        refine And.intro (by rw [nI_1]; exact vp_in_nI (by omega) (by omega)) (pk_eq (sq (p + 1)) y (fun e2 => absurd ⟨h, e1, e2⟩ hm) (fun _ => W0) (by rw [hcl1]; exact hhi (p + 1) (by omega) h) rfl)
end PGI
end
section
section PGJ
/-! the reference's step: which pair, and the three endings -/
variable {yc : Int32} {ya : Int32} {ym : Int32} {yx : Int32} {yq : Int32} {yr : Int32} {yb : Int32} {yk : Int32} {tt : (Nat → Int32)} {tu : (Nat → Int32)} {ts : (Nat → Int32)} {tv : (Nat → Int32)} {sd : (Nat → Int32)} {ex : (Nat → Int32)} {yB : (Nat → Int32)}
theorem pg_stepY0 {A R L : Nat} {sq : Nat → Nat} (hL : L ≤ 48) (hsq : ∀ i, i < L → ts i = nI (sq i)) (hq : ∀ i, i < L → sq i < 32) (hAR : A + R ≤ 31) (h : ∀ l r, l < 32 → r < 32 → pg_gc l r L sq L < 2)
    (post : Int32 → SY → Prop) (hp : post 0 (yc, nI A, ym, yx, nI L, nI R, yb, yk, tt, tu, ts, tv, sd, ex, yB)) : wpY_step post (yc, nI A, ym, yx, nI L, nI R, yb, yk, tt, tu, ts, tv, sd, ex, yB) := by
  refine Exists.intro (A + R + 1) (pg_y15 (F := fun a b => pg_gc a b L sq L) (Inv := fun a b f x y => f = 1) (by omega) (fun a b ha hb q hq' => pg_freqY hL hsq hq (by omega) ha hb hq') (fun a b ha hb => ?_) (fun a b f x y e => by omega)
    (fun a b f x y ha hb e _ => e) (fun a b f x y ha hb e e2 => ?_) (fun a f x y ha e => e) (fun f x y e => ?_) (A + R) 0 1 0 0 (by omega) rfl)
  · have := h a b (by omega) (by omega)
    show pg_gc a b L sq L < 2 ^ 31
    omega
  · have := h a b (by omega) (by omega)
    have e3 : f < pg_gc a b L sq L := e2
    omega
  · subst e
    exact br_t (by rw [nI_add]; exact nI_le (Nat.le_refl _) (by omega)) (br_f (by decide) hp)
theorem pg_stepYv {A R L v l r : Nat} {sq : Nat → Nat} (hL : L ≤ 48) (hsq : ∀ i, i < L → ts i = nI (sq i)) (hq : ∀ i, i < L → sq i < 32) (hAR : A + R ≤ 31) (hv : v < 49) (hl : l < A + R) (hr : r < A + R) (h2 : 2 ≤ v)
    (hlr : pg_gc l r L sq L = v) (hmax : ∀ l' r', l' < 32 → r' < 32 → pg_gc l' r' L sq L ≤ v) (hmin : ∀ l' r', l' < 32 → r' < 32 → (l' < l ∨ l' = l ∧ r' < r) → pg_gc l' r' L sq L < v)
    (post : Int32 → SY → Prop) (hx : wY_step_15 post 0 0 yc (nI A) ym yx (nI L) (nI R) yb yk tt tu ts tv sd ex yB 1 (nI v) (nI l) (nI r) (nI (A + R))) : wpY_step post (yc, nI A, ym, yx, nI L, nI R, yb, yk, tt, tu, ts, tv, sd, ex, yB) := by
  refine Exists.intro (A + R + 1) (pg_y15 (F := fun a b => pg_gc a b L sq L) (Inv := fun a b f x y => (l < a ∨ l = a ∧ r < b → f = v ∧ x = l ∧ y = r) ∧ (¬ (l < a ∨ l = a ∧ r < b) → f < v)) (by omega) (fun a b ha hb q hq' => pg_freqY hL hsq hq (by omega) ha hb hq') (fun a b ha hb => ?_) (fun a b f x y e => ?_)
    (fun a b f x y ha hb e e2 => ?_) (fun a b f x y ha hb e e2 => ?_) (fun a f x y ha e => ?_) (fun f x y e => ?_) (A + R) 0 1 0 0 (by omega) ⟨fun z => by omega, fun _ => by omega⟩)
  · have := hmax a b (by omega) (by omega)
    show pg_gc a b L sq L < 2 ^ 31
    omega
  · by_cases z : l < a ∨ l = a ∧ r < b
    · have := (e.1 z).1; omega
    · have := e.2 z; omega
  · have e3 : pg_gc a b L sq L ≤ f := e2
    by_cases z : l < a ∨ l = a ∧ r < b
    · exact ⟨fun _ => e.1 z, fun z2 => by omega⟩
    · have hf := e.2 z
      refine ⟨fun z2 => ?_, fun _ => hf⟩
      have e4 : a = l ∧ b = r := by omega
      obtain ⟨rfl, rfl⟩ := e4
      omega
  · have e3 : f < pg_gc a b L sq L := e2
    have hm := hmax a b (by omega) (by omega)
    show (l < a ∨ l = a ∧ r < b + 1 → pg_gc a b L sq L = v ∧ a = l ∧ b = r) ∧ (¬ (l < a ∨ l = a ∧ r < b + 1) → pg_gc a b L sq L < v)
    by_cases z : l < a ∨ l = a ∧ r < b
    · have := (e.1 z).1; omega
    · refine ⟨fun z2 => ?_, fun z2 => ?_⟩
      · have e4 : a = l ∧ b = r := by omega
        obtain ⟨rfl, rfl⟩ := e4
        exact ⟨hlr, rfl, rfl⟩
      · exact hmin a b (by omega) (by omega) (by omega)
  · exact ⟨fun z => e.1 (by omega), fun z => e.2 (by omega)⟩
  · obtain ⟨rfl, rfl, rfl⟩ := e.1 (Or.inl hl)
    exact hx
theorem pg_stepYF {A M R L v l r : Nat} {sq : Nat → Nat} (hL : L ≤ 48) (hsq : ∀ i, i < L → ts i = nI (sq i)) (hq : ∀ i, i < L → sq i < 32) (hAR : A + R ≤ 31) (hv : v < 49) (hl : l < A + R) (hr : r < A + R) (h2 : 2 ≤ v)
    (hlr : pg_gc l r L sq L = v) (hmax : ∀ l' r', l' < 32 → r' < 32 → pg_gc l' r' L sq L ≤ v) (hmin : ∀ l' r', l' < 32 → r' < 32 → (l' < l ∨ l' = l ∧ r' < r) → pg_gc l' r' L sq L < v) (hM : M ≤ R)
    (post : Int32 → SY → Prop) (hp : post (-2) (yc, nI A, nI M, yx, nI L, nI R, yb, yk, tt, tu, ts, tv, sd, ex, yB)) : wpY_step post (yc, nI A, nI M, yx, nI L, nI R, yb, yk, tt, tu, ts, tv, sd, ex, yB) := by
  refine pg_stepYv hL hsq hq hAR hv hl hr h2 hlr hmax hmin post ?_
  exact br_t (by rw [nI_add]; exact nI_le (Nat.le_refl _) (by omega)) (br_t (nI_le (a := 2) h2 (by omega)) (br_f (nI_nlt hM (by omega)) hp))
theorem pg_stepYS {A M R L Lo v l r : Nat} {sq out : Nat → Nat} (hL : L ≤ 48) (hsq : ∀ i, i < L → ts i = nI (sq i)) (hq : ∀ i, i < L → sq i < 32) (hAR : A + R ≤ 31) (hv : v < 49) (hl : l < A + R) (hr : r < A + R) (h2 : 2 ≤ v)
    (hlr : pg_gc l r L sq L = v) (hmax : ∀ l' r', l' < 32 → r' < 32 → pg_gc l' r' L sq L ≤ v) (hmin : ∀ l' r', l' < 32 → r' < 32 → (l' < l ∨ l' = l ∧ r' < r) → pg_gc l' r' L sq L < v) (hM : R < M) (hM2 : M ≤ 23)
    (hRw : pg_Rw l r (A + R) L sq Lo out) :
    ∃ ts' : Nat → Int32, (∀ j, j < Lo → ts' j = nI (out j)) ∧ ∀ post : Int32 → SY → Prop, post (nI v) (yc, nI A, nI M, yx, nI Lo, nI (R + 1), yb, yk, tt, tu, ts', tv, upd (upd sd (2 * R) (nI l)) (2 * R + 1) (nI r), ex, yB) →
      wpY_step post (yc, nI A, nI M, yx, nI L, nI R, yb, yk, tt, tu, ts, tv, sd, ex, yB) := by
  obtain ⟨kp, hk0, hkL, hk⟩ := hRw
  obtain ⟨ts', ha, hb⟩ := pg_y107 (yc := yc) (ym := nI M) (yx := yx) (yb := yb) (yk := yk) (tt := tt) (tu := tu) (tv := tv) (sd := sd) (ex := ex) (yB := yB) (x1 := nI v) (x := l) (y := r) (A := A) (R := R) (L := L) (Lo := Lo) (sq := sq) (out := out) (kp := kp) hL (by omega) (by omega) (by omega) (by omega) hq hk0 hkL hk L 0 0 ts (by omega) (fun z => absurd z Bool.false_ne_true) (fun _ => by omega) (by rw [hk0]; intro j hj; omega) (fun j _ b => hsq j b)
  refine ⟨ts', ha, fun post hp => ?_⟩
  refine pg_stepYv hL hsq hq hAR hv hl hr h2 hlr hmax hmin post ?_
  refine br_t (by rw [nI_add]; exact nI_le (Nat.le_refl _) (by omega)) (br_t (nI_le (a := 2) h2 (by omega)) (br_t (nI_lt hM (by omega)) ?_))
  have W := hb post hp
  rw [hk0] at W
  exact Exists.intro (L + 1) W
end PGJ
end
section
section PGK
/-! the grammar: spans, expansions by equations at each symbol; descend -/
def pg_GR (A R : Nat) (lf rt sp : Nat → Nat) (ds : Nat → Nat → Nat) : Prop :=
  (∀ s, s < A → sp s = 1 ∧ ∀ o, ds s o = s) ∧
  (∀ k, k < R → lf k < A + k ∧ rt k < A + k ∧ sp (A + k) = sp (lf k) + sp (rt k) ∧ ∀ o, ds (A + k) o = if o < sp (lf k) then ds (lf k) o else ds (rt k) (o - sp (lf k)))
theorem pg_GRadd {A R l r : Nat} {lf rt sp : Nat → Nat} {ds : Nat → Nat → Nat} (h : pg_GR A R lf rt sp ds) (hl : l < A + R) (hr : r < A + R) :
    pg_GR A (R + 1) (pg_up lf R l) (pg_up rt R r) (pg_up sp (A + R) (sp l + sp r)) (pg_up ds (A + R) (fun o => if o < sp l then ds l o else ds r (o - sp l))) := by
  refine ⟨?_, ?_⟩
  · intro s hs
    rw [pg_upn (show s ≠ A + R by omega), pg_upn (show s ≠ A + R by omega)]
    exact h.1 s hs
  · intro k hk
    by_cases e : k = R
    · subst e
      rw [pg_ups, pg_ups, pg_ups, pg_ups, pg_upn (show l ≠ A + k by omega), pg_upn (show r ≠ A + k by omega), pg_upn (show l ≠ A + k by omega), pg_upn (show r ≠ A + k by omega)]
      exact ⟨hl, hr, rfl, fun o => rfl⟩
    · obtain ⟨h1, h2, h3, h4⟩ := h.2 k (by omega)
      rw [pg_upn e, pg_upn e, pg_upn (show A + k ≠ A + R by omega), pg_upn (show lf k ≠ A + R by omega), pg_upn (show rt k ≠ A + R by omega), pg_upn (show A + k ≠ A + R by omega), pg_upn (show lf k ≠ A + R by omega), pg_upn (show rt k ≠ A + R by omega)]
      exact ⟨h1, h2, h3, h4⟩
theorem pg_GR0 {A : Nat} {lf rt : Nat → Nat} : pg_GR A 0 lf rt (fun _ => 1) (fun s _ => s) := ⟨fun s _ => ⟨rfl, fun _ => rfl⟩, fun k hk => by omega⟩
theorem pg_GRle {A R R' : Nat} {lf rt sp : Nat → Nat} {ds : Nat → Nat → Nat} (h : pg_GR A R lf rt sp ds) (hle : R' ≤ R) : pg_GR A R' lf rt sp ds := ⟨h.1, fun k hk => h.2 k (by omega)⟩
theorem pg_sp1 {A R : Nat} {lf rt sp : Nat → Nat} {ds : Nat → Nat → Nat} (h : pg_GR A R lf rt sp ds) : ∀ n s, s < n → s < A + R → 1 ≤ sp s := by
  intro n
  induction n with
  | zero => intro s hs; omega
  | succ n ih =>
    intro s hs hs2
    by_cases e : s < A
    · rw [(h.1 s e).1]; omega
    · obtain ⟨h1, h2, h3, _⟩ := h.2 (s - A) (by omega)
      rw [show A + (s - A) = s by omega] at h1 h2 h3
      have := ih (lf (s - A)) (by omega) (by omega)
      omega
theorem pg_dsA {A R : Nat} {lf rt sp : Nat → Nat} {ds : Nat → Nat → Nat} (h : pg_GR A R lf rt sp ds) : ∀ n s o, s < n → s < A + R → ds s o < A := by
  intro n
  induction n with
  | zero => intro s o hs; omega
  | succ n ih =>
    intro s o hs hs2
    by_cases e : s < A
    · rw [(h.1 s e).2 o]; exact e
    · obtain ⟨h1, h2, _, h4⟩ := h.2 (s - A) (by omega)
      rw [show A + (s - A) = s by omega] at h1 h2 h4
      rw [h4 o]
      split
      · exact ih _ _ (by omega) (by omega)
      · exact ih _ _ (by omega) (by omega)
variable {fc : Int32} {fa : Int32} {fm : Int32} {fr : Int32} {fs : Int64} {ft : Int32} {fq : Int32} {fx : Int32} {lv : Int64} {fb : Int32} {gr : Int32} {gl : Int32} {gc : Int32} {al : (Nat → Int32)} {ar : (Nat → Int32)} {sn : (Nat → Int32)} {ay : (Nat → Int32)} {an : (Nat → Int32)} {ap : (Nat → Int32)} {pd : (Nat → Int32)} {pc : (Nat → Int64)} {ct : (Nat → Int32)} {la : (Nat → Int32)} {ra : (Nat → Int32)} {bb : (Nat → Int32)} {bl : (Nat → Int32)} {br : (Nat → Int32)} {bs : (Nat → Int32)} {bm : (Nat → Int32)}
theorem pg_desc8 {post : Int32 → Prop} {A R tg : Nat} {lf rt sp : Nat → Nat} {ds : Nat → Nat → Nat} (hG : pg_GR A R lf rt sp ds) (hal : ∀ k, k < R → al k = nI (lf k) ∧ ar k = nI (rt k)) (hsn : ∀ s, s < A + R → sn s = nI (sp s)) (hA : A ≤ 8) (hR : R ≤ 23) (hsp : ∀ s, s < A + R → sp s ≤ 100) (hp : post (nI tg)) :
    ∀ d s o dep : Nat, dep + d = 23 → s < A + d → s < A + R → o < 1000 → ds s o = tg → wX_descend_8 post fc (nI A) fm fr fs ft fq fx lv fb gr gl gc al ar sn ay an ap pd pc ct la ra bb bl br bs bm (d + 1) (nI s) (nI o) (nI dep) := by
  intro d
  induction d with
  | zero =>
    intro s o dep hd hs hs2 ho ht
    rw [(hG.1 s (by omega)).2 o] at ht
    subst ht
    exact br_t (nI_le (a := 23) (by omega) (by omega)) hp
  | succ d ih =>
    intro s o dep hd hs hs2 ho ht
    refine br_f (nI_ge (b := 23) (by omega) (by omega)) ?_
    refine pk_lt s A (fun h => ?_) (fun h => ?_)
    · rw [(hG.1 s h).2 o] at ht
      subst ht
      exact hp
    · obtain ⟨h1, h2, h3, h4⟩ := hG.2 (s - A) (by omega)
      have hk : s - A < R := by omega
      rw [show A + (s - A) = s by omega] at h1 h2 h3 h4
      have hcl : (nI (s - A)).toNatClampNeg = s - A := nI_clamp (by omega)
      have hin : vp_in (nI (s - A)) 23 := vp_in_nI (by omega) (by omega)
      have hl := (hal (s - A) hk).1
      have hr := (hal (s - A) hk).2
      have hls := hsp (lf (s - A)) (by omega)
      rw [h4 o] at ht
      refine nm_r (e' := nI (s - A)) (pk_sub h) (And.intro hin (And.intro (by rw [hcl, hl]; exact vp_in_nI (by omega) (by omega)) (nm_r (e' := nI (sp (lf (s - A)))) (by rw [hcl, hl, nI_clamp (by omega)]; exact hsn _ (by omega)) ?_)))
      refine pk_le (sp (lf (s - A))) o (fun hle => ?_) (fun hlt => ?_)
      · rw [if_neg (by omega)] at ht
        exact nm_r (e' := nI (o - sp (lf (s - A)))) (pk_sub hle) (And.intro hin (nm_r (e' := nI (rt (s - A))) (by rw [hcl]; exact hr) (nm_r (e' := nI (dep + 1)) (nI_1 dep) (ih _ _ _ (by omega) (by omega) (by omega) (by omega) ht))))
      · rw [if_pos hlt] at ht
        exact And.intro hin (nm_r (e' := nI (lf (s - A))) (by rw [hcl]; exact hl) (nm_r (e' := nI (dep + 1)) (nI_1 dep) (ih _ _ _ (by omega) (by omega) (by omega) (by omega) ht)))
theorem pg_desc {post : Int32 → Prop} {A R s o : Nat} {lf rt sp : Nat → Nat} {ds : Nat → Nat → Nat} (hG : pg_GR A R lf rt sp ds) (hal : ∀ k, k < R → al k = nI (lf k) ∧ ar k = nI (rt k)) (hsn : ∀ s, s < A + R → sn s = nI (sp s)) (hA : A ≤ 8) (hR : R ≤ 23) (hsp : ∀ s, s < A + R → sp s ≤ 100) (hs : s < A + R) (ho : o < 1000) (hp : post (nI (ds s o))) :
    wpX_descend post (fc, nI A, fm, fr, fs, ft, fq, fx, lv, fb, gr, gl, gc, al, ar, sn, ay, an, ap, pd, pc, ct, la, ra, bb, bl, br, bs, bm) (nI s) (nI o) :=
  Exists.intro 24 (pg_desc8 hG hal hsn hA hR hsp hp 23 s o 0 (by omega) (by omega) hs ho rfl)
/-- the sequence covers the text -/
def pg_Cv (A R : Nat) (sp : Nat → Nat) (ds : Nat → Nat → Nat) (tt : Nat → Int32) (L : Nat) (sq ps : Nat → Nat) : Prop :=
  ∀ i, i < L → sq i < A + R ∧ ps (i + 1) = ps i + sp (sq i) ∧ ∀ o, o < sp (sq i) → tt (ps i + o) = nI (ds (sq i) o)
theorem pg_CvM {A R N L x y i : Nat} {sp : Nat → Nat} {ds : Nat → Nat → Nat} {tt : Nat → Int32} {sq ps : Nat → Nat} (hN : N < A + R) (hsp : sp N = sp x + sp y) (hds : ∀ o, ds N o = if o < sp x then ds x o else ds y (o - sp x))
    (h : pg_Cv A R sp ds tt L sq ps) (hi : i + 1 < L) (hx : sq i = x) (hy : sq (i + 1) = y) : pg_Cv A R sp ds tt (L - 1) (pg_ms i N sq) (pg_mp i ps) := by
  intro j hj
  rcases Nat.lt_trichotomy j i with z | z | z
  · rw [pg_ms_lt z, pg_mp_le (show j ≤ i by omega), pg_mp_le (show j + 1 ≤ i by omega)]
    exact h j (by omega)
  · subst z
    rw [pg_ms_eq, pg_mp_le (show j ≤ j by omega), pg_mp_gt (show j < j + 1 by omega)]
    obtain ⟨a1, a2, a3⟩ := h j (by omega)
    obtain ⟨b1, b2, b3⟩ := h (j + 1) hi
    rw [hx] at a2 a3
    rw [hy] at b2 b3
    refine ⟨hN, by omega, ?_⟩
    intro o ho
    rw [hds o]
    by_cases e : o < sp x
    · rw [if_pos e]; exact a3 o e
    · rw [if_neg e, ← b3 (o - sp x) (by omega)]
      exact congrArg tt (by omega)
  · rw [pg_ms_gt z, pg_mp_gt z, pg_mp_gt (show i < j + 1 by omega)]
    exact h (j + 1) (by omega)
/-- the index whose symbol covers a place of the text -/
theorem pg_find {L T : Nat} {sq ps : Nat → Nat} (hP : pg_P L T sq ps) {p : Nat} (hp : p < T) : ∃ i, i < L ∧ ps i ≤ p ∧ p < ps (i + 1) := by
  have h0 := hP.1
  have hL := hP.2.1
  obtain ⟨m, hm, hPm, hl⟩ := pg_first (P := fun i => p < ps i) (k := L) (by show p < ps L; omega)
  cases m with
  | zero =>
    have : p < ps 0 := hPm
    omega
  | succ m =>
    refine ⟨m, by omega, ?_, hPm⟩
    have := hl m (by omega)
    have t : ¬ p < ps m := this
    omega
theorem pg_mask {x : Int64} {p j : Nat} (hp : p < 48) (hj : j < 64) : pg_tb (x &&& (((2 : Int64) <<< ((nI p).toInt64 &&& 63)) - 1)) j = (pg_tb x j && decide (j ≤ p)) := by
  have e : ((2 : Int64) <<< ((nI p).toInt64 &&& 63)) - 1 = lN (2 ^ (p + 1) - 1) := by
    have h : (2 : Int64) <<< ((nI p).toInt64 &&& 63) = lN (2 * 2 ^ p) := wb_shl 2 (by omega)
    have h1 : 0 < 2 ^ (p + 1) := Nat.two_pow_pos _
    rw [h, show 2 * 2 ^ p = 2 ^ (p + 1) by rw [Nat.pow_succ, Nat.mul_comm]]
    exact lN_sub (b := 1) h1
  rw [e, pg_tb_and, pg_tb_N hj, Nat.testBit_two_pow_sub_one]
  congr 1
  exact decide_eq_decide.mpr (by omega)
theorem pg_textAt {post : Int32 → Prop} {A R L T p : Nat} {lf rt sp : Nat → Nat} {ds : Nat → Nat → Nat} {sq ps : Nat → Nat} {tt : Nat → Int32} (hG : pg_GR A R lf rt sp ds) (hal : ∀ k, k < R → al k = nI (lf k) ∧ ar k = nI (rt k)) (hsn : ∀ s, s < A + R → sn s = nI (sp s)) (hA : A ≤ 8) (hR : R ≤ 23) (hsp : ∀ s, s < A + R → sp s ≤ 100)
    (hX : pg_X L T sq ps fs ft ay an ap pd pc ct la ra lv) (hC : pg_Cv A R sp ds tt L sq ps) (hp0 : p < T) (hp : ∀ t, t < A → tt p = nI t → post (nI t)) : wpX_textAt post (fc, nI A, fm, fr, fs, ft, fq, nI T, lv, fb, gr, gl, gc, al, ar, sn, ay, an, ap, pd, pc, ct, la, ra, bb, bl, br, bs, bm) (nI p) := by
  obtain ⟨hP, hS, hSt, _, _, _⟩ := hX
  have hT := hP.2.2.1
  obtain ⟨i, hi, h1, h2⟩ := pg_find hP hp0
  obtain ⟨c1, c2, c3⟩ := hC i hi
  have hi48 := pg_lt48 hP hi
  refine br_f (nI_pos (by omega)) (br_t (nI_lt hp0 (by omega)) ?_)
  refine pg_hbB (ps i) (by omega) ?_ ?_ ?_
  · rw [pg_mask (by omega) (by omega), (hSt.1 (ps i) (by omega)).mpr ⟨i, hi, rfl⟩]
    simp [h1]
  · intro j hj hj64
    rw [pg_mask (by omega) hj64]
    by_cases e : j ≤ p
    · have : pg_tb fs j = false := by
        apply ts_nt
        intro z
        obtain ⟨k, hk, e2⟩ := (hSt.1 j hj64).mp z
        rcases Nat.lt_or_ge i k with t | t
        · rcases Nat.lt_or_ge (i + 1) k with t2 | t2
          · have := pg_mono hP k t2 (by omega); omega
          · have e3 : k = i + 1 := by omega
            subst e3; omega
        · rcases Nat.lt_or_ge k i with t2 | t2
          · have := pg_mono hP i t2 (by omega); omega
          · have e3 : k = i := by omega
            subst e3; omega
      rw [this]; rfl
    · simp [e]
  · refine And.intro (vp_in_nI hi48 (by omega)) ?_
    rw [nI_clamp (by omega), hS.1 i hi, pk_sub h1]
    refine pg_desc hG hal hsn hA hR hsp c1 (by omega) (hp _ (pg_dsA hG _ _ _ (Nat.lt_succ_self _) c1) ?_)
    rw [← c3 (p - ps i) (by omega)]
    exact congrArg tt (by omega)
end PGK
end
section
section PGL
/-! the reference's expand: splits the first rule symbol until none is left -/
def pg_EI (A R : Nat) (sp : Nat → Nat) (ds : Nat → Nat → Nat) (s n p : Nat) (w q : Nat → Nat) (e : Nat → Int32) : Prop :=
  q 0 = 0 ∧ q n = sp s ∧ (∀ i, i < p → w i < A) ∧ ∀ i, i < n → q (i + 1) = q i + sp (w i) ∧ e i = nI (w i) ∧ w i < A + R ∧ ∀ o, o < sp (w i) → ds s (q i + o) = ds (w i) o
theorem pg_EIle {A R s n p : Nat} {lf rt sp : Nat → Nat} {ds : Nat → Nat → Nat} {w q : Nat → Nat} {e : Nat → Int32} (hG : pg_GR A R lf rt sp ds) (h : pg_EI A R sp ds s n p w q e) : ∀ i, i ≤ n → i ≤ q i := by
  intro i
  induction i with
  | zero => intro _; omega
  | succ i ih =>
    intro hi
    obtain ⟨h1, _, h3, _⟩ := h.2.2.2 i (by omega)
    have := ih (by omega)
    have := pg_sp1 hG _ _ (Nat.lt_succ_self _) h3
    omega
theorem pg_EIend {A R s n : Nat} {lf rt sp : Nat → Nat} {ds : Nat → Nat → Nat} {w q : Nat → Nat} {e : Nat → Int32} (hG : pg_GR A R lf rt sp ds) (h : pg_EI A R sp ds s n n w q e) : n = sp s ∧ ∀ i, i < n → e i = nI (ds s i) := by
  obtain ⟨h0, hn, ht, hs⟩ := h
  have hq : ∀ i, i ≤ n → q i = i := by
    intro i
    induction i with
    | zero => intro _; exact h0
    | succ i ih =>
      intro hi
      rw [(hs i (by omega)).1, ih (by omega), (hG.1 _ (ht i (by omega))).1]
  refine ⟨by rw [← hn, hq n (Nat.le_refl n)], fun i hi => ?_⟩
  obtain ⟨_, h2, _, h4⟩ := hs i hi
  have h5 := hG.1 _ (ht i hi)
  have h6 := h4 0 (by omega)
  rw [h5.2 0, hq i (by omega), Nat.add_zero] at h6
  rw [h2, h6]
theorem pg_EIsplit {A R s n p k : Nat} {lf rt sp : Nat → Nat} {ds : Nat → Nat → Nat} {w q : Nat → Nat} {e e' : Nat → Int32} (hG : pg_GR A R lf rt sp ds) (h : pg_EI A R sp ds s n p w q e) (hp : p < n) (hk : k < R) (hw : w p = A + k)
    (h1 : ∀ j, j < p → e' j = e j) (h2 : e' p = nI (lf k)) (h3 : e' (p + 1) = nI (rt k)) (h4 : ∀ j, p + 2 ≤ j → j ≤ n → e' j = e (j - 1)) :
    pg_EI A R sp ds s (n + 1) p (fun j => if j < p then w j else if j = p then lf k else if j = p + 1 then rt k else w (j - 1)) (fun j => if j ≤ p then q j else if j = p + 1 then q p + sp (lf k) else q (j - 1)) e' := by
  obtain ⟨h0, hn, ht, hs⟩ := h
  obtain ⟨g1, g2, g3, g4⟩ := hG.2 k hk
  obtain ⟨p1, p2, p3, p4⟩ := hs p hp
  rw [hw, g3] at p1
  rw [hw] at p4
  refine ⟨?_, ?_, ?_, ?_⟩
  · show (if 0 ≤ p then q 0 else _) = 0
    rw [if_pos (by omega)]; exact h0
  · show (if n + 1 ≤ p then q (n + 1) else if n + 1 = p + 1 then q p + sp (lf k) else q (n + 1 - 1)) = sp s
    rw [if_neg (by omega), if_neg (by omega)]; exact hn
  · intro i hi
    show (if i < p then w i else _) < A
    rw [if_pos hi]; exact ht i hi
  · intro i hi
    show (if i + 1 ≤ p then q (i + 1) else if i + 1 = p + 1 then q p + sp (lf k) else q (i + 1 - 1)) = (if i ≤ p then q i else if i = p + 1 then q p + sp (lf k) else q (i - 1)) + sp (if i < p then w i else if i = p then lf k else if i = p + 1 then rt k else w (i - 1)) ∧
      e' i = nI (if i < p then w i else if i = p then lf k else if i = p + 1 then rt k else w (i - 1)) ∧ (if i < p then w i else if i = p then lf k else if i = p + 1 then rt k else w (i - 1)) < A + R ∧
      ∀ o, o < sp (if i < p then w i else if i = p then lf k else if i = p + 1 then rt k else w (i - 1)) → ds s ((if i ≤ p then q i else if i = p + 1 then q p + sp (lf k) else q (i - 1)) + o) = ds (if i < p then w i else if i = p then lf k else if i = p + 1 then rt k else w (i - 1)) o
    by_cases a : i < p
    · rw [if_pos a, if_pos (show i + 1 ≤ p by omega), if_pos (show i ≤ p by omega), h1 i a]
      exact hs i (by omega)
    · by_cases b : i = p
      · subst b
        rw [if_neg a, if_neg (show ¬ i + 1 ≤ i by omega), if_pos rfl, if_pos (Nat.le_refl i), if_pos rfl]
        refine ⟨rfl, h2, by omega, ?_⟩
        intro o ho
        rw [p4 o (by omega), g4 o, if_pos ho]
      · by_cases c : i = p + 1
        · subst c
          rw [if_neg a, if_neg b, if_pos rfl, if_neg (show ¬ p + 1 ≤ p by omega), if_pos rfl, if_neg (show ¬ p + 1 + 1 ≤ p by omega), if_neg (show ¬ p + 1 + 1 = p + 1 by omega)]
          refine ⟨by show q (p + 1) = _; omega, h3, by omega, ?_⟩
          intro o ho
          rw [Nat.add_assoc, p4 _ (by omega), g4, if_neg (by omega)]
          exact congrArg (ds (rt k)) (by omega)
        · rw [if_neg a, if_neg b, if_neg c, if_neg (show ¬ i ≤ p by omega), if_neg c, if_neg (show ¬ i + 1 ≤ p by omega), if_neg (show ¬ i + 1 = p + 1 by omega), h4 i (by omega) (by omega)]
          obtain ⟨r1, r2, r3, r4⟩ := hs (i - 1) (by omega)
          rw [show i - 1 + 1 = i by omega] at r1
          exact ⟨r1, r2, r3, r4⟩
variable {yc : Int32} {ya : Int32} {ym : Int32} {yx : Int32} {yq : Int32} {yr : Int32} {yb : Int32} {yk : Int32} {tt : (Nat → Int32)} {tu : (Nat → Int32)} {ts : (Nat → Int32)} {tv : (Nat → Int32)} {sd : (Nat → Int32)} {ex : (Nat → Int32)} {yB : (Nat → Int32)}
theorem pg_ex57 {x2 x6 : Int32} {p n rd base k R : Nat} {lf rt : Nat → Nat} (hsd : ∀ k, k < R → sd (base + 2 * k) = nI (lf k) ∧ sd (base + 2 * k + 1) = nI (rt k)) (hb : base + 2 * R ≤ 92) (hk : k < R) (hx2 : x2 = nI base) (hx6 : x6 = nI k) (hn : n < 99) :
    ∀ (d m : Nat) (ex : Nat → Int32), p + 1 + d = m → m ≤ n → ∃ ex' : Nat → Int32, (∀ j, j < p → ex' j = ex j) ∧ ex' p = nI (lf k) ∧ ex' (p + 1) = nI (rt k) ∧ (∀ j, p + 2 ≤ j → j ≤ m → ex' j = ex (j - 1)) ∧ (∀ j, p + 2 ≤ j → m < j → ex' j = ex j) ∧
      ∀ (post : Int32 → SY → Prop) (J : Int32 → Int32 → Int32 → (Nat → Int32) → (Nat → Int32) → (Nat → Int32) → (Nat → Int32) → (Nat → Int32) → (Nat → Int32) → (Nat → Int32) → Prop),
        J (nI (n + 1)) (nI p) (nI (rd + 1)) tt tu ts tv sd ex' yB → wY_expand_57 post J x2 (nI n) (nI p) (nI rd) x6 yc ya ym yx yq yr yb yk (d + 1) (nI m) tt tu ts tv sd ex yB := by
  subst hx2 hx6
  have hix : nI base + 2 * nI k = nI (base + 2 * k) := by rw [show (2 : Int32) * nI k = nI (2 * k) from pk_mul 2 k, nI_add]
  intro d
  induction d with
  | zero =>
    intro m ex hm hmn
    subst hm
    refine ⟨upd (upd ex p (nI (lf k))) (p + 1) (nI (rt k)), fun j hj => ?_, ?_, pk_us, fun j a b => by omega, fun j a b => ?_, fun post J h => ?_⟩
    · rw [pk_un (by omega), pk_un (by omega)]
    · rw [pk_un (by omega), pk_us]
    · rw [pk_un (by omega), pk_un (by omega)]
    · have hcl1 : (nI p + 1).toNatClampNeg = p + 1 := pg_clp (by omega)
      refine br_t (by rw [nI_1]; exact nI_le (by omega) (by omega)) ?_
      rw [hix]
      refine And.intro (vp_in_nI (by omega) (by omega)) (And.intro (vp_in_nI (by omega) (by omega)) (nm_r (e' := upd ex p (nI (lf k))) (by rw [nI_clamp (by omega), nI_clamp (by omega), (hsd k hk).1]) (And.intro (by rw [nI_1]; exact vp_in_nI (by omega) (by omega)) (And.intro (by rw [nI_1]; exact vp_in_nI (by omega) (by omega)) ?_))))
      exact nm_r (e' := upd (upd ex p (nI (lf k))) (p + 1) (nI (rt k))) (by rw [hcl1, pg_clp (by omega), (hsd k hk).2]) (nm_r (nI_1 n) (nm_r (nI_1 rd) h))
  | succ d ih =>
    intro m ex hm hmn
    obtain ⟨ex', a1, a2, a3, a4, a5, a6⟩ := ih (m - 1) (upd ex m (ex (m - 1))) (by omega) (by omega)
    refine ⟨ex', fun j hj => ?_, a2, a3, fun j b1 b2 => ?_, fun j b1 b2 => ?_, fun post J h => ?_⟩
    · rw [a1 j hj, pk_un (by omega)]
    · by_cases e : j = m
      · subst e; rw [a5 j b1 (by omega), pk_us]
      · rw [a4 j b1 (by omega), pk_un (by omega)]
    · rw [a5 j b1 (by omega), pk_un (by omega)]
    · have hm1 : nI m - 1 = nI (m - 1) := pk_sub (b := 1) (by omega)
      refine br_f (by rw [nI_1]; exact nI_ge (by omega) (by omega)) ?_
      rw [hm1]
      exact And.intro (vp_in_nI (by omega) (by omega)) (And.intro (vp_in_nI (by omega) (by omega)) (nm_r (e' := upd ex m (ex (m - 1))) (by rw [nI_clamp (by omega), nI_clamp (by omega)]) (nm_r (e' := nI (m - 1)) (sb_m1 (by omega)) (a6 post J h))))
theorem pg_ex15 {A R base s : Nat} {lf rt sp : Nat → Nat} {ds : Nat → Nat → Nat} (hG : pg_GR A R lf rt sp ds) (hsd : ∀ k, k < R → sd (base + 2 * k) = nI (lf k) ∧ sd (base + 2 * k + 1) = nI (rt k)) (hb : base + 2 * R ≤ 92) (hA : A ≤ 8) (hsp : sp s ≤ 96) :
    ∀ (m p n : Nat) (ex : Nat → Int32) (w q : Nat → Nat), p + n + m = 2 * sp s → p ≤ n → 1 ≤ n → pg_EI A R sp ds s n p w q ex → ∃ ex' : Nat → Int32, (∀ i, i < sp s → ex' i = nI (ds s i)) ∧
      ∀ post : Int32 → SY → Prop, post (nI (sp s)) (yc, nI A, ym, yx, yq, yr, yb, yk, tt, tu, ts, tv, sd, ex', yB) → wY_expand_15 post (nI base) yc (nI A) ym yx yq yr yb yk (m + 1) (nI n) (nI p) (nI (p + n - 1)) tt tu ts tv sd ex yB := by
  intro m
  induction m with
  | zero =>
    intro p n ex w q hm hpn hn hE
    have hle := pg_EIle hG hE n (Nat.le_refl n)
    rw [hE.2.1] at hle
    have e : p = n := by omega
    subst e
    obtain ⟨e1, e2⟩ := pg_EIend hG hE
    refine ⟨ex, fun i hi => e2 i (by omega), fun post h => ?_⟩
    rw [← e1] at h
    exact br_f (nI_ge (b := 200) (by omega) (by omega)) (br_t (nI_le (Nat.le_refl _) (by omega)) h)
  | succ m ih =>
    intro p n ex w q hm hpn hn hE
    have hle := pg_EIle hG hE n (Nat.le_refl n)
    rw [hE.2.1] at hle
    by_cases e : p = n
    · subst e
      have e1 := (pg_EIend hG hE).1
      omega
    · have hp : p < n := by omega
      obtain ⟨r1, r2, r3, r4⟩ := hE.2.2.2 p hp
      have hcl : (nI p).toNatClampNeg = p := nI_clamp (by omega)
      rcases Nat.lt_or_ge (w p) A with z | z
      · have hE' : pg_EI A R sp ds s n (p + 1) w q ex := by
          refine ⟨hE.1, hE.2.1, fun i hi => ?_, hE.2.2.2⟩
          by_cases e2 : i = p
          · subst e2; exact z
          · exact hE.2.2.1 i (by omega)
        obtain ⟨ex', a1, a2⟩ := ih (p + 1) n ex w q (by omega) (by omega) hn hE'
        refine ⟨ex', a1, fun post h => ?_⟩
        have W := a2 post h
        rw [show p + 1 + n - 1 = p + n - 1 + 1 by omega] at W
        refine br_f (nI_ge (b := 200) (by omega) (by omega)) (br_f (nI_ge (by omega) (by omega)) (And.intro (vp_in_nI (by omega) (by omega)) (nm_r (e' := nI (w p) - nI A) (by rw [hcl, r2]) ?_)))
        refine br_f ?_ (nm_r (nI_1 p) (nm_r (nI_1 (p + n - 1)) W))
        have := pk_sneg (a := w p) (b := A) (by omega) z
        exact Int32.not_le.mpr this
      · have hk : w p - A < R := by omega
        have hw : w p = A + (w p - A) := by omega
        obtain ⟨ex1, b1, b2, b3, b4, b5, b6⟩ := pg_ex57 (yc := yc) (ya := nI A) (ym := ym) (yx := yx) (yq := yq) (yr := yr) (yb := yb) (yk := yk) (tt := tt) (tu := tu) (ts := ts) (tv := tv) (sd := sd) (yB := yB) (x2 := nI base) (x6 := nI (w p - A)) (p := p) (n := n) (rd := p + n - 1) (base := base) (k := w p - A) (R := R) (lf := lf) (rt := rt) hsd hb hk rfl rfl (by omega) (n - p - 1) n ex (by omega) (Nat.le_refl n)
        have hE' := pg_EIsplit (e' := ex1) hG hE hp hk hw b1 b2 b3 b4
        obtain ⟨ex', a1, a2⟩ := ih p (n + 1) ex1 _ _ (by omega) (by omega) (by omega) hE'
        refine ⟨ex', a1, fun post h => ?_⟩
        have W := a2 post h
        rw [show p + (n + 1) - 1 = p + n - 1 + 1 by omega] at W
        refine br_f (nI_ge (b := 200) (by omega) (by omega)) (br_f (nI_ge (by omega) (by omega)) (And.intro (vp_in_nI (by omega) (by omega)) (nm_r (e' := nI (w p - A)) (by rw [hcl, r2]; exact pk_sub z) ?_)))
        exact br_t (nI_pos' (by omega)) (Exists.intro _ (b6 post _ W))
theorem pg_expand {A R base s : Nat} {lf rt sp : Nat → Nat} {ds : Nat → Nat → Nat} (hG : pg_GR A R lf rt sp ds) (hsd : ∀ k, k < R → sd (base + 2 * k) = nI (lf k) ∧ sd (base + 2 * k + 1) = nI (rt k)) (hb : base + 2 * R ≤ 92) (hA : A ≤ 8) (hs : s < A + R) (hsp : sp s ≤ 96) :
    ∃ ex' : Nat → Int32, (∀ i, i < sp s → ex' i = nI (ds s i)) ∧
      ∀ post : Int32 → SY → Prop, post (nI (sp s)) (yc, nI A, ym, yx, yq, yr, yb, yk, tt, tu, ts, tv, sd, ex', yB) → wpY_expand post (yc, nI A, ym, yx, yq, yr, yb, yk, tt, tu, ts, tv, sd, ex, yB) (nI s) (nI base) := by
  have h1 := pg_sp1 hG _ _ (Nat.lt_succ_self _) hs
  have hE : pg_EI A R sp ds s 1 0 (fun _ => s) (fun i => if i = 0 then 0 else sp s) (upd ex 0 (nI s)) := by
    refine ⟨rfl, rfl, fun i hi => by omega, fun i hi => ?_⟩
    have e : i = 0 := by omega
    subst e
    refine ⟨?_, pk_us, hs, fun o _ => ?_⟩
    · show sp s = 0 + sp s
      omega
    · show ds s (0 + o) = ds s o
      rw [Nat.zero_add]
  obtain ⟨ex', a1, a2⟩ := pg_ex15 (yc := yc) (ym := ym) (yx := yx) (yq := yq) (yr := yr) (yb := yb) (yk := yk) (tt := tt) (tu := tu) (ts := ts) (tv := tv) (sd := sd) (yB := yB) hG hsd hb hA hsp (2 * sp s - 1) 0 1 (upd ex 0 (nI s)) _ _ (by omega) (by omega) (by omega) hE
  refine ⟨ex', a1, fun post h => ?_⟩
  exact nm_e (Exists.intro _ (a2 post h))
end PGL
end
section
section PGM
/-! the relation -/
def pg_R (c A M R L T B : Nat) (lf rt sp : Nat → Nat) (ds : Nat → Nat → Nat) (sq ps : Nat → Nat) (fs : Int64) (ft : Int32) (lv : Int64) (al ar sn ay an ap pd : Nat → Int32) (pc : Nat → Int64) (ct la ra bb bs tt ts sd : Nat → Int32) : Prop :=
  (8 ≤ c ∧ c ≤ 48 ∧ 2 ≤ A ∧ A ≤ 8 ∧ 1 ≤ M ∧ M ≤ 23 ∧ R ≤ M) ∧
  pg_GR A R lf rt sp ds ∧ (∀ s, s < A + R → sp s ≤ c) ∧
  ((∀ k, k < R → al k = nI (lf k) ∧ ar k = nI (rt k)) ∧ (∀ s, s < A + R → sn s = nI (sp s))) ∧
  (∀ k, k < R → sd (0 + 2 * k) = nI (lf k) ∧ sd (0 + 2 * k + 1) = nI (rt k)) ∧
  T ≤ c ∧ pg_Cv A R sp ds tt L sq ps ∧
  pg_X L T sq ps fs ft ay an ap pd pc ct la ra lv ∧
  (∀ i, i < L → ts i = nI (sq i)) ∧ (B ≤ 1024 ∧ ∀ j, bb j = 0 ∨ bb j = 1) ∧ (∀ s, s < A → bs s = 1)
/-- the relation at the head of a turn whose first cell is k -/
def i_Rel (_ : Nat) (u : SX) (v : SY) : Prop := ∀ P : SX → SY → Prop, (∀ (c A M R L T B : Nat) (lf rt sp : Nat → Nat) (ds : Nat → Nat → Nat) (sq ps : Nat → Nat) (fs : Int64) (ft : Int32) (lv : Int64) (al ar sn ay an ap pd : Nat → Int32) (pc : Nat → Int64) (ct la ra bb bs tt ts sd : Nat → Int32) (gr gl gc : Int32) (bl br bm : Nat → Int32) (yk : Int32) (tu tv ex : Nat → Int32), pg_R c A M R L T B lf rt sp ds sq ps fs ft lv al ar sn ay an ap pd pc ct la ra bb bs tt ts sd → P (nI c, nI A, nI M, nI R, fs, ft, nI L, nI T, lv, nI B, gr, gl, gc, al, ar, sn, ay, an, ap, pd, pc, ct, la, ra, bb, bl, br, bs, bm) (nI c, nI A, nI M, nI T, nI L, nI R, nI B, yk, tt, tu, ts, tv, sd, ex, bb)) → P u v
theorem i_up {k : Nat} {u : SX} {v : SY} (h : i_Rel k u v) : i_Rel (k + 3) u v := h
theorem pg_mk (k : Nat) {c A M R L T B : Nat} {lf rt sp : Nat → Nat} {ds : Nat → Nat → Nat} {sq ps : Nat → Nat} {fs : Int64} {ft : Int32} {lv : Int64} {al ar sn ay an ap pd : Nat → Int32} {pc : Nat → Int64} {ct la ra bb bs tt ts sd : Nat → Int32} {gr gl gc : Int32} {bl br bm : Nat → Int32} {yk : Int32} {tu tv ex : Nat → Int32} (h : pg_R c A M R L T B lf rt sp ds sq ps fs ft lv al ar sn ay an ap pd pc ct la ra bb bs tt ts sd) : i_Rel k (nI c, nI A, nI M, nI R, fs, ft, nI L, nI T, lv, nI B, gr, gl, gc, al, ar, sn, ay, an, ap, pd, pc, ct, la, ra, bb, bl, br, bs, bm) (nI c, nI A, nI M, nI T, nI L, nI R, nI B, yk, tt, tu, ts, tv, sd, ex, bb) := fun _ H => H c A M R L T B lf rt sp ds sq ps fs ft lv al ar sn ay an ap pd pc ct la ra bb bs tt ts sd gr gl gc bl br bm yk tu tv ex h
/-! the constructors -/
theorem pg_clampXY (p : Int32) (lo hi : Nat) (h1 : lo ≤ hi) (h2 : hi < 100) : ∃ c, lo ≤ c ∧ c ≤ hi ∧ (∀ (post : Int32 → Prop) (u : SX), post (nI c) → wpX_clamp post u p (nI lo) (nI hi)) ∧
    ∀ Q : Int32 → Prop, Q (nI c) → (nI lo ≤ p → ((p ≤ nI hi → Q p) ∧ (¬ p ≤ nI hi → Q (nI hi)))) ∧ (¬ nI lo ≤ p → Q (nI lo)) := by
  by_cases a : nI lo ≤ p
  · by_cases b : p ≤ nI hi
    · have hneg : ¬ p < 0 := fun z => nI_pos (n := lo) (by omega) (Int32.lt_of_le_of_lt a z)
      obtain ⟨j, hj, rfl⟩ := nI_of hneg
      rw [nI_leI (by omega) hj] at a
      rw [nI_leI hj (by omega)] at b
      exact ⟨j, a, b, fun post u hp => br_t (nI_le a hj) (br_t (nI_le b (by omega)) hp), fun Q hQ => br_t (nI_le a hj) (br_t (nI_le b (by omega)) hQ)⟩
    · exact ⟨hi, h1, Nat.le_refl _, fun post u hp => br_t a (br_f b hp), fun Q hQ => br_t a (br_f b hQ)⟩
  · exact ⟨lo, Nat.le_refl _, h1, fun post u hp => br_f a hp, fun Q hQ => br_f a hQ⟩
theorem pg_K0 {pd : Nat → Int32} (h : ∀ j, j < 48 → pd j = -1) : pg_K pd (fun _ => 0) (fun _ => 0) (fun _ => 0) (fun _ => 0) 0 := by
  have hcn : ∀ c, c < 1024 → pg_cn pd c 48 = 0 := by
    intro c hc
    rcases Nat.lt_or_ge 0 (pg_cn pd c 48) with z | z
    · obtain ⟨j, hj, e⟩ := pg_cn_pos 48 z
      rw [h j hj] at e
      exact absurd e (pg_m1ne (by omega))
    · omega
  refine ⟨⟨?_, ?_, ?_⟩, ?_, ?_, ?_⟩
  · intro v l r hv hl hr
    show bt 0 r = true ↔ pg_cn pd (l * 32 + r) 48 = v ∧ 2 ≤ v
    rw [b_0, hcn _ (by omega)]
    constructor
    · intro z; exact absurd z (by decide)
    · rintro ⟨z, z2⟩; omega
  · intro v l hv hl
    show bt 0 l = true ↔ ¬ (0 : Int32) = 0
    rw [b_0]
    constructor
    · intro z; exact absurd z (by decide)
    · intro z; exact absurd rfl z
  · intro v hv
    show pg_tb 0 v = true ↔ v < 49 ∧ ¬ (0 : Int32) = 0
    rw [pg_tb_0]
    constructor
    · intro z; exact absurd z (by decide)
    · rintro ⟨_, z⟩; exact absurd rfl z
  · intro c hc
    rw [hcn c hc]
    rfl
  · intro c hc j hj
    show pg_tb 0 j = true ↔ _
    rw [pg_tb_0]
    constructor
    · intro z; exact absurd z (by decide)
    · rintro ⟨a, b⟩
      rw [h j a] at b
      exact absurd b (pg_m1ne (by omega))
  · intro j hj
    exact Or.inl (h j hj)
theorem pg_X0 {pd : Nat → Int32} {sq : Nat → Nat} {ay an ap : Nat → Int32} (h : ∀ j, j < 48 → pd j = -1) : pg_X 0 0 sq (fun _ => 0) 0 (-1) ay an ap pd (fun _ => 0) (fun _ => 0) (fun _ => 0) (fun _ => 0) 0 := by
  refine ⟨⟨rfl, rfl, by omega, fun i hi => by omega, fun i hi => by omega⟩, ⟨fun i hi => by omega, fun i hi => by omega, fun i hi => by omega⟩, ⟨?_, rfl⟩, pg_K0 h, fun j hj _ => h j hj, fun i hi => by omega⟩
  intro j hj
  rw [pg_tb_0]
  constructor
  · intro z; exact absurd z (by decide)
  · rintro ⟨i, hi, _⟩; omega
variable {fc : Int32} {fa : Int32} {fm : Int32} {fr : Int32} {fs : Int64} {ft : Int32} {fq : Int32} {fx : Int32} {lv : Int64} {fb : Int32} {gr : Int32} {gl : Int32} {gc : Int32} {al : (Nat → Int32)} {ar : (Nat → Int32)} {sn : (Nat → Int32)} {ay : (Nat → Int32)} {an : (Nat → Int32)} {ap : (Nat → Int32)} {pd : (Nat → Int32)} {pc : (Nat → Int64)} {ct : (Nat → Int32)} {la : (Nat → Int32)} {ra : (Nat → Int32)} {bb : (Nat → Int32)} {bl : (Nat → Int32)} {br : (Nat → Int32)} {bs : (Nat → Int32)} {bm : (Nat → Int32)}
theorem pg_i215 {post : SX → Prop} (hp : ∀ pd' : Nat → Int32, (∀ j, j < 48 → pd' j = -1) → post (fc, fa, fm, fr, fs, ft, fq, fx, lv, fb, gr, gl, gc, al, ar, sn, ay, an, ap, pd', pc, ct, la, ra, bb, bl, br, bs, bm)) :
    ∀ (d i : Nat) (pd : Nat → Int32), i + d = 48 → (∀ j, j < i → pd j = -1) → wX_init_215 post fc fa fm fr fs ft fq fx lv fb gr gl gc (d + 1) (nI i) al ar sn ay an ap pd pc ct la ra bb bl br bs bm := by
  intro d
  induction d with
  | zero =>
    intro i pd hi h
    exact br_t (nI_le (a := 48) (by omega) (by omega)) (hp pd (fun j hj => h j (by omega)))
  | succ d ih =>
    intro i pd hi h
    refine br_f (nI_ge (b := 48) (by omega) (by omega)) (And.intro (vp_in_nI (by omega) (by omega)) (nm_r (e' := upd pd i (-1)) (by rw [nI_clamp (by omega)]) (nm_r (nI_1 i) (ih (i + 1) _ (by omega) ?_))))
    intro j hj
    by_cases e : j = i
    · subst e; exact pk_us
    · rw [pk_un e]; exact h j (by omega)
theorem pg_i181 {post : SX → Prop} {A : Nat} (hA : A ≤ 8) (hp : ∀ sn' pd' bs' : Nat → Int32, (∀ s, s < A → sn' s = 1 ∧ bs' s = 1) → (∀ j, j < 48 → pd' j = -1) → post (fc, nI A, fm, fr, fs, ft, fq, fx, lv, fb, gr, gl, gc, al, ar, sn', ay, an, ap, pd', pc, ct, la, ra, bb, bl, br, bs', bm)) :
    ∀ (d i : Nat) (sn bs : Nat → Int32), i + d = A → (∀ s, s < i → sn s = 1 ∧ bs s = 1) → wX_init_181 post fc (nI A) fm fr fs ft fq fx lv fb gr gl gc (d + 1) (nI i) al ar sn ay an ap pd pc ct la ra bb bl br bs bm := by
  intro d
  induction d with
  | zero =>
    intro i sn bs hi h
    refine br_t (nI_le (by omega) (by omega)) (Exists.intro 49 ?_)
    exact pg_i215 (fun pd' h' => hp _ _ _ (fun s hs => h s (by omega)) h') 48 0 pd (by omega) (fun j hj => by omega)
  | succ d ih =>
    intro i sn bs hi h
    refine br_f (nI_ge (by omega) (by omega)) (And.intro (vp_in_nI (by omega) (by omega)) (nm_r (e' := upd sn i 1) (by rw [nI_clamp (by omega)]) (And.intro (vp_in_nI (by omega) (by omega)) (nm_r (e' := upd bs i 1) (by rw [nI_clamp (by omega)]) (nm_r (nI_1 i) (ih (i + 1) _ _ (by omega) ?_))))))
    intro s hs
    by_cases e : s = i
    · subst e; exact ⟨pk_us, pk_us⟩
    · rw [pk_un e, pk_un e]; exact h s (by omega)
theorem i_vc0 (k0 : Int32) (k1 : Int32) (k2 : Int32) : wpX_init (fun u => wpY_init (fun v => i_Rel 3 u v) k0 k1 k2) k0 k1 k2 := by
  obtain ⟨c, c1, c2, cX, cY⟩ := pg_clampXY k0 8 48 (by omega) (by omega)
  obtain ⟨A, a1, a2, aX, aY⟩ := pg_clampXY k1 2 8 (by omega) (by omega)
  obtain ⟨M, m1, m2, mX, mY⟩ := pg_clampXY k2 1 23 (by omega) (by omega)
  unfold wpX_init
  refine cX _ _ (aX _ _ (mX _ _ (Exists.intro (A + 1) ?_)))
  refine pg_i181 a2 ?_ A 0 _ _ (by omega) (fun s hs => by omega)
  intro sn' pd' bs' hs hd
  refine cY (fun z => wY_init_85 _ k1 k2 z 0 0 0 0 0 0 0 0 (fun _ => 0) (fun _ => 0) (fun _ => 0) (fun _ => 0) (fun _ => 0) (fun _ => 0) (fun _ => 0)) ?_
  refine aY (fun z => wY_init_110 _ k2 z (nI c) 0 0 0 0 0 0 0 (fun _ => 0) (fun _ => 0) (fun _ => 0) (fun _ => 0) (fun _ => 0) (fun _ => 0) (fun _ => 0)) ?_
  refine mY (fun z => i_Rel 3 _ (nI c, nI A, z, 0, 0, 0, 0, 0, (fun _ => 0), (fun _ => 0), (fun _ => 0), (fun _ => 0), (fun _ => 0), (fun _ => 0), (fun _ => 0))) ?_
  have h : pg_R c A M 0 0 0 0 (fun _ => 0) (fun _ => 0) (fun _ => 1) (fun s _ => s) (fun _ => 0) (fun _ => 0) 0 (-1) 0 (fun _ => 0) (fun _ => 0) sn' (fun _ => 0) (fun _ => 0) (fun _ => 0) pd' (fun _ => 0) (fun _ => 0) (fun _ => 0) (fun _ => 0) (fun _ => 0) bs' (fun _ => 0) (fun _ => 0) (fun _ => 0) := by
    refine ⟨⟨c1, c2, a1, a2, m1, m2, by omega⟩, pg_GR0, fun s _ => by show 1 ≤ c; omega, ⟨fun k hk => by omega, fun s hs' => (hs s hs').1⟩, fun k hk => by omega, by omega, fun i hi => by omega, pg_X0 hd, fun i hi => by omega, ⟨by omega, fun j => Or.inl rfl⟩, fun s hs' => (hs s hs').2⟩
  exact pg_mk 3 (gr := 0) (gl := 0) (gc := 0) (bl := fun _ => 0) (br := fun _ => 0) (bm := fun _ => 0) (yk := 0) (tu := fun _ => 0) (tv := fun _ => 0) (ex := fun _ => 0) h
end PGM
end
section
section PGN
/-! the methods that only read -/
theorem i_vc_size {k : Nat} {u : SX} {v : SY} (I : i_Rel k u v) (hk : k + 3 ≤ 1539) (v1 : Int32) : wpX_size (fun r => wpY_size (fun r' => r' = r ∧ i_Rel (k + 3) u v) v v1) u v1 := by
  refine I (fun u v => wpX_size (fun r => wpY_size (fun r' => r' = r ∧ i_Rel (k + 3) u v) v v1) u v1) ?_
  intro c A M R L T B lf rt sp ds sq ps fs ft lv al ar sn ay an ap pd pc ct la ra bb bs tt ts sd gr gl gc bl br bm yk tu tv ex hR
  have K := pg_mk (k + 3) (gr := gr) (gl := gl) (gc := gc) (bl := bl) (br := br) (bm := bm) (yk := yk) (tu := tu) (tv := tv) (ex := ex) hR
  by_cases h0 : v1 = 0
  · exact br_t h0 (br_t h0 (br_t h0 ⟨rfl, K⟩))
  · by_cases h1 : v1 = 1
    · exact br_f h0 (br_t h1 (br_f h0 (br_t h1 (br_f h0 ⟨rfl, K⟩))))
    · by_cases h2 : v1 = 2
      · exact br_f h0 (br_f h1 (br_t h2 (br_f h0 (br_f h1 (br_t h2 (br_t h2 ⟨rfl, K⟩))))))
      · by_cases h3 : v1 = 3
        · exact br_f h0 (br_f h1 (br_f h2 (br_t h3 (br_f h0 (br_f h1 (br_f h2 (br_t h3 (br_f h2 ⟨rfl, K⟩))))))))
        · exact br_f h0 (br_f h1 (br_f h2 (br_f h3 (br_f h0 (br_f h1 (br_f h2 (br_f h3 ⟨rfl, K⟩)))))))
theorem i_vc_textAt {k : Nat} {u : SX} {v : SY} (I : i_Rel k u v) (hk : k + 3 ≤ 1539) (v1 : Int32) : wpX_textAt (fun r => wpY_textAt (fun r' => r' = r ∧ i_Rel (k + 3) u v) v v1) u v1 := by
  refine I (fun u v => wpX_textAt (fun r => wpY_textAt (fun r' => r' = r ∧ i_Rel (k + 3) u v) v v1) u v1) ?_
  intro c A M R L T B lf rt sp ds sq ps fs ft lv al ar sn ay an ap pd pc ct la ra bb bs tt ts sd gr gl gc bl br bm yk tu tv ex hR
  have K := pg_mk (k + 3) (gr := gr) (gl := gl) (gc := gc) (bl := bl) (br := br) (bm := bm) (yk := yk) (tu := tu) (tv := tv) (ex := ex) hR
  obtain ⟨⟨hc8, hc48, hA2, hA8, hM1, hM23, hRM⟩, hG, hspc, ⟨hal, hsn⟩, hsd, hTc, hC, hX, hts, ⟨hB, hbb⟩, hbs⟩ := hR
  by_cases h0 : v1 < 0
  · exact br_t h0 (br_t h0 ⟨rfl, K⟩)
  · obtain ⟨p, hp, rfl⟩ := nI_of h0
    have hT := hX.1.2.2.1
    rcases Nat.lt_or_ge p T with z | z
    · refine pg_textAt hG hal hsn hA8 (by omega) (fun s hs => Nat.le_trans (hspc s hs) (by omega)) hX hC z ?_
      intro t ht e
      refine br_f h0 (br_t (nI_lt z (by omega)) (And.intro (vp_in_nI (by omega) (by omega)) ?_))
      rw [nI_clamp hp]
      exact ⟨e, K⟩
    · exact br_f h0 (br_f (nI_nlt z hp) (br_f h0 (br_f (nI_nlt z hp) ⟨rfl, K⟩)))
theorem i_vc_bitAt {k : Nat} {u : SX} {v : SY} (I : i_Rel k u v) (hk : k + 3 ≤ 1539) (v1 : Int32) : wpX_bitAt (fun r => wpY_bitAt (fun r' => r' = r ∧ i_Rel (k + 3) u v) v v1) u v1 := by
  refine I (fun u v => wpX_bitAt (fun r => wpY_bitAt (fun r' => r' = r ∧ i_Rel (k + 3) u v) v v1) u v1) ?_
  intro c A M R L T B lf rt sp ds sq ps fs ft lv al ar sn ay an ap pd pc ct la ra bb bs tt ts sd gr gl gc bl br bm yk tu tv ex hR
  have K := pg_mk (k + 3) (gr := gr) (gl := gl) (gc := gc) (bl := bl) (br := br) (bm := bm) (yk := yk) (tu := tu) (tv := tv) (ex := ex) hR
  obtain ⟨⟨hc8, hc48, hA2, hA8, hM1, hM23, hRM⟩, hG, hspc, ⟨hal, hsn⟩, hsd, hTc, hC, hX, hts, ⟨hB, hbb⟩, hbs⟩ := hR
  by_cases h0 : v1 < 0
  · exact br_t h0 (br_t h0 ⟨rfl, K⟩)
  · obtain ⟨p, hp, rfl⟩ := nI_of h0
    rcases Nat.lt_or_ge p B with z | z
    · have hin : vp_in (nI p) 1024 := vp_in_nI (by omega) (by omega)
      exact br_f h0 (br_t (nI_lt z (by omega)) (And.intro hin (br_f h0 (br_t (nI_lt z (by omega)) (And.intro hin ⟨rfl, K⟩)))))
    · exact br_f h0 (br_f (nI_nlt z hp) (br_f h0 (br_f (nI_nlt z hp) ⟨rfl, K⟩)))
theorem pg_sq18 {fc : Int32} {fa : Int32} {fm : Int32} {fr : Int32} {fs : Int64} {ft : Int32} {fq : Int32} {fx : Int32} {lv : Int64} {fb : Int32} {gr : Int32} {gl : Int32} {gc : Int32} {al : (Nat → Int32)} {ar : (Nat → Int32)} {sn : (Nat → Int32)} {ay : (Nat → Int32)} {an : (Nat → Int32)} {ap : (Nat → Int32)} {pd : (Nat → Int32)} {pc : (Nat → Int64)} {ct : (Nat → Int32)} {la : (Nat → Int32)} {ra : (Nat → Int32)} {bb : (Nat → Int32)} {bl : (Nat → Int32)} {br : (Nat → Int32)} {bs : (Nat → Int32)} {bm : (Nat → Int32)} {post : Int32 → Prop} {L T p : Nat} {sq ps : Nat → Nat} (hP : pg_P L T sq ps) (hS : pg_S L sq ps ay an ap) (hp : p < L) (h : post (nI (sq p))) :
    ∀ d k : Nat, k + d = p → wX_sequenceAt_18 post (nI p) fc fa fm fr fs ft fq fx lv fb gr gl gc al ar sn ay an ap pd pc ct la ra bb bl br bs bm (d + 1) (nI (ps k)) (nI k) := by
  have hL := pg_L48 hP
  intro d
  induction d with
  | zero =>
    intro k hk
    have e : k = p := hk
    subst e
    have h48 := pg_lt48 hP hp
    refine br_t (nI_le (Nat.le_refl _) (by omega)) (And.intro (vp_in_nI h48 (by omega)) ?_)
    rw [nI_clamp (by omega), hS.1 k hp]
    exact h
  | succ d ih =>
    intro k hk
    have h48 := pg_lt48 hP (show k < L by omega)
    exact br_f (nI_ge (by omega) (by omega)) (And.intro (vp_in_nI h48 (by omega)) (nm_r (e' := nI (ps (k + 1))) (by rw [nI_clamp (by omega), hS.2.1 k (by omega), if_pos (by omega)]) (nm_r (nI_1 k) (ih (k + 1) (by omega)))))
theorem i_vc_sequenceAt {k : Nat} {u : SX} {v : SY} (I : i_Rel k u v) (hk : k + 3 ≤ 1539) (v1 : Int32) : wpX_sequenceAt (fun r => wpY_sequenceAt (fun r' => r' = r ∧ i_Rel (k + 3) u v) v v1) u v1 := by
  refine I (fun u v => wpX_sequenceAt (fun r => wpY_sequenceAt (fun r' => r' = r ∧ i_Rel (k + 3) u v) v v1) u v1) ?_
  intro c A M R L T B lf rt sp ds sq ps fs ft lv al ar sn ay an ap pd pc ct la ra bb bs tt ts sd gr gl gc bl br bm yk tu tv ex hR
  have K := pg_mk (k + 3) (gr := gr) (gl := gl) (gc := gc) (bl := bl) (br := br) (bm := bm) (yk := yk) (tu := tu) (tv := tv) (ex := ex) hR
  obtain ⟨⟨hc8, hc48, hA2, hA8, hM1, hM23, hRM⟩, hG, hspc, ⟨hal, hsn⟩, hsd, hTc, hC, hX, hts, ⟨hB, hbb⟩, hbs⟩ := hR
  by_cases h0 : v1 < 0
  · exact br_t h0 (br_t h0 ⟨rfl, K⟩)
  · obtain ⟨p, hp, rfl⟩ := nI_of h0
    have hL := pg_L48 hX.1
    rcases Nat.lt_or_ge p L with z | z
    · refine br_f h0 (br_t (nI_lt z (by omega)) (Exists.intro (p + 1) ?_))
      have h00 : nI (ps 0) = 0 := by rw [hX.1.1]; rfl
      have W := pg_sq18 (fc := nI c) (fa := nI A) (fm := nI M) (fr := nI R) (fs := fs) (ft := ft) (fq := nI L) (fx := nI T) (lv := lv) (fb := nI B) (gr := gr) (gl := gl) (gc := gc) (al := al) (ar := ar) (sn := sn) (ay := ay) (an := an) (ap := ap) (pd := pd) (pc := pc) (ct := ct) (la := la) (ra := ra) (bb := bb) (bl := bl) (br := br) (bs := bs) (bm := bm) (post := fun r => wpY_sequenceAt (fun r' => r' = r ∧ i_Rel (k + 3) (nI c, nI A, nI M, nI R, fs, ft, nI L, nI T, lv, nI B, gr, gl, gc, al, ar, sn, ay, an, ap, pd, pc, ct, la, ra, bb, bl, br, bs, bm) (nI c, nI A, nI M, nI T, nI L, nI R, nI B, yk, tt, tu, ts, tv, sd, ex, bb)) (nI c, nI A, nI M, nI T, nI L, nI R, nI B, yk, tt, tu, ts, tv, sd, ex, bb) (nI p)) (p := p) hX.1 hX.2.1 z
        (br_f h0 (br_t (nI_lt z (by omega)) (And.intro (vp_in_nI (by omega) (by omega)) ⟨by rw [nI_clamp hp]; exact hts p z, K⟩))) p 0 (by omega)
      rw [h00] at W
      exact W
    · exact br_f h0 (br_f (nI_nlt z hp) (br_f h0 (br_f (nI_nlt z hp) ⟨rfl, K⟩)))
theorem i_vc_ruleSide {k : Nat} {u : SX} {v : SY} (I : i_Rel k u v) (hk : k + 3 ≤ 1539) (v1 : Int32) (v2 : Int32) : wpX_ruleSide (fun r => wpY_ruleSide (fun r' => r' = r ∧ i_Rel (k + 3) u v) v v1 v2) u v1 v2 := by
  refine I (fun u v => wpX_ruleSide (fun r => wpY_ruleSide (fun r' => r' = r ∧ i_Rel (k + 3) u v) v v1 v2) u v1 v2) ?_
  intro c A M R L T B lf rt sp ds sq ps fs ft lv al ar sn ay an ap pd pc ct la ra bb bs tt ts sd gr gl gc bl br bm yk tu tv ex hR
  have K := pg_mk (k + 3) (gr := gr) (gl := gl) (gc := gc) (bl := bl) (br := br) (bm := bm) (yk := yk) (tu := tu) (tv := tv) (ex := ex) hR
  obtain ⟨⟨hc8, hc48, hA2, hA8, hM1, hM23, hRM⟩, hG, hspc, ⟨hal, hsn⟩, hsd, hTc, hC, hX, hts, ⟨hB, hbb⟩, hbs⟩ := hR
  by_cases h0 : v1 < 0
  · exact br_t h0 (br_t h0 ⟨rfl, K⟩)
  · obtain ⟨p, hp, rfl⟩ := nI_of h0
    rcases Nat.lt_or_ge p R with z | z
    · have hin : vp_in (nI p) 23 := vp_in_nI (by omega) (by omega)
      have hf : ¬ nI R ≤ nI p := nI_ge z (by omega)
      by_cases h1 : v2 < 0
      · exact br_f h0 (br_f hf (br_t h1 (br_f h0 (br_f hf (br_t h1 ⟨rfl, K⟩)))))
      · obtain ⟨q, hq, rfl⟩ := nI_of h1
        have h2p : (2 : Int32) * nI p + nI q = nI (2 * p + q) := by rw [show (2 : Int32) * nI p = nI (2 * p) from pk_mul 2 p, nI_add]
        rcases Nat.lt_or_ge q 2 with z2 | z2
        · have hle : nI q ≤ 1 := nI_le (b := 1) (by omega) (by omega)
          have S := hsd p z
          rw [Nat.zero_add] at S
          by_cases e : q = 0
          · subst e
            refine br_f h0 (br_f hf (br_f h1 (br_t hle (br_t rfl (And.intro hin (br_f h0 (br_f hf (br_f h1 (br_t hle (And.intro ?_ ?_))))))))))
            · rw [h2p]; exact vp_in_nI (by omega) (by omega)
            · refine ⟨?_, K⟩
              rw [h2p, nI_clamp (by omega), nI_clamp hp, (hal p z).1]
              exact S.1
          · have e1 : q = 1 := by omega
            subst e1
            refine br_f h0 (br_f hf (br_f h1 (br_t hle (br_f (by decide) (And.intro hin (br_f h0 (br_f hf (br_f h1 (br_t hle (And.intro ?_ ?_))))))))))
            · rw [h2p]; exact vp_in_nI (by omega) (by omega)
            · refine ⟨?_, K⟩
              rw [h2p, nI_clamp (by omega), nI_clamp hp, (hal p z).2]
              exact S.2
        · have hle : ¬ nI q ≤ 1 := nI_ge (a := 1) (by omega) (by omega)
          exact br_f h0 (br_f hf (br_f h1 (br_f hle (br_f h0 (br_f hf (br_f h1 (br_f hle ⟨rfl, K⟩)))))))
    · have ht : nI R ≤ nI p := nI_le z hp
      exact br_f h0 (br_t ht (br_f h0 (br_t ht ⟨rfl, K⟩)))
variable {fc : Int32} {fa : Int32} {fm : Int32} {fr : Int32} {fs : Int64} {ft : Int32} {fq : Int32} {fx : Int32} {lv : Int64} {fb : Int32} {gr : Int32} {gl : Int32} {gc : Int32} {al : (Nat → Int32)} {ar : (Nat → Int32)} {sn : (Nat → Int32)} {ay : (Nat → Int32)} {an : (Nat → Int32)} {ap : (Nat → Int32)} {pd : (Nat → Int32)} {pc : (Nat → Int64)} {ct : (Nat → Int32)} {la : (Nat → Int32)} {ra : (Nat → Int32)} {bb : (Nat → Int32)} {bl : (Nat → Int32)} {br : (Nat → Int32)} {bs : (Nat → Int32)} {bm : (Nat → Int32)}
theorem pg_defX {post : Int32 → Prop} {A R s : Nat} (hs : s < A + R) (hA : A + R < 1000) (hp : post 1) : wpX_defined post (fc, nI A, fm, nI R, fs, ft, fq, fx, lv, fb, gr, gl, gc, al, ar, sn, ay, an, ap, pd, pc, ct, la, ra, bb, bl, br, bs, bm) (nI s) :=
  br_f (nI_pos (by omega)) (br_f (by rw [nI_add]; exact nI_ge hs (by omega)) hp)
theorem pg_defXn {post : Int32 → Prop} {A R : Nat} {x : Int32} (hx : x < 0 ∨ nI (A + R) ≤ x) (hp : post 0) : wpX_defined post (fc, nI A, fm, nI R, fs, ft, fq, fx, lv, fb, gr, gl, gc, al, ar, sn, ay, an, ap, pd, pc, ct, la, ra, bb, bl, br, bs, bm) x := by
  by_cases h : x < 0
  · exact br_t h hp
  · refine br_f h (br_t ?_ hp)
    rw [nI_add]
    rcases hx with z | z
    · exact absurd z h
    · exact z
theorem i_vc_frequency {k : Nat} {u : SX} {v : SY} (I : i_Rel k u v) (hk : k + 3 ≤ 1539) (v1 : Int32) (v2 : Int32) : wpX_frequency (fun r => wpY_frequency (fun r' => r' = r ∧ i_Rel (k + 3) u v) v v1 v2) u v1 v2 := by
  refine I (fun u v => wpX_frequency (fun r => wpY_frequency (fun r' => r' = r ∧ i_Rel (k + 3) u v) v v1 v2) u v1 v2) ?_
  intro c A M R L T B lf rt sp ds sq ps fs ft lv al ar sn ay an ap pd pc ct la ra bb bs tt ts sd gr gl gc bl br bm yk tu tv ex hR
  have K := pg_mk (k + 3) (gr := gr) (gl := gl) (gc := gc) (bl := bl) (br := br) (bm := bm) (yk := yk) (tu := tu) (tv := tv) (ex := ex) hR
  obtain ⟨⟨hc8, hc48, hA2, hA8, hM1, hM23, hRM⟩, hG, hspc, ⟨hal, hsn⟩, hsd, hTc, hC, hX, hts, ⟨hB, hbb⟩, hbs⟩ := hR
  have H1 : (v1 < 0 ∨ nI (A + R) ≤ v1) ∨ ∃ j : Nat, j < A + R ∧ v1 = nI j := by
    rcases pk_ix v1 (n := A + R) (by omega) with z | z | z
    · exact Or.inl (Or.inl z)
    · exact Or.inl (Or.inr z)
    · exact Or.inr z
  have H2 : (v2 < 0 ∨ nI (A + R) ≤ v2) ∨ ∃ j : Nat, j < A + R ∧ v2 = nI j := by
    rcases pk_ix v2 (n := A + R) (by omega) with z | z | z
    · exact Or.inl (Or.inl z)
    · exact Or.inl (Or.inr z)
    · exact Or.inr z
  unfold wpX_frequency
  rcases H1 with z | ⟨a, ha, rfl⟩
  · refine pg_defXn z (br_t rfl ?_)
    unfold wpY_frequency
    exact pg_defYn z (br_t rfl ⟨rfl, K⟩)
  · refine pg_defX ha (by omega) (br_f (by decide) ?_)
    rcases H2 with z | ⟨b, hb, rfl⟩
    · refine pg_defXn z (br_t rfl ?_)
      unfold wpY_frequency
      exact pg_defY ha (by omega) (br_f (by decide) (pg_defYn z (br_t rfl ⟨rfl, K⟩)))
    · refine pg_defX hb (by omega) (br_f (by decide) ?_)
      rw [pg_row]
      refine And.intro (vp_in_nI (by omega) (by omega)) ?_
      refine pg_freqY (pg_L48 hX.1 |> fun h => by omega) hts (fun i hi => hX.1.2.2.2.2 i hi) (by omega) ha hb ⟨?_, K⟩
      rw [nI_clamp (by omega), hX.2.2.2.1.2.1 _ (by omega), pg_cnG hX.1 (by omega) (by omega) hX.2.2.2.2.1 hX.2.2.2.2.2]
theorem i_vc_symbolLength {k : Nat} {u : SX} {v : SY} (I : i_Rel k u v) (hk : k + 3 ≤ 1539) (v1 : Int32) : wpX_symbolLength (fun r => wpY_symbolLength (fun r' v' => r' = r ∧ i_Rel (k + 3) u v') v v1) u v1 := by
  refine I (fun u v => wpX_symbolLength (fun r => wpY_symbolLength (fun r' v' => r' = r ∧ i_Rel (k + 3) u v') v v1) u v1) ?_
  intro c A M R L T B lf rt sp ds sq ps fs ft lv al ar sn ay an ap pd pc ct la ra bb bs tt ts sd gr gl gc bl br bm yk tu tv ex hR
  have K : ∀ ex, i_Rel (k + 3) (nI c, nI A, nI M, nI R, fs, ft, nI L, nI T, lv, nI B, gr, gl, gc, al, ar, sn, ay, an, ap, pd, pc, ct, la, ra, bb, bl, br, bs, bm) (nI c, nI A, nI M, nI T, nI L, nI R, nI B, yk, tt, tu, ts, tv, sd, ex, bb) := fun ex => pg_mk (k + 3) (gr := gr) (gl := gl) (gc := gc) (bl := bl) (br := br) (bm := bm) (yk := yk) (tu := tu) (tv := tv) (ex := ex) hR
  obtain ⟨⟨hc8, hc48, hA2, hA8, hM1, hM23, hRM⟩, hG, hspc, ⟨hal, hsn⟩, hsd, hTc, hC, hX, hts, ⟨hB, hbb⟩, hbs⟩ := hR
  unfold wpX_symbolLength
  rcases pk_ix v1 (n := A + R) (by omega) with z | z | ⟨a, ha, rfl⟩
  · refine pg_defXn (Or.inl z) (br_t rfl ?_)
    unfold wpY_symbolLength
    exact pg_defYn (Or.inl z) (br_t rfl ⟨rfl, K ex⟩)
  · refine pg_defXn (Or.inr z) (br_t rfl ?_)
    unfold wpY_symbolLength
    exact pg_defYn (Or.inr z) (br_t rfl ⟨rfl, K ex⟩)
  · have h1 := hspc a ha
    obtain ⟨ex', e1, e2⟩ := pg_expand (yc := nI c) (ym := nI M) (yx := nI T) (yq := nI L) (yr := nI R) (yb := nI B) (yk := yk) (tt := tt) (tu := tu) (ts := ts) (tv := tv) (sd := sd) (ex := ex) (yB := bb) (base := 0) (s := a) hG hsd (by omega) hA8 ha (by omega)
    refine pg_defX ha (by omega) (br_f (by decide) (And.intro (vp_in_nI (by omega) (by omega)) ?_))
    rw [nI_clamp (by omega), hsn a ha]
    unfold wpY_symbolLength
    refine pg_defY ha (by omega) (br_f (by decide) ?_)
    exact e2 _ ⟨rfl, K ex'⟩
theorem i_vc_symbolAt {k : Nat} {u : SX} {v : SY} (I : i_Rel k u v) (hk : k + 3 ≤ 1539) (v1 : Int32) (v2 : Int32) : wpX_symbolAt (fun r => wpY_symbolAt (fun r' v' => r' = r ∧ i_Rel (k + 3) u v') v v1 v2) u v1 v2 := by
  refine I (fun u v => wpX_symbolAt (fun r => wpY_symbolAt (fun r' v' => r' = r ∧ i_Rel (k + 3) u v') v v1 v2) u v1 v2) ?_
  intro c A M R L T B lf rt sp ds sq ps fs ft lv al ar sn ay an ap pd pc ct la ra bb bs tt ts sd gr gl gc bl br bm yk tu tv ex hR
  have K : ∀ ex, i_Rel (k + 3) (nI c, nI A, nI M, nI R, fs, ft, nI L, nI T, lv, nI B, gr, gl, gc, al, ar, sn, ay, an, ap, pd, pc, ct, la, ra, bb, bl, br, bs, bm) (nI c, nI A, nI M, nI T, nI L, nI R, nI B, yk, tt, tu, ts, tv, sd, ex, bb) := fun ex => pg_mk (k + 3) (gr := gr) (gl := gl) (gc := gc) (bl := bl) (br := br) (bm := bm) (yk := yk) (tu := tu) (tv := tv) (ex := ex) hR
  obtain ⟨⟨hc8, hc48, hA2, hA8, hM1, hM23, hRM⟩, hG, hspc, ⟨hal, hsn⟩, hsd, hTc, hC, hX, hts, ⟨hB, hbb⟩, hbs⟩ := hR
  have N : ∀ z : v1 < 0 ∨ nI (A + R) ≤ v1, wpX_symbolAt (fun r => wpY_symbolAt (fun r' v' => r' = r ∧ i_Rel (k + 3) (nI c, nI A, nI M, nI R, fs, ft, nI L, nI T, lv, nI B, gr, gl, gc, al, ar, sn, ay, an, ap, pd, pc, ct, la, ra, bb, bl, br, bs, bm) v') (nI c, nI A, nI M, nI T, nI L, nI R, nI B, yk, tt, tu, ts, tv, sd, ex, bb) v1 v2) (nI c, nI A, nI M, nI R, fs, ft, nI L, nI T, lv, nI B, gr, gl, gc, al, ar, sn, ay, an, ap, pd, pc, ct, la, ra, bb, bl, br, bs, bm) v1 v2 := by
    intro z
    unfold wpX_symbolAt
    refine pg_defXn z (br_t rfl ?_)
    unfold wpY_symbolAt wpY_symbolLength
    refine pg_defYn z (br_t rfl ?_)
    by_cases h0 : v2 < 0
    · exact br_t h0 ⟨rfl, K ex⟩
    · refine br_f h0 (br_f ?_ ⟨rfl, K ex⟩)
      intro h1
      exact h0 (Int32.lt_trans h1 (by decide))
  rcases pk_ix v1 (n := A + R) (by omega) with z | z | ⟨a, ha, rfl⟩
  · exact N (Or.inl z)
  · exact N (Or.inr z)
  · have h1 := hspc a ha
    obtain ⟨ex', e1, e2⟩ := pg_expand (yc := nI c) (ym := nI M) (yx := nI T) (yq := nI L) (yr := nI R) (yb := nI B) (yk := yk) (tt := tt) (tu := tu) (ts := ts) (tv := tv) (sd := sd) (ex := ex) (yB := bb) (base := 0) (s := a) hG hsd (by omega) hA8 ha (by omega)
    have hin : vp_in (nI a) 32 := vp_in_nI (by omega) (by omega)
    have hsa : sn (nI a).toNatClampNeg = nI (sp a) := by rw [nI_clamp (by omega), hsn a ha]
    unfold wpX_symbolAt
    refine pg_defX ha (by omega) (br_f (by decide) ?_)
    have Y : ∀ q : Int32 → SY → Prop, ((v2 < 0 → q (-1) (nI c, nI A, nI M, nI T, nI L, nI R, nI B, yk, tt, tu, ts, tv, sd, ex', bb)) ∧ (¬ v2 < 0 → ((v2 < nI (sp a) → vp_in v2 100 ∧ q (ex' v2.toNatClampNeg) (nI c, nI A, nI M, nI T, nI L, nI R, nI B, yk, tt, tu, ts, tv, sd, ex', bb)) ∧ (¬ v2 < nI (sp a) → q (-1) (nI c, nI A, nI M, nI T, nI L, nI R, nI B, yk, tt, tu, ts, tv, sd, ex', bb))))) → wpY_symbolAt q (nI c, nI A, nI M, nI T, nI L, nI R, nI B, yk, tt, tu, ts, tv, sd, ex, bb) (nI a) v2 := by
      intro q hq
      unfold wpY_symbolAt wpY_symbolLength
      refine pg_defY ha (by omega) (br_f (by decide) ?_)
      exact e2 _ hq
    by_cases h0 : v2 < 0
    · exact br_t h0 (Y _ (br_t h0 ⟨rfl, K ex'⟩))
    · obtain ⟨o, ho, rfl⟩ := nI_of h0
      refine br_f h0 (And.intro hin ?_)
      rw [hsa]
      rcases Nat.lt_or_ge o (sp a) with z | z
      · refine br_t (nI_lt z (by omega)) ?_
        refine pg_desc hG hal hsn hA8 (by omega) (fun s hs => Nat.le_trans (hspc s hs) (by omega)) ha (by omega) ?_
        refine Y _ (br_f h0 (br_t (nI_lt z (by omega)) (And.intro (vp_in_nI (by omega) (by omega)) ⟨?_, K ex'⟩)))
        rw [nI_clamp ho]
        exact e1 o z
      · exact br_f (nI_nlt z ho) (Y _ (br_f h0 (br_f (nI_nlt z ho) ⟨rfl, K ex'⟩)))
end PGN
end
section
section PGO
/-! append, copy, clear -/
theorem pg_CvE {A R L T s w : Nat} {sp : Nat → Nat} {ds : Nat → Nat → Nat} {tt tt' : Nat → Int32} {sq ps : Nat → Nat} (h : pg_Cv A R sp ds tt L sq ps) (hT : ps L = T) (hm : ∀ i, i < L → ps (i + 1) ≤ T) (hs : s < A + R) (hw : w = sp s) (h1 : ∀ j, j < T → tt' j = tt j) (h2 : ∀ o, o < w → tt' (T + o) = nI (ds s o)) :
    pg_Cv A R sp ds tt' (L + 1) (pg_up sq L s) (pg_up ps (L + 1) (T + w)) := by
  subst hw
  intro i hi
  by_cases e : i = L
  · subst e
    rw [pg_ups, pg_ups, pg_upn (by omega), hT]
    exact ⟨hs, rfl, h2⟩
  · obtain ⟨a, b, d⟩ := h i (by omega)
    have := hm i (by omega)
    rw [pg_upn e, pg_upn (show i ≠ L + 1 by omega), pg_upn (show i + 1 ≠ L + 1 by omega)]
    refine ⟨a, b, fun o ho => ?_⟩
    rw [h1 _ (by omega)]
    exact d o ho
theorem pg_psle {L T : Nat} {sq ps : Nat → Nat} (hP : pg_P L T sq ps) {i : Nat} (hi : i < L) : ps (i + 1) ≤ T := by
  rcases Nat.lt_or_ge (i + 1) L with z | z
  · have := pg_lt hP z; omega
  · have e : i + 1 = L := by omega
    rw [e, hP.2.1]
    omega
theorem pg_Rapp {c A M R L T B : Nat} {lf rt sp : Nat → Nat} {ds : Nat → Nat → Nat} {sq ps : Nat → Nat} {fs : Int64} {ft : Int32} {lv : Int64} {al ar sn ay an ap pd : Nat → Int32} {pc : Nat → Int64} {ct la ra bb bs tt ts sd : Nat → Int32} {s : Nat} (hR : pg_R c A M R L T B lf rt sp ds sq ps fs ft lv al ar sn ay an ap pd pc ct la ra bb bs tt ts sd) (hs : s < A) (hT : T < c) (fs' : Int64) (ft' : Int32) (ay' an' ap' pd' : Nat → Int32) (pc' : Nat → Int64) (ct' la' ra' : Nat → Int32) (lv' : Int64) (hX' : pg_X (L + 1) (T + 1) (pg_up sq L s) (pg_up ps (L + 1) (T + 1)) fs' ft' ay' an' ap' pd' pc' ct' la' ra' lv') :
    pg_R c A M R (L + 1) (T + 1) B lf rt sp ds (pg_up sq L s) (pg_up ps (L + 1) (T + 1)) fs' ft' lv' al ar sn ay' an' ap' pd' pc' ct' la' ra' bb bs (upd tt T (nI s)) (upd ts L (nI s)) sd := by
  obtain ⟨⟨hc8, hc48, hA2, hA8, hM1, hM23, hRM⟩, hG, hspc, ⟨hal, hsn⟩, hsd, hTc, hC, hX, hts, ⟨hB, hbb⟩, hbs⟩ := hR
  have h1 := hG.1 s hs
  refine ⟨⟨hc8, hc48, hA2, hA8, hM1, hM23, hRM⟩, hG, hspc, ⟨hal, hsn⟩, hsd, by omega, ?_, hX', ?_, ⟨hB, hbb⟩, hbs⟩
  · refine pg_CvE hC hX.1.2.1 (fun i hi => pg_psle hX.1 hi) (by omega) h1.1.symm (fun j hj => pk_un (by omega)) ?_
    intro o ho
    have e : o = 0 := by omega
    subst e
    rw [h1.2 0]
    exact pk_us
  · intro i hi
    by_cases e : i = L
    · subst e; rw [pk_us, pg_ups]
    · rw [pk_un e, pg_upn e]; exact hts i (by omega)
theorem pg_appY {yk : Int32} {tt : (Nat → Int32)} {tu : (Nat → Int32)} {ts : (Nat → Int32)} {tv : (Nat → Int32)} {sd : (Nat → Int32)} {ex : (Nat → Int32)} {bb : Nat → Int32} {c A M R L T B s : Nat} {post : Int32 → SY → Prop} (hs : s < A) (hA : A ≤ 8) (hT : T < c) (hc : c ≤ 48) (hL : L ≤ T)
    (hp : post (nI (T + 1)) (nI c, nI A, nI M, nI (T + 1), nI (L + 1), nI R, nI B, yk, upd tt T (nI s), tu, upd ts L (nI s), tv, sd, ex, bb)) : wpY_append post (nI c, nI A, nI M, nI T, nI L, nI R, nI B, yk, tt, tu, ts, tv, sd, ex, bb) (nI s) :=
  br_f (nI_pos (by omega)) (br_t (nI_lt hs (by omega)) (br_t (nI_lt hT (by omega)) (And.intro (vp_in_nI (by omega) (by omega)) (nm_r (e' := upd tt T (nI s)) (by rw [nI_clamp (by omega)]) (nm_r (nI_1 T) (And.intro (vp_in_nI (by omega) (by omega)) (nm_r (e' := upd ts L (nI s)) (by rw [nI_clamp (by omega)]) (nm_r (nI_1 L) hp))))))))
theorem i_vc_append {k : Nat} {u : SX} {v : SY} (I : i_Rel k u v) (hk : k + 3 ≤ 1539) (v1 : Int32) : wpX_append (fun r u' => wpY_append (fun r' v' => r' = r ∧ i_Rel (k + 3) u' v') v v1) u v1 := by
  refine I (fun u v => wpX_append (fun r u' => wpY_append (fun r' v' => r' = r ∧ i_Rel (k + 3) u' v') v v1) u v1) ?_
  intro c A M R L T B lf rt sp ds sq ps fs ft lv al ar sn ay an ap pd pc ct la ra bb bs tt ts sd gr gl gc bl br bm yk tu tv ex hR
  have K := pg_mk (k + 3) (gr := gr) (gl := gl) (gc := gc) (bl := bl) (br := br) (bm := bm) (yk := yk) (tu := tu) (tv := tv) (ex := ex) hR
  obtain ⟨⟨hc8, hc48, hA2, hA8, hM1, hM23, hRM⟩, hG, hspc, ⟨hal, hsn⟩, hsd, hTc, hC, hX, hts, ⟨hB, hbb⟩, hbs⟩ := id hR
  have hL := pg_L48 hX.1
  by_cases h0 : v1 < 0
  · exact br_t h0 (br_t h0 ⟨rfl, K⟩)
  · obtain ⟨s, hs, rfl⟩ := nI_of h0
    rcases Nat.lt_or_ge s A with z | z
    · rcases Nat.lt_or_ge T c with z2 | z2
      · refine br_f h0 (br_t (nI_lt z (by omega)) (br_t (nI_lt z2 (by omega)) ?_))
        have h1 := (hG.1 s z).1
        refine pg_extend (w := 1) hX (by omega) (by rw [hsn s (by omega), h1]) (by omega) (by omega) ?_
        intro fs' ft' ay' an' ap' pd' pc' ct' la' ra' lv' hX'
        refine pg_appY z hA8 z2 hc48 hL.1 ⟨rfl, ?_⟩
        exact pg_mk (k + 3) (pg_Rapp hR z z2 fs' ft' ay' an' ap' pd' pc' ct' la' ra' lv' hX')
      · exact br_f h0 (br_t (nI_lt z (by omega)) (br_f (nI_nlt z2 (by omega)) (br_f h0 (br_t (nI_lt z (by omega)) (br_f (nI_nlt z2 (by omega)) ⟨rfl, K⟩)))))
    · exact br_f h0 (br_f (nI_nlt z hs) (br_f h0 (br_f (nI_nlt z hs) ⟨rfl, K⟩)))
theorem pg_copyL {k cnt fr : Nat} {post : Int32 → SX → Prop} {Gl : (Int32 → SY → Prop) → Prop} (hp : ∀ (r : Int32) (u' : SX) (v' : SY), i_Rel k u' v' → (∀ q : Int32 → SY → Prop, q r v' → Gl q) → post r u') :
    ∀ (d i : Nat) (c A M R L T B : Nat) (lf rt sp : Nat → Nat) (ds : Nat → Nat → Nat) (sq ps : Nat → Nat) (fs : Int64) (ft : Int32) (lv : Int64) (al ar sn ay an ap pd : Nat → Int32) (pc : Nat → Int64) (ct la ra bb bs tt ts sd : Nat → Int32) (gr gl gc : Int32) (bl br bm : Nat → Int32) (yk : Int32) (tu tv ex : Nat → Int32), i + d = cnt → pg_R c A M R L T B lf rt sp ds sq ps fs ft lv al ar sn ay an ap pd pc ct la ra bb bs tt ts sd → T = fr + cnt + i → T + d ≤ c →
      (∀ q : Int32 → SY → Prop, wY_copy_40 q (nI cnt) (nI fr) (d + 1) (nI i) (nI c) (nI A) (nI M) (nI T) (nI L) (nI R) (nI B) yk tt tu ts tv sd ex bb → Gl q) →
      wX_copy_40 post (nI cnt) (nI fr) (d + 1) (nI i) (nI c) (nI A) (nI M) (nI R) fs ft (nI L) (nI T) lv (nI B) gr gl gc al ar sn ay an ap pd pc ct la ra bb bl br bs bm := by
  intro d
  induction d with
  | zero =>
    intro i c A M R L T B lf rt sp ds sq ps fs ft lv al ar sn ay an ap pd pc ct la ra bb bs tt ts sd gr gl gc bl br bm yk tu tv ex hi hR hT hTc hY
    have hc48 := hR.1.2.1
    refine br_t (nI_le (by omega) (by omega)) (hp _ _ _ (pg_mk k (gr := gr) (gl := gl) (gc := gc) (bl := bl) (br := br) (bm := bm) (yk := yk) (tu := tu) (tv := tv) (ex := ex) hR) (fun q hq => hY q ?_))
    exact br_t (nI_le (by omega) (by omega)) hq
  | succ d ih =>
    intro i c A M R L T B lf rt sp ds sq ps fs ft lv al ar sn ay an ap pd pc ct la ra bb bs tt ts sd gr gl gc bl br bm yk tu tv ex hi hR hT hTc hY
    obtain ⟨⟨hc8, hc48, hA2, hA8, hM1, hM23, hRM⟩, hG, hspc, ⟨hal, hsn⟩, hsd, hTc', hC, hX, hts, ⟨hB, hbb⟩, hbs⟩ := id hR
    have hL := pg_L48 hX.1
    refine br_f (nI_ge (by omega) (by omega)) ?_
    rw [nI_add]
    refine pg_textAt hG hal hsn hA8 (by omega) (fun s hs => Nat.le_trans (hspc s hs) (by omega)) hX hC (show fr + i < T by omega) ?_
    intro t ht et
    have h1 := (hG.1 t ht).1
    refine pg_extend (w := 1) hX (by omega) (by rw [hsn t (by omega), h1]) (by omega) (by omega) ?_
    intro fs' ft' ay' an' ap' pd' pc' ct' la' ra' lv' hX'
    refine nm_r (nI_1 i) ?_
    refine ih (i + 1) _ _ _ _ _ _ _ _ _ _ _ _ _ _ _ _ _ _ _ _ _ _ _ _ _ _ _ _ _ _ _ _ gr gl gc bl br bm yk tu tv ex (by omega) (pg_Rapp hR ht (by omega) fs' ft' ay' an' ap' pd' pc' ct' la' ra' lv' hX') (by omega) (by omega) ?_
    intro q hq
    refine hY q ?_
    refine br_f (nI_ge (by omega) (by omega)) ?_
    rw [nI_add]
    refine And.intro (vp_in_nI (by omega) (by omega)) ?_
    rw [nI_clamp (by omega), et]
    exact pg_appY ht hA8 (by omega) hc48 hL.1 (nm_r (nI_1 i) hq)
theorem i_vc_copy {k : Nat} {u : SX} {v : SY} (I : i_Rel k u v) (hk : k + 3 ≤ 1539) (v1 : Int32) : wpX_copy (fun r u' => wpY_copy (fun r' v' => r' = r ∧ i_Rel (k + 3) u' v') v v1) u v1 := by
  refine I (fun u v => wpX_copy (fun r u' => wpY_copy (fun r' v' => r' = r ∧ i_Rel (k + 3) u' v') v v1) u v1) ?_
  intro c A M R L T B lf rt sp ds sq ps fs ft lv al ar sn ay an ap pd pc ct la ra bb bs tt ts sd gr gl gc bl br bm yk tu tv ex hR
  have K := pg_mk (k + 3) (gr := gr) (gl := gl) (gc := gc) (bl := bl) (br := br) (bm := bm) (yk := yk) (tu := tu) (tv := tv) (ex := ex) hR
  obtain ⟨⟨hc8, hc48, hA2, hA8, hM1, hM23, hRM⟩, hG, hspc, ⟨hal, hsn⟩, hsd, hTc, hC, hX, hts, ⟨hB, hbb⟩, hbs⟩ := id hR
  by_cases h0 : v1 < 1
  · exact br_t h0 (br_t h0 ⟨rfl, K⟩)
  · have hneg : ¬ v1 < 0 := fun z => h0 (Int32.lt_trans z (by decide))
    obtain ⟨n, hn, rfl⟩ := nI_of hneg
    have hn1 : 1 ≤ n := by
      rcases Nat.lt_or_ge n 1 with z | z
      · exact absurd (nI_lt (b := 1) z (by decide)) h0
      · exact z
    rcases Nat.lt_or_ge T n with z | z
    · exact br_f h0 (br_f (nI_ge z hn) (br_f h0 (br_f (nI_ge z hn) ⟨rfl, K⟩)))
    · rcases Nat.lt_or_ge c (T + n) with z2 | z2
      · have hf : ¬ nI T + nI n ≤ nI c := by rw [nI_add]; exact nI_ge z2 (by omega)
        exact br_f h0 (br_t (nI_le z (by omega)) (br_f hf (br_f h0 (br_t (nI_le z (by omega)) (br_f hf ⟨rfl, K⟩)))))
      · have ht : nI T + nI n ≤ nI c := by rw [nI_add]; exact nI_le z2 (by omega)
        refine br_f h0 (br_t (nI_le z (by omega)) (br_t ht (nm_r (e' := nI (T - n)) (pk_sub z) (Exists.intro (n + 1) ?_))))
        refine pg_copyL (k := k + 3) (Gl := fun q => wpY_copy q (nI c, nI A, nI M, nI T, nI L, nI R, nI B, yk, tt, tu, ts, tv, sd, ex, bb) (nI n)) ?_ n 0 c A M R L T B lf rt sp ds sq ps fs ft lv al ar sn ay an ap pd pc ct la ra bb bs tt ts sd gr gl gc bl br bm yk tu tv ex (by omega) hR (by omega) (by omega) ?_
        · intro r u' v' hRel hG'
          exact hG' _ ⟨rfl, hRel⟩
        · intro q hq
          exact br_f h0 (br_t (nI_le z (by omega)) (br_t ht (nm_r (e' := nI (T - n)) (pk_sub z) (Exists.intro (n + 1) hq))))
theorem pg_R0 {c A M R L T B : Nat} {lf rt sp : Nat → Nat} {ds : Nat → Nat → Nat} {sq ps : Nat → Nat} {fs : Int64} {ft : Int32} {lv : Int64} {al ar sn ay an ap pd : Nat → Int32} {pc : Nat → Int64} {ct la ra bb bs tt ts sd : Nat → Int32} (hR : pg_R c A M R L T B lf rt sp ds sq ps fs ft lv al ar sn ay an ap pd pc ct la ra bb bs tt ts sd) {sq' : Nat → Nat} (fs' : Int64) (ft' : Int32) (ay' an' ap' pd' : Nat → Int32) (pc' : Nat → Int64) (ct' la' ra' : Nat → Int32) (lv' : Int64) (hX' : pg_X 0 0 sq' (fun _ => 0) fs' ft' ay' an' ap' pd' pc' ct' la' ra' lv') :
    pg_R c A M 0 0 0 B lf rt sp ds sq' (fun _ => 0) fs' ft' lv' al ar sn ay' an' ap' pd' pc' ct' la' ra' bb bs tt ts sd := by
  obtain ⟨⟨hc8, hc48, hA2, hA8, hM1, hM23, hRM⟩, hG, hspc, ⟨hal, hsn⟩, hsd, hTc, hC, hX, hts, ⟨hB, hbb⟩, hbs⟩ := hR
  exact ⟨⟨hc8, hc48, hA2, hA8, hM1, hM23, by omega⟩, pg_GRle hG (by omega), fun s hs => hspc s (by omega), ⟨fun k hk => by omega, fun s hs => hsn s (by omega)⟩, fun k hk => by omega, by omega, fun i hi => by omega, hX', fun i hi => by omega, ⟨hB, hbb⟩, hbs⟩
theorem i_vc_clear {k : Nat} {u : SX} {v : SY} (I : i_Rel k u v) (hk : k + 3 ≤ 1539) (v1 : Int32) : wpX_clear (fun r u' => wpY_clear (fun r' v' => r' = r ∧ i_Rel (k + 3) u' v') v v1) u v1 := by
  refine I (fun u v => wpX_clear (fun r u' => wpY_clear (fun r' v' => r' = r ∧ i_Rel (k + 3) u' v') v v1) u v1) ?_
  intro c A M R L T B lf rt sp ds sq ps fs ft lv al ar sn ay an ap pd pc ct la ra bb bs tt ts sd gr gl gc bl br bm yk tu tv ex hR
  have K := pg_mk (k + 3) (gr := gr) (gl := gl) (gc := gc) (bl := bl) (br := br) (bm := bm) (yk := yk) (tu := tu) (tv := tv) (ex := ex) hR
  by_cases h0 : v1 = 0
  · refine br_t h0 ?_
    have hX := hR.2.2.2.2.2.2.2.1
    refine pg_forget (sq' := sq) hX ?_
    intro fs' ft' ay' an' ap' pd' pc' ct' la' ra' lv' hX'
    refine br_t h0 (br_f (by rw [h0]; decide) ⟨rfl, ?_⟩)
    exact pg_mk (k + 3) (pg_R0 hR fs' ft' ay' an' ap' pd' pc' ct' la' ra' lv' hX')
  · by_cases h3 : v1 = 3
    · refine br_f h0 (br_t h3 (br_f h0 (br_t h3 (br_t h3 ⟨rfl, ?_⟩))))
      obtain ⟨⟨hc8, hc48, hA2, hA8, hM1, hM23, hRM⟩, hG, hspc, ⟨hal, hsn⟩, hsd, hTc, hC, hX, hts, ⟨hB, hbb⟩, hbs⟩ := hR
      exact pg_mk (k + 3) (B := 0) (gr := gr) (gl := gl) (gc := gc) (bl := bl) (br := br) (bm := bm) (yk := yk) (tu := tu) (tv := tv) (ex := ex) ⟨⟨hc8, hc48, hA2, hA8, hM1, hM23, hRM⟩, hG, hspc, ⟨hal, hsn⟩, hsd, hTc, hC, hX, hts, ⟨by omega, hbb⟩, hbs⟩
    · exact br_f h0 (br_f h3 (br_f h0 (br_f h3 ⟨rfl, K⟩)))
end PGO
end
section
section PGQ
/-! step, compress -/
theorem pg_gcPos {x y L : Nat} {sq : Nat → Nat} : ∀ n, 0 < pg_gc x y L sq n → ∃ i, i < n ∧ pg_G x y L sq i = true := by
  intro n
  induction n with
  | zero => intro h; exact absurd h (by show ¬ 0 < 0; omega)
  | succ n ih =>
    intro h
    cases hG : pg_G x y L sq n with
    | true => exact ⟨n, by omega, hG⟩
    | false =>
      rw [pg_gc_s, hG] at h
      obtain ⟨i, hi, h2⟩ := ih (by simpa using h)
      exact ⟨i, by omega, h2⟩
theorem pg_CvUp {A R L l r : Nat} {sp : Nat → Nat} {ds : Nat → Nat → Nat} {tt : Nat → Int32} {sq ps : Nat → Nat} {f : Nat → Nat} {w : Nat} (h : pg_Cv A R sp ds tt L sq ps) : pg_Cv A (R + 1) (pg_up sp (A + R) w) (pg_up ds (A + R) f) tt L sq ps := by
  intro i hi
  obtain ⟨a, b, d⟩ := h i hi
  rw [pg_upn (show sq i ≠ A + R by omega), pg_upn (show sq i ≠ A + R by omega)]
  exact ⟨by omega, b, d⟩
variable {fc : Int32} {fa : Int32} {fm : Int32} {fr : Int32} {fs : Int64} {ft : Int32} {fq : Int32} {fx : Int32} {lv : Int64} {fb : Int32} {gr : Int32} {gl : Int32} {gc : Int32} {al : (Nat → Int32)} {ar : (Nat → Int32)} {sn : (Nat → Int32)} {ay : (Nat → Int32)} {an : (Nat → Int32)} {ap : (Nat → Int32)} {pd : (Nat → Int32)} {pc : (Nat → Int64)} {ct : (Nat → Int32)} {la : (Nat → Int32)} {ra : (Nat → Int32)} {bb : (Nat → Int32)} {bl : (Nat → Int32)} {br : (Nat → Int32)} {bs : (Nat → Int32)} {bm : (Nat → Int32)}
theorem pg_defRule {post : SX → Prop} {A R l r wl wr : Nat} (hR : R < 23) (hA : A + R < 32) (hl : l < A + R) (hr : r < A + R) (h1 : sn l = nI wl) (h2 : sn r = nI wr)
    (hp : post (fc, nI A, fm, nI (R + 1), fs, ft, fq, fx, lv, fb, gr, gl, gc, upd al R (nI l), upd ar R (nI r), upd sn (A + R) (nI (wl + wr)), ay, an, ap, pd, pc, ct, la, ra, bb, bl, br, bs, bm)) : wpX_defineRule post (fc, nI A, fm, nI R, fs, ft, fq, fx, lv, fb, gr, gl, gc, al, ar, sn, ay, an, ap, pd, pc, ct, la, ra, bb, bl, br, bs, bm) (nI l) (nI r) := by
  have hin : vp_in (nI R) 23 := vp_in_nI hR (by omega)
  have hAR : nI A + nI R = nI (A + R) := nI_add A R
  refine And.intro hin (nm_r (e' := upd al R (nI l)) (by rw [nI_clamp (by omega)]) (And.intro hin (nm_r (e' := upd ar R (nI r)) (by rw [nI_clamp (by omega)]) (And.intro (vp_in_nI (by omega) (by omega)) (And.intro (vp_in_nI (by omega) (by omega)) (And.intro (by rw [hAR]; exact vp_in_nI (by omega) (by omega)) (nm_r (e' := upd sn (A + R) (nI (wl + wr))) ?_ (nm_r (nI_1 R) hp))))))))
  rw [hAR, nI_clamp (by omega), nI_clamp (by omega), nI_clamp (by omega), h1, h2, nI_add]
end PGQ
section PGQ2
variable {c A M R L T B : Nat} {lf rt sp : Nat → Nat} {ds : Nat → Nat → Nat} {sq ps : Nat → Nat} {fs : Int64} {ft : Int32} {lv : Int64} {al ar sn ay an ap pd : Nat → Int32} {pc : Nat → Int64} {ct la ra bb bs tt ts sd : Nat → Int32} {gr gl gc : Int32} {bl br bm : Nat → Int32} {yk : Int32} {tu tv ex : Nat → Int32}
theorem pg_stepXY (hR : pg_R c A M R L T B lf rt sp ds sq ps fs ft lv al ar sn ay an ap pd pc ct la ra bb bs tt ts sd) (post : Int32 → SX → Prop)
    (hp0 : ∀ r : Int32, (r = 0 ∨ r = -2) → (∀ q : Int32 → SY → Prop, q r (nI c, nI A, nI M, nI T, nI L, nI R, nI B, yk, tt, tu, ts, tv, sd, ex, bb) → wpY_step q (nI c, nI A, nI M, nI T, nI L, nI R, nI B, yk, tt, tu, ts, tv, sd, ex, bb)) → post r (nI c, nI A, nI M, nI R, fs, ft, nI L, nI T, lv, nI B, gr, gl, gc, al, ar, sn, ay, an, ap, pd, pc, ct, la, ra, bb, bl, br, bs, bm))
    (hpS : ∀ (v : Nat) (L' : Nat) (lf' rt' sp' : Nat → Nat) (ds' : Nat → Nat → Nat) (sq' ps' : Nat → Nat) (fs' : Int64) (ft' : Int32) (lv' : Int64) (al' ar' sn' ay' an' ap' pd' : Nat → Int32) (pc' : Nat → Int64) (ct' la' ra' ts' sd' : Nat → Int32), 2 ≤ v → v < 49 → pg_R c A M (R + 1) L' T B lf' rt' sp' ds' sq' ps' fs' ft' lv' al' ar' sn' ay' an' ap' pd' pc' ct' la' ra' bb bs tt ts' sd' → (∀ q : Int32 → SY → Prop, q (nI v) (nI c, nI A, nI M, nI T, nI L', nI (R + 1), nI B, yk, tt, tu, ts', tv, sd', ex, bb) → wpY_step q (nI c, nI A, nI M, nI T, nI L, nI R, nI B, yk, tt, tu, ts, tv, sd, ex, bb)) → post (nI v) (nI c, nI A, nI M, nI (R + 1), fs', ft', nI L', nI T, lv', nI B, gr, gl, gc, al', ar', sn', ay', an', ap', pd', pc', ct', la', ra', bb, bl, br, bs, bm)) : wpX_step post (nI c, nI A, nI M, nI R, fs, ft, nI L, nI T, lv, nI B, gr, gl, gc, al, ar, sn, ay, an, ap, pd, pc, ct, la, ra, bb, bl, br, bs, bm) := by
  obtain ⟨⟨hc8, hc48, hA2, hA8, hM1, hM23, hRM⟩, hG, hspc, ⟨hal, hsn⟩, hsd, hTc, hC, hX, hts, ⟨hB, hbb⟩, hbs⟩ := id hR
  obtain ⟨hP, hS, hSt, hK, hD, hok⟩ := id hX
  have hL := pg_L48 hP
  have hq : ∀ i, i < L → sq i < 32 := hP.2.2.2.2
  have hcg : ∀ l r, l < 32 → r < 32 → pg_cn pd (l * 32 + r) 48 = pg_gc l r L sq L := fun l r hl hr => pg_cnG hP hl hr hD hok
  by_cases h0 : lv = 0
  · refine br_t h0 (hp0 0 (Or.inl rfl) (fun q hq0 => ?_))
    refine pg_stepY0 (by omega) hts hq (by omega) ?_ q hq0
    intro l r hl hr
    rw [← hcg l r hl hr]
    exact pg_lev0 hK.1 h0 hl hr (Nat.lt_of_le_of_lt (pg_cn_le _ _ _) (by omega))
  · obtain ⟨v, l, r, hv49, hv2, hl32, hr32, hlr, hmax, hmin, ⟨b1, b2⟩, ⟨b3, b4⟩, ⟨b5, b6⟩⟩ := pg_levN hK.1 h0 (fun c hc => Nat.lt_of_le_of_lt (pg_cn_le pd c 48) (by omega))
    have glr : pg_gc l r L sq L = v := by rw [← hcg l r hl32 hr32]; exact hlr
    have gmax : ∀ l' r', l' < 32 → r' < 32 → pg_gc l' r' L sq L ≤ v := fun l' r' a b => by rw [← hcg l' r' a b]; exact hmax l' r' a b
    have gmin : ∀ l' r', l' < 32 → r' < 32 → (l' < l ∨ l' = l ∧ r' < r) → pg_gc l' r' L sq L < v := fun l' r' a b d => by rw [← hcg l' r' a b]; exact hmin l' r' a b d
    obtain ⟨i, hi, hGi⟩ := pg_gcPos (x := l) (y := r) (L := L) (sq := sq) L (by omega)
    obtain ⟨hi1, hil, hir⟩ := pg_G_mt hGi
    obtain ⟨c1, c2, _⟩ := hC i hi
    obtain ⟨d1, d2, _⟩ := hC (i + 1) hi1
    rw [hil] at c1 c2
    rw [hir] at d1 d2
    have hle := pg_psle hP hi1
    rcases Nat.lt_or_ge R M with hRM' | hRM'
    · refine br_f h0 (br_t (nI_lt hRM' (by omega)) ?_)
      refine pg_hbB v (by omega) b1 b2 (And.intro (vp_in_nI hv49 (by omega)) ?_)
      rw [nI_clamp (show v < 2 ^ 31 by omega)]
      refine pg_lb l (by omega) (by rw [pg_ext hl32]; exact b3) (fun j hj => by rw [pg_ext (by omega)]; exact b4 j hj) ?_
      rw [pg_row]
      refine And.intro (vp_in_nI (by omega) (by omega)) ?_
      rw [nI_clamp (show v * 32 + l < 2 ^ 31 by omega)]
      refine pg_lb r (by omega) (by rw [pg_ext hr32]; exact b5) (fun j hj => by rw [pg_ext (by omega)]; exact b6 j hj) (nm_r (e' := nI (A + R)) (nI_add A R) ?_)
      refine pg_defRule (wl := sp l) (wr := sp r) (by omega) (by omega) c1 d1 (hsn l c1) (hsn r d1) ?_
      rw [pg_row]
      refine pg_replaceAll (Inv := fun L sq ps => pg_Cv A (R + 1) (pg_up sp (A + R) (sp l + sp r)) (pg_up ds (A + R) (fun o => if o < sp l then ds l o else ds r (o - sp l))) tt L sq ps) hl32 hr32 (by omega) (by omega) (by omega) ?_ hX (pg_CvUp (l := l) (r := r) hC) ?_
      · intro L1 sq1 ps1 i1 hI hi1 hx1 hy1
        refine pg_CvM (x := l) (y := r) (by omega) ?_ ?_ hI hi1 hx1 hy1
        · rw [pg_ups, pg_upn (show l ≠ A + R by omega), pg_upn (show r ≠ A + R by omega)]
        · intro o
          rw [pg_ups, pg_upn (show l ≠ A + R by omega), pg_upn (show l ≠ A + R by omega), pg_upn (show r ≠ A + R by omega)]
      · intro L' sq' ps' fs' ft' ay' an' ap' pd' pc' ct' la' ra' lv' hX' hRw hC'
        obtain ⟨ts', t1, t2⟩ := pg_stepYS (yc := nI c) (yx := nI T) (yb := nI B) (yk := yk) (tt := tt) (tu := tu) (ts := ts) (tv := tv) (sd := sd) (ex := ex) (yB := bb) (A := A) (M := M) (R := R) (L := L) (Lo := L') (v := v) (l := l) (r := r) (sq := sq) (out := sq') (by omega) hts hq (by omega) hv49 c1 d1 hv2 glr gmax gmin hRM' hM23 hRw
        refine hpS v L' (pg_up lf R l) (pg_up rt R r) (pg_up sp (A + R) (sp l + sp r)) (pg_up ds (A + R) (fun o => if o < sp l then ds l o else ds r (o - sp l))) sq' ps' fs' ft' lv' (upd al R (nI l)) (upd ar R (nI r)) (upd sn (A + R) (nI (sp l + sp r))) ay' an' ap' pd' pc' ct' la' ra' ts' (upd (upd sd (2 * R) (nI l)) (2 * R + 1) (nI r)) hv2 hv49 ?_ t2
        refine ⟨⟨hc8, hc48, hA2, hA8, hM1, hM23, by omega⟩, pg_GRadd hG c1 d1, ?_, ⟨?_, ?_⟩, ?_, hTc, hC', hX', t1, ⟨hB, hbb⟩, hbs⟩
        · intro s hs
          by_cases e : s = A + R
          · subst e; rw [pg_ups]; omega
          · rw [pg_upn e]; exact hspc s (by omega)
        · intro k hk
          by_cases e : k = R
          · subst e; rw [pk_us, pk_us, pg_ups, pg_ups]; exact ⟨rfl, rfl⟩
          · rw [pk_un e, pk_un e, pg_upn e, pg_upn e]; exact hal k (by omega)
        · intro s hs
          by_cases e : s = A + R
          · subst e; rw [pk_us, pg_ups]
          · rw [pk_un e, pg_upn e]; exact hsn s (by omega)
        · intro k hk
          rw [Nat.zero_add]
          by_cases e : k = R
          · subst e; rw [pk_us, pk_un (by omega), pk_us, pg_ups, pg_ups]; exact ⟨rfl, rfl⟩
          · have H := hsd k (by omega)
            rw [Nat.zero_add] at H
            rw [pk_un (by omega), pk_un (by omega), pk_un (by omega), pk_un (by omega), pg_upn e, pg_upn e]
            exact H
    · refine br_f h0 (br_f (nI_nlt hRM' (by omega)) (hp0 (-2) (Or.inr rfl) (fun q hq0 => ?_)))
      exact pg_stepYF (by omega) hts hq (by omega) hv49 c1 d1 hv2 glr gmax gmin hRM' q hq0
theorem pg_stepFull (hR : pg_R c A M R L T B lf rt sp ds sq ps fs ft lv al ar sn ay an ap pd pc ct la ra bb bs tt ts sd) (hM : M ≤ R) : ∃ r : Int32, (r = 0 ∨ r = -2) ∧ ∀ q : Int32 → SY → Prop, q r (nI c, nI A, nI M, nI T, nI L, nI R, nI B, yk, tt, tu, ts, tv, sd, ex, bb) → wpY_step q (nI c, nI A, nI M, nI T, nI L, nI R, nI B, yk, tt, tu, ts, tv, sd, ex, bb) := by
  obtain ⟨⟨hc8, hc48, hA2, hA8, hM1, hM23, hRM⟩, hG, hspc, ⟨hal, hsn⟩, hsd, hTc, hC, hX, hts, ⟨hB, hbb⟩, hbs⟩ := id hR
  obtain ⟨hP, hS, hSt, hK, hD, hok⟩ := id hX
  have hL := pg_L48 hP
  have hq : ∀ i, i < L → sq i < 32 := hP.2.2.2.2
  have hcg : ∀ l r, l < 32 → r < 32 → pg_cn pd (l * 32 + r) 48 = pg_gc l r L sq L := fun l r hl hr => pg_cnG hP hl hr hD hok
  by_cases h0 : lv = 0
  · refine ⟨0, Or.inl rfl, fun q hq0 => ?_⟩
    refine pg_stepY0 (by omega) hts hq (by omega) ?_ q hq0
    intro l r hl hr
    rw [← hcg l r hl hr]
    exact pg_lev0 hK.1 h0 hl hr (Nat.lt_of_le_of_lt (pg_cn_le _ _ _) (by omega))
  · obtain ⟨v, l, r, hv49, hv2, hl32, hr32, hlr, hmax, hmin, _, _, _⟩ := pg_levN hK.1 h0 (fun c hc => Nat.lt_of_le_of_lt (pg_cn_le pd c 48) (by omega))
    have glr : pg_gc l r L sq L = v := by rw [← hcg l r hl32 hr32]; exact hlr
    have gmax : ∀ l' r', l' < 32 → r' < 32 → pg_gc l' r' L sq L ≤ v := fun l' r' a b => by rw [← hcg l' r' a b]; exact hmax l' r' a b
    have gmin : ∀ l' r', l' < 32 → r' < 32 → (l' < l ∨ l' = l ∧ r' < r) → pg_gc l' r' L sq L < v := fun l' r' a b d => by rw [← hcg l' r' a b]; exact hmin l' r' a b d
    obtain ⟨i, hi, hGi⟩ := pg_gcPos (x := l) (y := r) (L := L) (sq := sq) L (by omega)
    obtain ⟨hi1, hil, hir⟩ := pg_G_mt hGi
    have c1 := (hC i hi).1
    have d1 := (hC (i + 1) hi1).1
    rw [hil] at c1
    rw [hir] at d1
    exact ⟨-2, Or.inr rfl, fun q hq0 => pg_stepYF (by omega) hts hq (by omega) hv49 c1 d1 hv2 glr gmax gmin hM q hq0⟩
end PGQ2
section PGQ3
theorem i_vc_step {k : Nat} {u : SX} {v : SY} (I : i_Rel k u v) (hk : k + 3 ≤ 1539) : wpX_step (fun r u' => wpY_step (fun r' v' => r' = r ∧ i_Rel (k + 3) u' v') v) u := by
  refine I (fun u v => wpX_step (fun r u' => wpY_step (fun r' v' => r' = r ∧ i_Rel (k + 3) u' v') v) u) ?_
  intro c A M R L T B lf rt sp ds sq ps fs ft lv al ar sn ay an ap pd pc ct la ra bb bs tt ts sd gr gl gc bl br bm yk tu tv ex hR
  refine pg_stepXY (yk := yk) (tu := tu) (tv := tv) (ex := ex) hR _ ?_ ?_
  · intro r _ hY
    exact hY _ ⟨rfl, pg_mk (k + 3) hR⟩
  · intro v L' lf' rt' sp' ds' sq' ps' fs' ft' lv' al' ar' sn' ay' an' ap' pd' pc' ct' la' ra' ts' sd' _ _ hR' hY
    exact hY _ ⟨rfl, pg_mk (k + 3) hR'⟩
theorem pg_compL {k : Nat} {x1 : Int32} {post : Int32 → SX → Prop} {Gl : (Int32 → SY → Prop) → Prop} (hp : ∀ (r : Int32) (u' : SX) (v' : SY), i_Rel k u' v' → (∀ q : Int32 → SY → Prop, q r v' → Gl q) → post r u') :
    ∀ (d j : Nat) (ans : Int32) (c A M R L T B : Nat) (lf rt sp : Nat → Nat) (ds : Nat → Nat → Nat) (sq ps : Nat → Nat) (fs : Int64) (ft : Int32) (lv : Int64) (al ar sn ay an ap pd : Nat → Int32) (pc : Nat → Int64) (ct la ra bb bs tt ts sd : Nat → Int32) (gr gl gc : Int32) (bl br bm : Nat → Int32) (yk : Int32) (tu tv ex : Nat → Int32), j + d = M → j ≤ R → ¬ ans ≤ 0 → pg_R c A M R L T B lf rt sp ds sq ps fs ft lv al ar sn ay an ap pd pc ct la ra bb bs tt ts sd →
      (∀ q : Int32 → SY → Prop, wY_compress_9 q x1 (d + 2) ans (nI j) (nI c) (nI A) (nI M) (nI T) (nI L) (nI R) (nI B) yk tt tu ts tv sd ex bb → Gl q) →
      wX_compress_7 post x1 (d + 1) (nI j) (nI c) (nI A) (nI M) (nI R) fs ft (nI L) (nI T) lv (nI B) gr gl gc al ar sn ay an ap pd pc ct la ra bb bl br bs bm := by
  have hneg : ∀ r : Int32, (r = 0 ∨ r = -2) → r ≤ 0 ∧ ¬ 0 < r := by
    rintro r (rfl | rfl)
    · exact ⟨by decide, by decide⟩
    · exact ⟨by decide, by decide⟩
  intro d
  induction d with
  | zero =>
    intro j ans c A M R L T B lf rt sp ds sq ps fs ft lv al ar sn ay an ap pd pc ct la ra bb bs tt ts sd gr gl gc bl br bm yk tu tv ex hj hjR hans hR hY
    have hM23 := hR.1.2.2.2.2.2.1
    obtain ⟨r, hr, hst⟩ := pg_stepFull (yk := yk) (tu := tu) (tv := tv) (ex := ex) hR (by omega)
    refine br_t (nI_le (by omega) (by omega)) (hp _ _ _ (pg_mk k (gr := gr) (gl := gl) (gc := gc) (bl := bl) (br := br) (bm := bm) (yk := yk) (tu := tu) (tv := tv) (ex := ex) hR) (fun q hq => hY q ?_))
    refine br_f (nI_ge (b := 24) (by omega) (by omega)) (br_f hans (hst _ (nm_r (nI_1 j) ?_)))
    exact pk_le 24 (j + 1) (fun _ => hq) (fun _ => br_t (hneg r hr).1 hq)
  | succ d ih =>
    intro j ans c A M R L T B lf rt sp ds sq ps fs ft lv al ar sn ay an ap pd pc ct la ra bb bs tt ts sd gr gl gc bl br bm yk tu tv ex hj hjR hans hR hY
    have hM23 := hR.1.2.2.2.2.2.1
    refine br_f (nI_ge (by omega) (by omega)) ?_
    refine pg_stepXY (yk := yk) (tu := tu) (tv := tv) (ex := ex) hR _ ?_ ?_
    · intro r hr hst
      refine br_f (hneg r hr).2 (hp _ _ _ (pg_mk k (gr := gr) (gl := gl) (gc := gc) (bl := bl) (br := br) (bm := bm) (yk := yk) (tu := tu) (tv := tv) (ex := ex) hR) (fun q hq => hY q ?_))
      refine br_f (nI_ge (b := 24) (by omega) (by omega)) (br_f hans (hst _ (nm_r (nI_1 j) ?_)))
      exact pk_le 24 (j + 1) (fun _ => hq) (fun _ => br_t (hneg r hr).1 hq)
    · intro v L' lf' rt' sp' ds' sq' ps' fs' ft' lv' al' ar' sn' ay' an' ap' pd' pc' ct' la' ra' ts' sd' hv2 hv49 hR' hst
      refine br_t (nI_lt (a := 0) (by omega) (by omega)) (nm_r (nI_1 j) ?_)
      refine ih (j + 1) (nI v) c A M (R + 1) L' T B lf' rt' sp' ds' sq' ps' fs' ft' lv' al' ar' sn' ay' an' ap' pd' pc' ct' la' ra' bb bs tt ts' sd' gr gl gc bl br bm yk tu tv ex (by omega) (by omega) (nI_nle (by omega) (by omega)) hR' ?_
      intro q hq
      refine hY q ?_
      exact br_f (nI_ge (b := 24) (by omega) (by omega)) (br_f hans (hst _ (nm_r (nI_1 j) hq)))
theorem i_vc_compress {k : Nat} {u : SX} {v : SY} (I : i_Rel k u v) (hk : k + 3 ≤ 1539) : wpX_compress (fun r u' => wpY_compress (fun r' v' => r' = r ∧ i_Rel (k + 3) u' v') v) u := by
  refine I (fun u v => wpX_compress (fun r u' => wpY_compress (fun r' v' => r' = r ∧ i_Rel (k + 3) u' v') v) u) ?_
  intro c A M R L T B lf rt sp ds sq ps fs ft lv al ar sn ay an ap pd pc ct la ra bb bs tt ts sd gr gl gc bl br bm yk tu tv ex hR
  refine Exists.intro (M + 1) ?_
  refine pg_compL (k := k + 3) (Gl := fun q => wpY_compress q (nI c, nI A, nI M, nI T, nI L, nI R, nI B, yk, tt, tu, ts, tv, sd, ex, bb)) ?_ M 0 1 c A M R L T B lf rt sp ds sq ps fs ft lv al ar sn ay an ap pd pc ct la ra bb bs tt ts sd gr gl gc bl br bm yk tu tv ex (by omega) (by omega) (by decide) hR ?_
  · intro r u' v' hRel hG'
    exact hG' _ ⟨rfl, hRel⟩
  · intro q hq
    exact Exists.intro (M + 2) hq
end PGQ3
end
section
section PGR
/-! feed, putGamma, write: one function of the bits for both sides -/
def pg_bv (v : Int32) (k : Nat) : Int32 := ((v.toUInt32 >>> ((nI k).toUInt32 &&& Int32.toUInt32 31)).toInt32) &&& 1
theorem pg_bv01 (v : Int32) (k : Nat) : pg_bv v k = 0 ∨ pg_bv v k = 1 := by
  obtain ⟨j, hj, e⟩ := pk_andE ((v.toUInt32 >>> ((nI k).toUInt32 &&& Int32.toUInt32 31)).toInt32) (m := 1) 1 (by decide)
  have e2 : pg_bv v k = nI j := e
  rw [e2]
  have h : j = 0 ∨ j = 1 := by omega
  rcases h with rfl | rfl
  · exact Or.inl rfl
  · exact Or.inr rfl
theorem pg_bvX (v : Int32) (k : Nat) : vp_nar .byte ((pg_bv v k).toInt8.toInt32) = pg_bv v k := by
  rw [pk_vb]
  rcases pg_bv01 v k with e | e
  · rw [e]; decide
  · rw [e]; decide
def pg_fd (v : Int32) (E : Nat) : Nat → (Nat → Int32) → (Nat → Int32)
  | 0, b => b
  | d + 1, b => pg_fd v E d (upd b (E - (d + 1)) (pg_bv v d))
theorem pg_fd01 {v : Int32} {E : Nat} : ∀ (d : Nat) (b : Nat → Int32), (∀ j, b j = 0 ∨ b j = 1) → ∀ j, pg_fd v E d b j = 0 ∨ pg_fd v E d b j = 1 := by
  intro d
  induction d with
  | zero => intro b h; exact h
  | succ d ih =>
    intro b h
    refine ih _ ?_
    intro j
    by_cases e : j = E - (d + 1)
    · subst e; rw [pk_us]; exact pg_bv01 v d
    · rw [pk_un e]; exact h j
def pg_fe (v : Int32) (cnt : Nat) (s : (Nat → Int32) × Nat) : (Nat → Int32) × Nat := if s.2 + cnt ≤ 1024 then (pg_fd v (s.2 + cnt) cnt s.1, s.2 + cnt) else s
def pg_OK (s : (Nat → Int32) × Nat) : Prop := s.2 ≤ 1024 ∧ ∀ j, s.1 j = 0 ∨ s.1 j = 1
theorem pg_feOK {v : Int32} {cnt : Nat} {s : (Nat → Int32) × Nat} (h : pg_OK s) : pg_OK (pg_fe v cnt s) := by
  unfold pg_fe
  split
  · exact ⟨by assumption, pg_fd01 cnt _ h.2⟩
  · exact h
variable {fc : Int32} {fa : Int32} {fm : Int32} {fr : Int32} {fs : Int64} {ft : Int32} {fq : Int32} {fx : Int32} {lv : Int64} {fb : Int32} {gr : Int32} {gl : Int32} {gc : Int32} {al : (Nat → Int32)} {ar : (Nat → Int32)} {sn : (Nat → Int32)} {ay : (Nat → Int32)} {an : (Nat → Int32)} {ap : (Nat → Int32)} {pd : (Nat → Int32)} {pc : (Nat → Int64)} {ct : (Nat → Int32)} {la : (Nat → Int32)} {ra : (Nat → Int32)} {bb : (Nat → Int32)} {bl : (Nat → Int32)} {br : (Nat → Int32)} {bs : (Nat → Int32)} {bm : (Nat → Int32)}
theorem pg_fdX {post : Int32 → SX → Prop} {v : Int32} {E : Nat} (hE : E ≤ 1024) :
    ∀ (d : Nat) (bb : Nat → Int32), d ≤ E → post (nI E) (fc, fa, fm, fr, fs, ft, fq, fx, lv, nI E, gr, gl, gc, al, ar, sn, ay, an, ap, pd, pc, ct, la, ra, pg_fd v E d bb, bl, br, bs, bm) →
      wX_feed_32 post v fc fa fm fr fs ft fq fx lv gr gl gc (d + 1) (if d = 0 then -1 else nI (d - 1)) (nI (E - d)) al ar sn ay an ap pd pc ct la ra bb bl br bs bm := by
  intro d
  induction d with
  | zero =>
    intro bb hd hp
    exact br_t (by decide) hp
  | succ d ih =>
    intro bb hd hp
    rw [if_neg (by omega)]
    refine br_f (nI_pos (by omega)) (And.intro (vp_in_nI (by omega) (by omega)) (nm_r (e' := upd bb (E - (d + 1)) (pg_bv v d)) ?_ (nm_r (e' := nI (E - d)) ?_ (nm_r (e' := if d = 0 then -1 else nI (d - 1)) ?_ (ih _ (by omega) hp)))))
    · rw [nI_clamp (by omega)]
      exact congrArg (upd bb (E - (d + 1))) (pg_bvX v d)
    · rw [nI_1]
      exact congrArg nI (by omega)
    · show nI d + (-1) = _
      by_cases e : d = 0
      · subst e; rw [if_pos rfl]; rfl
      · rw [if_neg e]; exact sb_m1 (by omega)
theorem pg_feedX {post : Int32 → SX → Prop} {v : Int32} {cnt : Nat} {s : (Nat → Int32) × Nat} (h1 : 1 ≤ cnt) (h2 : cnt ≤ 32) (hs : s.2 ≤ 1024)
    (hp : post (if s.2 + cnt ≤ 1024 then nI (s.2 + cnt) else -2) (fc, fa, fm, fr, fs, ft, fq, fx, lv, nI (pg_fe v cnt s).2, gr, gl, gc, al, ar, sn, ay, an, ap, pd, pc, ct, la, ra, (pg_fe v cnt s).1, bl, br, bs, bm)) : wpX_feed post (fc, fa, fm, fr, fs, ft, fq, fx, lv, nI s.2, gr, gl, gc, al, ar, sn, ay, an, ap, pd, pc, ct, la, ra, s.1, bl, br, bs, bm) v (nI cnt) := by
  unfold pg_fe at hp
  refine br_f (nI_nlt (b := 1) h1 (by omega)) (br_t (nI_le (b := 32) h2 (by omega)) ?_)
  by_cases e : s.2 + cnt ≤ 1024
  · rw [if_pos e, if_pos e] at hp
    refine br_t (by rw [nI_add]; exact nI_le (b := 1024) e (by omega)) (nm_r (e' := nI (cnt - 1)) (pk_sub (b := 1) h1) (Exists.intro (cnt + 1) ?_))
    have W := pg_fdX (post := post) (v := v) (E := s.2 + cnt) e cnt s.1 (by omega) hp
    rw [if_neg (by omega), Nat.add_sub_cancel] at W
    exact W
  · rw [if_neg e, if_neg e] at hp
    exact br_f (by rw [nI_add]; exact nI_ge (a := 1024) (by omega) (by omega)) hp
variable {yc : Int32} {ya : Int32} {ym : Int32} {yx : Int32} {yq : Int32} {yr : Int32} {yb : Int32} {yk : Int32} {tt : (Nat → Int32)} {tu : (Nat → Int32)} {ts : (Nat → Int32)} {tv : (Nat → Int32)} {sd : (Nat → Int32)} {ex : (Nat → Int32)} {yB : (Nat → Int32)}
theorem pg_fdY {post : Int32 → SY → Prop} {v : Int32} {B cnt : Nat} (hE : B + cnt ≤ 1024) (hc : cnt ≤ 32) :
    ∀ (d : Nat) (yB : Nat → Int32), d ≤ cnt → post (nI (B + cnt)) (yc, ya, ym, yx, yq, yr, nI (B + cnt), yk, tt, tu, ts, tv, sd, ex, pg_fd v (B + cnt) d yB) →
      wY_feed_30 post v (nI cnt) yc ya ym yx yq yr (nI B) yk (d + 1) (nI (cnt - d)) tt tu ts tv sd ex yB := by
  intro d
  induction d with
  | zero =>
    intro yB hd hp
    exact br_t (nI_le (by omega) (by omega)) (nm_r (nI_add B cnt) hp)
  | succ d ih =>
    intro yB hd hp
    have e1 : nI B + nI (cnt - (d + 1)) = nI (B + cnt - (d + 1)) := by rw [nI_add]; exact congrArg nI (by omega)
    have e2 : nI cnt - 1 - nI (cnt - (d + 1)) = nI d := by
      rw [show nI cnt - 1 = nI (cnt - 1) from pk_sub (b := 1) (by omega), pk_sub (by omega)]
      exact congrArg nI (by omega)
    refine br_f (nI_ge (by omega) (by omega)) ?_
    rw [e1, e2]
    refine And.intro (vp_in_nI (by omega) (by omega)) (nm_r (e' := upd yB (B + cnt - (d + 1)) (pg_bv v d)) (by rw [nI_clamp (by omega)]; rfl) (nm_r (e' := nI (cnt - d)) ?_ (ih _ (by omega) hp)))
    rw [nI_1]
    exact congrArg nI (by omega)
theorem pg_feedY {post : Int32 → SY → Prop} {v : Int32} {cnt : Nat} {s : (Nat → Int32) × Nat} (h1 : 1 ≤ cnt) (h2 : cnt ≤ 32) (hs : s.2 ≤ 1024)
    (hp : post (if s.2 + cnt ≤ 1024 then nI (s.2 + cnt) else -2) (yc, ya, ym, yx, yq, yr, nI (pg_fe v cnt s).2, yk, tt, tu, ts, tv, sd, ex, (pg_fe v cnt s).1)) : wpY_feed post (yc, ya, ym, yx, yq, yr, nI s.2, yk, tt, tu, ts, tv, sd, ex, s.1) v (nI cnt) := by
  unfold pg_fe at hp
  refine br_f (nI_nlt (b := 1) h1 (by omega)) (br_t (nI_le (b := 32) h2 (by omega)) ?_)
  by_cases e : s.2 + cnt ≤ 1024
  · rw [if_pos e, if_pos e] at hp
    refine br_t (by rw [nI_add]; exact nI_le (b := 1024) e (by omega)) (Exists.intro (cnt + 1) ?_)
    have W := pg_fdY (post := post) (v := v) (B := s.2) (cnt := cnt) e h2 cnt s.1 (Nat.le_refl _) hp
    rw [Nat.sub_self] at W
    exact W
  · rw [if_neg e, if_neg e] at hp
    exact br_f (by rw [nI_add]; exact nI_ge (a := 1024) (by omega) (by omega)) hp
/-! the gamma codes -/
def pg_pg (w : Nat) (s : (Nat → Int32) × Nat) : (Nat → Int32) × Nat := pg_fe (nI w) (2 * Nat.log2 w + 1) s
theorem pg_lg {w : Nat} (h1 : 1 ≤ w) (h2 : w < 64) : 2 ^ Nat.log2 w ≤ w ∧ w < 2 ^ (Nat.log2 w + 1) ∧ Nat.log2 w < 6 := by
  have a := Nat.log2_self_le (show w ≠ 0 by omega)
  have b := @Nat.lt_log2_self w
  refine ⟨a, b, ?_⟩
  rcases Nat.lt_or_ge (Nat.log2 w) 6 with z | z
  · exact z
  · have := Nat.pow_le_pow_right (show 0 < 2 by decide) z
    omega
theorem pg_pgX {post : SX → Prop} {w : Nat} {s : (Nat → Int32) × Nat} {x : Int32} (hx : x = nI w) (h1 : 1 ≤ w) (h2 : w < 64) (hs : pg_OK s) (hp : post (fc, fa, fm, fr, fs, ft, fq, fx, lv, nI (pg_pg w s).2, gr, gl, gc, al, ar, sn, ay, an, ap, pd, pc, ct, la, ra, (pg_pg w s).1, bl, br, bs, bm)) : wpX_putGamma post (fc, fa, fm, fr, fs, ft, fq, fx, lv, nI s.2, gr, gl, gc, al, ar, sn, ay, an, ap, pd, pc, ct, la, ra, s.1, bl, br, bs, bm) x := by
  subst hx
  obtain ⟨a, b, d⟩ := pg_lg h1 h2
  have hu : uN (nI w).toInt64 = w := by
    rw [nI_l (by omega)]
    exact Nat.mod_eq_of_lt (by omega)
  unfold wpX_putGamma
  refine pg_hb (Nat.log2 w) (by omega) (by rw [hu]; exact a) (by rw [hu]; exact b) ?_
  rw [show (2 : Int32) * nI (Nat.log2 w) = nI (2 * Nat.log2 w) from pk_mul 2 _, nI_1]
  exact pg_feedX (by omega) (by omega) hs.1 hp
theorem pg_shl1 : ∀ k, k < 6 → (1 : Int32) <<< (nI k &&& 31) = nI (2 ^ k) := by decide +kernel
theorem pg_pg4 {post : SY → Prop} {w : Nat} {s : (Nat → Int32) × Nat} (h1 : 1 ≤ w) (h2 : w < 64) (hs : pg_OK s) (hp : post (yc, ya, ym, yx, yq, yr, nI (pg_pg w s).2, yk, tt, tu, ts, tv, sd, ex, (pg_pg w s).1)) :
    ∀ d k z : Nat, k + d = 6 → 1 ≤ k → (z = if Nat.log2 w < k then Nat.log2 w else k - 1) → wY_putGamma_4 post (nI w) yc ya ym yx yq yr (nI s.2) yk tt tu ts tv sd ex s.1 (d + 1) (nI z) (nI k) := by
  obtain ⟨a, b, c⟩ := pg_lg h1 h2
  intro d
  induction d with
  | zero =>
    intro k z hk hk1 hz
    rw [if_pos (by omega)] at hz
    subst hz
    refine br_t (nI_lt (a := 5) (by omega) (by omega)) ?_
    rw [show (2 : Int32) * nI (Nat.log2 w) = nI (2 * Nat.log2 w) from pk_mul 2 _, nI_1]
    exact pg_feedY (by omega) (by omega) hs.1 hp
  | succ d ih =>
    intro k z hk hk1 hz
    have hk6 : k < 6 := by omega
    refine br_f (nI_nlt (b := k) (a := 5) (by omega) (by omega)) ?_
    rw [pg_shl1 k hk6]
    have h64 : 2 ^ k < 64 := Nat.pow_lt_pow_right (show 1 < 2 by decide) hk6
    refine pk_lt w (2 ^ k) (fun h => ?_) (fun h => ?_)
    · have hlt : Nat.log2 w < k := by
        rcases Nat.lt_or_ge (Nat.log2 w) k with t | t
        · exact t
        · have := Nat.pow_le_pow_right (show 0 < 2 by decide) t
          omega
      rw [if_pos hlt] at hz
      exact nm_r (nI_1 k) (ih (k + 1) z (by omega) (by omega) (by rw [if_pos (by omega)]; exact hz))
    · have hge : k ≤ Nat.log2 w := by
        rcases Nat.lt_or_ge (Nat.log2 w) k with t | t
        · have := Nat.pow_le_pow_right (show 0 < 2 by decide) (show Nat.log2 w + 1 ≤ k by omega)
          omega
        · exact t
      refine nm_r (nI_1 k) (ih (k + 1) k (by omega) (by omega) ?_)
      by_cases e : Nat.log2 w < k + 1
      · rw [if_pos e]; omega
      · rw [if_neg e]; omega
theorem pg_pgY {post : SY → Prop} {w : Nat} {s : (Nat → Int32) × Nat} {x : Int32} (hx : x = nI w) (h1 : 1 ≤ w) (h2 : w < 64) (hs : pg_OK s) (hp : post (yc, ya, ym, yx, yq, yr, nI (pg_pg w s).2, yk, tt, tu, ts, tv, sd, ex, (pg_pg w s).1)) : wpY_putGamma post (yc, ya, ym, yx, yq, yr, nI s.2, yk, tt, tu, ts, tv, sd, ex, s.1) x := by
  subst hx
  refine Exists.intro 6 (pg_pg4 h1 h2 hs hp 5 1 0 (by omega) (by omega) ?_)
  by_cases e : Nat.log2 w < 1
  · rw [if_pos e]; omega
  · rw [if_neg e]
theorem pg_pgOK {w : Nat} {s : (Nat → Int32) × Nat} (hs : pg_OK s) : pg_OK (pg_pg w s) := pg_feOK hs
def pg_fo (f : Nat → Nat) : Nat → (Nat → Int32) × Nat → (Nat → Int32) × Nat
  | 0, s => s
  | n + 1, s => pg_pg (f n + 1) (pg_fo f n s)
theorem pg_foOK {f : Nat → Nat} {s : (Nat → Int32) × Nat} (hs : pg_OK s) : ∀ n, pg_OK (pg_fo f n s) := by
  intro n
  induction n with
  | zero => exact hs
  | succ n ih => exact pg_pgOK ih
def pg_side (lf rt : Nat → Nat) (i : Nat) : Nat := if i % 2 = 0 then lf (i / 2) else rt (i / 2)
theorem pg_side0 {lf rt : Nat → Nat} {k : Nat} : pg_side lf rt (2 * k) = lf k := by unfold pg_side; rw [if_pos (by omega), show 2 * k / 2 = k by omega]
theorem pg_side1 {lf rt : Nat → Nat} {k : Nat} : pg_side lf rt (2 * k + 1) = rt k := by unfold pg_side; rw [if_neg (by omega), show (2 * k + 1) / 2 = k by omega]
theorem pg_w69 {post : Int32 → SX → Prop} {L T : Nat} {sq ps : Nat → Nat} {s : (Nat → Int32) × Nat} (hP : pg_P L T sq ps) (hS : pg_S L sq ps ay an ap) (hs : pg_OK s) (hp : post (nI (pg_fo sq L s).2) (fc, fa, fm, fr, fs, ft, nI L, fx, lv, nI (pg_fo sq L s).2, gr, gl, gc, al, ar, sn, ay, an, ap, pd, pc, ct, la, ra, (pg_fo sq L s).1, bl, br, bs, bm)) :
    ∀ (d k : Nat) (x1 : Int32), k + d = L → (k < L → x1 = nI (ps k)) → wX_write_69 post (d + 1) x1 (nI k) fc fa fm fr fs ft (nI L) fx lv (nI (pg_fo sq k s).2) gr gl gc al ar sn ay an ap pd pc ct la ra ((pg_fo sq k s).1) bl br bs bm := by
  have hL := pg_L48 hP
  intro d
  induction d with
  | zero =>
    intro k x1 hk hx
    have e : k = L := hk
    subst e
    exact br_t (nI_le (Nat.le_refl _) (by omega)) hp
  | succ d ih =>
    intro k x1 hk hx
    have hkL : k < L := by omega
    have h48 := pg_lt48 hP hkL
    have hq := hP.2.2.2.2 k hkL
    have hin : vp_in (nI (ps k)) 48 := vp_in_nI h48 (by omega)
    rw [hx hkL]
    refine br_f (nI_ge (by omega) (by omega)) (And.intro hin ?_)
    have hcl : (nI (ps k)).toNatClampNeg = ps k := nI_clamp (by omega)
    refine pg_pgX (w := sq k + 1) (by rw [hcl, hS.1 k hkL, nI_1]) (by omega) (by omega) (pg_foOK hs k) (And.intro hin ?_)
    exact nm_r (e' := if k + 1 < L then nI (ps (k + 1)) else -1) (by rw [hcl]; exact hS.2.1 k hkL) (nm_r (nI_1 k) (ih (k + 1) _ (by omega) (fun z => if_pos z)))
theorem pg_w17 {post : Int32 → SX → Prop} {A R L T : Nat} {lf rt : Nat → Nat} {sq ps : Nat → Nat} {s : (Nat → Int32) × Nat} (hR : R ≤ 23) (hal : ∀ k, k < R → al k = nI (lf k) ∧ ar k = nI (rt k)) (hb : ∀ k, k < R → lf k < 32 ∧ rt k < 32) (hP : pg_P L T sq ps) (hS : pg_S L sq ps ay an ap) (hs : pg_OK s)
    (hp : post (nI (pg_fo sq L (pg_pg (L + 1) (pg_fo (pg_side lf rt) (2 * R) s))).2) (fc, fa, fm, nI R, fs, ft, nI L, fx, lv, nI (pg_fo sq L (pg_pg (L + 1) (pg_fo (pg_side lf rt) (2 * R) s))).2, gr, gl, gc, al, ar, sn, ay, an, ap, pd, pc, ct, la, ra, (pg_fo sq L (pg_pg (L + 1) (pg_fo (pg_side lf rt) (2 * R) s))).1, bl, br, bs, bm)) :
    ∀ d k : Nat, k + d = R → wX_write_17 post (d + 1) (nI k) fc fa fm (nI R) fs ft (nI L) fx lv (nI (pg_fo (pg_side lf rt) (2 * k) s).2) gr gl gc al ar sn ay an ap pd pc ct la ra ((pg_fo (pg_side lf rt) (2 * k) s).1) bl br bs bm := by
  have hL := pg_L48 hP
  intro d
  induction d with
  | zero =>
    intro k hk
    have e : k = R := hk
    subst e
    refine br_t (nI_le (Nat.le_refl _) (by omega)) ?_
    refine pg_pgX (nI_1 L) (by omega) (by omega) (pg_foOK hs _) (Exists.intro (L + 1) ?_)
    exact pg_w69 hP hS (pg_pgOK (pg_foOK hs _)) hp L 0 0 (by omega) (fun _ => by rw [hP.1]; rfl)
  | succ d ih =>
    intro k hk
    have hkR : k < R := by omega
    have hin : vp_in (nI k) 23 := vp_in_nI (by omega) (by omega)
    obtain ⟨b1, b2⟩ := hb k hkR
    obtain ⟨a1, a2⟩ := hal k hkR
    have f1 : pg_fo (pg_side lf rt) (2 * k + 1) s = pg_pg (lf k + 1) (pg_fo (pg_side lf rt) (2 * k) s) := by
      show pg_pg (pg_side lf rt (2 * k) + 1) _ = _
      rw [pg_side0]
    have f2 : pg_fo (pg_side lf rt) (2 * (k + 1)) s = pg_pg (rt k + 1) (pg_fo (pg_side lf rt) (2 * k + 1) s) := by
      show pg_pg (pg_side lf rt (2 * k + 1) + 1) (pg_fo (pg_side lf rt) (2 * k + 1) s) = _
      rw [pg_side1]
    have hcl : (nI k).toNatClampNeg = k := nI_clamp (by omega)
    refine br_f (nI_ge (by omega) (by omega)) (And.intro hin ?_)
    refine pg_pgX (w := lf k + 1) (by rw [hcl, a1, nI_1]) (by omega) (by omega) (pg_foOK hs _) (And.intro hin ?_)
    rw [← f1]
    refine pg_pgX (w := rt k + 1) (by rw [hcl, a2, nI_1]) (by omega) (by omega) (pg_foOK hs _) ?_
    rw [← f2]
    exact nm_r (nI_1 k) (ih (k + 1) (by omega))
theorem pg_w57Y {post : Int32 → SY → Prop} {L : Nat} {sq : Nat → Nat} {s : (Nat → Int32) × Nat} (hL : L ≤ 48) (hts : ∀ i, i < L → ts i = nI (sq i)) (hq : ∀ i, i < L → sq i < 32) (hs : pg_OK s) (hp : post (nI (pg_fo sq L s).2) (yc, ya, ym, yx, nI L, yr, nI (pg_fo sq L s).2, yk, tt, tu, ts, tv, sd, ex, (pg_fo sq L s).1)) :
    ∀ d k : Nat, k + d = L → wY_write_57 post (d + 1) (nI k) yc ya ym yx (nI L) yr (nI (pg_fo sq k s).2) yk tt tu ts tv sd ex ((pg_fo sq k s).1) := by
  intro d
  induction d with
  | zero =>
    intro k hk
    have e : k = L := hk
    subst e
    exact br_t (nI_le (Nat.le_refl _) (by omega)) hp
  | succ d ih =>
    intro k hk
    have hkL : k < L := by omega
    have h1 := hq k hkL
    refine br_f (nI_ge (by omega) (by omega)) (And.intro (vp_in_nI (by omega) (by omega)) ?_)
    exact pg_pgY (w := sq k + 1) (by rw [nI_clamp (show k < 2 ^ 31 by omega), hts k hkL, nI_1]) (by omega) (by omega) (pg_foOK hs k) (nm_r (nI_1 k) (ih (k + 1) (by omega)))
theorem pg_w17Y {post : Int32 → SY → Prop} {R L : Nat} {sd' : Nat → Nat} {sq : Nat → Nat} {s : (Nat → Int32) × Nat} (hR : R ≤ 23) (hsd : ∀ i, i < 2 * R → sd i = nI (sd' i) ∧ sd' i < 32) (hL : L ≤ 48) (hts : ∀ i, i < L → ts i = nI (sq i)) (hq : ∀ i, i < L → sq i < 32) (hs : pg_OK s)
    (hp : post (nI (pg_fo sq L (pg_pg (L + 1) (pg_fo sd' (2 * R) s))).2) (yc, ya, ym, yx, nI L, nI R, nI (pg_fo sq L (pg_pg (L + 1) (pg_fo sd' (2 * R) s))).2, yk, tt, tu, ts, tv, sd, ex, (pg_fo sq L (pg_pg (L + 1) (pg_fo sd' (2 * R) s))).1)) :
    ∀ d k : Nat, k + d = 2 * R → wY_write_17 post (d + 1) (nI k) yc ya ym yx (nI L) (nI R) (nI (pg_fo sd' k s).2) yk tt tu ts tv sd ex ((pg_fo sd' k s).1) := by
  have h2R : (2 : Int32) * nI R = nI (2 * R) := pk_mul 2 R
  intro d
  induction d with
  | zero =>
    intro k hk
    have e : k = 2 * R := hk
    subst e
    refine br_t (by rw [h2R]; exact nI_le (Nat.le_refl _) (by omega)) ?_
    refine pg_pgY (nI_1 L) (by omega) (by omega) (pg_foOK hs _) (Exists.intro (L + 1) ?_)
    exact pg_w57Y hL hts hq (pg_pgOK (pg_foOK hs _)) hp L 0 (by omega)
  | succ d ih =>
    intro k hk
    obtain ⟨a1, a2⟩ := hsd k (by omega)
    refine br_f (by rw [h2R]; exact nI_ge (by omega) (by omega)) (And.intro (vp_in_nI (by omega) (by omega)) ?_)
    exact pg_pgY (w := sd' k + 1) (by rw [nI_clamp (show k < 2 ^ 31 by omega), a1, nI_1]) (by omega) (by omega) (pg_foOK hs k) (nm_r (nI_1 k) (ih (k + 1) (by omega)))
end PGR
section PGR2
theorem i_vc_feed {k : Nat} {u : SX} {v : SY} (I : i_Rel k u v) (hk : k + 3 ≤ 1539) (v1 : Int32) (v2 : Int32) : wpX_feed (fun r u' => wpY_feed (fun r' v' => r' = r ∧ i_Rel (k + 3) u' v') v v1 v2) u v1 v2 := by
  refine I (fun u v => wpX_feed (fun r u' => wpY_feed (fun r' v' => r' = r ∧ i_Rel (k + 3) u' v') v v1 v2) u v1 v2) ?_
  intro c A M R L T B lf rt sp ds sq ps fs ft lv al ar sn ay an ap pd pc ct la ra bb bs tt ts sd gr gl gc bl br bm yk tu tv ex hR
  have K := pg_mk (k + 3) (gr := gr) (gl := gl) (gc := gc) (bl := bl) (br := br) (bm := bm) (yk := yk) (tu := tu) (tv := tv) (ex := ex) hR
  by_cases h0 : v2 < 1
  · exact br_t h0 (br_t h0 ⟨rfl, K⟩)
  · have hneg : ¬ v2 < 0 := fun z => h0 (Int32.lt_trans z (by decide))
    obtain ⟨n, hn, rfl⟩ := nI_of hneg
    have hn1 : 1 ≤ n := by
      rcases Nat.lt_or_ge n 1 with z | z
      · exact absurd (nI_lt (b := 1) z (by decide)) h0
      · exact z
    rcases Nat.lt_or_ge 32 n with z | z
    · have hf : ¬ nI n ≤ 32 := nI_ge (a := 32) z hn
      exact br_f h0 (br_f hf (br_f h0 (br_f hf ⟨rfl, K⟩)))
    · obtain ⟨⟨hc8, hc48, hA2, hA8, hM1, hM23, hRM⟩, hG, hspc, ⟨hal, hsn⟩, hsd, hTc, hC, hX, hts, ⟨hB, hbb⟩, hbs⟩ := hR
      have hOK : pg_OK (bb, B) := ⟨hB, hbb⟩
      refine pg_feedX (s := (bb, B)) hn1 z hB (pg_feedY (s := (bb, B)) hn1 z hB ⟨rfl, ?_⟩)
      have hOK' := pg_feOK (v := v1) (cnt := n) hOK
      exact pg_mk (k + 3) ⟨⟨hc8, hc48, hA2, hA8, hM1, hM23, hRM⟩, hG, hspc, ⟨hal, hsn⟩, hsd, hTc, hC, hX, hts, hOK', hbs⟩
theorem i_vc_write {k : Nat} {u : SX} {v : SY} (I : i_Rel k u v) (hk : k + 3 ≤ 1539) : wpX_write (fun r u' => wpY_write (fun r' v' => r' = r ∧ i_Rel (k + 3) u' v') v) u := by
  refine I (fun u v => wpX_write (fun r u' => wpY_write (fun r' v' => r' = r ∧ i_Rel (k + 3) u' v') v) u) ?_
  intro c A M R L T B lf rt sp ds sq ps fs ft lv al ar sn ay an ap pd pc ct la ra bb bs tt ts sd gr gl gc bl br bm yk tu tv ex hR
  obtain ⟨⟨hc8, hc48, hA2, hA8, hM1, hM23, hRM⟩, hG, hspc, ⟨hal, hsn⟩, hsd, hTc, hC, hX, hts, ⟨hB, hbb⟩, hbs⟩ := hR
  have hL := pg_L48 hX.1
  have hOK : pg_OK (bb, 0) := ⟨by show 0 ≤ 1024; omega, hbb⟩
  have hOK1 := pg_pgOK (w := R + 1) hOK
  have hb : ∀ k, k < R → lf k < 32 ∧ rt k < 32 := fun k hk => by have := hG.2 k hk; omega
  have hside : ∀ i, i < 2 * R → sd i = nI (pg_side lf rt i) ∧ pg_side lf rt i < 32 := by
    intro i hi
    have h1 := hsd (i / 2) (by omega)
    have h2 := hb (i / 2) (by omega)
    rw [Nat.zero_add] at h1
    unfold pg_side
    by_cases e : i % 2 = 0
    · rw [if_pos e]
      rw [show 2 * (i / 2) = i by omega] at h1
      exact ⟨h1.1, h2.1⟩
    · rw [if_neg e]
      rw [show 2 * (i / 2) + 1 = i by omega] at h1
      exact ⟨h1.2, h2.2⟩
  unfold wpX_write
  refine pg_pgX (s := (bb, 0)) (nI_1 R) (by omega) (by omega) hOK (Exists.intro (R + 1) ?_)
  refine pg_w17 (s := pg_pg (R + 1) (bb, 0)) (A := A) (by omega) hal hb hX.1 hX.2.1 hOK1 ?_ R 0 (by omega)
  unfold wpY_write
  refine pg_pgY (s := (bb, 0)) (nI_1 R) (by omega) (by omega) hOK (Exists.intro (2 * R + 1) ?_)
  refine pg_w17Y (s := pg_pg (R + 1) (bb, 0)) (sd' := pg_side lf rt) (by omega) hside (by omega) hts (fun i hi => hX.1.2.2.2.2 i hi) hOK1 ⟨rfl, ?_⟩ (2 * R) 0 (by omega)
  have hOK' := pg_foOK (f := sq) (pg_pgOK (w := L + 1) (pg_foOK (f := pg_side lf rt) hOK1 (2 * R))) L
  exact pg_mk (k + 3) ⟨⟨hc8, hc48, hA2, hA8, hM1, hM23, hRM⟩, hG, hspc, ⟨hal, hsn⟩, hsd, hTc, hC, hX, hts, hOK', hbs⟩
end PGR2
end
section
section PGS
/-! taking a code, in lockstep: one outcome for both sides -/
def pg_dg (b : Nat → Int32) (cur : Nat) : Nat → Nat
  | 0 => 1
  | n + 1 => 2 * pg_dg b cur n + (if b (cur + n) = 1 then 1 else 0)
theorem pg_dg_s {b : Nat → Int32} {cur n : Nat} : pg_dg b cur (n + 1) = 2 * pg_dg b cur n + (if b (cur + n) = 1 then 1 else 0) := rfl
theorem pg_dg_lt {b : Nat → Int32} {cur : Nat} : ∀ n, 1 ≤ pg_dg b cur n ∧ pg_dg b cur n < 2 ^ (n + 1) := by
  intro n
  induction n with
  | zero => exact ⟨by show 1 ≤ 1; omega, by show 1 < 2 ^ 1; decide⟩
  | succ n ih =>
    rw [pg_dg_s, Nat.pow_succ]
    split <;> omega
theorem pg_dg64 {b : Nat → Int32} {cur n : Nat} (h : n < 6) : pg_dg b cur n < 64 := by
  have h1 := (pg_dg_lt (b := b) (cur := cur) n).2
  have h2 : 2 ^ (n + 1) ≤ 2 ^ 6 := Nat.pow_le_pow_right (show 0 < 2 by decide) (by omega)
  omega
theorem pg_bitN {b : Nat → Int32} {j : Nat} (h : ∀ j, b j = 0 ∨ b j = 1) : b j = nI (if b j = 1 then 1 else 0) := by
  rcases h j with e | e
  · rw [e]; decide
  · rw [e]; decide
variable {fc : Int32} {fa : Int32} {fm : Int32} {fr : Int32} {fs : Int64} {ft : Int32} {fq : Int32} {fx : Int32} {lv : Int64} {fb : Int32} {gr : Int32} {gl : Int32} {gc : Int32} {al : (Nat → Int32)} {ar : (Nat → Int32)} {sn : (Nat → Int32)} {ay : (Nat → Int32)} {an : (Nat → Int32)} {ap : (Nat → Int32)} {pd : (Nat → Int32)} {pc : (Nat → Int64)} {ct : (Nat → Int32)} {la : (Nat → Int32)} {ra : (Nat → Int32)} {bb : (Nat → Int32)} {bl : (Nat → Int32)} {br : (Nat → Int32)} {bs : (Nat → Int32)} {bm : (Nat → Int32)} {yc : Int32} {ya : Int32} {ym : Int32} {yx : Int32} {yq : Int32} {yr : Int32} {yb : Int32} {yk : Int32} {tt : (Nat → Int32)} {tu : (Nat → Int32)} {ts : (Nat → Int32)} {tv : (Nat → Int32)} {sd : (Nat → Int32)} {ex : (Nat → Int32)} {yB : (Nat → Int32)} {B : Nat}
theorem pg_tdX {post : Int32 → SX → Prop} {cur z : Nat} (hb : ∀ j, bb j = 0 ∨ bb j = 1) (hB : B ≤ 1024) (hz : cur + z ≤ B) (hz6 : z < 6) (hp : post (nI (pg_dg bb cur z)) (fc, fa, fm, fr, fs, ft, fq, fx, lv, nI B, gr, gl, nI (cur + z), al, ar, sn, ay, an, ap, pd, pc, ct, la, ra, bb, bl, br, bs, bm)) :
    ∀ d k : Nat, k + d = z → wX_takeDigits_20 post (nI z) fc fa fm fr fs ft fq fx lv (nI B) gr gl al ar sn ay an ap pd pc ct la ra bb bl br bs bm (d + 1) (nI (pg_dg bb cur k)) (nI k) (nI (cur + k)) := by
  intro d
  induction d with
  | zero =>
    intro k hk
    have e : k = z := hk
    subst e
    exact br_t (nI_le (Nat.le_refl _) (by omega)) hp
  | succ d ih =>
    intro k hk
    refine br_f (nI_ge (by omega) (by omega)) (And.intro (vp_in_nI (by omega) (by omega)) (nm_r (e' := nI (pg_dg bb cur (k + 1))) ?_ (nm_r (e' := nI (cur + (k + 1))) ?_ (nm_r (nI_1 k) (ih (k + 1) (by omega))))))
    · rw [nI_clamp (by omega), pg_bitN hb (j := cur + k), show nI (pg_dg bb cur k) * 2 = nI (pg_dg bb cur k * 2) from pk_mul _ 2, nI_add, pg_dg_s, Nat.mul_comm]
    · rw [nI_1]; rfl
theorem pg_tdY {post : Int32 → SY → Prop} {cur z lim : Nat} {fl : Int32} (hb : ∀ j, bb j = 0 ∨ bb j = 1) (hB : B ≤ 1024) (hz : cur + z ≤ B) (hz6 : z < 6) (hlim : 1 ≤ lim) (hlim2 : lim < 1000) (hp : post (if pg_dg bb cur z - 1 < lim then nI (pg_dg bb cur z - 1) else fl) (yc, ya, ym, yx, yq, yr, nI B, nI (cur + z), tt, tu, ts, tv, sd, ex, bb)) :
    ∀ d k : Nat, k + d = z → wY_take_96 post (nI (lim - 1)) fl (nI z) yc ya ym yx yq yr (nI B) (nI cur) tt tu ts tv sd ex bb (d + 1) (nI (pg_dg bb cur k)) (nI k) := by
  intro d
  induction d with
  | zero =>
    intro k hk
    have e : k = z := hk
    subst e
    have h1 := (pg_dg_lt (b := bb) (cur := cur) k).1
    have h2 := pg_dg64 (b := bb) (cur := cur) hz6
    refine br_t (nI_le (Nat.le_refl _) (by omega)) (nm_r (nI_add cur k) ?_)
    rw [show nI (pg_dg bb cur k) - 1 = nI (pg_dg bb cur k - 1) from pk_sub (b := 1) h1]
    refine pk_le (pg_dg bb cur k - 1) (lim - 1) (fun h => ?_) (fun h => ?_)
    · rw [if_pos (by omega)] at hp; exact hp
    · rw [if_neg (by omega)] at hp; exact hp
  | succ d ih =>
    intro k hk
    refine br_f (nI_ge (by omega) (by omega)) ?_
    rw [nI_add]
    refine And.intro (vp_in_nI (by omega) (by omega)) (nm_r (e' := nI (pg_dg bb cur (k + 1))) ?_ (nm_r (nI_1 k) (ih (k + 1) (by omega))))
    rw [nI_clamp (by omega), pg_bitN hb (j := cur + k), show (2 : Int32) * nI (pg_dg bb cur k) = nI (2 * pg_dg bb cur k) from pk_mul 2 _, nI_add, pg_dg_s]
theorem pg_tkL {lim : Nat} {fl : Int32} (hb : ∀ j, bb j = 0 ∨ bb j = 1) (hB : B ≤ 1024) (hlim : 1 ≤ lim) (hlim2 : lim < 1000) :
    ∀ d z cur : Nat, z + d = 6 → cur ≤ B → ∃ (rX rY : Int32) (cur' : Nat), cur' ≤ B ∧ ((¬ 0 ≤ rX ∧ rY = rX) ∨ ∃ w, 1 ≤ w ∧ w < 64 ∧ rX = nI w ∧ rY = if w - 1 < lim then nI (w - 1) else fl) ∧
      (∀ post : Int32 → SX → Prop, post rX (fc, fa, fm, fr, fs, ft, fq, fx, lv, nI B, gr, gl, nI cur', al, ar, sn, ay, an, ap, pd, pc, ct, la, ra, bb, bl, br, bs, bm) → wX_takeCode_2 post fc fa fm fr fs ft fq fx lv (nI B) gr gl al ar sn ay an ap pd pc ct la ra bb bl br bs bm (d + 1) (nI z) (nI cur)) ∧
      (∀ post : Int32 → SY → Prop, post rY (yc, ya, ym, yx, yq, yr, nI B, nI cur', tt, tu, ts, tv, sd, ex, bb) → wY_take_8 post (nI (lim - 1)) fl yc ya ym yx yq yr (nI B) tt tu ts tv sd ex bb (d + 2) (nI z) 0 (nI z) (nI cur)) := by
  intro d
  induction d with
  | zero =>
    intro z cur hz hcur
    refine ⟨-4, -4, cur, hcur, Or.inl ⟨by decide, rfl⟩, fun post hp => ?_, fun post hp => ?_⟩
    · exact br_t (nI_le (a := 6) (by omega) (by omega)) hp
    · exact br_t (nI_le (a := 6) (by omega) (by omega)) (br_t rfl hp)
  | succ d ih =>
    intro z cur hz hcur
    have h6 : ¬ (6 : Int32) ≤ nI z := nI_ge (b := 6) (by omega) (by omega)
    rcases Nat.lt_or_ge cur B with hlt | hge
    · have hin : vp_in (nI cur) 1024 := vp_in_nI (by omega) (by omega)
      have hcl : (nI cur).toNatClampNeg = cur := nI_clamp (by omega)
      have hltI : nI cur < nI B := nI_lt hlt (by omega)
      rcases hb cur with e | e
      · obtain ⟨rX, rY, cur', h1, h2, h3, h4⟩ := ih (z + 1) (cur + 1) (by omega) (by omega)
        refine ⟨rX, rY, cur', h1, h2, fun post hp => ?_, fun post hp => ?_⟩
        · exact br_f h6 (br_t hltI (And.intro hin (nm_r (e' := 0) (by rw [hcl]; exact e) (nm_r (nI_1 cur) (br_f (by decide) (nm_r (nI_1 z) (h3 post hp)))))))
        · exact br_f h6 (br_t rfl (br_t hltI (And.intro hin (nm_r (e' := 0) (by rw [hcl]; exact e) (nm_r (nI_1 cur) (br_t rfl (nm_r (nI_1 z) (nm_r (nI_1 z) (h4 post hp)))))))))
      · have hsub : nI B - nI (cur + 1) = nI (B - (cur + 1)) := pk_sub hlt
        have X0 : ∀ post : Int32 → SX → Prop, wpX_takeDigits (fun r_8 u => post r_8 u) (fc, fa, fm, fr, fs, ft, fq, fx, lv, nI B, gr, gl, nI (cur + 1), al, ar, sn, ay, an, ap, pd, pc, ct, la, ra, bb, bl, br, bs, bm) (nI z) → wX_takeCode_2 post fc fa fm fr fs ft fq fx lv (nI B) gr gl al ar sn ay an ap pd pc ct la ra bb bl br bs bm (d + 1 + 1) (nI z) (nI cur) := by
          intro post hp
          exact br_f h6 (br_t hltI (And.intro hin (nm_r (e' := 1) (by rw [hcl]; exact e) (nm_r (nI_1 cur) (br_t rfl hp)))))
        have Y0 : ∀ post : Int32 → SY → Prop, wY_take_69 post (nI (lim - 1)) fl (nI z) 1 yc ya ym yx yq yr (nI B) (nI (cur + 1)) tt tu ts tv sd ex bb → wY_take_8 post (nI (lim - 1)) fl yc ya ym yx yq yr (nI B) tt tu ts tv sd ex bb (d + 1 + 2) (nI z) 0 (nI z) (nI cur) := by
          intro post hp
          refine br_f h6 (br_t rfl (br_t hltI (And.intro hin (nm_r (e' := 1) (by rw [hcl]; exact e) (nm_r (nI_1 cur) (br_f (by decide) (nm_r (nI_1 z) ?_)))))))
          exact br_c (fun _ => hp) (fun _ => br_f (by decide) hp)
        rcases Nat.lt_or_ge (B - (cur + 1)) z with hs | hs
        · refine ⟨-3, -3, cur + 1, by omega, Or.inl ⟨by decide, rfl⟩, fun post hp => X0 post ?_, fun post hp => Y0 post ?_⟩
          · exact br_f (by rw [hsub]; exact nI_ge hs (by omega)) hp
          · exact br_f (by decide) (br_f (by rw [hsub]; exact nI_ge hs (by omega)) hp)
        · have h1 := (pg_dg_lt (b := bb) (cur := cur + 1) z).1
          have h2 := pg_dg64 (b := bb) (cur := cur + 1) (show z < 6 by omega)
          refine ⟨nI (pg_dg bb (cur + 1) z), _, cur + 1 + z, by omega, Or.inr ⟨pg_dg bb (cur + 1) z, h1, h2, rfl, rfl⟩, fun post hp => X0 post ?_, fun post hp => Y0 post ?_⟩
          · refine br_t (by rw [hsub]; exact nI_le hs (by omega)) (Exists.intro (z + 1) ?_)
            exact pg_tdX (post := post) hb hB (by omega) (by omega) hp z 0 (by omega)
          · refine br_f (by decide) (br_t (by rw [hsub]; exact nI_le hs (by omega)) (Exists.intro (z + 1) ?_))
            exact pg_tdY (post := post) hb hB (by omega) (by omega) hlim hlim2 hp z 0 (by omega)
    · have hnl : ¬ nI cur < nI B := nI_nlt hge (by omega)
      refine ⟨-3, -3, cur, hcur, Or.inl ⟨by decide, rfl⟩, fun post hp => ?_, fun post hp => ?_⟩
      · exact br_f h6 (br_f hnl hp)
      · exact br_f h6 (br_t rfl (br_f hnl hp))
theorem pg_take {lim cur : Nat} (fl : Int32) (hb : ∀ j, bb j = 0 ∨ bb j = 1) (hB : B ≤ 1024) (hlim : 1 ≤ lim) (hlim2 : lim < 1000) (hcur : cur ≤ B) (hfl : ¬ 0 ≤ fl) :
    ∃ (r : Int32) (cur' : Nat), cur' ≤ B ∧ (¬ 0 ≤ r ∨ ∃ w, w < lim ∧ r = nI w) ∧
      (∀ post : Int32 → SX → Prop, post r (fc, fa, fm, fr, fs, ft, fq, fx, lv, nI B, gr, gl, nI cur', al, ar, sn, ay, an, ap, pd, pc, ct, la, ra, bb, bl, br, bs, bm) → wpX_takeBelow post (fc, fa, fm, fr, fs, ft, fq, fx, lv, nI B, gr, gl, nI cur, al, ar, sn, ay, an, ap, pd, pc, ct, la, ra, bb, bl, br, bs, bm) (nI lim) fl) ∧
      (∀ post : Int32 → SY → Prop, post r (yc, ya, ym, yx, yq, yr, nI B, nI cur', tt, tu, ts, tv, sd, ex, bb) → wpY_take post (yc, ya, ym, yx, yq, yr, nI B, nI cur, tt, tu, ts, tv, sd, ex, bb) (nI (lim - 1)) fl) := by
  obtain ⟨rX, rY, cur', h1, h2, h3, h4⟩ := pg_tkL (fc := fc) (fa := fa) (fm := fm) (fr := fr) (fs := fs) (ft := ft) (fq := fq) (fx := fx) (lv := lv) (gr := gr) (gl := gl) (al := al) (ar := ar) (sn := sn) (ay := ay) (an := an) (ap := ap) (pd := pd) (pc := pc) (ct := ct) (la := la) (ra := ra) (bb := bb) (bl := bl) (br := br) (bs := bs) (bm := bm) (yc := yc) (ya := ya) (ym := ym) (yx := yx) (yq := yq) (yr := yr) (tt := tt) (tu := tu) (ts := ts) (tv := tv) (sd := sd) (ex := ex) (fl := fl) hb hB hlim hlim2 6 0 cur (by omega) hcur
  refine ⟨rY, cur', h1, ?_, fun post hp => ?_, fun post hp => Exists.intro 8 (h4 post hp)⟩
  · rcases h2 with ⟨a, rfl⟩ | ⟨w, w1, w2, _, rfl⟩
    · exact Or.inl a
    · by_cases e : w - 1 < lim
      · rw [if_pos e]; exact Or.inr ⟨w - 1, e, rfl⟩
      · rw [if_neg e]; exact Or.inl hfl
  · unfold wpX_takeBelow
    refine Exists.intro 7 (h3 _ ?_)
    rcases h2 with ⟨a, rfl⟩ | ⟨w, w1, w2, rfl, rfl⟩
    · exact br_f a hp
    · refine br_t (nI_pos' (by omega)) ?_
      rw [show nI w - 1 = nI (w - 1) from pk_sub (b := 1) w1]
      refine pk_le lim (w - 1) (fun h => ?_) (fun h => ?_)
      · rw [if_neg (by omega)] at hp; exact hp
      · rw [if_pos (by omega)] at hp; exact hp
end PGS
end
section
section PGT
/-! reading the rules, in lockstep -/
def pg_ST (c A k : Nat) (lf rt sp : Nat → Nat) (ds : Nat → Nat → Nat) (bl br bs sd : Nat → Int32) : Prop :=
  pg_GR A k lf rt sp ds ∧ (∀ s, s < A + k → sp s ≤ c) ∧ (∀ j, j < k → bl j = nI (lf j) ∧ br j = nI (rt j)) ∧ (∀ s, s < A + k → bs s = nI (sp s)) ∧ (∀ j, j < k → sd (46 + 2 * j) = nI (lf j) ∧ sd (46 + 2 * j + 1) = nI (rt j))
variable {fc : Int32} {fa : Int32} {fm : Int32} {fr : Int32} {fs : Int64} {ft : Int32} {fq : Int32} {fx : Int32} {lv : Int64} {fb : Int32} {gr : Int32} {gl : Int32} {gc : Int32} {al : (Nat → Int32)} {ar : (Nat → Int32)} {sn : (Nat → Int32)} {ay : (Nat → Int32)} {an : (Nat → Int32)} {ap : (Nat → Int32)} {pd : (Nat → Int32)} {pc : (Nat → Int64)} {ct : (Nat → Int32)} {la : (Nat → Int32)} {ra : (Nat → Int32)} {bb : (Nat → Int32)} {bl : (Nat → Int32)} {br : (Nat → Int32)} {bs : (Nat → Int32)} {bm : (Nat → Int32)} {yc : Int32} {ya : Int32} {ym : Int32} {yx : Int32} {yq : Int32} {yr : Int32} {yb : Int32} {yk : Int32} {tt : (Nat → Int32)} {tu : (Nat → Int32)} {ts : (Nat → Int32)} {tv : (Nat → Int32)} {sd : (Nat → Int32)} {ex : (Nat → Int32)} {yB : (Nat → Int32)} {B c A : Nat}
theorem pg_stage1 {tot k cur : Nat} {lf rt sp : Nat → Nat} {ds : Nat → Nat → Nat} (hb : ∀ j, bb j = 0 ∨ bb j = 1) (hB : B ≤ 1024) (hc : c ≤ 48) (hA : 2 ≤ A) (hA8 : A ≤ 8) (htot : tot ≤ 23) (hk : k < tot) (hcur : cur ≤ B) (hST : pg_ST c A k lf rt sp ds bl br bs sd) :
    ∃ (bl' br' bs' sd' ex' : Nat → Int32) (cur' : Nat), cur' ≤ B ∧ (∀ j, j < 46 → sd' j = sd j) ∧ (∀ s, s < A → bs' s = 1) ∧
      ((∃ r : Int32, ¬ 0 ≤ r ∧ (∀ post : Int32 → SX → Prop, post r (nI c, nI A, fm, fr, fs, ft, fq, fx, lv, nI B, gr, gl, nI cur', al, ar, sn, ay, an, ap, pd, pc, ct, la, ra, bb, bl', br', bs', bm) → wpX_stageRule post (nI c, nI A, fm, fr, fs, ft, fq, fx, lv, nI B, gr, gl, nI cur, al, ar, sn, ay, an, ap, pd, pc, ct, la, ra, bb, bl, br, bs, bm) (nI k)) ∧
          (∀ (n : Nat) (post : Int32 → SY → Prop), post r (nI c, nI A, ym, yx, yq, yr, nI B, nI cur', tt, tu, ts, tv, sd', ex', bb) → wY_read_24 post (nI tot) (n + 2) (nI (2 * k)) (nI c) (nI A) ym yx yq yr (nI B) (nI cur) tt tu ts tv sd ex bb)) ∨
       (∃ (lf' rt' sp' : Nat → Nat) (ds' : Nat → Nat → Nat), pg_ST c A (k + 1) lf' rt' sp' ds' bl' br' bs' sd' ∧ (∀ post : Int32 → SX → Prop, post 0 (nI c, nI A, fm, fr, fs, ft, fq, fx, lv, nI B, gr, gl, nI cur', al, ar, sn, ay, an, ap, pd, pc, ct, la, ra, bb, bl', br', bs', bm) → wpX_stageRule post (nI c, nI A, fm, fr, fs, ft, fq, fx, lv, nI B, gr, gl, nI cur, al, ar, sn, ay, an, ap, pd, pc, ct, la, ra, bb, bl, br, bs, bm) (nI k)) ∧
          (∀ (n : Nat) (post : Int32 → SY → Prop), wY_read_24 post (nI tot) n (nI (2 * (k + 1))) (nI c) (nI A) ym yx yq yr (nI B) (nI cur') tt tu ts tv sd' ex' bb → wY_read_24 post (nI tot) (n + 2) (nI (2 * k)) (nI c) (nI A) ym yx yq yr (nI B) (nI cur) tt tu ts tv sd ex bb))) := by
  obtain ⟨hG, hsp, hbl, hbs, hsd⟩ := id hST
  have hbs1 : ∀ s, s < A → bs s = 1 := fun s hs => by rw [hbs s (by omega), (hG.1 s hs).1]; rfl
  have ix0 : nI A + nI (2 * k) / 2 - 1 = nI (A + k - 1) := by
    rw [show nI (2 * k) / 2 = nI k from (pk_div (a := 2 * k) (d := 2) (by omega) (by omega) (by omega)).trans (congrArg nI (by omega)), nI_add]
    exact pk_sub (b := 1) (by omega)
  have ix1 : nI A + nI (2 * k + 1) / 2 - 1 = nI (A + k - 1) := by
    rw [show nI (2 * k + 1) / 2 = nI k from (pk_div (a := 2 * k + 1) (d := 2) (by omega) (by omega) (by omega)).trans (congrArg nI (by omega)), nI_add]
    exact pk_sub (b := 1) (by omega)
  have ix2 : nI A + nI (2 * k + 1) / 2 = nI (A + k) := by
    rw [show nI (2 * k + 1) / 2 = nI k from (pk_div (a := 2 * k + 1) (d := 2) (by omega) (by omega) (by omega)).trans (congrArg nI (by omega)), nI_add]
  have rm0 : nI (2 * k) - nI (2 * k) / 2 * 2 = 0 := (pk_rem (a := 2 * k) (d := 2) (by omega) (by omega) (by omega)).trans (by rw [show 2 * k % 2 = 0 by omega]; rfl)
  have rm1 : ¬ nI (2 * k + 1) - nI (2 * k + 1) / 2 * 2 = 0 := by
    rw [show nI (2 * k + 1) - nI (2 * k + 1) / 2 * 2 = nI ((2 * k + 1) % 2) from pk_rem (a := 2 * k + 1) (d := 2) (by omega) (by omega) (by omega), show (2 * k + 1) % 2 = 1 by omega]
    decide
  have h2t : (2 : Int32) * nI tot = nI (2 * tot) := pk_mul 2 tot
  have p46 : ∀ m, (46 : Int32) + nI m = nI (46 + m) := fun m => nI_add 46 m
  obtain ⟨r, cur1, hc1, hr, tX, tY⟩ := pg_take (fc := nI c) (fa := nI A) (fm := fm) (fr := fr) (fs := fs) (ft := ft) (fq := fq) (fx := fx) (lv := lv) (gr := gr) (gl := gl) (al := al) (ar := ar) (sn := sn) (ay := ay) (an := an) (ap := ap) (pd := pd) (pc := pc) (ct := ct) (la := la) (ra := ra) (bb := bb) (bl := bl) (br := br) (bs := bs) (bm := bm) (yc := nI c) (ya := nI A) (ym := ym) (yx := yx) (yq := yq) (yr := yr) (tt := tt) (tu := tu) (ts := ts) (tv := tv) (sd := sd) (ex := ex) (B := B) (lim := A + k) (cur := cur) (-4) hb hB (by omega) (by omega) hcur (by decide)
  rcases hr with hneg | ⟨a, ha, rfl⟩
  · refine ⟨bl, br, bs, sd, ex, cur1, hc1, fun j _ => rfl, hbs1, Or.inl ⟨r, hneg, fun post hp => ?_, fun n post hp => ?_⟩⟩
    · unfold wpX_stageRule
      exact nm_r (nI_add A k) (tX _ (br_f hneg hp))
    · refine br_f (by rw [h2t]; exact nI_ge (by omega) (by omega)) (And.intro (by decide) ?_)
      rw [ix0]
      exact tY _ (br_f hneg hp)
  · have H1 : ∀ (n : Nat) (post : Int32 → SY → Prop), wY_read_24 post (nI tot) (n + 1) (nI (2 * k + 1)) (nI c) (nI A) ym yx yq yr (nI B) (nI cur1) tt tu ts tv (upd sd (46 + 2 * k) (nI a)) ex bb → wY_read_24 post (nI tot) (n + 2) (nI (2 * k)) (nI c) (nI A) ym yx yq yr (nI B) (nI cur) tt tu ts tv sd ex bb := by
      intro n post hp
      refine br_f (by rw [h2t]; exact nI_ge (by omega) (by omega)) (And.intro (by decide) ?_)
      rw [ix0]
      refine tY _ (br_t (nI_pos' (by omega)) ?_)
      rw [p46]
      refine And.intro (vp_in_nI (by omega) (by omega)) (nm_r (e' := upd sd (46 + 2 * k) (nI a)) (by rw [nI_clamp (by omega)]) (And.intro (by decide) (br_t rm0 ?_)))
      exact br_t (nI_pos' (by omega)) (nm_r (nI_1 (2 * k)) hp)
    obtain ⟨r2, cur2, hc2, hr2, tX2, tY2⟩ := pg_take (fc := nI c) (fa := nI A) (fm := fm) (fr := fr) (fs := fs) (ft := ft) (fq := fq) (fx := fx) (lv := lv) (gr := gr) (gl := gl) (al := al) (ar := ar) (sn := sn) (ay := ay) (an := an) (ap := ap) (pd := pd) (pc := pc) (ct := ct) (la := la) (ra := ra) (bb := bb) (bl := bl) (br := br) (bs := bs) (bm := bm) (yc := nI c) (ya := nI A) (ym := ym) (yx := yx) (yq := yq) (yr := yr) (tt := tt) (tu := tu) (ts := ts) (tv := tv) (sd := upd sd (46 + 2 * k) (nI a)) (ex := ex) (B := B) (lim := A + k) (cur := cur1) (-4) hb hB (by omega) (by omega) hc1 (by decide)
    rcases hr2 with hneg | ⟨b, hbk, rfl⟩
    · refine ⟨bl, br, bs, upd sd (46 + 2 * k) (nI a), ex, cur2, hc2, fun j hj => pk_un (by omega), hbs1, Or.inl ⟨r2, hneg, fun post hp => ?_, fun n post hp => ?_⟩⟩
      · unfold wpX_stageRule
        exact nm_r (nI_add A k) (tX _ (br_t (nI_pos' (by omega)) (tX2 _ (br_f hneg hp))))
      · refine H1 n post ?_
        refine br_f (by rw [h2t]; exact nI_ge (by omega) (by omega)) (And.intro (by decide) ?_)
        rw [ix1]
        exact tY2 _ (br_f hneg hp)
    · have hG' := pg_GRadd hG ha hbk
      have hspa := hsp a ha
      have hspb := hsp b hbk
      have hsd2 : ∀ j, j < k + 1 → upd (upd sd (46 + 2 * k) (nI a)) (46 + 2 * k + 1) (nI b) (46 + 2 * j) = nI (pg_up lf k a j) ∧ upd (upd sd (46 + 2 * k) (nI a)) (46 + 2 * k + 1) (nI b) (46 + 2 * j + 1) = nI (pg_up rt k b j) := by
        intro j hj
        by_cases e : j = k
        · subst e; rw [pk_us, pk_un (by omega), pk_us, pg_ups, pg_ups]; exact ⟨rfl, rfl⟩
        · rw [pk_un (by omega), pk_un (by omega), pk_un (by omega), pk_un (by omega), pg_upn e, pg_upn e]
          exact hsd j (by omega)
      have hspN : pg_up sp (A + k) (sp a + sp b) (A + k) = sp a + sp b := pg_ups
      obtain ⟨ex', e1, e2⟩ := pg_expand (yc := nI c) (ym := ym) (yx := yx) (yq := yq) (yr := yr) (yb := nI B) (yk := nI cur2) (tt := tt) (tu := tu) (ts := ts) (tv := tv) (sd := upd (upd sd (46 + 2 * k) (nI a)) (46 + 2 * k + 1) (nI b)) (ex := ex) (yB := bb) (A := A) (R := k + 1) (base := 46) (s := A + k) hG' hsd2 (by omega) hA8 (by omega) (by omega)
      rw [hspN] at e2
      have hcl : (nI (A + k)).toNatClampNeg = A + k := nI_clamp (by omega)
      have hinA : vp_in (nI (A + k)) 32 := vp_in_nI (by omega) (by omega)
      have hin : vp_in (nI k) 23 := vp_in_nI (by omega) (by omega)
      have X2 : ∀ post : Int32 → SX → Prop, ((nI (sp a + sp b) ≤ nI c → post 0 (nI c, nI A, fm, fr, fs, ft, fq, fx, lv, nI B, gr, gl, nI cur2, al, ar, sn, ay, an, ap, pd, pc, ct, la, ra, bb, upd bl k (nI a), upd br k (nI b), upd bs (A + k) (nI (sp a + sp b)), bm)) ∧ (¬ nI (sp a + sp b) ≤ nI c → post (-5) (nI c, nI A, fm, fr, fs, ft, fq, fx, lv, nI B, gr, gl, nI cur2, al, ar, sn, ay, an, ap, pd, pc, ct, la, ra, bb, upd bl k (nI a), upd br k (nI b), upd bs (A + k) (nI (sp a + sp b)), bm))) → wpX_stageRule post (nI c, nI A, fm, fr, fs, ft, fq, fx, lv, nI B, gr, gl, nI cur, al, ar, sn, ay, an, ap, pd, pc, ct, la, ra, bb, bl, br, bs, bm) (nI k) := by
        intro post hp
        unfold wpX_stageRule
        refine nm_r (nI_add A k) (tX _ (br_t (nI_pos' (by omega)) (tX2 _ (br_t (nI_pos' (by omega)) ?_))))
        refine And.intro hin (nm_r (e' := upd bl k (nI a)) (by rw [nI_clamp (by omega)]) (And.intro hin (nm_r (e' := upd br k (nI b)) (by rw [nI_clamp (by omega)]) (And.intro (vp_in_nI (by omega) (by omega)) (And.intro (vp_in_nI (by omega) (by omega)) (And.intro hinA (nm_r (e' := upd bs (A + k) (nI (sp a + sp b))) ?_ (And.intro hinA ?_))))))))
        · rw [hcl, nI_clamp (by omega), nI_clamp (by omega), hbs a ha, hbs b hbk, nI_add]
        · rw [hcl, pk_us]
          exact hp
      have Y2 : ∀ (n : Nat) (post : Int32 → SY → Prop), wY_read_88 post (wY_read_24 post (nI tot) n) (nI tot) (nI (2 * k + 1)) (nI (sp a + sp b)) (nI c) (nI A) ym yx yq yr (nI B) (nI cur2) tt tu ts tv (upd (upd sd (46 + 2 * k) (nI a)) (46 + 2 * k + 1) (nI b)) ex' bb → wY_read_24 post (nI tot) (n + 2) (nI (2 * k)) (nI c) (nI A) ym yx yq yr (nI B) (nI cur) tt tu ts tv sd ex bb := by
        intro n post hp
        refine H1 n post ?_
        refine br_f (by rw [h2t]; exact nI_ge (by omega) (by omega)) (And.intro (by decide) ?_)
        rw [ix1]
        refine tY2 _ (br_t (nI_pos' (by omega)) ?_)
        rw [p46]
        refine And.intro (vp_in_nI (by omega) (by omega)) (nm_r (e' := upd (upd sd (46 + 2 * k) (nI a)) (46 + 2 * k + 1) (nI b)) (by rw [nI_clamp (by omega)]; rfl) (And.intro (by decide) (br_f rm1 (And.intro (by decide) ?_))))
        rw [ix2]
        exact e2 _ hp
      have hfr : ∀ j, j < 46 → upd (upd sd (46 + 2 * k) (nI a)) (46 + 2 * k + 1) (nI b) j = sd j := fun j hj => by rw [pk_un (by omega), pk_un (by omega)]
      have hbs1' : ∀ s, s < A → upd bs (A + k) (nI (sp a + sp b)) s = 1 := fun s hs => by rw [pk_un (by omega)]; exact hbs1 s hs
      refine ⟨upd bl k (nI a), upd br k (nI b), upd bs (A + k) (nI (sp a + sp b)), upd (upd sd (46 + 2 * k) (nI a)) (46 + 2 * k + 1) (nI b), ex', cur2, hc2, hfr, hbs1', ?_⟩
      rcases Nat.lt_or_ge c (sp a + sp b) with z | z
      · have hf : ¬ nI (sp a + sp b) ≤ nI c := nI_ge z (by omega)
        exact Or.inl ⟨-5, by decide, fun post hp => X2 post (br_f hf hp), fun n post hp => Y2 n post (br_f hf hp)⟩
      · have ht : nI (sp a + sp b) ≤ nI c := nI_le z (by omega)
        refine Or.inr ⟨_, _, _, _, ⟨hG', ?_, ?_, ?_, hsd2⟩, fun post hp => X2 post (br_t ht hp), fun n post hp => Y2 n post (br_t ht (nm_r (nI_1 (2 * k + 1)) hp))⟩
        · intro s hs
          by_cases e : s = A + k
          · subst e; rw [pg_ups]; exact z
          · rw [pg_upn e]; exact hsp s (by omega)
        · intro j hj
          by_cases e : j = k
          · subst e; rw [pk_us, pk_us, pg_ups, pg_ups]; exact ⟨rfl, rfl⟩
          · rw [pk_un e, pk_un e, pg_upn e, pg_upn e]; exact hbl j (by omega)
        · intro s hs
          by_cases e : s = A + k
          · subst e; rw [pk_us, pg_ups]
          · rw [pk_un e, pg_upn e]; exact hbs s (by omega)
theorem pg_stageL {tot : Nat} (hb : ∀ j, bb j = 0 ∨ bb j = 1) (hB : B ≤ 1024) (hc : c ≤ 48) (hA : 2 ≤ A) (hA8 : A ≤ 8) (htot : tot ≤ 23) :
    ∀ (d k cur : Nat) (lf rt sp : Nat → Nat) (ds : Nat → Nat → Nat) (bl br bs sd ex : Nat → Int32), k + d = tot → cur ≤ B → pg_ST c A k lf rt sp ds bl br bs sd →
    ∃ (bl' br' bs' sd' ex' : Nat → Int32) (cur' : Nat), cur' ≤ B ∧ (∀ j, j < 46 → sd' j = sd j) ∧ (∀ s, s < A → bs' s = 1) ∧
      ((∃ r : Int32, ¬ 0 ≤ r ∧ (∀ post : Int32 → SX → Prop, post r (nI c, nI A, fm, fr, fs, ft, fq, fx, lv, nI B, gr, gl, nI cur', al, ar, sn, ay, an, ap, pd, pc, ct, la, ra, bb, bl', br', bs', bm) → wX_stageRules_26 post (nI tot) (d + 1) (nI k) (nI c) (nI A) fm fr fs ft fq fx lv (nI B) gr gl (nI cur) al ar sn ay an ap pd pc ct la ra bb bl br bs bm) ∧
          (∀ post : Int32 → SY → Prop, post r (nI c, nI A, ym, yx, yq, yr, nI B, nI cur', tt, tu, ts, tv, sd', ex', bb) → wY_read_24 post (nI tot) (2 * d + 1) (nI (2 * k)) (nI c) (nI A) ym yx yq yr (nI B) (nI cur) tt tu ts tv sd ex bb)) ∨
       (∃ (lf' rt' sp' : Nat → Nat) (ds' : Nat → Nat → Nat), pg_ST c A tot lf' rt' sp' ds' bl' br' bs' sd' ∧ (∀ post : Int32 → SX → Prop, post 0 (nI c, nI A, fm, fr, fs, ft, fq, fx, lv, nI B, gr, gl, nI cur', al, ar, sn, ay, an, ap, pd, pc, ct, la, ra, bb, bl', br', bs', bm) → wX_stageRules_26 post (nI tot) (d + 1) (nI k) (nI c) (nI A) fm fr fs ft fq fx lv (nI B) gr gl (nI cur) al ar sn ay an ap pd pc ct la ra bb bl br bs bm) ∧
          (∀ post : Int32 → SY → Prop, wY_read_24 post (nI tot) 1 (nI (2 * tot)) (nI c) (nI A) ym yx yq yr (nI B) (nI cur') tt tu ts tv sd' ex' bb → wY_read_24 post (nI tot) (2 * d + 1) (nI (2 * k)) (nI c) (nI A) ym yx yq yr (nI B) (nI cur) tt tu ts tv sd ex bb))) := by
  intro d
  induction d with
  | zero =>
    intro k cur lf rt sp ds bl br bs sd ex hk hcur hST
    have e : k = tot := hk
    subst e
    refine ⟨bl, br, bs, sd, ex, cur, hcur, fun j _ => rfl, fun s hs => ?_, Or.inr ⟨lf, rt, sp, ds, hST, fun post hp => ?_, fun post hp => hp⟩⟩
    · rw [hST.2.2.2.1 s (by omega), (hST.1.1 s hs).1]; rfl
    · exact br_t (nI_le (Nat.le_refl _) (by omega)) hp
  | succ d ih =>
    intro k cur lf rt sp ds bl br bs sd ex hk hcur hST
    obtain ⟨bl1, br1, bs1, sd1, ex1, cur1, hc1, hs1, hb1, hcase⟩ := pg_stage1 (fm := fm) (fr := fr) (fs := fs) (ft := ft) (fq := fq) (fx := fx) (lv := lv) (gr := gr) (gl := gl) (al := al) (ar := ar) (sn := sn) (ay := ay) (an := an) (ap := ap) (pd := pd) (pc := pc) (ct := ct) (la := la) (ra := ra) (bb := bb) (bl := bl) (br := br) (bs := bs) (bm := bm) (ym := ym) (yx := yx) (yq := yq) (yr := yr) (tt := tt) (tu := tu) (ts := ts) (tv := tv) (sd := sd) (ex := ex) (B := B) (tot := tot) (k := k) (cur := cur) hb hB hc hA hA8 htot (by omega) hcur hST
    rcases hcase with ⟨r, hneg, hX, hY⟩ | ⟨lf1, rt1, sp1, ds1, hST1, hX, hY⟩
    · refine ⟨bl1, br1, bs1, sd1, ex1, cur1, hc1, hs1, hb1, Or.inl ⟨r, hneg, fun post hp => ?_, fun post hp => hY (2 * d + 1) post hp⟩⟩
      exact br_f (nI_ge (by omega) (by omega)) (hX _ (br_f hneg hp))
    · obtain ⟨bl2, br2, bs2, sd2, ex2, cur2, hc2, hs2, hb2, hcase2⟩ := ih (k + 1) cur1 lf1 rt1 sp1 ds1 bl1 br1 bs1 sd1 ex1 (by omega) hc1 hST1
      refine ⟨bl2, br2, bs2, sd2, ex2, cur2, hc2, fun j hj => (hs2 j hj).trans (hs1 j hj), hb2, ?_⟩
      have X1 : ∀ post : Int32 → SX → Prop, wX_stageRules_26 post (nI tot) (d + 1) (nI (k + 1)) (nI c) (nI A) fm fr fs ft fq fx lv (nI B) gr gl (nI cur1) al ar sn ay an ap pd pc ct la ra bb bl1 br1 bs1 bm → wX_stageRules_26 post (nI tot) (d + 1 + 1) (nI k) (nI c) (nI A) fm fr fs ft fq fx lv (nI B) gr gl (nI cur) al ar sn ay an ap pd pc ct la ra bb bl br bs bm := by
        intro post hp
        exact br_f (nI_ge (by omega) (by omega)) (hX _ (br_t (by decide) (nm_r (nI_1 k) hp)))
      rcases hcase2 with ⟨r, hneg, hX2, hY2⟩ | ⟨lf2, rt2, sp2, ds2, hST2, hX2, hY2⟩
      · exact Or.inl ⟨r, hneg, fun post hp => X1 post (hX2 post hp), fun post hp => hY (2 * d + 1) post (hY2 post hp)⟩
      · exact Or.inr ⟨lf2, rt2, sp2, ds2, hST2, fun post hp => X1 post (hX2 post hp), fun post hp => hY (2 * d + 1) post (hY2 post hp)⟩
end PGT
end
section
section PGU
/-! reading the sequence, in lockstep -/
def pg_SQ (A Rn : Nat) (sp : Nat → Nat) (ds : Nat → Nat → Nat) (i tot : Nat) (sq ps : Nat → Nat) (bm tu tv : Nat → Int32) : Prop :=
  ps 0 = 0 ∧ ps i = tot ∧ (∀ j, j < i → ps (j + 1) ≤ tot) ∧ pg_Cv A Rn sp ds tu i sq ps ∧ (∀ j, j < i → bm j = nI (sq j) ∧ tv j = nI (sq j))
variable {fc : Int32} {fa : Int32} {fm : Int32} {fr : Int32} {fs : Int64} {ft : Int32} {fq : Int32} {fx : Int32} {lv : Int64} {fb : Int32} {gr : Int32} {gl : Int32} {gc : Int32} {al : (Nat → Int32)} {ar : (Nat → Int32)} {sn : (Nat → Int32)} {ay : (Nat → Int32)} {an : (Nat → Int32)} {ap : (Nat → Int32)} {pd : (Nat → Int32)} {pc : (Nat → Int64)} {ct : (Nat → Int32)} {la : (Nat → Int32)} {ra : (Nat → Int32)} {bb : (Nat → Int32)} {bl : (Nat → Int32)} {br : (Nat → Int32)} {bs : (Nat → Int32)} {bm : (Nat → Int32)} {yc : Int32} {ya : Int32} {ym : Int32} {yx : Int32} {yq : Int32} {yr : Int32} {yb : Int32} {yk : Int32} {tt : (Nat → Int32)} {tu : (Nat → Int32)} {ts : (Nat → Int32)} {tv : (Nat → Int32)} {sd : (Nat → Int32)} {ex : (Nat → Int32)} {yB : (Nat → Int32)} {B c A : Nat}
theorem pg_rd196 {x1 x2 : Int32} {tot i len : Nat} {f : Nat → Nat} (htl : tot + len ≤ 48) (hex : ∀ o, o < len → ex o = nI (f o)) :
    ∀ (d m : Nat) (tu : Nat → Int32), m + d = len → (∀ o, o < m → tu (tot + o) = nI (f o)) → ∃ tu' : Nat → Int32, (∀ j, j < tot → tu' j = tu j) ∧ (∀ o, o < len → tu' (tot + o) = nI (f o)) ∧
      ∀ (post : Int32 → SY → Prop) (J : Int32 → Int32 → Int32 → Int32 → Int32 → Int32 → Int32 → Int32 → Int32 → Int32 → (Nat → Int32) → (Nat → Int32) → (Nat → Int32) → (Nat → Int32) → (Nat → Int32) → (Nat → Int32) → (Nat → Int32) → Prop),
        J (nI (tot + len)) (nI (i + 1)) yc ya ym yx yq yr yb yk tt tu' ts tv sd ex yB → wY_read_196 post J x1 x2 (nI tot) (nI i) (nI len) yc ya ym yx yq yr yb yk (d + 1) (nI m) tt tu ts tv sd ex yB := by
  intro d
  induction d with
  | zero =>
    intro m tu hm h
    have e : m = len := hm
    subst e
    refine ⟨tu, fun j _ => rfl, h, fun post J hJ => ?_⟩
    exact br_t (nI_le (Nat.le_refl _) (by omega)) (nm_r (nI_add tot m) (nm_r (nI_1 i) hJ))
  | succ d ih =>
    intro m tu hm h
    obtain ⟨tu', h1, h2, h3⟩ := ih (m + 1) (upd tu (tot + m) (nI (f m))) (by omega) (by
      intro o ho
      by_cases e : o = m
      · subst e; exact pk_us
      · rw [pk_un (by omega)]; exact h o (by omega))
    refine ⟨tu', fun j hj => by rw [h1 j hj, pk_un (by omega)], h2, fun post J hJ => ?_⟩
    refine br_f (nI_ge (by omega) (by omega)) (And.intro (vp_in_nI (by omega) (by omega)) ?_)
    rw [nI_add]
    exact And.intro (vp_in_nI (by omega) (by omega)) (nm_r (e' := upd tu (tot + m) (nI (f m))) (by rw [nI_clamp (by omega), nI_clamp (by omega), hex m (by omega)]) (nm_r (nI_1 m) (h3 post J hJ)))
theorem pg_seqL {Rn len : Nat} {lf rt sp : Nat → Nat} {ds : Nat → Nat → Nat} (hb : ∀ j, bb j = 0 ∨ bb j = 1) (hB : B ≤ 1024) (hc : c ≤ 48) (hA : 2 ≤ A) (hA8 : A ≤ 8) (hRn : Rn ≤ 23) (hlen : len ≤ c) (hST : pg_ST c A Rn lf rt sp ds bl br bs sd) :
    ∀ (d i tot cur : Nat) (sq ps : Nat → Nat) (bm tu tv ex : Nat → Int32), i + d = len → cur ≤ B → tot ≤ c → pg_SQ A Rn sp ds i tot sq ps bm tu tv →
    ∃ (bm' tu' tv' ex' : Nat → Int32) (cur' : Nat), cur' ≤ B ∧
      ((∃ r : Int32, ¬ 0 ≤ r ∧ (∀ post : Int32 → SX → Prop, post r (nI c, nI A, fm, fr, fs, ft, fq, fx, lv, nI B, nI Rn, gl, nI cur', al, ar, sn, ay, an, ap, pd, pc, ct, la, ra, bb, bl, br, bs, bm') → wX_stageSequence_28 post (nI len) (d + 1) (nI tot) (nI i) (nI c) (nI A) fm fr fs ft fq fx lv (nI B) (nI Rn) gl (nI cur) al ar sn ay an ap pd pc ct la ra bb bl br bs bm) ∧
          (∀ post : Int32 → SY → Prop, post r (nI c, nI A, ym, yx, yq, yr, nI B, nI cur', tt, tu', ts, tv', sd, ex', bb) → wY_read_130 post (nI Rn) (nI len) (d + 1) (nI tot) (nI i) (nI c) (nI A) ym yx yq yr (nI B) (nI cur) tt tu ts tv sd ex bb)) ∨
       (∃ (tot' : Nat) (sq' ps' : Nat → Nat), tot' ≤ c ∧ pg_SQ A Rn sp ds len tot' sq' ps' bm' tu' tv' ∧ (∀ post : Int32 → SX → Prop, post 0 (nI c, nI A, fm, fr, fs, ft, fq, fx, lv, nI B, nI Rn, gl, nI cur', al, ar, sn, ay, an, ap, pd, pc, ct, la, ra, bb, bl, br, bs, bm') → wX_stageSequence_28 post (nI len) (d + 1) (nI tot) (nI i) (nI c) (nI A) fm fr fs ft fq fx lv (nI B) (nI Rn) gl (nI cur) al ar sn ay an ap pd pc ct la ra bb bl br bs bm) ∧
          (∀ post : Int32 → SY → Prop, wY_read_130 post (nI Rn) (nI len) 1 (nI tot') (nI len) (nI c) (nI A) ym yx yq yr (nI B) (nI cur') tt tu' ts tv' sd ex' bb → wY_read_130 post (nI Rn) (nI len) (d + 1) (nI tot) (nI i) (nI c) (nI A) ym yx yq yr (nI B) (nI cur) tt tu ts tv sd ex bb))) := by
  obtain ⟨hG, hsp, hbl, hbs, hsd⟩ := id hST
  have ixA : nI A + nI Rn - 1 = nI (A + Rn - 1) := by rw [nI_add]; exact pk_sub (b := 1) (by omega)
  intro d
  induction d with
  | zero =>
    intro i tot cur sq ps bm tu tv ex hi hcur htot hSQ
    have e : i = len := hi
    subst e
    refine ⟨bm, tu, tv, ex, cur, hcur, Or.inr ⟨tot, sq, ps, htot, hSQ, fun post hp => ?_, fun post hp => hp⟩⟩
    exact br_t (nI_le (Nat.le_refl _) (by omega)) hp
  | succ d ih =>
    intro i tot cur sq ps bm tu tv ex hi hcur htot hSQ
    obtain ⟨r, cur1, hc1, hr, tX, tY⟩ := pg_take (fc := nI c) (fa := nI A) (fm := fm) (fr := fr) (fs := fs) (ft := ft) (fq := fq) (fx := fx) (lv := lv) (gr := nI Rn) (gl := gl) (al := al) (ar := ar) (sn := sn) (ay := ay) (an := an) (ap := ap) (pd := pd) (pc := pc) (ct := ct) (la := la) (ra := ra) (bb := bb) (bl := bl) (br := br) (bs := bs) (bm := bm) (yc := nI c) (ya := nI A) (ym := ym) (yx := yx) (yq := yq) (yr := yr) (tt := tt) (tu := tu) (ts := ts) (tv := tv) (sd := sd) (ex := ex) (B := B) (lim := A + Rn) (cur := cur) (-4) hb hB (by omega) (by omega) hcur (by decide)
    have hil : ¬ nI len ≤ nI i := nI_ge (by omega) (by omega)
    rcases hr with hneg | ⟨s, hs, rfl⟩
    · refine ⟨bm, tu, tv, ex, cur1, hc1, Or.inl ⟨r, hneg, fun post hp => ?_, fun post hp => ?_⟩⟩
      · refine br_f hil ?_
        rw [nI_add]
        exact tX _ (br_f hneg hp)
      · refine br_f hil ?_
        rw [ixA]
        exact tY _ (br_f hneg hp)
    · have hsps := hsp s hs
      have hs1 := pg_sp1 hG _ _ (Nat.lt_succ_self _) hs
      obtain ⟨ex1, e1, e2⟩ := pg_expand (yc := nI c) (ym := ym) (yx := yx) (yq := yq) (yr := yr) (yb := nI B) (yk := nI cur1) (tt := tt) (tu := tu) (ts := ts) (tv := tv) (sd := sd) (ex := ex) (yB := bb) (A := A) (R := Rn) (base := 46) (s := s) hG hsd (by omega) hA8 hs (by omega)
      have hcls : (nI s).toNatClampNeg = s := nI_clamp (by omega)
      rcases Nat.lt_or_ge c (tot + sp s) with z | z
      · have hf : ¬ nI (tot + sp s) ≤ nI c := nI_ge z (by omega)
        refine ⟨bm, tu, tv, ex1, cur1, hc1, Or.inl ⟨-5, by decide, fun post hp => ?_, fun post hp => ?_⟩⟩
        · refine br_f hil ?_
          rw [nI_add]
          refine tX _ (br_t (nI_pos' (by omega)) (And.intro (vp_in_nI (by omega) (by omega)) (nm_r (e' := nI (tot + sp s)) (by rw [hcls, hbs s hs, nI_add]) (br_f hf hp))))
        · refine br_f (nI_ge (by omega) (by omega)) ?_
          rw [ixA]
          refine tY _ (br_t (nI_pos' (by omega)) (e2 _ (br_f (by rw [nI_add]; exact hf) hp)))
      · have ht : nI (tot + sp s) ≤ nI c := nI_le z (by omega)
        obtain ⟨tu1, u1, u2, u3⟩ := pg_rd196 (yc := nI c) (ya := nI A) (ym := ym) (yx := yx) (yq := yq) (yr := yr) (yb := nI B) (yk := nI cur1) (tt := tt) (ts := ts) (tv := upd tv i (nI s)) (sd := sd) (ex := ex1) (yB := bb) (x1 := nI Rn) (x2 := nI len) (tot := tot) (i := i) (len := sp s) (f := ds s) (by omega) e1 (sp s) 0 tu (by omega) (fun o ho => by omega)
        have hSQ' : pg_SQ A Rn sp ds (i + 1) (tot + sp s) (pg_up sq i s) (pg_up ps (i + 1) (tot + sp s)) (upd bm i (nI s)) tu1 (upd tv i (nI s)) := by
          obtain ⟨q0, qi, qm, qC, qb⟩ := hSQ
          refine ⟨by rw [pg_upn (by omega)]; exact q0, pg_ups, ?_, pg_CvE qC qi qm hs rfl u1 u2, ?_⟩
          · intro j hj
            by_cases e : j = i
            · subst e; rw [pg_ups]; omega
            · rw [pg_upn (by omega)]
              have := qm j (by omega)
              omega
          · intro j hj
            by_cases e : j = i
            · subst e; rw [pk_us, pk_us, pg_ups]; exact ⟨rfl, rfl⟩
            · rw [pk_un e, pk_un e, pg_upn e]; exact qb j (by omega)
        obtain ⟨bm2, tu2, tv2, ex2, cur2, hc2, hcase⟩ := ih (i + 1) (tot + sp s) cur1 _ _ _ _ _ ex1 (by omega) hc1 z hSQ'
        refine ⟨bm2, tu2, tv2, ex2, cur2, hc2, ?_⟩
        have X1 : ∀ post : Int32 → SX → Prop, wX_stageSequence_28 post (nI len) (d + 1) (nI (tot + sp s)) (nI (i + 1)) (nI c) (nI A) fm fr fs ft fq fx lv (nI B) (nI Rn) gl (nI cur1) al ar sn ay an ap pd pc ct la ra bb bl br bs (upd bm i (nI s)) → wX_stageSequence_28 post (nI len) (d + 1 + 1) (nI tot) (nI i) (nI c) (nI A) fm fr fs ft fq fx lv (nI B) (nI Rn) gl (nI cur) al ar sn ay an ap pd pc ct la ra bb bl br bs bm := by
          intro post hp
          refine br_f hil ?_
          rw [nI_add]
          refine tX _ ?_
          exact br_t (nI_pos' (by omega)) (And.intro (vp_in_nI (by omega) (by omega)) (nm_r (e' := nI (tot + sp s)) (by rw [hcls, hbs s hs, nI_add]) (br_t ht (And.intro (vp_in_nI (by omega) (by omega)) (nm_r (e' := upd bm i (nI s)) (by rw [nI_clamp (by omega)]) (nm_r (nI_1 i) hp))))))
        have Y1 : ∀ post : Int32 → SY → Prop, wY_read_130 post (nI Rn) (nI len) (d + 1) (nI (tot + sp s)) (nI (i + 1)) (nI c) (nI A) ym yx yq yr (nI B) (nI cur1) tt tu1 ts (upd tv i (nI s)) sd ex1 bb → wY_read_130 post (nI Rn) (nI len) (d + 1 + 1) (nI tot) (nI i) (nI c) (nI A) ym yx yq yr (nI B) (nI cur) tt tu ts tv sd ex bb := by
          intro post hp
          refine br_f (nI_ge (by omega) (by omega)) ?_
          rw [ixA]
          refine tY _ (br_t (nI_pos' (by omega)) (e2 _ (br_t (by rw [nI_add]; exact ht) (And.intro (vp_in_nI (by omega) (by omega)) (nm_r (e' := upd tv i (nI s)) (by rw [nI_clamp (by omega)]) (Exists.intro (sp s + 1) ?_))))))
          exact u3 post _ hp
        rcases hcase with ⟨r, hneg, hX2, hY2⟩ | ⟨tot', sq', ps', ht', hSQ2, hX2, hY2⟩
        · exact Or.inl ⟨r, hneg, fun post hp => X1 post (hX2 post hp), fun post hp => Y1 post (hY2 post hp)⟩
        · exact Or.inr ⟨tot', sq', ps', ht', hSQ2, fun post hp => X1 post (hX2 post hp), fun post hp => Y1 post (hY2 post hp)⟩
end PGU
end
section
section PGV
/-! the copies of the reference; load -/
variable {yc : Int32} {ya : Int32} {ym : Int32} {yx : Int32} {yq : Int32} {yr : Int32} {yb : Int32} {yk : Int32} {tt : (Nat → Int32)} {tu : (Nat → Int32)} {ts : (Nat → Int32)} {tv : (Nat → Int32)} {sd : (Nat → Int32)} {ex : (Nat → Int32)} {yB : (Nat → Int32)}
theorem pg_rd316 {x1 x2 : Int32} {tot : Nat} (ht : tot ≤ 48) :
    ∀ (d m : Nat) (tt : Nat → Int32), m + d = tot → ∃ tt' : Nat → Int32, (∀ j, j < m → tt' j = tt j) ∧ (∀ j, m ≤ j → j < tot → tt' j = tu j) ∧
      ∀ post : Int32 → SY → Prop, post (nI tot) (yc, ya, ym, nI tot, x2, x1, yb, yk, tt', tu, ts, tv, sd, ex, yB) → wY_read_316 post x1 x2 (nI tot) yc ya ym yx yq yr yb yk (d + 1) (nI m) tt tu ts tv sd ex yB := by
  intro d
  induction d with
  | zero =>
    intro m tt hm
    have e : m = tot := hm
    subst e
    exact ⟨tt, fun j _ => rfl, fun j a b => by omega, fun post hp => br_t (nI_le (Nat.le_refl _) (by omega)) hp⟩
  | succ d ih =>
    intro m tt hm
    obtain ⟨tt', h1, h2, h3⟩ := ih (m + 1) (upd tt m (tu m)) (by omega)
    have hin : vp_in (nI m) 48 := vp_in_nI (by omega) (by omega)
    refine ⟨tt', fun j hj => by rw [h1 j (by omega), pk_un (by omega)], fun j a b => ?_, fun post hp => ?_⟩
    · by_cases e : j = m
      · subst e; rw [h1 j (by omega), pk_us]
      · exact h2 j (by omega) b
    · exact br_f (nI_ge (by omega) (by omega)) (And.intro hin (And.intro hin (nm_r (e' := upd tt m (tu m)) (by rw [nI_clamp (by omega)]) (nm_r (nI_1 m) (h3 post hp)))))
theorem pg_rd287 {x1 x3 : Int32} {len : Nat} (ht : len ≤ 48) :
    ∀ (d m : Nat) (ts : Nat → Int32), m + d = len → ∃ ts' : Nat → Int32, (∀ j, j < m → ts' j = ts j) ∧ (∀ j, m ≤ j → j < len → ts' j = tv j) ∧
      ∀ (post : Int32 → SY → Prop) (n : Nat), wY_read_316 post x1 (nI len) x3 yc ya ym yx yq yr yb yk n 0 tt tu ts' tv sd ex yB → wY_read_287 post x1 (nI len) x3 yc ya ym yx yq yr yb yk (d + 1) (nI m) tt tu ts tv sd ex yB := by
  intro d
  induction d with
  | zero =>
    intro m ts hm
    have e : m = len := hm
    subst e
    exact ⟨ts, fun j _ => rfl, fun j a b => by omega, fun post n hp => br_t (nI_le (Nat.le_refl _) (by omega)) (Exists.intro n hp)⟩
  | succ d ih =>
    intro m ts hm
    obtain ⟨ts', h1, h2, h3⟩ := ih (m + 1) (upd ts m (tv m)) (by omega)
    have hin : vp_in (nI m) 48 := vp_in_nI (by omega) (by omega)
    refine ⟨ts', fun j hj => by rw [h1 j (by omega), pk_un (by omega)], fun j a b => ?_, fun post n hp => ?_⟩
    · by_cases e : j = m
      · subst e; rw [h1 j (by omega), pk_us]
      · exact h2 j (by omega) b
    · exact br_f (nI_ge (by omega) (by omega)) (And.intro hin (And.intro hin (nm_r (e' := upd ts m (tv m)) (by rw [nI_clamp (by omega)]) (nm_r (nI_1 m) (h3 post n hp)))))
theorem pg_rd253 {x2 x3 : Int32} {Rn : Nat} (ht : Rn ≤ 23) :
    ∀ (d m : Nat) (sd : Nat → Int32), m + d = 2 * Rn → ∃ sd' : Nat → Int32, (∀ j, j < m → sd' j = sd j) ∧ (∀ j, m ≤ j → j < 2 * Rn → sd' j = sd (46 + j)) ∧
      ∀ (post : Int32 → SY → Prop) (n : Nat), wY_read_287 post (nI Rn) x2 x3 yc ya ym yx yq yr yb yk n 0 tt tu ts tv sd' ex yB → wY_read_253 post (nI Rn) x2 x3 yc ya ym yx yq yr yb yk (d + 1) (nI m) tt tu ts tv sd ex yB := by
  have h2R : (2 : Int32) * nI Rn = nI (2 * Rn) := pk_mul 2 Rn
  intro d
  induction d with
  | zero =>
    intro m sd hm
    have e : m = 2 * Rn := hm
    subst e
    exact ⟨sd, fun j _ => rfl, fun j a b => by omega, fun post n hp => br_t (by rw [h2R]; exact nI_le (Nat.le_refl _) (by omega)) (Exists.intro n hp)⟩
  | succ d ih =>
    intro m sd hm
    obtain ⟨sd', h1, h2, h3⟩ := ih (m + 1) (upd sd m (sd (46 + m))) (by omega)
    refine ⟨sd', fun j hj => by rw [h1 j (by omega), pk_un (by omega)], fun j a b => ?_, fun post n hp => ?_⟩
    · by_cases e : j = m
      · subst e; rw [h1 j (by omega), pk_us]
      · rw [h2 j (by omega) b, pk_un (by omega)]
    · refine br_f (by rw [h2R]; exact nI_ge (by omega) (by omega)) ?_
      rw [show (46 : Int32) + nI m = nI (46 + m) from nI_add 46 m]
      exact And.intro (vp_in_nI (by omega) (by omega)) (And.intro (vp_in_nI (by omega) (by omega)) (nm_r (e' := upd sd m (sd (46 + m))) (by rw [nI_clamp (by omega), nI_clamp (by omega)]) (nm_r (nI_1 m) (h3 post n hp))))
end PGV
section PGV2
variable {fc : Int32} {fa : Int32} {fm : Int32} {fr : Int32} {fs : Int64} {ft : Int32} {fq : Int32} {fx : Int32} {lv : Int64} {fb : Int32} {gr : Int32} {gl : Int32} {gc : Int32} {al : (Nat → Int32)} {ar : (Nat → Int32)} {sn : (Nat → Int32)} {ay : (Nat → Int32)} {an : (Nat → Int32)} {ap : (Nat → Int32)} {pd : (Nat → Int32)} {pc : (Nat → Int64)} {ct : (Nat → Int32)} {la : (Nat → Int32)} {ra : (Nat → Int32)} {bb : (Nat → Int32)} {bl : (Nat → Int32)} {br : (Nat → Int32)} {bs : (Nat → Int32)} {bm : (Nat → Int32)}
theorem pg_ld38 {post : SX → Prop} {A Rn len tot : Nat} {sp : Nat → Nat} {ds : Nat → Nat → Nat} {sq ps : Nat → Nat} {tu : Nat → Int32} (hAR : A + Rn ≤ 31) (hsn : ∀ s, s < A + Rn → sn s = nI (sp s)) (hsp1 : ∀ s, s < A + Rn → 1 ≤ sp s) (hC : pg_Cv A Rn sp ds tu len sq ps) (hps : ∀ i, i < len → ps (i + 1) ≤ tot) (htot : tot ≤ 48) (hlen : len ≤ 48) (hpl : ps len = tot) (hbm : ∀ j, j < len → bm j = nI (sq j))
    (hp : ∀ (sq' ps' : Nat → Nat) (fs' : Int64) (ft' : Int32) (ay' an' ap' pd' : Nat → Int32) (pc' : Nat → Int64) (ct' la' ra' : Nat → Int32) (lv' : Int64), (∀ i, i < len → sq' i = sq i) → (∀ i, i ≤ len → ps' i = ps i) → pg_X len tot sq' ps' fs' ft' ay' an' ap' pd' pc' ct' la' ra' lv' → post (fc, fa, fm, fr, fs', ft', nI len, nI tot, lv', fb, gr, nI len, gc, al, ar, sn, ay', an', ap', pd', pc', ct', la', ra', bb, bl, br, bs, bm)) :
    ∀ (d k T : Nat) (sqk psk : Nat → Nat) (fs : Int64) (ft : Int32) (ay an ap pd : Nat → Int32) (pc : Nat → Int64) (ct la ra : Nat → Int32) (lv : Int64), k + d = len → T = ps k → (∀ i, i < k → sqk i = sq i) → (∀ i, i ≤ k → psk i = ps i) → pg_X k T sqk psk fs ft ay an ap pd pc ct la ra lv →
      wX_load_38 post (d + 1) (nI k) fc fa fm fr fs ft (nI k) (nI T) lv fb gr (nI len) gc al ar sn ay an ap pd pc ct la ra bb bl br bs bm := by
  intro d
  induction d with
  | zero =>
    intro k T sqk psk fs ft ay an ap pd pc ct la ra lv hk hT h1 h2 hX
    have e : k = len := hk
    subst e
    have e2 : T = tot := by omega
    subst e2
    exact br_t (nI_le (Nat.le_refl _) (by omega)) (hp sqk psk _ _ _ _ _ _ _ _ _ _ _ h1 h2 hX)
  | succ d ih =>
    intro k T sqk psk fs ft ay an ap pd pc ct la ra lv hk hT h1 h2 hX
    have hkl : k < len := by omega
    obtain ⟨c1, c2, _⟩ := hC k hkl
    have hle := hps k hkl
    have e1 : bm (nI k).toNatClampNeg = nI (sq k) := by rw [nI_clamp (by omega)]; exact hbm k hkl
    refine br_f (nI_ge (by omega) (by omega)) (And.intro (vp_in_nI (by omega) (by omega)) ?_)
    rw [e1]
    refine pg_extend (w := sp (sq k)) hX (by omega) (hsn _ c1) (hsp1 _ c1) (by omega) ?_
    intro fs' ft' ay' an' ap' pd' pc' ct' la' ra' lv' hX'
    refine nm_r (nI_1 k) (ih (k + 1) (T + sp (sq k)) _ _ _ _ _ _ _ _ _ _ _ _ _ (by omega) (by omega) ?_ ?_ hX')
    · intro i hi
      by_cases e : i = k
      · subst e; exact pg_ups
      · rw [pg_upn e]; exact h1 i (by omega)
    · intro i hi
      by_cases e : i = k + 1
      · subst e; rw [pg_ups]; omega
      · rw [pg_upn e]; exact h2 i (by omega)
theorem pg_ld6 {post : SX → Prop} {A Rn : Nat} {lf rt sp : Nat → Nat} {ds : Nat → Nat → Nat} (hA : A ≤ 8) (hRn : Rn ≤ 23) (hG : pg_GR A Rn lf rt sp ds) (hbl : ∀ j, j < Rn → bl j = nI (lf j) ∧ br j = nI (rt j))
    (hp : ∀ al' ar' sn' : Nat → Int32, (∀ j, j < Rn → al' j = nI (lf j) ∧ ar' j = nI (rt j)) → (∀ s, s < A + Rn → sn' s = nI (sp s)) → ∃ n38 : Nat, wX_load_38 post n38 0 fc (nI A) fm (nI Rn) fs ft fq fx lv fb (nI Rn) gl gc al' ar' sn' ay an ap pd pc ct la ra bb bl br bs bm) :
    ∀ (d k : Nat) (al ar sn : Nat → Int32), k + d = Rn → (∀ j, j < k → al j = nI (lf j) ∧ ar j = nI (rt j)) → (∀ s, s < A + k → sn s = nI (sp s)) →
      wX_load_6 post (d + 1) (nI k) fc (nI A) fm (nI k) fs ft fq fx lv fb (nI Rn) gl gc al ar sn ay an ap pd pc ct la ra bb bl br bs bm := by
  intro d
  induction d with
  | zero =>
    intro k al ar sn hk h1 h2
    have e : k = Rn := hk
    subst e
    exact br_t (nI_le (Nat.le_refl _) (by omega)) (hp al ar sn h1 h2)
  | succ d ih =>
    intro k al ar sn hk h1 h2
    have hkl : k < Rn := by omega
    obtain ⟨g1, g2, g3, _⟩ := hG.2 k hkl
    have hin : vp_in (nI k) 23 := vp_in_nI (by omega) (by omega)
    have e1 : bl (nI k).toNatClampNeg = nI (lf k) := by rw [nI_clamp (by omega)]; exact (hbl k hkl).1
    have e2 : br (nI k).toNatClampNeg = nI (rt k) := by rw [nI_clamp (by omega)]; exact (hbl k hkl).2
    refine br_f (nI_ge (by omega) (by omega)) (And.intro hin (And.intro hin ?_))
    rw [e1, e2]
    refine pg_defRule (wl := sp (lf k)) (wr := sp (rt k)) (by omega) (by omega) g1 g2 (h2 _ g1) (h2 _ g2) (nm_r (nI_1 k) (ih (k + 1) _ _ _ (by omega) ?_ ?_))
    · intro j hj
      by_cases e : j = k
      · subst e; rw [pk_us, pk_us]; exact ⟨rfl, rfl⟩
      · rw [pk_un e, pk_un e]; exact h1 j (by omega)
    · intro s hs
      by_cases e : s = A + k
      · subst e; rw [pk_us, g3]
      · rw [pk_un e]; exact h2 s (by omega)
theorem pg_load {post : SX → Prop} {c A Rn L T len tot : Nat} {lf rt sp : Nat → Nat} {ds : Nat → Nat → Nat} {sq ps sq0 ps0 : Nat → Nat} {sd tu tv : Nat → Int32} (hA : A ≤ 8) (hRn : Rn ≤ 23) (hST : pg_ST c A Rn lf rt sp ds bl br bs sd) (hSQ : pg_SQ A Rn sp ds len tot sq ps bm tu tv) (htot : tot ≤ 48) (hlen : len ≤ 48)
    (hsn : ∀ s, s < A → sn s = 1) (hX : pg_X L T sq0 ps0 fs ft ay an ap pd pc ct la ra lv)
    (hp : ∀ (al' ar' sn' : Nat → Int32) (sq' ps' : Nat → Nat) (fs' : Int64) (ft' : Int32) (ay' an' ap' pd' : Nat → Int32) (pc' : Nat → Int64) (ct' la' ra' : Nat → Int32) (lv' : Int64), (∀ j, j < Rn → al' j = nI (lf j) ∧ ar' j = nI (rt j)) → (∀ s, s < A + Rn → sn' s = nI (sp s)) → (∀ i, i < len → sq' i = sq i) → (∀ i, i ≤ len → ps' i = ps i) → pg_X len tot sq' ps' fs' ft' ay' an' ap' pd' pc' ct' la' ra' lv' → post (fc, nI A, fm, nI Rn, fs', ft', nI len, nI tot, lv', fb, nI Rn, nI len, gc, al', ar', sn', ay', an', ap', pd', pc', ct', la', ra', bb, bl, br, bs, bm)) :
    wpX_load post (fc, nI A, fm, fr, fs, ft, nI L, fx, lv, fb, nI Rn, nI len, gc, al, ar, sn, ay, an, ap, pd, pc, ct, la, ra, bb, bl, br, bs, bm) := by
  obtain ⟨hG, hsp, hbl, hbs, hsd⟩ := hST
  obtain ⟨q0, qi, qm, qC, qb⟩ := hSQ
  unfold wpX_load
  refine pg_forget (sq' := sq) hX ?_
  intro fs' ft' ay' an' ap' pd' pc' ct' la' ra' lv' hX'
  refine Exists.intro (Rn + 1) ?_
  refine pg_ld6 hA hRn hG hbl ?_ Rn 0 al ar sn (by omega) (fun j hj => by omega) (fun s hs => by rw [hsn s (by omega), (hG.1 s (by omega)).1]; rfl)
  intro al' ar' sn' r1 r2
  refine Exists.intro (len + 1) ?_
  refine pg_ld38 (by omega) r2 (fun s hs => pg_sp1 hG _ _ (Nat.lt_succ_self _) hs) qC qm htot hlen qi (fun j hj => (qb j hj).1) ?_ len 0 0 sq (fun _ => 0) _ _ _ _ _ _ _ _ _ _ _ (by omega) q0.symm (fun i hi => by omega) (fun i hi => by rw [show i = 0 by omega]; exact q0.symm) hX'
  intro sq' ps' fs'' ft'' ay'' an'' ap'' pd'' pc'' ct'' la'' ra'' lv'' r3 r4 hX''
  exact hp al' ar' sn' sq' ps' _ _ _ _ _ _ _ _ _ _ _ r1 r2 r3 r4 hX''
end PGV2
end
section
section PGW
/-! read -/
theorem pg_Rst {c A M R L T B : Nat} {lf rt sp : Nat → Nat} {ds : Nat → Nat → Nat} {sq ps : Nat → Nat} {fs : Int64} {ft : Int32} {lv : Int64} {al ar sn ay an ap pd : Nat → Int32} {pc : Nat → Int64} {ct la ra bb bs tt ts sd : Nat → Int32} {bs' sd' : Nat → Int32} (hR : pg_R c A M R L T B lf rt sp ds sq ps fs ft lv al ar sn ay an ap pd pc ct la ra bb bs tt ts sd) (h1 : ∀ j, j < 46 → sd' j = sd j) (h2 : ∀ s, s < A → bs' s = 1) :
    pg_R c A M R L T B lf rt sp ds sq ps fs ft lv al ar sn ay an ap pd pc ct la ra bb bs' tt ts sd' := by
  obtain ⟨⟨hc8, hc48, hA2, hA8, hM1, hM23, hRM⟩, hG, hspc, ⟨hal, hsn⟩, hsd, hTc, hC, hX, hts, ⟨hB, hbb⟩, hbs⟩ := hR
  refine ⟨⟨hc8, hc48, hA2, hA8, hM1, hM23, hRM⟩, hG, hspc, ⟨hal, hsn⟩, ?_, hTc, hC, hX, hts, ⟨hB, hbb⟩, h2⟩
  intro k hk
  rw [h1 _ (by omega), h1 _ (by omega)]
  exact hsd k hk
theorem pg_CvC {A R L : Nat} {sp : Nat → Nat} {ds : Nat → Nat → Nat} {tt tt' : Nat → Int32} {sq ps sq' ps' : Nat → Nat} {T : Nat} (h : pg_Cv A R sp ds tt L sq ps) (h1 : ∀ i, i < L → sq' i = sq i) (h2 : ∀ i, i ≤ L → ps' i = ps i) (hm : ∀ i, i < L → ps (i + 1) ≤ T) (h3 : ∀ j, j < T → tt' j = tt j) : pg_Cv A R sp ds tt' L sq' ps' := by
  intro i hi
  obtain ⟨a, b, d⟩ := h i hi
  have := hm i hi
  rw [h1 i hi, h2 i (by omega), h2 (i + 1) (by omega)]
  refine ⟨a, b, fun o ho => ?_⟩
  rw [h3 _ (by omega)]
  exact d o ho
theorem i_vc_read {k : Nat} {u : SX} {v : SY} (I : i_Rel k u v) (hk : k + 3 ≤ 1539) : wpX_read (fun r u' => wpY_read (fun r' v' => r' = r ∧ i_Rel (k + 3) u' v') v) u := by
  refine I (fun u v => wpX_read (fun r u' => wpY_read (fun r' v' => r' = r ∧ i_Rel (k + 3) u' v') v) u) ?_
  intro c A M R L T B lf rt sp ds sq ps fs ft lv al ar sn ay an ap pd pc ct la ra bb bs tt ts sd gr gl gc bl br bm yk tu tv ex hR
  obtain ⟨⟨hc8, hc48, hA2, hA8, hM1, hM23, hRM⟩, hG, hspc, ⟨hal, hsn⟩, hsd, hTc, hC, hX, hts, ⟨hB, hbb⟩, hbs⟩ := id hR
  obtain ⟨r, cur1, hc1, hr, tX, tY⟩ := pg_take (fc := nI c) (fa := nI A) (fm := nI M) (fr := nI R) (fs := fs) (ft := ft) (fq := nI L) (fx := nI T) (lv := lv) (gr := gr) (gl := gl) (al := al) (ar := ar) (sn := sn) (ay := ay) (an := an) (ap := ap) (pd := pd) (pc := pc) (ct := ct) (la := la) (ra := ra) (bb := bb) (bl := bl) (br := br) (bs := bs) (bm := bm) (yc := nI c) (ya := nI A) (ym := nI M) (yx := nI T) (yq := nI L) (yr := nI R) (tt := tt) (tu := tu) (ts := ts) (tv := tv) (sd := sd) (ex := ex) (B := B) (lim := M + 1) (cur := 0) (-4) hbb hB (by omega) (by omega) (by omega) (by decide)
  rw [Nat.add_sub_cancel] at tY
  unfold wpX_read wpX_stageRules
  refine (congrArg (fun z => wpX_takeBelow _ _ z (-4)) (nI_1 M)).mpr ?_
  rcases hr with hneg | ⟨Rn, hRn, rfl⟩
  · refine tX _ (br_f hneg (br_f hneg ?_))
    unfold wpY_read
    exact tY _ (br_f hneg ⟨rfl, pg_mk (k + 3) hR⟩)
  · have hpos : (0 : Int32) ≤ nI Rn := nI_pos' (by omega)
    have hST0 : pg_ST c A 0 (fun _ => 0) (fun _ => 0) (fun _ => 1) (fun s _ => s) bl br bs sd := ⟨pg_GR0, fun s _ => by show 1 ≤ c; omega, fun j hj => by omega, fun s hs => hbs s (by omega), fun j hj => by omega⟩
    obtain ⟨bl1, br1, bs1, sd1, ex1, cur2, hc2, hs1, hb1, hcase⟩ := pg_stageL (fm := nI M) (fr := nI R) (fs := fs) (ft := ft) (fq := nI L) (fx := nI T) (lv := lv) (gr := nI Rn) (gl := gl) (al := al) (ar := ar) (sn := sn) (ay := ay) (an := an) (ap := ap) (pd := pd) (pc := pc) (ct := ct) (la := la) (ra := ra) (bb := bb) (bm := bm) (ym := nI M) (yx := nI T) (yq := nI L) (yr := nI R) (tt := tt) (tu := tu) (ts := ts) (tv := tv) (B := B) (c := c) (A := A) (tot := Rn) hbb hB hc48 hA2 hA8 (by omega) Rn 0 cur1 _ _ _ _ bl br bs sd ex (by omega) hc1 hST0
    have hR1 := pg_Rst hR hs1 hb1
    refine tX _ (br_t hpos (Exists.intro (Rn + 1) ?_))
    have Y1 : ∀ q : Int32 → SY → Prop, wY_read_24 q (nI Rn) (2 * Rn + 1) (nI (2 * 0)) (nI c) (nI A) (nI M) (nI T) (nI L) (nI R) (nI B) (nI cur1) tt tu ts tv sd ex bb → wpY_read q (nI c, nI A, nI M, nI T, nI L, nI R, nI B, yk, tt, tu, ts, tv, sd, ex, bb) := by
      intro q hq
      unfold wpY_read
      exact tY _ (br_t hpos (Exists.intro (2 * Rn + 1) hq))
    rcases hcase with ⟨r, hneg, hX2, hY2⟩ | ⟨lf1, rt1, sp1, ds1, hST1, hX2, hY2⟩
    · exact hX2 _ (br_f hneg (Y1 _ (hY2 _ ⟨rfl, pg_mk (k + 3) hR1⟩)))
    · refine hX2 _ (br_t (by decide) ?_)
      obtain ⟨r, cur3, hc3, hr3, tX3, tY3⟩ := pg_take (fc := nI c) (fa := nI A) (fm := nI M) (fr := nI R) (fs := fs) (ft := ft) (fq := nI L) (fx := nI T) (lv := lv) (gr := nI Rn) (gl := gl) (al := al) (ar := ar) (sn := sn) (ay := ay) (an := an) (ap := ap) (pd := pd) (pc := pc) (ct := ct) (la := la) (ra := ra) (bb := bb) (bl := bl1) (br := br1) (bs := bs1) (bm := bm) (yc := nI c) (ya := nI A) (ym := nI M) (yx := nI T) (yq := nI L) (yr := nI R) (tt := tt) (tu := tu) (ts := ts) (tv := tv) (sd := sd1) (ex := ex1) (B := B) (lim := c + 1) (cur := cur2) (-5) hbb hB (by omega) (by omega) hc2 (by decide)
      rw [Nat.add_sub_cancel] at tY3
      have h2R : (2 : Int32) * nI Rn ≤ nI (2 * Rn) := by rw [show (2 : Int32) * nI Rn = nI (2 * Rn) from pk_mul 2 Rn]; exact nI_le (Nat.le_refl _) (by omega)
      unfold wpX_stageSequence
      refine (congrArg (fun z => wpX_takeBelow _ _ z (-5)) (nI_1 c)).mpr ?_
      rcases hr3 with hneg | ⟨len, hlen, rfl⟩
      · exact tX3 _ (br_f hneg (br_f hneg (Y1 _ (hY2 _ (br_t h2R (tY3 _ (br_f hneg ⟨rfl, pg_mk (k + 3) hR1⟩)))))))
      · have hpos2 : (0 : Int32) ≤ nI len := nI_pos' (by omega)
        have hSQ0 : pg_SQ A Rn sp1 ds1 0 0 (fun _ => 0) (fun _ => 0) bm tu tv := ⟨rfl, rfl, fun j hj => by omega, fun j hj => by omega, fun j hj => by omega⟩
        obtain ⟨bm1, tu1, tv1, ex2, cur4, hc4, hcase2⟩ := pg_seqL (fm := nI M) (fr := nI R) (fs := fs) (ft := ft) (fq := nI L) (fx := nI T) (lv := lv) (gl := nI len) (al := al) (ar := ar) (sn := sn) (ay := ay) (an := an) (ap := ap) (pd := pd) (pc := pc) (ct := ct) (la := la) (ra := ra) (bb := bb) (bl := bl1) (br := br1) (bs := bs1) (ym := nI M) (yx := nI T) (yq := nI L) (yr := nI R) (tt := tt) (ts := ts) (sd := sd1) (B := B) (c := c) (A := A) (Rn := Rn) (len := len) hbb hB hc48 hA2 hA8 (by omega) (by omega) hST1 len 0 0 cur3 _ _ bm tu tv ex1 (by omega) hc3 (by omega) hSQ0
        refine tX3 _ (br_t hpos2 (Exists.intro (len + 1) ?_))
        have Y2 : ∀ q : Int32 → SY → Prop, wY_read_130 q (nI Rn) (nI len) (len + 1) (nI 0) (nI 0) (nI c) (nI A) (nI M) (nI T) (nI L) (nI R) (nI B) (nI cur3) tt tu ts tv sd1 ex1 bb → wpY_read q (nI c, nI A, nI M, nI T, nI L, nI R, nI B, yk, tt, tu, ts, tv, sd, ex, bb) := by
          intro q hq
          exact Y1 _ (hY2 _ (br_t h2R (tY3 _ (br_t hpos2 (Exists.intro (len + 1) hq)))))
        rcases hcase2 with ⟨r, hneg, hX4, hY4⟩ | ⟨tot, sq1, ps1, htot, hSQ1, hX4, hY4⟩
        · exact hX4 _ (br_f hneg (Y2 _ (hY4 _ ⟨rfl, pg_mk (k + 3) hR1⟩)))
        · refine hX4 _ (br_t (by decide) ?_)
          have hll : nI len ≤ nI len := nI_le (Nat.le_refl _) (by omega)
          rcases Nat.lt_or_ge cur4 B with z | z
          · have hf : ¬ nI B ≤ nI cur4 := nI_ge z (by omega)
            exact br_f hf (Y2 _ (hY4 _ (br_t hll (br_f hf ⟨rfl, pg_mk (k + 3) hR1⟩))))
          · have ht : nI B ≤ nI cur4 := nI_le z (by omega)
            refine br_t ht ?_
            refine pg_load hA8 (by omega) hST1 hSQ1 (by omega) (by omega) (fun s hs => by rw [hsn s (by omega), (hG.1 s hs).1]; rfl) hX ?_
            intro al' ar' sn' sq' ps' fs' ft' ay' an' ap' pd' pc' ct' la' ra' lv' r1 r2 r3 r4 hX'
            obtain ⟨sd2, _, s2, s3⟩ := pg_rd253 (yc := nI c) (ya := nI A) (ym := nI M) (yx := nI T) (yq := nI L) (yr := nI R) (yb := nI B) (yk := nI cur4) (tt := tt) (tu := tu1) (ts := ts) (tv := tv1) (ex := ex2) (yB := bb) (x2 := nI len) (x3 := nI tot) (Rn := Rn) (by omega) (2 * Rn) 0 sd1 (by omega)
            obtain ⟨ts2, _, t2, t3⟩ := pg_rd287 (yc := nI c) (ya := nI A) (ym := nI M) (yx := nI T) (yq := nI L) (yr := nI R) (yb := nI B) (yk := nI cur4) (tt := tt) (tu := tu1) (tv := tv1) (sd := sd2) (ex := ex2) (yB := bb) (x1 := nI Rn) (x3 := nI tot) (len := len) (by omega) len 0 ts (by omega)
            obtain ⟨tt2, _, w2, w3⟩ := pg_rd316 (yc := nI c) (ya := nI A) (ym := nI M) (yx := nI T) (yq := nI L) (yr := nI R) (yb := nI B) (yk := nI cur4) (tu := tu1) (ts := ts2) (tv := tv1) (sd := sd2) (ex := ex2) (yB := bb) (x1 := nI Rn) (x2 := nI len) (tot := tot) (by omega) tot 0 tt (by omega)
            refine Y2 _ (hY4 _ (br_t hll (br_t ht (Exists.intro (2 * Rn + 1) (s3 _ (len + 1) (t3 _ (tot + 1) (w3 _ ⟨rfl, ?_⟩)))))))
            obtain ⟨hG1, hsp1, hbl1, hbs1, hsd1⟩ := hST1
            obtain ⟨q0, qi, qm, qC, qb⟩ := hSQ1
            have hRf : pg_R c A M Rn len tot B lf1 rt1 sp1 ds1 sq' ps' fs' ft' lv' al' ar' sn' ay' an' ap' pd' pc' ct' la' ra' bb bs1 tt2 ts2 sd2 := by
              refine ⟨⟨hc8, hc48, hA2, hA8, hM1, hM23, by omega⟩, hG1, hsp1, ⟨r1, r2⟩, ?_, htot, pg_CvC (T := tot) qC r3 r4 qm (fun j hj => w2 j (by omega) hj), hX', ?_, ⟨hB, hbb⟩, hb1⟩
              · intro j hj
                rw [Nat.zero_add, s2 (2 * j) (by omega) (by omega), s2 (2 * j + 1) (by omega) (by omega)]
                exact hsd1 j hj
              · intro i hi
                rw [t2 i (by omega) hi, r3 i hi]
                exact (qb i hi).2
            exact pg_mk (k + 3) hRf
end PGW
end
