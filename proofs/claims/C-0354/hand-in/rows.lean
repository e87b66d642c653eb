section
/-! pure rows to paste: stores, nI and lN arithmetic, masks, shifts, narrowing, branches by naturals (pk_le, pk_lt, pk_eq), loops (lp1 .. lp16: the measure of the state; rp1 ..: recursion), negatives. Take what you need -/
theorem pk_us {f : Nat → Int32} {k : Nat} {x : Int32} : upd f k x k = x := if_pos rfl
theorem pk_un {f : Nat → Int32} {k j : Nat} {x : Int32} (h : j ≠ k) : upd f k x j = f j := if_neg h
theorem pk_uLs {f : Nat → Int64} {k : Nat} {x : Int64} : vp_updL f k x k = x := if_pos rfl
theorem pk_uLn {f : Nat → Int64} {k j : Nat} {x : Int64} (h : j ≠ k) : vp_updL f k x j = f j := if_neg h
theorem pk_sub {a b : Nat} (h : b ≤ a) : nI a - nI b = nI (a - b) := by
  obtain ⟨c, rfl⟩ : ∃ c, a = c + b := ⟨a - b, by omega⟩
  rw [← nI_add, Int32.add_sub_cancel, Nat.add_sub_cancel]
theorem pk_m1 (n : Nat) : nI (n + 1) + (-1) = nI n := by
  rw [← nI_1, Int32.add_assoc, show (1 : Int32) + (-1) = 0 from rfl, Int32.add_zero]
theorem pk_mul (a b : Nat) : nI a * nI b = nI (a * b) := (Int32.ofNat_mul a b).symm
theorem pk_div {a d : Nat} (ha : a < 2 ^ 31) (h0 : 0 < d) (hd : d < 2 ^ 31) : nI a / nI d = nI (a / d) := by
  apply Int32.toInt_inj.mp
  rw [lg_idiv_nonneg (by rw [nI_toInt ha]; omega) (by rw [nI_toInt hd]; omega), nI_toInt ha, nI_toInt hd, nI_toInt (Nat.lt_of_le_of_lt (Nat.div_le_self a d) ha)]
  first | rfl | exact (Int.natCast_ediv _ _).symm
theorem pk_rem {a d : Nat} (ha : a < 2 ^ 31) (h0 : 0 < d) (hd : d < 2 ^ 31) : nI a - nI a / nI d * nI d = nI (a % d) := by
  rw [pk_div ha h0 hd, pk_mul, pk_sub (Nat.div_mul_le_self a d)]
  exact congrArg nI (by have := Nat.div_add_mod' a d; omega)
theorem pk_sub_toInt {a b : Nat} (ha : a < 2 ^ 30) (hb : b < 2 ^ 30) : (nI a - nI b).toInt = (a : Int) - b := by
  rw [Int32.toInt_sub, nI_toInt (by omega), nI_toInt (by omega)]
  exact Int.bmod_eq_of_le (by omega) (by omega)
theorem pk_sneg {a b : Nat} (hb : b < 2 ^ 30) (h : a < b) : nI a - nI b < 0 := by
  rw [Int32.lt_iff_toInt_lt, pk_sub_toInt (by omega) hb, show (0 : Int32).toInt = 0 from by decide]
  omega
theorem pk_ix (x : Int32) {n : Nat} (hn : n < 2 ^ 31) : x < 0 ∨ nI n ≤ x ∨ ∃ j : Nat, j < n ∧ x = nI j := by
  by_cases h : x < 0
  · exact Or.inl h
  · obtain ⟨j, hj, rfl⟩ := nI_of h
    by_cases h2 : j < n
    · exact Or.inr (Or.inr ⟨j, h2, rfl⟩)
    · exact Or.inr (Or.inl (nI_le (by omega) hj))
theorem pk_le {x y : Int32} {A B : Prop} (a b : Nat) (f : a ≤ b → A) (g : b < a → B) (hx : x = nI a := by rfl) (hy : y = nI b := by rfl) (ha : a < 2 ^ 31 := by omega) (hb : b < 2 ^ 31 := by omega) : (x ≤ y → A) ∧ (¬ x ≤ y → B) := by
  subst hx hy
  rw [nI_leI ha hb]
  exact ⟨f, fun z => g (by omega)⟩
theorem pk_lt {x y : Int32} {A B : Prop} (a b : Nat) (f : a < b → A) (g : b ≤ a → B) (hx : x = nI a := by rfl) (hy : y = nI b := by rfl) (ha : a < 2 ^ 31 := by omega) (hb : b < 2 ^ 31 := by omega) : (x < y → A) ∧ (¬ x < y → B) := by
  subst hx hy
  rw [nI_ltI ha hb]
  exact ⟨f, fun z => g (by omega)⟩
theorem pk_eq {x y : Int32} {A B : Prop} (a b : Nat) (f : a = b → A) (g : a ≠ b → B) (hx : x = nI a := by rfl) (hy : y = nI b := by rfl) (ha : a < 2 ^ 31 := by omega) (hb : b < 2 ^ 31 := by omega) : (x = y → A) ∧ (¬ x = y → B) := by
  subst hx hy
  rw [nI_eq ha hb]
  exact ⟨f, g⟩
theorem pk_in {x : Int32} (n N : Nat) (h : n < N) (hx : x = nI n := by rfl) (hN : N < 2 ^ 31 := by omega) : vp_in x N := by
  subst hx
  exact vp_in_nI h hN
theorem pk_cl {x : Int32} (n : Nat) (hx : x = nI n := by rfl) (h : n < 2 ^ 31 := by omega) : x.toNatClampNeg = n := by
  subst hx
  exact nI_clamp h
theorem pk_tn {n : Nat} (h : n < 2 ^ 32) : (nI n).toBitVec.toNat = n := Nat.mod_eq_of_lt h
theorem pk_and (x : Int32) {m : Int32} (k : Nat) (hm : m.toBitVec.toNat = 2 ^ k - 1) : x &&& m = nI (x.toBitVec.toNat % 2 ^ k) := by
  apply Int32.toBitVec_inj.mp
  apply BitVec.eq_of_toNat_eq
  rw [Int32.toBitVec_and, BitVec.toNat_and, hm, Nat.and_two_pow_sub_one_eq_mod]
  show _ = (BitVec.ofNat 32 _).toNat
  rw [BitVec.toNat_ofNat]
  exact (Nat.mod_eq_of_lt (Nat.lt_of_le_of_lt (Nat.mod_le _ _) x.toBitVec.isLt)).symm
theorem pk_andN {n : Nat} (h : n < 2 ^ 32) {m : Int32} (k : Nat) (hm : m.toBitVec.toNat = 2 ^ k - 1) : nI n &&& m = nI (n % 2 ^ k) := by
  rw [pk_and _ k hm, pk_tn h]
theorem pk_andE (x : Int32) {m : Int32} (k : Nat) (hm : m.toBitVec.toNat = 2 ^ k - 1) : ∃ j : Nat, j < 2 ^ k ∧ x &&& m = nI j := ⟨_, Nat.mod_lt _ (Nat.two_pow_pos k), pk_and x k hm⟩
theorem pk_andIn (x : Int32) {m : Int32} (k : Nat) (hm : m.toBitVec.toNat = 2 ^ k - 1) (hk : k ≤ 30) : vp_in (x &&& m) (2 ^ k) := by
  obtain ⟨j, hj, e⟩ := pk_andE x k hm
  rw [e]
  exact vp_in_nI hj (Nat.lt_of_le_of_lt (Nat.pow_le_pow_right (by decide) hk) (by decide))
theorem pk_shl (a s : Int32) (k : Nat) (hs : (s.toBitVec.smod 32).toNat = k) : (a <<< s).toBitVec.toNat = a.toBitVec.toNat * 2 ^ k % 2 ^ 32 := by
  show (a.toBitVec <<< (s.toBitVec.smod 32).toNat).toNat = _
  rw [hs, BitVec.toNat_shiftLeft, Nat.shiftLeft_eq]
theorem pk_shlN {n : Nat} (s : Int32) (k : Nat) (hs : (s.toBitVec.smod 32).toNat = k) (h : n * 2 ^ k < 2 ^ 32) : nI n <<< s = nI (n * 2 ^ k) := by
  apply Int32.toBitVec_inj.mp
  apply BitVec.eq_of_toNat_eq
  have hn : n < 2 ^ 32 := Nat.lt_of_le_of_lt (Nat.le_mul_of_pos_right n (Nat.two_pow_pos k)) h
  rw [pk_shl _ _ k hs, pk_tn hn, pk_tn h, Nat.mod_eq_of_lt h]
theorem pk_shr (a s : Int32) (k : Nat) (hs : (s.toBitVec.smod 32).toNat = k) : (a >>> s).toInt = a.toInt >>> k := by
  show (a.toBitVec.sshiftRight (s.toBitVec.smod 32).toNat).toInt = _
  rw [hs, BitVec.toInt_sshiftRight]
  rfl
theorem pk_shrN {n : Nat} (h : n < 2 ^ 31) (s : Int32) (k : Nat) (hs : (s.toBitVec.smod 32).toNat = k) : nI n >>> s = nI (n / 2 ^ k) := by
  apply Int32.toInt_inj.mp
  have h2 : n / 2 ^ k ≤ n := Nat.div_le_self _ _
  rw [pk_shr _ _ k hs, nI_toInt h, nI_toInt (by omega), Int.shiftRight_eq_div_pow]
  rfl
theorem pk_ushr (x s : Int32) (k : Nat) (hs : ((s.toUInt32 &&& Int32.toUInt32 31).toBitVec % 32).toNat = k) : (x.toUInt32 >>> (s.toUInt32 &&& Int32.toUInt32 31)).toInt32.toBitVec.toNat = x.toBitVec.toNat / 2 ^ k := by
  have e : (x.toUInt32 >>> (s.toUInt32 &&& Int32.toUInt32 31)).toInt32.toBitVec = x.toBitVec >>> k := by
    rw [← hs]
    exact UInt32.toBitVec_shiftRight _ _
  rw [e, BitVec.toNat_ushiftRight, Nat.shiftRight_eq_div_pow]
theorem pk_ushrN {n : Nat} (hn : n < 2 ^ 32) (s : Int32) (k : Nat) (hs : ((s.toUInt32 &&& Int32.toUInt32 31).toBitVec % 32).toNat = k) : ((nI n).toUInt32 >>> (s.toUInt32 &&& Int32.toUInt32 31)).toInt32 = nI (n / 2 ^ k) := by
  apply Int32.toBitVec_inj.mp
  apply BitVec.eq_of_toNat_eq
  rw [pk_ushr _ s k hs, pk_tn hn, pk_tn (Nat.lt_of_le_of_lt (Nat.div_le_self _ _) hn)]
theorem pk_nb (z : Int32) : narrow .byte (.int z.toInt8.toInt32) = .int z.toInt8.toInt32 := congrArg Value.int (by simp)
theorem pk_ns (z : Int32) : narrow .short (.int z.toInt16.toInt32) = .int z.toInt16.toInt32 := congrArg Value.int (by simp)
theorem pk_fb (r : Int32) : fits .byte (.int r.toInt8.toInt32) = true := by
  have ⟨a, b⟩ := lg_i2b_range r
  have h1 : (-128 : Int32).toInt = -128 := by decide
  have h2 : (127 : Int32).toInt = 127 := by decide
  simp only [fits, Bool.and_eq_true, decide_eq_true_eq, Int32.le_iff_toInt_le, h1, h2]
  omega
theorem pk_fs (r : Int32) : fits .short (.int r.toInt16.toInt32) = true := by
  have ⟨a, b⟩ := lg_i2s_range r
  have h1 : (-32768 : Int32).toInt = -32768 := by decide
  have h2 : (32767 : Int32).toInt = 32767 := by decide
  simp only [fits, Bool.and_eq_true, decide_eq_true_eq, Int32.le_iff_toInt_le, h1, h2]
  omega
theorem pk_charN {q : Nat} (hq : q < 65536) : narrow .char (.int (nI q)) = .int (nI q) ∧ fits .char (.int (nI q)) = true := by
  constructor
  · have e : (nI q).toUInt32.toUInt16.toUInt32.toInt32 = nI q := by
      apply Int32.toBitVec_inj.mp
      apply BitVec.eq_of_toNat_eq
      show (nI q).toUInt32.toUInt16.toUInt32.toNat = q % 2 ^ 32
      rw [UInt16.toNat_toUInt32, UInt32.toNat_toUInt16, show (nI q).toUInt32.toNat = q % 2 ^ 32 from rfl]
      omega
    exact congrArg Value.int e
  · have a : (0 : Int32) ≤ nI q := nI_pos' (by omega)
    have b : nI q ≤ 65535 := nI_le (b := 65535) (by omega) (by decide)
    show (decide ((0 : Int32) ≤ nI q) && decide (nI q ≤ 65535)) = true
    rw [decide_eq_true a, decide_eq_true b]
    rfl
theorem pk_char (x : Int32) : (x.toUInt32 % 65536).toInt32 = nI (x.toBitVec.toNat % 65536) := by
  apply Int32.toBitVec_inj.mp
  apply BitVec.eq_of_toNat_eq
  rw [pk_tn (by omega)]
  show (x.toUInt32 % 65536).toNat = _
  rw [UInt32.toNat_mod]
  rfl
theorem pk_nc (x : Int32) : narrow .char (.int (x.toUInt32 % 65536).toInt32) = .int (x.toUInt32 % 65536).toInt32 := by
  rw [pk_char]
  exact (pk_charN (Nat.mod_lt _ (by decide))).1
theorem pk_fc (x : Int32) : fits .char (.int (x.toUInt32 % 65536).toInt32) = true := by
  rw [pk_char]
  exact (pk_charN (Nat.mod_lt _ (by decide))).2
theorem pk_vb (z : Int32) : vp_nar .byte z.toInt8.toInt32 = z.toInt8.toInt32 := by rw [vp_nar_byte]; simp
theorem pk_vs (z : Int32) : vp_nar .short z.toInt16.toInt32 = z.toInt16.toInt32 := by rw [vp_nar_short]; simp
theorem pk_vc (z : Int32) : vp_nar .char (z.toUInt32 % 65536).toInt32 = (z.toUInt32 % 65536).toInt32 := Value.int.inj (pk_nc z)
theorem pk_lT {n : Nat} (h : n < 2 ^ 63) : (lN n).toInt = (n : Int) := lg_ofNat_toInt h
theorem pk_lLT {a b : Nat} (ha : a < 2 ^ 63) (hb : b < 2 ^ 63) : lN a < lN b ↔ a < b := by
  rw [Int64.lt_iff_toInt_lt, pk_lT ha, pk_lT hb]; omega
theorem pk_lLE {a b : Nat} (ha : a < 2 ^ 63) (hb : b < 2 ^ 63) : lN a ≤ lN b ↔ a ≤ b := by
  rw [Int64.le_iff_toInt_le, pk_lT ha, pk_lT hb]; omega
theorem pk_lEQ {a b : Nat} (ha : a < 2 ^ 63) (hb : b < 2 ^ 63) : lN a = lN b ↔ a = b := by
  rw [← Int64.toInt_inj, pk_lT ha, pk_lT hb]; omega
theorem pk_lOf {x : Int64} (h : ¬ x < 0) : ∃ k : Nat, k < 2 ^ 63 ∧ x = lN k := by
  rw [Int64.lt_iff_toInt_lt] at h
  have h0 : (0 : Int64).toInt = 0 := by decide
  have hx := Int64.toInt_lt x
  refine ⟨x.toInt.toNat, by omega, Int64.toInt_inj.mp ?_⟩
  rw [pk_lT (by omega)]
  omega
theorem pk_lDiv {a b : Nat} (ha : a < 2 ^ 63) (h0 : 0 < b) (hb : b < 2 ^ 63) : lN a / lN b = lN (a / b) := by
  apply Int64.toInt_inj.mp
  rw [lg_ldiv_nonneg (by rw [pk_lT ha]; omega) (by rw [pk_lT hb]; omega), pk_lT ha, pk_lT hb, pk_lT (Nat.lt_of_le_of_lt (Nat.div_le_self a b) ha)]
  rfl
theorem pk_lRem {a b : Nat} (ha : a < 2 ^ 63) (h0 : 0 < b) (hb : b < 2 ^ 63) : lN a - lN a / lN b * lN b = lN (a % b) := by
  rw [pk_lDiv ha h0 hb, lN_mul, lN_sub (Nat.div_mul_le_self a b)]
  exact congrArg lN (by have := Nat.div_add_mod' a b; omega)
theorem pk_loop {σ : Type} (W : Nat → Nat → σ → Prop) (I : Nat → σ → Prop) (e i0 : Nat) (s : σ) (hi : i0 ≤ e) (h0 : I i0 s) (hx : ∀ n s, I e s → W (n + 1) e s)
    (hs : ∀ n i s, i < e → I i s → (∀ s', I (i + 1) s' → W n (i + 1) s') → W (n + 1) i s) : ∃ n, W n i0 s :=
  ⟨e + 1, loop_i W I e hx hs (e + 1) i0 s hi (by omega) h0⟩
theorem pk_loopD {σ : Type} (W : Nat → Nat → σ → Prop) (I : Nat → σ → Prop) (hx : ∀ n s, I 0 s → W (n + 1) 0 s)
    (hs : ∀ n i s, I (i + 1) s → (∀ s', I i s' → W n i s') → W (n + 1) (i + 1) s) : ∀ (e : Nat) (s : σ), I e s → W (e + 1) e s := by
  intro e
  induction e with
  | zero => exact fun s h => hx 0 s h
  | succ e ih => exact fun s h => hs (e + 1) e s h (fun s' h' => ih s' h')
theorem lp1 {A1 : Type} (W : Nat → A1 → Prop) (I : A1 → Prop) (μ : A1 → Nat) (hs : ∀ (n : Nat) (a1 : A1), I a1 → (∀ (b1 : A1), I b1 → μ b1 < μ a1 → W n b1) → W (n + 1) a1) (a1 : A1) (h : I a1) : ∃ n, W n a1 :=
  loop_m (σ := A1) (fun n s => W n s) (fun s => I s) (fun s => μ s) (fun n s hI hk => hs n s hI (fun b1 h9 hm => hk b1 h9 hm)) a1 h
theorem lp2 {A1 A2 : Type} (W : Nat → A1 → A2 → Prop) (I : A1 → A2 → Prop) (μ : A1 → A2 → Nat) (hs : ∀ (n : Nat) (a1 : A1) (a2 : A2), I a1 a2 → (∀ (b1 : A1) (b2 : A2), I b1 b2 → μ b1 b2 < μ a1 a2 → W n b1 b2) → W (n + 1) a1 a2) (a1 : A1) (a2 : A2) (h : I a1 a2) : ∃ n, W n a1 a2 :=
  loop_m (σ := A1 × A2) (fun n s => W n s.1 s.2) (fun s => I s.1 s.2) (fun s => μ s.1 s.2) (fun n s hI hk => hs n s.1 s.2 hI (fun b1 b2 h9 hm => hk (b1, b2) h9 hm)) (a1, a2) h
theorem lp3 {A1 A2 A3 : Type} (W : Nat → A1 → A2 → A3 → Prop) (I : A1 → A2 → A3 → Prop) (μ : A1 → A2 → A3 → Nat) (hs : ∀ (n : Nat) (a1 : A1) (a2 : A2) (a3 : A3), I a1 a2 a3 → (∀ (b1 : A1) (b2 : A2) (b3 : A3), I b1 b2 b3 → μ b1 b2 b3 < μ a1 a2 a3 → W n b1 b2 b3) → W (n + 1) a1 a2 a3) (a1 : A1) (a2 : A2) (a3 : A3) (h : I a1 a2 a3) : ∃ n, W n a1 a2 a3 :=
  loop_m (σ := A1 × A2 × A3) (fun n s => W n s.1 s.2.1 s.2.2) (fun s => I s.1 s.2.1 s.2.2) (fun s => μ s.1 s.2.1 s.2.2) (fun n s hI hk => hs n s.1 s.2.1 s.2.2 hI (fun b1 b2 b3 h9 hm => hk (b1, b2, b3) h9 hm)) (a1, a2, a3) h
theorem lp4 {A1 A2 A3 A4 : Type} (W : Nat → A1 → A2 → A3 → A4 → Prop) (I : A1 → A2 → A3 → A4 → Prop) (μ : A1 → A2 → A3 → A4 → Nat) (hs : ∀ (n : Nat) (a1 : A1) (a2 : A2) (a3 : A3) (a4 : A4), I a1 a2 a3 a4 → (∀ (b1 : A1) (b2 : A2) (b3 : A3) (b4 : A4), I b1 b2 b3 b4 → μ b1 b2 b3 b4 < μ a1 a2 a3 a4 → W n b1 b2 b3 b4) → W (n + 1) a1 a2 a3 a4) (a1 : A1) (a2 : A2) (a3 : A3) (a4 : A4) (h : I a1 a2 a3 a4) : ∃ n, W n a1 a2 a3 a4 :=
  loop_m (σ := A1 × A2 × A3 × A4) (fun n s => W n s.1 s.2.1 s.2.2.1 s.2.2.2) (fun s => I s.1 s.2.1 s.2.2.1 s.2.2.2) (fun s => μ s.1 s.2.1 s.2.2.1 s.2.2.2) (fun n s hI hk => hs n s.1 s.2.1 s.2.2.1 s.2.2.2 hI (fun b1 b2 b3 b4 h9 hm => hk (b1, b2, b3, b4) h9 hm)) (a1, a2, a3, a4) h
theorem lp5 {A1 A2 A3 A4 A5 : Type} (W : Nat → A1 → A2 → A3 → A4 → A5 → Prop) (I : A1 → A2 → A3 → A4 → A5 → Prop) (μ : A1 → A2 → A3 → A4 → A5 → Nat) (hs : ∀ (n : Nat) (a1 : A1) (a2 : A2) (a3 : A3) (a4 : A4) (a5 : A5), I a1 a2 a3 a4 a5 → (∀ (b1 : A1) (b2 : A2) (b3 : A3) (b4 : A4) (b5 : A5), I b1 b2 b3 b4 b5 → μ b1 b2 b3 b4 b5 < μ a1 a2 a3 a4 a5 → W n b1 b2 b3 b4 b5) → W (n + 1) a1 a2 a3 a4 a5) (a1 : A1) (a2 : A2) (a3 : A3) (a4 : A4) (a5 : A5) (h : I a1 a2 a3 a4 a5) : ∃ n, W n a1 a2 a3 a4 a5 :=
  loop_m (σ := A1 × A2 × A3 × A4 × A5) (fun n s => W n s.1 s.2.1 s.2.2.1 s.2.2.2.1 s.2.2.2.2) (fun s => I s.1 s.2.1 s.2.2.1 s.2.2.2.1 s.2.2.2.2) (fun s => μ s.1 s.2.1 s.2.2.1 s.2.2.2.1 s.2.2.2.2) (fun n s hI hk => hs n s.1 s.2.1 s.2.2.1 s.2.2.2.1 s.2.2.2.2 hI (fun b1 b2 b3 b4 b5 h9 hm => hk (b1, b2, b3, b4, b5) h9 hm)) (a1, a2, a3, a4, a5) h
theorem lp6 {A1 A2 A3 A4 A5 A6 : Type} (W : Nat → A1 → A2 → A3 → A4 → A5 → A6 → Prop) (I : A1 → A2 → A3 → A4 → A5 → A6 → Prop) (μ : A1 → A2 → A3 → A4 → A5 → A6 → Nat) (hs : ∀ (n : Nat) (a1 : A1) (a2 : A2) (a3 : A3) (a4 : A4) (a5 : A5) (a6 : A6), I a1 a2 a3 a4 a5 a6 → (∀ (b1 : A1) (b2 : A2) (b3 : A3) (b4 : A4) (b5 : A5) (b6 : A6), I b1 b2 b3 b4 b5 b6 → μ b1 b2 b3 b4 b5 b6 < μ a1 a2 a3 a4 a5 a6 → W n b1 b2 b3 b4 b5 b6) → W (n + 1) a1 a2 a3 a4 a5 a6) (a1 : A1) (a2 : A2) (a3 : A3) (a4 : A4) (a5 : A5) (a6 : A6) (h : I a1 a2 a3 a4 a5 a6) : ∃ n, W n a1 a2 a3 a4 a5 a6 :=
  loop_m (σ := A1 × A2 × A3 × A4 × A5 × A6) (fun n s => W n s.1 s.2.1 s.2.2.1 s.2.2.2.1 s.2.2.2.2.1 s.2.2.2.2.2) (fun s => I s.1 s.2.1 s.2.2.1 s.2.2.2.1 s.2.2.2.2.1 s.2.2.2.2.2) (fun s => μ s.1 s.2.1 s.2.2.1 s.2.2.2.1 s.2.2.2.2.1 s.2.2.2.2.2) (fun n s hI hk => hs n s.1 s.2.1 s.2.2.1 s.2.2.2.1 s.2.2.2.2.1 s.2.2.2.2.2 hI (fun b1 b2 b3 b4 b5 b6 h9 hm => hk (b1, b2, b3, b4, b5, b6) h9 hm)) (a1, a2, a3, a4, a5, a6) h
theorem lp7 {A1 A2 A3 A4 A5 A6 A7 : Type} (W : Nat → A1 → A2 → A3 → A4 → A5 → A6 → A7 → Prop) (I : A1 → A2 → A3 → A4 → A5 → A6 → A7 → Prop) (μ : A1 → A2 → A3 → A4 → A5 → A6 → A7 → Nat) (hs : ∀ (n : Nat) (a1 : A1) (a2 : A2) (a3 : A3) (a4 : A4) (a5 : A5) (a6 : A6) (a7 : A7), I a1 a2 a3 a4 a5 a6 a7 → (∀ (b1 : A1) (b2 : A2) (b3 : A3) (b4 : A4) (b5 : A5) (b6 : A6) (b7 : A7), I b1 b2 b3 b4 b5 b6 b7 → μ b1 b2 b3 b4 b5 b6 b7 < μ a1 a2 a3 a4 a5 a6 a7 → W n b1 b2 b3 b4 b5 b6 b7) → W (n + 1) a1 a2 a3 a4 a5 a6 a7) (a1 : A1) (a2 : A2) (a3 : A3) (a4 : A4) (a5 : A5) (a6 : A6) (a7 : A7) (h : I a1 a2 a3 a4 a5 a6 a7) : ∃ n, W n a1 a2 a3 a4 a5 a6 a7 :=
  loop_m (σ := A1 × A2 × A3 × A4 × A5 × A6 × A7) (fun n s => W n s.1 s.2.1 s.2.2.1 s.2.2.2.1 s.2.2.2.2.1 s.2.2.2.2.2.1 s.2.2.2.2.2.2) (fun s => I s.1 s.2.1 s.2.2.1 s.2.2.2.1 s.2.2.2.2.1 s.2.2.2.2.2.1 s.2.2.2.2.2.2) (fun s => μ s.1 s.2.1 s.2.2.1 s.2.2.2.1 s.2.2.2.2.1 s.2.2.2.2.2.1 s.2.2.2.2.2.2) (fun n s hI hk => hs n s.1 s.2.1 s.2.2.1 s.2.2.2.1 s.2.2.2.2.1 s.2.2.2.2.2.1 s.2.2.2.2.2.2 hI (fun b1 b2 b3 b4 b5 b6 b7 h9 hm => hk (b1, b2, b3, b4, b5, b6, b7) h9 hm)) (a1, a2, a3, a4, a5, a6, a7) h
theorem lp8 {A1 A2 A3 A4 A5 A6 A7 A8 : Type} (W : Nat → A1 → A2 → A3 → A4 → A5 → A6 → A7 → A8 → Prop) (I : A1 → A2 → A3 → A4 → A5 → A6 → A7 → A8 → Prop) (μ : A1 → A2 → A3 → A4 → A5 → A6 → A7 → A8 → Nat) (hs : ∀ (n : Nat) (a1 : A1) (a2 : A2) (a3 : A3) (a4 : A4) (a5 : A5) (a6 : A6) (a7 : A7) (a8 : A8), I a1 a2 a3 a4 a5 a6 a7 a8 → (∀ (b1 : A1) (b2 : A2) (b3 : A3) (b4 : A4) (b5 : A5) (b6 : A6) (b7 : A7) (b8 : A8), I b1 b2 b3 b4 b5 b6 b7 b8 → μ b1 b2 b3 b4 b5 b6 b7 b8 < μ a1 a2 a3 a4 a5 a6 a7 a8 → W n b1 b2 b3 b4 b5 b6 b7 b8) → W (n + 1) a1 a2 a3 a4 a5 a6 a7 a8) (a1 : A1) (a2 : A2) (a3 : A3) (a4 : A4) (a5 : A5) (a6 : A6) (a7 : A7) (a8 : A8) (h : I a1 a2 a3 a4 a5 a6 a7 a8) : ∃ n, W n a1 a2 a3 a4 a5 a6 a7 a8 :=
  loop_m (σ := A1 × A2 × A3 × A4 × A5 × A6 × A7 × A8) (fun n s => W n s.1 s.2.1 s.2.2.1 s.2.2.2.1 s.2.2.2.2.1 s.2.2.2.2.2.1 s.2.2.2.2.2.2.1 s.2.2.2.2.2.2.2) (fun s => I s.1 s.2.1 s.2.2.1 s.2.2.2.1 s.2.2.2.2.1 s.2.2.2.2.2.1 s.2.2.2.2.2.2.1 s.2.2.2.2.2.2.2) (fun s => μ s.1 s.2.1 s.2.2.1 s.2.2.2.1 s.2.2.2.2.1 s.2.2.2.2.2.1 s.2.2.2.2.2.2.1 s.2.2.2.2.2.2.2) (fun n s hI hk => hs n s.1 s.2.1 s.2.2.1 s.2.2.2.1 s.2.2.2.2.1 s.2.2.2.2.2.1 s.2.2.2.2.2.2.1 s.2.2.2.2.2.2.2 hI (fun b1 b2 b3 b4 b5 b6 b7 b8 h9 hm => hk (b1, b2, b3, b4, b5, b6, b7, b8) h9 hm)) (a1, a2, a3, a4, a5, a6, a7, a8) h
theorem lp9 {A1 A2 A3 A4 A5 A6 A7 A8 A9 : Type} (W : Nat → A1 → A2 → A3 → A4 → A5 → A6 → A7 → A8 → A9 → Prop) (I : A1 → A2 → A3 → A4 → A5 → A6 → A7 → A8 → A9 → Prop) (μ : A1 → A2 → A3 → A4 → A5 → A6 → A7 → A8 → A9 → Nat) (hs : ∀ (n : Nat) (a1 : A1) (a2 : A2) (a3 : A3) (a4 : A4) (a5 : A5) (a6 : A6) (a7 : A7) (a8 : A8) (a9 : A9), I a1 a2 a3 a4 a5 a6 a7 a8 a9 → (∀ (b1 : A1) (b2 : A2) (b3 : A3) (b4 : A4) (b5 : A5) (b6 : A6) (b7 : A7) (b8 : A8) (b9 : A9), I b1 b2 b3 b4 b5 b6 b7 b8 b9 → μ b1 b2 b3 b4 b5 b6 b7 b8 b9 < μ a1 a2 a3 a4 a5 a6 a7 a8 a9 → W n b1 b2 b3 b4 b5 b6 b7 b8 b9) → W (n + 1) a1 a2 a3 a4 a5 a6 a7 a8 a9) (a1 : A1) (a2 : A2) (a3 : A3) (a4 : A4) (a5 : A5) (a6 : A6) (a7 : A7) (a8 : A8) (a9 : A9) (h : I a1 a2 a3 a4 a5 a6 a7 a8 a9) : ∃ n, W n a1 a2 a3 a4 a5 a6 a7 a8 a9 :=
  loop_m (σ := A1 × A2 × A3 × A4 × A5 × A6 × A7 × A8 × A9) (fun n s => W n s.1 s.2.1 s.2.2.1 s.2.2.2.1 s.2.2.2.2.1 s.2.2.2.2.2.1 s.2.2.2.2.2.2.1 s.2.2.2.2.2.2.2.1 s.2.2.2.2.2.2.2.2) (fun s => I s.1 s.2.1 s.2.2.1 s.2.2.2.1 s.2.2.2.2.1 s.2.2.2.2.2.1 s.2.2.2.2.2.2.1 s.2.2.2.2.2.2.2.1 s.2.2.2.2.2.2.2.2) (fun s => μ s.1 s.2.1 s.2.2.1 s.2.2.2.1 s.2.2.2.2.1 s.2.2.2.2.2.1 s.2.2.2.2.2.2.1 s.2.2.2.2.2.2.2.1 s.2.2.2.2.2.2.2.2) (fun n s hI hk => hs n s.1 s.2.1 s.2.2.1 s.2.2.2.1 s.2.2.2.2.1 s.2.2.2.2.2.1 s.2.2.2.2.2.2.1 s.2.2.2.2.2.2.2.1 s.2.2.2.2.2.2.2.2 hI (fun b1 b2 b3 b4 b5 b6 b7 b8 b9 h9 hm => hk (b1, b2, b3, b4, b5, b6, b7, b8, b9) h9 hm)) (a1, a2, a3, a4, a5, a6, a7, a8, a9) h
theorem lp10 {A1 A2 A3 A4 A5 A6 A7 A8 A9 A10 : Type} (W : Nat → A1 → A2 → A3 → A4 → A5 → A6 → A7 → A8 → A9 → A10 → Prop) (I : A1 → A2 → A3 → A4 → A5 → A6 → A7 → A8 → A9 → A10 → Prop) (μ : A1 → A2 → A3 → A4 → A5 → A6 → A7 → A8 → A9 → A10 → Nat) (hs : ∀ (n : Nat) (a1 : A1) (a2 : A2) (a3 : A3) (a4 : A4) (a5 : A5) (a6 : A6) (a7 : A7) (a8 : A8) (a9 : A9) (a10 : A10), I a1 a2 a3 a4 a5 a6 a7 a8 a9 a10 → (∀ (b1 : A1) (b2 : A2) (b3 : A3) (b4 : A4) (b5 : A5) (b6 : A6) (b7 : A7) (b8 : A8) (b9 : A9) (b10 : A10), I b1 b2 b3 b4 b5 b6 b7 b8 b9 b10 → μ b1 b2 b3 b4 b5 b6 b7 b8 b9 b10 < μ a1 a2 a3 a4 a5 a6 a7 a8 a9 a10 → W n b1 b2 b3 b4 b5 b6 b7 b8 b9 b10) → W (n + 1) a1 a2 a3 a4 a5 a6 a7 a8 a9 a10) (a1 : A1) (a2 : A2) (a3 : A3) (a4 : A4) (a5 : A5) (a6 : A6) (a7 : A7) (a8 : A8) (a9 : A9) (a10 : A10) (h : I a1 a2 a3 a4 a5 a6 a7 a8 a9 a10) : ∃ n, W n a1 a2 a3 a4 a5 a6 a7 a8 a9 a10 :=
  loop_m (σ := A1 × A2 × A3 × A4 × A5 × A6 × A7 × A8 × A9 × A10) (fun n s => W n s.1 s.2.1 s.2.2.1 s.2.2.2.1 s.2.2.2.2.1 s.2.2.2.2.2.1 s.2.2.2.2.2.2.1 s.2.2.2.2.2.2.2.1 s.2.2.2.2.2.2.2.2.1 s.2.2.2.2.2.2.2.2.2) (fun s => I s.1 s.2.1 s.2.2.1 s.2.2.2.1 s.2.2.2.2.1 s.2.2.2.2.2.1 s.2.2.2.2.2.2.1 s.2.2.2.2.2.2.2.1 s.2.2.2.2.2.2.2.2.1 s.2.2.2.2.2.2.2.2.2) (fun s => μ s.1 s.2.1 s.2.2.1 s.2.2.2.1 s.2.2.2.2.1 s.2.2.2.2.2.1 s.2.2.2.2.2.2.1 s.2.2.2.2.2.2.2.1 s.2.2.2.2.2.2.2.2.1 s.2.2.2.2.2.2.2.2.2) (fun n s hI hk => hs n s.1 s.2.1 s.2.2.1 s.2.2.2.1 s.2.2.2.2.1 s.2.2.2.2.2.1 s.2.2.2.2.2.2.1 s.2.2.2.2.2.2.2.1 s.2.2.2.2.2.2.2.2.1 s.2.2.2.2.2.2.2.2.2 hI (fun b1 b2 b3 b4 b5 b6 b7 b8 b9 b10 h9 hm => hk (b1, b2, b3, b4, b5, b6, b7, b8, b9, b10) h9 hm)) (a1, a2, a3, a4, a5, a6, a7, a8, a9, a10) h
theorem lp11 {A1 A2 A3 A4 A5 A6 A7 A8 A9 A10 A11 : Type} (W : Nat → A1 → A2 → A3 → A4 → A5 → A6 → A7 → A8 → A9 → A10 → A11 → Prop) (I : A1 → A2 → A3 → A4 → A5 → A6 → A7 → A8 → A9 → A10 → A11 → Prop) (μ : A1 → A2 → A3 → A4 → A5 → A6 → A7 → A8 → A9 → A10 → A11 → Nat) (hs : ∀ (n : Nat) (a1 : A1) (a2 : A2) (a3 : A3) (a4 : A4) (a5 : A5) (a6 : A6) (a7 : A7) (a8 : A8) (a9 : A9) (a10 : A10) (a11 : A11), I a1 a2 a3 a4 a5 a6 a7 a8 a9 a10 a11 → (∀ (b1 : A1) (b2 : A2) (b3 : A3) (b4 : A4) (b5 : A5) (b6 : A6) (b7 : A7) (b8 : A8) (b9 : A9) (b10 : A10) (b11 : A11), I b1 b2 b3 b4 b5 b6 b7 b8 b9 b10 b11 → μ b1 b2 b3 b4 b5 b6 b7 b8 b9 b10 b11 < μ a1 a2 a3 a4 a5 a6 a7 a8 a9 a10 a11 → W n b1 b2 b3 b4 b5 b6 b7 b8 b9 b10 b11) → W (n + 1) a1 a2 a3 a4 a5 a6 a7 a8 a9 a10 a11) (a1 : A1) (a2 : A2) (a3 : A3) (a4 : A4) (a5 : A5) (a6 : A6) (a7 : A7) (a8 : A8) (a9 : A9) (a10 : A10) (a11 : A11) (h : I a1 a2 a3 a4 a5 a6 a7 a8 a9 a10 a11) : ∃ n, W n a1 a2 a3 a4 a5 a6 a7 a8 a9 a10 a11 :=
  loop_m (σ := A1 × A2 × A3 × A4 × A5 × A6 × A7 × A8 × A9 × A10 × A11) (fun n s => W n s.1 s.2.1 s.2.2.1 s.2.2.2.1 s.2.2.2.2.1 s.2.2.2.2.2.1 s.2.2.2.2.2.2.1 s.2.2.2.2.2.2.2.1 s.2.2.2.2.2.2.2.2.1 s.2.2.2.2.2.2.2.2.2.1 s.2.2.2.2.2.2.2.2.2.2) (fun s => I s.1 s.2.1 s.2.2.1 s.2.2.2.1 s.2.2.2.2.1 s.2.2.2.2.2.1 s.2.2.2.2.2.2.1 s.2.2.2.2.2.2.2.1 s.2.2.2.2.2.2.2.2.1 s.2.2.2.2.2.2.2.2.2.1 s.2.2.2.2.2.2.2.2.2.2) (fun s => μ s.1 s.2.1 s.2.2.1 s.2.2.2.1 s.2.2.2.2.1 s.2.2.2.2.2.1 s.2.2.2.2.2.2.1 s.2.2.2.2.2.2.2.1 s.2.2.2.2.2.2.2.2.1 s.2.2.2.2.2.2.2.2.2.1 s.2.2.2.2.2.2.2.2.2.2) (fun n s hI hk => hs n s.1 s.2.1 s.2.2.1 s.2.2.2.1 s.2.2.2.2.1 s.2.2.2.2.2.1 s.2.2.2.2.2.2.1 s.2.2.2.2.2.2.2.1 s.2.2.2.2.2.2.2.2.1 s.2.2.2.2.2.2.2.2.2.1 s.2.2.2.2.2.2.2.2.2.2 hI (fun b1 b2 b3 b4 b5 b6 b7 b8 b9 b10 b11 h9 hm => hk (b1, b2, b3, b4, b5, b6, b7, b8, b9, b10, b11) h9 hm)) (a1, a2, a3, a4, a5, a6, a7, a8, a9, a10, a11) h
theorem lp12 {A1 A2 A3 A4 A5 A6 A7 A8 A9 A10 A11 A12 : Type} (W : Nat → A1 → A2 → A3 → A4 → A5 → A6 → A7 → A8 → A9 → A10 → A11 → A12 → Prop) (I : A1 → A2 → A3 → A4 → A5 → A6 → A7 → A8 → A9 → A10 → A11 → A12 → Prop) (μ : A1 → A2 → A3 → A4 → A5 → A6 → A7 → A8 → A9 → A10 → A11 → A12 → Nat) (hs : ∀ (n : Nat) (a1 : A1) (a2 : A2) (a3 : A3) (a4 : A4) (a5 : A5) (a6 : A6) (a7 : A7) (a8 : A8) (a9 : A9) (a10 : A10) (a11 : A11) (a12 : A12), I a1 a2 a3 a4 a5 a6 a7 a8 a9 a10 a11 a12 → (∀ (b1 : A1) (b2 : A2) (b3 : A3) (b4 : A4) (b5 : A5) (b6 : A6) (b7 : A7) (b8 : A8) (b9 : A9) (b10 : A10) (b11 : A11) (b12 : A12), I b1 b2 b3 b4 b5 b6 b7 b8 b9 b10 b11 b12 → μ b1 b2 b3 b4 b5 b6 b7 b8 b9 b10 b11 b12 < μ a1 a2 a3 a4 a5 a6 a7 a8 a9 a10 a11 a12 → W n b1 b2 b3 b4 b5 b6 b7 b8 b9 b10 b11 b12) → W (n + 1) a1 a2 a3 a4 a5 a6 a7 a8 a9 a10 a11 a12) (a1 : A1) (a2 : A2) (a3 : A3) (a4 : A4) (a5 : A5) (a6 : A6) (a7 : A7) (a8 : A8) (a9 : A9) (a10 : A10) (a11 : A11) (a12 : A12) (h : I a1 a2 a3 a4 a5 a6 a7 a8 a9 a10 a11 a12) : ∃ n, W n a1 a2 a3 a4 a5 a6 a7 a8 a9 a10 a11 a12 :=
  loop_m (σ := A1 × A2 × A3 × A4 × A5 × A6 × A7 × A8 × A9 × A10 × A11 × A12) (fun n s => W n s.1 s.2.1 s.2.2.1 s.2.2.2.1 s.2.2.2.2.1 s.2.2.2.2.2.1 s.2.2.2.2.2.2.1 s.2.2.2.2.2.2.2.1 s.2.2.2.2.2.2.2.2.1 s.2.2.2.2.2.2.2.2.2.1 s.2.2.2.2.2.2.2.2.2.2.1 s.2.2.2.2.2.2.2.2.2.2.2) (fun s => I s.1 s.2.1 s.2.2.1 s.2.2.2.1 s.2.2.2.2.1 s.2.2.2.2.2.1 s.2.2.2.2.2.2.1 s.2.2.2.2.2.2.2.1 s.2.2.2.2.2.2.2.2.1 s.2.2.2.2.2.2.2.2.2.1 s.2.2.2.2.2.2.2.2.2.2.1 s.2.2.2.2.2.2.2.2.2.2.2) (fun s => μ s.1 s.2.1 s.2.2.1 s.2.2.2.1 s.2.2.2.2.1 s.2.2.2.2.2.1 s.2.2.2.2.2.2.1 s.2.2.2.2.2.2.2.1 s.2.2.2.2.2.2.2.2.1 s.2.2.2.2.2.2.2.2.2.1 s.2.2.2.2.2.2.2.2.2.2.1 s.2.2.2.2.2.2.2.2.2.2.2) (fun n s hI hk => hs n s.1 s.2.1 s.2.2.1 s.2.2.2.1 s.2.2.2.2.1 s.2.2.2.2.2.1 s.2.2.2.2.2.2.1 s.2.2.2.2.2.2.2.1 s.2.2.2.2.2.2.2.2.1 s.2.2.2.2.2.2.2.2.2.1 s.2.2.2.2.2.2.2.2.2.2.1 s.2.2.2.2.2.2.2.2.2.2.2 hI (fun b1 b2 b3 b4 b5 b6 b7 b8 b9 b10 b11 b12 h9 hm => hk (b1, b2, b3, b4, b5, b6, b7, b8, b9, b10, b11, b12) h9 hm)) (a1, a2, a3, a4, a5, a6, a7, a8, a9, a10, a11, a12) h
theorem lp13 {A1 A2 A3 A4 A5 A6 A7 A8 A9 A10 A11 A12 A13 : Type} (W : Nat → A1 → A2 → A3 → A4 → A5 → A6 → A7 → A8 → A9 → A10 → A11 → A12 → A13 → Prop) (I : A1 → A2 → A3 → A4 → A5 → A6 → A7 → A8 → A9 → A10 → A11 → A12 → A13 → Prop) (μ : A1 → A2 → A3 → A4 → A5 → A6 → A7 → A8 → A9 → A10 → A11 → A12 → A13 → Nat) (hs : ∀ (n : Nat) (a1 : A1) (a2 : A2) (a3 : A3) (a4 : A4) (a5 : A5) (a6 : A6) (a7 : A7) (a8 : A8) (a9 : A9) (a10 : A10) (a11 : A11) (a12 : A12) (a13 : A13), I a1 a2 a3 a4 a5 a6 a7 a8 a9 a10 a11 a12 a13 → (∀ (b1 : A1) (b2 : A2) (b3 : A3) (b4 : A4) (b5 : A5) (b6 : A6) (b7 : A7) (b8 : A8) (b9 : A9) (b10 : A10) (b11 : A11) (b12 : A12) (b13 : A13), I b1 b2 b3 b4 b5 b6 b7 b8 b9 b10 b11 b12 b13 → μ b1 b2 b3 b4 b5 b6 b7 b8 b9 b10 b11 b12 b13 < μ a1 a2 a3 a4 a5 a6 a7 a8 a9 a10 a11 a12 a13 → W n b1 b2 b3 b4 b5 b6 b7 b8 b9 b10 b11 b12 b13) → W (n + 1) a1 a2 a3 a4 a5 a6 a7 a8 a9 a10 a11 a12 a13) (a1 : A1) (a2 : A2) (a3 : A3) (a4 : A4) (a5 : A5) (a6 : A6) (a7 : A7) (a8 : A8) (a9 : A9) (a10 : A10) (a11 : A11) (a12 : A12) (a13 : A13) (h : I a1 a2 a3 a4 a5 a6 a7 a8 a9 a10 a11 a12 a13) : ∃ n, W n a1 a2 a3 a4 a5 a6 a7 a8 a9 a10 a11 a12 a13 :=
  loop_m (σ := A1 × A2 × A3 × A4 × A5 × A6 × A7 × A8 × A9 × A10 × A11 × A12 × A13) (fun n s => W n s.1 s.2.1 s.2.2.1 s.2.2.2.1 s.2.2.2.2.1 s.2.2.2.2.2.1 s.2.2.2.2.2.2.1 s.2.2.2.2.2.2.2.1 s.2.2.2.2.2.2.2.2.1 s.2.2.2.2.2.2.2.2.2.1 s.2.2.2.2.2.2.2.2.2.2.1 s.2.2.2.2.2.2.2.2.2.2.2.1 s.2.2.2.2.2.2.2.2.2.2.2.2) (fun s => I s.1 s.2.1 s.2.2.1 s.2.2.2.1 s.2.2.2.2.1 s.2.2.2.2.2.1 s.2.2.2.2.2.2.1 s.2.2.2.2.2.2.2.1 s.2.2.2.2.2.2.2.2.1 s.2.2.2.2.2.2.2.2.2.1 s.2.2.2.2.2.2.2.2.2.2.1 s.2.2.2.2.2.2.2.2.2.2.2.1 s.2.2.2.2.2.2.2.2.2.2.2.2) (fun s => μ s.1 s.2.1 s.2.2.1 s.2.2.2.1 s.2.2.2.2.1 s.2.2.2.2.2.1 s.2.2.2.2.2.2.1 s.2.2.2.2.2.2.2.1 s.2.2.2.2.2.2.2.2.1 s.2.2.2.2.2.2.2.2.2.1 s.2.2.2.2.2.2.2.2.2.2.1 s.2.2.2.2.2.2.2.2.2.2.2.1 s.2.2.2.2.2.2.2.2.2.2.2.2) (fun n s hI hk => hs n s.1 s.2.1 s.2.2.1 s.2.2.2.1 s.2.2.2.2.1 s.2.2.2.2.2.1 s.2.2.2.2.2.2.1 s.2.2.2.2.2.2.2.1 s.2.2.2.2.2.2.2.2.1 s.2.2.2.2.2.2.2.2.2.1 s.2.2.2.2.2.2.2.2.2.2.1 s.2.2.2.2.2.2.2.2.2.2.2.1 s.2.2.2.2.2.2.2.2.2.2.2.2 hI (fun b1 b2 b3 b4 b5 b6 b7 b8 b9 b10 b11 b12 b13 h9 hm => hk (b1, b2, b3, b4, b5, b6, b7, b8, b9, b10, b11, b12, b13) h9 hm)) (a1, a2, a3, a4, a5, a6, a7, a8, a9, a10, a11, a12, a13) h
theorem lp14 {A1 A2 A3 A4 A5 A6 A7 A8 A9 A10 A11 A12 A13 A14 : Type} (W : Nat → A1 → A2 → A3 → A4 → A5 → A6 → A7 → A8 → A9 → A10 → A11 → A12 → A13 → A14 → Prop) (I : A1 → A2 → A3 → A4 → A5 → A6 → A7 → A8 → A9 → A10 → A11 → A12 → A13 → A14 → Prop) (μ : A1 → A2 → A3 → A4 → A5 → A6 → A7 → A8 → A9 → A10 → A11 → A12 → A13 → A14 → Nat) (hs : ∀ (n : Nat) (a1 : A1) (a2 : A2) (a3 : A3) (a4 : A4) (a5 : A5) (a6 : A6) (a7 : A7) (a8 : A8) (a9 : A9) (a10 : A10) (a11 : A11) (a12 : A12) (a13 : A13) (a14 : A14), I a1 a2 a3 a4 a5 a6 a7 a8 a9 a10 a11 a12 a13 a14 → (∀ (b1 : A1) (b2 : A2) (b3 : A3) (b4 : A4) (b5 : A5) (b6 : A6) (b7 : A7) (b8 : A8) (b9 : A9) (b10 : A10) (b11 : A11) (b12 : A12) (b13 : A13) (b14 : A14), I b1 b2 b3 b4 b5 b6 b7 b8 b9 b10 b11 b12 b13 b14 → μ b1 b2 b3 b4 b5 b6 b7 b8 b9 b10 b11 b12 b13 b14 < μ a1 a2 a3 a4 a5 a6 a7 a8 a9 a10 a11 a12 a13 a14 → W n b1 b2 b3 b4 b5 b6 b7 b8 b9 b10 b11 b12 b13 b14) → W (n + 1) a1 a2 a3 a4 a5 a6 a7 a8 a9 a10 a11 a12 a13 a14) (a1 : A1) (a2 : A2) (a3 : A3) (a4 : A4) (a5 : A5) (a6 : A6) (a7 : A7) (a8 : A8) (a9 : A9) (a10 : A10) (a11 : A11) (a12 : A12) (a13 : A13) (a14 : A14) (h : I a1 a2 a3 a4 a5 a6 a7 a8 a9 a10 a11 a12 a13 a14) : ∃ n, W n a1 a2 a3 a4 a5 a6 a7 a8 a9 a10 a11 a12 a13 a14 :=
  loop_m (σ := A1 × A2 × A3 × A4 × A5 × A6 × A7 × A8 × A9 × A10 × A11 × A12 × A13 × A14) (fun n s => W n s.1 s.2.1 s.2.2.1 s.2.2.2.1 s.2.2.2.2.1 s.2.2.2.2.2.1 s.2.2.2.2.2.2.1 s.2.2.2.2.2.2.2.1 s.2.2.2.2.2.2.2.2.1 s.2.2.2.2.2.2.2.2.2.1 s.2.2.2.2.2.2.2.2.2.2.1 s.2.2.2.2.2.2.2.2.2.2.2.1 s.2.2.2.2.2.2.2.2.2.2.2.2.1 s.2.2.2.2.2.2.2.2.2.2.2.2.2) (fun s => I s.1 s.2.1 s.2.2.1 s.2.2.2.1 s.2.2.2.2.1 s.2.2.2.2.2.1 s.2.2.2.2.2.2.1 s.2.2.2.2.2.2.2.1 s.2.2.2.2.2.2.2.2.1 s.2.2.2.2.2.2.2.2.2.1 s.2.2.2.2.2.2.2.2.2.2.1 s.2.2.2.2.2.2.2.2.2.2.2.1 s.2.2.2.2.2.2.2.2.2.2.2.2.1 s.2.2.2.2.2.2.2.2.2.2.2.2.2) (fun s => μ s.1 s.2.1 s.2.2.1 s.2.2.2.1 s.2.2.2.2.1 s.2.2.2.2.2.1 s.2.2.2.2.2.2.1 s.2.2.2.2.2.2.2.1 s.2.2.2.2.2.2.2.2.1 s.2.2.2.2.2.2.2.2.2.1 s.2.2.2.2.2.2.2.2.2.2.1 s.2.2.2.2.2.2.2.2.2.2.2.1 s.2.2.2.2.2.2.2.2.2.2.2.2.1 s.2.2.2.2.2.2.2.2.2.2.2.2.2) (fun n s hI hk => hs n s.1 s.2.1 s.2.2.1 s.2.2.2.1 s.2.2.2.2.1 s.2.2.2.2.2.1 s.2.2.2.2.2.2.1 s.2.2.2.2.2.2.2.1 s.2.2.2.2.2.2.2.2.1 s.2.2.2.2.2.2.2.2.2.1 s.2.2.2.2.2.2.2.2.2.2.1 s.2.2.2.2.2.2.2.2.2.2.2.1 s.2.2.2.2.2.2.2.2.2.2.2.2.1 s.2.2.2.2.2.2.2.2.2.2.2.2.2 hI (fun b1 b2 b3 b4 b5 b6 b7 b8 b9 b10 b11 b12 b13 b14 h9 hm => hk (b1, b2, b3, b4, b5, b6, b7, b8, b9, b10, b11, b12, b13, b14) h9 hm)) (a1, a2, a3, a4, a5, a6, a7, a8, a9, a10, a11, a12, a13, a14) h
theorem lp15 {A1 A2 A3 A4 A5 A6 A7 A8 A9 A10 A11 A12 A13 A14 A15 : Type} (W : Nat → A1 → A2 → A3 → A4 → A5 → A6 → A7 → A8 → A9 → A10 → A11 → A12 → A13 → A14 → A15 → Prop) (I : A1 → A2 → A3 → A4 → A5 → A6 → A7 → A8 → A9 → A10 → A11 → A12 → A13 → A14 → A15 → Prop) (μ : A1 → A2 → A3 → A4 → A5 → A6 → A7 → A8 → A9 → A10 → A11 → A12 → A13 → A14 → A15 → Nat) (hs : ∀ (n : Nat) (a1 : A1) (a2 : A2) (a3 : A3) (a4 : A4) (a5 : A5) (a6 : A6) (a7 : A7) (a8 : A8) (a9 : A9) (a10 : A10) (a11 : A11) (a12 : A12) (a13 : A13) (a14 : A14) (a15 : A15), I a1 a2 a3 a4 a5 a6 a7 a8 a9 a10 a11 a12 a13 a14 a15 → (∀ (b1 : A1) (b2 : A2) (b3 : A3) (b4 : A4) (b5 : A5) (b6 : A6) (b7 : A7) (b8 : A8) (b9 : A9) (b10 : A10) (b11 : A11) (b12 : A12) (b13 : A13) (b14 : A14) (b15 : A15), I b1 b2 b3 b4 b5 b6 b7 b8 b9 b10 b11 b12 b13 b14 b15 → μ b1 b2 b3 b4 b5 b6 b7 b8 b9 b10 b11 b12 b13 b14 b15 < μ a1 a2 a3 a4 a5 a6 a7 a8 a9 a10 a11 a12 a13 a14 a15 → W n b1 b2 b3 b4 b5 b6 b7 b8 b9 b10 b11 b12 b13 b14 b15) → W (n + 1) a1 a2 a3 a4 a5 a6 a7 a8 a9 a10 a11 a12 a13 a14 a15) (a1 : A1) (a2 : A2) (a3 : A3) (a4 : A4) (a5 : A5) (a6 : A6) (a7 : A7) (a8 : A8) (a9 : A9) (a10 : A10) (a11 : A11) (a12 : A12) (a13 : A13) (a14 : A14) (a15 : A15) (h : I a1 a2 a3 a4 a5 a6 a7 a8 a9 a10 a11 a12 a13 a14 a15) : ∃ n, W n a1 a2 a3 a4 a5 a6 a7 a8 a9 a10 a11 a12 a13 a14 a15 :=
  loop_m (σ := A1 × A2 × A3 × A4 × A5 × A6 × A7 × A8 × A9 × A10 × A11 × A12 × A13 × A14 × A15) (fun n s => W n s.1 s.2.1 s.2.2.1 s.2.2.2.1 s.2.2.2.2.1 s.2.2.2.2.2.1 s.2.2.2.2.2.2.1 s.2.2.2.2.2.2.2.1 s.2.2.2.2.2.2.2.2.1 s.2.2.2.2.2.2.2.2.2.1 s.2.2.2.2.2.2.2.2.2.2.1 s.2.2.2.2.2.2.2.2.2.2.2.1 s.2.2.2.2.2.2.2.2.2.2.2.2.1 s.2.2.2.2.2.2.2.2.2.2.2.2.2.1 s.2.2.2.2.2.2.2.2.2.2.2.2.2.2) (fun s => I s.1 s.2.1 s.2.2.1 s.2.2.2.1 s.2.2.2.2.1 s.2.2.2.2.2.1 s.2.2.2.2.2.2.1 s.2.2.2.2.2.2.2.1 s.2.2.2.2.2.2.2.2.1 s.2.2.2.2.2.2.2.2.2.1 s.2.2.2.2.2.2.2.2.2.2.1 s.2.2.2.2.2.2.2.2.2.2.2.1 s.2.2.2.2.2.2.2.2.2.2.2.2.1 s.2.2.2.2.2.2.2.2.2.2.2.2.2.1 s.2.2.2.2.2.2.2.2.2.2.2.2.2.2) (fun s => μ s.1 s.2.1 s.2.2.1 s.2.2.2.1 s.2.2.2.2.1 s.2.2.2.2.2.1 s.2.2.2.2.2.2.1 s.2.2.2.2.2.2.2.1 s.2.2.2.2.2.2.2.2.1 s.2.2.2.2.2.2.2.2.2.1 s.2.2.2.2.2.2.2.2.2.2.1 s.2.2.2.2.2.2.2.2.2.2.2.1 s.2.2.2.2.2.2.2.2.2.2.2.2.1 s.2.2.2.2.2.2.2.2.2.2.2.2.2.1 s.2.2.2.2.2.2.2.2.2.2.2.2.2.2) (fun n s hI hk => hs n s.1 s.2.1 s.2.2.1 s.2.2.2.1 s.2.2.2.2.1 s.2.2.2.2.2.1 s.2.2.2.2.2.2.1 s.2.2.2.2.2.2.2.1 s.2.2.2.2.2.2.2.2.1 s.2.2.2.2.2.2.2.2.2.1 s.2.2.2.2.2.2.2.2.2.2.1 s.2.2.2.2.2.2.2.2.2.2.2.1 s.2.2.2.2.2.2.2.2.2.2.2.2.1 s.2.2.2.2.2.2.2.2.2.2.2.2.2.1 s.2.2.2.2.2.2.2.2.2.2.2.2.2.2 hI (fun b1 b2 b3 b4 b5 b6 b7 b8 b9 b10 b11 b12 b13 b14 b15 h9 hm => hk (b1, b2, b3, b4, b5, b6, b7, b8, b9, b10, b11, b12, b13, b14, b15) h9 hm)) (a1, a2, a3, a4, a5, a6, a7, a8, a9, a10, a11, a12, a13, a14, a15) h
theorem lp16 {A1 A2 A3 A4 A5 A6 A7 A8 A9 A10 A11 A12 A13 A14 A15 A16 : Type} (W : Nat → A1 → A2 → A3 → A4 → A5 → A6 → A7 → A8 → A9 → A10 → A11 → A12 → A13 → A14 → A15 → A16 → Prop) (I : A1 → A2 → A3 → A4 → A5 → A6 → A7 → A8 → A9 → A10 → A11 → A12 → A13 → A14 → A15 → A16 → Prop) (μ : A1 → A2 → A3 → A4 → A5 → A6 → A7 → A8 → A9 → A10 → A11 → A12 → A13 → A14 → A15 → A16 → Nat) (hs : ∀ (n : Nat) (a1 : A1) (a2 : A2) (a3 : A3) (a4 : A4) (a5 : A5) (a6 : A6) (a7 : A7) (a8 : A8) (a9 : A9) (a10 : A10) (a11 : A11) (a12 : A12) (a13 : A13) (a14 : A14) (a15 : A15) (a16 : A16), I a1 a2 a3 a4 a5 a6 a7 a8 a9 a10 a11 a12 a13 a14 a15 a16 → (∀ (b1 : A1) (b2 : A2) (b3 : A3) (b4 : A4) (b5 : A5) (b6 : A6) (b7 : A7) (b8 : A8) (b9 : A9) (b10 : A10) (b11 : A11) (b12 : A12) (b13 : A13) (b14 : A14) (b15 : A15) (b16 : A16), I b1 b2 b3 b4 b5 b6 b7 b8 b9 b10 b11 b12 b13 b14 b15 b16 → μ b1 b2 b3 b4 b5 b6 b7 b8 b9 b10 b11 b12 b13 b14 b15 b16 < μ a1 a2 a3 a4 a5 a6 a7 a8 a9 a10 a11 a12 a13 a14 a15 a16 → W n b1 b2 b3 b4 b5 b6 b7 b8 b9 b10 b11 b12 b13 b14 b15 b16) → W (n + 1) a1 a2 a3 a4 a5 a6 a7 a8 a9 a10 a11 a12 a13 a14 a15 a16) (a1 : A1) (a2 : A2) (a3 : A3) (a4 : A4) (a5 : A5) (a6 : A6) (a7 : A7) (a8 : A8) (a9 : A9) (a10 : A10) (a11 : A11) (a12 : A12) (a13 : A13) (a14 : A14) (a15 : A15) (a16 : A16) (h : I a1 a2 a3 a4 a5 a6 a7 a8 a9 a10 a11 a12 a13 a14 a15 a16) : ∃ n, W n a1 a2 a3 a4 a5 a6 a7 a8 a9 a10 a11 a12 a13 a14 a15 a16 :=
  loop_m (σ := A1 × A2 × A3 × A4 × A5 × A6 × A7 × A8 × A9 × A10 × A11 × A12 × A13 × A14 × A15 × A16) (fun n s => W n s.1 s.2.1 s.2.2.1 s.2.2.2.1 s.2.2.2.2.1 s.2.2.2.2.2.1 s.2.2.2.2.2.2.1 s.2.2.2.2.2.2.2.1 s.2.2.2.2.2.2.2.2.1 s.2.2.2.2.2.2.2.2.2.1 s.2.2.2.2.2.2.2.2.2.2.1 s.2.2.2.2.2.2.2.2.2.2.2.1 s.2.2.2.2.2.2.2.2.2.2.2.2.1 s.2.2.2.2.2.2.2.2.2.2.2.2.2.1 s.2.2.2.2.2.2.2.2.2.2.2.2.2.2.1 s.2.2.2.2.2.2.2.2.2.2.2.2.2.2.2) (fun s => I s.1 s.2.1 s.2.2.1 s.2.2.2.1 s.2.2.2.2.1 s.2.2.2.2.2.1 s.2.2.2.2.2.2.1 s.2.2.2.2.2.2.2.1 s.2.2.2.2.2.2.2.2.1 s.2.2.2.2.2.2.2.2.2.1 s.2.2.2.2.2.2.2.2.2.2.1 s.2.2.2.2.2.2.2.2.2.2.2.1 s.2.2.2.2.2.2.2.2.2.2.2.2.1 s.2.2.2.2.2.2.2.2.2.2.2.2.2.1 s.2.2.2.2.2.2.2.2.2.2.2.2.2.2.1 s.2.2.2.2.2.2.2.2.2.2.2.2.2.2.2) (fun s => μ s.1 s.2.1 s.2.2.1 s.2.2.2.1 s.2.2.2.2.1 s.2.2.2.2.2.1 s.2.2.2.2.2.2.1 s.2.2.2.2.2.2.2.1 s.2.2.2.2.2.2.2.2.1 s.2.2.2.2.2.2.2.2.2.1 s.2.2.2.2.2.2.2.2.2.2.1 s.2.2.2.2.2.2.2.2.2.2.2.1 s.2.2.2.2.2.2.2.2.2.2.2.2.1 s.2.2.2.2.2.2.2.2.2.2.2.2.2.1 s.2.2.2.2.2.2.2.2.2.2.2.2.2.2.1 s.2.2.2.2.2.2.2.2.2.2.2.2.2.2.2) (fun n s hI hk => hs n s.1 s.2.1 s.2.2.1 s.2.2.2.1 s.2.2.2.2.1 s.2.2.2.2.2.1 s.2.2.2.2.2.2.1 s.2.2.2.2.2.2.2.1 s.2.2.2.2.2.2.2.2.1 s.2.2.2.2.2.2.2.2.2.1 s.2.2.2.2.2.2.2.2.2.2.1 s.2.2.2.2.2.2.2.2.2.2.2.1 s.2.2.2.2.2.2.2.2.2.2.2.2.1 s.2.2.2.2.2.2.2.2.2.2.2.2.2.1 s.2.2.2.2.2.2.2.2.2.2.2.2.2.2.1 s.2.2.2.2.2.2.2.2.2.2.2.2.2.2.2 hI (fun b1 b2 b3 b4 b5 b6 b7 b8 b9 b10 b11 b12 b13 b14 b15 b16 h9 hm => hk (b1, b2, b3, b4, b5, b6, b7, b8, b9, b10, b11, b12, b13, b14, b15, b16) h9 hm)) (a1, a2, a3, a4, a5, a6, a7, a8, a9, a10, a11, a12, a13, a14, a15, a16) h
theorem pk_least (P : Nat → Prop) (h : ∃ k, P k) : ∃ k, P k ∧ ∀ j, j < k → ¬ P j := by
  obtain ⟨k, hk⟩ := h
  induction k using Nat.strongRecOn with
  | ind k ih =>
    by_cases e : ∃ j, j < k ∧ P j
    · obtain ⟨j, hj, pj⟩ := e
      exact ih j hj pj
    · exact ⟨k, hk, fun j hj pj => e ⟨j, hj, pj⟩⟩
theorem rp1 {ρ A1 : Type} (W : Nat → (ρ → Prop) → A1 → Prop) (ok : A1 → Prop) (μ : A1 → Nat) (val : A1 → ρ)
    (hs : ∀ (d : Nat) (post : ρ → Prop) (a1 : A1), ok a1 → post (val a1) → (∀ (post' : ρ → Prop) (b1 : A1), ok b1 → μ b1 < μ a1 → post' (val b1) → W d post' b1) → W (d + 1) post a1) :
    ∀ (d : Nat) (post : ρ → Prop) (a1 : A1), ok a1 → μ a1 < d → post (val a1) → W d post a1 := by
  intro d
  induction d with
  | zero => intro post a1 _ h; omega
  | succ d ih =>
    intro post a1 ho hm hp
    exact hs d post a1 ho hp (fun post' b1 ho' hm' hp' => ih post' b1 ho' (by omega) hp')
theorem rp2 {ρ A1 A2 : Type} (W : Nat → (ρ → Prop) → A1 → A2 → Prop) (ok : A1 → A2 → Prop) (μ : A1 → A2 → Nat) (val : A1 → A2 → ρ)
    (hs : ∀ (d : Nat) (post : ρ → Prop) (a1 : A1) (a2 : A2), ok a1 a2 → post (val a1 a2) → (∀ (post' : ρ → Prop) (b1 : A1) (b2 : A2), ok b1 b2 → μ b1 b2 < μ a1 a2 → post' (val b1 b2) → W d post' b1 b2) → W (d + 1) post a1 a2) :
    ∀ (d : Nat) (post : ρ → Prop) (a1 : A1) (a2 : A2), ok a1 a2 → μ a1 a2 < d → post (val a1 a2) → W d post a1 a2 := by
  intro d
  induction d with
  | zero => intro post a1 a2 _ h; omega
  | succ d ih =>
    intro post a1 a2 ho hm hp
    exact hs d post a1 a2 ho hp (fun post' b1 b2 ho' hm' hp' => ih post' b1 b2 ho' (by omega) hp')
theorem rp3 {ρ A1 A2 A3 : Type} (W : Nat → (ρ → Prop) → A1 → A2 → A3 → Prop) (ok : A1 → A2 → A3 → Prop) (μ : A1 → A2 → A3 → Nat) (val : A1 → A2 → A3 → ρ)
    (hs : ∀ (d : Nat) (post : ρ → Prop) (a1 : A1) (a2 : A2) (a3 : A3), ok a1 a2 a3 → post (val a1 a2 a3) → (∀ (post' : ρ → Prop) (b1 : A1) (b2 : A2) (b3 : A3), ok b1 b2 b3 → μ b1 b2 b3 < μ a1 a2 a3 → post' (val b1 b2 b3) → W d post' b1 b2 b3) → W (d + 1) post a1 a2 a3) :
    ∀ (d : Nat) (post : ρ → Prop) (a1 : A1) (a2 : A2) (a3 : A3), ok a1 a2 a3 → μ a1 a2 a3 < d → post (val a1 a2 a3) → W d post a1 a2 a3 := by
  intro d
  induction d with
  | zero => intro post a1 a2 a3 _ h; omega
  | succ d ih =>
    intro post a1 a2 a3 ho hm hp
    exact hs d post a1 a2 a3 ho hp (fun post' b1 b2 b3 ho' hm' hp' => ih post' b1 b2 b3 ho' (by omega) hp')
theorem rp4 {ρ A1 A2 A3 A4 : Type} (W : Nat → (ρ → Prop) → A1 → A2 → A3 → A4 → Prop) (ok : A1 → A2 → A3 → A4 → Prop) (μ : A1 → A2 → A3 → A4 → Nat) (val : A1 → A2 → A3 → A4 → ρ)
    (hs : ∀ (d : Nat) (post : ρ → Prop) (a1 : A1) (a2 : A2) (a3 : A3) (a4 : A4), ok a1 a2 a3 a4 → post (val a1 a2 a3 a4) → (∀ (post' : ρ → Prop) (b1 : A1) (b2 : A2) (b3 : A3) (b4 : A4), ok b1 b2 b3 b4 → μ b1 b2 b3 b4 < μ a1 a2 a3 a4 → post' (val b1 b2 b3 b4) → W d post' b1 b2 b3 b4) → W (d + 1) post a1 a2 a3 a4) :
    ∀ (d : Nat) (post : ρ → Prop) (a1 : A1) (a2 : A2) (a3 : A3) (a4 : A4), ok a1 a2 a3 a4 → μ a1 a2 a3 a4 < d → post (val a1 a2 a3 a4) → W d post a1 a2 a3 a4 := by
  intro d
  induction d with
  | zero => intro post a1 a2 a3 a4 _ h; omega
  | succ d ih =>
    intro post a1 a2 a3 a4 ho hm hp
    exact hs d post a1 a2 a3 a4 ho hp (fun post' b1 b2 b3 b4 ho' hm' hp' => ih post' b1 b2 b3 b4 ho' (by omega) hp')
theorem rp5 {ρ A1 A2 A3 A4 A5 : Type} (W : Nat → (ρ → Prop) → A1 → A2 → A3 → A4 → A5 → Prop) (ok : A1 → A2 → A3 → A4 → A5 → Prop) (μ : A1 → A2 → A3 → A4 → A5 → Nat) (val : A1 → A2 → A3 → A4 → A5 → ρ)
    (hs : ∀ (d : Nat) (post : ρ → Prop) (a1 : A1) (a2 : A2) (a3 : A3) (a4 : A4) (a5 : A5), ok a1 a2 a3 a4 a5 → post (val a1 a2 a3 a4 a5) → (∀ (post' : ρ → Prop) (b1 : A1) (b2 : A2) (b3 : A3) (b4 : A4) (b5 : A5), ok b1 b2 b3 b4 b5 → μ b1 b2 b3 b4 b5 < μ a1 a2 a3 a4 a5 → post' (val b1 b2 b3 b4 b5) → W d post' b1 b2 b3 b4 b5) → W (d + 1) post a1 a2 a3 a4 a5) :
    ∀ (d : Nat) (post : ρ → Prop) (a1 : A1) (a2 : A2) (a3 : A3) (a4 : A4) (a5 : A5), ok a1 a2 a3 a4 a5 → μ a1 a2 a3 a4 a5 < d → post (val a1 a2 a3 a4 a5) → W d post a1 a2 a3 a4 a5 := by
  intro d
  induction d with
  | zero => intro post a1 a2 a3 a4 a5 _ h; omega
  | succ d ih =>
    intro post a1 a2 a3 a4 a5 ho hm hp
    exact hs d post a1 a2 a3 a4 a5 ho hp (fun post' b1 b2 b3 b4 b5 ho' hm' hp' => ih post' b1 b2 b3 b4 b5 ho' (by omega) hp')
theorem rp6 {ρ A1 A2 A3 A4 A5 A6 : Type} (W : Nat → (ρ → Prop) → A1 → A2 → A3 → A4 → A5 → A6 → Prop) (ok : A1 → A2 → A3 → A4 → A5 → A6 → Prop) (μ : A1 → A2 → A3 → A4 → A5 → A6 → Nat) (val : A1 → A2 → A3 → A4 → A5 → A6 → ρ)
    (hs : ∀ (d : Nat) (post : ρ → Prop) (a1 : A1) (a2 : A2) (a3 : A3) (a4 : A4) (a5 : A5) (a6 : A6), ok a1 a2 a3 a4 a5 a6 → post (val a1 a2 a3 a4 a5 a6) → (∀ (post' : ρ → Prop) (b1 : A1) (b2 : A2) (b3 : A3) (b4 : A4) (b5 : A5) (b6 : A6), ok b1 b2 b3 b4 b5 b6 → μ b1 b2 b3 b4 b5 b6 < μ a1 a2 a3 a4 a5 a6 → post' (val b1 b2 b3 b4 b5 b6) → W d post' b1 b2 b3 b4 b5 b6) → W (d + 1) post a1 a2 a3 a4 a5 a6) :
    ∀ (d : Nat) (post : ρ → Prop) (a1 : A1) (a2 : A2) (a3 : A3) (a4 : A4) (a5 : A5) (a6 : A6), ok a1 a2 a3 a4 a5 a6 → μ a1 a2 a3 a4 a5 a6 < d → post (val a1 a2 a3 a4 a5 a6) → W d post a1 a2 a3 a4 a5 a6 := by
  intro d
  induction d with
  | zero => intro post a1 a2 a3 a4 a5 a6 _ h; omega
  | succ d ih =>
    intro post a1 a2 a3 a4 a5 a6 ho hm hp
    exact hs d post a1 a2 a3 a4 a5 a6 ho hp (fun post' b1 b2 b3 b4 b5 b6 ho' hm' hp' => ih post' b1 b2 b3 b4 b5 b6 ho' (by omega) hp')
theorem rec_p {σ ρ : Type} (W : Nat → (ρ → Prop) → σ → Prop) (ok : σ → Prop) (μ : σ → Nat) (val : σ → ρ)
    (hs : ∀ d s post, ok s → post (val s) → (∀ s' post', ok s' → μ s' < μ s → post' (val s') → W d post' s') → W (d + 1) post s) :
    ∀ d s post, ok s → μ s < d → post (val s) → W d post s := by
  intro d
  induction d with
  | zero => intro s post _ h; omega
  | succ d ih =>
    intro s post ho hm hp
    exact hs d s post ho hp (fun s' post' ho' hm' hp' => ih s' post' ho' (by omega) hp')
theorem rec_q {σ ρ : Type} (W : Nat → (ρ → Prop) → σ → Prop) (ok : σ → Prop) (μ : σ → Nat) (Q : σ → ρ → Prop)
    (hs : ∀ d s post, ok s → (∀ r, Q s r → post r) → (∀ s' post', ok s' → μ s' < μ s → (∀ r, Q s' r → post' r) → W d post' s') → W (d + 1) post s) :
    ∀ d s post, ok s → μ s < d → (∀ r, Q s r → post r) → W d post s := by
  intro d
  induction d with
  | zero => intro s post _ h; omega
  | succ d ih =>
    intro s post ho hm hp
    exact hs d s post ho hp (fun s' post' ho' hm' hp' => ih s' post' ho' (by omega) hp')
def bx_sum (f : Nat → Int32) : Nat → Int32
  | 0 => 0
  | n + 1 => bx_sum f n + f n
theorem ek_u {A : Prop} {B : Nat → Prop} {k N : Nat} (hk : k < N) (h : B k) : (some k = none → A) ∧ (∀ y : Nat, some k = some y → (y < N ∧ B y)) :=
  ⟨fun z => absurd z (Option.some_ne_none k), fun _ e => (by cases e; exact ⟨hk, h⟩)⟩
theorem ek_nu {A : Prop} {B : Nat → Prop} (h : A) : ((none : Option Nat) = none → A) ∧ (∀ y : Nat, (none : Option Nat) = some y → B y) :=
  ⟨fun _ => h, fun _ e => (by cases e)⟩
theorem ek_if {c d A B : Prop} (e : c ↔ d) (f : d → A) (g : ¬ d → B) : (c → A) ∧ (¬ c → B) :=
  ⟨fun z => f (e.mp z), fun z => g (fun y => z (e.mpr y))⟩
theorem ek_v {α : Sort _} {P : α → Prop} {a b : α} (e : a = b) (h : P b) : P a := e ▸ h
theorem co_some {x : Option Nat} {A : Prop} {B : Nat → Prop} (i : Nat) (h : B i) (hx : x = some i := by rfl) : (x = none → A) ∧ (∀ y : Nat, x = some y → B y) := by
  subst hx
  exact ⟨fun e => (nomatch e), fun y e => Option.some.inj e ▸ h⟩
theorem co_none {x : Option Nat} {A : Prop} {B : Nat → Prop} (h : A) (hx : x = none := by rfl) : (x = none → A) ∧ (∀ y : Nat, x = some y → B y) := by
  subst hx
  exact ⟨fun _ => h, fun y e => (nomatch e)⟩
theorem co_any {x : Option Nat} {A : Prop} {B : Nat → Prop} (hn : x = none → A) (hs : ∀ i : Nat, x = some i → B i) : (x = none → A) ∧ (∀ y : Nat, x = some y → B y) := ⟨hn, hs⟩
theorem co_2 {P : Nat → Prop} (h0 : P 0) (h1 : P 1) {i : Nat} (hi : i < 2) : P i :=
  match i, hi with
  | 0, _ => h0
  | 1, _ => h1
theorem co_3 {P : Nat → Prop} (h0 : P 0) (h1 : P 1) (h2 : P 2) {i : Nat} (hi : i < 3) : P i :=
  match i, hi with
  | 0, _ => h0
  | 1, _ => h1
  | 2, _ => h2
theorem co_4 {P : Nat → Prop} (h0 : P 0) (h1 : P 1) (h2 : P 2) (h3 : P 3) {i : Nat} (hi : i < 4) : P i :=
  match i, hi with
  | 0, _ => h0
  | 1, _ => h1
  | 2, _ => h2
  | 3, _ => h3
theorem co_dec {N : Nat} {P : Nat → Prop} [DecidablePred P] (h : (List.range N).all (fun i => decide (P i)) = true) {i : Nat} (hi : i < N) : P i := by
  have := List.all_eq_true.mp h i (List.mem_range.mpr hi)
  exact of_decide_eq_true this
theorem co_tab {α : Type} {l : List α} {d : α} {P : α → Prop} (h : ∀ a, a ∈ l → P a) {i : Nat} (hi : i < l.length) : P (l.getD i d) := by
  rw [List.getD_eq_getElem?_getD, List.getElem?_eq_getElem hi]
  exact h _ (List.getElem_mem hi)
theorem pk_mu {x : Int32} {L : Nat} (h0 : ¬ x < 0) (h : ¬ nI L ≤ x) (hL : L < 2 ^ 31) : ∃ j : Nat, j < L ∧ x = nI j ∧ x + 1 = nI (j + 1) ∧ x.toNatClampNeg = j ∧ L - (x + 1).toNatClampNeg < L - x.toNatClampNeg := by
  obtain ⟨j, hj, rfl⟩ := nI_of h0
  have hl : j < L := Nat.not_le.mp fun q => h (nI_le q hj)
  refine ⟨j, hl, rfl, nI_1 j, nI_clamp hj, ?_⟩
  rw [nI_1, nI_clamp (by omega), nI_clamp hj]
  omega
theorem op_s {α : Type} {r : Option α} {A : Prop} {B : α → Prop} {y : α} (h : r = some y) (b : B y) : (r = none → A) ∧ ∀ z, r = some z → B z :=
  ⟨fun e => (by rw [h] at e; cases e), fun z e => (by rw [h] at e; cases e; exact b)⟩
def l_holds {α : Type} (a : Nat → Option Nat) (LP : List Nat) (p : Nat → α) (c : Nat) (b : Nat → α) : Prop :=
  ∀ j, j < c → ∃ y, a j = some y ∧ y ∈ LP ∧ p y = b j
theorem l_holds_0 {α : Type} {a : Nat → Option Nat} {LP : List Nat} {p b : Nat → α} : l_holds a LP p 0 b := fun j h => absurd h (Nat.not_lt_zero j)
theorem l_in_new (LP : List Nat) (q : Nat) : q ∈ LP ++ [q] := List.mem_append.mpr (Or.inr (List.mem_singleton.mpr rfl))
def l_sum (b : Nat → Int32) : Nat → Int32
  | 0 => 0
  | k + 1 => l_sum b k + b k
theorem sb_shr0 (x : Int32) : x >>> ((0 : Int32) &&& 31) = x := by
  rw [show ((0 : Int32) &&& 31) = 0 by decide]
  simp
theorem sb_shl0 (x : Int32) : x <<< ((0 : Int32) &&& 31) = x := by
  rw [show ((0 : Int32) &&& 31) = 0 by decide]
  simp
theorem sb_cl0 : (0 : Int32).toNatClampNeg = 0 := by decide
theorem sb_m1 {p : Nat} (h : 0 < p) : nI p + (-1) = nI (p - 1) := by
  obtain ⟨q, rfl⟩ : ∃ q, p = q + 1 := ⟨p - 1, by omega⟩
  exact pk_m1 q
def sb_b (c : Nat) : Int32 := (nI c).toInt8.toInt32
theorem sb_byte : ∀ c, c < 256 → sb_b c &&& 255 = nI c ∧ ((nI c).toUInt32 % 65536).toInt32 = nI c ∧ nI c ≤ 255 := by decide +kernel
def sb_Fit (a : Nat → Int32) : Prop := ∀ j, fits .byte (.int (a j)) = true
def sb_Lat (t : Nat → Nat) (n : Nat) (a : Nat → Int32) : Prop := ∀ j, j < n → t j < 256 ∧ a j = sb_b (t j)
theorem sb_fitB (c : Nat) : fits .byte (.int (sb_b c)) = true := pk_fb _
theorem sb_fit0 : sb_Fit (fun _ => 0) := fun _ => by
  show fits .byte (.int 0) = true
  decide
theorem sb_fitU {a : Nat → Int32} {k : Nat} {x : Int32} (h : sb_Fit a) (hx : fits .byte (.int x) = true) : sb_Fit (upd a k x) := by
  intro j
  by_cases e : j = k
  · subst e
    rw [pk_us]
    exact hx
  · rw [pk_un e]
    exact h j
def sb_cat (t : Nat → Nat) (n : Nat) (s : Nat → Nat) : Nat → Nat := fun j => if j < n then t j else s (j - n)
theorem sb_cat_lo {t s : Nat → Nat} {n j : Nat} (h : j < n) : sb_cat t n s j = t j := if_pos h
theorem sb_cat_hi {t s : Nat → Nat} {n j : Nat} : sb_cat t n s (n + j) = s j := by
  show (if n + j < n then t (n + j) else s (n + j - n)) = s j
  rw [if_neg (by omega), Nat.add_sub_cancel_left]
theorem sb_latPut {t s : Nat → Nat} {n w : Nat} {a a' : Nat → Int32} (h : sb_Lat t n a) (hk : ∀ j, j < n → a' j = a j) (hs : ∀ i, i < w → s i < 256 ∧ a' (n + i) = sb_b (s i)) : sb_Lat (sb_cat t n s) (n + w) a' := by
  intro j hj
  by_cases e : j < n
  · rw [sb_cat_lo e, hk j e]
    exact h j e
  · obtain ⟨i, rfl⟩ : ∃ i, j = n + i := ⟨j - n, by omega⟩
    rw [sb_cat_hi]
    exact hs i (by omega)
theorem sb_latKeep {t : Nat → Nat} {n : Nat} {a a' : Nat → Int32} (h : sb_Lat t n a) (hk : ∀ j, j < n → a' j = a j) : sb_Lat t n a' := fun j hj => by
  rw [hk j hj]
  exact h j hj
def sb_cap (q m : Nat) : Nat := if q ≤ m then m else if 2 * m + 2 < q then q else 2 * m + 2
def sb_Room (q m mc ms : Nat) : Prop := q ≤ m ∨ (1 ≤ mc ∧ sb_cap q m ≤ ms ∧ sb_cap q m ≤ 65536)
theorem sb_cap_ge (q m : Nat) : q ≤ sb_cap q m := by
  unfold sb_cap
  split
  · omega
  · split <;> omega
theorem sb_cap_gem (q m : Nat) : m ≤ sb_cap q m := by
  unfold sb_cap
  split
  · omega
  · split <;> omega
theorem sb_cap_le {q m mc ms : Nat} (hm : m ≤ 65536) (hr : sb_Room q m mc ms) : sb_cap q m ≤ 65536 := by
  rcases hr with h | h
  · rw [sb_cap, if_pos h]
    exact hm
  · exact h.2.2
theorem sb_at {P : Int32 → Prop} {x y : Int32} (e : x = y) (h : P y) : P x := e ▸ h
def sb_dg (w : Nat) : Nat := if w < 10 then 1 else if w < 100 then 2 else if w < 1000 then 3 else if w < 10000 then 4 else if w < 100000 then 5 else if w < 1000000 then 6 else if w < 10000000 then 7 else if w < 100000000 then 8 else if w < 1000000000 then 9 else 10
def sb_dec (v : Nat) : Nat → Nat := fun i => 48 + v / 10 ^ (sb_dg v - 1 - i) % 10
theorem sb_dg_in (w : Nat) : 1 ≤ sb_dg w ∧ sb_dg w ≤ 10 := by
  unfold sb_dg
  constructor <;> (repeat' split) <;> omega
theorem sb_dg100 {w : Nat} (h : 100 ≤ w) (hw : w < 2 ^ 31) : sb_dg w = sb_dg (w / 100) + 2 := by
  rw [sb_dg, sb_dg, if_neg (show ¬ w < 10 by omega), if_neg (show ¬ w < 100 by omega)]
  by_cases h3 : w < 1000
  · rw [if_pos h3, if_pos (show w / 100 < 10 by omega)]
  rw [if_neg h3, if_neg (show ¬ w / 100 < 10 by omega)]
  by_cases h4 : w < 10000
  · rw [if_pos h4, if_pos (show w / 100 < 100 by omega)]
  rw [if_neg h4, if_neg (show ¬ w / 100 < 100 by omega)]
  by_cases h5 : w < 100000
  · rw [if_pos h5, if_pos (show w / 100 < 1000 by omega)]
  rw [if_neg h5, if_neg (show ¬ w / 100 < 1000 by omega)]
  by_cases h6 : w < 1000000
  · rw [if_pos h6, if_pos (show w / 100 < 10000 by omega)]
  rw [if_neg h6, if_neg (show ¬ w / 100 < 10000 by omega)]
  by_cases h7 : w < 10000000
  · rw [if_pos h7, if_pos (show w / 100 < 100000 by omega)]
  rw [if_neg h7, if_neg (show ¬ w / 100 < 100000 by omega)]
  by_cases h8 : w < 100000000
  · rw [if_pos h8, if_pos (show w / 100 < 1000000 by omega)]
  rw [if_neg h8, if_neg (show ¬ w / 100 < 1000000 by omega)]
  by_cases h9 : w < 1000000000
  · rw [if_pos h9, if_pos (show w / 100 < 10000000 by omega)]
  rw [if_neg h9, if_neg (show ¬ w / 100 < 10000000 by omega)]
  rw [if_pos (show w / 100 < 100000000 by omega)]
theorem sb_negT {w : Nat} (h : w < 2 ^ 31) : (-nI w).toInt = -(w : Int) := by
  rw [Int32.toInt_neg, nI_toInt h]
  exact Int.bmod_eq_of_le (by omega) (by omega)
theorem sb_nle {a b : Nat} (ha : a < 2 ^ 31) (hb : b < 2 ^ 31) : -nI a ≤ -nI b ↔ b ≤ a := by
  rw [Int32.le_iff_toInt_le, sb_negT ha, sb_negT hb]
  omega
theorem sb_nlt {a b : Nat} (ha : a < 2 ^ 31) (hb : b < 2 ^ 31) : -nI a < -nI b ↔ b < a := by
  rw [Int32.lt_iff_toInt_lt, sb_negT ha, sb_negT hb]
  omega
theorem sb_cmp {A B : Prop} {x : Int32} (v c : Nat) (f : c ≤ v → A) (g : v < c → B) (hv : v < 2 ^ 31) (hx : x = -nI c := by rfl) (hc : c < 2 ^ 31 := by omega) : (-nI v ≤ x → A) ∧ (¬ -nI v ≤ x → B) := by
  subst hx
  rw [sb_nle hv hc]
  exact ⟨f, fun z => g (by omega)⟩
theorem sb_ndiv {w : Nat} (hw : w < 2 ^ 31) : (-nI w) / 100 = -nI (w / 100) := by
  apply Int32.toInt_inj.mp
  have h100 : (100 : Int32).toInt = 100 := by decide
  rw [Int32.toInt_div, sb_negT hw, h100, sb_negT (by omega), Int.neg_tdiv, Int.tdiv_eq_ediv_of_nonneg (by omega), Int.bmod_eq_of_le (by omega) (by omega)]
  omega
theorem sb_nrem {w : Nat} (hw : w < 2 ^ 31) : (-nI (w / 100)) * 100 - (-nI w) = nI (w % 100) := by
  have h := pk_rem (a := w) (d := 100) hw (by decide) (by decide)
  rw [pk_div hw (by decide) (by decide)] at h
  rw [← h]
  show (-nI (w / 100)) * nI 100 - (-nI w) = nI w - nI (w / 100) * nI 100
  rw [Int32.neg_mul, Int32.sub_neg, Int32.add_comm, ← Int32.sub_eq_add_neg]
end
section
/-! rows on bits, shifts and unsigned numbers, to paste: each family out of a closed proof of our own, whole with what it rests on; each by itself clean at Lean in its own claim (generation 39, form 5). Take a family whole -/
/-! ===== Int32 by its bits: bt x i ===== -/
def bt (x : Int32) (i : Nat) : Bool := x.toBitVec.getLsbD i
theorem b_ext {x y : Int32} (h : ∀ i, i < 32 → bt x i = bt y i) : x = y := Int32.toBitVec_inj.mp (BitVec.eq_of_getLsbD_eq (fun i hi => h i hi))
theorem b_or (x y : Int32) (i : Nat) : bt (x ||| y) i = (bt x i || bt y i) := by unfold bt; rw [Int32.toBitVec_or, BitVec.getLsbD_or]
theorem b_and (x y : Int32) (i : Nat) : bt (x &&& y) i = (bt x i && bt y i) := by unfold bt; rw [Int32.toBitVec_and, BitVec.getLsbD_and]
theorem b_xor (x y : Int32) (i : Nat) : bt (x ^^^ y) i = (bt x i ^^ bt y i) := by unfold bt; rw [Int32.toBitVec_xor, BitVec.getLsbD_xor]
theorem b_big {x : Int32} {i : Nat} (h : 32 ≤ i) : bt x i = false := BitVec.getLsbD_of_ge _ _ h
theorem b_255 (i : Nat) : bt 255 i = decide (i < 8) := by
  rcases Nat.lt_or_ge i 32 with h | h
  · exact (by decide +kernel : ∀ i, i < 32 → bt 255 i = decide (i < 8)) i h
  · rw [b_big h, decide_eq_false (by omega)]
theorem b_65535 (i : Nat) : bt 65535 i = decide (i < 16) := by
  rcases Nat.lt_or_ge i 32 with h | h
  · exact (by decide +kernel : ∀ i, i < 32 → bt 65535 i = decide (i < 16)) i h
  · rw [b_big h, decide_eq_false (by omega)]
theorem b_m1 : ∀ i, i < 32 → bt (-1) i = true := by decide +kernel
theorem b_0 (i : Nat) : bt 0 i = false := BitVec.getLsbD_zero
theorem s_l : ∀ n, n < 32 → ((nI n &&& 31).toBitVec.smod 32).toNat = n := by decide +kernel
theorem s_u : ∀ n, n < 32 → (((nI n).toUInt32 &&& Int32.toUInt32 31).toBitVec % 32).toNat = n := by decide +kernel
theorem b_shl (n : Nat) (hn : n < 32) (x : Int32) {i : Nat} (hi : i < 32) : bt (x <<< (nI n &&& 31)) i = (decide (n ≤ i) && bt x (i - n)) := by
  unfold bt
  rw [Int32.toBitVec_shiftLeft]
  show (x.toBitVec <<< ((nI n &&& 31).toBitVec.smod 32).toNat).getLsbD i = _
  rw [s_l n hn, BitVec.getLsbD_shiftLeft]
  rcases Nat.lt_or_ge i n with h | h
  · simp [h, Nat.not_le.mpr h]
  · simp [hi, h, Nat.not_lt.mpr h]
theorem b_ushr (n : Nat) (hn : n < 32) (x : Int32) (i : Nat) : bt ((x.toUInt32 >>> ((nI n).toUInt32 &&& Int32.toUInt32 31)).toInt32) i = bt x (n + i) := by
  show (x.toUInt32 >>> ((nI n).toUInt32 &&& Int32.toUInt32 31)).toBitVec.getLsbD i = x.toUInt32.toBitVec.getLsbD (n + i)
  rw [UInt32.toBitVec_shiftRight]
  show (x.toUInt32.toBitVec >>> (((nI n).toUInt32 &&& Int32.toUInt32 31).toBitVec % 32).toNat).getLsbD i = _
  rw [s_u n hn, BitVec.getLsbD_ushiftRight]
theorem b_sshr (n : Nat) (hn : n < 32) (x : Int32) {i : Nat} (hi : i < 32) : bt (x >>> (nI n &&& 31)) i = if n + i < 32 then bt x (n + i) else bt x 31 := by
  unfold bt
  rw [Int32.toBitVec_shiftRight]
  show (x.toBitVec.sshiftRight ((nI n &&& 31).toBitVec.smod 32).toNat).getLsbD i = _
  rw [s_l n hn, BitVec.getLsbD_sshiftRight, BitVec.msb_eq_getLsbD_last]
  simp [hi]
theorem b_shl8 (x : Int32) {i : Nat} (hi : i < 32) : bt (x <<< ((8 : Int32) &&& 31)) i = (decide (8 ≤ i) && bt x (i - 8)) := b_shl 8 (by omega) x hi
theorem b_shl16 (x : Int32) {i : Nat} (hi : i < 32) : bt (x <<< ((16 : Int32) &&& 31)) i = (decide (16 ≤ i) && bt x (i - 16)) := b_shl 16 (by omega) x hi
theorem b_shl24 (x : Int32) {i : Nat} (hi : i < 32) : bt (x <<< ((24 : Int32) &&& 31)) i = (decide (24 ≤ i) && bt x (i - 24)) := b_shl 24 (by omega) x hi
theorem b_sshr8 (x : Int32) {i : Nat} (hi : i < 32) : bt (x >>> ((8 : Int32) &&& 31)) i = if 8 + i < 32 then bt x (8 + i) else bt x 31 := b_sshr 8 (by omega) x hi
/-! ===== nI under and, xor, >>>, one bit, 65535 ===== -/
theorem nx_and (a b : Nat) : nI a &&& nI b = nI (a &&& b) := by
  apply Int32.toBitVec_inj.1
  show BitVec.ofNat 32 a &&& BitVec.ofNat 32 b = BitVec.ofNat 32 (a &&& b)
  apply BitVec.eq_of_getLsbD_eq
  intro i hi
  simp [hi]
theorem nx_xor (a b : Nat) : nI a ^^^ nI b = nI (a ^^^ b) := by
  apply Int32.toBitVec_inj.1
  show BitVec.ofNat 32 a ^^^ BitVec.ofNat 32 b = BitVec.ofNat 32 (a ^^^ b)
  apply BitVec.eq_of_getLsbD_eq
  intro i hi
  simp [hi]
theorem nx_cnt : ∀ j : Fin 32, (UInt32.ofNat j.val &&& Int32.toUInt32 31).toNat % 32 = j.val := by decide +kernel
theorem nx_ush {k j : Nat} (hk : k < 65536) (hj : j < 32) : ((nI k).toUInt32 >>> ((nI j).toUInt32 &&& Int32.toUInt32 31)).toInt32 = nI (k >>> j) := by
  have hs : k >>> j ≤ k := by
    rw [Nat.shiftRight_eq_div_pow]
    exact Nat.div_le_self _ _
  have e2 : UInt32.ofNat k >>> (UInt32.ofNat j &&& Int32.toUInt32 31) = UInt32.ofNat (k >>> j) := by
    apply UInt32.toNat_inj.1
    have h1 : (UInt32.ofNat k).toNat = k := Nat.mod_eq_of_lt (by omega)
    have h2 : (UInt32.ofNat (k >>> j)).toNat = k >>> j := Nat.mod_eq_of_lt (by omega)
    rw [UInt32.toNat_shiftRight, nx_cnt ⟨j, hj⟩, h1, h2]
  show (UInt32.ofNat k >>> (UInt32.ofNat j &&& Int32.toUInt32 31)).toInt32 = _
  rw [e2]
  rfl
theorem nx_bit {k j : Nat} (hk : k < 65536) (hj : j < 16) : (((nI k).toUInt32 >>> ((nI j).toUInt32 &&& Int32.toUInt32 31)).toInt32 &&& 1) = 0 ↔ k.testBit j = false := by
  rw [nx_ush hk (by omega)]
  show nI (k >>> j) &&& nI 1 = 0 ↔ _
  rw [nx_and, Nat.and_one_is_mod, ← nI_0, nI_eq (by omega) (by omega), Nat.testBit_eq_decide_div_mod_eq, Nat.shiftRight_eq_div_pow, decide_eq_false_iff_not]
  generalize k / 2 ^ j = z
  omega
theorem nx_mod (k : Nat) : nI k &&& 65535 = nI (k % 65536) := by
  show nI k &&& nI 65535 = _
  rw [nx_and, show (65535 : Nat) = 2 ^ 16 - 1 from rfl, Nat.and_two_pow_sub_one_eq_mod]
theorem nx_m16 {k : Nat} (h : k < 65536) : nI k &&& 65535 = nI k := by rw [nx_mod, Nat.mod_eq_of_lt h]
theorem nx_mask (x : Int32) : ∃ k, k < 65536 ∧ x &&& 65535 = nI k := by
  have e : x = nI x.toBitVec.toNat := by
    apply Int32.toBitVec_inj.1
    show x.toBitVec = BitVec.ofNat 32 x.toBitVec.toNat
    simp
  refine ⟨x.toBitVec.toNat % 65536, Nat.mod_lt _ (by omega), ?_⟩
  rw [← nx_mod, ← e]
/-! ===== Int32 as a set of bits: test, set ===== -/
def nf_M (m : Int32) : Nat := 4294967296 - m.toBitVec.toNat
theorem nf_sh : ∀ l, l < 32 → ((1 : Int32) <<< (nI l &&& 31)).toBitVec = BitVec.twoPow 32 l := by decide +kernel
theorem nf_sl : ∀ l, l < 32 → (((nI l).toUInt32 &&& Int32.toUInt32 31).toBitVec % 32).toNat = l := by decide +kernel
theorem nf_tp : ∀ l, l < 32 → BitVec.twoPow 32 l ≠ 0#32 := by decide +kernel
theorem nf_bit (m : Int32) (l : Nat) (hl : l < 32) : ((m.toUInt32 >>> ((nI l).toUInt32 &&& Int32.toUInt32 31)).toInt32 &&& 1) = 0 ↔ (m &&& ((1 : Int32) <<< (nI l &&& 31))) = 0 := by
  have e : ((m.toUInt32 >>> ((nI l).toUInt32 &&& Int32.toUInt32 31)).toInt32).toBitVec = m.toBitVec >>> l := by
    show m.toBitVec >>> (((nI l).toUInt32 &&& Int32.toUInt32 31).toBitVec % 32) = m.toBitVec >>> l
    rw [BitVec.ushiftRight_eq', nf_sl l hl]
  rw [← Int32.toBitVec_inj, ← Int32.toBitVec_inj, Int32.toBitVec_and, Int32.toBitVec_and, nf_sh l hl, e, BitVec.and_twoPow]
  show (m.toBitVec >>> l &&& 1#32) = 0#32 ↔ _ = 0#32
  rw [BitVec.and_one_eq_setWidth_ofBool_getLsbD, BitVec.getLsbD_ushiftRight, Nat.add_zero]
  cases hb : m.toBitVec.getLsbD l
  · exact ⟨fun _ => by simp, fun _ => by decide⟩
  · exact ⟨fun z => absurd z (by decide), fun z => absurd ((if_pos rfl).symm.trans z) (nf_tp l hl)⟩
theorem nf_gr (m k : Int32) (h : m &&& k = 0) (hk : k ≠ 0) : nf_M (m ||| k) < nf_M m := by
  have hm := m.toBitVec.isLt
  have hm' := (m ||| k).toBitVec.isLt
  have h1 : m.toBitVec.toNat ≤ (m ||| k).toBitVec.toNat := by
    rw [Int32.toBitVec_or, BitVec.toNat_or]
    exact Nat.left_le_or
  have h2 : m.toBitVec.toNat ≠ (m ||| k).toBitVec.toNat := by
    intro e
    have e2 : m = m ||| k := Int32.toBitVec_inj.mp (BitVec.eq_of_toNat_eq e)
    apply hk
    apply Int32.toBitVec_inj.mp
    show k.toBitVec = 0#32
    apply BitVec.eq_of_getLsbD_eq
    intro i hi
    have a : m.toBitVec.getLsbD i = (m.toBitVec.getLsbD i || k.toBitVec.getLsbD i) := by rw [← BitVec.getLsbD_or, ← Int32.toBitVec_or, ← e2]
    have b : (m.toBitVec.getLsbD i && k.toBitVec.getLsbD i) = false := by
      rw [← BitVec.getLsbD_and, ← Int32.toBitVec_and, h]
      exact BitVec.getLsbD_zero
    rw [BitVec.getLsbD_zero]
    revert a b
    cases m.toBitVec.getLsbD i <;> cases k.toBitVec.getLsbD i <;> simp
  unfold nf_M
  omega
/-! ===== a byte read unsigned ===== -/
theorem bp_b (x : Int32) : x.toInt8.toInt32 &&& 255 = x &&& 255 := by
  apply Int32.toBitVec_inj.mp
  rw [Int32.toBitVec_and, Int32.toBitVec_and, Int8.toBitVec_toInt32, Int32.toBitVec_toInt8]
  apply BitVec.eq_of_getLsbD_eq
  intro i hi
  rw [BitVec.getLsbD_and, BitVec.getLsbD_and]
  have hm : ∀ i < 32, 8 ≤ i → (255 : Int32).toBitVec.getLsbD i = false := by decide
  rcases Nat.lt_or_ge i 8 with z | z
  · rw [BitVec.getLsbD_signExtend, BitVec.getLsbD_signExtend, if_pos z, if_pos hi]
    simp only [z, hi, decide_true, Bool.true_and]
  · rw [hm i hi z]; simp
/-! ===== the char cast and 65535 ===== -/
theorem em_w (v : Int32) : ∃ w : Nat, w < 65536 ∧ (v.toUInt32 % 65536).toInt32 = nI w ∧ v &&& 65535 = nI w := by
  have hr := lw_u16_r v
  have h0 : (0 : Int32).toInt = 0 := by decide
  obtain ⟨w, h1, h2⟩ := nI_of (x := lw_u16 v) (by rw [Int32.lt_iff_toInt_lt]; omega)
  have h3 : (v.toUInt32 % 65536).toInt32 = nI w := h2
  rw [h2, nI_toInt h1] at hr
  exact ⟨w, by omega, h3, by rw [← lg_i2c_mask, ← lg_i2c_nf, h3]⟩
/-! ===== Int64 as a set of bits: test, set, clear ===== -/
theorem ts_nf {x : Bool} (h : ¬ x = false) : x = true := by cases x <;> first | rfl | exact absurd rfl h
theorem ts_nt {x : Bool} (h : ¬ x = true) : x = false := by cases x <;> first | rfl | exact absurd rfl h
theorem ts_bit {w : Int64} {s : UInt64} {j : Nat} (hj : j < 64) (hs : s.toNat = j) : ((w.toUInt64 >>> s).toInt64 &&& 1) = 0 ↔ w.toBitVec.getLsbD j = false := by
  have e : (w.toUInt64 >>> s).toInt64.toBitVec = w.toBitVec >>> j := by
    apply BitVec.eq_of_toNat_eq
    show (w.toUInt64 >>> s).toNat = _
    rw [UInt64.toNat_shiftRight, hs, Nat.mod_eq_of_lt hj, BitVec.toNat_ushiftRight]
    rfl
  rw [← Int64.toBitVec_inj, Int64.toBitVec_and, e]
  show w.toBitVec >>> j &&& 1#64 = 0#64 ↔ _
  constructor
  · intro h
    have t := congrArg (fun x => x.getLsbD 0) h
    simpa using t
  · intro h
    apply BitVec.eq_of_getLsbD_eq
    intro i hi
    cases i with
    | zero => simp [h]
    | succ i => simp
theorem ts_or {w m : Int64} {j : Nat} (hj : j < 64) (hm : m.toBitVec = BitVec.twoPow 64 j) : (w ||| m) = w ↔ w.toBitVec.getLsbD j = true := by
  rw [← Int64.toBitVec_inj, Int64.toBitVec_or, hm]
  constructor
  · intro h
    have t := congrArg (fun x => x.getLsbD j) h
    simp only [BitVec.getLsbD_or, BitVec.getLsbD_twoPow] at t
    simpa [hj] using t.symm
  · intro h
    apply BitVec.eq_of_getLsbD_eq
    intro i hi
    rw [BitVec.getLsbD_or, BitVec.getLsbD_twoPow]
    by_cases e : j = i
    · subst e; rw [h, Bool.true_or]
    · simp [e]
theorem ts_and {w m : Int64} {j : Nat} (hj : j < 64) (hm : m.toBitVec = BitVec.twoPow 64 j) : (w &&& (m ^^^ (-1))) = w ↔ w.toBitVec.getLsbD j = false := by
  have ha : (-1 : Int64).toBitVec = BitVec.allOnes 64 := by decide
  rw [← Int64.toBitVec_inj, Int64.toBitVec_and, Int64.toBitVec_xor, hm, ha]
  constructor
  · intro h
    have t := congrArg (fun x => x.getLsbD j) h
    simp only [BitVec.getLsbD_and, BitVec.getLsbD_xor, BitVec.getLsbD_twoPow, BitVec.getLsbD_allOnes] at t
    simpa [hj] using t.symm
  · intro h
    apply BitVec.eq_of_getLsbD_eq
    intro i hi
    rw [BitVec.getLsbD_and, BitVec.getLsbD_xor, BitVec.getLsbD_twoPow, BitVec.getLsbD_allOnes]
    by_cases e : j = i
    · subst e; rw [h, Bool.false_and]
    · simp [e, hi]
/-! ===== lN n to 2^64: shifts, and, or, masks, one bit ===== -/
theorem wb_tb (n : Nat) : (lN n).toBitVec = BitVec.ofNat 64 n := rfl
theorem wb_inj {a b : Int64} (h : a.toBitVec = b.toBitVec) : a = b := Int64.toBitVec_inj.mp h
theorem wb_tn {n : Nat} (h : n < 2 ^ 64) : (lN n).toBitVec.toNat = n := by rw [wb_tb, BitVec.toNat_ofNat, Nat.mod_eq_of_lt h]
theorem wb_of (x : Int64) : ∃ n, n < 2 ^ 64 ∧ x = lN n := ⟨x.toBitVec.toNat, x.toBitVec.isLt, wb_inj (by rw [wb_tb]; simp)⟩
theorem wb_of32 (x : Int32) : ∃ n, n < 2 ^ 32 ∧ x = nI n := ⟨x.toBitVec.toNat, x.toBitVec.isLt, Int32.toBitVec_inj.mp (by show _ = BitVec.ofNat 32 _; simp)⟩
theorem wb_c : ∀ k, k < 64 → ((nI k).toInt64 &&& 63) = lN k := by decide +kernel
theorem wb_cu : ∀ k, k < 64 → ((nI k).toInt64.toUInt64 &&& Int64.toUInt64 63) = UInt64.ofNat k := by decide +kernel
theorem wb_sm : ∀ k, k < 64 → (BitVec.ofNat 64 k).smod 64 = BitVec.ofNat 64 k := by decide +kernel
theorem wb_pw {a b : Nat} (h : a ≤ b) : 2 ^ b = 2 ^ a * 2 ^ (b - a) := by rw [← Nat.pow_add]; congr 1; omega
theorem wb_lt2 {a b : Nat} (h : a < b) : 2 ^ a < 2 ^ b := Nat.pow_lt_pow_right (by decide) h
theorem wb_mod (n : Nat) : lN n = lN (n % 2 ^ 64) := wb_inj (by rw [wb_tb, wb_tb]; apply BitVec.eq_of_toNat_eq; rw [BitVec.toNat_ofNat, BitVec.toNat_ofNat, Nat.mod_mod])
theorem wb_shr {n k : Nat} (hn : n < 2 ^ 64) (hk : k < 64) : ((lN n).toUInt64 >>> ((nI k).toInt64.toUInt64 &&& Int64.toUInt64 63)).toInt64 = lN (n / 2 ^ k) := by
  rw [wb_cu k hk]
  apply wb_inj
  apply BitVec.eq_of_toNat_eq
  show ((lN n).toUInt64 >>> UInt64.ofNat k).toNat = (BitVec.ofNat 64 _).toNat
  have h1 : (UInt64.ofNat k).toNat = k := by
    show (BitVec.ofNat 64 k).toNat = k
    rw [BitVec.toNat_ofNat, Nat.mod_eq_of_lt (by omega)]
  have h2 : (lN n).toUInt64.toNat = n := wb_tn hn
  rw [UInt64.toNat_shiftRight, h1, h2, Nat.mod_eq_of_lt hk, Nat.shiftRight_eq_div_pow, BitVec.toNat_ofNat, Nat.mod_eq_of_lt (Nat.lt_of_le_of_lt (Nat.div_le_self _ _) hn)]
theorem wb_shl (n : Nat) {k : Nat} (hk : k < 64) : lN n <<< ((nI k).toInt64 &&& 63) = lN (n * 2 ^ k) := by
  rw [wb_c k hk]
  apply wb_inj
  rw [Int64.toBitVec_shiftLeft, wb_tb, wb_tb, wb_tb, wb_sm k hk]
  apply BitVec.eq_of_toNat_eq
  rw [BitVec.shiftLeft_eq', BitVec.toNat_shiftLeft, BitVec.toNat_ofNat, BitVec.toNat_ofNat, BitVec.toNat_ofNat, Nat.mod_eq_of_lt (show k < 2 ^ 64 by omega), Nat.shiftLeft_eq, Nat.mul_mod, Nat.mod_mod, ← Nat.mul_mod]
theorem wb_and {a b : Nat} (ha : a < 2 ^ 64) (hb : b < 2 ^ 64) : lN a &&& lN b = lN (a &&& b) := by
  apply wb_inj
  rw [Int64.toBitVec_and, wb_tb, wb_tb, wb_tb]
  apply BitVec.eq_of_toNat_eq
  rw [BitVec.toNat_and, BitVec.toNat_ofNat, BitVec.toNat_ofNat, BitVec.toNat_ofNat, Nat.mod_eq_of_lt ha, Nat.mod_eq_of_lt hb, Nat.mod_eq_of_lt (Nat.and_lt_two_pow _ hb)]
theorem wb_or {a b : Nat} (ha : a < 2 ^ 64) (hb : b < 2 ^ 64) : lN a ||| lN b = lN (a ||| b) := by
  apply wb_inj
  rw [Int64.toBitVec_or, wb_tb, wb_tb, wb_tb]
  apply BitVec.eq_of_toNat_eq
  rw [BitVec.toNat_or, BitVec.toNat_ofNat, BitVec.toNat_ofNat, BitVec.toNat_ofNat, Nat.mod_eq_of_lt ha, Nat.mod_eq_of_lt hb, Nat.mod_eq_of_lt (Nat.or_lt_two_pow ha hb)]
theorem wb_mask {n k : Nat} (hn : n < 2 ^ 64) (hk : k < 64) : lN n &&& lN (2 ^ k - 1) = lN (n % 2 ^ k) := by
  rw [wb_and hn (by have := wb_lt2 hk; omega), Nat.and_two_pow_sub_one_eq_mod]
theorem wb_a1 {n : Nat} (hn : n < 2 ^ 64) : lN n &&& 1 = lN (n % 2) := wb_mask (k := 1) hn (by decide)
theorem wb_bit {n k : Nat} (hn : n < 2 ^ 64) (hk : k < 64) : ((lN n).toUInt64 >>> ((nI k).toInt64.toUInt64 &&& Int64.toUInt64 63)).toInt64 &&& 1 = lN (n / 2 ^ k % 2) := by
  rw [wb_shr hn hk, wb_a1 (Nat.lt_of_le_of_lt (Nat.div_le_self _ _) hn)]
theorem wb_xor {q k : Nat} (hk : k < 63) (h : 2 ^ k ≤ q) (h2 : q < 2 ^ (k + 1)) : lN q ^^^ lN (2 ^ k) = lN (q - 2 ^ k) := by
  obtain ⟨r, rfl⟩ : ∃ r, q = 2 ^ k + r := ⟨q - 2 ^ k, by omega⟩
  have hr : r < 2 ^ k := by rw [Nat.pow_succ] at h2; omega
  have hx : (2 ^ k + r) ^^^ 2 ^ k = r := by
    apply Nat.eq_of_testBit_eq
    intro i
    rw [Nat.testBit_xor, Nat.testBit_two_pow]
    rcases Nat.lt_trichotomy i k with h | h | h
    · rw [Nat.testBit_two_pow_add_gt h]
      simp [show ¬ k = i by omega]
    · subst h
      rw [Nat.testBit_two_pow_add_eq]
      simp
    · have a1 : 2 ^ (k + 1) ≤ 2 ^ i := Nat.pow_le_pow_right (by decide) h
      rw [Nat.testBit_lt_two_pow (show 2 ^ k + r < 2 ^ i by omega), Nat.testBit_lt_two_pow (show r < 2 ^ i by omega)]
      simp [show ¬ k = i by omega]
  have b1 := wb_lt2 (show k + 1 < 64 by omega)
  have b2 := wb_lt2 (show k < 64 by omega)
  apply wb_inj
  rw [Int64.toBitVec_xor, wb_tb, wb_tb, wb_tb]
  apply BitVec.eq_of_toNat_eq
  rw [BitVec.toNat_xor, BitVec.toNat_ofNat, BitVec.toNat_ofNat, BitVec.toNat_ofNat, Nat.mod_eq_of_lt (by omega : 2 ^ k + r < 2 ^ 64), Nat.mod_eq_of_lt b2, hx, Nat.add_sub_cancel_left, Nat.mod_eq_of_lt (by omega)]
/-! ===== lN: masks, 'or' of parts that don't overlap is a sum ===== -/
theorem u_tn {n : Nat} (h : n < 2 ^ 64) : (UInt64.ofNat n).toNat = n := Nat.mod_eq_of_lt h
theorem g_and {a b c : Nat} (ha : a < 2 ^ 64) (hb : b < 2 ^ 64) (hc : a &&& b = c) : lN a &&& lN b = lN c := by
  subst hc
  have h : UInt64.ofNat a &&& UInt64.ofNat b = UInt64.ofNat (a &&& b) := UInt64.toNat_inj.mp (by rw [UInt64.toNat_and, u_tn ha, u_tn hb, u_tn (Nat.and_lt_two_pow a hb)])
  have h2 := congrArg UInt64.toInt64 h
  exact h2
theorem g_and1 {a : Nat} (ha : a < 2 ^ 64) : lN a &&& 1 = lN (a % 2) := g_and (b := 1) ha (by decide) (Nat.and_two_pow_sub_one_eq_mod a 1)
theorem g_mask {a s p : Nat} (hp : 2 ^ s = p) (hs : s < 64) (ha : a < 2 ^ 64) : lN a &&& lN (p - 1) = lN (a % p) := by
  subst hp
  have := Nat.pow_lt_pow_right (show 1 < 2 by decide) hs
  exact g_and ha (by omega) (Nat.and_two_pow_sub_one_eq_mod a s)
theorem g_or {k p a b : Nat} (hp : 2 ^ k = p) (ha : a < p) (h : b * p + a < 2 ^ 64) : lN (b * p) ||| lN a = lN (b * p + a) := by
  subst hp
  have h1 : b * 2 ^ k ||| a = b * 2 ^ k + a := by rw [← Nat.shiftLeft_eq, Nat.shiftLeft_add_eq_or_of_lt ha]
  have h3 : UInt64.ofNat (b * 2 ^ k) ||| UInt64.ofNat a = UInt64.ofNat (b * 2 ^ k + a) := UInt64.toNat_inj.mp (by rw [UInt64.toNat_or, u_tn (by omega), u_tn (by omega), u_tn h, h1])
  have h2 := congrArg UInt64.toInt64 h3
  exact h2
theorem g_or' {k p a b : Nat} (hp : 2 ^ k = p) (ha : a < p) (h : a + b * p < 2 ^ 64) : lN a ||| lN (b * p) = lN (a + b * p) := by
  rw [Int64.or_comm, g_or hp ha (by omega), Nat.add_comm]
theorem g_ushr {a k p : Nat} {y : UInt64} (hy : y = UInt64.ofNat k) (hk : k < 64) (hp : 2 ^ k = p) (ha : a < 2 ^ 64) : ((lN a).toUInt64 >>> y).toInt64 = lN (a / p) := by
  subst hy hp
  have h : UInt64.ofNat a >>> UInt64.ofNat k = UInt64.ofNat (a / 2 ^ k) := UInt64.toNat_inj.mp (by rw [UInt64.toNat_shiftRight, u_tn ha, u_tn (by omega), u_tn (Nat.lt_of_le_of_lt (Nat.div_le_self _ _) ha), Nat.mod_eq_of_lt hk, Nat.shiftRight_eq_div_pow])
  have h2 := congrArg UInt64.toInt64 h
  exact h2
theorem g_shl {a k p : Nat} {y : Int64} (hy : y.toBitVec.smod 64 = BitVec.ofNat 64 k) (hk : k < 64) (hp : 2 ^ k = p) (ha : a < 2 ^ 64) : lN a <<< y = lN (a * p) := by
  subst hp
  apply Int64.toBitVec_inj.mp
  rw [Int64.toBitVec_shiftLeft, hy]
  apply BitVec.eq_of_toNat_eq
  have hb : (lN a).toBitVec.toNat = a := Nat.mod_eq_of_lt ha
  have hk' : (BitVec.ofNat 64 k).toNat = k := Nat.mod_eq_of_lt (by omega)
  have h : ((lN a).toBitVec <<< BitVec.ofNat 64 k).toNat = (a * 2 ^ k) % 2 ^ 64 := by simp only [BitVec.shiftLeft_eq', BitVec.toNat_shiftLeft, hb, hk', Nat.shiftLeft_eq]
  exact h
/-! ===== lN to 2^62 under >> and >>> ===== -/
theorem pf_lI {a : Nat} (h : a < 2 ^ 63) : (lN a).toInt = (a : Int) := lg_ofNat_toInt h
theorem pf_shr {a d : Nat} {D : Int64} (hD : (D.toBitVec.smod 64).toNat = d) (h : a < 2 ^ 62) : lN a >>> D = lN (a / 2 ^ d) := by
  have hd : a / 2 ^ d ≤ a := Nat.div_le_self _ _
  apply Int64.toInt_inj.mp
  have e : (lN a >>> D).toInt = (lN a).toInt >>> d := by
    rw [← hD]
    exact BitVec.toInt_sshiftRight ..
  rw [e, Int.shiftRight_eq_div_pow, pf_lI (by omega), pf_lI (by omega)]
  rfl
theorem pf_ushr {a d : Nat} {D : UInt64} (hD : D.toNat % 64 = d) (h : a < 2 ^ 62) : ((lN a).toUInt64 >>> D).toInt64 = lN (a / 2 ^ d) := by
  have hd : a / 2 ^ d ≤ a := Nat.div_le_self _ _
  have e : (lN a).toUInt64 >>> D = UInt64.ofNat (a / 2 ^ d) := UInt64.toNat_inj.mp (by
    rw [UInt64.toNat_shiftRight, hD, Nat.shiftRight_eq_div_pow, UInt64.toNat_ofNat']
    show (UInt64.ofNat a).toNat / 2 ^ d = _
    rw [UInt64.toNat_ofNat', Nat.mod_eq_of_lt (by omega), Nat.mod_eq_of_lt (by omega)])
  rw [e]
  rfl
theorem pf_andw (x : Int64) : ∃ m, m < 2 ^ 32 ∧ x &&& 4294967295 = lN m := ⟨x.toBitVec.toNat % 2 ^ 32, Nat.mod_lt _ (by decide), Int64.toBitVec_inj.mp (BitVec.eq_of_toNat_eq (by
  show (x.toBitVec &&& 4294967295#64).toNat = (BitVec.ofNat 64 (x.toBitVec.toNat % 2 ^ 32)).toNat
  rw [BitVec.toNat_and, show (4294967295#64).toNat = 2 ^ 32 - 1 from by decide, Nat.and_two_pow_sub_one_eq_mod, BitVec.toNat_ofNat]
  omega))⟩
/-! ===== Int64 as an unsigned number: uN x ===== -/
def uN (x : Int64) : Nat := x.toUInt64.toNat
theorem uN_lt (x : Int64) : uN x < 18446744073709551616 := x.toUInt64.toNat_lt
theorem uN_inj {x y : Int64} (h : uN x = uN y) : x = y := congrArg UInt64.toInt64 (UInt64.toNat_inj.mp h)
theorem uN_add (x y : Int64) : uN (x + y) = (uN x + uN y) % 18446744073709551616 := by
  show (x.toUInt64 + y.toUInt64).toNat = _
  exact UInt64.toNat_add _ _
theorem uN_mul (x y : Int64) : uN (x * y) = (uN x * uN y) % 18446744073709551616 := by
  show (x.toUInt64 * y.toUInt64).toNat = _
  exact UInt64.toNat_mul _ _
theorem uN_shl (x : Int64) : uN (x <<< ((1 : Int32).toInt64 &&& 63)) = (2 * uN x) % 18446744073709551616 := by
  have h : (((1 : Int32).toInt64 &&& 63).toBitVec.smod 64).toNat = 1 := by decide
  show (x.toBitVec <<< (((1 : Int32).toInt64 &&& 63).toBitVec.smod 64).toNat).toNat = _
  rw [h, BitVec.toNat_shiftLeft, Nat.shiftLeft_eq, Nat.mul_comm]
  rfl
theorem uN_shr (x : Int64) (s : UInt64) : uN (x.toUInt64 >>> s).toInt64 = uN x / 2 ^ (s.toNat % 64) := by
  show (x.toUInt64 >>> s).toNat = _
  rw [UInt64.toNat_shiftRight, Nat.shiftRight_eq_div_pow]
  rfl
theorem uN_s32 (x : Int64) : uN (x.toUInt64 >>> ((32 : Int32).toInt64.toUInt64 &&& Int64.toUInt64 63)).toInt64 = uN x / 4294967296 := by
  have h : ((32 : Int32).toInt64.toUInt64 &&& Int64.toUInt64 63).toNat % 64 = 32 := by decide
  rw [uN_shr, h]
theorem uN_s63 (x : Int64) : uN (x.toUInt64 >>> ((63 : Int32).toInt64.toUInt64 &&& Int64.toUInt64 63)).toInt64 = uN x / 9223372036854775808 := by
  have h : ((63 : Int32).toInt64.toUInt64 &&& Int64.toUInt64 63).toNat % 64 = 63 := by decide
  rw [uN_shr, h]
theorem uN_lo (x : Int64) : uN (x &&& 4294967295) = uN x % 4294967296 := by
  show (x.toUInt64 &&& Int64.toUInt64 4294967295).toNat = _
  rw [UInt64.toNat_and]
  exact Nat.and_two_pow_sub_one_eq_mod _ 32
theorem uN_bit (x : Int64) : (x &&& 1) = 0 ↔ uN x % 2 = 0 := by
  have h : uN (x &&& 1) = uN x % 2 := by
    show (x.toUInt64 &&& Int64.toUInt64 1).toNat = _
    rw [UInt64.toNat_and]
    exact Nat.and_two_pow_sub_one_eq_mod _ 1
  rw [← h]
  exact ⟨fun z => by rw [z]; rfl, fun z => uN_inj (z.trans rfl)⟩
theorem uN_or {x y : Int64} (hy : uN y < 2) : uN ((x <<< ((1 : Int32).toInt64 &&& 63)) ||| y) = (2 * uN x) % 18446744073709551616 + uN y := by
  have h1 : uN ((x <<< ((1 : Int32).toInt64 &&& 63)) ||| y) = uN (x <<< ((1 : Int32).toInt64 &&& 63)) ||| uN y := UInt64.toNat_or _ _
  have h2 : (2 * uN x) % 18446744073709551616 = 2 ^ 1 * (uN x % 9223372036854775808) := by omega
  rw [h1, uN_shl, h2]
  exact (Nat.two_pow_add_eq_or_of_lt (i := 1) hy _).symm
theorem nat_xor {a : Nat} (h : a < 18446744073709551616) : a ^^^ 2 ^ 63 = (a + 9223372036854775808) % 18446744073709551616 := by
  have h1 : (a ^^^ 2 ^ 63) % 2 ^ 63 = a % 2 ^ 63 := by rw [Nat.xor_mod_two_pow, Nat.mod_self, Nat.xor_zero]
  have h2 : (a ^^^ 2 ^ 63) / 2 ^ 63 = (a / 2 ^ 63) ^^^ 1 := by rw [Nat.xor_div_two_pow, Nat.div_self (Nat.two_pow_pos 63)]
  have h3 : a / 2 ^ 63 = 0 ∨ a / 2 ^ 63 = 1 := by omega
  generalize a ^^^ 2 ^ 63 = t at h1 h2
  rcases h3 with h3 | h3
  · rw [h3] at h2
    have h2 : t / 2 ^ 63 = 1 := h2
    omega
  · rw [h3] at h2
    have h2 : t / 2 ^ 63 = 0 := h2
    omega
theorem uN_xor (x : Int64) : uN (x ^^^ (-9223372036854775808)) = (uN x + 9223372036854775808) % 18446744073709551616 := by
  rw [← nat_xor (uN_lt x)]
  exact UInt64.toNat_xor _ _
theorem uN_int (x : Int64) : x.toInt = if 2 * uN x < 18446744073709551616 then (uN x : Int) else (uN x : Int) - 18446744073709551616 := BitVec.toInt_eq_toNat_cond _
theorem uN_le (x y : Int64) : (x ^^^ (-9223372036854775808)) ≤ (y ^^^ (-9223372036854775808)) ↔ uN x ≤ uN y := by
  have hx := uN_lt x
  have hy := uN_lt y
  rw [Int64.le_iff_toInt_le, uN_int, uN_int, uN_xor, uN_xor]
  omega
theorem uN_sk (x : Int64) {k : Nat} (hk : k < 64) : uN (x.toUInt64 >>> ((nI k).toInt64.toUInt64 &&& Int64.toUInt64 63)).toInt64 = uN x / 2 ^ k := by
  have h : ((nI k).toInt64.toUInt64 &&& Int64.toUInt64 63).toNat % 64 = k := by
    rw [nI_l (by omega), UInt64.toNat_and]
    have e : (lN k).toUInt64.toNat = k % 2 ^ 64 := rfl
    have e2 : (Int64.toUInt64 63).toNat = 2 ^ 6 - 1 := by decide
    rw [e, e2, Nat.and_two_pow_sub_one_eq_mod]
    omega
  rw [uN_shr, h]
/-! ===== unsigned comparison by xor with the least ===== -/
theorem lN_bv (n : Nat) : (lN n).toBitVec = BitVec.ofNat 64 n := rfl
theorem lN_nat {n : Nat} (h : n < 2 ^ 64) : (lN n).toBitVec.toNat = n := by rw [lN_bv, BitVec.toNat_ofNat]; exact Nat.mod_eq_of_lt h
theorem lN_xor (a b : Nat) : lN a ^^^ lN b = lN (a ^^^ b) := by
  apply Int64.toBitVec_inj.mp; rw [Int64.toBitVec_xor, lN_bv, lN_bv, lN_bv]; apply BitVec.eq_of_getLsbD_eq; intro i hi; simp [BitVec.getLsbD_ofNat, Nat.testBit_xor, hi]
theorem lN_ti {m : Nat} (h : m < 2 ^ 64) : (lN m).toInt = if m < 2 ^ 63 then (m : Int) else (m : Int) - 2 ^ 64 := by
  have c := BitVec.toInt_eq_toNat_cond (lN m).toBitVec
  rw [lN_nat h] at c
  show (lN m).toBitVec.toInt = _
  rw [c]
  split <;> split <;> omega
theorem xor63 {x : Nat} (h : x < 2 ^ 63) : x ^^^ 2 ^ 63 = 2 ^ 63 + x := by
  apply Nat.eq_of_testBit_eq
  intro i
  rw [Nat.testBit_xor, Nat.testBit_two_pow]
  rcases Nat.lt_trichotomy i 63 with z | z | z
  · rw [Nat.testBit_two_pow_add_gt z, decide_eq_false (by omega)]; simp
  · subst z; rw [Nat.testBit_two_pow_add_eq]; simp
  · have hp : 2 ^ 64 ≤ 2 ^ i := Nat.pow_le_pow_right (by decide) z
    rw [Nat.testBit_lt_two_pow (show x < 2 ^ i by omega), Nat.testBit_lt_two_pow (show 2 ^ 63 + x < 2 ^ i by omega), decide_eq_false (by omega)]; rfl
theorem xorS {a : Nat} (h : a < 2 ^ 64) : (lN a ^^^ (-9223372036854775808)).toInt = (a : Int) - 2 ^ 63 := by
  rw [show (-9223372036854775808 : Int64) = lN (2 ^ 63) from by decide +kernel, lN_xor]
  rcases Nat.lt_or_ge a (2 ^ 63) with z | z
  · rw [xor63 z, lN_ti (by omega), if_neg (by omega)]; omega
  · obtain ⟨x, rfl⟩ : ∃ x, a = 2 ^ 63 + x := ⟨a - 2 ^ 63, by omega⟩
    rw [← xor63 (by omega), Nat.xor_assoc, Nat.xor_self, Nat.xor_zero, lN_ti (by omega), if_pos (by omega), xor63 (by omega)]; omega
theorem ultL {a b : Nat} (ha : a < 2 ^ 64) (hb : b < 2 ^ 64) : ((lN b ^^^ (-9223372036854775808)) ≤ (lN a ^^^ (-9223372036854775808))) ↔ b ≤ a := by
  rw [Int64.le_iff_toInt_le, xorS ha, xorS hb]; omega
/-! ===== Int64 masks of n low bits ===== -/
theorem cr_bits (W U M : BitVec 64) : ((W &&& U) &&& (U &&& (M ^^^ BitVec.allOnes 64))) = 0#64 ↔ (W &&& U) &&& M = W &&& U := by
  constructor
  · intro h
    apply BitVec.eq_of_getLsbD_eq
    intro i hi
    have e := congrArg (fun x => BitVec.getLsbD x i) h
    simp only [BitVec.getLsbD_and, BitVec.getLsbD_xor, BitVec.getLsbD_allOnes, BitVec.getLsbD_zero, hi, decide_true] at e ⊢
    revert e
    cases W.getLsbD i <;> cases U.getLsbD i <;> cases M.getLsbD i <;> decide
  · intro h
    apply BitVec.eq_of_getLsbD_eq
    intro i hi
    have e := congrArg (fun x => BitVec.getLsbD x i) h
    simp only [BitVec.getLsbD_and, BitVec.getLsbD_xor, BitVec.getLsbD_allOnes, BitVec.getLsbD_zero, hi, decide_true] at e ⊢
    revert e
    cases W.getLsbD i <;> cases U.getLsbD i <;> cases M.getLsbD i <;> decide
theorem cr_mask (w U m : Int64) (n : Nat) (hm : m.toBitVec.toNat = 2 ^ n - 1) : ((w &&& U) &&& (U &&& (m ^^^ (-1)))) = 0 ↔ (w &&& U).toBitVec.toNat < 2 ^ n := by
  have e0 : (-1 : Int64).toBitVec = BitVec.allOnes 64 := by decide
  have z0 : (0 : Int64).toBitVec = 0#64 := by decide
  rw [← Int64.toBitVec_inj, z0, Int64.toBitVec_and, Int64.toBitVec_and, Int64.toBitVec_and, Int64.toBitVec_xor, e0, cr_bits]
  generalize w.toBitVec &&& U.toBitVec = T
  rw [← BitVec.toNat_inj, BitVec.toNat_and, hm, Nat.and_two_pow_sub_one_eq_mod]
  constructor
  · intro h
    have t := Nat.mod_lt T.toNat (Nat.two_pow_pos n)
    rw [h] at t
    exact t
  · exact Nat.mod_eq_of_lt
theorem cr_shr (t : Int64) (x : UInt64) (n : Nat) (hx : x.toNat % 64 = n) : (t.toUInt64 >>> x).toInt64 = 0 ↔ t.toBitVec.toNat < 2 ^ n := by
  rw [← Int64.toBitVec_inj, ← BitVec.toNat_inj]
  show (t.toUInt64 >>> x).toNat = 0 ↔ t.toUInt64.toNat < 2 ^ n
  rw [UInt64.toNat_shiftRight, hx, Nat.shiftRight_eq_div_pow]
  constructor
  · intro h
    have d : t.toUInt64.toNat / 2 ^ n < 1 := by
      rw [h]
      decide
    have e := (Nat.div_lt_iff_lt_mul (Nat.two_pow_pos n)).mp d
    rw [Nat.one_mul] at e
    exact e
  · exact Nat.div_eq_of_lt
theorem cr_amt (s : Int64) : ∃ n, n < 64 ∧ s &&& 63 = lN n ∧ (s.toUInt64 &&& Int64.toUInt64 63).toNat % 64 = n := by
  have e : (s.toUInt64 &&& Int64.toUInt64 63).toNat = s.toUInt64.toNat % 2 ^ 6 := by
    rw [UInt64.toNat_and, show (Int64.toUInt64 63).toNat = 2 ^ 6 - 1 from by decide, Nat.and_two_pow_sub_one_eq_mod]
  refine ⟨s.toUInt64.toNat % 2 ^ 6, by omega, ?_, by omega⟩
  rw [← Int64.toBitVec_inj, ← BitVec.toNat_inj]
  show (s.toUInt64 &&& Int64.toUInt64 63).toNat = (BitVec.ofNat 64 (s.toUInt64.toNat % 2 ^ 6)).toNat
  rw [e, BitVec.toNat_ofNat]
  omega
end
section
/-! state pictures: printed by gen.py -/
abbrev xf_procedureCount (u : SX) : Int32 := u.1
abbrev xf_expressionCount (u : SX) : Int32 := u.2.1
abbrev xf_stateCount (u : SX) : Int32 := u.2.2.1
abbrev xf_changed (u : SX) : Int32 := u.2.2.2.1
abbrev xf_codeEnd (u : SX) : Int32 := u.2.2.2.2.1
abbrev xf_tickAt (u : SX) : Int32 := u.2.2.2.2.2.1
abbrev xf_here (u : SX) : Int32 := u.2.2.2.2.2.2.1
abbrev xf_stateDepth (u : SX) : Int32 := u.2.2.2.2.2.2.2.1
abbrev xf_expressionDepth (u : SX) : Int32 := u.2.2.2.2.2.2.2.2.1
abbrev xf_at (u : SX) : Int32 := u.2.2.2.2.2.2.2.2.2.1
abbrev xf_equal (u : SX) : Int32 := u.2.2.2.2.2.2.2.2.2.2.1
abbrev xf_less (u : SX) : Int32 := u.2.2.2.2.2.2.2.2.2.2.2.1
abbrev xf_halted (u : SX) : Int32 := u.2.2.2.2.2.2.2.2.2.2.2.2.1
abbrev xf_place (u : SX) : Int32 := u.2.2.2.2.2.2.2.2.2.2.2.2.2.1
abbrev xf_isRegister (u : SX) : Int32 := u.2.2.2.2.2.2.2.2.2.2.2.2.2.2.1
abbrev xf_field (u : SX) : Int32 := u.2.2.2.2.2.2.2.2.2.2.2.2.2.2.2.1
abbrev xf_stepCount (u : SX) : Int32 := u.2.2.2.2.2.2.2.2.2.2.2.2.2.2.2.2.1
abbrev xf_printedCount (u : SX) : Int32 := u.2.2.2.2.2.2.2.2.2.2.2.2.2.2.2.2.2.1
abbrev xf_parentOf (u : SX) : Nat → Int32 := u.2.2.2.2.2.2.2.2.2.2.2.2.2.2.2.2.2.2.1
abbrev xf_modesOf (u : SX) : Nat → Int32 := u.2.2.2.2.2.2.2.2.2.2.2.2.2.2.2.2.2.2.2.1
abbrev xf_bodyOf (u : SX) : Nat → Int32 := u.2.2.2.2.2.2.2.2.2.2.2.2.2.2.2.2.2.2.2.2.1
abbrev xf_expressionKind (u : SX) : Nat → Int32 := u.2.2.2.2.2.2.2.2.2.2.2.2.2.2.2.2.2.2.2.2.2.1
abbrev xf_expressionX (u : SX) : Nat → Int32 := u.2.2.2.2.2.2.2.2.2.2.2.2.2.2.2.2.2.2.2.2.2.2.1
abbrev xf_expressionY (u : SX) : Nat → Int32 := u.2.2.2.2.2.2.2.2.2.2.2.2.2.2.2.2.2.2.2.2.2.2.2.1
abbrev xf_expressionWeight (u : SX) : Nat → Int32 := u.2.2.2.2.2.2.2.2.2.2.2.2.2.2.2.2.2.2.2.2.2.2.2.2.1
abbrev xf_stateKind (u : SX) : Nat → Int32 := u.2.2.2.2.2.2.2.2.2.2.2.2.2.2.2.2.2.2.2.2.2.2.2.2.2.1
abbrev xf_stateX (u : SX) : Nat → Int32 := u.2.2.2.2.2.2.2.2.2.2.2.2.2.2.2.2.2.2.2.2.2.2.2.2.2.2.1
abbrev xf_stateY (u : SX) : Nat → Int32 := u.2.2.2.2.2.2.2.2.2.2.2.2.2.2.2.2.2.2.2.2.2.2.2.2.2.2.2.1
abbrev xf_stateZ (u : SX) : Nat → Int32 := u.2.2.2.2.2.2.2.2.2.2.2.2.2.2.2.2.2.2.2.2.2.2.2.2.2.2.2.2.1
abbrev xf_stateWeight (u : SX) : Nat → Int32 := u.2.2.2.2.2.2.2.2.2.2.2.2.2.2.2.2.2.2.2.2.2.2.2.2.2.2.2.2.2.1
abbrev xf_stateAt (u : SX) : Nat → Int32 := u.2.2.2.2.2.2.2.2.2.2.2.2.2.2.2.2.2.2.2.2.2.2.2.2.2.2.2.2.2.2.1
abbrev xf_statePhase (u : SX) : Nat → Int32 := u.2.2.2.2.2.2.2.2.2.2.2.2.2.2.2.2.2.2.2.2.2.2.2.2.2.2.2.2.2.2.2.1
abbrev xf_statePatch (u : SX) : Nat → Int32 := u.2.2.2.2.2.2.2.2.2.2.2.2.2.2.2.2.2.2.2.2.2.2.2.2.2.2.2.2.2.2.2.2.1
abbrev xf_expressionAt (u : SX) : Nat → Int32 := u.2.2.2.2.2.2.2.2.2.2.2.2.2.2.2.2.2.2.2.2.2.2.2.2.2.2.2.2.2.2.2.2.2.1
abbrev xf_expressionPhase (u : SX) : Nat → Int32 := u.2.2.2.2.2.2.2.2.2.2.2.2.2.2.2.2.2.2.2.2.2.2.2.2.2.2.2.2.2.2.2.2.2.2.1
abbrev xf_memory (u : SX) : Nat → Int32 := u.2.2.2.2.2.2.2.2.2.2.2.2.2.2.2.2.2.2.2.2.2.2.2.2.2.2.2.2.2.2.2.2.2.2.2.1
abbrev xf_register (u : SX) : Nat → Int32 := u.2.2.2.2.2.2.2.2.2.2.2.2.2.2.2.2.2.2.2.2.2.2.2.2.2.2.2.2.2.2.2.2.2.2.2.2.1
abbrev xf_locals (u : SX) : Nat → Int32 := u.2.2.2.2.2.2.2.2.2.2.2.2.2.2.2.2.2.2.2.2.2.2.2.2.2.2.2.2.2.2.2.2.2.2.2.2.2.1
abbrev xf_printedList (u : SX) : Nat → Int32 := u.2.2.2.2.2.2.2.2.2.2.2.2.2.2.2.2.2.2.2.2.2.2.2.2.2.2.2.2.2.2.2.2.2.2.2.2.2.2
abbrev yf_procedures (u : SY) : Int32 := u.1
abbrev yf_expressions (u : SY) : Int32 := u.2.1
abbrev yf_statements (u : SY) : Int32 := u.2.2.1
abbrev yf_activations (u : SY) : Int32 := u.2.2.2.1
abbrev yf_ending (u : SY) : Int32 := u.2.2.2.2.1
abbrev yf_result (u : SY) : Int32 := u.2.2.2.2.2.1
abbrev yf_steps (u : SY) : Int32 := u.2.2.2.2.2.2.1
abbrev yf_printed (u : SY) : Int32 := u.2.2.2.2.2.2.2.1
abbrev yf_parent (u : SY) : Nat → Int32 := u.2.2.2.2.2.2.2.2.1
abbrev yf_modes (u : SY) : Nat → Int32 := u.2.2.2.2.2.2.2.2.2.1
abbrev yf_bodies (u : SY) : Nat → Int32 := u.2.2.2.2.2.2.2.2.2.2.1
abbrev yf_ekind (u : SY) : Nat → Int32 := u.2.2.2.2.2.2.2.2.2.2.2.1
abbrev yf_ex (u : SY) : Nat → Int32 := u.2.2.2.2.2.2.2.2.2.2.2.2.1
abbrev yf_ey (u : SY) : Nat → Int32 := u.2.2.2.2.2.2.2.2.2.2.2.2.2.1
abbrev yf_eweight (u : SY) : Nat → Int32 := u.2.2.2.2.2.2.2.2.2.2.2.2.2.2.1
abbrev yf_skind (u : SY) : Nat → Int32 := u.2.2.2.2.2.2.2.2.2.2.2.2.2.2.2.1
abbrev yf_sx (u : SY) : Nat → Int32 := u.2.2.2.2.2.2.2.2.2.2.2.2.2.2.2.2.1
abbrev yf_sy (u : SY) : Nat → Int32 := u.2.2.2.2.2.2.2.2.2.2.2.2.2.2.2.2.2.1
abbrev yf_sz (u : SY) : Nat → Int32 := u.2.2.2.2.2.2.2.2.2.2.2.2.2.2.2.2.2.2.1
abbrev yf_sweight (u : SY) : Nat → Int32 := u.2.2.2.2.2.2.2.2.2.2.2.2.2.2.2.2.2.2.2.1
abbrev yf_look (u : SY) : Nat → Int32 := u.2.2.2.2.2.2.2.2.2.2.2.2.2.2.2.2.2.2.2.2.1
abbrev yf_node (u : SY) : Nat → Int32 := u.2.2.2.2.2.2.2.2.2.2.2.2.2.2.2.2.2.2.2.2.2.1
abbrev yf_where (u : SY) : Nat → Int32 := u.2.2.2.2.2.2.2.2.2.2.2.2.2.2.2.2.2.2.2.2.2.2.1
abbrev yf_stage (u : SY) : Nat → Int32 := u.2.2.2.2.2.2.2.2.2.2.2.2.2.2.2.2.2.2.2.2.2.2.2.1
abbrev yf_kept (u : SY) : Nat → Int32 := u.2.2.2.2.2.2.2.2.2.2.2.2.2.2.2.2.2.2.2.2.2.2.2.2.1
abbrev yf_begun (u : SY) : Nat → Int32 := u.2.2.2.2.2.2.2.2.2.2.2.2.2.2.2.2.2.2.2.2.2.2.2.2.2.1
abbrev yf_place (u : SY) : Nat → Int32 := u.2.2.2.2.2.2.2.2.2.2.2.2.2.2.2.2.2.2.2.2.2.2.2.2.2.2.1
abbrev yf_phase (u : SY) : Nat → Int32 := u.2.2.2.2.2.2.2.2.2.2.2.2.2.2.2.2.2.2.2.2.2.2.2.2.2.2.2.1
abbrev yf_procedure (u : SY) : Nat → Int32 := u.2.2.2.2.2.2.2.2.2.2.2.2.2.2.2.2.2.2.2.2.2.2.2.2.2.2.2.2.1
abbrev yf_around (u : SY) : Nat → Int32 := u.2.2.2.2.2.2.2.2.2.2.2.2.2.2.2.2.2.2.2.2.2.2.2.2.2.2.2.2.2.1
abbrev yf_variables (u : SY) : Nat → Int32 := u.2.2.2.2.2.2.2.2.2.2.2.2.2.2.2.2.2.2.2.2.2.2.2.2.2.2.2.2.2.2.1
abbrev yf_origin (u : SY) : Nat → Int32 := u.2.2.2.2.2.2.2.2.2.2.2.2.2.2.2.2.2.2.2.2.2.2.2.2.2.2.2.2.2.2.2.1
abbrev yf_out (u : SY) : Nat → Int32 := u.2.2.2.2.2.2.2.2.2.2.2.2.2.2.2.2.2.2.2.2.2.2.2.2.2.2.2.2.2.2.2.2.1
abbrev yf_last (u : SY) : Nat → Int32 := u.2.2.2.2.2.2.2.2.2.2.2.2.2.2.2.2.2.2.2.2.2.2.2.2.2.2.2.2.2.2.2.2.2
abbrev zx_m (u : SX) (ia : Int32) (ie : Int32) (il : Int32) (ih : Int32) (ip : Int32) (ir : Int32) (iq : Int32) (C : Int32) (M : Nat → Int32) (R : Nat → Int32) (O : Nat → Int32) : SX := (u.1, u.2.1, u.2.2.1, u.2.2.2.1, u.2.2.2.2.1, u.2.2.2.2.2.1, u.2.2.2.2.2.2.1, u.2.2.2.2.2.2.2.1, u.2.2.2.2.2.2.2.2.1, ia, ie, il, ih, ip, ir, iq, u.2.2.2.2.2.2.2.2.2.2.2.2.2.2.2.2.1, C, u.2.2.2.2.2.2.2.2.2.2.2.2.2.2.2.2.2.2.1, u.2.2.2.2.2.2.2.2.2.2.2.2.2.2.2.2.2.2.2.1, u.2.2.2.2.2.2.2.2.2.2.2.2.2.2.2.2.2.2.2.2.1, u.2.2.2.2.2.2.2.2.2.2.2.2.2.2.2.2.2.2.2.2.2.1, u.2.2.2.2.2.2.2.2.2.2.2.2.2.2.2.2.2.2.2.2.2.2.1, u.2.2.2.2.2.2.2.2.2.2.2.2.2.2.2.2.2.2.2.2.2.2.2.1, u.2.2.2.2.2.2.2.2.2.2.2.2.2.2.2.2.2.2.2.2.2.2.2.2.1, u.2.2.2.2.2.2.2.2.2.2.2.2.2.2.2.2.2.2.2.2.2.2.2.2.2.1, u.2.2.2.2.2.2.2.2.2.2.2.2.2.2.2.2.2.2.2.2.2.2.2.2.2.2.1, u.2.2.2.2.2.2.2.2.2.2.2.2.2.2.2.2.2.2.2.2.2.2.2.2.2.2.2.1, u.2.2.2.2.2.2.2.2.2.2.2.2.2.2.2.2.2.2.2.2.2.2.2.2.2.2.2.2.1, u.2.2.2.2.2.2.2.2.2.2.2.2.2.2.2.2.2.2.2.2.2.2.2.2.2.2.2.2.2.1, u.2.2.2.2.2.2.2.2.2.2.2.2.2.2.2.2.2.2.2.2.2.2.2.2.2.2.2.2.2.2.1, u.2.2.2.2.2.2.2.2.2.2.2.2.2.2.2.2.2.2.2.2.2.2.2.2.2.2.2.2.2.2.2.1, u.2.2.2.2.2.2.2.2.2.2.2.2.2.2.2.2.2.2.2.2.2.2.2.2.2.2.2.2.2.2.2.2.1, u.2.2.2.2.2.2.2.2.2.2.2.2.2.2.2.2.2.2.2.2.2.2.2.2.2.2.2.2.2.2.2.2.2.1, u.2.2.2.2.2.2.2.2.2.2.2.2.2.2.2.2.2.2.2.2.2.2.2.2.2.2.2.2.2.2.2.2.2.2.1, M, R, u.2.2.2.2.2.2.2.2.2.2.2.2.2.2.2.2.2.2.2.2.2.2.2.2.2.2.2.2.2.2.2.2.2.2.2.2.2.1, O)
abbrev zx_c (u : SX) (ce : Int32) (hr : Int32) (sd : Int32) (ed : Int32) (sa : Nat → Int32) (sp : Nat → Int32) (pt : Nat → Int32) (ea : Nat → Int32) (ep : Nat → Int32) (M : Nat → Int32) : SX := (u.1, u.2.1, u.2.2.1, u.2.2.2.1, ce, u.2.2.2.2.2.1, hr, sd, ed, u.2.2.2.2.2.2.2.2.2.1, u.2.2.2.2.2.2.2.2.2.2.1, u.2.2.2.2.2.2.2.2.2.2.2.1, u.2.2.2.2.2.2.2.2.2.2.2.2.1, u.2.2.2.2.2.2.2.2.2.2.2.2.2.1, u.2.2.2.2.2.2.2.2.2.2.2.2.2.2.1, u.2.2.2.2.2.2.2.2.2.2.2.2.2.2.2.1, u.2.2.2.2.2.2.2.2.2.2.2.2.2.2.2.2.1, u.2.2.2.2.2.2.2.2.2.2.2.2.2.2.2.2.2.1, u.2.2.2.2.2.2.2.2.2.2.2.2.2.2.2.2.2.2.1, u.2.2.2.2.2.2.2.2.2.2.2.2.2.2.2.2.2.2.2.1, u.2.2.2.2.2.2.2.2.2.2.2.2.2.2.2.2.2.2.2.2.1, u.2.2.2.2.2.2.2.2.2.2.2.2.2.2.2.2.2.2.2.2.2.1, u.2.2.2.2.2.2.2.2.2.2.2.2.2.2.2.2.2.2.2.2.2.2.1, u.2.2.2.2.2.2.2.2.2.2.2.2.2.2.2.2.2.2.2.2.2.2.2.1, u.2.2.2.2.2.2.2.2.2.2.2.2.2.2.2.2.2.2.2.2.2.2.2.2.1, u.2.2.2.2.2.2.2.2.2.2.2.2.2.2.2.2.2.2.2.2.2.2.2.2.2.1, u.2.2.2.2.2.2.2.2.2.2.2.2.2.2.2.2.2.2.2.2.2.2.2.2.2.2.1, u.2.2.2.2.2.2.2.2.2.2.2.2.2.2.2.2.2.2.2.2.2.2.2.2.2.2.2.1, u.2.2.2.2.2.2.2.2.2.2.2.2.2.2.2.2.2.2.2.2.2.2.2.2.2.2.2.2.1, u.2.2.2.2.2.2.2.2.2.2.2.2.2.2.2.2.2.2.2.2.2.2.2.2.2.2.2.2.2.1, sa, sp, pt, ea, ep, M, u.2.2.2.2.2.2.2.2.2.2.2.2.2.2.2.2.2.2.2.2.2.2.2.2.2.2.2.2.2.2.2.2.2.2.2.2.1, u.2.2.2.2.2.2.2.2.2.2.2.2.2.2.2.2.2.2.2.2.2.2.2.2.2.2.2.2.2.2.2.2.2.2.2.2.2.1, u.2.2.2.2.2.2.2.2.2.2.2.2.2.2.2.2.2.2.2.2.2.2.2.2.2.2.2.2.2.2.2.2.2.2.2.2.2.2)
abbrev zy_w (u : SY) (rs : Int32) (st : Int32) (en : Int32) (nd : Nat → Int32) (wh : Nat → Int32) (sg : Nat → Int32) (kp : Nat → Int32) : SY := (u.1, u.2.1, u.2.2.1, u.2.2.2.1, en, rs, st, u.2.2.2.2.2.2.2.1, u.2.2.2.2.2.2.2.2.1, u.2.2.2.2.2.2.2.2.2.1, u.2.2.2.2.2.2.2.2.2.2.1, u.2.2.2.2.2.2.2.2.2.2.2.1, u.2.2.2.2.2.2.2.2.2.2.2.2.1, u.2.2.2.2.2.2.2.2.2.2.2.2.2.1, u.2.2.2.2.2.2.2.2.2.2.2.2.2.2.1, u.2.2.2.2.2.2.2.2.2.2.2.2.2.2.2.1, u.2.2.2.2.2.2.2.2.2.2.2.2.2.2.2.2.1, u.2.2.2.2.2.2.2.2.2.2.2.2.2.2.2.2.2.1, u.2.2.2.2.2.2.2.2.2.2.2.2.2.2.2.2.2.2.1, u.2.2.2.2.2.2.2.2.2.2.2.2.2.2.2.2.2.2.2.1, u.2.2.2.2.2.2.2.2.2.2.2.2.2.2.2.2.2.2.2.2.1, nd, wh, sg, kp, u.2.2.2.2.2.2.2.2.2.2.2.2.2.2.2.2.2.2.2.2.2.2.2.2.2.1, u.2.2.2.2.2.2.2.2.2.2.2.2.2.2.2.2.2.2.2.2.2.2.2.2.2.2.1, u.2.2.2.2.2.2.2.2.2.2.2.2.2.2.2.2.2.2.2.2.2.2.2.2.2.2.2.1, u.2.2.2.2.2.2.2.2.2.2.2.2.2.2.2.2.2.2.2.2.2.2.2.2.2.2.2.2.1, u.2.2.2.2.2.2.2.2.2.2.2.2.2.2.2.2.2.2.2.2.2.2.2.2.2.2.2.2.2.1, u.2.2.2.2.2.2.2.2.2.2.2.2.2.2.2.2.2.2.2.2.2.2.2.2.2.2.2.2.2.2.1, u.2.2.2.2.2.2.2.2.2.2.2.2.2.2.2.2.2.2.2.2.2.2.2.2.2.2.2.2.2.2.2.1, u.2.2.2.2.2.2.2.2.2.2.2.2.2.2.2.2.2.2.2.2.2.2.2.2.2.2.2.2.2.2.2.2.1, u.2.2.2.2.2.2.2.2.2.2.2.2.2.2.2.2.2.2.2.2.2.2.2.2.2.2.2.2.2.2.2.2.2)
abbrev zy_m (u : SY) (na : Int32) (en : Int32) (rs : Int32) (st : Int32) (C : Int32) (nd : Nat → Int32) (wh : Nat → Int32) (sg : Nat → Int32) (kp : Nat → Int32) (bg : Nat → Int32) (pl : Nat → Int32) (ph : Nat → Int32) (pr : Nat → Int32) (ar : Nat → Int32) (va : Nat → Int32) (og : Nat → Int32) (O : Nat → Int32) : SY := (u.1, u.2.1, u.2.2.1, na, en, rs, st, C, u.2.2.2.2.2.2.2.2.1, u.2.2.2.2.2.2.2.2.2.1, u.2.2.2.2.2.2.2.2.2.2.1, u.2.2.2.2.2.2.2.2.2.2.2.1, u.2.2.2.2.2.2.2.2.2.2.2.2.1, u.2.2.2.2.2.2.2.2.2.2.2.2.2.1, u.2.2.2.2.2.2.2.2.2.2.2.2.2.2.1, u.2.2.2.2.2.2.2.2.2.2.2.2.2.2.2.1, u.2.2.2.2.2.2.2.2.2.2.2.2.2.2.2.2.1, u.2.2.2.2.2.2.2.2.2.2.2.2.2.2.2.2.2.1, u.2.2.2.2.2.2.2.2.2.2.2.2.2.2.2.2.2.2.1, u.2.2.2.2.2.2.2.2.2.2.2.2.2.2.2.2.2.2.2.1, u.2.2.2.2.2.2.2.2.2.2.2.2.2.2.2.2.2.2.2.2.1, nd, wh, sg, kp, bg, pl, ph, pr, ar, va, og, O, u.2.2.2.2.2.2.2.2.2.2.2.2.2.2.2.2.2.2.2.2.2.2.2.2.2.2.2.2.2.2.2.2.2)
abbrev zx_f (u : SX) (sc : Int32) (lo : Nat → Int32) : SX := (u.1, u.2.1, u.2.2.1, u.2.2.2.1, u.2.2.2.2.1, u.2.2.2.2.2.1, u.2.2.2.2.2.2.1, u.2.2.2.2.2.2.2.1, u.2.2.2.2.2.2.2.2.1, u.2.2.2.2.2.2.2.2.2.1, u.2.2.2.2.2.2.2.2.2.2.1, u.2.2.2.2.2.2.2.2.2.2.2.1, u.2.2.2.2.2.2.2.2.2.2.2.2.1, u.2.2.2.2.2.2.2.2.2.2.2.2.2.1, u.2.2.2.2.2.2.2.2.2.2.2.2.2.2.1, u.2.2.2.2.2.2.2.2.2.2.2.2.2.2.2.1, sc, u.2.2.2.2.2.2.2.2.2.2.2.2.2.2.2.2.2.1, u.2.2.2.2.2.2.2.2.2.2.2.2.2.2.2.2.2.2.1, u.2.2.2.2.2.2.2.2.2.2.2.2.2.2.2.2.2.2.2.1, u.2.2.2.2.2.2.2.2.2.2.2.2.2.2.2.2.2.2.2.2.1, u.2.2.2.2.2.2.2.2.2.2.2.2.2.2.2.2.2.2.2.2.2.1, u.2.2.2.2.2.2.2.2.2.2.2.2.2.2.2.2.2.2.2.2.2.2.1, u.2.2.2.2.2.2.2.2.2.2.2.2.2.2.2.2.2.2.2.2.2.2.2.1, u.2.2.2.2.2.2.2.2.2.2.2.2.2.2.2.2.2.2.2.2.2.2.2.2.1, u.2.2.2.2.2.2.2.2.2.2.2.2.2.2.2.2.2.2.2.2.2.2.2.2.2.1, u.2.2.2.2.2.2.2.2.2.2.2.2.2.2.2.2.2.2.2.2.2.2.2.2.2.2.1, u.2.2.2.2.2.2.2.2.2.2.2.2.2.2.2.2.2.2.2.2.2.2.2.2.2.2.2.1, u.2.2.2.2.2.2.2.2.2.2.2.2.2.2.2.2.2.2.2.2.2.2.2.2.2.2.2.2.1, u.2.2.2.2.2.2.2.2.2.2.2.2.2.2.2.2.2.2.2.2.2.2.2.2.2.2.2.2.2.1, u.2.2.2.2.2.2.2.2.2.2.2.2.2.2.2.2.2.2.2.2.2.2.2.2.2.2.2.2.2.2.1, u.2.2.2.2.2.2.2.2.2.2.2.2.2.2.2.2.2.2.2.2.2.2.2.2.2.2.2.2.2.2.2.1, u.2.2.2.2.2.2.2.2.2.2.2.2.2.2.2.2.2.2.2.2.2.2.2.2.2.2.2.2.2.2.2.2.1, u.2.2.2.2.2.2.2.2.2.2.2.2.2.2.2.2.2.2.2.2.2.2.2.2.2.2.2.2.2.2.2.2.2.1, u.2.2.2.2.2.2.2.2.2.2.2.2.2.2.2.2.2.2.2.2.2.2.2.2.2.2.2.2.2.2.2.2.2.2.1, u.2.2.2.2.2.2.2.2.2.2.2.2.2.2.2.2.2.2.2.2.2.2.2.2.2.2.2.2.2.2.2.2.2.2.2.1, u.2.2.2.2.2.2.2.2.2.2.2.2.2.2.2.2.2.2.2.2.2.2.2.2.2.2.2.2.2.2.2.2.2.2.2.2.1, lo, u.2.2.2.2.2.2.2.2.2.2.2.2.2.2.2.2.2.2.2.2.2.2.2.2.2.2.2.2.2.2.2.2.2.2.2.2.2.2)
abbrev zy_l (u : SY) (la : Nat → Int32) : SY := (u.1, u.2.1, u.2.2.1, u.2.2.2.1, u.2.2.2.2.1, u.2.2.2.2.2.1, u.2.2.2.2.2.2.1, u.2.2.2.2.2.2.2.1, u.2.2.2.2.2.2.2.2.1, u.2.2.2.2.2.2.2.2.2.1, u.2.2.2.2.2.2.2.2.2.2.1, u.2.2.2.2.2.2.2.2.2.2.2.1, u.2.2.2.2.2.2.2.2.2.2.2.2.1, u.2.2.2.2.2.2.2.2.2.2.2.2.2.1, u.2.2.2.2.2.2.2.2.2.2.2.2.2.2.1, u.2.2.2.2.2.2.2.2.2.2.2.2.2.2.2.1, u.2.2.2.2.2.2.2.2.2.2.2.2.2.2.2.2.1, u.2.2.2.2.2.2.2.2.2.2.2.2.2.2.2.2.2.1, u.2.2.2.2.2.2.2.2.2.2.2.2.2.2.2.2.2.2.1, u.2.2.2.2.2.2.2.2.2.2.2.2.2.2.2.2.2.2.2.1, u.2.2.2.2.2.2.2.2.2.2.2.2.2.2.2.2.2.2.2.2.1, u.2.2.2.2.2.2.2.2.2.2.2.2.2.2.2.2.2.2.2.2.2.1, u.2.2.2.2.2.2.2.2.2.2.2.2.2.2.2.2.2.2.2.2.2.2.1, u.2.2.2.2.2.2.2.2.2.2.2.2.2.2.2.2.2.2.2.2.2.2.2.1, u.2.2.2.2.2.2.2.2.2.2.2.2.2.2.2.2.2.2.2.2.2.2.2.2.1, u.2.2.2.2.2.2.2.2.2.2.2.2.2.2.2.2.2.2.2.2.2.2.2.2.2.1, u.2.2.2.2.2.2.2.2.2.2.2.2.2.2.2.2.2.2.2.2.2.2.2.2.2.2.1, u.2.2.2.2.2.2.2.2.2.2.2.2.2.2.2.2.2.2.2.2.2.2.2.2.2.2.2.1, u.2.2.2.2.2.2.2.2.2.2.2.2.2.2.2.2.2.2.2.2.2.2.2.2.2.2.2.2.1, u.2.2.2.2.2.2.2.2.2.2.2.2.2.2.2.2.2.2.2.2.2.2.2.2.2.2.2.2.2.1, u.2.2.2.2.2.2.2.2.2.2.2.2.2.2.2.2.2.2.2.2.2.2.2.2.2.2.2.2.2.2.1, u.2.2.2.2.2.2.2.2.2.2.2.2.2.2.2.2.2.2.2.2.2.2.2.2.2.2.2.2.2.2.2.1, u.2.2.2.2.2.2.2.2.2.2.2.2.2.2.2.2.2.2.2.2.2.2.2.2.2.2.2.2.2.2.2.2.1, la)
abbrev zx_t (u : SX) (ch : Int32) (tk : Int32) : SX := (u.1, u.2.1, u.2.2.1, ch, u.2.2.2.2.1, tk, u.2.2.2.2.2.2.1, u.2.2.2.2.2.2.2.1, u.2.2.2.2.2.2.2.2.1, u.2.2.2.2.2.2.2.2.2.1, u.2.2.2.2.2.2.2.2.2.2.1, u.2.2.2.2.2.2.2.2.2.2.2.1, u.2.2.2.2.2.2.2.2.2.2.2.2.1, u.2.2.2.2.2.2.2.2.2.2.2.2.2.1, u.2.2.2.2.2.2.2.2.2.2.2.2.2.2.1, u.2.2.2.2.2.2.2.2.2.2.2.2.2.2.2.1, u.2.2.2.2.2.2.2.2.2.2.2.2.2.2.2.2.1, u.2.2.2.2.2.2.2.2.2.2.2.2.2.2.2.2.2.1, u.2.2.2.2.2.2.2.2.2.2.2.2.2.2.2.2.2.2.1, u.2.2.2.2.2.2.2.2.2.2.2.2.2.2.2.2.2.2.2.1, u.2.2.2.2.2.2.2.2.2.2.2.2.2.2.2.2.2.2.2.2.1, u.2.2.2.2.2.2.2.2.2.2.2.2.2.2.2.2.2.2.2.2.2.1, u.2.2.2.2.2.2.2.2.2.2.2.2.2.2.2.2.2.2.2.2.2.2.1, u.2.2.2.2.2.2.2.2.2.2.2.2.2.2.2.2.2.2.2.2.2.2.2.1, u.2.2.2.2.2.2.2.2.2.2.2.2.2.2.2.2.2.2.2.2.2.2.2.2.1, u.2.2.2.2.2.2.2.2.2.2.2.2.2.2.2.2.2.2.2.2.2.2.2.2.2.1, u.2.2.2.2.2.2.2.2.2.2.2.2.2.2.2.2.2.2.2.2.2.2.2.2.2.2.1, u.2.2.2.2.2.2.2.2.2.2.2.2.2.2.2.2.2.2.2.2.2.2.2.2.2.2.2.1, u.2.2.2.2.2.2.2.2.2.2.2.2.2.2.2.2.2.2.2.2.2.2.2.2.2.2.2.2.1, u.2.2.2.2.2.2.2.2.2.2.2.2.2.2.2.2.2.2.2.2.2.2.2.2.2.2.2.2.2.1, u.2.2.2.2.2.2.2.2.2.2.2.2.2.2.2.2.2.2.2.2.2.2.2.2.2.2.2.2.2.2.1, u.2.2.2.2.2.2.2.2.2.2.2.2.2.2.2.2.2.2.2.2.2.2.2.2.2.2.2.2.2.2.2.1, u.2.2.2.2.2.2.2.2.2.2.2.2.2.2.2.2.2.2.2.2.2.2.2.2.2.2.2.2.2.2.2.2.1, u.2.2.2.2.2.2.2.2.2.2.2.2.2.2.2.2.2.2.2.2.2.2.2.2.2.2.2.2.2.2.2.2.2.1, u.2.2.2.2.2.2.2.2.2.2.2.2.2.2.2.2.2.2.2.2.2.2.2.2.2.2.2.2.2.2.2.2.2.2.1, u.2.2.2.2.2.2.2.2.2.2.2.2.2.2.2.2.2.2.2.2.2.2.2.2.2.2.2.2.2.2.2.2.2.2.2.1, u.2.2.2.2.2.2.2.2.2.2.2.2.2.2.2.2.2.2.2.2.2.2.2.2.2.2.2.2.2.2.2.2.2.2.2.2.1, u.2.2.2.2.2.2.2.2.2.2.2.2.2.2.2.2.2.2.2.2.2.2.2.2.2.2.2.2.2.2.2.2.2.2.2.2.2.1, u.2.2.2.2.2.2.2.2.2.2.2.2.2.2.2.2.2.2.2.2.2.2.2.2.2.2.2.2.2.2.2.2.2.2.2.2.2.2)
abbrev zy_b (u : SY) (st : Int32) (en : Int32) (va : Nat → Int32) : SY := (u.1, u.2.1, u.2.2.1, u.2.2.2.1, en, u.2.2.2.2.2.1, st, u.2.2.2.2.2.2.2.1, u.2.2.2.2.2.2.2.2.1, u.2.2.2.2.2.2.2.2.2.1, u.2.2.2.2.2.2.2.2.2.2.1, u.2.2.2.2.2.2.2.2.2.2.2.1, u.2.2.2.2.2.2.2.2.2.2.2.2.1, u.2.2.2.2.2.2.2.2.2.2.2.2.2.1, u.2.2.2.2.2.2.2.2.2.2.2.2.2.2.1, u.2.2.2.2.2.2.2.2.2.2.2.2.2.2.2.1, u.2.2.2.2.2.2.2.2.2.2.2.2.2.2.2.2.1, u.2.2.2.2.2.2.2.2.2.2.2.2.2.2.2.2.2.1, u.2.2.2.2.2.2.2.2.2.2.2.2.2.2.2.2.2.2.1, u.2.2.2.2.2.2.2.2.2.2.2.2.2.2.2.2.2.2.2.1, u.2.2.2.2.2.2.2.2.2.2.2.2.2.2.2.2.2.2.2.2.1, u.2.2.2.2.2.2.2.2.2.2.2.2.2.2.2.2.2.2.2.2.2.1, u.2.2.2.2.2.2.2.2.2.2.2.2.2.2.2.2.2.2.2.2.2.2.1, u.2.2.2.2.2.2.2.2.2.2.2.2.2.2.2.2.2.2.2.2.2.2.2.1, u.2.2.2.2.2.2.2.2.2.2.2.2.2.2.2.2.2.2.2.2.2.2.2.2.1, u.2.2.2.2.2.2.2.2.2.2.2.2.2.2.2.2.2.2.2.2.2.2.2.2.2.1, u.2.2.2.2.2.2.2.2.2.2.2.2.2.2.2.2.2.2.2.2.2.2.2.2.2.2.1, u.2.2.2.2.2.2.2.2.2.2.2.2.2.2.2.2.2.2.2.2.2.2.2.2.2.2.2.1, u.2.2.2.2.2.2.2.2.2.2.2.2.2.2.2.2.2.2.2.2.2.2.2.2.2.2.2.2.1, u.2.2.2.2.2.2.2.2.2.2.2.2.2.2.2.2.2.2.2.2.2.2.2.2.2.2.2.2.2.1, va, u.2.2.2.2.2.2.2.2.2.2.2.2.2.2.2.2.2.2.2.2.2.2.2.2.2.2.2.2.2.2.2.1, u.2.2.2.2.2.2.2.2.2.2.2.2.2.2.2.2.2.2.2.2.2.2.2.2.2.2.2.2.2.2.2.2.1, u.2.2.2.2.2.2.2.2.2.2.2.2.2.2.2.2.2.2.2.2.2.2.2.2.2.2.2.2.2.2.2.2.2)
def xr_W (post : Int32 → SX → Prop) (n : Nat) (u : SX) : Prop := wX_run_90 post n u.1 u.2.1 u.2.2.1 u.2.2.2.1 u.2.2.2.2.1 u.2.2.2.2.2.1 u.2.2.2.2.2.2.1 u.2.2.2.2.2.2.2.1 u.2.2.2.2.2.2.2.2.1 u.2.2.2.2.2.2.2.2.2.1 u.2.2.2.2.2.2.2.2.2.2.1 u.2.2.2.2.2.2.2.2.2.2.2.1 u.2.2.2.2.2.2.2.2.2.2.2.2.1 u.2.2.2.2.2.2.2.2.2.2.2.2.2.1 u.2.2.2.2.2.2.2.2.2.2.2.2.2.2.1 u.2.2.2.2.2.2.2.2.2.2.2.2.2.2.2.1 u.2.2.2.2.2.2.2.2.2.2.2.2.2.2.2.2.1 u.2.2.2.2.2.2.2.2.2.2.2.2.2.2.2.2.2.1 u.2.2.2.2.2.2.2.2.2.2.2.2.2.2.2.2.2.2.1 u.2.2.2.2.2.2.2.2.2.2.2.2.2.2.2.2.2.2.2.1 u.2.2.2.2.2.2.2.2.2.2.2.2.2.2.2.2.2.2.2.2.1 u.2.2.2.2.2.2.2.2.2.2.2.2.2.2.2.2.2.2.2.2.2.1 u.2.2.2.2.2.2.2.2.2.2.2.2.2.2.2.2.2.2.2.2.2.2.1 u.2.2.2.2.2.2.2.2.2.2.2.2.2.2.2.2.2.2.2.2.2.2.2.1 u.2.2.2.2.2.2.2.2.2.2.2.2.2.2.2.2.2.2.2.2.2.2.2.2.1 u.2.2.2.2.2.2.2.2.2.2.2.2.2.2.2.2.2.2.2.2.2.2.2.2.2.1 u.2.2.2.2.2.2.2.2.2.2.2.2.2.2.2.2.2.2.2.2.2.2.2.2.2.2.1 u.2.2.2.2.2.2.2.2.2.2.2.2.2.2.2.2.2.2.2.2.2.2.2.2.2.2.2.1 u.2.2.2.2.2.2.2.2.2.2.2.2.2.2.2.2.2.2.2.2.2.2.2.2.2.2.2.2.1 u.2.2.2.2.2.2.2.2.2.2.2.2.2.2.2.2.2.2.2.2.2.2.2.2.2.2.2.2.2.1 u.2.2.2.2.2.2.2.2.2.2.2.2.2.2.2.2.2.2.2.2.2.2.2.2.2.2.2.2.2.2.1 u.2.2.2.2.2.2.2.2.2.2.2.2.2.2.2.2.2.2.2.2.2.2.2.2.2.2.2.2.2.2.2.1 u.2.2.2.2.2.2.2.2.2.2.2.2.2.2.2.2.2.2.2.2.2.2.2.2.2.2.2.2.2.2.2.2.1 u.2.2.2.2.2.2.2.2.2.2.2.2.2.2.2.2.2.2.2.2.2.2.2.2.2.2.2.2.2.2.2.2.2.1 u.2.2.2.2.2.2.2.2.2.2.2.2.2.2.2.2.2.2.2.2.2.2.2.2.2.2.2.2.2.2.2.2.2.2.1 u.2.2.2.2.2.2.2.2.2.2.2.2.2.2.2.2.2.2.2.2.2.2.2.2.2.2.2.2.2.2.2.2.2.2.2.1 u.2.2.2.2.2.2.2.2.2.2.2.2.2.2.2.2.2.2.2.2.2.2.2.2.2.2.2.2.2.2.2.2.2.2.2.2.1 u.2.2.2.2.2.2.2.2.2.2.2.2.2.2.2.2.2.2.2.2.2.2.2.2.2.2.2.2.2.2.2.2.2.2.2.2.2.1 u.2.2.2.2.2.2.2.2.2.2.2.2.2.2.2.2.2.2.2.2.2.2.2.2.2.2.2.2.2.2.2.2.2.2.2.2.2.2
def xe_W (post : SX → Prop) (n : Nat) (u : SX) : Prop := wX_compileExpression_10 post n u.1 u.2.1 u.2.2.1 u.2.2.2.1 u.2.2.2.2.1 u.2.2.2.2.2.1 u.2.2.2.2.2.2.1 u.2.2.2.2.2.2.2.1 u.2.2.2.2.2.2.2.2.1 u.2.2.2.2.2.2.2.2.2.1 u.2.2.2.2.2.2.2.2.2.2.1 u.2.2.2.2.2.2.2.2.2.2.2.1 u.2.2.2.2.2.2.2.2.2.2.2.2.1 u.2.2.2.2.2.2.2.2.2.2.2.2.2.1 u.2.2.2.2.2.2.2.2.2.2.2.2.2.2.1 u.2.2.2.2.2.2.2.2.2.2.2.2.2.2.2.1 u.2.2.2.2.2.2.2.2.2.2.2.2.2.2.2.2.1 u.2.2.2.2.2.2.2.2.2.2.2.2.2.2.2.2.2.1 u.2.2.2.2.2.2.2.2.2.2.2.2.2.2.2.2.2.2.1 u.2.2.2.2.2.2.2.2.2.2.2.2.2.2.2.2.2.2.2.1 u.2.2.2.2.2.2.2.2.2.2.2.2.2.2.2.2.2.2.2.2.1 u.2.2.2.2.2.2.2.2.2.2.2.2.2.2.2.2.2.2.2.2.2.1 u.2.2.2.2.2.2.2.2.2.2.2.2.2.2.2.2.2.2.2.2.2.2.1 u.2.2.2.2.2.2.2.2.2.2.2.2.2.2.2.2.2.2.2.2.2.2.2.1 u.2.2.2.2.2.2.2.2.2.2.2.2.2.2.2.2.2.2.2.2.2.2.2.2.1 u.2.2.2.2.2.2.2.2.2.2.2.2.2.2.2.2.2.2.2.2.2.2.2.2.2.1 u.2.2.2.2.2.2.2.2.2.2.2.2.2.2.2.2.2.2.2.2.2.2.2.2.2.2.1 u.2.2.2.2.2.2.2.2.2.2.2.2.2.2.2.2.2.2.2.2.2.2.2.2.2.2.2.1 u.2.2.2.2.2.2.2.2.2.2.2.2.2.2.2.2.2.2.2.2.2.2.2.2.2.2.2.2.1 u.2.2.2.2.2.2.2.2.2.2.2.2.2.2.2.2.2.2.2.2.2.2.2.2.2.2.2.2.2.1 u.2.2.2.2.2.2.2.2.2.2.2.2.2.2.2.2.2.2.2.2.2.2.2.2.2.2.2.2.2.2.1 u.2.2.2.2.2.2.2.2.2.2.2.2.2.2.2.2.2.2.2.2.2.2.2.2.2.2.2.2.2.2.2.1 u.2.2.2.2.2.2.2.2.2.2.2.2.2.2.2.2.2.2.2.2.2.2.2.2.2.2.2.2.2.2.2.2.1 u.2.2.2.2.2.2.2.2.2.2.2.2.2.2.2.2.2.2.2.2.2.2.2.2.2.2.2.2.2.2.2.2.2.1 u.2.2.2.2.2.2.2.2.2.2.2.2.2.2.2.2.2.2.2.2.2.2.2.2.2.2.2.2.2.2.2.2.2.2.1 u.2.2.2.2.2.2.2.2.2.2.2.2.2.2.2.2.2.2.2.2.2.2.2.2.2.2.2.2.2.2.2.2.2.2.2.1 u.2.2.2.2.2.2.2.2.2.2.2.2.2.2.2.2.2.2.2.2.2.2.2.2.2.2.2.2.2.2.2.2.2.2.2.2.1 u.2.2.2.2.2.2.2.2.2.2.2.2.2.2.2.2.2.2.2.2.2.2.2.2.2.2.2.2.2.2.2.2.2.2.2.2.2.1 u.2.2.2.2.2.2.2.2.2.2.2.2.2.2.2.2.2.2.2.2.2.2.2.2.2.2.2.2.2.2.2.2.2.2.2.2.2.2
def xs_W (post : SX → Prop) (n : Nat) (u : SX) : Prop := wX_compileState_10 post n u.1 u.2.1 u.2.2.1 u.2.2.2.1 u.2.2.2.2.1 u.2.2.2.2.2.1 u.2.2.2.2.2.2.1 u.2.2.2.2.2.2.2.1 u.2.2.2.2.2.2.2.2.1 u.2.2.2.2.2.2.2.2.2.1 u.2.2.2.2.2.2.2.2.2.2.1 u.2.2.2.2.2.2.2.2.2.2.2.1 u.2.2.2.2.2.2.2.2.2.2.2.2.1 u.2.2.2.2.2.2.2.2.2.2.2.2.2.1 u.2.2.2.2.2.2.2.2.2.2.2.2.2.2.1 u.2.2.2.2.2.2.2.2.2.2.2.2.2.2.2.1 u.2.2.2.2.2.2.2.2.2.2.2.2.2.2.2.2.1 u.2.2.2.2.2.2.2.2.2.2.2.2.2.2.2.2.2.1 u.2.2.2.2.2.2.2.2.2.2.2.2.2.2.2.2.2.2.1 u.2.2.2.2.2.2.2.2.2.2.2.2.2.2.2.2.2.2.2.1 u.2.2.2.2.2.2.2.2.2.2.2.2.2.2.2.2.2.2.2.2.1 u.2.2.2.2.2.2.2.2.2.2.2.2.2.2.2.2.2.2.2.2.2.1 u.2.2.2.2.2.2.2.2.2.2.2.2.2.2.2.2.2.2.2.2.2.2.1 u.2.2.2.2.2.2.2.2.2.2.2.2.2.2.2.2.2.2.2.2.2.2.2.1 u.2.2.2.2.2.2.2.2.2.2.2.2.2.2.2.2.2.2.2.2.2.2.2.2.1 u.2.2.2.2.2.2.2.2.2.2.2.2.2.2.2.2.2.2.2.2.2.2.2.2.2.1 u.2.2.2.2.2.2.2.2.2.2.2.2.2.2.2.2.2.2.2.2.2.2.2.2.2.2.1 u.2.2.2.2.2.2.2.2.2.2.2.2.2.2.2.2.2.2.2.2.2.2.2.2.2.2.2.1 u.2.2.2.2.2.2.2.2.2.2.2.2.2.2.2.2.2.2.2.2.2.2.2.2.2.2.2.2.1 u.2.2.2.2.2.2.2.2.2.2.2.2.2.2.2.2.2.2.2.2.2.2.2.2.2.2.2.2.2.1 u.2.2.2.2.2.2.2.2.2.2.2.2.2.2.2.2.2.2.2.2.2.2.2.2.2.2.2.2.2.2.1 u.2.2.2.2.2.2.2.2.2.2.2.2.2.2.2.2.2.2.2.2.2.2.2.2.2.2.2.2.2.2.2.1 u.2.2.2.2.2.2.2.2.2.2.2.2.2.2.2.2.2.2.2.2.2.2.2.2.2.2.2.2.2.2.2.2.1 u.2.2.2.2.2.2.2.2.2.2.2.2.2.2.2.2.2.2.2.2.2.2.2.2.2.2.2.2.2.2.2.2.2.1 u.2.2.2.2.2.2.2.2.2.2.2.2.2.2.2.2.2.2.2.2.2.2.2.2.2.2.2.2.2.2.2.2.2.2.1 u.2.2.2.2.2.2.2.2.2.2.2.2.2.2.2.2.2.2.2.2.2.2.2.2.2.2.2.2.2.2.2.2.2.2.2.1 u.2.2.2.2.2.2.2.2.2.2.2.2.2.2.2.2.2.2.2.2.2.2.2.2.2.2.2.2.2.2.2.2.2.2.2.2.1 u.2.2.2.2.2.2.2.2.2.2.2.2.2.2.2.2.2.2.2.2.2.2.2.2.2.2.2.2.2.2.2.2.2.2.2.2.2.1 u.2.2.2.2.2.2.2.2.2.2.2.2.2.2.2.2.2.2.2.2.2.2.2.2.2.2.2.2.2.2.2.2.2.2.2.2.2.2
def yo_W (post : SY → Prop) (n : Nat) (h : Int32) (u : SY) : Prop := wY_workOut_23 post n h u.1 u.2.1 u.2.2.1 u.2.2.2.1 u.2.2.2.2.1 u.2.2.2.2.2.1 u.2.2.2.2.2.2.1 u.2.2.2.2.2.2.2.1 u.2.2.2.2.2.2.2.2.1 u.2.2.2.2.2.2.2.2.2.1 u.2.2.2.2.2.2.2.2.2.2.1 u.2.2.2.2.2.2.2.2.2.2.2.1 u.2.2.2.2.2.2.2.2.2.2.2.2.1 u.2.2.2.2.2.2.2.2.2.2.2.2.2.1 u.2.2.2.2.2.2.2.2.2.2.2.2.2.2.1 u.2.2.2.2.2.2.2.2.2.2.2.2.2.2.2.1 u.2.2.2.2.2.2.2.2.2.2.2.2.2.2.2.2.1 u.2.2.2.2.2.2.2.2.2.2.2.2.2.2.2.2.2.1 u.2.2.2.2.2.2.2.2.2.2.2.2.2.2.2.2.2.2.1 u.2.2.2.2.2.2.2.2.2.2.2.2.2.2.2.2.2.2.2.1 u.2.2.2.2.2.2.2.2.2.2.2.2.2.2.2.2.2.2.2.2.1 u.2.2.2.2.2.2.2.2.2.2.2.2.2.2.2.2.2.2.2.2.2.1 u.2.2.2.2.2.2.2.2.2.2.2.2.2.2.2.2.2.2.2.2.2.2.1 u.2.2.2.2.2.2.2.2.2.2.2.2.2.2.2.2.2.2.2.2.2.2.2.1 u.2.2.2.2.2.2.2.2.2.2.2.2.2.2.2.2.2.2.2.2.2.2.2.2.1 u.2.2.2.2.2.2.2.2.2.2.2.2.2.2.2.2.2.2.2.2.2.2.2.2.2.1 u.2.2.2.2.2.2.2.2.2.2.2.2.2.2.2.2.2.2.2.2.2.2.2.2.2.2.1 u.2.2.2.2.2.2.2.2.2.2.2.2.2.2.2.2.2.2.2.2.2.2.2.2.2.2.2.1 u.2.2.2.2.2.2.2.2.2.2.2.2.2.2.2.2.2.2.2.2.2.2.2.2.2.2.2.2.1 u.2.2.2.2.2.2.2.2.2.2.2.2.2.2.2.2.2.2.2.2.2.2.2.2.2.2.2.2.2.1 u.2.2.2.2.2.2.2.2.2.2.2.2.2.2.2.2.2.2.2.2.2.2.2.2.2.2.2.2.2.2.1 u.2.2.2.2.2.2.2.2.2.2.2.2.2.2.2.2.2.2.2.2.2.2.2.2.2.2.2.2.2.2.2.1 u.2.2.2.2.2.2.2.2.2.2.2.2.2.2.2.2.2.2.2.2.2.2.2.2.2.2.2.2.2.2.2.2.1 u.2.2.2.2.2.2.2.2.2.2.2.2.2.2.2.2.2.2.2.2.2.2.2.2.2.2.2.2.2.2.2.2.2
def yd_W (post : Int32 → Prop) (x2 : Int32) (u : SY) (n : Nat) (x3 x4 : Int32) : Prop := wY_find_5 post x2 u.1 u.2.1 u.2.2.1 u.2.2.2.1 u.2.2.2.2.1 u.2.2.2.2.2.1 u.2.2.2.2.2.2.1 u.2.2.2.2.2.2.2.1 u.2.2.2.2.2.2.2.2.1 u.2.2.2.2.2.2.2.2.2.1 u.2.2.2.2.2.2.2.2.2.2.1 u.2.2.2.2.2.2.2.2.2.2.2.1 u.2.2.2.2.2.2.2.2.2.2.2.2.1 u.2.2.2.2.2.2.2.2.2.2.2.2.2.1 u.2.2.2.2.2.2.2.2.2.2.2.2.2.2.1 u.2.2.2.2.2.2.2.2.2.2.2.2.2.2.2.1 u.2.2.2.2.2.2.2.2.2.2.2.2.2.2.2.2.1 u.2.2.2.2.2.2.2.2.2.2.2.2.2.2.2.2.2.1 u.2.2.2.2.2.2.2.2.2.2.2.2.2.2.2.2.2.2.1 u.2.2.2.2.2.2.2.2.2.2.2.2.2.2.2.2.2.2.2.1 u.2.2.2.2.2.2.2.2.2.2.2.2.2.2.2.2.2.2.2.2.1 u.2.2.2.2.2.2.2.2.2.2.2.2.2.2.2.2.2.2.2.2.2.1 u.2.2.2.2.2.2.2.2.2.2.2.2.2.2.2.2.2.2.2.2.2.2.1 u.2.2.2.2.2.2.2.2.2.2.2.2.2.2.2.2.2.2.2.2.2.2.2.1 u.2.2.2.2.2.2.2.2.2.2.2.2.2.2.2.2.2.2.2.2.2.2.2.2.1 u.2.2.2.2.2.2.2.2.2.2.2.2.2.2.2.2.2.2.2.2.2.2.2.2.2.1 u.2.2.2.2.2.2.2.2.2.2.2.2.2.2.2.2.2.2.2.2.2.2.2.2.2.2.1 u.2.2.2.2.2.2.2.2.2.2.2.2.2.2.2.2.2.2.2.2.2.2.2.2.2.2.2.1 u.2.2.2.2.2.2.2.2.2.2.2.2.2.2.2.2.2.2.2.2.2.2.2.2.2.2.2.2.1 u.2.2.2.2.2.2.2.2.2.2.2.2.2.2.2.2.2.2.2.2.2.2.2.2.2.2.2.2.2.1 u.2.2.2.2.2.2.2.2.2.2.2.2.2.2.2.2.2.2.2.2.2.2.2.2.2.2.2.2.2.2.1 u.2.2.2.2.2.2.2.2.2.2.2.2.2.2.2.2.2.2.2.2.2.2.2.2.2.2.2.2.2.2.2.1 u.2.2.2.2.2.2.2.2.2.2.2.2.2.2.2.2.2.2.2.2.2.2.2.2.2.2.2.2.2.2.2.2.1 u.2.2.2.2.2.2.2.2.2.2.2.2.2.2.2.2.2.2.2.2.2.2.2.2.2.2.2.2.2.2.2.2.2 n x3 x4
def yb_W (post : SY → Prop) (x3 : Int32) (n : Nat) (x4 x5 : Int32) (u : SY) : Prop := wY_become_14 post x3 n x4 x5 u.1 u.2.1 u.2.2.1 u.2.2.2.1 u.2.2.2.2.1 u.2.2.2.2.2.1 u.2.2.2.2.2.2.1 u.2.2.2.2.2.2.2.1 u.2.2.2.2.2.2.2.2.1 u.2.2.2.2.2.2.2.2.2.1 u.2.2.2.2.2.2.2.2.2.2.1 u.2.2.2.2.2.2.2.2.2.2.2.1 u.2.2.2.2.2.2.2.2.2.2.2.2.1 u.2.2.2.2.2.2.2.2.2.2.2.2.2.1 u.2.2.2.2.2.2.2.2.2.2.2.2.2.2.1 u.2.2.2.2.2.2.2.2.2.2.2.2.2.2.2.1 u.2.2.2.2.2.2.2.2.2.2.2.2.2.2.2.2.1 u.2.2.2.2.2.2.2.2.2.2.2.2.2.2.2.2.2.1 u.2.2.2.2.2.2.2.2.2.2.2.2.2.2.2.2.2.2.1 u.2.2.2.2.2.2.2.2.2.2.2.2.2.2.2.2.2.2.2.1 u.2.2.2.2.2.2.2.2.2.2.2.2.2.2.2.2.2.2.2.2.1 u.2.2.2.2.2.2.2.2.2.2.2.2.2.2.2.2.2.2.2.2.2.1 u.2.2.2.2.2.2.2.2.2.2.2.2.2.2.2.2.2.2.2.2.2.2.1 u.2.2.2.2.2.2.2.2.2.2.2.2.2.2.2.2.2.2.2.2.2.2.2.1 u.2.2.2.2.2.2.2.2.2.2.2.2.2.2.2.2.2.2.2.2.2.2.2.2.1 u.2.2.2.2.2.2.2.2.2.2.2.2.2.2.2.2.2.2.2.2.2.2.2.2.2.1 u.2.2.2.2.2.2.2.2.2.2.2.2.2.2.2.2.2.2.2.2.2.2.2.2.2.2.1 u.2.2.2.2.2.2.2.2.2.2.2.2.2.2.2.2.2.2.2.2.2.2.2.2.2.2.2.1 u.2.2.2.2.2.2.2.2.2.2.2.2.2.2.2.2.2.2.2.2.2.2.2.2.2.2.2.2.1 u.2.2.2.2.2.2.2.2.2.2.2.2.2.2.2.2.2.2.2.2.2.2.2.2.2.2.2.2.2.1 u.2.2.2.2.2.2.2.2.2.2.2.2.2.2.2.2.2.2.2.2.2.2.2.2.2.2.2.2.2.2.1 u.2.2.2.2.2.2.2.2.2.2.2.2.2.2.2.2.2.2.2.2.2.2.2.2.2.2.2.2.2.2.2.1 u.2.2.2.2.2.2.2.2.2.2.2.2.2.2.2.2.2.2.2.2.2.2.2.2.2.2.2.2.2.2.2.2.1 u.2.2.2.2.2.2.2.2.2.2.2.2.2.2.2.2.2.2.2.2.2.2.2.2.2.2.2.2.2.2.2.2.2
def yr_W (post : Int32 → SY → Prop) (n : Nat) (h : Int32) (u : SY) : Prop := wY_run_56 post n h u.1 u.2.1 u.2.2.1 u.2.2.2.1 u.2.2.2.2.1 u.2.2.2.2.2.1 u.2.2.2.2.2.2.1 u.2.2.2.2.2.2.2.1 u.2.2.2.2.2.2.2.2.1 u.2.2.2.2.2.2.2.2.2.1 u.2.2.2.2.2.2.2.2.2.2.1 u.2.2.2.2.2.2.2.2.2.2.2.1 u.2.2.2.2.2.2.2.2.2.2.2.2.1 u.2.2.2.2.2.2.2.2.2.2.2.2.2.1 u.2.2.2.2.2.2.2.2.2.2.2.2.2.2.1 u.2.2.2.2.2.2.2.2.2.2.2.2.2.2.2.1 u.2.2.2.2.2.2.2.2.2.2.2.2.2.2.2.2.1 u.2.2.2.2.2.2.2.2.2.2.2.2.2.2.2.2.2.1 u.2.2.2.2.2.2.2.2.2.2.2.2.2.2.2.2.2.2.1 u.2.2.2.2.2.2.2.2.2.2.2.2.2.2.2.2.2.2.2.1 u.2.2.2.2.2.2.2.2.2.2.2.2.2.2.2.2.2.2.2.2.1 u.2.2.2.2.2.2.2.2.2.2.2.2.2.2.2.2.2.2.2.2.2.1 u.2.2.2.2.2.2.2.2.2.2.2.2.2.2.2.2.2.2.2.2.2.2.1 u.2.2.2.2.2.2.2.2.2.2.2.2.2.2.2.2.2.2.2.2.2.2.2.1 u.2.2.2.2.2.2.2.2.2.2.2.2.2.2.2.2.2.2.2.2.2.2.2.2.1 u.2.2.2.2.2.2.2.2.2.2.2.2.2.2.2.2.2.2.2.2.2.2.2.2.2.1 u.2.2.2.2.2.2.2.2.2.2.2.2.2.2.2.2.2.2.2.2.2.2.2.2.2.2.1 u.2.2.2.2.2.2.2.2.2.2.2.2.2.2.2.2.2.2.2.2.2.2.2.2.2.2.2.1 u.2.2.2.2.2.2.2.2.2.2.2.2.2.2.2.2.2.2.2.2.2.2.2.2.2.2.2.2.1 u.2.2.2.2.2.2.2.2.2.2.2.2.2.2.2.2.2.2.2.2.2.2.2.2.2.2.2.2.2.1 u.2.2.2.2.2.2.2.2.2.2.2.2.2.2.2.2.2.2.2.2.2.2.2.2.2.2.2.2.2.2.1 u.2.2.2.2.2.2.2.2.2.2.2.2.2.2.2.2.2.2.2.2.2.2.2.2.2.2.2.2.2.2.2.1 u.2.2.2.2.2.2.2.2.2.2.2.2.2.2.2.2.2.2.2.2.2.2.2.2.2.2.2.2.2.2.2.2.1 u.2.2.2.2.2.2.2.2.2.2.2.2.2.2.2.2.2.2.2.2.2.2.2.2.2.2.2.2.2.2.2.2.2
def yr_E (post : Int32 → SY → Prop) (u : SY) : Prop := ∃ n, wY_run_78 post u.1 u.2.1 u.2.2.1 u.2.2.2.1 u.2.2.2.2.1 u.2.2.2.2.2.1 u.2.2.2.2.2.2.1 u.2.2.2.2.2.2.2.1 n 0 u.2.2.2.2.2.2.2.2.1 u.2.2.2.2.2.2.2.2.2.1 u.2.2.2.2.2.2.2.2.2.2.1 u.2.2.2.2.2.2.2.2.2.2.2.1 u.2.2.2.2.2.2.2.2.2.2.2.2.1 u.2.2.2.2.2.2.2.2.2.2.2.2.2.1 u.2.2.2.2.2.2.2.2.2.2.2.2.2.2.1 u.2.2.2.2.2.2.2.2.2.2.2.2.2.2.2.1 u.2.2.2.2.2.2.2.2.2.2.2.2.2.2.2.2.1 u.2.2.2.2.2.2.2.2.2.2.2.2.2.2.2.2.2.1 u.2.2.2.2.2.2.2.2.2.2.2.2.2.2.2.2.2.2.1 u.2.2.2.2.2.2.2.2.2.2.2.2.2.2.2.2.2.2.2.1 u.2.2.2.2.2.2.2.2.2.2.2.2.2.2.2.2.2.2.2.2.1 u.2.2.2.2.2.2.2.2.2.2.2.2.2.2.2.2.2.2.2.2.2.1 u.2.2.2.2.2.2.2.2.2.2.2.2.2.2.2.2.2.2.2.2.2.2.1 u.2.2.2.2.2.2.2.2.2.2.2.2.2.2.2.2.2.2.2.2.2.2.2.1 u.2.2.2.2.2.2.2.2.2.2.2.2.2.2.2.2.2.2.2.2.2.2.2.2.1 u.2.2.2.2.2.2.2.2.2.2.2.2.2.2.2.2.2.2.2.2.2.2.2.2.2.1 u.2.2.2.2.2.2.2.2.2.2.2.2.2.2.2.2.2.2.2.2.2.2.2.2.2.2.1 u.2.2.2.2.2.2.2.2.2.2.2.2.2.2.2.2.2.2.2.2.2.2.2.2.2.2.2.1 u.2.2.2.2.2.2.2.2.2.2.2.2.2.2.2.2.2.2.2.2.2.2.2.2.2.2.2.2.1 u.2.2.2.2.2.2.2.2.2.2.2.2.2.2.2.2.2.2.2.2.2.2.2.2.2.2.2.2.2.1 u.2.2.2.2.2.2.2.2.2.2.2.2.2.2.2.2.2.2.2.2.2.2.2.2.2.2.2.2.2.2.1 u.2.2.2.2.2.2.2.2.2.2.2.2.2.2.2.2.2.2.2.2.2.2.2.2.2.2.2.2.2.2.2.1 u.2.2.2.2.2.2.2.2.2.2.2.2.2.2.2.2.2.2.2.2.2.2.2.2.2.2.2.2.2.2.2.2.1 u.2.2.2.2.2.2.2.2.2.2.2.2.2.2.2.2.2.2.2.2.2.2.2.2.2.2.2.2.2.2.2.2.2
def xw_W (post : Int32 → SX → Prop) (n : Nat) (x1 : Int32) (u : SX) : Prop := wX_run_35 post n x1 u.1 u.2.1 u.2.2.1 u.2.2.2.1 u.2.2.2.2.1 u.2.2.2.2.2.1 u.2.2.2.2.2.2.1 u.2.2.2.2.2.2.2.1 u.2.2.2.2.2.2.2.2.1 u.2.2.2.2.2.2.2.2.2.1 u.2.2.2.2.2.2.2.2.2.2.1 u.2.2.2.2.2.2.2.2.2.2.2.1 u.2.2.2.2.2.2.2.2.2.2.2.2.1 u.2.2.2.2.2.2.2.2.2.2.2.2.2.1 u.2.2.2.2.2.2.2.2.2.2.2.2.2.2.1 u.2.2.2.2.2.2.2.2.2.2.2.2.2.2.2.1 u.2.2.2.2.2.2.2.2.2.2.2.2.2.2.2.2.1 u.2.2.2.2.2.2.2.2.2.2.2.2.2.2.2.2.2.1 u.2.2.2.2.2.2.2.2.2.2.2.2.2.2.2.2.2.2.1 u.2.2.2.2.2.2.2.2.2.2.2.2.2.2.2.2.2.2.2.1 u.2.2.2.2.2.2.2.2.2.2.2.2.2.2.2.2.2.2.2.2.1 u.2.2.2.2.2.2.2.2.2.2.2.2.2.2.2.2.2.2.2.2.2.1 u.2.2.2.2.2.2.2.2.2.2.2.2.2.2.2.2.2.2.2.2.2.2.1 u.2.2.2.2.2.2.2.2.2.2.2.2.2.2.2.2.2.2.2.2.2.2.2.1 u.2.2.2.2.2.2.2.2.2.2.2.2.2.2.2.2.2.2.2.2.2.2.2.2.1 u.2.2.2.2.2.2.2.2.2.2.2.2.2.2.2.2.2.2.2.2.2.2.2.2.2.1 u.2.2.2.2.2.2.2.2.2.2.2.2.2.2.2.2.2.2.2.2.2.2.2.2.2.2.1 u.2.2.2.2.2.2.2.2.2.2.2.2.2.2.2.2.2.2.2.2.2.2.2.2.2.2.2.1 u.2.2.2.2.2.2.2.2.2.2.2.2.2.2.2.2.2.2.2.2.2.2.2.2.2.2.2.2.1 u.2.2.2.2.2.2.2.2.2.2.2.2.2.2.2.2.2.2.2.2.2.2.2.2.2.2.2.2.2.1 u.2.2.2.2.2.2.2.2.2.2.2.2.2.2.2.2.2.2.2.2.2.2.2.2.2.2.2.2.2.2.1 u.2.2.2.2.2.2.2.2.2.2.2.2.2.2.2.2.2.2.2.2.2.2.2.2.2.2.2.2.2.2.2.1 u.2.2.2.2.2.2.2.2.2.2.2.2.2.2.2.2.2.2.2.2.2.2.2.2.2.2.2.2.2.2.2.2.1 u.2.2.2.2.2.2.2.2.2.2.2.2.2.2.2.2.2.2.2.2.2.2.2.2.2.2.2.2.2.2.2.2.2.1 u.2.2.2.2.2.2.2.2.2.2.2.2.2.2.2.2.2.2.2.2.2.2.2.2.2.2.2.2.2.2.2.2.2.2.1 u.2.2.2.2.2.2.2.2.2.2.2.2.2.2.2.2.2.2.2.2.2.2.2.2.2.2.2.2.2.2.2.2.2.2.2.1 u.2.2.2.2.2.2.2.2.2.2.2.2.2.2.2.2.2.2.2.2.2.2.2.2.2.2.2.2.2.2.2.2.2.2.2.2.1 u.2.2.2.2.2.2.2.2.2.2.2.2.2.2.2.2.2.2.2.2.2.2.2.2.2.2.2.2.2.2.2.2.2.2.2.2.2.1 u.2.2.2.2.2.2.2.2.2.2.2.2.2.2.2.2.2.2.2.2.2.2.2.2.2.2.2.2.2.2.2.2.2.2.2.2.2.2
def xl_W (post : Int32 → SX → Prop) (n : Nat) (x1 : Int32) (u : SX) : Prop := wX_run_115 post u.1 u.2.1 u.2.2.1 u.2.2.2.1 u.2.2.2.2.1 u.2.2.2.2.2.1 u.2.2.2.2.2.2.1 u.2.2.2.2.2.2.2.1 u.2.2.2.2.2.2.2.2.1 u.2.2.2.2.2.2.2.2.2.1 u.2.2.2.2.2.2.2.2.2.2.1 u.2.2.2.2.2.2.2.2.2.2.2.1 u.2.2.2.2.2.2.2.2.2.2.2.2.1 u.2.2.2.2.2.2.2.2.2.2.2.2.2.1 u.2.2.2.2.2.2.2.2.2.2.2.2.2.2.1 u.2.2.2.2.2.2.2.2.2.2.2.2.2.2.2.1 u.2.2.2.2.2.2.2.2.2.2.2.2.2.2.2.2.1 u.2.2.2.2.2.2.2.2.2.2.2.2.2.2.2.2.2.1 n x1 u.2.2.2.2.2.2.2.2.2.2.2.2.2.2.2.2.2.2.1 u.2.2.2.2.2.2.2.2.2.2.2.2.2.2.2.2.2.2.2.1 u.2.2.2.2.2.2.2.2.2.2.2.2.2.2.2.2.2.2.2.2.1 u.2.2.2.2.2.2.2.2.2.2.2.2.2.2.2.2.2.2.2.2.2.1 u.2.2.2.2.2.2.2.2.2.2.2.2.2.2.2.2.2.2.2.2.2.2.1 u.2.2.2.2.2.2.2.2.2.2.2.2.2.2.2.2.2.2.2.2.2.2.2.1 u.2.2.2.2.2.2.2.2.2.2.2.2.2.2.2.2.2.2.2.2.2.2.2.2.1 u.2.2.2.2.2.2.2.2.2.2.2.2.2.2.2.2.2.2.2.2.2.2.2.2.2.1 u.2.2.2.2.2.2.2.2.2.2.2.2.2.2.2.2.2.2.2.2.2.2.2.2.2.2.1 u.2.2.2.2.2.2.2.2.2.2.2.2.2.2.2.2.2.2.2.2.2.2.2.2.2.2.2.1 u.2.2.2.2.2.2.2.2.2.2.2.2.2.2.2.2.2.2.2.2.2.2.2.2.2.2.2.2.1 u.2.2.2.2.2.2.2.2.2.2.2.2.2.2.2.2.2.2.2.2.2.2.2.2.2.2.2.2.2.1 u.2.2.2.2.2.2.2.2.2.2.2.2.2.2.2.2.2.2.2.2.2.2.2.2.2.2.2.2.2.2.1 u.2.2.2.2.2.2.2.2.2.2.2.2.2.2.2.2.2.2.2.2.2.2.2.2.2.2.2.2.2.2.2.1 u.2.2.2.2.2.2.2.2.2.2.2.2.2.2.2.2.2.2.2.2.2.2.2.2.2.2.2.2.2.2.2.2.1 u.2.2.2.2.2.2.2.2.2.2.2.2.2.2.2.2.2.2.2.2.2.2.2.2.2.2.2.2.2.2.2.2.2.1 u.2.2.2.2.2.2.2.2.2.2.2.2.2.2.2.2.2.2.2.2.2.2.2.2.2.2.2.2.2.2.2.2.2.2.1 u.2.2.2.2.2.2.2.2.2.2.2.2.2.2.2.2.2.2.2.2.2.2.2.2.2.2.2.2.2.2.2.2.2.2.2.1 u.2.2.2.2.2.2.2.2.2.2.2.2.2.2.2.2.2.2.2.2.2.2.2.2.2.2.2.2.2.2.2.2.2.2.2.2.1 u.2.2.2.2.2.2.2.2.2.2.2.2.2.2.2.2.2.2.2.2.2.2.2.2.2.2.2.2.2.2.2.2.2.2.2.2.2.1 u.2.2.2.2.2.2.2.2.2.2.2.2.2.2.2.2.2.2.2.2.2.2.2.2.2.2.2.2.2.2.2.2.2.2.2.2.2.2
def yl_W (post : Int32 → SY → Prop) (n : Nat) (x2 : Int32) (u : SY) : Prop := wY_run_78 post u.1 u.2.1 u.2.2.1 u.2.2.2.1 u.2.2.2.2.1 u.2.2.2.2.2.1 u.2.2.2.2.2.2.1 u.2.2.2.2.2.2.2.1 n x2 u.2.2.2.2.2.2.2.2.1 u.2.2.2.2.2.2.2.2.2.1 u.2.2.2.2.2.2.2.2.2.2.1 u.2.2.2.2.2.2.2.2.2.2.2.1 u.2.2.2.2.2.2.2.2.2.2.2.2.1 u.2.2.2.2.2.2.2.2.2.2.2.2.2.1 u.2.2.2.2.2.2.2.2.2.2.2.2.2.2.1 u.2.2.2.2.2.2.2.2.2.2.2.2.2.2.2.1 u.2.2.2.2.2.2.2.2.2.2.2.2.2.2.2.2.1 u.2.2.2.2.2.2.2.2.2.2.2.2.2.2.2.2.2.1 u.2.2.2.2.2.2.2.2.2.2.2.2.2.2.2.2.2.2.1 u.2.2.2.2.2.2.2.2.2.2.2.2.2.2.2.2.2.2.2.1 u.2.2.2.2.2.2.2.2.2.2.2.2.2.2.2.2.2.2.2.2.1 u.2.2.2.2.2.2.2.2.2.2.2.2.2.2.2.2.2.2.2.2.2.1 u.2.2.2.2.2.2.2.2.2.2.2.2.2.2.2.2.2.2.2.2.2.2.1 u.2.2.2.2.2.2.2.2.2.2.2.2.2.2.2.2.2.2.2.2.2.2.2.1 u.2.2.2.2.2.2.2.2.2.2.2.2.2.2.2.2.2.2.2.2.2.2.2.2.1 u.2.2.2.2.2.2.2.2.2.2.2.2.2.2.2.2.2.2.2.2.2.2.2.2.2.1 u.2.2.2.2.2.2.2.2.2.2.2.2.2.2.2.2.2.2.2.2.2.2.2.2.2.2.1 u.2.2.2.2.2.2.2.2.2.2.2.2.2.2.2.2.2.2.2.2.2.2.2.2.2.2.2.1 u.2.2.2.2.2.2.2.2.2.2.2.2.2.2.2.2.2.2.2.2.2.2.2.2.2.2.2.2.1 u.2.2.2.2.2.2.2.2.2.2.2.2.2.2.2.2.2.2.2.2.2.2.2.2.2.2.2.2.2.1 u.2.2.2.2.2.2.2.2.2.2.2.2.2.2.2.2.2.2.2.2.2.2.2.2.2.2.2.2.2.2.1 u.2.2.2.2.2.2.2.2.2.2.2.2.2.2.2.2.2.2.2.2.2.2.2.2.2.2.2.2.2.2.2.1 u.2.2.2.2.2.2.2.2.2.2.2.2.2.2.2.2.2.2.2.2.2.2.2.2.2.2.2.2.2.2.2.2.1 u.2.2.2.2.2.2.2.2.2.2.2.2.2.2.2.2.2.2.2.2.2.2.2.2.2.2.2.2.2.2.2.2.2
def xg_W (post : Int32 → SX → Prop) (u : SX) : Prop := wX_run_21 post u.1 u.2.1 u.2.2.1 u.2.2.2.1 u.2.2.2.2.1 u.2.2.2.2.2.1 u.2.2.2.2.2.2.1 u.2.2.2.2.2.2.2.1 u.2.2.2.2.2.2.2.2.1 u.2.2.2.2.2.2.2.2.2.1 u.2.2.2.2.2.2.2.2.2.2.1 u.2.2.2.2.2.2.2.2.2.2.2.1 u.2.2.2.2.2.2.2.2.2.2.2.2.1 u.2.2.2.2.2.2.2.2.2.2.2.2.2.1 u.2.2.2.2.2.2.2.2.2.2.2.2.2.2.1 u.2.2.2.2.2.2.2.2.2.2.2.2.2.2.2.1 u.2.2.2.2.2.2.2.2.2.2.2.2.2.2.2.2.1 u.2.2.2.2.2.2.2.2.2.2.2.2.2.2.2.2.2.1 u.2.2.2.2.2.2.2.2.2.2.2.2.2.2.2.2.2.2.1 u.2.2.2.2.2.2.2.2.2.2.2.2.2.2.2.2.2.2.2.1 u.2.2.2.2.2.2.2.2.2.2.2.2.2.2.2.2.2.2.2.2.1 u.2.2.2.2.2.2.2.2.2.2.2.2.2.2.2.2.2.2.2.2.2.1 u.2.2.2.2.2.2.2.2.2.2.2.2.2.2.2.2.2.2.2.2.2.2.1 u.2.2.2.2.2.2.2.2.2.2.2.2.2.2.2.2.2.2.2.2.2.2.2.1 u.2.2.2.2.2.2.2.2.2.2.2.2.2.2.2.2.2.2.2.2.2.2.2.2.1 u.2.2.2.2.2.2.2.2.2.2.2.2.2.2.2.2.2.2.2.2.2.2.2.2.2.1 u.2.2.2.2.2.2.2.2.2.2.2.2.2.2.2.2.2.2.2.2.2.2.2.2.2.2.1 u.2.2.2.2.2.2.2.2.2.2.2.2.2.2.2.2.2.2.2.2.2.2.2.2.2.2.2.1 u.2.2.2.2.2.2.2.2.2.2.2.2.2.2.2.2.2.2.2.2.2.2.2.2.2.2.2.2.1 u.2.2.2.2.2.2.2.2.2.2.2.2.2.2.2.2.2.2.2.2.2.2.2.2.2.2.2.2.2.1 u.2.2.2.2.2.2.2.2.2.2.2.2.2.2.2.2.2.2.2.2.2.2.2.2.2.2.2.2.2.2.1 u.2.2.2.2.2.2.2.2.2.2.2.2.2.2.2.2.2.2.2.2.2.2.2.2.2.2.2.2.2.2.2.1 u.2.2.2.2.2.2.2.2.2.2.2.2.2.2.2.2.2.2.2.2.2.2.2.2.2.2.2.2.2.2.2.2.1 u.2.2.2.2.2.2.2.2.2.2.2.2.2.2.2.2.2.2.2.2.2.2.2.2.2.2.2.2.2.2.2.2.2.1 u.2.2.2.2.2.2.2.2.2.2.2.2.2.2.2.2.2.2.2.2.2.2.2.2.2.2.2.2.2.2.2.2.2.2.1 u.2.2.2.2.2.2.2.2.2.2.2.2.2.2.2.2.2.2.2.2.2.2.2.2.2.2.2.2.2.2.2.2.2.2.2.1 u.2.2.2.2.2.2.2.2.2.2.2.2.2.2.2.2.2.2.2.2.2.2.2.2.2.2.2.2.2.2.2.2.2.2.2.2.1 u.2.2.2.2.2.2.2.2.2.2.2.2.2.2.2.2.2.2.2.2.2.2.2.2.2.2.2.2.2.2.2.2.2.2.2.2.2.1 u.2.2.2.2.2.2.2.2.2.2.2.2.2.2.2.2.2.2.2.2.2.2.2.2.2.2.2.2.2.2.2.2.2.2.2.2.2.2
def xh_W (post : Int32 → Prop) (x2 : Int32) (u : SX) (n : Nat) (x3 x4 : Int32) : Prop := wX_hopsTo_5 post x2 u.1 u.2.1 u.2.2.1 u.2.2.2.1 u.2.2.2.2.1 u.2.2.2.2.2.1 u.2.2.2.2.2.2.1 u.2.2.2.2.2.2.2.1 u.2.2.2.2.2.2.2.2.1 u.2.2.2.2.2.2.2.2.2.1 u.2.2.2.2.2.2.2.2.2.2.1 u.2.2.2.2.2.2.2.2.2.2.2.1 u.2.2.2.2.2.2.2.2.2.2.2.2.1 u.2.2.2.2.2.2.2.2.2.2.2.2.2.1 u.2.2.2.2.2.2.2.2.2.2.2.2.2.2.1 u.2.2.2.2.2.2.2.2.2.2.2.2.2.2.2.1 u.2.2.2.2.2.2.2.2.2.2.2.2.2.2.2.2.1 u.2.2.2.2.2.2.2.2.2.2.2.2.2.2.2.2.2.1 u.2.2.2.2.2.2.2.2.2.2.2.2.2.2.2.2.2.2.1 u.2.2.2.2.2.2.2.2.2.2.2.2.2.2.2.2.2.2.2.1 u.2.2.2.2.2.2.2.2.2.2.2.2.2.2.2.2.2.2.2.2.1 u.2.2.2.2.2.2.2.2.2.2.2.2.2.2.2.2.2.2.2.2.2.1 u.2.2.2.2.2.2.2.2.2.2.2.2.2.2.2.2.2.2.2.2.2.2.1 u.2.2.2.2.2.2.2.2.2.2.2.2.2.2.2.2.2.2.2.2.2.2.2.1 u.2.2.2.2.2.2.2.2.2.2.2.2.2.2.2.2.2.2.2.2.2.2.2.2.1 u.2.2.2.2.2.2.2.2.2.2.2.2.2.2.2.2.2.2.2.2.2.2.2.2.2.1 u.2.2.2.2.2.2.2.2.2.2.2.2.2.2.2.2.2.2.2.2.2.2.2.2.2.2.1 u.2.2.2.2.2.2.2.2.2.2.2.2.2.2.2.2.2.2.2.2.2.2.2.2.2.2.2.1 u.2.2.2.2.2.2.2.2.2.2.2.2.2.2.2.2.2.2.2.2.2.2.2.2.2.2.2.2.1 u.2.2.2.2.2.2.2.2.2.2.2.2.2.2.2.2.2.2.2.2.2.2.2.2.2.2.2.2.2.1 u.2.2.2.2.2.2.2.2.2.2.2.2.2.2.2.2.2.2.2.2.2.2.2.2.2.2.2.2.2.2.1 u.2.2.2.2.2.2.2.2.2.2.2.2.2.2.2.2.2.2.2.2.2.2.2.2.2.2.2.2.2.2.2.1 u.2.2.2.2.2.2.2.2.2.2.2.2.2.2.2.2.2.2.2.2.2.2.2.2.2.2.2.2.2.2.2.2.1 u.2.2.2.2.2.2.2.2.2.2.2.2.2.2.2.2.2.2.2.2.2.2.2.2.2.2.2.2.2.2.2.2.2.1 u.2.2.2.2.2.2.2.2.2.2.2.2.2.2.2.2.2.2.2.2.2.2.2.2.2.2.2.2.2.2.2.2.2.2.1 u.2.2.2.2.2.2.2.2.2.2.2.2.2.2.2.2.2.2.2.2.2.2.2.2.2.2.2.2.2.2.2.2.2.2.2.1 u.2.2.2.2.2.2.2.2.2.2.2.2.2.2.2.2.2.2.2.2.2.2.2.2.2.2.2.2.2.2.2.2.2.2.2.2.1 u.2.2.2.2.2.2.2.2.2.2.2.2.2.2.2.2.2.2.2.2.2.2.2.2.2.2.2.2.2.2.2.2.2.2.2.2.2.1 u.2.2.2.2.2.2.2.2.2.2.2.2.2.2.2.2.2.2.2.2.2.2.2.2.2.2.2.2.2.2.2.2.2.2.2.2.2.2 n x3 x4
def xff_W (post : Int32 → SX → Prop) (x2 : Int32) (n : Nat) (x3 : Int32) (u : SX) : Prop := wX_findFrame_28 post x2 n x3 u.1 u.2.1 u.2.2.1 u.2.2.2.1 u.2.2.2.2.1 u.2.2.2.2.2.1 u.2.2.2.2.2.2.1 u.2.2.2.2.2.2.2.1 u.2.2.2.2.2.2.2.2.1 u.2.2.2.2.2.2.2.2.2.1 u.2.2.2.2.2.2.2.2.2.2.1 u.2.2.2.2.2.2.2.2.2.2.2.1 u.2.2.2.2.2.2.2.2.2.2.2.2.1 u.2.2.2.2.2.2.2.2.2.2.2.2.2.1 u.2.2.2.2.2.2.2.2.2.2.2.2.2.2.1 u.2.2.2.2.2.2.2.2.2.2.2.2.2.2.2.1 u.2.2.2.2.2.2.2.2.2.2.2.2.2.2.2.2.1 u.2.2.2.2.2.2.2.2.2.2.2.2.2.2.2.2.2.1 u.2.2.2.2.2.2.2.2.2.2.2.2.2.2.2.2.2.2.1 u.2.2.2.2.2.2.2.2.2.2.2.2.2.2.2.2.2.2.2.1 u.2.2.2.2.2.2.2.2.2.2.2.2.2.2.2.2.2.2.2.2.1 u.2.2.2.2.2.2.2.2.2.2.2.2.2.2.2.2.2.2.2.2.2.1 u.2.2.2.2.2.2.2.2.2.2.2.2.2.2.2.2.2.2.2.2.2.2.1 u.2.2.2.2.2.2.2.2.2.2.2.2.2.2.2.2.2.2.2.2.2.2.2.1 u.2.2.2.2.2.2.2.2.2.2.2.2.2.2.2.2.2.2.2.2.2.2.2.2.1 u.2.2.2.2.2.2.2.2.2.2.2.2.2.2.2.2.2.2.2.2.2.2.2.2.2.1 u.2.2.2.2.2.2.2.2.2.2.2.2.2.2.2.2.2.2.2.2.2.2.2.2.2.2.1 u.2.2.2.2.2.2.2.2.2.2.2.2.2.2.2.2.2.2.2.2.2.2.2.2.2.2.2.1 u.2.2.2.2.2.2.2.2.2.2.2.2.2.2.2.2.2.2.2.2.2.2.2.2.2.2.2.2.1 u.2.2.2.2.2.2.2.2.2.2.2.2.2.2.2.2.2.2.2.2.2.2.2.2.2.2.2.2.2.1 u.2.2.2.2.2.2.2.2.2.2.2.2.2.2.2.2.2.2.2.2.2.2.2.2.2.2.2.2.2.2.1 u.2.2.2.2.2.2.2.2.2.2.2.2.2.2.2.2.2.2.2.2.2.2.2.2.2.2.2.2.2.2.2.1 u.2.2.2.2.2.2.2.2.2.2.2.2.2.2.2.2.2.2.2.2.2.2.2.2.2.2.2.2.2.2.2.2.1 u.2.2.2.2.2.2.2.2.2.2.2.2.2.2.2.2.2.2.2.2.2.2.2.2.2.2.2.2.2.2.2.2.2.1 u.2.2.2.2.2.2.2.2.2.2.2.2.2.2.2.2.2.2.2.2.2.2.2.2.2.2.2.2.2.2.2.2.2.2.1 u.2.2.2.2.2.2.2.2.2.2.2.2.2.2.2.2.2.2.2.2.2.2.2.2.2.2.2.2.2.2.2.2.2.2.2.1 u.2.2.2.2.2.2.2.2.2.2.2.2.2.2.2.2.2.2.2.2.2.2.2.2.2.2.2.2.2.2.2.2.2.2.2.2.1 u.2.2.2.2.2.2.2.2.2.2.2.2.2.2.2.2.2.2.2.2.2.2.2.2.2.2.2.2.2.2.2.2.2.2.2.2.2.1 u.2.2.2.2.2.2.2.2.2.2.2.2.2.2.2.2.2.2.2.2.2.2.2.2.2.2.2.2.2.2.2.2.2.2.2.2.2.2
def xca_W (post : SX → Prop) (x1 x2 : Int32) (n : Nat) (x3 : Int32) (u : SX) : Prop := wX_compileCall_9 post x1 x2 n x3 u.1 u.2.1 u.2.2.1 u.2.2.2.1 u.2.2.2.2.1 u.2.2.2.2.2.1 u.2.2.2.2.2.2.1 u.2.2.2.2.2.2.2.1 u.2.2.2.2.2.2.2.2.1 u.2.2.2.2.2.2.2.2.2.1 u.2.2.2.2.2.2.2.2.2.2.1 u.2.2.2.2.2.2.2.2.2.2.2.1 u.2.2.2.2.2.2.2.2.2.2.2.2.1 u.2.2.2.2.2.2.2.2.2.2.2.2.2.1 u.2.2.2.2.2.2.2.2.2.2.2.2.2.2.1 u.2.2.2.2.2.2.2.2.2.2.2.2.2.2.2.1 u.2.2.2.2.2.2.2.2.2.2.2.2.2.2.2.2.1 u.2.2.2.2.2.2.2.2.2.2.2.2.2.2.2.2.2.1 u.2.2.2.2.2.2.2.2.2.2.2.2.2.2.2.2.2.2.1 u.2.2.2.2.2.2.2.2.2.2.2.2.2.2.2.2.2.2.2.1 u.2.2.2.2.2.2.2.2.2.2.2.2.2.2.2.2.2.2.2.2.1 u.2.2.2.2.2.2.2.2.2.2.2.2.2.2.2.2.2.2.2.2.2.1 u.2.2.2.2.2.2.2.2.2.2.2.2.2.2.2.2.2.2.2.2.2.2.1 u.2.2.2.2.2.2.2.2.2.2.2.2.2.2.2.2.2.2.2.2.2.2.2.1 u.2.2.2.2.2.2.2.2.2.2.2.2.2.2.2.2.2.2.2.2.2.2.2.2.1 u.2.2.2.2.2.2.2.2.2.2.2.2.2.2.2.2.2.2.2.2.2.2.2.2.2.1 u.2.2.2.2.2.2.2.2.2.2.2.2.2.2.2.2.2.2.2.2.2.2.2.2.2.2.1 u.2.2.2.2.2.2.2.2.2.2.2.2.2.2.2.2.2.2.2.2.2.2.2.2.2.2.2.1 u.2.2.2.2.2.2.2.2.2.2.2.2.2.2.2.2.2.2.2.2.2.2.2.2.2.2.2.2.1 u.2.2.2.2.2.2.2.2.2.2.2.2.2.2.2.2.2.2.2.2.2.2.2.2.2.2.2.2.2.1 u.2.2.2.2.2.2.2.2.2.2.2.2.2.2.2.2.2.2.2.2.2.2.2.2.2.2.2.2.2.2.1 u.2.2.2.2.2.2.2.2.2.2.2.2.2.2.2.2.2.2.2.2.2.2.2.2.2.2.2.2.2.2.2.1 u.2.2.2.2.2.2.2.2.2.2.2.2.2.2.2.2.2.2.2.2.2.2.2.2.2.2.2.2.2.2.2.2.1 u.2.2.2.2.2.2.2.2.2.2.2.2.2.2.2.2.2.2.2.2.2.2.2.2.2.2.2.2.2.2.2.2.2.1 u.2.2.2.2.2.2.2.2.2.2.2.2.2.2.2.2.2.2.2.2.2.2.2.2.2.2.2.2.2.2.2.2.2.2.1 u.2.2.2.2.2.2.2.2.2.2.2.2.2.2.2.2.2.2.2.2.2.2.2.2.2.2.2.2.2.2.2.2.2.2.2.1 u.2.2.2.2.2.2.2.2.2.2.2.2.2.2.2.2.2.2.2.2.2.2.2.2.2.2.2.2.2.2.2.2.2.2.2.2.1 u.2.2.2.2.2.2.2.2.2.2.2.2.2.2.2.2.2.2.2.2.2.2.2.2.2.2.2.2.2.2.2.2.2.2.2.2.2.1 u.2.2.2.2.2.2.2.2.2.2.2.2.2.2.2.2.2.2.2.2.2.2.2.2.2.2.2.2.2.2.2.2.2.2.2.2.2.2
def xcp_W (post : SX → Prop) (n : Nat) (x1 : Int32) (u : SX) : Prop := wX_compile_111 post n x1 u.1 u.2.1 u.2.2.1 u.2.2.2.1 u.2.2.2.2.1 u.2.2.2.2.2.1 u.2.2.2.2.2.2.1 u.2.2.2.2.2.2.2.1 u.2.2.2.2.2.2.2.2.1 u.2.2.2.2.2.2.2.2.2.1 u.2.2.2.2.2.2.2.2.2.2.1 u.2.2.2.2.2.2.2.2.2.2.2.1 u.2.2.2.2.2.2.2.2.2.2.2.2.1 u.2.2.2.2.2.2.2.2.2.2.2.2.2.1 u.2.2.2.2.2.2.2.2.2.2.2.2.2.2.1 u.2.2.2.2.2.2.2.2.2.2.2.2.2.2.2.1 u.2.2.2.2.2.2.2.2.2.2.2.2.2.2.2.2.1 u.2.2.2.2.2.2.2.2.2.2.2.2.2.2.2.2.2.1 u.2.2.2.2.2.2.2.2.2.2.2.2.2.2.2.2.2.2.1 u.2.2.2.2.2.2.2.2.2.2.2.2.2.2.2.2.2.2.2.1 u.2.2.2.2.2.2.2.2.2.2.2.2.2.2.2.2.2.2.2.2.1 u.2.2.2.2.2.2.2.2.2.2.2.2.2.2.2.2.2.2.2.2.2.1 u.2.2.2.2.2.2.2.2.2.2.2.2.2.2.2.2.2.2.2.2.2.2.1 u.2.2.2.2.2.2.2.2.2.2.2.2.2.2.2.2.2.2.2.2.2.2.2.1 u.2.2.2.2.2.2.2.2.2.2.2.2.2.2.2.2.2.2.2.2.2.2.2.2.1 u.2.2.2.2.2.2.2.2.2.2.2.2.2.2.2.2.2.2.2.2.2.2.2.2.2.1 u.2.2.2.2.2.2.2.2.2.2.2.2.2.2.2.2.2.2.2.2.2.2.2.2.2.2.1 u.2.2.2.2.2.2.2.2.2.2.2.2.2.2.2.2.2.2.2.2.2.2.2.2.2.2.2.1 u.2.2.2.2.2.2.2.2.2.2.2.2.2.2.2.2.2.2.2.2.2.2.2.2.2.2.2.2.1 u.2.2.2.2.2.2.2.2.2.2.2.2.2.2.2.2.2.2.2.2.2.2.2.2.2.2.2.2.2.1 u.2.2.2.2.2.2.2.2.2.2.2.2.2.2.2.2.2.2.2.2.2.2.2.2.2.2.2.2.2.2.1 u.2.2.2.2.2.2.2.2.2.2.2.2.2.2.2.2.2.2.2.2.2.2.2.2.2.2.2.2.2.2.2.1 u.2.2.2.2.2.2.2.2.2.2.2.2.2.2.2.2.2.2.2.2.2.2.2.2.2.2.2.2.2.2.2.2.1 u.2.2.2.2.2.2.2.2.2.2.2.2.2.2.2.2.2.2.2.2.2.2.2.2.2.2.2.2.2.2.2.2.2.1 u.2.2.2.2.2.2.2.2.2.2.2.2.2.2.2.2.2.2.2.2.2.2.2.2.2.2.2.2.2.2.2.2.2.2.1 u.2.2.2.2.2.2.2.2.2.2.2.2.2.2.2.2.2.2.2.2.2.2.2.2.2.2.2.2.2.2.2.2.2.2.2.1 u.2.2.2.2.2.2.2.2.2.2.2.2.2.2.2.2.2.2.2.2.2.2.2.2.2.2.2.2.2.2.2.2.2.2.2.2.1 u.2.2.2.2.2.2.2.2.2.2.2.2.2.2.2.2.2.2.2.2.2.2.2.2.2.2.2.2.2.2.2.2.2.2.2.2.2.1 u.2.2.2.2.2.2.2.2.2.2.2.2.2.2.2.2.2.2.2.2.2.2.2.2.2.2.2.2.2.2.2.2.2.2.2.2.2.2
def yc_W (post : Int32 → SY → Prop) (x1 x2 x3 : Int32) (n : Nat) (x4 x5 x6 : Int32) (u : SY) : Prop := wY_call_16 post x1 x2 x3 n x4 x5 x6 u.1 u.2.1 u.2.2.1 u.2.2.2.1 u.2.2.2.2.1 u.2.2.2.2.2.1 u.2.2.2.2.2.2.1 u.2.2.2.2.2.2.2.1 u.2.2.2.2.2.2.2.2.1 u.2.2.2.2.2.2.2.2.2.1 u.2.2.2.2.2.2.2.2.2.2.1 u.2.2.2.2.2.2.2.2.2.2.2.1 u.2.2.2.2.2.2.2.2.2.2.2.2.1 u.2.2.2.2.2.2.2.2.2.2.2.2.2.1 u.2.2.2.2.2.2.2.2.2.2.2.2.2.2.1 u.2.2.2.2.2.2.2.2.2.2.2.2.2.2.2.1 u.2.2.2.2.2.2.2.2.2.2.2.2.2.2.2.2.1 u.2.2.2.2.2.2.2.2.2.2.2.2.2.2.2.2.2.1 u.2.2.2.2.2.2.2.2.2.2.2.2.2.2.2.2.2.2.1 u.2.2.2.2.2.2.2.2.2.2.2.2.2.2.2.2.2.2.2.1 u.2.2.2.2.2.2.2.2.2.2.2.2.2.2.2.2.2.2.2.2.1 u.2.2.2.2.2.2.2.2.2.2.2.2.2.2.2.2.2.2.2.2.2.1 u.2.2.2.2.2.2.2.2.2.2.2.2.2.2.2.2.2.2.2.2.2.2.1 u.2.2.2.2.2.2.2.2.2.2.2.2.2.2.2.2.2.2.2.2.2.2.2.1 u.2.2.2.2.2.2.2.2.2.2.2.2.2.2.2.2.2.2.2.2.2.2.2.2.1 u.2.2.2.2.2.2.2.2.2.2.2.2.2.2.2.2.2.2.2.2.2.2.2.2.2.1 u.2.2.2.2.2.2.2.2.2.2.2.2.2.2.2.2.2.2.2.2.2.2.2.2.2.2.1 u.2.2.2.2.2.2.2.2.2.2.2.2.2.2.2.2.2.2.2.2.2.2.2.2.2.2.2.1 u.2.2.2.2.2.2.2.2.2.2.2.2.2.2.2.2.2.2.2.2.2.2.2.2.2.2.2.2.1 u.2.2.2.2.2.2.2.2.2.2.2.2.2.2.2.2.2.2.2.2.2.2.2.2.2.2.2.2.2.1 u.2.2.2.2.2.2.2.2.2.2.2.2.2.2.2.2.2.2.2.2.2.2.2.2.2.2.2.2.2.2.1 u.2.2.2.2.2.2.2.2.2.2.2.2.2.2.2.2.2.2.2.2.2.2.2.2.2.2.2.2.2.2.2.1 u.2.2.2.2.2.2.2.2.2.2.2.2.2.2.2.2.2.2.2.2.2.2.2.2.2.2.2.2.2.2.2.2.1 u.2.2.2.2.2.2.2.2.2.2.2.2.2.2.2.2.2.2.2.2.2.2.2.2.2.2.2.2.2.2.2.2.2
end
section
/-! bytes and words: a byte is kept as x.toInt8.toInt32, a word of 16 bits is x &&& 65535, a short is x.toInt16.toInt32 -/
theorem ww_bs (x : Int32) {i : Nat} (hi : i < 32) : bt x.toInt16.toInt32 i = if i < 16 then bt x i else bt x 15 := by
  show ((x.toBitVec.signExtend 16).signExtend 32).getLsbD i = _
  have hm : (x.toBitVec.signExtend 16).msb = x.toBitVec.getLsbD 15 := by
    rw [BitVec.msb_eq_getLsbD_last, BitVec.getLsbD_signExtend]; simp
  rw [BitVec.getLsbD_signExtend, BitVec.getLsbD_signExtend, hm]
  unfold bt
  by_cases h : i < 16
  · have h2 : i < 32 := hi
    simp [h, h2]
  · simp [h, hi]
theorem ww_sw (x : Int32) : (x &&& 65535).toInt16.toInt32 = x.toInt16.toInt32 := by
  apply b_ext
  intro i hi
  rw [ww_bs _ hi, ww_bs _ hi]
  by_cases h : i < 16
  · rw [if_pos h, if_pos h, b_and, b_65535, decide_eq_true h, Bool.and_true]
  · rw [if_neg h, if_neg h, b_and, b_65535, decide_eq_true (by omega), Bool.and_true]
theorem ww_ws (x : Int32) : x.toInt16.toInt32 &&& 65535 = x &&& 65535 := by
  apply b_ext
  intro i hi
  rw [b_and, b_and, b_65535, ww_bs _ hi]
  by_cases h : i < 16
  · rw [if_pos h]
  · rw [decide_eq_false h, Bool.and_false, Bool.and_false]
theorem ww_ss (x : Int32) : x.toInt16.toInt32.toInt16.toInt32 = x.toInt16.toInt32 := by
  rw [← ww_sw x.toInt16.toInt32, ww_ws, ww_sw]
theorem ww_ww (x : Int32) : x &&& 65535 &&& 65535 = x &&& 65535 := by
  rw [Int32.and_assoc]; rfl
theorem ww_n (x : Int32) : x &&& 65535 = nI (x.toBitVec.toNat % 65536) := pk_and x 16 (by decide)
theorem ww_nI {n : Nat} (h : n < 65536) : nI n &&& 65535 = nI n := nx_m16 h
theorem ww_add (x y : Int32) : ((x &&& 65535) + (y &&& 65535)) &&& 65535 = (x + y) &&& 65535 := by
  rw [ww_n x, ww_n y, nI_add, nx_mod, ww_n (x + y), Int32.toBitVec_add, BitVec.toNat_add]
  exact congrArg nI (by omega)
theorem ww_sub (x y : Int32) : ((x &&& 65535) - (y &&& 65535)) &&& 65535 = (x - y) &&& 65535 := by
  rw [ww_n ((x &&& 65535) - (y &&& 65535)), ww_n (x - y), Int32.toBitVec_sub, Int32.toBitVec_sub, BitVec.toNat_sub, BitVec.toNat_sub, ww_n x, ww_n y, pk_tn (by omega), pk_tn (by omega)]
  have h1 := x.toBitVec.isLt
  have h2 := y.toBitVec.isLt
  exact congrArg nI (by omega)
theorem ww_eq {x y : Int32} (hx : x.toInt16.toInt32 = x) (hy : y.toInt16.toInt32 = y) : x &&& 65535 = y &&& 65535 ↔ x = y := by
  constructor
  · intro h
    rw [← hx, ← hy, ← ww_sw x, ← ww_sw y, h]
  · intro h; rw [h]
theorem ww_e0 {x : Int32} (hx : x.toInt16.toInt32 = x) : x &&& 65535 = 0 ↔ x = 0 := by
  have := ww_eq hx (y := 0) (by decide)
  rw [show (0 : Int32) &&& 65535 = 0 by decide] at this
  exact this
theorem ww_word (w : Int32) : ((w &&& 255) ||| (((w >>> ((8 : Int32) &&& 31)) &&& 255) <<< ((8 : Int32) &&& 31))) = w &&& 65535 := by
  apply b_ext
  intro i hi
  rw [b_or, b_and, b_255, b_shl8 _ hi, b_and, b_255, b_and, b_65535]
  by_cases h8 : i < 8
  · have h1 : ¬ 8 ≤ i := by omega
    have h2 : i < 16 := by omega
    simp [h8, h1, h2]
  · by_cases h16 : i < 16
    · have h1 : 8 ≤ i := by omega
      have h2 : i - 8 < 8 := by omega
      rw [b_sshr8 _ (by omega : i - 8 < 32), if_pos (by omega)]
      have h3 : 8 + (i - 8) = i := by omega
      simp [h8, h1, h2, h16, h3]
    · have h2 : ¬ i - 8 < 8 := by omega
      simp [h8, h16, h2]
def ww_rd (M : Nat → Int32) (a : Nat) : Int32 := (M a &&& 255) ||| ((M (a + 1) &&& 255) <<< ((8 : Int32) &&& 31))
def ww_wr (M : Nat → Int32) (a : Nat) (w : Int32) : Nat → Int32 := upd (upd M a w.toInt8.toInt32) (a + 1) (w >>> ((8 : Int32) &&& 31)).toInt8.toInt32
theorem ww_rw (M : Nat → Int32) (a : Nat) (w : Int32) : ww_rd (ww_wr M a w) a = w &&& 65535 := by
  unfold ww_rd ww_wr
  rw [pk_us, pk_un (by omega), pk_us, bp_b, bp_b, ww_word]
theorem ww_rn {M : Nat → Int32} {a b : Nat} {w : Int32} (h : b + 1 < a ∨ a + 1 < b) : ww_rd (ww_wr M a w) b = ww_rd M b := by
  unfold ww_rd ww_wr
  rw [pk_un (by omega), pk_un (by omega), pk_un (by omega), pk_un (by omega)]
theorem ww_wn {M : Nat → Int32} {a b : Nat} {w : Int32} (h : b ≠ a) (h2 : b ≠ a + 1) : ww_wr M a w b = M b := by
  unfold ww_wr
  rw [pk_un h2, pk_un h]
theorem ww_r2 {M M' : Nat → Int32} {a : Nat} (h : M a = M' a) (h2 : M (a + 1) = M' (a + 1)) : ww_rd M a = ww_rd M' a := by
  unfold ww_rd; rw [h, h2]
theorem ww_m4 {a : Nat} (h : a < 4096) : nI a &&& 4095 = nI a := by
  have := pk_andN (n := a) (by omega) (m := 4095) 12 (by decide)
  rw [this, Nat.mod_eq_of_lt (by omega)]
theorem ww_sI {n : Nat} (h : n < 32768) : (nI n).toInt16.toInt32 = nI n := by
  apply lg_i2s_small
  · rw [nI_toInt (by omega)]; omega
  · rw [nI_toInt (by omega)]; omega
theorem ww_bI {n : Nat} (h : n < 128) : (nI n).toInt8.toInt32 = nI n := by
  apply lg_i2b_small
  · rw [nI_toInt (by omega)]; omega
  · rw [nI_toInt (by omega)]; omega
/-! a list of bytes lies at a place -/
def wl_At (M : Nat → Int32) (a : Nat) : List Int32 → Prop
  | [] => True
  | b :: l => M a = b.toInt8.toInt32 ∧ wl_At M (a + 1) l
theorem wl_c {M : Nat → Int32} {a : Nat} {b : Int32} {l : List Int32} : wl_At M a (b :: l) ↔ M a = b.toInt8.toInt32 ∧ wl_At M (a + 1) l := Iff.rfl
theorem wl_app {M : Nat → Int32} {l2 : List Int32} : ∀ {l1 : List Int32} {a : Nat}, wl_At M a (l1 ++ l2) ↔ wl_At M a l1 ∧ wl_At M (a + l1.length) l2 := by
  intro l1
  induction l1 with
  | nil => intro a; simp [wl_At]
  | cons b l ih =>
    intro a
    rw [List.cons_append, wl_c, wl_c, ih, List.length_cons, show a + 1 + l.length = a + (l.length + 1) by omega, and_assoc]
theorem wl_ext {M M' : Nat → Int32} : ∀ {l : List Int32} {a : Nat}, (∀ j, a ≤ j → j < a + l.length → M' j = M j) → wl_At M a l → wl_At M' a l := by
  intro l
  induction l with
  | nil => intro a _ _; trivial
  | cons b l ih =>
    intro a h ha
    rw [List.length_cons] at h
    exact ⟨(h a (by omega) (by omega)).trans ha.1, ih (fun j h1 h2 => h j (by omega) (by omega)) ha.2⟩
def wl_wr (M : Nat → Int32) (a : Nat) : List Int32 → Nat → Int32
  | [] => M
  | b :: l => wl_wr (upd M a b.toInt8.toInt32) (a + 1) l
theorem wl_wapp : ∀ {l1 l2 : List Int32} {M : Nat → Int32} {a : Nat}, wl_wr (wl_wr M a l1) (a + l1.length) l2 = wl_wr M a (l1 ++ l2) := by
  intro l1
  induction l1 with
  | nil => intro l2 M a; rfl
  | cons b l ih =>
    intro l2 M a
    rw [List.length_cons, show a + (l.length + 1) = a + 1 + l.length by omega]
    exact ih
theorem wl_wn : ∀ {l : List Int32} {M : Nat → Int32} {a j : Nat}, j < a ∨ a + l.length ≤ j → wl_wr M a l j = M j := by
  intro l
  induction l with
  | nil => intro M a j _; rfl
  | cons b l ih =>
    intro M a j h
    rw [List.length_cons] at h
    show wl_wr (upd M a b.toInt8.toInt32) (a + 1) l j = M j
    rw [ih (by omega), pk_un (by omega)]
theorem wl_wat : ∀ {l : List Int32} {M : Nat → Int32} {a : Nat}, wl_At (wl_wr M a l) a l := by
  intro l
  induction l with
  | nil => intro M a; trivial
  | cons b l ih =>
    intro M a
    refine ⟨?_, ih⟩
    show wl_wr (upd M a b.toInt8.toInt32) (a + 1) l a = _
    rw [wl_wn (by omega), pk_us]
theorem wl_wu : ∀ {l : List Int32} {M : Nat → Int32} {a j : Nat} {x : Int32}, j < a ∨ a + l.length ≤ j → upd (wl_wr M a l) j x = wl_wr (upd M j x) a l := by
  intro l
  induction l with
  | nil => intro M a j x _; rfl
  | cons b l ih =>
    intro M a j x h
    rw [List.length_cons] at h
    show upd (wl_wr (upd M a b.toInt8.toInt32) (a + 1) l) j x = wl_wr (upd (upd M j x) a b.toInt8.toInt32) (a + 1) l
    rw [ih (by omega)]
    congr 1
    funext i
    unfold upd
    by_cases h1 : i = j
    · by_cases h2 : i = a
      · omega
      · simp [h1, h2]; intro h3; omega
    · simp [h1]
end
section
/-! the machine's small steps over the picture zx_m -/
section
variable {u0 : SX} {M R O : Nat → Int32} {ia ie il ih ip ir iq C w : Int32} {A a sp : Nat}
theorem xn_byte {K : Int32 → Prop} (ha : a < 4096) (h : K (M a &&& 255)) : wpX_byteAt K (zx_m u0 ia ie il ih ip ir iq C M R O) (nI a) := by
  show vp_in (nI a &&& 4095) 4096 ∧ K (M (nI a &&& 4095).toNatClampNeg &&& 255)
  rw [ww_m4 ha, nI_clamp (by omega)]
  exact ⟨vp_in_nI ha (by omega), h⟩
theorem xn_word {K : Int32 → Prop} (ha : a + 1 < 4096) (h : K (ww_rd M a)) : wpX_wordAt K (zx_m u0 ia ie il ih ip ir iq C M R O) (nI a) := by
  show wpX_byteAt (fun r => wpX_byteAt (fun r2 => K (r ||| (r2 <<< ((8 : Int32) &&& 31)))) (zx_m u0 ia ie il ih ip ir iq C M R O) (nI a + 1)) (zx_m u0 ia ie il ih ip ir iq C M R O) (nI a)
  refine xn_byte (by omega) ?_
  rw [nI_1]
  exact xn_byte ha h
theorem xn_set {K : SX → Prop} (ha : a + 1 < 4096) (h : K (zx_m u0 ia ie il ih ip ir iq C (ww_wr M a w) R O)) : wpX_setWord K (zx_m u0 ia ie il ih ip ir iq C M R O) (nI a) w := by
  show vp_in (nI a &&& 4095) 4096 ∧ ∀ m : Nat → Int32, m = upd M (nI a &&& 4095).toNatClampNeg (vp_nar .byte w.toInt8.toInt32) → (vp_in ((nI a + 1) &&& 4095) 4096 ∧ ∀ m2 : Nat → Int32, m2 = upd m ((nI a + 1) &&& 4095).toNatClampNeg (vp_nar .byte (w >>> ((8 : Int32) &&& 31)).toInt8.toInt32) → K (zx_m u0 ia ie il ih ip ir iq C m2 R O))
  rw [nI_1, ww_m4 (by omega), ww_m4 ha, nI_clamp (by omega), nI_clamp (by omega), pk_vb, pk_vb]
  exact ⟨vp_in_nI (by omega) (by omega), nm_e ⟨vp_in_nI ha (by omega), nm_e h⟩⟩
theorem xn_next {K : Int32 → SX → Prop} (ha : A < 4096) (h : K (M A &&& 255) (zx_m u0 (nI (A + 1)) ie il ih ip ir iq C M R O)) : wpX_next K (zx_m u0 (nI A) ie il ih ip ir iq C M R O) := by
  show wpX_byteAt (fun r => ∀ y : Int32, y = nI A + 1 → K r (zx_m u0 y ie il ih ip ir iq C M R O)) (zx_m u0 (nI A) ie il ih ip ir iq C M R O) (nI A)
  exact xn_byte ha (nm_r (nI_1 A) h)
theorem xn_nb {K : Int32 → SX → Prop} {b : Int32} (ha : A < 4096) (hb : M A &&& 255 = b) (h : K b (zx_m u0 (nI (A + 1)) ie il ih ip ir iq C M R O)) : wpX_next K (zx_m u0 (nI A) ie il ih ip ir iq C M R O) := by
  subst hb
  exact xn_next ha h
theorem xn_nw {K : Int32 → SX → Prop} (ha : A + 1 < 4096) (h : K (ww_rd M A) (zx_m u0 (nI (A + 2)) ie il ih ip ir iq C M R O)) : wpX_nextWord K (zx_m u0 (nI A) ie il ih ip ir iq C M R O) := by
  show wpX_next (fun r u => wpX_next (fun r2 u2 => K (r ||| (r2 <<< ((8 : Int32) &&& 31))) u2) u) (zx_m u0 (nI A) ie il ih ip ir iq C M R O)
  refine xn_next (by omega) ?_
  exact xn_next ha h
theorem xn_push {K : SX → Prop} (h4 : R 4 = nI sp) (h2 : 2 ≤ sp) (hs : sp ≤ 4096) (h : K (zx_m u0 ia ie il ih ip ir iq C (ww_wr M (sp - 2) w) (upd R 4 (nI (sp - 2))) O)) : wpX_push K (zx_m u0 ia ie il ih ip ir iq C M R O) w := by
  show ∀ r : Nat → Int32, r = upd R 4 ((R 4 - 2) &&& 65535) → wpX_setWord K (zx_m u0 ia ie il ih ip ir iq C M r O) (r 4) w
  rw [h4, show nI sp - 2 = nI (sp - 2) from pk_sub h2, ww_nI (by omega)]
  refine nm_e ?_
  rw [pk_us]
  exact xn_set (by omega) h
theorem xn_pop {K : Int32 → SX → Prop} (h4 : R 4 = nI sp) (hs : sp + 1 < 4096) (h : K (ww_rd M sp) (zx_m u0 ia ie il ih ip ir iq C M (upd R 4 (nI (sp + 2))) O)) : wpX_pop K (zx_m u0 ia ie il ih ip ir iq C M R O) := by
  show wpX_wordAt (fun r => ∀ y : Nat → Int32, y = upd R 4 ((R 4 + 2) &&& 65535) → K r (zx_m u0 ia ie il ih ip ir iq C M y O)) (zx_m u0 ia ie il ih ip ir iq C M R O) (R 4)
  rw [h4]
  refine xn_word hs ?_
  rw [show nI sp + 2 = nI (sp + 2) from nI_add sp 2, ww_nI (by omega)]
  exact nm_e h
end
/-! the loop of steps -/
def xr_R (post : Int32 → SX → Prop) (u : SX) : Prop := ∃ n, xr_W post n u
theorem xr_step {post : Int32 → SX → Prop} {u u' : SX} (hh : xf_halted u = 0) (h : ∀ Q : SX → Prop, Q u' → wpX_step Q u) (hr : xr_R post u') : xr_R post u := by
  obtain ⟨n, hn⟩ := hr
  exact ⟨n + 1, br_t hh (h (fun u => xr_W post n u) hn)⟩
end
section
/-! the machine's instructions: printed by genstep.py -/
section
variable {u0 : SX} {M R O : Nat → Int32} {ie il ih ip ir iq C : Int32} {A sp : Nat} {Q : SX → Prop}
theorem xt_push_ax (hA : A + 8 < 4096) (hb : M A &&& 255 = 80) (h4 : R 4 = nI sp) (h2 : 2 ≤ sp) (hs : sp ≤ 4096) (h : Q (zx_m u0 (nI (A + 1)) ie il ih ip ir iq C (ww_wr M (sp - 2) (R 0)) (upd R 4 (nI (sp - 2))) O)) : wpX_step Q (zx_m u0 (nI A) ie il ih ip ir iq C M R O) := by
  unfold wpX_step
  refine xn_nb (by omega) hb ?_
  refine br_f (by decide) (br_f (by decide) ⟨vp_in_iff.mpr (by decide), ?_⟩)
  exact xn_push h4 h2 hs h
theorem xt_push_bx (hA : A + 8 < 4096) (hb : M A &&& 255 = 83) (h4 : R 4 = nI sp) (h2 : 2 ≤ sp) (hs : sp ≤ 4096) (h : Q (zx_m u0 (nI (A + 1)) ie il ih ip ir iq C (ww_wr M (sp - 2) (R 3)) (upd R 4 (nI (sp - 2))) O)) : wpX_step Q (zx_m u0 (nI A) ie il ih ip ir iq C M R O) := by
  unfold wpX_step
  refine xn_nb (by omega) hb ?_
  refine br_f (by decide) (br_f (by decide) ⟨vp_in_iff.mpr (by decide), ?_⟩)
  exact xn_push h4 h2 hs h
theorem xt_push_bp (hA : A + 8 < 4096) (hb : M A &&& 255 = 85) (h4 : R 4 = nI sp) (h2 : 2 ≤ sp) (hs : sp ≤ 4096) (h : Q (zx_m u0 (nI (A + 1)) ie il ih ip ir iq C (ww_wr M (sp - 2) (R 5)) (upd R 4 (nI (sp - 2))) O)) : wpX_step Q (zx_m u0 (nI A) ie il ih ip ir iq C M R O) := by
  unfold wpX_step
  refine xn_nb (by omega) hb ?_
  refine br_f (by decide) (br_f (by decide) ⟨vp_in_iff.mpr (by decide), ?_⟩)
  exact xn_push h4 h2 hs h
theorem xt_pop_ax (hA : A + 8 < 4096) (hb : M A &&& 255 = 88) (h4 : R 4 = nI sp) (hs : sp + 1 < 4096) (h : Q (zx_m u0 (nI (A + 1)) ie il ih ip ir iq C M (upd (upd R 4 (nI (sp + 2))) 0 (ww_rd M sp)) O)) : wpX_step Q (zx_m u0 (nI A) ie il ih ip ir iq C M R O) := by
  unfold wpX_step
  refine xn_nb (by omega) hb ?_
  refine br_f (by decide) (br_t (by decide) (br_f (by decide) (br_f (by decide) ?_)))
  exact xn_pop h4 hs ⟨vp_in_iff.mpr (by decide), nm_e h⟩
theorem xt_pop_bp (hA : A + 8 < 4096) (hb : M A &&& 255 = 93) (h4 : R 4 = nI sp) (hs : sp + 1 < 4096) (h : Q (zx_m u0 (nI (A + 1)) ie il ih ip ir iq C M (upd (upd R 4 (nI (sp + 2))) 5 (ww_rd M sp)) O)) : wpX_step Q (zx_m u0 (nI A) ie il ih ip ir iq C M R O) := by
  unfold wpX_step
  refine xn_nb (by omega) hb ?_
  refine br_f (by decide) (br_t (by decide) (br_f (by decide) (br_f (by decide) ?_)))
  exact xn_pop h4 hs ⟨vp_in_iff.mpr (by decide), nm_e h⟩
theorem xt_movi_ax (hA : A + 8 < 4096) (hb : M A &&& 255 = 184) (h : Q (zx_m u0 (nI (A + 3)) ie il ih ip ir iq C M (upd R 0 (ww_rd M (A + 1))) O)) : wpX_step Q (zx_m u0 (nI A) ie il ih ip ir iq C M R O) := by
  unfold wpX_step
  refine xn_nb (by omega) hb ?_
  refine br_f (by decide) (br_t (by decide) (br_f (by decide) (br_t (by decide) (br_f (by decide) (br_f (by decide) ?_)))))
  exact xn_nw (by omega) ⟨vp_in_iff.mpr (by decide), nm_e h⟩
theorem xt_movi_cx (hA : A + 8 < 4096) (hb : M A &&& 255 = 185) (h : Q (zx_m u0 (nI (A + 3)) ie il ih ip ir iq C M (upd R 1 (ww_rd M (A + 1))) O)) : wpX_step Q (zx_m u0 (nI A) ie il ih ip ir iq C M R O) := by
  unfold wpX_step
  refine xn_nb (by omega) hb ?_
  refine br_f (by decide) (br_t (by decide) (br_f (by decide) (br_t (by decide) (br_f (by decide) (br_f (by decide) ?_)))))
  exact xn_nw (by omega) ⟨vp_in_iff.mpr (by decide), nm_e h⟩
theorem xt_call (hA : A + 8 < 4096) (hb : M A &&& 255 = 232) (h4 : R 4 = nI sp) (h2 : 2 ≤ sp) (hs : sp ≤ 4096) (h : Q (zx_m u0 (nI (A + 3) + (ww_rd M (A + 1)).toInt16.toInt32) ie il ih ip ir iq C (ww_wr M (sp - 2) (nI (A + 3))) (upd R 4 (nI (sp - 2))) O)) : wpX_step Q (zx_m u0 (nI A) ie il ih ip ir iq C M R O) := by
  unfold wpX_step
  refine xn_nb (by omega) hb ?_
  refine br_f (by decide) (br_t (by decide) (br_f (by decide) (br_t (by decide) (br_f (by decide) (br_t (by decide) (br_t rfl ?_))))))
  unfold wX_step_106
  exact xn_nw (by omega) (br_t rfl (xn_push h4 h2 hs (nm_e h)))
theorem xt_jmp (hA : A + 8 < 4096) (hb : M A &&& 255 = 233) (h : Q (zx_m u0 (nI (A + 3) + (ww_rd M (A + 1)).toInt16.toInt32) ie il ih ip ir iq C M R O)) : wpX_step Q (zx_m u0 (nI A) ie il ih ip ir iq C M R O) := by
  unfold wpX_step
  refine xn_nb (by omega) hb ?_
  refine br_f (by decide) (br_t (by decide) (br_f (by decide) (br_t (by decide) (br_f (by decide) (br_t (by decide) (br_f (by decide) (br_t rfl ?_)))))))
  unfold wX_step_106
  exact xn_nw (by omega) (br_f (by decide) (nm_e h))
theorem xt_ret (hA : A + 8 < 4096) (hb : M A &&& 255 = 195) (h4 : R 4 = nI sp) (hs : sp + 1 < 4096) (h : Q (zx_m u0 (ww_rd M sp) ie il ih ip ir iq C M (upd R 4 (nI (sp + 2))) O)) : wpX_step Q (zx_m u0 (nI A) ie il ih ip ir iq C M R O) := by
  unfold wpX_step
  refine xn_nb (by omega) hb ?_
  refine br_f (by decide) (br_t (by decide) (br_f (by decide) (br_t (by decide) (br_f (by decide) (br_t (by decide) (br_f (by decide) (br_f (by decide) (br_t rfl ?_))))))))
  exact xn_pop h4 hs h
theorem xt_retn (hA : A + 8 < 4096) (hb : M A &&& 255 = 194) (h4 : R 4 = nI sp) (hs : sp + 1 < 4096) (h : Q (zx_m u0 (ww_rd M sp) ie il ih ip ir iq C M (upd (upd R 4 (nI (sp + 2))) 4 ((nI (sp + 2) + ww_rd M (A + 1)) &&& 65535)) O)) : wpX_step Q (zx_m u0 (nI A) ie il ih ip ir iq C M R O) := by
  unfold wpX_step
  refine xn_nb (by omega) hb ?_
  refine br_f (by decide) (br_t (by decide) (br_f (by decide) (br_t (by decide) (br_f (by decide) (br_t (by decide) (br_f (by decide) (br_f (by decide) (br_f (by decide) (br_t rfl ?_)))))))))
  exact xn_nw (by omega) (xn_pop h4 hs (nm_e (by rw [pk_us]; exact h)))
theorem xt_int0 (hA : A + 8 < 4096) (hb : M A &&& 255 = 205) (hb1 : M (A + 1) &&& 255 = 0) (h : Q (zx_m u0 (nI (A + 2)) ie il 1 ip ir iq C M R O)) : wpX_step Q (zx_m u0 (nI A) ie il ih ip ir iq C M R O) := by
  unfold wpX_step
  refine xn_nb (by omega) hb ?_
  refine br_f (by decide) (br_t (by decide) (br_f (by decide) (br_t (by decide) (br_f (by decide) (br_t (by decide) (br_f (by decide) (br_f (by decide) (br_f (by decide) (br_f (by decide) (br_t rfl ?_))))))))))
  exact xn_nb (by omega) hb1 (br_t rfl h)
theorem xt_int1 (hA : A + 8 < 4096) (hb : M A &&& 255 = 205) (hb1 : M (A + 1) &&& 255 = 1) (hc : 30 ≤ C) (h : Q (zx_m u0 (nI (A + 2)) ie il ih ip ir iq (C + 1) M R O)) : wpX_step Q (zx_m u0 (nI A) ie il ih ip ir iq C M R O) := by
  unfold wpX_step
  refine xn_nb (by omega) hb ?_
  refine br_f (by decide) (br_t (by decide) (br_f (by decide) (br_t (by decide) (br_f (by decide) (br_t (by decide) (br_f (by decide) (br_f (by decide) (br_f (by decide) (br_f (by decide) (br_t rfl ?_))))))))))
  exact xn_nb (by omega) hb1 (br_f (by decide) (br_t hc (nm_e h)))
theorem xt_int1p (hA : A + 8 < 4096) (hb : M A &&& 255 = 205) (hb1 : M (A + 1) &&& 255 = 1) (hc : ¬ 30 ≤ C) (hi : vp_in C 30) (h : Q (zx_m u0 (nI (A + 2)) ie il ih ip ir iq (C + 1) M R (upd O C.toNatClampNeg (R 0).toInt16.toInt32))) : wpX_step Q (zx_m u0 (nI A) ie il ih ip ir iq C M R O) := by
  unfold wpX_step
  refine xn_nb (by omega) hb ?_
  refine br_f (by decide) (br_t (by decide) (br_f (by decide) (br_t (by decide) (br_f (by decide) (br_t (by decide) (br_f (by decide) (br_f (by decide) (br_f (by decide) (br_f (by decide) (br_t rfl ?_))))))))))
  exact xn_nb (by omega) hb1 (br_f (by decide) (br_f hc ⟨hi, nm_r (by rw [pk_vs]) (nm_e h)⟩))
theorem xt_jl1 (hA : A + 8 < 4096) (hb : M A &&& 255 = 124) (hf : il = 1) (h : Q (zx_m u0 (nI (A + 2) + (M (A + 1) &&& 255).toInt8.toInt32) ie il ih ip ir iq C M R O)) : wpX_step Q (zx_m u0 (nI A) ie il ih ip ir iq C M R O) := by
  unfold wpX_step
  refine xn_nb (by omega) hb ?_
  refine br_f (by decide) (br_t (by decide) (br_f (by decide) (br_t (by decide) (br_t (by decide) (br_f (by decide) (br_f (by decide) (br_f (by decide) (br_f (by decide) (br_f (by decide) (br_t rfl ?_))))))))))
  unfold wX_step_237 wpX_branch
  exact xn_next (by omega) (br_t rfl (br_f (by rw [hf]; decide) (nm_e h)))
theorem xt_jl0 (hA : A + 8 < 4096) (hb : M A &&& 255 = 124) (hf : il = 0) (h : Q (zx_m u0 (nI (A + 2)) ie il ih ip ir iq C M R O)) : wpX_step Q (zx_m u0 (nI A) ie il ih ip ir iq C M R O) := by
  unfold wpX_step
  refine xn_nb (by omega) hb ?_
  refine br_f (by decide) (br_t (by decide) (br_f (by decide) (br_t (by decide) (br_t (by decide) (br_f (by decide) (br_f (by decide) (br_f (by decide) (br_f (by decide) (br_f (by decide) (br_t rfl ?_))))))))))
  unfold wX_step_237 wpX_branch
  exact xn_next (by omega) (br_t rfl (br_t hf h))
theorem xt_je1 (hA : A + 8 < 4096) (hb : M A &&& 255 = 116) (hf : ie = 1) (h : Q (zx_m u0 (nI (A + 2) + (M (A + 1) &&& 255).toInt8.toInt32) ie il ih ip ir iq C M R O)) : wpX_step Q (zx_m u0 (nI A) ie il ih ip ir iq C M R O) := by
  unfold wpX_step
  refine xn_nb (by omega) hb ?_
  refine br_f (by decide) (br_t (by decide) (br_f (by decide) (br_t (by decide) (br_t (by decide) (br_f (by decide) (br_f (by decide) (br_f (by decide) (br_f (by decide) (br_f (by decide) (br_f (by decide) (br_t rfl ?_)))))))))))
  unfold wX_step_237 wpX_branch
  exact xn_next (by omega) (br_f (by decide) (br_t rfl (br_t hf (br_f (by decide) (nm_e h)))))
theorem xt_je0 (hA : A + 8 < 4096) (hb : M A &&& 255 = 116) (hf : ie = 0) (h : Q (zx_m u0 (nI (A + 2)) ie il ih ip ir iq C M R O)) : wpX_step Q (zx_m u0 (nI A) ie il ih ip ir iq C M R O) := by
  unfold wpX_step
  refine xn_nb (by omega) hb ?_
  refine br_f (by decide) (br_t (by decide) (br_f (by decide) (br_t (by decide) (br_t (by decide) (br_f (by decide) (br_f (by decide) (br_f (by decide) (br_f (by decide) (br_f (by decide) (br_f (by decide) (br_t rfl ?_)))))))))))
  unfold wX_step_237 wpX_branch
  exact xn_next (by omega) (br_f (by decide) (br_t rfl (br_f (by rw [hf]; decide) (br_t rfl h))))
theorem xt_jne1 (hA : A + 8 < 4096) (hb : M A &&& 255 = 117) (hf : ie = 0) (h : Q (zx_m u0 (nI (A + 2) + (M (A + 1) &&& 255).toInt8.toInt32) ie il ih ip ir iq C M R O)) : wpX_step Q (zx_m u0 (nI A) ie il ih ip ir iq C M R O) := by
  unfold wpX_step
  refine xn_nb (by omega) hb ?_
  refine br_f (by decide) (br_t (by decide) (br_f (by decide) (br_t (by decide) (br_t (by decide) (br_f (by decide) (br_f (by decide) (br_f (by decide) (br_f (by decide) (br_f (by decide) (br_f (by decide) (br_f (by decide) (br_t rfl ?_))))))))))))
  unfold wX_step_237 wpX_branch
  exact xn_next (by omega) (br_f (by decide) (br_f (by decide) (br_t hf (br_f (by decide) (nm_e h)))))
theorem xt_jne0 (hA : A + 8 < 4096) (hb : M A &&& 255 = 117) (hf : ie = 1) (h : Q (zx_m u0 (nI (A + 2)) ie il ih ip ir iq C M R O)) : wpX_step Q (zx_m u0 (nI A) ie il ih ip ir iq C M R O) := by
  unfold wpX_step
  refine xn_nb (by omega) hb ?_
  refine br_f (by decide) (br_t (by decide) (br_f (by decide) (br_t (by decide) (br_t (by decide) (br_f (by decide) (br_f (by decide) (br_f (by decide) (br_f (by decide) (br_f (by decide) (br_f (by decide) (br_f (by decide) (br_t rfl ?_))))))))))))
  unfold wX_step_237 wpX_branch
  exact xn_next (by omega) (br_f (by decide) (br_f (by decide) (br_f (by rw [hf]; decide) (br_t rfl h))))
theorem xd_reg {K : SX → Prop} {b f l : Int32} (hA : A + 4 < 4096) (hb : M A &&& 255 = b) (h3 : b >>> ((6 : Int32) &&& 31) = 3) (hf : (b >>> ((3 : Int32) &&& 31)) &&& 7 = f) (hl : b &&& 7 = l) (h : K (zx_m u0 (nI (A + 1)) ie il ih l 1 f C M R O)) : wpX_decode K (zx_m u0 (nI A) ie il ih ip ir iq C M R O) := by
  unfold wpX_decode
  refine xn_nb (by omega) hb ?_
  exact (nm_r hf (nm_r h3 (nm_r hl (br_t rfl ⟨rfl, rfl, br_f (by decide) h⟩))))
theorem xd_abs {K : SX → Prop} {b f : Int32} (hA : A + 4 < 4096) (hb : M A &&& 255 = b) (h3 : b >>> ((6 : Int32) &&& 31) = 0) (hf : (b >>> ((3 : Int32) &&& 31)) &&& 7 = f) (hl : b &&& 7 = 6) (h : K (zx_m u0 (nI (A + 3)) ie il ih (ww_rd M (A + 1)) 0 f C M R O)) : wpX_decode K (zx_m u0 (nI A) ie il ih ip ir iq C M R O) := by
  unfold wpX_decode
  refine xn_nb (by omega) hb ?_
  exact (nm_r hf (nm_r h3 (nm_r hl (br_f (by decide) ⟨rfl, rfl, br_t rfl (br_t rfl (br_t rfl (xn_nw (by omega) h)))⟩))))
theorem xd_bx0 {K : SX → Prop} {b f : Int32} (hA : A + 4 < 4096) (hb : M A &&& 255 = b) (h3 : b >>> ((6 : Int32) &&& 31) = 0) (hf : (b >>> ((3 : Int32) &&& 31)) &&& 7 = f) (hl : b &&& 7 = 7) (h : K (zx_m u0 (nI (A + 1)) ie il ih (R 3) 0 f C M R O)) : wpX_decode K (zx_m u0 (nI A) ie il ih ip ir iq C M R O) := by
  unfold wpX_decode
  refine xn_nb (by omega) hb ?_
  exact (nm_r hf (nm_r h3 (nm_r hl (br_f (by decide) ⟨rfl, rfl, br_t rfl (br_t rfl (br_f (by decide) (nm_e h)))⟩))))
theorem xd_bxd {K : SX → Prop} {b f : Int32} (hA : A + 4 < 4096) (hb : M A &&& 255 = b) (h3 : b >>> ((6 : Int32) &&& 31) = 1) (hf : (b >>> ((3 : Int32) &&& 31)) &&& 7 = f) (hl : b &&& 7 = 7) (h : K (zx_m u0 (nI (A + 2)) ie il ih ((R 3 + (M (A + 1) &&& 255).toInt8.toInt32) &&& 65535) 0 f C M R O)) : wpX_decode K (zx_m u0 (nI A) ie il ih ip ir iq C M R O) := by
  unfold wpX_decode
  refine xn_nb (by omega) hb ?_
  exact (nm_r hf (nm_r h3 (nm_r hl (br_f (by decide) ⟨rfl, rfl, br_t rfl (br_f (by decide) (xn_next (by omega) (br_t rfl (nm_e h))))⟩))))
theorem xd_bpd {K : SX → Prop} {b f : Int32} (hA : A + 4 < 4096) (hb : M A &&& 255 = b) (h3 : b >>> ((6 : Int32) &&& 31) = 1) (hf : (b >>> ((3 : Int32) &&& 31)) &&& 7 = f) (hl : b &&& 7 = 6) (h : K (zx_m u0 (nI (A + 2)) ie il ih ((R 5 + (M (A + 1) &&& 255).toInt8.toInt32) &&& 65535) 0 f C M R O)) : wpX_decode K (zx_m u0 (nI A) ie il ih ip ir iq C M R O) := by
  unfold wpX_decode
  refine xn_nb (by omega) hb ?_
  exact (nm_r hf (nm_r h3 (nm_r hl (br_f (by decide) ⟨rfl, rfl, br_t rfl (br_f (by decide) (xn_next (by omega) (br_f (by decide) (nm_e h))))⟩))))
theorem xo_reg {K : Int32 → Prop} {ia l : Int32} (hl : vp_in l 8) (h : K (R l.toNatClampNeg)) : wpX_operand K (zx_m u0 ia ie il ih l 1 iq C M R O) :=
  br_f (by decide) ⟨hl, h⟩
theorem xo_mem {K : Int32 → Prop} {ia : Int32} {a : Nat} (hp : ip = nI a) (ha : a + 1 < 4096) (h : K (ww_rd M a)) : wpX_operand K (zx_m u0 ia ie il ih ip 0 iq C M R O) := by
  subst hp
  exact br_t rfl (xn_word ha h)
theorem xc_cmp {K : SX → Prop} {ia x y : Int32} (h : K (zx_m u0 ia (if x &&& 65535 = y &&& 65535 then 1 else 0) (if y.toInt16.toInt32 ≤ x.toInt16.toInt32 then 0 else 1) ih ip ir iq C M R O)) : wpX_compare K (zx_m u0 ia ie il ih ip ir iq C M R O) x y := by
  by_cases e : x &&& 65535 = y &&& 65535
  · rw [if_pos e] at h
    by_cases f : y.toInt16.toInt32 ≤ x.toInt16.toInt32
    · rw [if_pos f] at h
      exact br_t e ⟨rfl, rfl, br_t f h⟩
    · rw [if_neg f] at h
      exact br_t e ⟨rfl, rfl, br_f f h⟩
  · rw [if_neg e] at h
    by_cases f : y.toInt16.toInt32 ≤ x.toInt16.toInt32
    · rw [if_pos f] at h
      exact br_f e ⟨rfl, rfl, br_t f h⟩
    · rw [if_neg f] at h
      exact br_f e ⟨rfl, rfl, br_f f h⟩
theorem xt_mov_bxax (hA : A + 8 < 4096) (hb : M A &&& 255 = 139) (hb1 : M (A + 1) &&& 255 = 216) (h : Q (zx_m u0 (nI (A + 2)) ie il ih 0 1 3 C M (upd R 3 (R 0)) O)) : wpX_step Q (zx_m u0 (nI A) ie il ih ip ir iq C M R O) := by
  unfold wpX_step
  refine xn_nb (by omega) hb ?_
  refine br_f (by decide) (br_t (by decide) (br_f (by decide) (br_t (by decide) (br_t (by decide) (br_f (by decide) (br_f (by decide) (br_f (by decide) (br_f (by decide) (br_f (by decide) (br_f (by decide) (br_f (by decide) (br_f (by decide) (?_)))))))))))))
  unfold wpX_stepWithPlace
  refine xd_reg (f := 3) (l := 0) (by omega) hb1 (by decide) (by decide) (by decide) ?_
  exact br_t rfl (xo_reg (vp_in_iff.mpr (by decide)) ⟨(vp_in_iff.mpr (by decide)), nm_e h⟩)
theorem xt_mov_bpsp (hA : A + 8 < 4096) (hb : M A &&& 255 = 139) (hb1 : M (A + 1) &&& 255 = 236) (h : Q (zx_m u0 (nI (A + 2)) ie il ih 4 1 5 C M (upd R 5 (R 4)) O)) : wpX_step Q (zx_m u0 (nI A) ie il ih ip ir iq C M R O) := by
  unfold wpX_step
  refine xn_nb (by omega) hb ?_
  refine br_f (by decide) (br_t (by decide) (br_f (by decide) (br_t (by decide) (br_t (by decide) (br_f (by decide) (br_f (by decide) (br_f (by decide) (br_f (by decide) (br_f (by decide) (br_f (by decide) (br_f (by decide) (br_f (by decide) (?_)))))))))))))
  unfold wpX_stepWithPlace
  refine xd_reg (f := 5) (l := 4) (by omega) hb1 (by decide) (by decide) (by decide) ?_
  exact br_t rfl (xo_reg (vp_in_iff.mpr (by decide)) ⟨(vp_in_iff.mpr (by decide)), nm_e h⟩)
theorem xt_mov_spbp (hA : A + 8 < 4096) (hb : M A &&& 255 = 139) (hb1 : M (A + 1) &&& 255 = 229) (h : Q (zx_m u0 (nI (A + 2)) ie il ih 5 1 4 C M (upd R 4 (R 5)) O)) : wpX_step Q (zx_m u0 (nI A) ie il ih ip ir iq C M R O) := by
  unfold wpX_step
  refine xn_nb (by omega) hb ?_
  refine br_f (by decide) (br_t (by decide) (br_f (by decide) (br_t (by decide) (br_t (by decide) (br_f (by decide) (br_f (by decide) (br_f (by decide) (br_f (by decide) (br_f (by decide) (br_f (by decide) (br_f (by decide) (br_f (by decide) (?_)))))))))))))
  unfold wpX_stepWithPlace
  refine xd_reg (f := 4) (l := 5) (by omega) hb1 (by decide) (by decide) (by decide) ?_
  exact br_t rfl (xo_reg (vp_in_iff.mpr (by decide)) ⟨(vp_in_iff.mpr (by decide)), nm_e h⟩)
theorem xt_mov_siw (hA : A + 8 < 4096) (hb : M A &&& 255 = 139) (hb1 : M (A + 1) &&& 255 = 54) {a : Nat} (hw : ww_rd M (A + 2) = nI a) (ha : a + 1 < 4096) (h : Q (zx_m u0 (nI (A + 4)) ie il ih (ww_rd M (A + 2)) 0 6 C M (upd R 6 (ww_rd M a)) O)) : wpX_step Q (zx_m u0 (nI A) ie il ih ip ir iq C M R O) := by
  unfold wpX_step
  refine xn_nb (by omega) hb ?_
  refine br_f (by decide) (br_t (by decide) (br_f (by decide) (br_t (by decide) (br_t (by decide) (br_f (by decide) (br_f (by decide) (br_f (by decide) (br_f (by decide) (br_f (by decide) (br_f (by decide) (br_f (by decide) (br_f (by decide) (?_)))))))))))))
  unfold wpX_stepWithPlace
  refine xd_abs (f := 6) (by omega) hb1 (by decide) (by decide) (by decide) ?_
  exact br_t rfl (xo_mem hw ha ⟨(vp_in_iff.mpr (by decide)), nm_e h⟩)
theorem xt_ld_bxbp (hA : A + 8 < 4096) (hb : M A &&& 255 = 139) (hb1 : M (A + 1) &&& 255 = 94) {a : Nat} (hw : (R 5 + (M (A + 2) &&& 255).toInt8.toInt32) &&& 65535 = nI a) (ha : a + 1 < 4096) (h : Q (zx_m u0 (nI (A + 3)) ie il ih ((R 5 + (M (A + 2) &&& 255).toInt8.toInt32) &&& 65535) 0 3 C M (upd R 3 (ww_rd M a)) O)) : wpX_step Q (zx_m u0 (nI A) ie il ih ip ir iq C M R O) := by
  unfold wpX_step
  refine xn_nb (by omega) hb ?_
  refine br_f (by decide) (br_t (by decide) (br_f (by decide) (br_t (by decide) (br_t (by decide) (br_f (by decide) (br_f (by decide) (br_f (by decide) (br_f (by decide) (br_f (by decide) (br_f (by decide) (br_f (by decide) (br_f (by decide) (?_)))))))))))))
  unfold wpX_stepWithPlace
  refine xd_bpd (f := 3) (by omega) hb1 (by decide) (by decide) (by decide) ?_
  exact br_t rfl (xo_mem hw ha ⟨(vp_in_iff.mpr (by decide)), nm_e h⟩)
theorem xt_ld_bxbx (hA : A + 8 < 4096) (hb : M A &&& 255 = 139) (hb1 : M (A + 1) &&& 255 = 95) {a : Nat} (hw : (R 3 + (M (A + 2) &&& 255).toInt8.toInt32) &&& 65535 = nI a) (ha : a + 1 < 4096) (h : Q (zx_m u0 (nI (A + 3)) ie il ih ((R 3 + (M (A + 2) &&& 255).toInt8.toInt32) &&& 65535) 0 3 C M (upd R 3 (ww_rd M a)) O)) : wpX_step Q (zx_m u0 (nI A) ie il ih ip ir iq C M R O) := by
  unfold wpX_step
  refine xn_nb (by omega) hb ?_
  refine br_f (by decide) (br_t (by decide) (br_f (by decide) (br_t (by decide) (br_t (by decide) (br_f (by decide) (br_f (by decide) (br_f (by decide) (br_f (by decide) (br_f (by decide) (br_f (by decide) (br_f (by decide) (br_f (by decide) (?_)))))))))))))
  unfold wpX_stepWithPlace
  refine xd_bxd (f := 3) (by omega) hb1 (by decide) (by decide) (by decide) ?_
  exact br_t rfl (xo_mem hw ha ⟨(vp_in_iff.mpr (by decide)), nm_e h⟩)
theorem xt_ld_axbp (hA : A + 8 < 4096) (hb : M A &&& 255 = 139) (hb1 : M (A + 1) &&& 255 = 70) {a : Nat} (hw : (R 5 + (M (A + 2) &&& 255).toInt8.toInt32) &&& 65535 = nI a) (ha : a + 1 < 4096) (h : Q (zx_m u0 (nI (A + 3)) ie il ih ((R 5 + (M (A + 2) &&& 255).toInt8.toInt32) &&& 65535) 0 0 C M (upd R 0 (ww_rd M a)) O)) : wpX_step Q (zx_m u0 (nI A) ie il ih ip ir iq C M R O) := by
  unfold wpX_step
  refine xn_nb (by omega) hb ?_
  refine br_f (by decide) (br_t (by decide) (br_f (by decide) (br_t (by decide) (br_t (by decide) (br_f (by decide) (br_f (by decide) (br_f (by decide) (br_f (by decide) (br_f (by decide) (br_f (by decide) (br_f (by decide) (br_f (by decide) (?_)))))))))))))
  unfold wpX_stepWithPlace
  refine xd_bpd (f := 0) (by omega) hb1 (by decide) (by decide) (by decide) ?_
  exact br_t rfl (xo_mem hw ha ⟨(vp_in_iff.mpr (by decide)), nm_e h⟩)
theorem xt_ld_axbx (hA : A + 8 < 4096) (hb : M A &&& 255 = 139) (hb1 : M (A + 1) &&& 255 = 71) {a : Nat} (hw : (R 3 + (M (A + 2) &&& 255).toInt8.toInt32) &&& 65535 = nI a) (ha : a + 1 < 4096) (h : Q (zx_m u0 (nI (A + 3)) ie il ih ((R 3 + (M (A + 2) &&& 255).toInt8.toInt32) &&& 65535) 0 0 C M (upd R 0 (ww_rd M a)) O)) : wpX_step Q (zx_m u0 (nI A) ie il ih ip ir iq C M R O) := by
  unfold wpX_step
  refine xn_nb (by omega) hb ?_
  refine br_f (by decide) (br_t (by decide) (br_f (by decide) (br_t (by decide) (br_t (by decide) (br_f (by decide) (br_f (by decide) (br_f (by decide) (br_f (by decide) (br_f (by decide) (br_f (by decide) (br_f (by decide) (br_f (by decide) (?_)))))))))))))
  unfold wpX_stepWithPlace
  refine xd_bxd (f := 0) (by omega) hb1 (by decide) (by decide) (by decide) ?_
  exact br_t rfl (xo_mem hw ha ⟨(vp_in_iff.mpr (by decide)), nm_e h⟩)
theorem xt_ld_sibp (hA : A + 8 < 4096) (hb : M A &&& 255 = 139) (hb1 : M (A + 1) &&& 255 = 118) {a : Nat} (hw : (R 5 + (M (A + 2) &&& 255).toInt8.toInt32) &&& 65535 = nI a) (ha : a + 1 < 4096) (h : Q (zx_m u0 (nI (A + 3)) ie il ih ((R 5 + (M (A + 2) &&& 255).toInt8.toInt32) &&& 65535) 0 6 C M (upd R 6 (ww_rd M a)) O)) : wpX_step Q (zx_m u0 (nI A) ie il ih ip ir iq C M R O) := by
  unfold wpX_step
  refine xn_nb (by omega) hb ?_
  refine br_f (by decide) (br_t (by decide) (br_f (by decide) (br_t (by decide) (br_t (by decide) (br_f (by decide) (br_f (by decide) (br_f (by decide) (br_f (by decide) (br_f (by decide) (br_f (by decide) (br_f (by decide) (br_f (by decide) (?_)))))))))))))
  unfold wpX_stepWithPlace
  refine xd_bpd (f := 6) (by omega) hb1 (by decide) (by decide) (by decide) ?_
  exact br_t rfl (xo_mem hw ha ⟨(vp_in_iff.mpr (by decide)), nm_e h⟩)
theorem xt_ld_sibx (hA : A + 8 < 4096) (hb : M A &&& 255 = 139) (hb1 : M (A + 1) &&& 255 = 119) {a : Nat} (hw : (R 3 + (M (A + 2) &&& 255).toInt8.toInt32) &&& 65535 = nI a) (ha : a + 1 < 4096) (h : Q (zx_m u0 (nI (A + 3)) ie il ih ((R 3 + (M (A + 2) &&& 255).toInt8.toInt32) &&& 65535) 0 6 C M (upd R 6 (ww_rd M a)) O)) : wpX_step Q (zx_m u0 (nI A) ie il ih ip ir iq C M R O) := by
  unfold wpX_step
  refine xn_nb (by omega) hb ?_
  refine br_f (by decide) (br_t (by decide) (br_f (by decide) (br_t (by decide) (br_t (by decide) (br_f (by decide) (br_f (by decide) (br_f (by decide) (br_f (by decide) (br_f (by decide) (br_f (by decide) (br_f (by decide) (br_f (by decide) (?_)))))))))))))
  unfold wpX_stepWithPlace
  refine xd_bxd (f := 6) (by omega) hb1 (by decide) (by decide) (by decide) ?_
  exact br_t rfl (xo_mem hw ha ⟨(vp_in_iff.mpr (by decide)), nm_e h⟩)
theorem xt_ld_bpbp (hA : A + 8 < 4096) (hb : M A &&& 255 = 139) (hb1 : M (A + 1) &&& 255 = 110) {a : Nat} (hw : (R 5 + (M (A + 2) &&& 255).toInt8.toInt32) &&& 65535 = nI a) (ha : a + 1 < 4096) (h : Q (zx_m u0 (nI (A + 3)) ie il ih ((R 5 + (M (A + 2) &&& 255).toInt8.toInt32) &&& 65535) 0 5 C M (upd R 5 (ww_rd M a)) O)) : wpX_step Q (zx_m u0 (nI A) ie il ih ip ir iq C M R O) := by
  unfold wpX_step
  refine xn_nb (by omega) hb ?_
  refine br_f (by decide) (br_t (by decide) (br_f (by decide) (br_t (by decide) (br_t (by decide) (br_f (by decide) (br_f (by decide) (br_f (by decide) (br_f (by decide) (br_f (by decide) (br_f (by decide) (br_f (by decide) (br_f (by decide) (?_)))))))))))))
  unfold wpX_stepWithPlace
  refine xd_bpd (f := 5) (by omega) hb1 (by decide) (by decide) (by decide) ?_
  exact br_t rfl (xo_mem hw ha ⟨(vp_in_iff.mpr (by decide)), nm_e h⟩)
theorem xt_ld_bpbx (hA : A + 8 < 4096) (hb : M A &&& 255 = 139) (hb1 : M (A + 1) &&& 255 = 111) {a : Nat} (hw : (R 3 + (M (A + 2) &&& 255).toInt8.toInt32) &&& 65535 = nI a) (ha : a + 1 < 4096) (h : Q (zx_m u0 (nI (A + 3)) ie il ih ((R 3 + (M (A + 2) &&& 255).toInt8.toInt32) &&& 65535) 0 5 C M (upd R 5 (ww_rd M a)) O)) : wpX_step Q (zx_m u0 (nI A) ie il ih ip ir iq C M R O) := by
  unfold wpX_step
  refine xn_nb (by omega) hb ?_
  refine br_f (by decide) (br_t (by decide) (br_f (by decide) (br_t (by decide) (br_t (by decide) (br_f (by decide) (br_f (by decide) (br_f (by decide) (br_f (by decide) (br_f (by decide) (br_f (by decide) (br_f (by decide) (br_f (by decide) (?_)))))))))))))
  unfold wpX_stepWithPlace
  refine xd_bxd (f := 5) (by omega) hb1 (by decide) (by decide) (by decide) ?_
  exact br_t rfl (xo_mem hw ha ⟨(vp_in_iff.mpr (by decide)), nm_e h⟩)
theorem xt_ld_ax0 (hA : A + 8 < 4096) (hb : M A &&& 255 = 139) (hb1 : M (A + 1) &&& 255 = 7) {a : Nat} (hw : R 3 = nI a) (ha : a + 1 < 4096) (h : Q (zx_m u0 (nI (A + 2)) ie il ih (R 3) 0 0 C M (upd R 0 (ww_rd M a)) O)) : wpX_step Q (zx_m u0 (nI A) ie il ih ip ir iq C M R O) := by
  unfold wpX_step
  refine xn_nb (by omega) hb ?_
  refine br_f (by decide) (br_t (by decide) (br_f (by decide) (br_t (by decide) (br_t (by decide) (br_f (by decide) (br_f (by decide) (br_f (by decide) (br_f (by decide) (br_f (by decide) (br_f (by decide) (br_f (by decide) (br_f (by decide) (?_)))))))))))))
  unfold wpX_stepWithPlace
  refine xd_bx0 (f := 0) (by omega) hb1 (by decide) (by decide) (by decide) ?_
  exact br_t rfl (xo_mem hw ha ⟨(vp_in_iff.mpr (by decide)), nm_e h⟩)
theorem xt_st_bp (hA : A + 8 < 4096) (hb : M A &&& 255 = 137) (hb1 : M (A + 1) &&& 255 = 70) {a : Nat} (hw : (R 5 + (M (A + 2) &&& 255).toInt8.toInt32) &&& 65535 = nI a) (ha : a + 1 < 4096) (h : Q (zx_m u0 (nI (A + 3)) ie il ih (nI a) 0 0 C (ww_wr M a (R 0)) R O)) : wpX_step Q (zx_m u0 (nI A) ie il ih ip ir iq C M R O) := by
  unfold wpX_step
  refine xn_nb (by omega) hb ?_
  refine br_f (by decide) (br_t (by decide) (br_f (by decide) (br_t (by decide) (br_t (by decide) (br_f (by decide) (br_f (by decide) (br_f (by decide) (br_f (by decide) (br_f (by decide) (br_f (by decide) (br_f (by decide) (br_f (by decide) (?_)))))))))))))
  unfold wpX_stepWithPlace
  refine xd_bpd (f := 0) (by omega) hb1 (by decide) (by decide) (by decide) ?_
  exact by rw [hw]; exact br_f (by decide) (br_t rfl ⟨(vp_in_iff.mpr (by decide)), br_t rfl (xn_set ha h)⟩)
theorem xt_st_bx (hA : A + 8 < 4096) (hb : M A &&& 255 = 137) (hb1 : M (A + 1) &&& 255 = 71) {a : Nat} (hw : (R 3 + (M (A + 2) &&& 255).toInt8.toInt32) &&& 65535 = nI a) (ha : a + 1 < 4096) (h : Q (zx_m u0 (nI (A + 3)) ie il ih (nI a) 0 0 C (ww_wr M a (R 0)) R O)) : wpX_step Q (zx_m u0 (nI A) ie il ih ip ir iq C M R O) := by
  unfold wpX_step
  refine xn_nb (by omega) hb ?_
  refine br_f (by decide) (br_t (by decide) (br_f (by decide) (br_t (by decide) (br_t (by decide) (br_f (by decide) (br_f (by decide) (br_f (by decide) (br_f (by decide) (br_f (by decide) (br_f (by decide) (br_f (by decide) (br_f (by decide) (?_)))))))))))))
  unfold wpX_stepWithPlace
  refine xd_bxd (f := 0) (by omega) hb1 (by decide) (by decide) (by decide) ?_
  exact by rw [hw]; exact br_f (by decide) (br_t rfl ⟨(vp_in_iff.mpr (by decide)), br_t rfl (xn_set ha h)⟩)
theorem xt_st_0 (hA : A + 8 < 4096) (hb : M A &&& 255 = 137) (hb1 : M (A + 1) &&& 255 = 7) {a : Nat} (hw : R 3 = nI a) (ha : a + 1 < 4096) (h : Q (zx_m u0 (nI (A + 2)) ie il ih (nI a) 0 0 C (ww_wr M a (R 0)) R O)) : wpX_step Q (zx_m u0 (nI A) ie il ih ip ir iq C M R O) := by
  unfold wpX_step
  refine xn_nb (by omega) hb ?_
  refine br_f (by decide) (br_t (by decide) (br_f (by decide) (br_t (by decide) (br_t (by decide) (br_f (by decide) (br_f (by decide) (br_f (by decide) (br_f (by decide) (br_f (by decide) (br_f (by decide) (br_f (by decide) (br_f (by decide) (?_)))))))))))))
  unfold wpX_stepWithPlace
  refine xd_bx0 (f := 0) (by omega) hb1 (by decide) (by decide) (by decide) ?_
  exact by rw [hw]; exact br_f (by decide) (br_t rfl ⟨(vp_in_iff.mpr (by decide)), br_t rfl (xn_set ha h)⟩)
theorem xt_lea (hA : A + 8 < 4096) (hb : M A &&& 255 = 141) (hb1 : M (A + 1) &&& 255 = 94) (h : Q (zx_m u0 (nI (A + 3)) ie il ih ((R 5 + (M (A + 2) &&& 255).toInt8.toInt32) &&& 65535) 0 3 C M (upd R 3 ((R 5 + (M (A + 2) &&& 255).toInt8.toInt32) &&& 65535)) O)) : wpX_step Q (zx_m u0 (nI A) ie il ih ip ir iq C M R O) := by
  unfold wpX_step
  refine xn_nb (by omega) hb ?_
  refine br_f (by decide) (br_t (by decide) (br_f (by decide) (br_t (by decide) (br_t (by decide) (br_f (by decide) (br_f (by decide) (br_f (by decide) (br_f (by decide) (br_f (by decide) (br_f (by decide) (br_f (by decide) (br_f (by decide) (?_)))))))))))))
  unfold wpX_stepWithPlace
  refine xd_bpd (f := 3) (by omega) hb1 (by decide) (by decide) (by decide) ?_
  exact br_f (by decide) (br_f (by decide) (br_t rfl ⟨(vp_in_iff.mpr (by decide)), nm_e h⟩))
theorem xt_cmpw (hA : A + 8 < 4096) (hb : M A &&& 255 = 129) (hb1 : M (A + 1) &&& 255 = 62) {a : Nat} (hw : ww_rd M (A + 2) = nI a) (ha : a + 1 < 4096) (h : Q (zx_m u0 (nI (A + 6)) (if (ww_rd M a) &&& 65535 = (ww_rd M (A + 4)) &&& 65535 then 1 else 0) (if (ww_rd M (A + 4)).toInt16.toInt32 ≤ (ww_rd M a).toInt16.toInt32 then 0 else 1) ih (nI a) 0 7 C M R O)) : wpX_step Q (zx_m u0 (nI A) ie il ih ip ir iq C M R O) := by
  unfold wpX_step
  refine xn_nb (by omega) hb ?_
  refine br_f (by decide) (br_t (by decide) (br_f (by decide) (br_t (by decide) (br_t (by decide) (br_f (by decide) (br_f (by decide) (br_f (by decide) (br_f (by decide) (br_f (by decide) (br_f (by decide) (br_f (by decide) (br_f (by decide) (?_)))))))))))))
  unfold wpX_stepWithPlace
  refine xd_abs (f := 7) (by omega) hb1 (by decide) (by decide) (by decide) ?_
  exact by rw [hw]; exact br_f (by decide) (br_f (by decide) (br_f (by decide) (br_t rfl (xn_nw (by omega) (xo_mem rfl ha (xc_cmp h))))))
theorem xt_cmpb (hA : A + 8 < 4096) (hb : M A &&& 255 = 131) (hb1 : M (A + 1) &&& 255 = 62) {a : Nat} (hw : ww_rd M (A + 2) = nI a) (ha : a + 1 < 4096) (h : Q (zx_m u0 (nI (A + 5)) (if (ww_rd M a) &&& 65535 = ((M (A + 4) &&& 255).toInt8.toInt32) &&& 65535 then 1 else 0) (if ((M (A + 4) &&& 255).toInt8.toInt32).toInt16.toInt32 ≤ (ww_rd M a).toInt16.toInt32 then 0 else 1) ih (nI a) 0 7 C M R O)) : wpX_step Q (zx_m u0 (nI A) ie il ih ip ir iq C M R O) := by
  unfold wpX_step
  refine xn_nb (by omega) hb ?_
  refine br_f (by decide) (br_t (by decide) (br_f (by decide) (br_t (by decide) (br_t (by decide) (br_f (by decide) (br_f (by decide) (br_f (by decide) (br_f (by decide) (br_f (by decide) (br_f (by decide) (br_f (by decide) (br_f (by decide) (?_)))))))))))))
  unfold wpX_stepWithPlace
  refine xd_abs (f := 7) (by omega) hb1 (by decide) (by decide) (by decide) ?_
  exact by rw [hw]; exact br_f (by decide) (br_f (by decide) (br_f (by decide) (br_f (by decide) (br_t rfl (by unfold wpX_withByte; refine xn_next (by omega) ?_; exact xo_mem rfl ha (br_t rfl (xc_cmp h)))))))
theorem xt_addbx (hA : A + 8 < 4096) (hb : M A &&& 255 = 131) (hb1 : M (A + 1) &&& 255 = 195) (h : Q (zx_m u0 (nI (A + 3)) ie il ih 3 1 0 C M (upd R 3 ((R 3 + (M (A + 2) &&& 255).toInt8.toInt32) &&& 65535)) O)) : wpX_step Q (zx_m u0 (nI A) ie il ih ip ir iq C M R O) := by
  unfold wpX_step
  refine xn_nb (by omega) hb ?_
  refine br_f (by decide) (br_t (by decide) (br_f (by decide) (br_t (by decide) (br_t (by decide) (br_f (by decide) (br_f (by decide) (br_f (by decide) (br_f (by decide) (br_f (by decide) (br_f (by decide) (br_f (by decide) (br_f (by decide) (?_)))))))))))))
  unfold wpX_stepWithPlace
  refine xd_reg (f := 0) (l := 3) (by omega) hb1 (by decide) (by decide) (by decide) ?_
  exact br_f (by decide) (br_f (by decide) (br_f (by decide) (br_f (by decide) (br_t rfl (by unfold wpX_withByte; refine xn_next (by omega) ?_; exact xo_reg (vp_in_iff.mpr (by decide)) (br_f (by decide) (br_f (by decide) ⟨(vp_in_iff.mpr (by decide)), nm_e h⟩)))))))
theorem xt_callsi (hA : A + 8 < 4096) (hb : M A &&& 255 = 255) (hb1 : M (A + 1) &&& 255 = 214) (h4 : R 4 = nI sp) (h2 : 2 ≤ sp) (hs : sp ≤ 4096) (h : Q (zx_m u0 (R 6) ie il ih 6 1 2 C (ww_wr M (sp - 2) (nI (A + 2))) (upd R 4 (nI (sp - 2))) O)) : wpX_step Q (zx_m u0 (nI A) ie il ih ip ir iq C M R O) := by
  unfold wpX_step
  refine xn_nb (by omega) hb ?_
  refine br_f (by decide) (br_t (by decide) (br_f (by decide) (br_t (by decide) (br_f (by decide) (br_t (by decide) (br_f (by decide) (br_f (by decide) (br_f (by decide) (br_f (by decide) (br_f (by decide) (br_f (by decide) (br_f (by decide) (br_f (by decide) (?_))))))))))))))
  unfold wpX_stepWithPlace
  refine xd_reg (f := 2) (l := 6) (by omega) hb1 (by decide) (by decide) (by decide) ?_
  exact br_f (by decide) (br_f (by decide) (br_f (by decide) (br_f (by decide) (br_f (by decide) (br_t rfl (by unfold wpX_countOrCall; exact xo_reg (vp_in_iff.mpr (by decide)) (br_t rfl (xn_push h4 h2 hs h))))))))
theorem xt_inc (hA : A + 8 < 4096) (hb : M A &&& 255 = 255) (hb1 : M (A + 1) &&& 255 = 6) {a : Nat} (hw : ww_rd M (A + 2) = nI a) (ha : a + 1 < 4096) (h : Q (zx_m u0 (nI (A + 4)) ie il ih (nI a) 0 0 C (ww_wr M a (ww_rd M a + 1)) R O)) : wpX_step Q (zx_m u0 (nI A) ie il ih ip ir iq C M R O) := by
  unfold wpX_step
  refine xn_nb (by omega) hb ?_
  refine br_f (by decide) (br_t (by decide) (br_f (by decide) (br_t (by decide) (br_f (by decide) (br_t (by decide) (br_f (by decide) (br_f (by decide) (br_f (by decide) (br_f (by decide) (br_f (by decide) (br_f (by decide) (br_f (by decide) (br_f (by decide) (?_))))))))))))))
  unfold wpX_stepWithPlace
  refine xd_abs (f := 0) (by omega) hb1 (by decide) (by decide) (by decide) ?_
  exact by rw [hw]; exact br_f (by decide) (br_f (by decide) (br_f (by decide) (br_f (by decide) (br_f (by decide) (br_t rfl (by unfold wpX_countOrCall; exact xo_mem rfl ha (br_f (by decide) (br_t rfl (br_t rfl (xn_set ha h))))))))))
theorem xt_dec (hA : A + 8 < 4096) (hb : M A &&& 255 = 255) (hb1 : M (A + 1) &&& 255 = 14) {a : Nat} (hw : ww_rd M (A + 2) = nI a) (ha : a + 1 < 4096) (h : Q (zx_m u0 (nI (A + 4)) ie il ih (nI a) 0 1 C (ww_wr M a (ww_rd M a - 1)) R O)) : wpX_step Q (zx_m u0 (nI A) ie il ih ip ir iq C M R O) := by
  unfold wpX_step
  refine xn_nb (by omega) hb ?_
  refine br_f (by decide) (br_t (by decide) (br_f (by decide) (br_t (by decide) (br_f (by decide) (br_t (by decide) (br_f (by decide) (br_f (by decide) (br_f (by decide) (br_f (by decide) (br_f (by decide) (br_f (by decide) (br_f (by decide) (br_f (by decide) (?_))))))))))))))
  unfold wpX_stepWithPlace
  refine xd_abs (f := 1) (by omega) hb1 (by decide) (by decide) (by decide) ?_
  exact by rw [hw]; exact br_f (by decide) (br_f (by decide) (br_f (by decide) (br_f (by decide) (br_f (by decide) (br_t rfl (by unfold wpX_countOrCall; exact xo_mem rfl ha (br_f (by decide) (br_f (by decide) (br_t rfl (xn_set ha h))))))))))
theorem xt_mul (hA : A + 8 < 4096) (hb : M A &&& 255 = 247) (hb1 : M (A + 1) &&& 255 = 235) (h : Q (zx_m u0 (nI (A + 2)) ie il ih 3 1 5 C M (upd R 0 (((R 0).toInt16.toInt32 * (R 3).toInt16.toInt32) &&& 65535)) O)) : wpX_step Q (zx_m u0 (nI A) ie il ih ip ir iq C M R O) := by
  unfold wpX_step
  refine xn_nb (by omega) hb ?_
  refine br_f (by decide) (br_t (by decide) (br_f (by decide) (br_t (by decide) (br_f (by decide) (br_t (by decide) (br_f (by decide) (br_f (by decide) (br_f (by decide) (br_f (by decide) (br_f (by decide) (br_f (by decide) (br_f (by decide) (br_f (by decide) (?_))))))))))))))
  unfold wpX_stepWithPlace
  refine xd_reg (f := 5) (l := 3) (by omega) hb1 (by decide) (by decide) (by decide) ?_
  exact br_f (by decide) (br_f (by decide) (br_f (by decide) (br_f (by decide) (br_f (by decide) (br_f (by decide) (br_t rfl (xo_reg (vp_in_iff.mpr (by decide)) (nm_e h))))))))
theorem xt_cmp (hA : A + 8 < 4096) (hb : M A &&& 255 = 59) (hb1 : M (A + 1) &&& 255 = 195) (h : Q (zx_m u0 (nI (A + 2)) (if (R 0) &&& 65535 = (R 3) &&& 65535 then 1 else 0) (if (R 3).toInt16.toInt32 ≤ (R 0).toInt16.toInt32 then 0 else 1) ih 3 1 0 C M R O)) : wpX_step Q (zx_m u0 (nI A) ie il ih ip ir iq C M R O) := by
  unfold wpX_step
  refine xn_nb (by omega) hb ?_
  refine br_t (by decide) (br_t (by decide) (br_t (by decide) (br_f (by decide) (br_f (by decide) (br_f (by decide) (br_f (by decide) (br_f (by decide) (br_f (by decide) (br_f (by decide) (br_f (by decide) (?_)))))))))))
  unfold wpX_stepWithPlace
  refine xd_reg (f := 0) (l := 3) (by omega) hb1 (by decide) (by decide) (by decide) ?_
  exact br_f (by decide) (br_f (by decide) (br_f (by decide) (br_f (by decide) (br_f (by decide) (br_f (by decide) (br_f (by decide) (xo_reg (vp_in_iff.mpr (by decide)) ⟨(vp_in_iff.mpr (by decide)), nm_e (br_t rfl (xc_cmp h))⟩)))))))
theorem xt_add (hA : A + 8 < 4096) (hb : M A &&& 255 = 3) (hb1 : M (A + 1) &&& 255 = 195) (h : Q (zx_m u0 (nI (A + 2)) (if (R 0 + R 3) &&& 65535 = (0) &&& 65535 then 1 else 0) (if (0).toInt16.toInt32 ≤ (R 0 + R 3).toInt16.toInt32 then 0 else 1) ih 3 1 0 C M (upd R 0 ((R 0 + R 3) &&& 65535)) O)) : wpX_step Q (zx_m u0 (nI A) ie il ih ip ir iq C M R O) := by
  unfold wpX_step
  refine xn_nb (by omega) hb ?_
  refine br_t (by decide) (br_t (by decide) (br_t (by decide) (br_f (by decide) (br_f (by decide) (br_f (by decide) (br_f (by decide) (br_f (by decide) (br_f (by decide) (br_f (by decide) (br_f (by decide) (?_)))))))))))
  unfold wpX_stepWithPlace
  refine xd_reg (f := 0) (l := 3) (by omega) hb1 (by decide) (by decide) (by decide) ?_
  exact br_f (by decide) (br_f (by decide) (br_f (by decide) (br_f (by decide) (br_f (by decide) (br_f (by decide) (br_f (by decide) (xo_reg (vp_in_iff.mpr (by decide)) ⟨(vp_in_iff.mpr (by decide)), nm_e (br_f (by decide) (br_t rfl ⟨(vp_in_iff.mpr (by decide)), nm_e (xc_cmp h)⟩))⟩)))))))
theorem xt_sub (hA : A + 8 < 4096) (hb : M A &&& 255 = 43) (hb1 : M (A + 1) &&& 255 = 195) (h : Q (zx_m u0 (nI (A + 2)) (if (R 0 - R 3) &&& 65535 = (0) &&& 65535 then 1 else 0) (if (0).toInt16.toInt32 ≤ (R 0 - R 3).toInt16.toInt32 then 0 else 1) ih 3 1 0 C M (upd R 0 ((R 0 - R 3) &&& 65535)) O)) : wpX_step Q (zx_m u0 (nI A) ie il ih ip ir iq C M R O) := by
  unfold wpX_step
  refine xn_nb (by omega) hb ?_
  refine br_t (by decide) (br_t (by decide) (br_t (by decide) (br_f (by decide) (br_f (by decide) (br_f (by decide) (br_f (by decide) (br_f (by decide) (br_f (by decide) (br_f (by decide) (br_f (by decide) (?_)))))))))))
  unfold wpX_stepWithPlace
  refine xd_reg (f := 0) (l := 3) (by omega) hb1 (by decide) (by decide) (by decide) ?_
  exact br_f (by decide) (br_f (by decide) (br_f (by decide) (br_f (by decide) (br_f (by decide) (br_f (by decide) (br_f (by decide) (xo_reg (vp_in_iff.mpr (by decide)) ⟨(vp_in_iff.mpr (by decide)), nm_e (br_f (by decide) (br_f (by decide) (br_t rfl ⟨(vp_in_iff.mpr (by decide)), nm_e (xc_cmp h)⟩)))⟩)))))))
theorem xt_orax (hA : A + 8 < 4096) (hb : M A &&& 255 = 11) (hb1 : M (A + 1) &&& 255 = 192) (h : Q (zx_m u0 (nI (A + 2)) (if (R 0 ||| R 0) &&& 65535 = (0) &&& 65535 then 1 else 0) (if (0).toInt16.toInt32 ≤ (R 0 ||| R 0).toInt16.toInt32 then 0 else 1) ih 0 1 0 C M (upd R 0 ((R 0 ||| R 0) &&& 65535)) O)) : wpX_step Q (zx_m u0 (nI A) ie il ih ip ir iq C M R O) := by
  unfold wpX_step
  refine xn_nb (by omega) hb ?_
  refine br_t (by decide) (br_t (by decide) (br_t (by decide) (br_f (by decide) (br_f (by decide) (br_f (by decide) (br_f (by decide) (br_f (by decide) (br_f (by decide) (br_f (by decide) (br_f (by decide) (?_)))))))))))
  unfold wpX_stepWithPlace
  refine xd_reg (f := 0) (l := 0) (by omega) hb1 (by decide) (by decide) (by decide) ?_
  exact br_f (by decide) (br_f (by decide) (br_f (by decide) (br_f (by decide) (br_f (by decide) (br_f (by decide) (br_f (by decide) (xo_reg (vp_in_iff.mpr (by decide)) ⟨(vp_in_iff.mpr (by decide)), nm_e (br_f (by decide) (br_f (by decide) (br_f (by decide) (br_t rfl ⟨(vp_in_iff.mpr (by decide)), nm_e (xc_cmp h)⟩))))⟩)))))))
theorem xt_orcx (hA : A + 8 < 4096) (hb : M A &&& 255 = 11) (hb1 : M (A + 1) &&& 255 = 201) (h : Q (zx_m u0 (nI (A + 2)) (if (R 1 ||| R 1) &&& 65535 = (0) &&& 65535 then 1 else 0) (if (0).toInt16.toInt32 ≤ (R 1 ||| R 1).toInt16.toInt32 then 0 else 1) ih 1 1 1 C M (upd R 1 ((R 1 ||| R 1) &&& 65535)) O)) : wpX_step Q (zx_m u0 (nI A) ie il ih ip ir iq C M R O) := by
  unfold wpX_step
  refine xn_nb (by omega) hb ?_
  refine br_t (by decide) (br_t (by decide) (br_t (by decide) (br_f (by decide) (br_f (by decide) (br_f (by decide) (br_f (by decide) (br_f (by decide) (br_f (by decide) (br_f (by decide) (br_f (by decide) (?_)))))))))))
  unfold wpX_stepWithPlace
  refine xd_reg (f := 1) (l := 1) (by omega) hb1 (by decide) (by decide) (by decide) ?_
  exact br_f (by decide) (br_f (by decide) (br_f (by decide) (br_f (by decide) (br_f (by decide) (br_f (by decide) (br_f (by decide) (xo_reg (vp_in_iff.mpr (by decide)) ⟨(vp_in_iff.mpr (by decide)), nm_e (br_f (by decide) (br_f (by decide) (br_f (by decide) (br_t rfl ⟨(vp_in_iff.mpr (by decide)), nm_e (xc_cmp h)⟩))))⟩)))))))
theorem xt_xor (hA : A + 8 < 4096) (hb : M A &&& 255 = 51) (hb1 : M (A + 1) &&& 255 = 192) (h : Q (zx_m u0 (nI (A + 2)) (if (R 0 ^^^ R 0) &&& 65535 = (0) &&& 65535 then 1 else 0) (if (0).toInt16.toInt32 ≤ (R 0 ^^^ R 0).toInt16.toInt32 then 0 else 1) ih 0 1 0 C M (upd R 0 ((R 0 ^^^ R 0) &&& 65535)) O)) : wpX_step Q (zx_m u0 (nI A) ie il ih ip ir iq C M R O) := by
  unfold wpX_step
  refine xn_nb (by omega) hb ?_
  refine br_t (by decide) (br_t (by decide) (br_t (by decide) (br_f (by decide) (br_f (by decide) (br_f (by decide) (br_f (by decide) (br_f (by decide) (br_f (by decide) (br_f (by decide) (br_f (by decide) (?_)))))))))))
  unfold wpX_stepWithPlace
  refine xd_reg (f := 0) (l := 0) (by omega) hb1 (by decide) (by decide) (by decide) ?_
  exact br_f (by decide) (br_f (by decide) (br_f (by decide) (br_f (by decide) (br_f (by decide) (br_f (by decide) (br_f (by decide) (xo_reg (vp_in_iff.mpr (by decide)) ⟨(vp_in_iff.mpr (by decide)), nm_e (br_f (by decide) (br_f (by decide) (br_f (by decide) (br_f (by decide) (⟨(vp_in_iff.mpr (by decide)), nm_e (xc_cmp h)⟩)))))⟩)))))))
end
end
section
/-! the machine over a stack of words: printed by genra.py -/
def ra_w2 (x y : Int32) : Int32 := (x &&& 255) ||| ((y &&& 255) <<< ((8 : Int32) &&& 31))
def ra_M (M0 M sw : Nat → Int32) (T st na : Nat) : Prop :=
  (∀ j, 6 ≤ j → j < 3280 → M j = M0 j) ∧ ww_rd M 2 = nI st ∧ ww_rd M 4 = nI na ∧ ∀ t, t < T → ww_rd M (4092 - 2 * t) = sw t
def ra_F (u0 : SX) (M0 : Nat → Int32) (post : Int32 → SX → Prop) (ie il : Int32) (sw : Nat → Int32) (T st na : Nat) (ax cx bx : Int32) (b : Nat) (si : Int32) (A C : Nat) (O : Nat → Int32) : Prop :=
  ∀ (M R : Nat → Int32) (ip ir iq : Int32), ra_M M0 M sw T st na → R 0 = ax → R 1 = cx → R 3 = bx → R 4 = nI (4094 - 2 * T) → R 5 = nI (4092 - 2 * b) → R 6 = si → xr_R post (zx_m u0 (nI A) ie il 0 ip ir iq (nI C) M R O)
def ra_R (u0 : SX) (M0 : Nat → Int32) (post : Int32 → SX → Prop) (sw : Nat → Int32) (T st na : Nat) (ax cx bx : Int32) (b : Nat) (si : Int32) (A C : Nat) (O : Nat → Int32) : Prop :=
  ∀ ie il : Int32, ra_F u0 M0 post ie il sw T st na ax cx bx b si A C O
def ra_H (u0 : SX) (M0 : Nat → Int32) (post : Int32 → SX → Prop) (sw : Nat → Int32) (T st : Nat) (ax : Int32) (C : Nat) (O : Nat → Int32) : Prop :=
  ∀ (M R : Nat → Int32) (ia ie il ip ir iq : Int32) (na : Nat), ra_M M0 M sw T st na → R 0 = ax → xr_R post (zx_m u0 ia ie il 1 ip ir iq (nI C) M R O)
def ra_pO (O : Nat → Int32) (C : Nat) (v : Int32) : Nat → Int32 := if C < 30 then upd O C v else O
theorem ra_by {M0 M sw : Nat → Int32} {T st na A : Nat} {b b' : Int32} (hM : ra_M M0 M sw T st na) (h : M0 A = b.toInt8.toInt32) (h6 : 6 ≤ A) (hA : A < 3280) (hb : b &&& 255 = b') : M A &&& 255 = b' := by
  rw [hM.1 A h6 hA, h, bp_b, hb]
theorem ra_wd {M0 M sw : Nat → Int32} {T st na A : Nat} {x y w : Int32} (hM : ra_M M0 M sw T st na) (h : M0 A = x.toInt8.toInt32) (h2 : M0 (A + 1) = y.toInt8.toInt32) (h6 : 6 ≤ A) (hA : A + 1 < 3280) (hw : ra_w2 x y = w) : ww_rd M A = w := by
  unfold ww_rd
  rw [ra_by hM h h6 (by omega) rfl, ra_by hM h2 (by omega) hA rfl]
  exact hw
theorem ra_Mw {M0 M sw : Nat → Int32} {T st na t T' : Nat} {w : Int32} (hM : ra_M M0 M sw T st na) (ht : t < 400) (hT : ∀ i, i < T' → i < T ∨ i = t) (hT' : T' ≤ 400) : ra_M M0 (ww_wr M (4092 - 2 * t) w) (upd sw t (w &&& 65535)) T' st na := by
  refine ⟨fun j h1 h2 => ?_, ?_, ?_, fun i hi => ?_⟩
  · rw [ww_wn (by omega) (by omega)]; exact hM.1 j h1 h2
  · rw [ww_rn (by omega)]; exact hM.2.1
  · rw [ww_rn (by omega)]; exact hM.2.2.1
  · by_cases e : i = t
    · rw [e, ww_rw, pk_us]
    · rw [pk_un e, ww_rn (by omega)]
      exact hM.2.2.2 i (by have := hT i hi; omega)
theorem ra_Mp {M0 M sw : Nat → Int32} {T st na : Nat} {w : Int32} (hM : ra_M M0 M sw T st na) (hT : T < 400) : ra_M M0 (ww_wr M (4094 - 2 * T - 2) w) (upd sw T (w &&& 65535)) (T + 1) st na := by
  rw [show 4094 - 2 * T - 2 = 4092 - 2 * T by omega]
  exact ra_Mw hM hT (by omega) (by omega)
theorem ra_Mt {M0 M sw : Nat → Int32} {T T' st na : Nat} (hM : ra_M M0 M sw T st na) (hT : T' ≤ T) : ra_M M0 M sw T' st na :=
  ⟨hM.1, hM.2.1, hM.2.2.1, fun i hi => hM.2.2.2 i (by omega)⟩
theorem ra_Me {M0 M sw sw' : Nat → Int32} {T st na : Nat} (hM : ra_M M0 M sw T st na) (h : ∀ t, t < T → sw' t = sw t) : ra_M M0 M sw' T st na :=
  ⟨hM.1, hM.2.1, hM.2.2.1, fun i hi => (hM.2.2.2 i hi).trans (h i hi).symm⟩
theorem ra_M2 {M0 M sw : Nat → Int32} {T st st' na : Nat} {w : Int32} (hM : ra_M M0 M sw T st na) (hw : w &&& 65535 = nI st') (hT : T ≤ 400) : ra_M M0 (ww_wr M 2 w) sw T st' na := by
  refine ⟨fun j h1 h2 => ?_, ?_, ?_, fun i hi => ?_⟩
  · rw [ww_wn (by omega) (by omega)]; exact hM.1 j h1 h2
  · rw [ww_rw]; exact hw
  · rw [ww_rn (by omega)]; exact hM.2.2.1
  · rw [ww_rn (by omega)]; exact hM.2.2.2 i hi
theorem ra_M4 {M0 M sw : Nat → Int32} {T st na na' : Nat} {w : Int32} (hM : ra_M M0 M sw T st na) (hw : w &&& 65535 = nI na') (hT : T ≤ 400) : ra_M M0 (ww_wr M 4 w) sw T st na' := by
  refine ⟨fun j h1 h2 => ?_, ?_, ?_, fun i hi => ?_⟩
  · rw [ww_wn (by omega) (by omega)]; exact hM.1 j h1 h2
  · rw [ww_rn (by omega)]; exact hM.2.1
  · rw [ww_rw]; exact hw
  · rw [ww_rn (by omega)]; exact hM.2.2.2 i hi
theorem ra_rd {M0 M sw : Nat → Int32} {T st na a t : Nat} (hM : ra_M M0 M sw T st na) (ht : t < T) (ha : a = 4092 - 2 * t) : ww_rd M a = sw t := by
  rw [ha]; exact hM.2.2.2 t ht
theorem ra_rc {M0 M sw : Nat → Int32} {T st na a : Nat} (hM : ra_M M0 M sw T st na) (h6 : 6 ≤ a) (ha : a + 1 < 3280) : ww_rd M a = ww_rd M0 a :=
  ww_r2 (hM.1 a h6 (by omega)) (hM.1 (a + 1) (by omega) ha)
theorem ra_ad {x : Int32} {a : Nat} (h : x = nI a) (ha : a < 65536) : x &&& 65535 = nI a := by
  rw [h, ww_nI ha]
section
variable {u0 : SX} {M0 sw O : Nat → Int32} {post : Int32 → SX → Prop} {T st na b A C : Nat} {ax cx bx si : Int32} {l : List Int32}
theorem ra_ext {sw' : Nat → Int32} (hs : ∀ t, t < T → sw' t = sw t) (h : ra_R u0 M0 post sw T st na ax cx bx b si A C O) : ra_R u0 M0 post sw' T st na ax cx bx b si A C O :=
  fun ie il M R ip ir iq hM h0 h1 h3 h4 h5 h6 => h ie il M R ip ir iq (ra_Me hM (fun t ht => (hs t ht).symm)) h0 h1 h3 h4 h5 h6
theorem ra_Hext {sw' : Nat → Int32} (hs : ∀ t, t < T → sw' t = sw t) (h : ra_H u0 M0 post sw T st ax C O) : ra_H u0 M0 post sw' T st ax C O :=
  fun M R ia ie il ip ir iq na hM h0 => h M R ia ie il ip ir iq na (ra_Me hM (fun t ht => (hs t ht).symm)) h0
theorem ra_Hd {T' : Nat} (hT : T' ≤ T) (h : ra_H u0 M0 post sw T' st ax C O) : ra_H u0 M0 post sw T st ax C O :=
  fun M R ia ie il ip ir iq na hM h0 => h M R ia ie il ip ir iq na (ra_Mt hM hT) h0
theorem ra_push_ax  (hc : wl_At M0 A (80 :: l)) (h6 : 6 ≤ A) (hA : A < 3260) (hT : T < 400) (h : ra_R u0 M0 post (upd sw T (ax &&& 65535)) (T + 1) st na ax cx bx b si (A + 1) C O) : ra_R u0 M0 post sw T st na ax cx bx b si A C O := by
  intro ie il M R ip ir iq hM r0 r1 r3 r4 r5 r6
  have hp := ra_Mp (w := R 0) hM hT
  have e : R 0 &&& 65535 = ax &&& 65535 := by rw [r0]
  rw [e] at hp
  refine xr_step rfl (fun Q hQ => xt_push_ax (by omega) (ra_by hM hc.1 (by omega) (by omega) (by decide)) r4 (by omega) (by omega) hQ) ?_
  exact h _ _ _ _ _ _ _ (hp) (by rw [pk_un (by decide)]; exact r0) (by rw [pk_un (by decide)]; exact r1) (by rw [pk_un (by decide)]; exact r3) (by rw [pk_us]; exact congrArg nI (by omega)) (by rw [pk_un (by decide)]; exact r5) (by rw [pk_un (by decide)]; exact r6)
theorem ra_push_bx  (hc : wl_At M0 A (83 :: l)) (h6 : 6 ≤ A) (hA : A < 3260) (hT : T < 400) (h : ra_R u0 M0 post (upd sw T (bx &&& 65535)) (T + 1) st na ax cx bx b si (A + 1) C O) : ra_R u0 M0 post sw T st na ax cx bx b si A C O := by
  intro ie il M R ip ir iq hM r0 r1 r3 r4 r5 r6
  have hp := ra_Mp (w := R 3) hM hT
  have e : R 3 &&& 65535 = bx &&& 65535 := by rw [r3]
  rw [e] at hp
  refine xr_step rfl (fun Q hQ => xt_push_bx (by omega) (ra_by hM hc.1 (by omega) (by omega) (by decide)) r4 (by omega) (by omega) hQ) ?_
  exact h _ _ _ _ _ _ _ (hp) (by rw [pk_un (by decide)]; exact r0) (by rw [pk_un (by decide)]; exact r1) (by rw [pk_un (by decide)]; exact r3) (by rw [pk_us]; exact congrArg nI (by omega)) (by rw [pk_un (by decide)]; exact r5) (by rw [pk_un (by decide)]; exact r6)
theorem ra_push_bp  (hc : wl_At M0 A (85 :: l)) (h6 : 6 ≤ A) (hA : A < 3260) (hT : T < 400) (h : ra_R u0 M0 post (upd sw T (nI (4092 - 2 * b))) (T + 1) st na ax cx bx b si (A + 1) C O) : ra_R u0 M0 post sw T st na ax cx bx b si A C O := by
  intro ie il M R ip ir iq hM r0 r1 r3 r4 r5 r6
  have hp := ra_Mp (w := R 5) hM hT
  have e : R 5 &&& 65535 = nI (4092 - 2 * b) := by rw [r5]; exact ww_nI (by omega)
  rw [e] at hp
  refine xr_step rfl (fun Q hQ => xt_push_bp (by omega) (ra_by hM hc.1 (by omega) (by omega) (by decide)) r4 (by omega) (by omega) hQ) ?_
  exact h _ _ _ _ _ _ _ (hp) (by rw [pk_un (by decide)]; exact r0) (by rw [pk_un (by decide)]; exact r1) (by rw [pk_un (by decide)]; exact r3) (by rw [pk_us]; exact congrArg nI (by omega)) (by rw [pk_un (by decide)]; exact r5) (by rw [pk_un (by decide)]; exact r6)
theorem ra_pop_ax  (hc : wl_At M0 A (88 :: l)) (h6 : 6 ≤ A) (hA : A < 3260) (hT : T < 400) (h : ra_R u0 M0 post sw T st na (sw T) cx bx b si (A + 1) C O) : ra_R u0 M0 post sw (T + 1) st na ax cx bx b si A C O := by
  intro ie il M R ip ir iq hM r0 r1 r3 r4 r5 r6
  refine xr_step rfl (fun Q hQ => xt_pop_ax (sp := 4094 - 2 * (T + 1)) (by omega) (ra_by hM hc.1 (by omega) (by omega) (by decide)) r4 (by omega) hQ) ?_
  exact h _ _ _ _ _ _ _ (ra_Mt hM (by omega)) (by rw [pk_us]; exact ra_rd hM (by omega) (by omega)) (by rw [pk_un (by decide), pk_un (by decide)]; exact r1) (by rw [pk_un (by decide), pk_un (by decide)]; exact r3) (by rw [pk_un (by decide), pk_us]; exact congrArg nI (by omega)) (by rw [pk_un (by decide), pk_un (by decide)]; exact r5) (by rw [pk_un (by decide), pk_un (by decide)]; exact r6)
theorem ra_pop_bp {b' : Nat} (hc : wl_At M0 A (93 :: l)) (h6 : 6 ≤ A) (hA : A < 3260) (hT : T < 400) (hv : sw T = nI (4092 - 2 * b')) (h : ra_R u0 M0 post sw T st na ax cx bx b' si (A + 1) C O) : ra_R u0 M0 post sw (T + 1) st na ax cx bx b si A C O := by
  intro ie il M R ip ir iq hM r0 r1 r3 r4 r5 r6
  refine xr_step rfl (fun Q hQ => xt_pop_bp (sp := 4094 - 2 * (T + 1)) (by omega) (ra_by hM hc.1 (by omega) (by omega) (by decide)) r4 (by omega) hQ) ?_
  exact h _ _ _ _ _ _ _ (ra_Mt hM (by omega)) (by rw [pk_un (by decide), pk_un (by decide)]; exact r0) (by rw [pk_un (by decide), pk_un (by decide)]; exact r1) (by rw [pk_un (by decide), pk_un (by decide)]; exact r3) (by rw [pk_un (by decide), pk_us]; exact congrArg nI (by omega)) (by rw [pk_us, ← hv]; exact ra_rd hM (by omega) (by omega)) (by rw [pk_un (by decide), pk_un (by decide)]; exact r6)
theorem ra_movi_ax {x y w : Int32} (hc : wl_At M0 A (184 :: x :: y :: l)) (h6 : 6 ≤ A) (hA : A < 3260) (hw : ra_w2 x y = w) (h : ra_R u0 M0 post sw T st na w cx bx b si (A + 3) C O) : ra_R u0 M0 post sw T st na ax cx bx b si A C O := by
  intro ie il M R ip ir iq hM r0 r1 r3 r4 r5 r6
  refine xr_step rfl (fun Q hQ => xt_movi_ax (by omega) (ra_by hM hc.1 (by omega) (by omega) (by decide)) hQ) ?_
  exact h _ _ _ _ _ _ _ (hM) (by rw [pk_us]; exact ra_wd hM hc.2.1 hc.2.2.1 (by omega) (by omega) hw) (by rw [pk_un (by decide)]; exact r1) (by rw [pk_un (by decide)]; exact r3) (by rw [pk_un (by decide)]; exact r4) (by rw [pk_un (by decide)]; exact r5) (by rw [pk_un (by decide)]; exact r6)
theorem ra_movi_cx {x y w : Int32} (hc : wl_At M0 A (185 :: x :: y :: l)) (h6 : 6 ≤ A) (hA : A < 3260) (hw : ra_w2 x y = w) (h : ra_R u0 M0 post sw T st na ax w bx b si (A + 3) C O) : ra_R u0 M0 post sw T st na ax cx bx b si A C O := by
  intro ie il M R ip ir iq hM r0 r1 r3 r4 r5 r6
  refine xr_step rfl (fun Q hQ => xt_movi_cx (by omega) (ra_by hM hc.1 (by omega) (by omega) (by decide)) hQ) ?_
  exact h _ _ _ _ _ _ _ (hM) (by rw [pk_un (by decide)]; exact r0) (by rw [pk_us]; exact ra_wd hM hc.2.1 hc.2.2.1 (by omega) (by omega) hw) (by rw [pk_un (by decide)]; exact r3) (by rw [pk_un (by decide)]; exact r4) (by rw [pk_un (by decide)]; exact r5) (by rw [pk_un (by decide)]; exact r6)
theorem ra_call {x y : Int32} {A' : Nat} (hc : wl_At M0 A (232 :: x :: y :: l)) (h6 : 6 ≤ A) (hA : A < 3260) (hw : nI (A + 3) + (ra_w2 x y).toInt16.toInt32 = nI A') (hT : T < 400) (h : ra_R u0 M0 post (upd sw T (nI (A + 3))) (T + 1) st na ax cx bx b si A' C O) : ra_R u0 M0 post sw T st na ax cx bx b si A C O := by
  intro ie il M R ip ir iq hM r0 r1 r3 r4 r5 r6
  have hq : nI (A + 3) + (ww_rd M (A + 1)).toInt16.toInt32 = nI A' := by rw [ra_wd hM hc.2.1 hc.2.2.1 (by omega) (by omega) rfl]; exact hw
  refine xr_step rfl (fun Q hQ => xt_call (by omega) (ra_by hM hc.1 (by omega) (by omega) (by decide)) r4 (by omega) (by omega) hQ) ?_
  rw [hq]
  exact h _ _ _ _ _ _ _ (by have hp := ra_Mp (w := nI (A + 3)) hM hT; rw [ww_nI (by omega)] at hp; exact hp) (by rw [pk_un (by decide)]; exact r0) (by rw [pk_un (by decide)]; exact r1) (by rw [pk_un (by decide)]; exact r3) (by rw [pk_us]; exact congrArg nI (by omega)) (by rw [pk_un (by decide)]; exact r5) (by rw [pk_un (by decide)]; exact r6)
theorem ra_jmp {x y : Int32} {A' : Nat} (hc : wl_At M0 A (233 :: x :: y :: l)) (h6 : 6 ≤ A) (hA : A < 3260) (hw : nI (A + 3) + (ra_w2 x y).toInt16.toInt32 = nI A') (h : ra_R u0 M0 post sw T st na ax cx bx b si A' C O) : ra_R u0 M0 post sw T st na ax cx bx b si A C O := by
  intro ie il M R ip ir iq hM r0 r1 r3 r4 r5 r6
  have hq : nI (A + 3) + (ww_rd M (A + 1)).toInt16.toInt32 = nI A' := by rw [ra_wd hM hc.2.1 hc.2.2.1 (by omega) (by omega) rfl]; exact hw
  refine xr_step rfl (fun Q hQ => xt_jmp (by omega) (ra_by hM hc.1 (by omega) (by omega) (by decide)) hQ) ?_
  rw [hq]
  exact h _ _ _ _ _ _ _ (hM) (r0) (r1) (r3) (r4) (r5) (r6)
theorem ra_ret {A' : Nat} (hc : wl_At M0 A (195 :: l)) (h6 : 6 ≤ A) (hA : A < 3260) (hT : T < 400) (hv : sw T = nI A') (h : ra_R u0 M0 post sw T st na ax cx bx b si A' C O) : ra_R u0 M0 post sw (T + 1) st na ax cx bx b si A C O := by
  intro ie il M R ip ir iq hM r0 r1 r3 r4 r5 r6
  have hq : ww_rd M (4094 - 2 * (T + 1)) = nI A' := by rw [← hv]; exact ra_rd hM (by omega) (by omega)
  refine xr_step rfl (fun Q hQ => xt_ret (sp := 4094 - 2 * (T + 1)) (by omega) (ra_by hM hc.1 (by omega) (by omega) (by decide)) r4 (by omega) hQ) ?_
  rw [hq]
  exact h _ _ _ _ _ _ _ (ra_Mt hM (by omega)) (by rw [pk_un (by decide)]; exact r0) (by rw [pk_un (by decide)]; exact r1) (by rw [pk_un (by decide)]; exact r3) (by rw [pk_us]; exact congrArg nI (by omega)) (by rw [pk_un (by decide)]; exact r5) (by rw [pk_un (by decide)]; exact r6)
theorem ra_retn {x y : Int32} {m : Nat} {A' : Nat} (hc : wl_At M0 A (194 :: x :: y :: l)) (h6 : 6 ≤ A) (hA : A < 3260) (hw : ra_w2 x y = nI (2 * m)) (hT : T + m < 400) (hv : sw (T + m) = nI A') (h : ra_R u0 M0 post sw T st na ax cx bx b si A' C O) : ra_R u0 M0 post sw (T + m + 1) st na ax cx bx b si A C O := by
  intro ie il M R ip ir iq hM r0 r1 r3 r4 r5 r6
  have hq : ww_rd M (4094 - 2 * (T + m + 1)) = nI A' := by rw [← hv]; exact ra_rd hM (by omega) (by omega)
  refine xr_step rfl (fun Q hQ => xt_retn (sp := 4094 - 2 * (T + m + 1)) (by omega) (ra_by hM hc.1 (by omega) (by omega) (by decide)) r4 (by omega) hQ) ?_
  rw [hq]
  exact h _ _ _ _ _ _ _ (ra_Mt hM (by omega)) (by rw [pk_un (by decide), pk_un (by decide)]; exact r0) (by rw [pk_un (by decide), pk_un (by decide)]; exact r1) (by rw [pk_un (by decide), pk_un (by decide)]; exact r3) (by rw [pk_us, ra_wd hM hc.2.1 hc.2.2.1 (by omega) (by omega) hw, nI_add, ww_nI (by omega)]; exact congrArg nI (by omega)) (by rw [pk_un (by decide), pk_un (by decide)]; exact r5) (by rw [pk_un (by decide), pk_un (by decide)]; exact r6)
theorem ra_mov_bxax  (hc : wl_At M0 A (139 :: 216 :: l)) (h6 : 6 ≤ A) (hA : A < 3260)  (h : ra_R u0 M0 post sw T st na ax cx ax b si (A + 2) C O) : ra_R u0 M0 post sw T st na ax cx bx b si A C O := by
  intro ie il M R ip ir iq hM r0 r1 r3 r4 r5 r6
  refine xr_step rfl (fun Q hQ => xt_mov_bxax (by omega) (ra_by hM hc.1 (by omega) (by omega) (by decide)) (ra_by hM hc.2.1 (by omega) (by omega) (by decide)) hQ) ?_
  exact h _ _ _ _ _ _ _ (hM) (by rw [pk_un (by decide)]; exact r0) (by rw [pk_un (by decide)]; exact r1) (by rw [pk_us]; exact r0) (by rw [pk_un (by decide)]; exact r4) (by rw [pk_un (by decide)]; exact r5) (by rw [pk_un (by decide)]; exact r6)
theorem ra_mov_bpsp  (hc : wl_At M0 A (139 :: 236 :: l)) (h6 : 6 ≤ A) (hA : A < 3260) (hT : T < 400) (h : ra_R u0 M0 post sw (T + 1) st na ax cx bx T si (A + 2) C O) : ra_R u0 M0 post sw (T + 1) st na ax cx bx b si A C O := by
  intro ie il M R ip ir iq hM r0 r1 r3 r4 r5 r6
  refine xr_step rfl (fun Q hQ => xt_mov_bpsp (by omega) (ra_by hM hc.1 (by omega) (by omega) (by decide)) (ra_by hM hc.2.1 (by omega) (by omega) (by decide)) hQ) ?_
  exact h _ _ _ _ _ _ _ (hM) (by rw [pk_un (by decide)]; exact r0) (by rw [pk_un (by decide)]; exact r1) (by rw [pk_un (by decide)]; exact r3) (by rw [pk_un (by decide)]; exact r4) (by rw [pk_us, r4]; exact congrArg nI (by omega)) (by rw [pk_un (by decide)]; exact r6)
theorem ra_mov_spbp  (hc : wl_At M0 A (139 :: 229 :: l)) (h6 : 6 ≤ A) (hA : A < 3260) (hT : T ≤ 400) (hb : b < T) (h : ra_R u0 M0 post sw (b + 1) st na ax cx bx b si (A + 2) C O) : ra_R u0 M0 post sw T st na ax cx bx b si A C O := by
  intro ie il M R ip ir iq hM r0 r1 r3 r4 r5 r6
  refine xr_step rfl (fun Q hQ => xt_mov_spbp (by omega) (ra_by hM hc.1 (by omega) (by omega) (by decide)) (ra_by hM hc.2.1 (by omega) (by omega) (by decide)) hQ) ?_
  exact h _ _ _ _ _ _ _ (ra_Mt hM (by omega)) (by rw [pk_un (by decide)]; exact r0) (by rw [pk_un (by decide)]; exact r1) (by rw [pk_un (by decide)]; exact r3) (by rw [pk_us, r5]; exact congrArg nI (by omega)) (by rw [pk_un (by decide)]; exact r5) (by rw [pk_un (by decide)]; exact r6)
theorem ra_mov_siw {x y : Int32} {a : Nat} (hc : wl_At M0 A (139 :: 54 :: x :: y :: l)) (h6 : 6 ≤ A) (hA : A < 3260) (hw : ra_w2 x y = nI a) (ha6 : 6 ≤ a) (ha : a + 1 < 3280) (h : ra_R u0 M0 post sw T st na ax cx bx b (ww_rd M0 a) (A + 4) C O) : ra_R u0 M0 post sw T st na ax cx bx b si A C O := by
  intro ie il M R ip ir iq hM r0 r1 r3 r4 r5 r6
  refine xr_step rfl (fun Q hQ => xt_mov_siw (a := a) (by omega) (ra_by hM hc.1 (by omega) (by omega) (by decide)) (ra_by hM hc.2.1 (by omega) (by omega) (by decide)) (ra_wd hM hc.2.2.1 hc.2.2.2.1 (by omega) (by omega) hw) (by omega) hQ) ?_
  exact h _ _ _ _ _ _ _ (hM) (by rw [pk_un (by decide)]; exact r0) (by rw [pk_un (by decide)]; exact r1) (by rw [pk_un (by decide)]; exact r3) (by rw [pk_un (by decide)]; exact r4) (by rw [pk_un (by decide)]; exact r5) (by rw [pk_us]; exact ra_rc hM ha6 ha)
theorem ra_ld_bxbp {d : Int32} {t : Nat} (hc : wl_At M0 A (139 :: 94 :: d :: l)) (h6 : 6 ≤ A) (hA : A < 3260) (hd : nI (4092 - 2 * b) + (d &&& 255).toInt8.toInt32 = nI (4092 - 2 * t)) (ht : t < T) (hT : T ≤ 400) (h : ra_R u0 M0 post sw T st na ax cx (sw t) b si (A + 3) C O) : ra_R u0 M0 post sw T st na ax cx bx b si A C O := by
  intro ie il M R ip ir iq hM r0 r1 r3 r4 r5 r6
  have hp : (R 5 + (M (A + 2) &&& 255).toInt8.toInt32) &&& 65535 = nI (4092 - 2 * t) := by rw [r5, ra_by hM hc.2.2.1 (by omega) (by omega) rfl]; exact ra_ad hd (by omega)
  refine xr_step rfl (fun Q hQ => xt_ld_bxbp (a := 4092 - 2 * t) (by omega) (ra_by hM hc.1 (by omega) (by omega) (by decide)) (ra_by hM hc.2.1 (by omega) (by omega) (by decide)) hp (by omega) hQ) ?_
  exact h _ _ _ _ _ _ _ (hM) (by rw [pk_un (by decide)]; exact r0) (by rw [pk_un (by decide)]; exact r1) (by rw [pk_us]; exact ra_rd hM ht rfl) (by rw [pk_un (by decide)]; exact r4) (by rw [pk_un (by decide)]; exact r5) (by rw [pk_un (by decide)]; exact r6)
theorem ra_ld_bxbx {d : Int32} {t : Nat} {f : Nat} (hc : wl_At M0 A (139 :: 95 :: d :: l)) (h6 : 6 ≤ A) (hA : A < 3260) (hbx : bx = nI (4092 - 2 * f)) (hd : nI (4092 - 2 * f) + (d &&& 255).toInt8.toInt32 = nI (4092 - 2 * t)) (ht : t < T) (hT : T ≤ 400) (h : ra_R u0 M0 post sw T st na ax cx (sw t) b si (A + 3) C O) : ra_R u0 M0 post sw T st na ax cx bx b si A C O := by
  intro ie il M R ip ir iq hM r0 r1 r3 r4 r5 r6
  have hp : (R 3 + (M (A + 2) &&& 255).toInt8.toInt32) &&& 65535 = nI (4092 - 2 * t) := by rw [r3, hbx, ra_by hM hc.2.2.1 (by omega) (by omega) rfl]; exact ra_ad hd (by omega)
  refine xr_step rfl (fun Q hQ => xt_ld_bxbx (a := 4092 - 2 * t) (by omega) (ra_by hM hc.1 (by omega) (by omega) (by decide)) (ra_by hM hc.2.1 (by omega) (by omega) (by decide)) hp (by omega) hQ) ?_
  exact h _ _ _ _ _ _ _ (hM) (by rw [pk_un (by decide)]; exact r0) (by rw [pk_un (by decide)]; exact r1) (by rw [pk_us]; exact ra_rd hM ht rfl) (by rw [pk_un (by decide)]; exact r4) (by rw [pk_un (by decide)]; exact r5) (by rw [pk_un (by decide)]; exact r6)
theorem ra_ld_axbp {d : Int32} {t : Nat} (hc : wl_At M0 A (139 :: 70 :: d :: l)) (h6 : 6 ≤ A) (hA : A < 3260) (hd : nI (4092 - 2 * b) + (d &&& 255).toInt8.toInt32 = nI (4092 - 2 * t)) (ht : t < T) (hT : T ≤ 400) (h : ra_R u0 M0 post sw T st na (sw t) cx bx b si (A + 3) C O) : ra_R u0 M0 post sw T st na ax cx bx b si A C O := by
  intro ie il M R ip ir iq hM r0 r1 r3 r4 r5 r6
  have hp : (R 5 + (M (A + 2) &&& 255).toInt8.toInt32) &&& 65535 = nI (4092 - 2 * t) := by rw [r5, ra_by hM hc.2.2.1 (by omega) (by omega) rfl]; exact ra_ad hd (by omega)
  refine xr_step rfl (fun Q hQ => xt_ld_axbp (a := 4092 - 2 * t) (by omega) (ra_by hM hc.1 (by omega) (by omega) (by decide)) (ra_by hM hc.2.1 (by omega) (by omega) (by decide)) hp (by omega) hQ) ?_
  exact h _ _ _ _ _ _ _ (hM) (by rw [pk_us]; exact ra_rd hM ht rfl) (by rw [pk_un (by decide)]; exact r1) (by rw [pk_un (by decide)]; exact r3) (by rw [pk_un (by decide)]; exact r4) (by rw [pk_un (by decide)]; exact r5) (by rw [pk_un (by decide)]; exact r6)
theorem ra_ld_axbx {d : Int32} {t : Nat} {f : Nat} (hc : wl_At M0 A (139 :: 71 :: d :: l)) (h6 : 6 ≤ A) (hA : A < 3260) (hbx : bx = nI (4092 - 2 * f)) (hd : nI (4092 - 2 * f) + (d &&& 255).toInt8.toInt32 = nI (4092 - 2 * t)) (ht : t < T) (hT : T ≤ 400) (h : ra_R u0 M0 post sw T st na (sw t) cx bx b si (A + 3) C O) : ra_R u0 M0 post sw T st na ax cx bx b si A C O := by
  intro ie il M R ip ir iq hM r0 r1 r3 r4 r5 r6
  have hp : (R 3 + (M (A + 2) &&& 255).toInt8.toInt32) &&& 65535 = nI (4092 - 2 * t) := by rw [r3, hbx, ra_by hM hc.2.2.1 (by omega) (by omega) rfl]; exact ra_ad hd (by omega)
  refine xr_step rfl (fun Q hQ => xt_ld_axbx (a := 4092 - 2 * t) (by omega) (ra_by hM hc.1 (by omega) (by omega) (by decide)) (ra_by hM hc.2.1 (by omega) (by omega) (by decide)) hp (by omega) hQ) ?_
  exact h _ _ _ _ _ _ _ (hM) (by rw [pk_us]; exact ra_rd hM ht rfl) (by rw [pk_un (by decide)]; exact r1) (by rw [pk_un (by decide)]; exact r3) (by rw [pk_un (by decide)]; exact r4) (by rw [pk_un (by decide)]; exact r5) (by rw [pk_un (by decide)]; exact r6)
theorem ra_ld_sibp {d : Int32} {t : Nat} (hc : wl_At M0 A (139 :: 118 :: d :: l)) (h6 : 6 ≤ A) (hA : A < 3260) (hd : nI (4092 - 2 * b) + (d &&& 255).toInt8.toInt32 = nI (4092 - 2 * t)) (ht : t < T) (hT : T ≤ 400) (h : ra_R u0 M0 post sw T st na ax cx bx b (sw t) (A + 3) C O) : ra_R u0 M0 post sw T st na ax cx bx b si A C O := by
  intro ie il M R ip ir iq hM r0 r1 r3 r4 r5 r6
  have hp : (R 5 + (M (A + 2) &&& 255).toInt8.toInt32) &&& 65535 = nI (4092 - 2 * t) := by rw [r5, ra_by hM hc.2.2.1 (by omega) (by omega) rfl]; exact ra_ad hd (by omega)
  refine xr_step rfl (fun Q hQ => xt_ld_sibp (a := 4092 - 2 * t) (by omega) (ra_by hM hc.1 (by omega) (by omega) (by decide)) (ra_by hM hc.2.1 (by omega) (by omega) (by decide)) hp (by omega) hQ) ?_
  exact h _ _ _ _ _ _ _ (hM) (by rw [pk_un (by decide)]; exact r0) (by rw [pk_un (by decide)]; exact r1) (by rw [pk_un (by decide)]; exact r3) (by rw [pk_un (by decide)]; exact r4) (by rw [pk_un (by decide)]; exact r5) (by rw [pk_us]; exact ra_rd hM ht rfl)
theorem ra_ld_sibx {d : Int32} {t : Nat} {f : Nat} (hc : wl_At M0 A (139 :: 119 :: d :: l)) (h6 : 6 ≤ A) (hA : A < 3260) (hbx : bx = nI (4092 - 2 * f)) (hd : nI (4092 - 2 * f) + (d &&& 255).toInt8.toInt32 = nI (4092 - 2 * t)) (ht : t < T) (hT : T ≤ 400) (h : ra_R u0 M0 post sw T st na ax cx bx b (sw t) (A + 3) C O) : ra_R u0 M0 post sw T st na ax cx bx b si A C O := by
  intro ie il M R ip ir iq hM r0 r1 r3 r4 r5 r6
  have hp : (R 3 + (M (A + 2) &&& 255).toInt8.toInt32) &&& 65535 = nI (4092 - 2 * t) := by rw [r3, hbx, ra_by hM hc.2.2.1 (by omega) (by omega) rfl]; exact ra_ad hd (by omega)
  refine xr_step rfl (fun Q hQ => xt_ld_sibx (a := 4092 - 2 * t) (by omega) (ra_by hM hc.1 (by omega) (by omega) (by decide)) (ra_by hM hc.2.1 (by omega) (by omega) (by decide)) hp (by omega) hQ) ?_
  exact h _ _ _ _ _ _ _ (hM) (by rw [pk_un (by decide)]; exact r0) (by rw [pk_un (by decide)]; exact r1) (by rw [pk_un (by decide)]; exact r3) (by rw [pk_un (by decide)]; exact r4) (by rw [pk_un (by decide)]; exact r5) (by rw [pk_us]; exact ra_rd hM ht rfl)
theorem ra_ld_bpbp {d : Int32} {t : Nat} {b' : Nat} (hc : wl_At M0 A (139 :: 110 :: d :: l)) (h6 : 6 ≤ A) (hA : A < 3260) (hd : nI (4092 - 2 * b) + (d &&& 255).toInt8.toInt32 = nI (4092 - 2 * t)) (ht : t < T) (hT : T ≤ 400) (hv : sw t = nI (4092 - 2 * b')) (h : ra_R u0 M0 post sw T st na ax cx bx b' si (A + 3) C O) : ra_R u0 M0 post sw T st na ax cx bx b si A C O := by
  intro ie il M R ip ir iq hM r0 r1 r3 r4 r5 r6
  have hp : (R 5 + (M (A + 2) &&& 255).toInt8.toInt32) &&& 65535 = nI (4092 - 2 * t) := by rw [r5, ra_by hM hc.2.2.1 (by omega) (by omega) rfl]; exact ra_ad hd (by omega)
  refine xr_step rfl (fun Q hQ => xt_ld_bpbp (a := 4092 - 2 * t) (by omega) (ra_by hM hc.1 (by omega) (by omega) (by decide)) (ra_by hM hc.2.1 (by omega) (by omega) (by decide)) hp (by omega) hQ) ?_
  exact h _ _ _ _ _ _ _ (hM) (by rw [pk_un (by decide)]; exact r0) (by rw [pk_un (by decide)]; exact r1) (by rw [pk_un (by decide)]; exact r3) (by rw [pk_un (by decide)]; exact r4) (by rw [pk_us, ← hv]; exact ra_rd hM ht rfl) (by rw [pk_un (by decide)]; exact r6)
theorem ra_ld_bpbx {d : Int32} {t : Nat} {f : Nat} {b' : Nat} (hc : wl_At M0 A (139 :: 111 :: d :: l)) (h6 : 6 ≤ A) (hA : A < 3260) (hbx : bx = nI (4092 - 2 * f)) (hd : nI (4092 - 2 * f) + (d &&& 255).toInt8.toInt32 = nI (4092 - 2 * t)) (ht : t < T) (hT : T ≤ 400) (hv : sw t = nI (4092 - 2 * b')) (h : ra_R u0 M0 post sw T st na ax cx bx b' si (A + 3) C O) : ra_R u0 M0 post sw T st na ax cx bx b si A C O := by
  intro ie il M R ip ir iq hM r0 r1 r3 r4 r5 r6
  have hp : (R 3 + (M (A + 2) &&& 255).toInt8.toInt32) &&& 65535 = nI (4092 - 2 * t) := by rw [r3, hbx, ra_by hM hc.2.2.1 (by omega) (by omega) rfl]; exact ra_ad hd (by omega)
  refine xr_step rfl (fun Q hQ => xt_ld_bpbx (a := 4092 - 2 * t) (by omega) (ra_by hM hc.1 (by omega) (by omega) (by decide)) (ra_by hM hc.2.1 (by omega) (by omega) (by decide)) hp (by omega) hQ) ?_
  exact h _ _ _ _ _ _ _ (hM) (by rw [pk_un (by decide)]; exact r0) (by rw [pk_un (by decide)]; exact r1) (by rw [pk_un (by decide)]; exact r3) (by rw [pk_un (by decide)]; exact r4) (by rw [pk_us, ← hv]; exact ra_rd hM ht rfl) (by rw [pk_un (by decide)]; exact r6)
theorem ra_ld_ax0 {t : Nat} (hc : wl_At M0 A (139 :: 7 :: l)) (h6 : 6 ≤ A) (hA : A < 3260) (hbx : bx = nI (4092 - 2 * t)) (ht : t < T) (hT : T ≤ 400) (h : ra_R u0 M0 post sw T st na (sw t) cx bx b si (A + 2) C O) : ra_R u0 M0 post sw T st na ax cx bx b si A C O := by
  intro ie il M R ip ir iq hM r0 r1 r3 r4 r5 r6
  refine xr_step rfl (fun Q hQ => xt_ld_ax0 (a := 4092 - 2 * t) (by omega) (ra_by hM hc.1 (by omega) (by omega) (by decide)) (ra_by hM hc.2.1 (by omega) (by omega) (by decide)) (by rw [r3]; exact hbx) (by omega) hQ) ?_
  exact h _ _ _ _ _ _ _ (hM) (by rw [pk_us]; exact ra_rd hM ht rfl) (by rw [pk_un (by decide)]; exact r1) (by rw [pk_un (by decide)]; exact r3) (by rw [pk_un (by decide)]; exact r4) (by rw [pk_un (by decide)]; exact r5) (by rw [pk_un (by decide)]; exact r6)
theorem ra_st_bp {d : Int32} {t : Nat} (hc : wl_At M0 A (137 :: 70 :: d :: l)) (h6 : 6 ≤ A) (hA : A < 3260) (hd : nI (4092 - 2 * b) + (d &&& 255).toInt8.toInt32 = nI (4092 - 2 * t)) (ht : t < T) (hT : T ≤ 400) (h : ra_R u0 M0 post (upd sw t (ax &&& 65535)) T st na ax cx bx b si (A + 3) C O) : ra_R u0 M0 post sw T st na ax cx bx b si A C O := by
  intro ie il M R ip ir iq hM r0 r1 r3 r4 r5 r6
  have hp : (R 5 + (M (A + 2) &&& 255).toInt8.toInt32) &&& 65535 = nI (4092 - 2 * t) := by rw [r5, ra_by hM hc.2.2.1 (by omega) (by omega) rfl]; exact ra_ad hd (by omega)
  refine xr_step rfl (fun Q hQ => xt_st_bp (a := 4092 - 2 * t) (by omega) (ra_by hM hc.1 (by omega) (by omega) (by decide)) (ra_by hM hc.2.1 (by omega) (by omega) (by decide)) hp (by omega) hQ) ?_
  exact h _ _ _ _ _ _ _ (by rw [r0]; exact ra_Mw hM (by omega) (by omega) hT) (r0) (r1) (r3) (r4) (r5) (r6)
theorem ra_st_bx {d : Int32} {t : Nat} {f : Nat} (hc : wl_At M0 A (137 :: 71 :: d :: l)) (h6 : 6 ≤ A) (hA : A < 3260) (hbx : bx = nI (4092 - 2 * f)) (hd : nI (4092 - 2 * f) + (d &&& 255).toInt8.toInt32 = nI (4092 - 2 * t)) (ht : t < T) (hT : T ≤ 400) (h : ra_R u0 M0 post (upd sw t (ax &&& 65535)) T st na ax cx bx b si (A + 3) C O) : ra_R u0 M0 post sw T st na ax cx bx b si A C O := by
  intro ie il M R ip ir iq hM r0 r1 r3 r4 r5 r6
  have hp : (R 3 + (M (A + 2) &&& 255).toInt8.toInt32) &&& 65535 = nI (4092 - 2 * t) := by rw [r3, hbx, ra_by hM hc.2.2.1 (by omega) (by omega) rfl]; exact ra_ad hd (by omega)
  refine xr_step rfl (fun Q hQ => xt_st_bx (a := 4092 - 2 * t) (by omega) (ra_by hM hc.1 (by omega) (by omega) (by decide)) (ra_by hM hc.2.1 (by omega) (by omega) (by decide)) hp (by omega) hQ) ?_
  exact h _ _ _ _ _ _ _ (by rw [r0]; exact ra_Mw hM (by omega) (by omega) hT) (r0) (r1) (r3) (r4) (r5) (r6)
theorem ra_st_0 {t : Nat} (hc : wl_At M0 A (137 :: 7 :: l)) (h6 : 6 ≤ A) (hA : A < 3260) (hbx : bx = nI (4092 - 2 * t)) (ht : t < T) (hT : T ≤ 400) (h : ra_R u0 M0 post (upd sw t (ax &&& 65535)) T st na ax cx bx b si (A + 2) C O) : ra_R u0 M0 post sw T st na ax cx bx b si A C O := by
  intro ie il M R ip ir iq hM r0 r1 r3 r4 r5 r6
  refine xr_step rfl (fun Q hQ => xt_st_0 (a := 4092 - 2 * t) (by omega) (ra_by hM hc.1 (by omega) (by omega) (by decide)) (ra_by hM hc.2.1 (by omega) (by omega) (by decide)) (by rw [r3]; exact hbx) (by omega) hQ) ?_
  exact h _ _ _ _ _ _ _ (by rw [r0]; exact ra_Mw hM (by omega) (by omega) hT) (r0) (r1) (r3) (r4) (r5) (r6)
theorem ra_lea {d : Int32} {t : Nat} (hc : wl_At M0 A (141 :: 94 :: d :: l)) (h6 : 6 ≤ A) (hA : A < 3260) (hd : nI (4092 - 2 * b) + (d &&& 255).toInt8.toInt32 = nI (4092 - 2 * t)) (h : ra_R u0 M0 post sw T st na ax cx (nI (4092 - 2 * t)) b si (A + 3) C O) : ra_R u0 M0 post sw T st na ax cx bx b si A C O := by
  intro ie il M R ip ir iq hM r0 r1 r3 r4 r5 r6
  have hp : (R 5 + (M (A + 2) &&& 255).toInt8.toInt32) &&& 65535 = nI (4092 - 2 * t) := by rw [r5, ra_by hM hc.2.2.1 (by omega) (by omega) rfl]; exact ra_ad hd (by omega)
  refine xr_step rfl (fun Q hQ => xt_lea (by omega) (ra_by hM hc.1 (by omega) (by omega) (by decide)) (ra_by hM hc.2.1 (by omega) (by omega) (by decide)) hQ) ?_
  exact h _ _ _ _ _ _ _ (hM) (by rw [pk_un (by decide)]; exact r0) (by rw [pk_un (by decide)]; exact r1) (by rw [pk_us]; exact hp) (by rw [pk_un (by decide)]; exact r4) (by rw [pk_un (by decide)]; exact r5) (by rw [pk_un (by decide)]; exact r6)
theorem ra_addbx {d : Int32} {f t : Nat} (hc : wl_At M0 A (131 :: 195 :: d :: l)) (h6 : 6 ≤ A) (hA : A < 3260) (hbx : bx = nI (4092 - 2 * f)) (hd : nI (4092 - 2 * f) + (d &&& 255).toInt8.toInt32 = nI (4092 - 2 * t)) (h : ra_R u0 M0 post sw T st na ax cx (nI (4092 - 2 * t)) b si (A + 3) C O) : ra_R u0 M0 post sw T st na ax cx bx b si A C O := by
  intro ie il M R ip ir iq hM r0 r1 r3 r4 r5 r6
  have hp : (R 3 + (M (A + 2) &&& 255).toInt8.toInt32) &&& 65535 = nI (4092 - 2 * t) := by rw [r3, hbx, ra_by hM hc.2.2.1 (by omega) (by omega) rfl]; exact ra_ad hd (by omega)
  refine xr_step rfl (fun Q hQ => xt_addbx (by omega) (ra_by hM hc.1 (by omega) (by omega) (by decide)) (ra_by hM hc.2.1 (by omega) (by omega) (by decide)) hQ) ?_
  exact h _ _ _ _ _ _ _ (hM) (by rw [pk_un (by decide)]; exact r0) (by rw [pk_un (by decide)]; exact r1) (by rw [pk_us]; exact hp) (by rw [pk_un (by decide)]; exact r4) (by rw [pk_un (by decide)]; exact r5) (by rw [pk_un (by decide)]; exact r6)
theorem ra_callsi {A' : Nat} (hc : wl_At M0 A (255 :: 214 :: l)) (h6 : 6 ≤ A) (hA : A < 3260) (hsi : si = nI A') (hT : T < 400) (h : ra_R u0 M0 post (upd sw T (nI (A + 2))) (T + 1) st na ax cx bx b si A' C O) : ra_R u0 M0 post sw T st na ax cx bx b si A C O := by
  intro ie il M R ip ir iq hM r0 r1 r3 r4 r5 r6
  have hq : R 6 = nI A' := r6.trans hsi
  refine xr_step rfl (fun Q hQ => xt_callsi (by omega) (ra_by hM hc.1 (by omega) (by omega) (by decide)) (ra_by hM hc.2.1 (by omega) (by omega) (by decide)) r4 (by omega) (by omega) hQ) ?_
  rw [hq]
  exact h _ _ _ _ _ _ _ (by have hp := ra_Mp (w := nI (A + 2)) hM hT; rw [ww_nI (by omega)] at hp; exact hp) (by rw [pk_un (by decide)]; exact r0) (by rw [pk_un (by decide)]; exact r1) (by rw [pk_un (by decide)]; exact r3) (by rw [pk_us]; exact congrArg nI (by omega)) (by rw [pk_un (by decide)]; exact r5) (by rw [pk_un (by decide)]; exact r6)
theorem ra_inc2  (hc : wl_At M0 A (255 :: 6 :: 2 :: 0 :: l)) (h6 : 6 ≤ A) (hA : A < 3260) (hT : T ≤ 400) (hs : st < 65535) (h : ra_R u0 M0 post sw T (st + 1) na ax cx bx b si (A + 4) C O) : ra_R u0 M0 post sw T st na ax cx bx b si A C O := by
  intro ie il M R ip ir iq hM r0 r1 r3 r4 r5 r6
  refine xr_step rfl (fun Q hQ => xt_inc (a := 2) (by omega) (ra_by hM hc.1 (by omega) (by omega) (by decide)) (ra_by hM hc.2.1 (by omega) (by omega) (by decide)) (ra_wd hM hc.2.2.1 hc.2.2.2.1 (by omega) (by omega) (by decide)) (by omega) hQ) ?_
  exact h _ _ _ _ _ _ _ (ra_M2 hM (by rw [hM.2.1, nI_1, ww_nI (by omega)]) hT) (r0) (r1) (r3) (r4) (r5) (r6)
theorem ra_inc4  (hc : wl_At M0 A (255 :: 6 :: 4 :: 0 :: l)) (h6 : 6 ≤ A) (hA : A < 3260) (hT : T ≤ 400) (hs : na < 65535) (h : ra_R u0 M0 post sw T st (na + 1) ax cx bx b si (A + 4) C O) : ra_R u0 M0 post sw T st na ax cx bx b si A C O := by
  intro ie il M R ip ir iq hM r0 r1 r3 r4 r5 r6
  refine xr_step rfl (fun Q hQ => xt_inc (a := 4) (by omega) (ra_by hM hc.1 (by omega) (by omega) (by decide)) (ra_by hM hc.2.1 (by omega) (by omega) (by decide)) (ra_wd hM hc.2.2.1 hc.2.2.2.1 (by omega) (by omega) (by decide)) (by omega) hQ) ?_
  exact h _ _ _ _ _ _ _ (ra_M4 hM (by rw [hM.2.2.1, nI_1, ww_nI (by omega)]) hT) (r0) (r1) (r3) (r4) (r5) (r6)
theorem ra_dec4  (hc : wl_At M0 A (255 :: 14 :: 4 :: 0 :: l)) (h6 : 6 ≤ A) (hA : A < 3260) (hT : T ≤ 400) (hs : na < 65535) (h : ra_R u0 M0 post sw T st na ax cx bx b si (A + 4) C O) : ra_R u0 M0 post sw T st (na + 1) ax cx bx b si A C O := by
  intro ie il M R ip ir iq hM r0 r1 r3 r4 r5 r6
  refine xr_step rfl (fun Q hQ => xt_dec (a := 4) (by omega) (ra_by hM hc.1 (by omega) (by omega) (by decide)) (ra_by hM hc.2.1 (by omega) (by omega) (by decide)) (ra_wd hM hc.2.2.1 hc.2.2.2.1 (by omega) (by omega) (by decide)) (by omega) hQ) ?_
  exact h _ _ _ _ _ _ _ (ra_M4 hM (by rw [hM.2.2.1, nI_pred, ww_nI (by omega)]) hT) (r0) (r1) (r3) (r4) (r5) (r6)
theorem ra_mul  (hc : wl_At M0 A (247 :: 235 :: l)) (h6 : 6 ≤ A) (hA : A < 3260)  (h : ra_R u0 M0 post sw T st na ((ax.toInt16.toInt32 * bx.toInt16.toInt32) &&& 65535) cx bx b si (A + 2) C O) : ra_R u0 M0 post sw T st na ax cx bx b si A C O := by
  intro ie il M R ip ir iq hM r0 r1 r3 r4 r5 r6
  refine xr_step rfl (fun Q hQ => xt_mul (by omega) (ra_by hM hc.1 (by omega) (by omega) (by decide)) (ra_by hM hc.2.1 (by omega) (by omega) (by decide)) hQ) ?_
  exact h _ _ _ _ _ _ _ (hM) (by rw [pk_us, r0, r3]) (by rw [pk_un (by decide)]; exact r1) (by rw [pk_un (by decide)]; exact r3) (by rw [pk_un (by decide)]; exact r4) (by rw [pk_un (by decide)]; exact r5) (by rw [pk_un (by decide)]; exact r6)
theorem ra_add  (hc : wl_At M0 A (3 :: 195 :: l)) (h6 : 6 ≤ A) (hA : A < 3260)  (h : ra_R u0 M0 post sw T st na ((ax + bx) &&& 65535) cx bx b si (A + 2) C O) : ra_R u0 M0 post sw T st na ax cx bx b si A C O := by
  intro ie il M R ip ir iq hM r0 r1 r3 r4 r5 r6
  refine xr_step rfl (fun Q hQ => xt_add (by omega) (ra_by hM hc.1 (by omega) (by omega) (by decide)) (ra_by hM hc.2.1 (by omega) (by omega) (by decide)) hQ) ?_
  exact h _ _ _ _ _ _ _ (hM) (by rw [pk_us, r0, r3]) (by rw [pk_un (by decide)]; exact r1) (by rw [pk_un (by decide)]; exact r3) (by rw [pk_un (by decide)]; exact r4) (by rw [pk_un (by decide)]; exact r5) (by rw [pk_un (by decide)]; exact r6)
theorem ra_sub  (hc : wl_At M0 A (43 :: 195 :: l)) (h6 : 6 ≤ A) (hA : A < 3260)  (h : ra_R u0 M0 post sw T st na ((ax - bx) &&& 65535) cx bx b si (A + 2) C O) : ra_R u0 M0 post sw T st na ax cx bx b si A C O := by
  intro ie il M R ip ir iq hM r0 r1 r3 r4 r5 r6
  refine xr_step rfl (fun Q hQ => xt_sub (by omega) (ra_by hM hc.1 (by omega) (by omega) (by decide)) (ra_by hM hc.2.1 (by omega) (by omega) (by decide)) hQ) ?_
  exact h _ _ _ _ _ _ _ (hM) (by rw [pk_us, r0, r3]) (by rw [pk_un (by decide)]; exact r1) (by rw [pk_un (by decide)]; exact r3) (by rw [pk_un (by decide)]; exact r4) (by rw [pk_un (by decide)]; exact r5) (by rw [pk_un (by decide)]; exact r6)
theorem ra_xor  (hc : wl_At M0 A (51 :: 192 :: l)) (h6 : 6 ≤ A) (hA : A < 3260)  (h : ra_R u0 M0 post sw T st na 0 cx bx b si (A + 2) C O) : ra_R u0 M0 post sw T st na ax cx bx b si A C O := by
  intro ie il M R ip ir iq hM r0 r1 r3 r4 r5 r6
  refine xr_step rfl (fun Q hQ => xt_xor (by omega) (ra_by hM hc.1 (by omega) (by omega) (by decide)) (ra_by hM hc.2.1 (by omega) (by omega) (by decide)) hQ) ?_
  exact h _ _ _ _ _ _ _ (hM) (by rw [pk_us, Int32.xor_self]; rfl) (by rw [pk_un (by decide)]; exact r1) (by rw [pk_un (by decide)]; exact r3) (by rw [pk_un (by decide)]; exact r4) (by rw [pk_un (by decide)]; exact r5) (by rw [pk_un (by decide)]; exact r6)
theorem ra_orax  (hc : wl_At M0 A (11 :: 192 :: l)) (h6 : 6 ≤ A) (hA : A < 3260) (hx : ax &&& 65535 = ax) (h : ∀ il : Int32, ra_F u0 M0 post ((if ax = 0 then 1 else 0)) il sw T st na ax cx bx b si (A + 2) C O) : ra_R u0 M0 post sw T st na ax cx bx b si A C O := by
  intro ie il M R ip ir iq hM r0 r1 r3 r4 r5 r6
  have hz : (if (R 0 ||| R 0) &&& 65535 = (0 : Int32) &&& 65535 then (1 : Int32) else 0) = if ax = 0 then 1 else 0 := by rw [Int32.or_self, r0, hx, show (0 : Int32) &&& 65535 = 0 by decide]
  refine xr_step rfl (fun Q hQ => xt_orax (by omega) (ra_by hM hc.1 (by omega) (by omega) (by decide)) (ra_by hM hc.2.1 (by omega) (by omega) (by decide)) hQ) ?_
  rw [hz]
  exact (h _) _ _ _ _ _ (hM) (by rw [pk_us, Int32.or_self, r0]; exact hx) (by rw [pk_un (by decide)]; exact r1) (by rw [pk_un (by decide)]; exact r3) (by rw [pk_un (by decide)]; exact r4) (by rw [pk_un (by decide)]; exact r5) (by rw [pk_un (by decide)]; exact r6)
theorem ra_orcx  (hc : wl_At M0 A (11 :: 201 :: l)) (h6 : 6 ≤ A) (hA : A < 3260) (hx : cx &&& 65535 = cx) (h : ∀ il : Int32, ra_F u0 M0 post ((if cx = 0 then 1 else 0)) il sw T st na ax cx bx b si (A + 2) C O) : ra_R u0 M0 post sw T st na ax cx bx b si A C O := by
  intro ie il M R ip ir iq hM r0 r1 r3 r4 r5 r6
  have hz : (if (R 1 ||| R 1) &&& 65535 = (0 : Int32) &&& 65535 then (1 : Int32) else 0) = if cx = 0 then 1 else 0 := by rw [Int32.or_self, r1, hx, show (0 : Int32) &&& 65535 = 0 by decide]
  refine xr_step rfl (fun Q hQ => xt_orcx (by omega) (ra_by hM hc.1 (by omega) (by omega) (by decide)) (ra_by hM hc.2.1 (by omega) (by omega) (by decide)) hQ) ?_
  rw [hz]
  exact (h _) _ _ _ _ _ (hM) (by rw [pk_un (by decide)]; exact r0) (by rw [pk_us, Int32.or_self, r1]; exact hx) (by rw [pk_un (by decide)]; exact r3) (by rw [pk_un (by decide)]; exact r4) (by rw [pk_un (by decide)]; exact r5) (by rw [pk_un (by decide)]; exact r6)
theorem ra_cmp  (hc : wl_At M0 A (59 :: 195 :: l)) (h6 : 6 ≤ A) (hA : A < 3260)  (h : ra_F u0 M0 post ((if ax &&& 65535 = bx &&& 65535 then 1 else 0)) ((if bx.toInt16.toInt32 ≤ ax.toInt16.toInt32 then 0 else 1)) sw T st na ax cx bx b si (A + 2) C O) : ra_R u0 M0 post sw T st na ax cx bx b si A C O := by
  intro ie il M R ip ir iq hM r0 r1 r3 r4 r5 r6
  refine xr_step rfl (fun Q hQ => xt_cmp (by omega) (ra_by hM hc.1 (by omega) (by omega) (by decide)) (ra_by hM hc.2.1 (by omega) (by omega) (by decide)) hQ) ?_
  rw [r0, r3]
  exact h _ _ _ _ _ (hM) (r0) (r1) (r3) (r4) (r5) (r6)
theorem ra_movF_ax {x y w ie il : Int32} (hc : wl_At M0 A (184 :: x :: y :: l)) (h6 : 6 ≤ A) (hA : A < 3260) (hw : ra_w2 x y = w) (h : ra_F u0 M0 post ie il sw T st na w cx bx b si (A + 3) C O) : ra_F u0 M0 post ie il sw T st na ax cx bx b si A C O := by
  intro M R ip ir iq hM r0 r1 r3 r4 r5 r6
  refine xr_step rfl (fun Q hQ => xt_movi_ax (by omega) (ra_by hM hc.1 (by omega) (by omega) (by decide)) hQ) ?_
  exact h _ _ _ _ _ (hM) (by rw [pk_us]; exact ra_wd hM hc.2.1 hc.2.2.1 (by omega) (by omega) hw) (by rw [pk_un (by decide)]; exact r1) (by rw [pk_un (by decide)]; exact r3) (by rw [pk_un (by decide)]; exact r4) (by rw [pk_un (by decide)]; exact r5) (by rw [pk_un (by decide)]; exact r6)
theorem ra_jl1 {ie : Int32} {d : Int32} {A' : Nat} (hc : wl_At M0 A (124 :: d :: l)) (h6 : 6 ≤ A) (hA : A < 3260) (hd : nI (A + 2) + (d &&& 255).toInt8.toInt32 = nI A') (h : ra_R u0 M0 post sw T st na ax cx bx b si A' C O) : ra_F u0 M0 post ie 1 sw T st na ax cx bx b si A C O := by
  intro M R ip ir iq hM r0 r1 r3 r4 r5 r6
  have hq : nI (A + 2) + (M (A + 1) &&& 255).toInt8.toInt32 = nI A' := by rw [ra_by hM hc.2.1 (by omega) (by omega) rfl]; exact hd
  refine xr_step rfl (fun Q hQ => xt_jl1 (by omega) (ra_by hM hc.1 (by omega) (by omega) (by decide)) rfl hQ) ?_
  rw [hq]
  exact h _ _ _ _ _ _ _ (hM) (r0) (r1) (r3) (r4) (r5) (r6)
theorem ra_jl0 {ie : Int32} {d : Int32} (hc : wl_At M0 A (124 :: d :: l)) (h6 : 6 ≤ A) (hA : A < 3260)  (h : ra_R u0 M0 post sw T st na ax cx bx b si (A + 2) C O) : ra_F u0 M0 post ie 0 sw T st na ax cx bx b si A C O := by
  intro M R ip ir iq hM r0 r1 r3 r4 r5 r6
  refine xr_step rfl (fun Q hQ => xt_jl0 (by omega) (ra_by hM hc.1 (by omega) (by omega) (by decide)) rfl hQ) ?_
  exact h _ _ _ _ _ _ _ (hM) (r0) (r1) (r3) (r4) (r5) (r6)
theorem ra_je1 {il : Int32} {d : Int32} {A' : Nat} (hc : wl_At M0 A (116 :: d :: l)) (h6 : 6 ≤ A) (hA : A < 3260) (hd : nI (A + 2) + (d &&& 255).toInt8.toInt32 = nI A') (h : ra_R u0 M0 post sw T st na ax cx bx b si A' C O) : ra_F u0 M0 post 1 il sw T st na ax cx bx b si A C O := by
  intro M R ip ir iq hM r0 r1 r3 r4 r5 r6
  have hq : nI (A + 2) + (M (A + 1) &&& 255).toInt8.toInt32 = nI A' := by rw [ra_by hM hc.2.1 (by omega) (by omega) rfl]; exact hd
  refine xr_step rfl (fun Q hQ => xt_je1 (by omega) (ra_by hM hc.1 (by omega) (by omega) (by decide)) rfl hQ) ?_
  rw [hq]
  exact h _ _ _ _ _ _ _ (hM) (r0) (r1) (r3) (r4) (r5) (r6)
theorem ra_je0 {il : Int32} {d : Int32} (hc : wl_At M0 A (116 :: d :: l)) (h6 : 6 ≤ A) (hA : A < 3260)  (h : ra_R u0 M0 post sw T st na ax cx bx b si (A + 2) C O) : ra_F u0 M0 post 0 il sw T st na ax cx bx b si A C O := by
  intro M R ip ir iq hM r0 r1 r3 r4 r5 r6
  refine xr_step rfl (fun Q hQ => xt_je0 (by omega) (ra_by hM hc.1 (by omega) (by omega) (by decide)) rfl hQ) ?_
  exact h _ _ _ _ _ _ _ (hM) (r0) (r1) (r3) (r4) (r5) (r6)
theorem ra_jne1 {il : Int32} {d : Int32} {A' : Nat} (hc : wl_At M0 A (117 :: d :: l)) (h6 : 6 ≤ A) (hA : A < 3260) (hd : nI (A + 2) + (d &&& 255).toInt8.toInt32 = nI A') (h : ra_R u0 M0 post sw T st na ax cx bx b si A' C O) : ra_F u0 M0 post 0 il sw T st na ax cx bx b si A C O := by
  intro M R ip ir iq hM r0 r1 r3 r4 r5 r6
  have hq : nI (A + 2) + (M (A + 1) &&& 255).toInt8.toInt32 = nI A' := by rw [ra_by hM hc.2.1 (by omega) (by omega) rfl]; exact hd
  refine xr_step rfl (fun Q hQ => xt_jne1 (by omega) (ra_by hM hc.1 (by omega) (by omega) (by decide)) rfl hQ) ?_
  rw [hq]
  exact h _ _ _ _ _ _ _ (hM) (r0) (r1) (r3) (r4) (r5) (r6)
theorem ra_jne0 {il : Int32} {d : Int32} (hc : wl_At M0 A (117 :: d :: l)) (h6 : 6 ≤ A) (hA : A < 3260)  (h : ra_R u0 M0 post sw T st na ax cx bx b si (A + 2) C O) : ra_F u0 M0 post 1 il sw T st na ax cx bx b si A C O := by
  intro M R ip ir iq hM r0 r1 r3 r4 r5 r6
  refine xr_step rfl (fun Q hQ => xt_jne0 (by omega) (ra_by hM hc.1 (by omega) (by omega) (by decide)) rfl hQ) ?_
  exact h _ _ _ _ _ _ _ (hM) (r0) (r1) (r3) (r4) (r5) (r6)
theorem ra_c500 {n : Nat} (h : n < 500) : (if (500 : Int32).toInt16.toInt32 ≤ (nI n).toInt16.toInt32 then (0 : Int32) else 1) = 1 := by
  rw [ww_sI (by omega), show (500 : Int32).toInt16.toInt32 = nI 500 by decide]; exact if_neg (nI_ge h (by omega))
theorem ra_c500' {n : Nat} (h : 500 ≤ n) (h2 : n < 32768) : (if (500 : Int32).toInt16.toInt32 ≤ (nI n).toInt16.toInt32 then (0 : Int32) else 1) = 0 := by
  rw [ww_sI (by omega), show (500 : Int32).toInt16.toInt32 = nI 500 by decide]; exact if_pos (nI_le h (by omega))
theorem ra_c12 {n : Nat} (h : n < 12) : (if (12 : Int32).toInt16.toInt32 ≤ (nI n).toInt16.toInt32 then (0 : Int32) else 1) = 1 := by
  rw [ww_sI (by omega), show (12 : Int32).toInt16.toInt32 = nI 12 by decide]; exact if_neg (nI_ge h (by omega))
theorem ra_c12' {n : Nat} (h : 12 ≤ n) (h2 : n < 32768) : (if (12 : Int32).toInt16.toInt32 ≤ (nI n).toInt16.toInt32 then (0 : Int32) else 1) = 0 := by
  rw [ww_sI (by omega), show (12 : Int32).toInt16.toInt32 = nI 12 by decide]; exact if_pos (nI_le h (by omega))
theorem ra_cmp500_1  (hc : wl_At M0 A (129 :: 62 :: 2 :: 0 :: 244 :: 1 :: l)) (h6 : 6 ≤ A) (hA : A < 3260) (hs : st < 500) (h : ∀ ie : Int32, ra_F u0 M0 post ie 1 sw T st na ax cx bx b si (A + 6) C O) : ra_R u0 M0 post sw T st na ax cx bx b si A C O := by
  intro ie il M R ip ir iq hM r0 r1 r3 r4 r5 r6
  have hz : (if (ww_rd M (A + 4)).toInt16.toInt32 ≤ (ww_rd M 2).toInt16.toInt32 then (0 : Int32) else 1) = 1 := by rw [hM.2.1, ra_wd (w := 500) hM hc.2.2.2.2.1 hc.2.2.2.2.2.1 (by omega) (by omega) (by decide)]; exact ra_c500 hs
  refine xr_step rfl (fun Q hQ => xt_cmpw (a := 2) (by omega) (ra_by hM hc.1 (by omega) (by omega) (by decide)) (ra_by hM hc.2.1 (by omega) (by omega) (by decide)) (ra_wd hM hc.2.2.1 hc.2.2.2.1 (by omega) (by omega) (by decide)) (by omega) hQ) ?_
  rw [hz]
  exact (h _) _ _ _ _ _ (hM) (r0) (r1) (r3) (r4) (r5) (r6)
theorem ra_cmp500_0  (hc : wl_At M0 A (129 :: 62 :: 2 :: 0 :: 244 :: 1 :: l)) (h6 : 6 ≤ A) (hA : A < 3260) (hs : 500 ≤ st) (hs2 : st < 32768) (h : ∀ ie : Int32, ra_F u0 M0 post ie 0 sw T st na ax cx bx b si (A + 6) C O) : ra_R u0 M0 post sw T st na ax cx bx b si A C O := by
  intro ie il M R ip ir iq hM r0 r1 r3 r4 r5 r6
  have hz : (if (ww_rd M (A + 4)).toInt16.toInt32 ≤ (ww_rd M 2).toInt16.toInt32 then (0 : Int32) else 1) = 0 := by rw [hM.2.1, ra_wd (w := 500) hM hc.2.2.2.2.1 hc.2.2.2.2.2.1 (by omega) (by omega) (by decide)]; exact ra_c500' hs hs2
  refine xr_step rfl (fun Q hQ => xt_cmpw (a := 2) (by omega) (ra_by hM hc.1 (by omega) (by omega) (by decide)) (ra_by hM hc.2.1 (by omega) (by omega) (by decide)) (ra_wd hM hc.2.2.1 hc.2.2.2.1 (by omega) (by omega) (by decide)) (by omega) hQ) ?_
  rw [hz]
  exact (h _) _ _ _ _ _ (hM) (r0) (r1) (r3) (r4) (r5) (r6)
theorem ra_cmp12_1  (hc : wl_At M0 A (131 :: 62 :: 4 :: 0 :: 12 :: l)) (h6 : 6 ≤ A) (hA : A < 3260) (hs : na < 12) (h : ∀ ie : Int32, ra_F u0 M0 post ie 1 sw T st na ax cx bx b si (A + 5) C O) : ra_R u0 M0 post sw T st na ax cx bx b si A C O := by
  intro ie il M R ip ir iq hM r0 r1 r3 r4 r5 r6
  have hz : (if ((M (A + 4) &&& 255).toInt8.toInt32).toInt16.toInt32 ≤ (ww_rd M 4).toInt16.toInt32 then (0 : Int32) else 1) = 1 := by rw [hM.2.2.1, ra_by (b' := 12) hM hc.2.2.2.2.1 (by omega) (by omega) (by decide), show (12 : Int32).toInt8.toInt32 = 12 by decide]; exact ra_c12 hs
  refine xr_step rfl (fun Q hQ => xt_cmpb (a := 4) (by omega) (ra_by hM hc.1 (by omega) (by omega) (by decide)) (ra_by hM hc.2.1 (by omega) (by omega) (by decide)) (ra_wd hM hc.2.2.1 hc.2.2.2.1 (by omega) (by omega) (by decide)) (by omega) hQ) ?_
  rw [hz]
  exact (h _) _ _ _ _ _ (hM) (r0) (r1) (r3) (r4) (r5) (r6)
theorem ra_cmp12_0  (hc : wl_At M0 A (131 :: 62 :: 4 :: 0 :: 12 :: l)) (h6 : 6 ≤ A) (hA : A < 3260) (hs : 12 ≤ na) (hs2 : na < 32768) (h : ∀ ie : Int32, ra_F u0 M0 post ie 0 sw T st na ax cx bx b si (A + 5) C O) : ra_R u0 M0 post sw T st na ax cx bx b si A C O := by
  intro ie il M R ip ir iq hM r0 r1 r3 r4 r5 r6
  have hz : (if ((M (A + 4) &&& 255).toInt8.toInt32).toInt16.toInt32 ≤ (ww_rd M 4).toInt16.toInt32 then (0 : Int32) else 1) = 0 := by rw [hM.2.2.1, ra_by (b' := 12) hM hc.2.2.2.2.1 (by omega) (by omega) (by decide), show (12 : Int32).toInt8.toInt32 = 12 by decide]; exact ra_c12' hs hs2
  refine xr_step rfl (fun Q hQ => xt_cmpb (a := 4) (by omega) (ra_by hM hc.1 (by omega) (by omega) (by decide)) (ra_by hM hc.2.1 (by omega) (by omega) (by decide)) (ra_wd hM hc.2.2.1 hc.2.2.2.1 (by omega) (by omega) (by decide)) (by omega) hQ) ?_
  rw [hz]
  exact (h _) _ _ _ _ _ (hM) (r0) (r1) (r3) (r4) (r5) (r6)
theorem ra_int0 (hc : wl_At M0 A (205 :: 0 :: l)) (h6 : 6 ≤ A) (hA : A < 3260) (h : ra_H u0 M0 post sw T st ax C O) : ra_R u0 M0 post sw T st na ax cx bx b si A C O := by
  intro ie il M R ip ir iq hM r0 r1 r3 r4 r5 r6
  refine xr_step rfl (fun Q hQ => xt_int0 (by omega) (ra_by hM hc.1 (by omega) (by omega) (by decide)) (ra_by hM hc.2.1 (by omega) (by omega) (by decide)) hQ) ?_
  exact h _ _ _ _ _ _ _ _ _ hM r0
theorem ra_int1 (hc : wl_At M0 A (205 :: 1 :: l)) (h6 : 6 ≤ A) (hA : A < 3260) (hC : C < 65535) (h : ra_R u0 M0 post sw T st na ax cx bx b si (A + 2) (C + 1) (ra_pO O C ax.toInt16.toInt32)) : ra_R u0 M0 post sw T st na ax cx bx b si A C O := by
  intro ie il M R ip ir iq hM r0 r1 r3 r4 r5 r6
  by_cases hc30 : C < 30
  · refine xr_step rfl (fun Q hQ => xt_int1p (by omega) (ra_by hM hc.1 (by omega) (by omega) (by decide)) (ra_by hM hc.2.1 (by omega) (by omega) (by decide)) (nI_ge (b := 30) hc30 (by omega)) (vp_in_nI hc30 (by omega)) hQ) ?_
    rw [nI_1, nI_clamp (by omega), r0]
    unfold ra_pO at h
    rw [if_pos hc30] at h
    exact h _ _ _ _ _ _ _ hM r0 r1 r3 r4 r5 r6
  · refine xr_step rfl (fun Q hQ => xt_int1 (by omega) (ra_by hM hc.1 (by omega) (by omega) (by decide)) (ra_by hM hc.2.1 (by omega) (by omega) (by decide)) (nI_le (a := 30) (by omega) (by omega)) hQ) ?_
    rw [nI_1]
    unfold ra_pO at h
    rw [if_neg hc30] at h
    exact h _ _ _ _ _ _ _ hM r0 r1 r3 r4 r5 r6
end
end
section
/-! the program's picture: P 0 parents, 1 modes, 2 bodies, 3 .. 6 expressions (kind, x, y, weight), 7 .. 11 statements (kind, x, y, z, weight) -/
abbrev pg_P : Type := Nat → Nat → Int32
def pg_pa (P : pg_P) (i : Nat) : Nat := (P 0 i).toNatClampNeg
def pg_mo (P : pg_P) (i : Nat) : Nat := (P 1 i).toNatClampNeg
def pg_bo (P : pg_P) (i : Nat) : Nat := (P 2 i).toNatClampNeg
def pg_ek (P : pg_P) (e : Nat) : Nat := (P 3 e).toNatClampNeg
def pg_ex (P : pg_P) (e : Nat) : Nat := (P 4 e).toNatClampNeg
def pg_ey (P : pg_P) (e : Nat) : Nat := (P 5 e).toNatClampNeg
def pg_ew (P : pg_P) (e : Nat) : Nat := (P 6 e).toNatClampNeg
def pg_sk (P : pg_P) (s : Nat) : Nat := (P 7 s).toNatClampNeg
def pg_sx (P : pg_P) (s : Nat) : Nat := (P 8 s).toNatClampNeg
def pg_sy (P : pg_P) (s : Nat) : Nat := (P 9 s).toNatClampNeg
def pg_sz (P : pg_P) (s : Nat) : Nat := (P 10 s).toNatClampNeg
def pg_sw (P : pg_P) (s : Nat) : Nat := (P 11 s).toNatClampNeg
/-- the mode of a parameter, which is its size in words too -/
def pg_md (P : pg_P) (q k : Nat) : Nat := if k = 0 then pg_mo P q % 3 else pg_mo P q / 3
def pg_aw (P : pg_P) (q : Nat) : Nat := pg_md P q 0 + pg_md P q 1
abbrev pg_bn (P : pg_P) (v : Nat) : Prop := v % 5 < 2 ∧ pg_md P (v / 5) (v % 5) = 2
/-- hops from a procedure to an ancestor -/
def pg_hp (P : pg_P) : Nat → Nat → Nat → Nat
  | 0, _, _ => 0
  | n + 1, q, r => if q = r then 0 else pg_hp P n (pg_pa P q) r + 1
def pg_an (P : pg_P) : Nat → Nat → Nat → Prop
  | 0, q, r => q = r
  | n + 1, q, r => q = r ∨ (q ≠ 0 ∧ pg_an P n (pg_pa P q) r)
def pg_h (P : pg_P) (q r : Nat) : Nat := pg_hp P 4 q r
theorem pg_hp_le (P : pg_P) : ∀ n q r : Nat, pg_hp P n q r ≤ n := by
  intro n
  induction n with
  | zero => intro q r; exact Nat.le_refl 0
  | succ n ih =>
    intro q r
    unfold pg_hp
    split
    · omega
    · have := ih (pg_pa P q) r; omega
theorem pg_h_le (P : pg_P) (q r : Nat) : pg_h P q r ≤ 4 := pg_hp_le P 4 q r
def pg_sn (P : pg_P) (np q v : Nat) : Prop := v / 5 < np ∧ pg_an P 4 q (v / 5) ∧ (1 < v % 5 ∨ 0 < pg_md P (v / 5) (v % 5))
/-- what the sizes and the calls that make a program keep -/
def pg_Wp (P : pg_P) (ns i : Nat) : Prop :=
  (i = 0 → P 0 i = -1 ∧ pg_mo P i = 0) ∧ (i ≠ 0 → P 0 i = nI (pg_pa P i) ∧ pg_pa P i < i) ∧ P 1 i = nI (pg_mo P i) ∧ pg_mo P i ≤ 8 ∧ (2 < pg_mo P i → pg_mo P i % 3 ≠ 0) ∧ (P 2 i = -1 ∨ (P 2 i = nI (pg_bo P i) ∧ pg_bo P i < ns))
def pg_We (P : pg_P) (e : Nat) : Prop :=
  P 3 e = nI (pg_ek P e) ∧ pg_ek P e ≤ 7 ∧ P 6 e = nI (pg_ew P e) ∧ 1 ≤ pg_ew P e ∧ pg_ew P e ≤ 16 ∧
  (pg_ek P e = 0 → (P 4 e).toInt16.toInt32 = P 4 e) ∧
  (pg_ek P e = 1 → P 4 e = nI (pg_ex P e) ∧ pg_ex P e ≤ 24) ∧
  (2 ≤ pg_ek P e → P 4 e = nI (pg_ex P e) ∧ pg_ex P e < e ∧ (pg_ek P e = 7 → pg_ew P e = 1 + pg_ew P (pg_ex P e)) ∧
    (pg_ek P e ≠ 7 → P 5 e = nI (pg_ey P e) ∧ pg_ey P e < e ∧ pg_ew P e = 1 + pg_ew P (pg_ex P e) + pg_ew P (pg_ey P e)))
def pg_Ws (P : pg_P) (np ne s : Nat) : Prop :=
  P 7 s = nI (pg_sk P s) ∧ pg_sk P s ≤ 6 ∧ P 11 s = nI (pg_sw P s) ∧ 1 ≤ pg_sw P s ∧ pg_sw P s ≤ 16 ∧
  (pg_sk P s = 0 → P 8 s = nI (pg_sx P s) ∧ pg_sx P s ≤ 24 ∧ P 9 s = nI (pg_sy P s) ∧ pg_sy P s < ne ∧ pg_sw P s = 1 + pg_ew P (pg_sy P s)) ∧
  (pg_sk P s = 1 → P 8 s = nI (pg_sx P s) ∧ pg_sx P s < s ∧ P 9 s = nI (pg_sy P s) ∧ pg_sy P s < s ∧ pg_sw P s = 1 + pg_sw P (pg_sx P s) + pg_sw P (pg_sy P s)) ∧
  (pg_sk P s = 2 → P 8 s = nI (pg_sx P s) ∧ pg_sx P s < ne ∧ P 9 s = nI (pg_sy P s) ∧ pg_sy P s < s ∧
    ((P 10 s = -1 ∧ pg_sw P s = 1 + pg_ew P (pg_sx P s) + pg_sw P (pg_sy P s)) ∨ (P 10 s = nI (pg_sz P s) ∧ pg_sz P s < s ∧ pg_sw P s = 1 + pg_ew P (pg_sx P s) + pg_sw P (pg_sy P s) + pg_sw P (pg_sz P s)))) ∧
  (pg_sk P s = 3 → P 8 s = nI (pg_sx P s) ∧ pg_sx P s < ne ∧ P 9 s = nI (pg_sy P s) ∧ pg_sy P s < s ∧ pg_sw P s = 1 + pg_ew P (pg_sx P s) + pg_sw P (pg_sy P s)) ∧
  (pg_sk P s = 4 → P 8 s = nI (pg_sx P s) ∧ pg_sx P s < ne ∧ pg_sw P s = 1 + pg_ew P (pg_sx P s)) ∧
  (pg_sk P s = 5 → P 8 s = nI (pg_sx P s) ∧ pg_sx P s < np ∧ (pg_md P (pg_sx P s) 0 ≠ 0 → P 9 s = nI (pg_sy P s) ∧ pg_sy P s < ne) ∧ (pg_md P (pg_sx P s) 1 ≠ 0 → P 10 s = nI (pg_sz P s) ∧ pg_sz P s < ne) ∧
    pg_sw P s = 1 + (if pg_md P (pg_sx P s) 0 = 0 then 0 else pg_ew P (pg_sy P s)) + (if pg_md P (pg_sx P s) 1 = 0 then 0 else pg_ew P (pg_sz P s)))
def pg_W (P : pg_P) (np ne ns : Nat) : Prop :=
  np ≤ 5 ∧ ne ≤ 50 ∧ ns ≤ 40 ∧ (∀ i, i < np → pg_Wp P ns i) ∧ (∀ e, e < ne → pg_We P e) ∧ (∀ s, s < ns → pg_Ws P np ne s)
/-- all that is in an expression, in a statement, is seen in a procedure -/
def pg_FE (P : pg_P) (np q : Nat) (e : Nat) : Prop :=
  (pg_ek P e = 1 → pg_sn P np q (pg_ex P e)) ∧ (2 ≤ pg_ek P e → ∀ _h : pg_ex P e < e, pg_FE P np q (pg_ex P e)) ∧ (2 ≤ pg_ek P e → pg_ek P e ≠ 7 → ∀ _h : pg_ey P e < e, pg_FE P np q (pg_ey P e))
termination_by e
def pg_FS (P : pg_P) (np q : Nat) (s : Nat) : Prop :=
  (pg_sk P s = 0 → pg_sn P np q (pg_sx P s) ∧ pg_FE P np q (pg_sy P s)) ∧
  (pg_sk P s = 1 → ∀ _h : pg_sx P s < s, pg_FS P np q (pg_sx P s)) ∧
  (pg_sk P s = 2 ∨ pg_sk P s = 3 ∨ pg_sk P s = 4 → pg_FE P np q (pg_sx P s)) ∧
  (pg_sk P s = 1 ∨ pg_sk P s = 2 ∨ pg_sk P s = 3 → ∀ _h : pg_sy P s < s, pg_FS P np q (pg_sy P s)) ∧
  (pg_sk P s = 2 → 0 ≤ P 10 s → ∀ _h : pg_sz P s < s, pg_FS P np q (pg_sz P s)) ∧
  (pg_sk P s = 5 → pg_sx P s ≠ 0 ∧ pg_an P 4 q (pg_pa P (pg_sx P s)) ∧ (pg_md P (pg_sx P s) 0 ≠ 0 → pg_FE P np q (pg_sy P s)) ∧ (pg_md P (pg_sx P s) 1 ≠ 0 → pg_FE P np q (pg_sz P s)))
termination_by s
/-! the code -/
def pg_wd (w : Int32) : List Int32 := [w &&& 255, (w >>> ((8 : Int32) &&& 31)) &&& 255]
def pg_of (P : pg_P) (v : Nat) : Int32 := if 1 < v % 5 then 2 - 2 * nI (v % 5) else if v % 5 = 1 then 6 else 6 + nI (2 * pg_md P (v / 5) 1)
def pg_tk (c : Nat) : List Int32 := 232 :: pg_wd ((76 - nI (c + 1)) - 2)
def pg_rp : Nat → List Int32
  | 0 => []
  | h + 1 => 139 :: 95 :: 4 :: pg_rp h
def pg_ff : Nat → List Int32
  | 0 => []
  | h + 1 => 139 :: 94 :: 4 :: pg_rp h
def pg_us (P : pg_P) (q v : Nat) (wn : List Int32) (c : Nat) : List Int32 :=
  pg_tk c ++ (pg_ff (pg_h P q (v / 5)) ++ (139 :: (if pg_h P q (v / 5) = 0 then 118 else 119) :: pg_of P v :: 85 :: 139 :: (if pg_h P q (v / 5) = 0 then 110 else 111) :: (pg_of P v + 2) :: (wn ++ [255, 214, 93])))
def pg_lv (P : pg_P) (q v c : Nat) : List Int32 :=
  if pg_bn P v then pg_us P q v [185, 0, 0] c else pg_ff (pg_h P q (v / 5)) ++ [139, (if pg_h P q (v / 5) = 0 then 70 else 71), pg_of P v]
def pg_ch (br : Int32) : List Int32 := [184, 1, 0, br, 3, 184, 0, 0]
def pg_fn (k : Nat) : List Int32 :=
  if k = 7 then 11 :: 192 :: pg_ch 116 else 139 :: 216 :: 88 :: (if k = 2 then [3, 195] else if k = 3 then [43, 195] else if k = 4 then [247, 235] else 59 :: 195 :: pg_ch (if k = 5 then 124 else 116))
def pg_E (P : pg_P) (q : Nat) (e : Nat) (c : Nat) : List Int32 :=
  if pg_ek P e = 0 then 184 :: pg_wd (P 4 e)
  else if pg_ek P e = 1 then pg_lv P q (pg_ex P e) c
  else if _h : pg_ex P e < e then
    if pg_ek P e = 7 then pg_E P q (pg_ex P e) c ++ pg_fn 7
    else if _h2 : pg_ey P e < e then
      pg_E P q (pg_ex P e) c ++ 80 :: (pg_E P q (pg_ey P e) (c + (pg_E P q (pg_ex P e) c).length + 1) ++ pg_fn (pg_ek P e))
    else []
  else []
termination_by e
def pg_rt (P : pg_P) (q e c : Nat) : List Int32 :=
  (if pg_ek P e ≠ 1 then 11 :: 201 :: 116 :: 5 :: 184 :: 3 :: 0 :: 205 :: 0 :: pg_E P q e (c + 9)
   else if pg_bn P (pg_ex P e) then pg_us P q (pg_ex P e) [] c
   else (if pg_h P q (pg_ex P e / 5) = 0 then [141, 94, pg_of P (pg_ex P e)] else pg_ff (pg_h P q (pg_ex P e / 5)) ++ [131, 195, pg_of P (pg_ex P e)]) ++ [11, 201, 117, 2, 139, 7]) ++ [195]
def pg_ag (P : pg_P) (q e m c : Nat) : List Int32 :=
  if m = 2 then 233 :: (pg_wd (nI (pg_rt P q e (c + 3)).length) ++ (pg_rt P q e (c + 3) ++ 85 :: 184 :: (pg_wd (nI (c + 3)) ++ [80]))) else pg_E P q e c ++ [80]
def pg_am (P : pg_P) (q e m c : Nat) : List Int32 := if m = 0 then [] else pg_ag P q e m c
def pg_cl (P : pg_P) (q s c : Nat) : List Int32 :=
  pg_am P q (pg_sy P s) (pg_md P (pg_sx P s) 0) c ++ (pg_am P q (pg_sz P s) (pg_md P (pg_sx P s) 1) (c + (pg_am P q (pg_sy P s) (pg_md P (pg_sx P s) 0) c).length) ++
  (pg_ff (pg_h P q (pg_pa P (pg_sx P s))) ++ (if pg_h P q (pg_pa P (pg_sx P s)) = 0 then 85 else 83) :: 139 :: 54 :: (pg_wd (nI (32 + 2 * pg_sx P s)) ++ [255, 214])))
def pg_st (P : pg_P) (q v c : Nat) : List Int32 :=
  if pg_bn P v then 80 :: (pg_us P q v [185, 1, 0] (c + 1) ++ [88, 137, 7]) else pg_ff (pg_h P q (v / 5)) ++ [137, (if pg_h P q (v / 5) = 0 then 70 else 71), pg_of P v]
/-- a test: up to the jump's word -/
def pg_ts (P : pg_P) (q e c : Nat) : List Int32 := pg_tk c ++ (pg_E P q e (c + 3) ++ [11, 192, 117, 3, 233])
def pg_S (P : pg_P) (q : Nat) (s : Nat) (c : Nat) : List Int32 :=
  if pg_sk P s = 6 then []
  else if pg_sk P s = 0 then pg_tk c ++ (pg_E P q (pg_sy P s) (c + 3) ++ pg_st P q (pg_sx P s) (c + 3 + (pg_E P q (pg_sy P s) (c + 3)).length))
  else if pg_sk P s = 4 then pg_tk c ++ (pg_E P q (pg_sx P s) (c + 3) ++ [205, 1])
  else if pg_sk P s = 5 then pg_tk c ++ pg_cl P q s (c + 3)
  else if _h : pg_sy P s < s then
    if pg_sk P s = 1 then
      if _h2 : pg_sx P s < s then pg_S P q (pg_sx P s) c ++ pg_S P q (pg_sy P s) (c + (pg_S P q (pg_sx P s) c).length) else []
    else if pg_sk P s = 3 then
      pg_ts P q (pg_sx P s) c ++ (pg_wd (nI ((pg_S P q (pg_sy P s) (c + (pg_ts P q (pg_sx P s) c).length + 2)).length + 3)) ++
        (pg_S P q (pg_sy P s) (c + (pg_ts P q (pg_sx P s) c).length + 2) ++ 233 :: pg_wd ((nI c - nI (c + (pg_ts P q (pg_sx P s) c).length + 2 + (pg_S P q (pg_sy P s) (c + (pg_ts P q (pg_sx P s) c).length + 2)).length + 1)) - 2)))
    else if 0 ≤ P 10 s then
      if _h3 : pg_sz P s < s then
        pg_ts P q (pg_sx P s) c ++ (pg_wd (nI ((pg_S P q (pg_sy P s) (c + (pg_ts P q (pg_sx P s) c).length + 2)).length + 3)) ++
          (pg_S P q (pg_sy P s) (c + (pg_ts P q (pg_sx P s) c).length + 2) ++ 233 :: (pg_wd (nI (pg_S P q (pg_sz P s) (c + (pg_ts P q (pg_sx P s) c).length + 2 + (pg_S P q (pg_sy P s) (c + (pg_ts P q (pg_sx P s) c).length + 2)).length + 3)).length) ++
            pg_S P q (pg_sz P s) (c + (pg_ts P q (pg_sx P s) c).length + 2 + (pg_S P q (pg_sy P s) (c + (pg_ts P q (pg_sx P s) c).length + 2)).length + 3))))
      else []
    else
      pg_ts P q (pg_sx P s) c ++ (pg_wd (nI (pg_S P q (pg_sy P s) (c + (pg_ts P q (pg_sx P s) c).length + 2)).length) ++ pg_S P q (pg_sy P s) (c + (pg_ts P q (pg_sx P s) c).length + 2))
  else []
termination_by s
def pg_hd : List Int32 := [85, 139, 236, 131, 62, 4, 0, 12, 124, 5, 184, 2, 0, 205, 0, 255, 6, 4, 0, 51, 192, 80, 80, 80]
def pg_tl (P : pg_P) (q : Nat) : List Int32 := 139 :: 229 :: 255 :: 14 :: 4 :: 0 :: 93 :: 194 :: pg_wd (nI (2 + 2 * pg_aw P q))
def pg_pr (P : pg_P) (q c : Nat) : List Int32 := pg_hd ++ (pg_S P q (pg_bo P q) (c + 24) ++ pg_tl P q)
def pg_s0 : List Int32 := [80, 139, 54, 32, 0, 255, 214, 184, 0, 0, 205, 0]
def pg_s1 : List Int32 := [129, 62, 2, 0, 244, 1, 124, 5, 184, 1, 0, 205, 0, 255, 6, 2, 0, 195]
/-- the code of the program lies in memory -/
def pg_OK (P : pg_P) (np : Nat) (M : Nat → Int32) : Prop :=
  wl_At M 64 pg_s0 ∧ wl_At M 76 pg_s1 ∧ ∀ q, q < np → ∃ a, 94 ≤ a ∧ a + (pg_pr P q a).length ≤ 3240 ∧ ww_rd M (32 + 2 * q) = nI a ∧ wl_At M a (pg_pr P q a)
end
section
/-! composite rules: words of code, ticks -/
theorem wl_d {M : Nat → Int32} : ∀ (n : Nat) {a : Nat} {l : List Int32}, wl_At M a l → wl_At M (a + n) (l.drop n) := by
  intro n
  induction n with
  | zero => intro a l h; exact h
  | succ n ih =>
    intro a l h
    cases l with
    | nil => trivial
    | cons b l =>
      have := ih h.2
      rw [show a + (n + 1) = a + 1 + n by omega]
      exact this
theorem wl_l {M : Nat → Int32} {a : Nat} {l1 l2 : List Int32} (h : wl_At M a (l1 ++ l2)) : wl_At M a l1 := (wl_app.mp h).1
theorem wl_r {M : Nat → Int32} {a b : Nat} {l1 l2 : List Int32} (h : wl_At M a (l1 ++ l2)) (hb : b = a + l1.length) : wl_At M b l2 := by
  rw [hb]; exact (wl_app.mp h).2
theorem rb_wd (w : Int32) : ra_w2 (w &&& 255) ((w >>> ((8 : Int32) &&& 31)) &&& 255) = w &&& 65535 := by
  unfold ra_w2
  rw [Int32.and_assoc, Int32.and_assoc]
  exact ww_word w
theorem rb_sm {w : Int32} (h1 : -32768 ≤ w.toInt) (h2 : w.toInt < 32768) : (w &&& 65535).toInt16.toInt32 = w := by
  rw [ww_sw]; exact lg_i2s_small h1 h2
theorem rb_rel {A to : Nat} (hA : A < 4096) (ht : to < 4096) : nI (A + 3) + ((((nI to - nI (A + 1)) - 2) &&& 65535).toInt16.toInt32) = nI to := by
  have e : nI to - nI (A + 1) - 2 = nI to - nI (A + 3) := by
    rw [show nI (A + 3) = nI (A + 1) + 2 from (nI_add (A + 1) 2).symm]
    grind
  rw [e, rb_sm (by rw [pk_sub_toInt (by omega) (by omega)]; omega) (by rw [pk_sub_toInt (by omega) (by omega)]; omega)]
  grind
theorem rb_fw {A n : Nat} (h : n < 32768) : nI (A + 3) + (nI n &&& 65535).toInt16.toInt32 = nI (A + 3 + n) := by
  rw [ww_sw, ww_sI h, nI_add]
theorem rb_d {b t : Nat} {d : Int32} (k : Nat) (hd : (d &&& 255).toInt8.toInt32 = nI (2 * k)) (hb : b < 2000) (ht : t + k = b) : nI (4092 - 2 * b) + (d &&& 255).toInt8.toInt32 = nI (4092 - 2 * t) := by
  rw [hd, nI_add]; exact congrArg nI (by omega)
theorem rb_m {b t : Nat} {d : Int32} (k : Nat) (hd : (d &&& 255).toInt8.toInt32 = 0 - nI (2 * k)) (hb : b < 2000) (ht : t = b + k) (ht2 : t < 2000) : nI (4092 - 2 * b) + (d &&& 255).toInt8.toInt32 = nI (4092 - 2 * t) := by
  rw [hd]
  have e : nI (4092 - 2 * b) = nI (4092 - 2 * t) + nI (2 * k) := by rw [nI_add]; exact congrArg nI (by omega)
  rw [e]; grind
section
variable {u0 : SX} {M0 sw O : Nat → Int32} {post : Int32 → SX → Prop} {T st na b A C : Nat} {ax cx bx si : Int32} {l : List Int32}
theorem rb_tick (hS : wl_At M0 76 pg_s1) (hc : wl_At M0 A (pg_tk A ++ l)) (h6 : 64 ≤ A) (hA : A < 3255) (hT : T < 400) (hs : st < 500) (h : ra_R u0 M0 post sw T (st + 1) na ax cx bx b si (A + 3) C O) : ra_R u0 M0 post sw T st na ax cx bx b si A C O := by
  refine ra_call (A' := 76) hc (by omega) (by omega) (by rw [rb_wd]; exact rb_rel (to := 76) (by omega) (by omega)) hT ?_
  refine ra_cmp500_1 hS (by omega) (by omega) hs (fun ie => ?_)
  refine ra_jl1 (A := 82) (A' := 89) (wl_d 6 hS) (by omega) (by omega) (by decide) ?_
  refine ra_inc2 (A := 89) (wl_d 13 hS) (by omega) (by omega) (by omega) (by omega) ?_
  refine ra_ret (A := 93) (wl_d 17 hS) (by omega) (by omega) hT pk_us ?_
  exact ra_ext (fun t ht => pk_un (by omega)) h
theorem rb_tired (hS : wl_At M0 76 pg_s1) (hc : wl_At M0 A (pg_tk A ++ l)) (h6 : 64 ≤ A) (hA : A < 3255) (hT : T < 400) (hs : st = 500) (h : ra_H u0 M0 post sw T st 1 C O) : ra_R u0 M0 post sw T st na ax cx bx b si A C O := by
  refine ra_call (A' := 76) hc (by omega) (by omega) (by rw [rb_wd]; exact rb_rel (to := 76) (by omega) (by omega)) hT ?_
  refine ra_cmp500_0 hS (by omega) (by omega) (by omega) (by omega) (fun ie => ?_)
  refine ra_jl0 (A := 82) (wl_d 6 hS) (by omega) (by omega) ?_
  refine ra_movi_ax (A := 84) (w := 1) (wl_d 8 hS) (by omega) (by omega) (by decide) ?_
  refine ra_int0 (A := 87) (wl_d 11 hS) (by omega) (by omega) ?_
  exact ra_Hd (T' := T) (by omega) (ra_Hext (fun t ht => pk_un (by omega)) h)
end
/-! frames: the way to an ancestor's -/
def rb_it (r : Nat → Nat) : Nat → Nat → Nat
  | 0, i => i
  | h + 1, i => rb_it r h (r i)
theorem rb_rp {u0 : SX} {M0 sw O : Nat → Int32} {post : Int32 → SX → Prop} {T st na b C n : Nat} {ax cx si : Int32} {l : List Int32} {tb r : Nat → Nat}
    (hL : ∀ i, 0 < i → i < n → sw (tb i - 2) = nI (4092 - 2 * tb (r i)) ∧ 2 ≤ tb i ∧ tb i < T ∧ r i < i) (hT : T ≤ 400) :
    ∀ (h i A : Nat) (bx : Int32), i < n → (∀ j, j < h → 0 < rb_it r j i) → wl_At M0 A (pg_rp h ++ l) → 64 ≤ A → A + 3 * h ≤ 3255 → bx = nI (4092 - 2 * tb i) →
      ra_R u0 M0 post sw T st na ax cx (nI (4092 - 2 * tb (rb_it r h i))) b si (A + 3 * h) C O → ra_R u0 M0 post sw T st na ax cx bx b si A C O := by
  intro h
  induction h with
  | zero => intro i A bx _ _ _ _ _ hb k; rw [hb]; exact k
  | succ h ih =>
    intro i A bx hi hj hc h6 hA hb k
    have h0 := hj 0 (by omega)
    have hl := hL i h0 hi
    refine ra_ld_bxbx (t := tb i - 2) (f := tb i) hc (by omega) (by omega) hb (rb_d 2 (by decide) (by omega) (by omega)) (by omega) hT ?_
    refine ih (r i) (A + 3) (sw (tb i - 2)) (by omega) (fun j hjj => hj (j + 1) (by omega)) (wl_d 3 hc) (by omega) (by omega) hl.1 ?_
    rw [show A + 3 + 3 * h = A + 3 * (h + 1) by omega]
    exact k
theorem rb_ff {u0 : SX} {M0 sw O : Nat → Int32} {post : Int32 → SX → Prop} {T st na C n : Nat} {ax cx bx si : Int32} {l : List Int32} {tb r : Nat → Nat}
    (hL : ∀ i, 0 < i → i < n → sw (tb i - 2) = nI (4092 - 2 * tb (r i)) ∧ 2 ≤ tb i ∧ tb i < T ∧ r i < i) (hT : T ≤ 400)
    {h i A : Nat} (hi : i < n) (hj : ∀ j, j < h + 1 → 0 < rb_it r j i) (hc : wl_At M0 A (pg_ff (h + 1) ++ l)) (h6 : 64 ≤ A) (hA : A + 3 * (h + 1) ≤ 3255)
    (k : ra_R u0 M0 post sw T st na ax cx (nI (4092 - 2 * tb (rb_it r (h + 1) i))) (tb i) si (A + 3 * (h + 1)) C O) : ra_R u0 M0 post sw T st na ax cx bx (tb i) si A C O := by
  have h0 := hj 0 (by omega)
  have hl := hL i h0 hi
  refine ra_ld_bxbp (t := tb i - 2) hc (by omega) (by omega) (rb_d 2 (by decide) (by omega) (by omega)) (by omega) hT ?_
  refine rb_rp hL hT h (r i) (A + 3) (sw (tb i - 2)) (by omega) (fun j hjj => hj (j + 1) (by omega)) (wl_d 3 hc) (by omega) (by omega) hl.1 ?_
  rw [show A + 3 + 3 * h = A + 3 * (h + 1) by omega]
  exact k
theorem rb_ffl : ∀ h : Nat, (pg_ff h).length = 3 * h := by
  have e : ∀ h : Nat, (pg_rp h).length = 3 * h := by
    intro h
    induction h with
    | zero => rfl
    | succ h ih => show (pg_rp h).length + 1 + 1 + 1 = _; omega
  intro h
  cases h with
  | zero => rfl
  | succ h => show (pg_rp h).length + 1 + 1 + 1 = _; rw [e]; omega
/-! the store: n activations; p their procedures, r the activation around, g the origins of arguments by name (2 * i + k), x the variables (5 * i + k) -/
def sr_A (P : pg_P) (np ne n : Nat) (p r g : Nat → Nat) (x : Nat → Int32) : Prop :=
  1 ≤ n ∧ n ≤ 12 ∧ p 0 = 0 ∧ (∀ i, i < n → p i < np) ∧ (∀ i, i < n → 0 < i → p i ≠ 0 ∧ r i < i ∧ p (r i) = pg_pa P (p i)) ∧
  (∀ i k, i < n → k < 2 → pg_md P (p i) k = 2 → g (2 * i + k) < i ∧ ∃ e, e < ne ∧ x (5 * i + k) = nI e ∧ pg_FE P np (p (g (2 * i + k))) e) ∧
  (∀ i k, i < n → k < 5 → (1 < k ∨ pg_md P (p i) k ≠ 2) → (x (5 * i + k)).toInt16.toInt32 = x (5 * i + k))
def sr_ix (P : pg_P) (p tb : Nat → Nat) (i k : Nat) : Nat := if 1 < k then tb i + (k - 1) else if k = 1 then tb i - 3 else tb i - 3 - pg_md P (p i) 1
def sr_X (P : pg_P) (M0 : Nat → Int32) (n : Nat) (p r g : Nat → Nat) (x : Nat → Int32) (tb ra : Nat → Nat) (sw : Nat → Int32) : Prop :=
  tb 0 = 2 ∧ (∀ i, i + 1 < n → tb (i + 1) = tb i + 6 + pg_aw P (p (i + 1))) ∧
  (∀ i, i < n → 0 < i → sw (tb i - 2) = nI (4092 - 2 * tb (r i))) ∧ (∀ i, i < n → sw (tb i - 1) = nI (ra i)) ∧ (∀ i, i + 1 < n → sw (tb (i + 1)) = nI (4092 - 2 * tb i)) ∧
  (∀ i k, i < n → k < 5 → (1 < k ∨ pg_md P (p i) k = 1) → sw (sr_ix P p tb i k) = x (5 * i + k) &&& 65535) ∧
  (∀ i k, i < n → k < 2 → pg_md P (p i) k = 2 → ∃ A, 64 ≤ A ∧ A + (pg_rt P (p (g (2 * i + k))) (x (5 * i + k)).toNatClampNeg A).length ≤ 3240 ∧ sw (sr_ix P p tb i k) = nI A ∧ sw (sr_ix P p tb i k - 1) = nI (4092 - 2 * tb (g (2 * i + k))) ∧
    wl_At M0 A (pg_rt P (p (g (2 * i + k))) (x (5 * i + k)).toNatClampNeg A))
theorem sr_md {P : pg_P} {np ne ns q : Nat} (hW : pg_W P np ne ns) (hq : q < np) (k : Nat) : pg_md P q k ≤ 2 := by
  have := (hW.2.2.2.1 q hq).2.2.2.1
  unfold pg_md
  split <;> omega
theorem sr_tb {P : pg_P} {M0 : Nat → Int32} {n : Nat} {p r g : Nat → Nat} {x : Nat → Int32} {tb ra : Nat → Nat} {sw : Nat → Int32} (hX : sr_X P M0 n p r g x tb ra sw) :
    ∀ j i : Nat, i < j → j < n → tb i + 6 + pg_aw P (p j) ≤ tb j := by
  intro j
  induction j with
  | zero => intro i h; omega
  | succ j ih =>
    intro i h hn
    have e := hX.2.1 j hn
    by_cases hij : i = j
    · subst hij; omega
    · have := ih i (by omega) (by omega); omega
theorem sr_tb2 {P : pg_P} {M0 : Nat → Int32} {n : Nat} {p r g : Nat → Nat} {x : Nat → Int32} {tb ra : Nat → Nat} {sw : Nat → Int32} (hX : sr_X P M0 n p r g x tb ra sw) {i : Nat} (hi : i < n) : 2 ≤ tb i := by
  by_cases h : i = 0
  · rw [h, hX.1]; exact Nat.le_refl 2
  · have := sr_tb hX i 0 (by omega) hi
    rw [hX.1] at this; omega
theorem sr_tbm {P : pg_P} {np ne ns : Nat} (hW : pg_W P np ne ns) {M0 : Nat → Int32} {n : Nat} {p r g : Nat → Nat} {x : Nat → Int32} {tb ra : Nat → Nat} {sw : Nat → Int32} (hp : ∀ i, i < n → p i < np) (hX : sr_X P M0 n p r g x tb ra sw) :
    ∀ i : Nat, i < n → tb i ≤ 2 + 10 * i := by
  intro i
  induction i with
  | zero => intro _; rw [hX.1]; omega
  | succ i ih =>
    intro hn
    have h1 := ih (by omega)
    have h2 := hX.2.1 i hn
    have h3 := sr_md hW (hp _ hn) 0
    have h4 := sr_md hW (hp _ hn) 1
    unfold pg_aw at h2
    omega
theorem sr_hop {P : pg_P} {np ne n : Nat} {p r g : Nat → Nat} {x : Nat → Int32} (hA : sr_A P np ne n p r g x) {q : Nat} :
    ∀ m i : Nat, i < n → pg_an P m (p i) q → rb_it r (pg_hp P m (p i) q) i ≤ i ∧ p (rb_it r (pg_hp P m (p i) q) i) = q ∧ ∀ j, j < pg_hp P m (p i) q → 0 < rb_it r j i := by
  intro m
  induction m with
  | zero => intro i _ h; exact ⟨Nat.le_refl i, h, fun j hj => absurd hj (Nat.not_lt_zero j)⟩
  | succ m ih =>
    intro i hi h
    unfold pg_hp
    by_cases e : p i = q
    · rw [if_pos e]; exact ⟨Nat.le_refl i, e, fun j hj => absurd hj (Nat.not_lt_zero j)⟩
    · rw [if_neg e]
      have h2 : p i ≠ 0 ∧ pg_an P m (pg_pa P (p i)) q := by
        rcases h with h | h
        · exact absurd h e
        · exact h
      have hi0 : 0 < i := by
        rcases Nat.eq_zero_or_pos i with z | z
        · rw [z, hA.2.2.1] at h2; exact absurd rfl h2.1
        · exact z
      have hr := hA.2.2.2.2.1 i hi hi0
      rw [← hr.2.2] at h2 ⊢
      have := ih (r i) (by omega) h2.2
      refine ⟨Nat.le_trans this.1 (by omega), this.2.1, fun j hj => ?_⟩
      cases j with
      | zero => exact hi0
      | succ j => exact this.2.2 j (by omega)
end
section
/-! the code of expressions, run: rules for one side -/
section
variable {P : pg_P} {np ne ns : Nat} {M0 : Nat → Int32} {n : Nat} {p r g : Nat → Nat} {x : Nat → Int32} {tb ra : Nat → Nat} {sw : Nat → Int32}
theorem sr_tl (hX : sr_X P M0 n p r g x tb ra sw) {i : Nat} (hi : i < n) : tb i ≤ tb (n - 1) := by
  by_cases h : i = n - 1
  · rw [h]; exact Nat.le_refl _
  · have := sr_tb hX (n - 1) i (by omega) (by omega); omega
theorem sr_ixl (hX : sr_X P M0 n p r g x tb ra sw) {i k : Nat} (hi : i < n) (hk : k < 5) : sr_ix P p tb i k < tb (n - 1) + 4 := by
  have := sr_tl hX hi
  unfold sr_ix
  split
  · omega
  · split <;> omega
theorem sr_Xe {sw' : Nat → Int32} (hX : sr_X P M0 n p r g x tb ra sw) (h : ∀ t, t < tb (n - 1) + 4 → sw' t = sw t) : sr_X P M0 n p r g x tb ra sw' := by
  refine ⟨hX.1, hX.2.1, fun i hi h0 => ?_, fun i hi => ?_, fun i hi => ?_, fun i k hi hk hm => ?_, fun i k hi hk hm => ?_⟩
  · have := sr_tl hX hi
    rw [h _ (by omega)]; exact hX.2.2.1 i hi h0
  · have := sr_tl hX hi
    rw [h _ (by omega)]; exact hX.2.2.2.1 i hi
  · have := sr_tl hX hi
    rw [h _ (by omega)]; exact hX.2.2.2.2.1 i hi
  · rw [h _ (sr_ixl hX hi hk)]; exact hX.2.2.2.2.2.1 i k hi hk hm
  · have := sr_ixl hX (k := k) hi (by omega)
    rw [h _ this, h _ (by omega)]; exact hX.2.2.2.2.2.2 i k hi hk hm
theorem sr_L (hA : sr_A P np ne n p r g x) (hX : sr_X P M0 n p r g x tb ra sw) {T : Nat} (hT : tb (n - 1) + 4 ≤ T) : ∀ i, 0 < i → i < n → sw (tb i - 2) = nI (4092 - 2 * tb (r i)) ∧ 2 ≤ tb i ∧ tb i < T ∧ r i < i := by
  intro i h0 hi
  have := sr_tl hX hi
  exact ⟨hX.2.2.1 i hi h0, sr_tb2 hX hi, by omega, (hA.2.2.2.2.1 i hi h0).2.1⟩
/-- an activation of a procedure with parameters isn't the first -/
theorem sr_pos (hW : pg_W P np ne ns) (hA : sr_A P np ne n p r g x) {j k : Nat} (hj : j < n) (hm : pg_md P (p j) k ≠ 0) : 0 < j := by
  rcases Nat.eq_zero_or_pos j with z | z
  · exfalso
    apply hm
    have h1 := hA.2.2.2.1 j hj
    rw [z, hA.2.2.1] at h1 ⊢
    have := ((hW.2.2.2.1 0 h1).1 rfl).2
    unfold pg_md
    rw [this]
    split <;> rfl
  · exact z
theorem sr_o1 : ∀ k, k < 5 → 1 < k → ((2 - 2 * nI k) &&& 255).toInt8.toInt32 = 0 - nI (2 * (k - 1)) := by decide
theorem sr_o0 : ∀ m, m < 3 → ((6 + nI (2 * m)) &&& 255).toInt8.toInt32 = nI (2 * (3 + m)) := by decide
theorem sr_o6 : ((6 : Int32) &&& 255).toInt8.toInt32 = nI (2 * 3) := by decide
theorem sr_p0 : ∀ m, m < 3 → ((6 + nI (2 * m) + 2) &&& 255).toInt8.toInt32 = nI (2 * (4 + m)) := by decide
theorem sr_p6 : ((6 + 2 : Int32) &&& 255).toInt8.toInt32 = nI (2 * 4) := by decide
theorem sr_of (hW : pg_W P np ne ns) (hA : sr_A P np ne n p r g x) (hX : sr_X P M0 n p r g x tb ra sw) {j v : Nat} (hj : j < n) (hv : p j = v / 5) (hm : 1 < v % 5 ∨ 0 < pg_md P (v / 5) (v % 5)) :
    nI (4092 - 2 * tb j) + (pg_of P v &&& 255).toInt8.toInt32 = nI (4092 - 2 * sr_ix P p tb j (v % 5)) := by
  have hb := sr_tbm hW hA.2.2.2.1 hX j hj
  have hn := hA.2.1
  have hk : v % 5 < 5 := Nat.mod_lt _ (by omega)
  unfold pg_of sr_ix
  by_cases h1 : 1 < v % 5
  · rw [if_pos h1, if_pos h1]
    exact rb_m (v % 5 - 1) (sr_o1 _ hk h1) (by omega) rfl (by omega)
  · rw [if_neg h1, if_neg h1]
    have hmm : 0 < pg_md P (p j) (v % 5) := by rw [hv]; omega
    have hj0 := sr_pos hW hA hj (k := v % 5) (by omega)
    have ht := sr_tb hX j 0 hj0 hj
    rw [hX.1] at ht
    by_cases h2 : v % 5 = 1
    · rw [if_pos h2, if_pos h2]
      exact rb_d 3 sr_o6 (by omega) (by omega)
    · rw [if_neg h2, if_neg h2, ← hv]
      have h3 := sr_md hW (hA.2.2.2.1 j hj) 1
      unfold pg_aw at ht
      exact rb_d (3 + pg_md P (p j) 1) (sr_o0 _ (by omega)) (by omega) (by omega)
theorem sr_of2 (hW : pg_W P np ne ns) (hA : sr_A P np ne n p r g x) (hX : sr_X P M0 n p r g x tb ra sw) {j v : Nat} (hj : j < n) (hv : p j = v / 5) (hm : pg_bn P v) :
    nI (4092 - 2 * tb j) + ((pg_of P v + 2) &&& 255).toInt8.toInt32 = nI (4092 - 2 * (sr_ix P p tb j (v % 5) - 1)) := by
  have hb := sr_tbm hW hA.2.2.2.1 hX j hj
  have hn := hA.2.1
  have h1 : ¬ 1 < v % 5 := by have := hm.1; omega
  unfold pg_of sr_ix
  rw [if_neg h1, if_neg h1]
  have hmm : pg_md P (p j) (v % 5) = 2 := by rw [hv]; exact hm.2
  have hj0 := sr_pos hW hA hj (k := v % 5) (by omega)
  have ht := sr_tb hX j 0 hj0 hj
  rw [hX.1] at ht
  by_cases h2 : v % 5 = 1
  · rw [if_pos h2, if_pos h2]
    exact rb_d 4 sr_p6 (by omega) (by omega)
  · rw [if_neg h2, if_neg h2, ← hv]
    have h3 := sr_md hW (hA.2.2.2.1 j hj) 1
    have h4 : v % 5 = 0 := by omega
    rw [h4] at hmm
    unfold pg_aw at ht
    exact rb_d (4 + pg_md P (p j) 1) (sr_p0 _ (by omega)) (by omega) (by omega)
end
/-- an expression's code gives a number; a routine's; or the steps are used up -/
def xe_V (u0 : SX) (P : pg_P) (M0 : Nat → Int32) (n : Nat) (p r g : Nat → Nat) (x : Nat → Int32) (i e st : Nat) (v : Int32) (st' : Nat) : Prop :=
  ∀ (tb ra : Nat → Nat) (sw O : Nat → Int32) (T A C : Nat) (ax cx bx si : Int32), sr_X P M0 n p r g x tb ra sw → tb (n - 1) + 4 ≤ T → T + 18 * i + pg_ew P e + 2 ≤ 400 → 64 ≤ A → A + (pg_E P (p i) e A).length ≤ 3240 → wl_At M0 A (pg_E P (p i) e A) →
    ∃ cx' bx' si' : Int32, ∀ post : Int32 → SX → Prop, ra_R u0 M0 post sw T st' n (v &&& 65535) cx' bx' (tb i) si' (A + (pg_E P (p i) e A).length) C O → ra_R u0 M0 post sw T st n ax cx bx (tb i) si A C O
def xe_T (u0 : SX) (P : pg_P) (M0 : Nat → Int32) (n : Nat) (p r g : Nat → Nat) (x : Nat → Int32) (i e st : Nat) : Prop :=
  ∀ (tb ra : Nat → Nat) (sw O : Nat → Int32) (T A C : Nat) (ax cx bx si : Int32), sr_X P M0 n p r g x tb ra sw → tb (n - 1) + 4 ≤ T → T + 18 * i + pg_ew P e + 2 ≤ 400 → 64 ≤ A → A + (pg_E P (p i) e A).length ≤ 3240 → wl_At M0 A (pg_E P (p i) e A) →
    ∀ post : Int32 → SX → Prop, ra_H u0 M0 post sw T 500 1 C O → ra_R u0 M0 post sw T st n ax cx bx (tb i) si A C O
def rn_V (u0 : SX) (P : pg_P) (M0 : Nat → Int32) (n : Nat) (p r g : Nat → Nat) (x : Nat → Int32) (i e st : Nat) (v : Int32) (st' : Nat) : Prop :=
  ∀ (tb ra : Nat → Nat) (sw O : Nat → Int32) (T A C A' : Nat) (ax bx si : Int32), sr_X P M0 n p r g x tb ra sw → tb (n - 1) + 4 ≤ T → T + 1 + 18 * i + pg_ew P e + 2 ≤ 400 → 64 ≤ A → A + (pg_rt P (p i) e A).length ≤ 3240 → wl_At M0 A (pg_rt P (p i) e A) → sw T = nI A' →
    ∃ cx' bx' si' : Int32, ∀ post : Int32 → SX → Prop, ra_R u0 M0 post sw T st' n (v &&& 65535) cx' bx' (tb i) si' A' C O → ra_R u0 M0 post sw (T + 1) st n ax 0 bx (tb i) si A C O
def rn_T (u0 : SX) (P : pg_P) (M0 : Nat → Int32) (n : Nat) (p r g : Nat → Nat) (x : Nat → Int32) (i e st : Nat) : Prop :=
  ∀ (tb ra : Nat → Nat) (sw O : Nat → Int32) (T A C A' : Nat) (ax bx si : Int32), sr_X P M0 n p r g x tb ra sw → tb (n - 1) + 4 ≤ T → T + 1 + 18 * i + pg_ew P e + 2 ≤ 400 → 64 ≤ A → A + (pg_rt P (p i) e A).length ≤ 3240 → wl_At M0 A (pg_rt P (p i) e A) → sw T = nI A' →
    ∀ post : Int32 → SX → Prop, ra_H u0 M0 post sw T 500 1 C O → ra_R u0 M0 post sw (T + 1) st n ax 0 bx (tb i) si A C O
section
variable {u0 : SX} {P : pg_P} {np ne ns : Nat} {M0 : Nat → Int32} {n : Nat} {p r g : Nat → Nat} {x : Nat → Int32} {i e st st' : Nat} {v : Int32}
theorem xe_num (hk : pg_ek P e = 0) : xe_V u0 P M0 n p r g x i e st (P 4 e) st := by
  intro tb ra sw O T A C ax cx bx si hX hT hN h6 hA hc
  have hE : pg_E P (p i) e A = 184 :: pg_wd (P 4 e) := by rw [pg_E, if_pos hk]
  rw [hE] at hA hc ⊢
  exact ⟨cx, bx, si, fun post h => ra_movi_ax hc (by omega) (by simp [pg_wd] at hA; omega) (rb_wd _) h⟩
/-- a variable's word comes to AX -/
theorem xe_ld (hW : pg_W P np ne ns) (hA : sr_A P np ne n p r g x) (hi : i < n) {v : Nat} (hs : pg_sn P np (p i) v) {tb ra : Nat → Nat} {sw O : Nat → Int32} {T A C : Nat} {ax cx bx si : Int32} {l : List Int32} (hX : sr_X P M0 n p r g x tb ra sw) (hT : tb (n - 1) + 4 ≤ T) (hT4 : T ≤ 400) (h6 : 64 ≤ A) (hl : A + 3 * pg_h P (p i) (v / 5) + 3 ≤ 3250)
    (hc : wl_At M0 A (pg_ff (pg_h P (p i) (v / 5)) ++ 139 :: (if pg_h P (p i) (v / 5) = 0 then 70 else 71) :: pg_of P v :: l)) :
    ∃ bx' : Int32, ∀ post : Int32 → SX → Prop, ra_R u0 M0 post sw T st n (sw (sr_ix P p tb (rb_it r (pg_h P (p i) (v / 5)) i) (v % 5))) cx bx' (tb i) si (A + 3 * pg_h P (p i) (v / 5) + 3) C O → ra_R u0 M0 post sw T st n ax cx bx (tb i) si A C O := by
  have hop := sr_hop hA 4 i hi hs.2.1
  have ho := sr_of hW hA hX (j := rb_it r (pg_h P (p i) (v / 5)) i) (by have := hop.1; unfold pg_h; omega) hop.2.1 hs.2.2
  have hx := sr_ixl hX (i := rb_it r (pg_h P (p i) (v / 5)) i) (k := v % 5) (by have := hop.1; unfold pg_h; omega) (Nat.mod_lt _ (by omega))
  have hL := sr_L hA hX hT
  have hj : ∀ j, j < pg_h P (p i) (v / 5) → 0 < rb_it r j i := hop.2.2
  generalize pg_h P (p i) (v / 5) = h at *
  cases h with
  | zero =>
    refine ⟨bx, fun post k => ?_⟩
    exact ra_ld_axbp (t := sr_ix P p tb i (v % 5)) hc (by omega) (by omega) ho (by exact Nat.lt_of_lt_of_le hx hT) hT4 k
  | succ h =>
    refine ⟨nI (4092 - 2 * tb (rb_it r (h + 1) i)), fun post k => ?_⟩
    refine rb_ff hL hT4 hi hj hc h6 (by omega) ?_
    exact ra_ld_axbx (t := sr_ix P p tb (rb_it r (h + 1) i) (v % 5)) (wl_r hc (by rw [rb_ffl])) (by omega) (by omega) rfl ho (by exact Nat.lt_of_lt_of_le hx hT) hT4 k
end
end
section
/-! rules for expressions' code -/
section
variable {u0 : SX} {P : pg_P} {np ne ns : Nat} {M0 : Nat → Int32} {n : Nat} {p r g : Nat → Nat} {x : Nat → Int32} {i e st st' : Nat}
theorem sr_J (hA : sr_A P np ne n p r g x) (hi : i < n) {v : Nat} (hs : pg_sn P np (p i) v) : rb_it r (pg_h P (p i) (v / 5)) i ≤ i ∧ p (rb_it r (pg_h P (p i) (v / 5)) i) = v / 5 := by
  have hop := sr_hop hA 4 i hi hs.2.1
  exact ⟨hop.1, hop.2.1⟩
theorem xe_val (hW : pg_W P np ne ns) (hA : sr_A P np ne n p r g x) (hi : i < n) (hk : pg_ek P e = 1) (hs : pg_sn P np (p i) (pg_ex P e)) (hb : ¬ pg_bn P (pg_ex P e)) : xe_V u0 P M0 n p r g x i e st (x (5 * rb_it r (pg_h P (p i) (pg_ex P e / 5)) i + pg_ex P e % 5)) st := by
  intro tb ra sw O T A C ax cx bx si hX hT hN h6 hAl hc
  have hE : pg_E P (p i) e A = pg_ff (pg_h P (p i) (pg_ex P e / 5)) ++ [139, (if pg_h P (p i) (pg_ex P e / 5) = 0 then 70 else 71), pg_of P (pg_ex P e)] := by
    rw [pg_E, if_neg (by omega), if_pos hk, pg_lv, if_neg hb]
  rw [hE] at hAl hc ⊢
  have hl : (pg_ff (pg_h P (p i) (pg_ex P e / 5)) ++ [139, (if pg_h P (p i) (pg_ex P e / 5) = 0 then 70 else 71), pg_of P (pg_ex P e)]).length = 3 * pg_h P (p i) (pg_ex P e / 5) + 3 := by
    rw [List.length_append, rb_ffl]; rfl
  rw [hl] at hAl ⊢
  have hJ := sr_J hA hi hs
  have hmd := sr_md hW (hA.2.2.2.1 _ (Nat.lt_of_le_of_lt hJ.1 hi)) (pg_ex P e % 5)
  have hv := hX.2.2.2.2.2.1 _ (pg_ex P e % 5) (Nat.lt_of_le_of_lt hJ.1 hi) (Nat.mod_lt _ (by omega)) (by
    have h1 := hs.2.2
    rw [hJ.2] at hmd ⊢
    by_cases h2 : 1 < pg_ex P e % 5
    · exact Or.inl h2
    · refine Or.inr ?_
      have h3 : ¬ pg_md P (pg_ex P e / 5) (pg_ex P e % 5) = 2 := fun h => hb ⟨by omega, h⟩
      omega)
  obtain ⟨bx', hk⟩ := xe_ld (st := st) (u0 := u0) (ax := ax) (cx := cx) (bx := bx) (si := si) (O := O) (C := C) hW hA hi hs hX hT (by omega) h6 (by omega) hc
  refine ⟨cx, bx', si, fun post h => hk post ?_⟩
  rw [hv, Nat.add_assoc]
  exact h
/-- up to the call of an argument's routine -/
theorem xu_pre (hS : wl_At M0 76 pg_s1) (hW : pg_W P np ne ns) (hA : sr_A P np ne n p r g x) (hi : i < n) {v : Nat} (hs : pg_sn P np (p i) v) (hb : pg_bn P v) {tb ra : Nat → Nat} {sw O : Nat → Int32} {T A C A1 o : Nat} {ax cx bx si : Int32} {l : List Int32} (hX : sr_X P M0 n p r g x tb ra sw) (hT : tb (n - 1) + 4 ≤ T) (hT4 : T + 1 ≤ 400) (h6 : 64 ≤ A) (hl : A + 10 + 3 * pg_h P (p i) (v / 5) ≤ 3250) (hst : st < 500)
    (hc : wl_At M0 A (pg_tk A ++ (pg_ff (pg_h P (p i) (v / 5)) ++ 139 :: (if pg_h P (p i) (v / 5) = 0 then 118 else 119) :: pg_of P v :: 85 :: 139 :: (if pg_h P (p i) (v / 5) = 0 then 110 else 111) :: (pg_of P v + 2) :: l)))
    (h1 : sw (sr_ix P p tb (rb_it r (pg_h P (p i) (v / 5)) i) (v % 5)) = nI A1) (h2 : sw (sr_ix P p tb (rb_it r (pg_h P (p i) (v / 5)) i) (v % 5) - 1) = nI (4092 - 2 * tb o)) :
    ∃ bx' : Int32, ∀ post : Int32 → SX → Prop, ra_R u0 M0 post (upd sw T (nI (4092 - 2 * tb i))) (T + 1) (st + 1) n ax cx bx' (tb o) (nI A1) (A + 10 + 3 * pg_h P (p i) (v / 5)) C O → ra_R u0 M0 post sw T st n ax cx bx (tb i) si A C O := by
  have hop := sr_hop hA 4 i hi hs.2.1
  have ho := sr_of hW hA hX (j := rb_it r (pg_h P (p i) (v / 5)) i) (by have := hop.1; unfold pg_h; omega) hop.2.1 hs.2.2
  have ho2 := sr_of2 hW hA hX (j := rb_it r (pg_h P (p i) (v / 5)) i) (by have := hop.1; unfold pg_h; omega) hop.2.1 hb
  have hx := sr_ixl hX (i := rb_it r (pg_h P (p i) (v / 5)) i) (k := v % 5) (by have := hop.1; unfold pg_h; omega) (Nat.mod_lt _ (by omega))
  have hL := sr_L hA hX hT
  have hj : ∀ j, j < pg_h P (p i) (v / 5) → 0 < rb_it r j i := hop.2.2
  generalize pg_h P (p i) (v / 5) = h at *
  have hc3 := wl_r (b := A + 3) hc rfl
  cases h with
  | zero =>
    refine ⟨bx, fun post k => ?_⟩
    refine rb_tick hS hc h6 (by omega) (by omega) hst ?_
    refine ra_ld_sibp (t := sr_ix P p tb (rb_it r 0 i) (v % 5)) hc3 (by omega) (by omega) ho (by omega) (by omega) ?_
    refine ra_push_bp (wl_d 3 hc3) (by omega) (by omega) (by omega) ?_
    refine ra_ld_bpbp (t := sr_ix P p tb (rb_it r 0 i) (v % 5) - 1) (b' := tb o) (wl_d 4 hc3) (by omega) (by omega) ho2 (by omega) (by omega) (by rw [pk_un (by omega)]; exact h2) ?_
    rw [h1]
    exact k
  | succ h =>
    have hc4 := wl_r (b := A + 3 + 3 * (h + 1)) hc3 (by rw [rb_ffl])
    refine ⟨nI (4092 - 2 * tb (rb_it r (h + 1) i)), fun post k => ?_⟩
    refine rb_tick hS hc h6 (by omega) (by omega) hst ?_
    refine rb_ff hL (by omega) hi hj hc3 (by omega) (by omega) ?_
    refine ra_ld_sibx (t := sr_ix P p tb (rb_it r (h + 1) i) (v % 5)) hc4 (by omega) (by omega) rfl ho (by omega) (by omega) ?_
    refine ra_push_bp (wl_d 3 hc4) (by omega) (by omega) (by omega) ?_
    refine ra_ld_bpbx (t := sr_ix P p tb (rb_it r (h + 1) i) (v % 5) - 1) (b' := tb o) (wl_d 4 hc4) (by omega) (by omega) rfl ho2 (by omega) (by omega) (by rw [pk_un (by omega)]; exact h2) ?_
    rw [h1, show A + 3 + 3 * (h + 1) + 3 + 1 + 3 = A + 10 + 3 * (h + 1) by omega]
    exact k
theorem xu_len (q v : Nat) (wn : List Int32) (c : Nat) : (pg_us P q v wn c).length = 13 + 3 * pg_h P q (v / 5) + wn.length := by
  unfold pg_us
  rw [List.length_append, List.length_append, rb_ffl]
  simp only [List.length_cons, List.length_append, List.length_nil, pg_tk, pg_wd]
  omega
/-- what a parameter by name stands for -/
theorem sr_nm (hW : pg_W P np ne ns) (hA : sr_A P np ne n p r g x) (hi : i < n) {v : Nat} (hs : pg_sn P np (p i) v) (hb : pg_bn P v) :
    g (2 * rb_it r (pg_h P (p i) (v / 5)) i + v % 5) < i ∧ ∃ e', e' < ne ∧ x (5 * rb_it r (pg_h P (p i) (v / 5)) i + v % 5) = nI e' ∧ pg_FE P np (p (g (2 * rb_it r (pg_h P (p i) (v / 5)) i + v % 5))) e' := by
  have hJ := sr_J hA hi hs
  have := hA.2.2.2.2.2.1 (rb_it r (pg_h P (p i) (v / 5)) i) (v % 5) (by omega) hb.1 (by rw [hJ.2]; exact hb.2)
  exact ⟨by omega, this.2⟩

/-- the way into the routine of an argument by name, from a use of it -/
theorem xu_call (hS : wl_At M0 76 pg_s1) (hW : pg_W P np ne ns) (hA : sr_A P np ne n p r g x) (hi : i < n) {v : Nat} (hs : pg_sn P np (p i) v) (hb : pg_bn P v) (hst : st < 500) {e' : Nat} (he : x (5 * rb_it r (pg_h P (p i) (v / 5)) i + v % 5) = nI e') (he' : e' < ne)
    {tb ra : Nat → Nat} {sw O : Nat → Int32} {T A C : Nat} {ax cx cx1 bx si : Int32} {wn l : List Int32} (hX : sr_X P M0 n p r g x tb ra sw) (hT : tb (n - 1) + 4 ≤ T) (hT4 : T + 2 ≤ 400) (h6 : 64 ≤ A) (hl : A + (pg_us P (p i) v wn A).length ≤ 3250) (hc : wl_At M0 A (pg_us P (p i) v wn A ++ l))
    (hwn : (wn = [] ∧ cx1 = cx) ∨ (∃ w, wn = [185, w, 0] ∧ ra_w2 w 0 = cx1)) :
    ∃ (bx1 : Int32) (A1 : Nat), 64 ≤ A1 ∧ A1 + (pg_rt P (p (g (2 * rb_it r (pg_h P (p i) (v / 5)) i + v % 5))) e' A1).length ≤ 3240 ∧ wl_At M0 A1 (pg_rt P (p (g (2 * rb_it r (pg_h P (p i) (v / 5)) i + v % 5))) e' A1) ∧
      wl_At M0 (A + 12 + 3 * pg_h P (p i) (v / 5) + wn.length) (93 :: l) ∧
      ∀ post : Int32 → SX → Prop, ra_R u0 M0 post (upd (upd sw T (nI (4092 - 2 * tb i))) (T + 1) (nI (A + 12 + 3 * pg_h P (p i) (v / 5) + wn.length))) (T + 2) (st + 1) n ax cx1 bx1 (tb (g (2 * rb_it r (pg_h P (p i) (v / 5)) i + v % 5))) (nI A1) A1 C O → ra_R u0 M0 post sw T st n ax cx bx (tb i) si A C O := by
  rw [xu_len] at hl
  have hJ := sr_J hA hi hs
  obtain ⟨A1, a1, a2, a3, a4, a5⟩ := hX.2.2.2.2.2.2 (rb_it r (pg_h P (p i) (v / 5)) i) (v % 5) (by omega) hb.1 (by rw [hJ.2]; exact hb.2)
  rw [he, nI_clamp (by have := hW.2.1; omega)] at a2 a5
  have hc' : wl_At M0 A (pg_tk A ++ (pg_ff (pg_h P (p i) (v / 5)) ++ 139 :: (if pg_h P (p i) (v / 5) = 0 then 118 else 119) :: pg_of P v :: 85 :: 139 :: (if pg_h P (p i) (v / 5) = 0 then 110 else 111) :: (pg_of P v + 2) :: (wn ++ 255 :: 214 :: 93 :: l))) := by
    unfold pg_us at hc
    simpa only [List.append_assoc, List.cons_append, List.nil_append] using hc
  obtain ⟨bx1, k1⟩ := xu_pre (st := st) (u0 := u0) (ax := ax) (cx := cx) (bx := bx) (si := si) (O := O) (C := C) hS hW hA hi hs hb hX hT (by omega) h6 (by omega) hst hc' a3 a4
  have hc2 : wl_At M0 (A + 10 + 3 * pg_h P (p i) (v / 5)) (wn ++ 255 :: 214 :: 93 :: l) := by
    have h7 := wl_d 7 (wl_r (b := A + 3 + 3 * pg_h P (p i) (v / 5)) (wl_r (b := A + 3) hc' rfl) (by rw [rb_ffl]))
    rw [show A + 3 + 3 * pg_h P (p i) (v / 5) + 7 = A + 10 + 3 * pg_h P (p i) (v / 5) by omega] at h7
    exact h7
  have hc3 := wl_r (b := A + 10 + 3 * pg_h P (p i) (v / 5) + wn.length) hc2 rfl
  refine ⟨bx1, A1, a1, a2, a5, ?_, fun post k => k1 post ?_⟩
  · have h7 := wl_d 2 hc3
    rw [show A + 10 + 3 * pg_h P (p i) (v / 5) + wn.length + 2 = A + 12 + 3 * pg_h P (p i) (v / 5) + wn.length by omega] at h7
    exact h7
  · have k2 : ra_R u0 M0 post (upd sw T (nI (4092 - 2 * tb i))) (T + 1) (st + 1) n ax cx1 bx1 (tb (g (2 * rb_it r (pg_h P (p i) (v / 5)) i + v % 5))) (nI A1) (A + 10 + 3 * pg_h P (p i) (v / 5) + wn.length) C O := by
      refine ra_callsi (A' := A1) hc3 (by omega) (by omega) rfl (by omega) ?_
      rw [show A + 10 + 3 * pg_h P (p i) (v / 5) + wn.length + 2 = A + 12 + 3 * pg_h P (p i) (v / 5) + wn.length by omega]
      exact k
    rcases hwn with ⟨rfl, rfl⟩ | ⟨w, rfl, hw⟩
    · exact k2
    · exact ra_movi_cx hc2 (by omega) (by omega) hw k2
/-- back out of the routine -/
theorem xu_back {tb : Nat → Nat} {sw O : Nat → Int32} {T A C o : Nat} {w ax cx bx si : Int32} {l : List Int32} {post : Int32 → SX → Prop} (hT : T < 400) (h6 : 64 ≤ A) (hA : A < 3250) (hc : wl_At M0 A (93 :: l)) (k : ra_R u0 M0 post sw T st n ax cx bx (tb i) si (A + 1) C O) :
    ra_R u0 M0 post (upd (upd sw T (nI (4092 - 2 * tb i))) (T + 1) w) (T + 1) st n ax cx bx (tb o) si A C O := by
  refine ra_pop_bp (b' := tb i) hc (by omega) (by omega) hT (by rw [pk_un (by omega), pk_us]) ?_
  exact ra_ext (fun t ht => by rw [pk_un (by omega), pk_un (by omega)]) k
theorem sr_X2 {tb ra : Nat → Nat} {sw : Nat → Int32} {T : Nat} {w1 w2 : Int32} (hX : sr_X P M0 n p r g x tb ra sw) (hT : tb (n - 1) + 4 ≤ T) : sr_X P M0 n p r g x tb ra (upd (upd sw T w1) (T + 1) w2) :=
  sr_Xe hX (fun t ht => by rw [pk_un (by omega), pk_un (by omega)])
theorem xe_us (hk : pg_ek P e = 1) (hb : pg_bn P (pg_ex P e)) (q A : Nat) : pg_E P q e A = pg_us P q (pg_ex P e) [185, 0, 0] A := by
  rw [pg_E, if_neg (by omega), if_pos hk, pg_lv, if_pos hb]
theorem xe_tired (hS : wl_At M0 76 pg_s1) (hk : pg_ek P e = 1) (hb : pg_bn P (pg_ex P e)) (hst : st = 500) : xe_T u0 P M0 n p r g x i e st := by
  intro tb ra sw O T A C ax cx bx si hX hT hN h6 hAl hc post h
  rw [xe_us hk hb] at hAl hc
  rw [xu_len] at hAl
  exact rb_tired hS hc h6 (by omega) (by omega) hst (by rw [hst]; exact h)
theorem xe_name (hS : wl_At M0 76 pg_s1) (hW : pg_W P np ne ns) (hA : sr_A P np ne n p r g x) (hi : i < n) (hk : pg_ek P e = 1) (hs : pg_sn P np (p i) (pg_ex P e)) (hb : pg_bn P (pg_ex P e)) (hst : st < 500) {e' : Nat} {v : Int32}
    (he : x (5 * rb_it r (pg_h P (p i) (pg_ex P e / 5)) i + pg_ex P e % 5) = nI e') (he' : e' < ne)
    (hr : rn_V u0 P M0 n p r g x (g (2 * rb_it r (pg_h P (p i) (pg_ex P e / 5)) i + pg_ex P e % 5)) e' (st + 1) v st') : xe_V u0 P M0 n p r g x i e st v st' := by
  intro tb ra sw O T A C ax cx bx si hX hT hN h6 hAl hc
  rw [xe_us hk hb] at hAl hc ⊢
  have hw := (hW.2.2.2.2.1 e' he').2.2.2.2.1
  have ho := (sr_nm hW hA hi hs hb).1
  rw [← List.append_nil (pg_us P (p i) (pg_ex P e) [185, 0, 0] A)] at hc
  obtain ⟨bx1, A1, a1, a2, a3, a4, k1⟩ := xu_call (st := st) (u0 := u0) (ax := ax) (cx := cx) (cx1 := 0) (bx := bx) (si := si) (O := O) (C := C) hS hW hA hi hs hb hst he he' hX hT (by omega) h6 (by omega) hc (Or.inr ⟨0, rfl, by decide⟩)
  obtain ⟨cx2, bx2, si2, k2⟩ := hr tb ra _ O (T + 1) A1 C _ ax bx1 (nI A1) (sr_X2 hX hT) (by omega) (by omega) a1 a2 a3 pk_us
  refine ⟨cx2, bx2, si2, fun post h => k1 post (k2 post ?_)⟩
  rw [xu_len] at hAl h
  exact xu_back (by omega) (by omega) (by simp only [List.length_cons, List.length_nil] at hAl ⊢; omega) a4 (by
    simp only [List.length_cons, List.length_nil] at h ⊢
    rw [show A + 12 + 3 * pg_h P (p i) (pg_ex P e / 5) + (0 + 1 + 1 + 1) + 1 = A + (13 + 3 * pg_h P (p i) (pg_ex P e / 5) + (0 + 1 + 1 + 1)) by omega]
    exact h)
theorem xe_nameT (hS : wl_At M0 76 pg_s1) (hW : pg_W P np ne ns) (hA : sr_A P np ne n p r g x) (hi : i < n) (hk : pg_ek P e = 1) (hs : pg_sn P np (p i) (pg_ex P e)) (hb : pg_bn P (pg_ex P e)) (hst : st < 500) {e' : Nat}
    (he : x (5 * rb_it r (pg_h P (p i) (pg_ex P e / 5)) i + pg_ex P e % 5) = nI e') (he' : e' < ne)
    (hr : rn_T u0 P M0 n p r g x (g (2 * rb_it r (pg_h P (p i) (pg_ex P e / 5)) i + pg_ex P e % 5)) e' (st + 1)) : xe_T u0 P M0 n p r g x i e st := by
  intro tb ra sw O T A C ax cx bx si hX hT hN h6 hAl hc post h
  rw [xe_us hk hb] at hAl hc
  have hw := (hW.2.2.2.2.1 e' he').2.2.2.2.1
  have ho := (sr_nm hW hA hi hs hb).1
  rw [← List.append_nil (pg_us P (p i) (pg_ex P e) [185, 0, 0] A)] at hc
  obtain ⟨bx1, A1, a1, a2, a3, a4, k1⟩ := xu_call (st := st) (u0 := u0) (ax := ax) (cx := cx) (cx1 := 0) (bx := bx) (si := si) (O := O) (C := C) hS hW hA hi hs hb hst he he' hX hT (by omega) h6 (by omega) hc (Or.inr ⟨0, rfl, by decide⟩)
  refine k1 post (hr tb ra _ O (T + 1) A1 C _ ax bx1 (nI A1) (sr_X2 hX hT) (by omega) (by omega) a1 a2 a3 pk_us post ?_)
  exact ra_Hd (T' := T) (by omega) (ra_Hext (fun t ht => by rw [pk_un (by omega), pk_un (by omega)]) h)
end
end
section
/-! rules for expressions' code: routines, places, operators -/
def pl_V (u0 : SX) (P : pg_P) (M0 : Nat → Int32) (n : Nat) (p r g : Nat → Nat) (x : Nat → Int32) (i e st j k st' : Nat) : Prop :=
  ∀ (tb ra : Nat → Nat) (sw O : Nat → Int32) (T A C A' : Nat) (ax bx si : Int32), sr_X P M0 n p r g x tb ra sw → tb (n - 1) + 4 ≤ T → T + 1 + 18 * i + pg_ew P e + 2 ≤ 400 → 64 ≤ A → A + (pg_rt P (p i) e A).length ≤ 3240 → wl_At M0 A (pg_rt P (p i) e A) → sw T = nI A' →
    ∃ ax' cx' si' : Int32, ∀ post : Int32 → SX → Prop, ra_R u0 M0 post sw T st' n ax' cx' (nI (4092 - 2 * sr_ix P p tb j k)) (tb i) si' A' C O → ra_R u0 M0 post sw (T + 1) st n ax 1 bx (tb i) si A C O
def pl_X (u0 : SX) (P : pg_P) (M0 : Nat → Int32) (n : Nat) (p r g : Nat → Nat) (x : Nat → Int32) (i e st : Nat) (rc : Int32) (st' : Nat) : Prop :=
  ∀ (tb ra : Nat → Nat) (sw O : Nat → Int32) (T A C A' : Nat) (ax bx si : Int32), sr_X P M0 n p r g x tb ra sw → tb (n - 1) + 4 ≤ T → T + 1 + 18 * i + pg_ew P e + 2 ≤ 400 → 64 ≤ A → A + (pg_rt P (p i) e A).length ≤ 3240 → wl_At M0 A (pg_rt P (p i) e A) → sw T = nI A' →
    ∀ post : Int32 → SX → Prop, ra_H u0 M0 post sw T st' rc C O → ra_R u0 M0 post sw (T + 1) st n ax 1 bx (tb i) si A C O
/-- what two numbers become -/
def pg_op (k : Nat) (a b : Int32) : Int32 :=
  if k = 2 then (a + b).toInt16.toInt32 else if k = 3 then (a - b).toInt16.toInt32 else if k = 4 then (a * b).toInt16.toInt32 else if k = 5 then (if b ≤ a then 0 else 1) else (if a = b then 1 else 0)
theorem rb_j {A k : Nat} {d : Int32} (hd : (d &&& 255).toInt8.toInt32 = nI k) : nI A + (d &&& 255).toInt8.toInt32 = nI (A + k) := by
  rw [hd, nI_add]
section
variable {u0 : SX} {P : pg_P} {np ne ns : Nat} {M0 : Nat → Int32} {n : Nat} {p r g : Nat → Nat} {x : Nat → Int32} {i e st st' : Nat} {v : Int32}
theorem rt_exp (hk : pg_ek P e ≠ 1) (q A : Nat) : pg_rt P q e A = 11 :: 201 :: 116 :: 5 :: 184 :: 3 :: 0 :: 205 :: 0 :: (pg_E P q e (A + 9) ++ [195]) := by
  unfold pg_rt; rw [if_pos hk]; rfl
theorem rt_name (hk : pg_ek P e = 1) (hb : pg_bn P (pg_ex P e)) (q A : Nat) : pg_rt P q e A = pg_us P q (pg_ex P e) [] A ++ [195] := by
  unfold pg_rt; rw [if_neg (by omega), if_pos hb]
theorem rt_val (hk : pg_ek P e = 1) (hb : ¬ pg_bn P (pg_ex P e)) (q A : Nat) : pg_rt P q e A = (if pg_h P q (pg_ex P e / 5) = 0 then [141, 94, pg_of P (pg_ex P e)] else pg_ff (pg_h P q (pg_ex P e / 5)) ++ [131, 195, pg_of P (pg_ex P e)]) ++ [11, 201, 117, 2, 139, 7, 195] := by
  unfold pg_rt; rw [if_neg (by omega), if_neg hb, List.append_assoc]; rfl
theorem rn_exp (hk : pg_ek P e ≠ 1) (h : xe_V u0 P M0 n p r g x i e st v st') : rn_V u0 P M0 n p r g x i e st v st' := by
  intro tb ra sw O T A C A' ax bx si hX hT hN h6 hAl hc hv
  rw [rt_exp hk] at hAl hc
  simp only [List.length_cons, List.length_append, List.length_nil] at hAl
  have hcE := wl_d 9 hc
  obtain ⟨cx2, bx2, si2, k⟩ := h tb ra sw O (T + 1) (A + 9) C ax 0 bx si hX (by omega) (by omega) (by omega) (by omega) (wl_l hcE)
  refine ⟨cx2, bx2, si2, fun post hp => ?_⟩
  refine ra_orcx hc (by omega) (by omega) (by decide) (fun il => ?_)
  rw [if_pos rfl]
  refine ra_je1 (A' := A + 9) (wl_d 2 hc) (by omega) (by omega) (rb_j (k := 5) (by decide)) ?_
  refine k post ?_
  exact ra_ret (wl_r hcE rfl) (by omega) (by omega) (by omega) hv hp
theorem rn_expT (hk : pg_ek P e ≠ 1) (h : xe_T u0 P M0 n p r g x i e st) : rn_T u0 P M0 n p r g x i e st := by
  intro tb ra sw O T A C A' ax bx si hX hT hN h6 hAl hc hv post hp
  rw [rt_exp hk] at hAl hc
  simp only [List.length_cons, List.length_append, List.length_nil] at hAl
  have hcE := wl_d 9 hc
  refine ra_orcx hc (by omega) (by omega) (by decide) (fun il => ?_)
  rw [if_pos rfl]
  refine ra_je1 (A' := A + 9) (wl_d 2 hc) (by omega) (by omega) (rb_j (k := 5) (by decide)) ?_
  exact h tb ra sw O (T + 1) (A + 9) C ax 0 bx si hX (by omega) (by omega) (by omega) (by omega) (wl_l hcE) post (ra_Hd (T' := T) (by omega) hp)
theorem pl_exp (hk : pg_ek P e ≠ 1) : pl_X u0 P M0 n p r g x i e st 3 st := by
  intro tb ra sw O T A C A' ax bx si hX hT hN h6 hAl hc hv post hp
  rw [rt_exp hk] at hAl hc
  simp only [List.length_cons, List.length_append, List.length_nil] at hAl
  refine ra_orcx hc (by omega) (by omega) (by decide) (fun il => ?_)
  rw [if_neg (by decide)]
  refine ra_je0 (wl_d 2 hc) (by omega) (by omega) ?_
  refine ra_movi_ax (w := 3) (wl_d 4 hc) (by omega) (by omega) (by decide) ?_
  exact ra_int0 (wl_d 7 hc) (by omega) (by omega) (ra_Hd (T' := T) (by omega) hp)
/-- a variable's place comes to BX -/
theorem xe_pl (hW : pg_W P np ne ns) (hA : sr_A P np ne n p r g x) (hi : i < n) {v : Nat} (hs : pg_sn P np (p i) v) {tb ra : Nat → Nat} {sw O : Nat → Int32} {T A C : Nat} {ax cx bx si : Int32} {l : List Int32} (hX : sr_X P M0 n p r g x tb ra sw) (hT : tb (n - 1) + 4 ≤ T) (hT4 : T ≤ 400) (h6 : 64 ≤ A) (hl : A + 3 * pg_h P (p i) (v / 5) + 3 ≤ 3250)
    (hc : wl_At M0 A ((if pg_h P (p i) (v / 5) = 0 then [141, 94, pg_of P v] else pg_ff (pg_h P (p i) (v / 5)) ++ [131, 195, pg_of P v]) ++ l)) :
    (∀ post : Int32 → SX → Prop, ra_R u0 M0 post sw T st n ax cx (nI (4092 - 2 * sr_ix P p tb (rb_it r (pg_h P (p i) (v / 5)) i) (v % 5))) (tb i) si (A + 3 * pg_h P (p i) (v / 5) + 3) C O → ra_R u0 M0 post sw T st n ax cx bx (tb i) si A C O) ∧ wl_At M0 (A + 3 * pg_h P (p i) (v / 5) + 3) l := by
  have hop := sr_hop hA 4 i hi hs.2.1
  have ho := sr_of hW hA hX (j := rb_it r (pg_h P (p i) (v / 5)) i) (by have := hop.1; unfold pg_h; omega) hop.2.1 hs.2.2
  have hL := sr_L hA hX hT
  have hj : ∀ j, j < pg_h P (p i) (v / 5) → 0 < rb_it r j i := hop.2.2
  generalize pg_h P (p i) (v / 5) = h at *
  cases h with
  | zero =>
    rw [if_pos rfl] at hc
    exact ⟨fun post k => ra_lea (t := sr_ix P p tb (rb_it r 0 i) (v % 5)) hc (by omega) (by omega) ho k, wl_d 3 hc⟩
  | succ h =>
    rw [if_neg (by omega), List.append_assoc] at hc
    have hc2 := wl_r (b := A + 3 * (h + 1)) hc (by rw [rb_ffl])
    refine ⟨fun post k => ?_, wl_d 3 hc2⟩
    refine rb_ff hL hT4 hi hj hc h6 (by omega) ?_
    exact ra_addbx (t := sr_ix P p tb (rb_it r (h + 1) i) (v % 5)) hc2 (by omega) (by omega) rfl ho k
theorem rt_vlen (hk : pg_ek P e = 1) (hb : ¬ pg_bn P (pg_ex P e)) (q A : Nat) : (pg_rt P q e A).length = 3 * pg_h P q (pg_ex P e / 5) + 10 := by
  rw [rt_val hk hb, List.length_append]
  by_cases h : pg_h P q (pg_ex P e / 5) = 0
  · rw [if_pos h, h]; rfl
  · rw [if_neg h, List.length_append, rb_ffl]; rfl
theorem sr_val (hW : pg_W P np ne ns) (hA : sr_A P np ne n p r g x) (hi : i < n) {v : Nat} (hs : pg_sn P np (p i) v) (hb : ¬ pg_bn P v) : 1 < v % 5 ∨ pg_md P (p (rb_it r (pg_h P (p i) (v / 5)) i)) (v % 5) = 1 := by
  have hJ := sr_J hA hi hs
  have hmd := sr_md hW (hA.2.2.2.1 _ (Nat.lt_of_le_of_lt hJ.1 hi)) (v % 5)
  have h1 := hs.2.2
  rw [hJ.2] at hmd ⊢
  by_cases h2 : 1 < v % 5
  · exact Or.inl h2
  · refine Or.inr ?_
    have h3 : ¬ pg_md P (v / 5) (v % 5) = 2 := fun h => hb ⟨by omega, h⟩
    omega
theorem rn_val (hW : pg_W P np ne ns) (hA : sr_A P np ne n p r g x) (hi : i < n) (hk : pg_ek P e = 1) (hs : pg_sn P np (p i) (pg_ex P e)) (hb : ¬ pg_bn P (pg_ex P e)) : rn_V u0 P M0 n p r g x i e st (x (5 * rb_it r (pg_h P (p i) (pg_ex P e / 5)) i + pg_ex P e % 5)) st := by
  intro tb ra sw O T A C A' ax bx si hX hT hN h6 hAl hc hv
  rw [rt_vlen hk hb] at hAl
  rw [rt_val hk hb] at hc
  have hJ := sr_J hA hi hs
  have hx := hX.2.2.2.2.2.1 _ (pg_ex P e % 5) (Nat.lt_of_le_of_lt hJ.1 hi) (Nat.mod_lt _ (by omega)) (sr_val hW hA hi hs hb)
  have hl := sr_ixl hX (k := pg_ex P e % 5) (Nat.lt_of_le_of_lt hJ.1 hi) (Nat.mod_lt _ (by omega))
  have hp := xe_pl (st := st) (u0 := u0) (ax := ax) (cx := 0) (bx := bx) (si := si) (O := O) (C := C) (T := T + 1) hW hA hi hs hX (by omega) (by omega) h6 (by omega) hc
  refine ⟨0, nI (4092 - 2 * sr_ix P p tb (rb_it r (pg_h P (p i) (pg_ex P e / 5)) i) (pg_ex P e % 5)), si, fun post k => hp.1 post ?_⟩
  have hc2 := hp.2
  refine ra_orcx hc2 (by omega) (by omega) (by decide) (fun il => ?_)
  rw [if_pos rfl]
  refine ra_jne0 (wl_d 2 hc2) (by omega) (by omega) ?_
  refine ra_ld_ax0 (t := sr_ix P p tb (rb_it r (pg_h P (p i) (pg_ex P e / 5)) i) (pg_ex P e % 5)) (wl_d 4 hc2) (by omega) (by omega) rfl (by omega) (by omega) ?_
  refine ra_ret (wl_d 6 hc2) (by omega) (by omega) (by omega) hv ?_
  rw [hx]
  exact k
theorem pl_val (hW : pg_W P np ne ns) (hA : sr_A P np ne n p r g x) (hi : i < n) (hk : pg_ek P e = 1) (hs : pg_sn P np (p i) (pg_ex P e)) (hb : ¬ pg_bn P (pg_ex P e)) : pl_V u0 P M0 n p r g x i e st (rb_it r (pg_h P (p i) (pg_ex P e / 5)) i) (pg_ex P e % 5) st := by
  intro tb ra sw O T A C A' ax bx si hX hT hN h6 hAl hc hv
  rw [rt_vlen hk hb] at hAl
  rw [rt_val hk hb] at hc
  have hp := xe_pl (st := st) (u0 := u0) (ax := ax) (cx := 1) (bx := bx) (si := si) (O := O) (C := C) (T := T + 1) hW hA hi hs hX (by omega) (by omega) h6 (by omega) hc
  refine ⟨ax, 1, si, fun post k => hp.1 post ?_⟩
  have hc2 := hp.2
  refine ra_orcx hc2 (by omega) (by omega) (by decide) (fun il => ?_)
  rw [if_neg (by decide)]
  refine ra_jne1 (A' := A + 3 * pg_h P (p i) (pg_ex P e / 5) + 3 + 6) (wl_d 2 hc2) (by omega) (by omega) (rb_j (k := 2) (by decide)) ?_
  exact ra_ret (wl_d 6 hc2) (by omega) (by omega) (by omega) hv k
theorem rn_tired (hS : wl_At M0 76 pg_s1) (hk : pg_ek P e = 1) (hb : pg_bn P (pg_ex P e)) (hst : st = 500) : rn_T u0 P M0 n p r g x i e st := by
  intro tb ra sw O T A C A' ax bx si hX hT hN h6 hAl hc hv post h
  rw [rt_name hk hb] at hAl hc
  rw [List.length_append, xu_len] at hAl
  unfold pg_us at hc
  rw [List.append_assoc] at hc
  exact rb_tired hS hc h6 (by omega) (by omega) hst (by rw [hst]; exact ra_Hd (T' := T) (by omega) h)
theorem pl_tired (hS : wl_At M0 76 pg_s1) (hk : pg_ek P e = 1) (hb : pg_bn P (pg_ex P e)) (hst : st = 500) : pl_X u0 P M0 n p r g x i e st 1 500 := by
  intro tb ra sw O T A C A' ax bx si hX hT hN h6 hAl hc hv post h
  rw [rt_name hk hb] at hAl hc
  rw [List.length_append, xu_len] at hAl
  unfold pg_us at hc
  rw [List.append_assoc] at hc
  exact rb_tired hS hc h6 (by omega) (by omega) hst (by rw [hst]; exact ra_Hd (T' := T) (by omega) h)
theorem rn_name (hS : wl_At M0 76 pg_s1) (hW : pg_W P np ne ns) (hA : sr_A P np ne n p r g x) (hi : i < n) (hk : pg_ek P e = 1) (hs : pg_sn P np (p i) (pg_ex P e)) (hb : pg_bn P (pg_ex P e)) (hst : st < 500) {e' : Nat}
    (he : x (5 * rb_it r (pg_h P (p i) (pg_ex P e / 5)) i + pg_ex P e % 5) = nI e') (he' : e' < ne)
    (hr : rn_V u0 P M0 n p r g x (g (2 * rb_it r (pg_h P (p i) (pg_ex P e / 5)) i + pg_ex P e % 5)) e' (st + 1) v st') : rn_V u0 P M0 n p r g x i e st v st' := by
  intro tb ra sw O T A C A' ax bx si hX hT hN h6 hAl hc hv
  rw [rt_name hk hb] at hAl hc
  rw [List.length_append] at hAl
  simp only [List.length_cons, List.length_nil] at hAl
  have hw := (hW.2.2.2.2.1 e' he').2.2.2.2.1
  have ho := (sr_nm hW hA hi hs hb).1
  obtain ⟨bx1, A1, a1, a2, a3, a4, k1⟩ := xu_call (st := st) (u0 := u0) (ax := ax) (cx := 0) (cx1 := 0) (bx := bx) (si := si) (O := O) (C := C) (T := T + 1) hS hW hA hi hs hb hst he he' hX (by omega) (by omega) h6 (by omega) hc (Or.inl ⟨rfl, rfl⟩)
  obtain ⟨cx2, bx2, si2, k2⟩ := hr tb ra _ O (T + 1 + 1) A1 C _ ax bx1 (nI A1) (sr_X2 hX (by omega)) (by omega) (by omega) a1 a2 a3 pk_us
  rw [xu_len] at hAl
  refine ⟨cx2, bx2, si2, fun post h => k1 post (k2 post ?_)⟩
  refine xu_back (by omega) (by omega) (by simp only [List.length_nil] at hAl ⊢; omega) a4 ?_
  exact ra_ret (wl_d 1 a4) (by omega) (by simp only [List.length_nil] at hAl ⊢; omega) (by omega) hv h
theorem rn_nameT (hS : wl_At M0 76 pg_s1) (hW : pg_W P np ne ns) (hA : sr_A P np ne n p r g x) (hi : i < n) (hk : pg_ek P e = 1) (hs : pg_sn P np (p i) (pg_ex P e)) (hb : pg_bn P (pg_ex P e)) (hst : st < 500) {e' : Nat}
    (he : x (5 * rb_it r (pg_h P (p i) (pg_ex P e / 5)) i + pg_ex P e % 5) = nI e') (he' : e' < ne)
    (hr : rn_T u0 P M0 n p r g x (g (2 * rb_it r (pg_h P (p i) (pg_ex P e / 5)) i + pg_ex P e % 5)) e' (st + 1)) : rn_T u0 P M0 n p r g x i e st := by
  intro tb ra sw O T A C A' ax bx si hX hT hN h6 hAl hc hv post h
  rw [rt_name hk hb] at hAl hc
  rw [List.length_append] at hAl
  simp only [List.length_cons, List.length_nil] at hAl
  have hw := (hW.2.2.2.2.1 e' he').2.2.2.2.1
  have ho := (sr_nm hW hA hi hs hb).1
  obtain ⟨bx1, A1, a1, a2, a3, a4, k1⟩ := xu_call (st := st) (u0 := u0) (ax := ax) (cx := 0) (cx1 := 0) (bx := bx) (si := si) (O := O) (C := C) (T := T + 1) hS hW hA hi hs hb hst he he' hX (by omega) (by omega) h6 (by omega) hc (Or.inl ⟨rfl, rfl⟩)
  refine k1 post (hr tb ra _ O (T + 1 + 1) A1 C _ ax bx1 (nI A1) (sr_X2 hX (by omega)) (by omega) (by omega) a1 a2 a3 pk_us post ?_)
  exact ra_Hd (T' := T) (by omega) (ra_Hext (fun t ht => by rw [pk_un (by omega), pk_un (by omega)]) h)
theorem pl_name {j k : Nat} (hS : wl_At M0 76 pg_s1) (hW : pg_W P np ne ns) (hA : sr_A P np ne n p r g x) (hi : i < n) (hk : pg_ek P e = 1) (hs : pg_sn P np (p i) (pg_ex P e)) (hb : pg_bn P (pg_ex P e)) (hst : st < 500) {e' : Nat}
    (he : x (5 * rb_it r (pg_h P (p i) (pg_ex P e / 5)) i + pg_ex P e % 5) = nI e') (he' : e' < ne)
    (hr : pl_V u0 P M0 n p r g x (g (2 * rb_it r (pg_h P (p i) (pg_ex P e / 5)) i + pg_ex P e % 5)) e' (st + 1) j k st') : pl_V u0 P M0 n p r g x i e st j k st' := by
  intro tb ra sw O T A C A' ax bx si hX hT hN h6 hAl hc hv
  rw [rt_name hk hb] at hAl hc
  rw [List.length_append] at hAl
  simp only [List.length_cons, List.length_nil] at hAl
  have hw := (hW.2.2.2.2.1 e' he').2.2.2.2.1
  have ho := (sr_nm hW hA hi hs hb).1
  obtain ⟨bx1, A1, a1, a2, a3, a4, k1⟩ := xu_call (st := st) (u0 := u0) (ax := ax) (cx := 1) (cx1 := 1) (bx := bx) (si := si) (O := O) (C := C) (T := T + 1) hS hW hA hi hs hb hst he he' hX (by omega) (by omega) h6 (by omega) hc (Or.inl ⟨rfl, rfl⟩)
  obtain ⟨ax2, cx2, si2, k2⟩ := hr tb ra _ O (T + 1 + 1) A1 C _ ax bx1 (nI A1) (sr_X2 hX (by omega)) (by omega) (by omega) a1 a2 a3 pk_us
  rw [xu_len] at hAl
  refine ⟨ax2, cx2, si2, fun post h => k1 post (k2 post ?_)⟩
  refine xu_back (by omega) (by omega) (by simp only [List.length_nil] at hAl ⊢; omega) a4 ?_
  exact ra_ret (wl_d 1 a4) (by omega) (by simp only [List.length_nil] at hAl ⊢; omega) (by omega) hv h
theorem pl_nameX {rc : Int32} (hS : wl_At M0 76 pg_s1) (hW : pg_W P np ne ns) (hA : sr_A P np ne n p r g x) (hi : i < n) (hk : pg_ek P e = 1) (hs : pg_sn P np (p i) (pg_ex P e)) (hb : pg_bn P (pg_ex P e)) (hst : st < 500) {e' : Nat}
    (he : x (5 * rb_it r (pg_h P (p i) (pg_ex P e / 5)) i + pg_ex P e % 5) = nI e') (he' : e' < ne)
    (hr : pl_X u0 P M0 n p r g x (g (2 * rb_it r (pg_h P (p i) (pg_ex P e / 5)) i + pg_ex P e % 5)) e' (st + 1) rc st') : pl_X u0 P M0 n p r g x i e st rc st' := by
  intro tb ra sw O T A C A' ax bx si hX hT hN h6 hAl hc hv post h
  rw [rt_name hk hb] at hAl hc
  rw [List.length_append] at hAl
  simp only [List.length_cons, List.length_nil] at hAl
  have hw := (hW.2.2.2.2.1 e' he').2.2.2.2.1
  have ho := (sr_nm hW hA hi hs hb).1
  obtain ⟨bx1, A1, a1, a2, a3, a4, k1⟩ := xu_call (st := st) (u0 := u0) (ax := ax) (cx := 1) (cx1 := 1) (bx := bx) (si := si) (O := O) (C := C) (T := T + 1) hS hW hA hi hs hb hst he he' hX (by omega) (by omega) h6 (by omega) hc (Or.inl ⟨rfl, rfl⟩)
  refine k1 post (hr tb ra _ O (T + 1 + 1) A1 C _ ax bx1 (nI A1) (sr_X2 hX (by omega)) (by omega) (by omega) a1 a2 a3 pk_us post ?_)
  exact ra_Hd (T' := T) (by omega) (ra_Hext (fun t ht => by rw [pk_un (by omega), pk_un (by omega)]) h)
/-! operators -/
theorem xe_notE (hk : pg_ek P e = 7) (hx : pg_ex P e < e) (q A : Nat) : pg_E P q e A = pg_E P q (pg_ex P e) A ++ [11, 192, 184, 1, 0, 116, 3, 184, 0, 0] := by
  rw [pg_E, if_neg (by omega), if_neg (by omega), dif_pos hx, if_pos hk]; rfl
theorem xe_not (hk : pg_ek P e = 7) (hx : pg_ex P e < e) (hw : pg_ew P e = 1 + pg_ew P (pg_ex P e)) (hs : v.toInt16.toInt32 = v) (h : xe_V u0 P M0 n p r g x i (pg_ex P e) st v st') : xe_V u0 P M0 n p r g x i e st (if v = 0 then 1 else 0) st' := by
  intro tb ra sw O T A C ax cx bx si hX hT hN h6 hAl hc
  rw [xe_notE hk hx] at hAl hc ⊢
  rw [List.length_append] at hAl ⊢
  simp only [List.length_cons, List.length_nil] at hAl ⊢
  have hc2 := wl_r (b := A + (pg_E P (p i) (pg_ex P e) A).length) hc rfl
  obtain ⟨cx2, bx2, si2, k⟩ := h tb ra sw O T A C ax cx bx si hX hT (by omega) h6 (by omega) (wl_l hc)
  refine ⟨cx2, bx2, si2, fun post hp => k post ?_⟩
  rw [← Nat.add_assoc] at hp
  refine ra_orax hc2 (by omega) (by omega) (ww_ww v) (fun il => ?_)
  refine ra_movF_ax (w := 1) (wl_d 2 hc2) (by omega) (by omega) (by decide) ?_
  by_cases hv : v = 0
  · rw [if_pos hv] at hp
    rw [if_pos ((ww_e0 hs).mpr hv)]
    exact ra_je1 (A' := A + (pg_E P (p i) (pg_ex P e) A).length + 10) (wl_d 5 hc2) (by omega) (by omega) (rb_j (k := 3) (by decide)) hp
  · rw [if_neg hv] at hp
    rw [if_neg (fun z => hv ((ww_e0 hs).mp z))]
    refine ra_je0 (wl_d 5 hc2) (by omega) (by omega) ?_
    exact ra_movi_ax (w := 0) (wl_d 7 hc2) (by omega) (by omega) (by decide) hp
theorem xe_notT (hk : pg_ek P e = 7) (hx : pg_ex P e < e) (hw : pg_ew P e = 1 + pg_ew P (pg_ex P e)) (h : xe_T u0 P M0 n p r g x i (pg_ex P e) st) : xe_T u0 P M0 n p r g x i e st := by
  intro tb ra sw O T A C ax cx bx si hX hT hN h6 hAl hc post hp
  rw [xe_notE hk hx] at hAl hc
  rw [List.length_append] at hAl
  exact h tb ra sw O T A C ax cx bx si hX hT (by omega) h6 (by omega) (wl_l hc) post hp
theorem xe_binE (hk : 2 ≤ pg_ek P e) (hk7 : pg_ek P e ≠ 7) (hx : pg_ex P e < e) (hy : pg_ey P e < e) (q A : Nat) : pg_E P q e A = pg_E P q (pg_ex P e) A ++ 80 :: (pg_E P q (pg_ey P e) (A + (pg_E P q (pg_ex P e) A).length + 1) ++ pg_fn (pg_ek P e)) := by
  rw [pg_E, if_neg (by omega), if_neg (by omega), dif_pos hx, if_neg hk7, dif_pos hy]
/-- both operands are there -/
theorem xe_fin {v1 v2 : Int32} {k : Nat} (hk : 2 ≤ k) (hk7 : k ≤ 6) (s1 : v1.toInt16.toInt32 = v1) (s2 : v2.toInt16.toInt32 = v2) {b : Nat} {sw O : Nat → Int32} {T A C : Nat} {cx bx si : Int32} {post : Int32 → SX → Prop} (hT : T < 400) (h6 : 64 ≤ A) (hA : A + (pg_fn k).length ≤ 3245) (hc : wl_At M0 A (pg_fn k)) (hv : sw T = v1 &&& 65535)
    (h : ra_R u0 M0 post sw T st n (pg_op k v1 v2 &&& 65535) cx (v2 &&& 65535) b si (A + (pg_fn k).length) C O) : ra_R u0 M0 post sw (T + 1) st n (v2 &&& 65535) cx bx b si A C O := by
  unfold pg_fn at hA hc h
  unfold pg_op at h
  have k7 : ¬ k = 7 := by omega
  simp only [if_neg k7] at hA hc h
  simp only [List.length_cons] at hA h
  refine ra_mov_bxax hc (by omega) (by omega) ?_
  refine ra_pop_ax (wl_d 2 hc) (by omega) (by omega) hT ?_
  rw [hv]
  have hc3 := wl_d 3 hc
  by_cases k2 : k = 2
  · simp only [if_pos k2] at hA hc3 h
    refine ra_add hc3 (by omega) (by omega) ?_
    rw [ww_add, ← ww_ws (v1 + v2)]
    exact h
  · simp only [if_neg k2] at hA hc3 h
    by_cases k3 : k = 3
    · simp only [if_pos k3] at hA hc3 h
      refine ra_sub hc3 (by omega) (by omega) ?_
      rw [ww_sub, ← ww_ws (v1 - v2)]
      exact h
    · simp only [if_neg k3] at hA hc3 h
      by_cases k4 : k = 4
      · simp only [if_pos k4] at hA hc3 h
        refine ra_mul hc3 (by omega) (by omega) ?_
        rw [ww_sw, ww_sw, s1, s2, ← ww_ws (v1 * v2)]
        exact h
      · simp only [if_neg k4] at hA hc3 h
        simp only [List.length_cons, pg_ch, List.length_nil] at hA h
        refine ra_cmp hc3 (by omega) (by omega) ?_
        rw [ww_ww, ww_ww, ww_sw, ww_sw, s1, s2]
        refine ra_movF_ax (w := 1) (wl_d 2 hc3) (by omega) (by omega) (by decide) ?_
        by_cases k5 : k = 5
        · simp only [if_pos k5] at hc3 h
          by_cases hl : v2 ≤ v1
          · rw [if_pos hl] at h ⊢
            refine ra_jl0 (wl_d 5 hc3) (by omega) (by omega) ?_
            exact ra_movi_ax (w := 0) (wl_d 7 hc3) (by omega) (by omega) (by decide) h
          · rw [if_neg hl] at h ⊢
            exact ra_jl1 (A' := A + 13) (wl_d 5 hc3) (by omega) (by omega) (rb_j (k := 3) (by decide)) h
        · simp only [if_neg k5] at hc3 h
          by_cases hl : v1 = v2
          · rw [if_pos hl] at h
            rw [if_pos ((ww_eq s1 s2).mpr hl)]
            exact ra_je1 (A' := A + 13) (wl_d 5 hc3) (by omega) (by omega) (rb_j (k := 3) (by decide)) h
          · rw [if_neg hl] at h
            rw [if_neg (fun z => hl ((ww_eq s1 s2).mp z))]
            refine ra_je0 (wl_d 5 hc3) (by omega) (by omega) ?_
            exact ra_movi_ax (w := 0) (wl_d 7 hc3) (by omega) (by omega) (by decide) h
theorem xe_bin {v1 v2 : Int32} {st1 : Nat} (hk : 2 ≤ pg_ek P e) (hk7 : pg_ek P e ≤ 6) (hx : pg_ex P e < e) (hy : pg_ey P e < e) (hw : pg_ew P e = 1 + pg_ew P (pg_ex P e) + pg_ew P (pg_ey P e)) (hw1 : 1 ≤ pg_ew P (pg_ex P e)) (s1 : v1.toInt16.toInt32 = v1) (s2 : v2.toInt16.toInt32 = v2)
    (h1 : xe_V u0 P M0 n p r g x i (pg_ex P e) st v1 st1) (h2 : xe_V u0 P M0 n p r g x i (pg_ey P e) st1 v2 st') : xe_V u0 P M0 n p r g x i e st (pg_op (pg_ek P e) v1 v2) st' := by
  intro tb ra sw O T A C ax cx bx si hX hT hN h6 hAl hc
  rw [xe_binE hk (by omega) hx hy] at hAl hc ⊢
  simp only [List.length_append, List.length_cons] at hAl ⊢
  have hc2 := wl_r (b := A + (pg_E P (p i) (pg_ex P e) A).length) hc rfl
  have hc3 := hc2.2
  have hc4 := wl_r (b := A + (pg_E P (p i) (pg_ex P e) A).length + 1 + (pg_E P (p i) (pg_ey P e) (A + (pg_E P (p i) (pg_ex P e) A).length + 1)).length) hc3 rfl
  obtain ⟨cx1, bx1, si1, k1⟩ := h1 tb ra sw O T A C ax cx bx si hX hT (by omega) h6 (by omega) (wl_l hc)
  obtain ⟨cx2, bx2, si2, k2⟩ := h2 tb ra (upd sw T (v1 &&& 65535)) O (T + 1) (A + (pg_E P (p i) (pg_ex P e) A).length + 1) C (v1 &&& 65535) cx1 bx1 si1 (sr_Xe hX (fun t ht => pk_un (by omega))) (by omega) (by omega) (by omega) (by omega) (wl_l hc3)
  refine ⟨cx2, v2 &&& 65535, si2, fun post hp => k1 post ?_⟩
  refine ra_push_ax hc2 (by omega) (by omega) (by omega) ?_
  rw [ww_ww]
  refine k2 post ?_
  refine xe_fin hk hk7 s1 s2 (by omega) (by omega) (by omega) hc4 pk_us ?_
  refine ra_ext (fun t ht => pk_un (by omega)) ?_
  rw [show A + (pg_E P (p i) (pg_ex P e) A).length + 1 + (pg_E P (p i) (pg_ey P e) (A + (pg_E P (p i) (pg_ex P e) A).length + 1)).length + (pg_fn (pg_ek P e)).length = A + ((pg_E P (p i) (pg_ex P e) A).length + ((pg_E P (p i) (pg_ey P e) (A + (pg_E P (p i) (pg_ex P e) A).length + 1)).length + (pg_fn (pg_ek P e)).length + 1)) by omega]
  exact hp
theorem xe_binT1 (hk : 2 ≤ pg_ek P e) (hk7 : pg_ek P e ≤ 6) (hx : pg_ex P e < e) (hy : pg_ey P e < e) (hw : pg_ew P e = 1 + pg_ew P (pg_ex P e) + pg_ew P (pg_ey P e))
    (h1 : xe_T u0 P M0 n p r g x i (pg_ex P e) st) : xe_T u0 P M0 n p r g x i e st := by
  intro tb ra sw O T A C ax cx bx si hX hT hN h6 hAl hc post hp
  rw [xe_binE hk (by omega) hx hy] at hAl hc
  simp only [List.length_append, List.length_cons] at hAl
  exact h1 tb ra sw O T A C ax cx bx si hX hT (by omega) h6 (by omega) (wl_l hc) post hp
theorem xe_binT2 {v1 : Int32} {st1 : Nat} (hk : 2 ≤ pg_ek P e) (hk7 : pg_ek P e ≤ 6) (hx : pg_ex P e < e) (hy : pg_ey P e < e) (hw : pg_ew P e = 1 + pg_ew P (pg_ex P e) + pg_ew P (pg_ey P e)) (hw1 : 1 ≤ pg_ew P (pg_ex P e))
    (h1 : xe_V u0 P M0 n p r g x i (pg_ex P e) st v1 st1) (h2 : xe_T u0 P M0 n p r g x i (pg_ey P e) st1) : xe_T u0 P M0 n p r g x i e st := by
  intro tb ra sw O T A C ax cx bx si hX hT hN h6 hAl hc post hp
  rw [xe_binE hk (by omega) hx hy] at hAl hc
  simp only [List.length_append, List.length_cons] at hAl
  have hc2 := wl_r (b := A + (pg_E P (p i) (pg_ex P e) A).length) hc rfl
  obtain ⟨cx1, bx1, si1, k1⟩ := h1 tb ra sw O T A C ax cx bx si hX hT (by omega) h6 (by omega) (wl_l hc)
  refine k1 post ?_
  refine ra_push_ax hc2 (by omega) (by omega) (by omega) ?_
  rw [ww_ww]
  exact h2 tb ra (upd sw T (v1 &&& 65535)) O (T + 1) (A + (pg_E P (p i) (pg_ex P e) A).length + 1) C (v1 &&& 65535) cx1 bx1 si1 (sr_Xe hX (fun t ht => pk_un (by omega))) (by omega) (by omega) (by omega) (by omega) (wl_l hc2.2) post (ra_Hd (T' := T) (by omega) (ra_Hext (fun t ht => pk_un (by omega)) hp))
end
end
section
/-! the reference's expressions: rules for one side -/
def yo_R (post : SY → Prop) (h : Nat) (u : SY) : Prop := ∃ m, yo_W post m (nI h) u
theorem yo_it {post : SY → Prop} {h h' : Nat} {u u' : SY} (hm : ∀ m, yo_W post m (nI h') u' → yo_W post (m + 1) (nI h) u) (k : yo_R post h' u') : yo_R post h u := by
  obtain ⟨m, k⟩ := k
  exact ⟨m + 1, hm m k⟩
def yv_H (v : SY) (P : pg_P) (n : Nat) (p r g : Nat → Nat) (x : Nat → Int32) : Prop :=
  yf_modes v = P 1 ∧ yf_ekind v = P 3 ∧ yf_ex v = P 4 ∧ yf_ey v = P 5 ∧ (∀ i, i < n → yf_procedure v i = nI (p i)) ∧ (∀ i, i < n → 0 < i → yf_around v i = nI (r i)) ∧
  (∀ i k, i < n → k < 5 → yf_variables v (5 * i + k) = x (5 * i + k)) ∧ (∀ i k, i < n → 0 < i → k < 2 → yf_origin v (2 * i + k) = nI (g (2 * i + k)))
theorem yn_d {v : Nat} (h : v < 2 ^ 31) : nI v / 5 = nI (v / 5) := @pk_div v 5 h (by decide) (by decide)
theorem yn_m {v : Nat} (h : v < 2 ^ 31) : nI v - nI v / 5 * 5 = nI (v % 5) := @pk_rem v 5 h (by decide) (by decide)
theorem yn_d3 {v : Nat} (h : v < 2 ^ 31) : nI v / 3 = nI (v / 3) := @pk_div v 3 h (by decide) (by decide)
theorem yn_m3 {v : Nat} (h : v < 2 ^ 31) : nI v - nI v / 3 * 3 = nI (v % 3) := @pk_rem v 3 h (by decide) (by decide)
theorem yn_mode {post : Int32 → Prop} {u : SY} {P : pg_P} {np ne ns q k : Nat} (hm : yf_modes u = P 1) (hW : pg_W P np ne ns) (hq : q < np) (hk : k < 2) (h : post (nI (pg_md P q k))) : wpY_mode post u (nI q) (nI k) := by
  have h5 := hW.1
  have hp := hW.2.2.2.1 q hq
  have e : yf_modes u (nI q).toNatClampNeg = nI (pg_mo P q) := by rw [nI_clamp (by omega), hm]; exact hp.2.2.1
  have h8 := hp.2.2.2.1
  unfold pg_md at h
  rcases Nat.lt_or_ge k 1 with z | z
  · have hk0 : k = 0 := by omega
    subst hk0
    rw [if_pos rfl] at h
    have e2 : yf_modes u (nI q).toNatClampNeg - yf_modes u (nI q).toNatClampNeg / 3 * 3 = nI (pg_mo P q % 3) := by rw [e]; exact yn_m3 (by omega)
    exact br_t nI_0 ⟨vp_in_nI (by omega) (by omega), by decide, by rw [← e2] at h; exact h⟩
  · have hk1 : k = 1 := by omega
    subst hk1
    rw [if_neg (by omega)] at h
    have e2 : yf_modes u (nI q).toNatClampNeg / 3 = nI (pg_mo P q / 3) := by rw [e]; exact yn_d3 (by omega)
    exact br_f (by decide) (br_t rfl ⟨vp_in_nI (by omega) (by omega), by decide, by rw [← e2] at h; exact h⟩)
theorem yn_bn {post : Int32 → Prop} {u : SY} {P : pg_P} {np ne ns v : Nat} (hm : yf_modes u = P 1) (hW : pg_W P np ne ns) (hq : v / 5 < np) (h1 : pg_bn P v → post 1) (h0 : ¬ pg_bn P v → post 0) : wpY_isByName post u (nI v) := by
  have h5 := hW.1
  have em := yn_m (v := v) (by omega)
  have ed := yn_d (v := v) (by omega)
  refine ⟨by decide, ?_⟩
  show (2 ≤ nI v - nI v / 5 * 5 → post 0) ∧ (¬ 2 ≤ nI v - nI v / 5 * 5 → (¬ (5 : Int32) = 0 ∧ (¬ (5 : Int32) = 0 ∧ wpY_mode (fun r => (r = 2 → post 1) ∧ (¬ r = 2 → post 0)) u (nI v / 5) (nI v - nI v / 5 * 5))))
  rw [em, ed]
  by_cases h2 : 2 ≤ v % 5
  · exact br_t (nI_le (a := 2) h2 (by omega)) (h0 (fun z => by have := z.1; omega))
  · refine br_f (nI_ge (b := 2) (by omega) (by omega)) ⟨by decide, by decide, yn_mode hm hW hq (by omega) ?_⟩
    have hmd := sr_md hW hq (v % 5)
    by_cases h3 : pg_md P (v / 5) (v % 5) = 2
    · exact br_t (by rw [h3]; rfl) (h1 ⟨by omega, h3⟩)
    · refine br_f ?_ (h0 (fun z => h3 z.2))
      intro z
      exact h3 ((nI_eq (b := 2) (by omega) (by omega)).mp z)
theorem yd_find {post : Int32 → Prop} {u : SY} {P : pg_P} {np ne n : Nat} {p r g : Nat → Nat} {x : Nat → Int32} (hA : sr_A P np ne n p r g x) (h5 : np ≤ 5) (hp : ∀ i, i < n → yf_procedure u i = nI (p i)) (hr : ∀ i, i < n → 0 < i → yf_around u i = nI (r i)) {q : Nat} (hq : q < 5) :
    ∀ m i c : Nat, i < n → c + m ≤ 12 → pg_an P m (p i) q → post (nI (rb_it r (pg_hp P m (p i) q) i)) → yd_W post (nI q) u (m + 1) (nI i) (nI c) := by
  have h12 := hA.2.1
  intro m
  induction m with
  | zero =>
    intro i c hi hc ha h
    have hpi : p i < 5 := Nat.lt_of_lt_of_le (hA.2.2.2.1 i hi) h5
    have e : yf_procedure u (nI i).toNatClampNeg = nI q := by rw [nI_clamp (by omega), hp i hi]; exact congrArg nI ha
    by_cases h2 : 12 ≤ c
    · exact br_t (nI_le (a := 12) h2 (by omega)) h
    · exact br_f (nI_ge (b := 12) (by omega) (by omega)) ⟨vp_in_nI (by omega) (by omega), br_t e h⟩
  | succ m ih =>
    intro i c hi hc ha h
    have hpi : p i < 5 := Nat.lt_of_lt_of_le (hA.2.2.2.1 i hi) h5
    refine br_f (nI_ge (b := 12) (by omega) (by omega)) ⟨vp_in_nI (by omega) (by omega), ?_⟩
    unfold pg_hp at h
    by_cases e : p i = q
    · rw [if_pos e] at h
      exact br_t (show yf_procedure u (nI i).toNatClampNeg = nI q by rw [nI_clamp (by omega), hp i hi]; exact congrArg nI e) h
    · rw [if_neg e] at h
      have h2 : p i ≠ 0 ∧ pg_an P m (pg_pa P (p i)) q := by
        rcases ha with ha | ha
        · exact absurd ha e
        · exact ha
      have hi0 : 0 < i := by
        rcases Nat.eq_zero_or_pos i with z | z
        · rw [z, hA.2.2.1] at h2; exact absurd rfl h2.1
        · exact z
      have hri := hA.2.2.2.2.1 i hi hi0
      rw [← hri.2.2] at h2 h
      have ea : yf_around u (nI i).toNatClampNeg = nI (r i) := by rw [nI_clamp (by omega)]; exact hr i hi hi0
      have ep : ¬ yf_procedure u (nI i).toNatClampNeg = nI q := by
        rw [nI_clamp (by omega), hp i hi, nI_eq (by omega) (by omega)]; exact e
      exact br_f ep ⟨vp_in_nI (by omega) (by omega), nm_r ea (nm_r (nI_1 c) (ih (r i) (c + 1) (by omega) (by omega) h2.2 h))⟩
theorem yn_find {post : Int32 → Prop} {u : SY} {P : pg_P} {np ne n : Nat} {p r g : Nat → Nat} {x : Nat → Int32} (hA : sr_A P np ne n p r g x) (h5 : np ≤ 5) (hp : ∀ i, i < n → yf_procedure u i = nI (p i)) (hr : ∀ i, i < n → 0 < i → yf_around u i = nI (r i)) {q i : Nat} (hq : q < 5) (hi : i < n) (ha : pg_an P 4 (p i) q)
    (h : post (nI (rb_it r (pg_h P (p i) q) i))) : wpY_find post u (nI i) (nI q) :=
  ⟨5, yd_find hA h5 hp hr hq 4 i 0 hi (by omega) ha h⟩
def ye_V (v0 : SY) (P : pg_P) (i e st : Nat) (v : Int32) (st' : Nat) : Prop :=
  ∀ (a : Nat) (rs : Int32) (nd wh sg kp : Nat → Int32), a + 16 * i + pg_ew P e ≤ 400 → nd a = nI e → wh a = nI i → sg a = 0 →
    ∃ nd' wh' sg' kp' : Nat → Int32, (∀ j, j < a → nd' j = nd j ∧ wh' j = wh j ∧ sg' j = sg j ∧ kp' j = kp j) ∧
      ∀ post : SY → Prop, yo_R post a (zy_w v0 v (nI st') (-1) nd' wh' sg' kp') → yo_R post (a + 1) (zy_w v0 rs (nI st) (-1) nd wh sg kp)
def ye_T (v0 : SY) (P : pg_P) (i e st : Nat) : Prop :=
  ∀ (a : Nat) (rs : Int32) (nd wh sg kp : Nat → Int32), a + 16 * i + pg_ew P e ≤ 400 → nd a = nI e → wh a = nI i → sg a = 0 →
    ∃ (rs' : Int32) (nd' wh' sg' kp' : Nat → Int32), ∀ post : SY → Prop, post (zy_w v0 rs' (nI 500) 1 nd' wh' sg' kp') → yo_R post (a + 1) (zy_w v0 rs (nI st) (-1) nd wh sg kp)
section
variable {v0 : SY} {P : pg_P} {np ne ns : Nat} {n : Nat} {p r g : Nat → Nat} {x : Nat → Int32} {i e st st' a : Nat} {rs : Int32} {nd wh sg kp : Nat → Int32} {post : SY → Prop}
theorem yi_in (h : a < 400) : vp_in (nI a) 400 := vp_in_nI h (by omega)
theorem yi_nd (ha : a < 400) (hnd : nd a = nI e) (he : e < 50) : vp_in (nd (nI a).toNatClampNeg) 50 := by
  rw [nI_clamp (by omega), hnd]; exact vp_in_nI he (by omega)
theorem yi_at {f : Nat → Int32} {y : Int32} (ha : a < 400) (hnd : nd a = nI e) (he : e < 50) (h : f e = y) : f (nd (nI a).toNatClampNeg).toNatClampNeg = y := by
  rw [nI_clamp (by omega), hnd, nI_clamp (by omega)]; exact h
theorem yi_m1 : ¬ (0 : Int32) ≤ -1 := by decide
theorem yi_num (hH : yv_H v0 P n p r g x) (hW : pg_W P np ne ns) (he : e < ne) (hk : pg_ek P e = 0) (ha : a < 400) (hnd : nd a = nI e) (k : yo_R post a (zy_w v0 (P 4 e) (nI st) (-1) nd wh sg kp)) : yo_R post (a + 1) (zy_w v0 rs (nI st) (-1) nd wh sg kp) := by
  have h50 := hW.2.1
  have hkk : yf_ekind v0 e = 0 := by rw [hH.2.1, (hW.2.2.2.2.1 e he).1, hk]; rfl
  have hx : yf_ex v0 e = P 4 e := by rw [hH.2.2.1]
  obtain ⟨m, k⟩ := k
  exact ⟨m + 1, br_f (nI_nle (by omega) (by omega)) (br_f yi_m1 (nm_r (nI_pred a) ⟨yi_in ha, yi_nd ha hnd (by omega), nm_r (yi_at ha hnd (by omega) hkk) (br_t (by decide) (br_t rfl (br_f (by decide) (br_t rfl ⟨yi_in ha, yi_nd ha hnd (by omega), nm_r (yi_at ha hnd (by omega) hx) (nm_r (pk_m1 a) k)⟩))))⟩))⟩
theorem yi_5 (j k : Nat) : 5 * nI j + nI k = nI (5 * j + k) := by
  rw [show (5 : Int32) = nI 5 from rfl, pk_mul, nI_add]
theorem yi_2 (j k : Nat) : 2 * nI j + nI k = nI (2 * j + k) := by
  rw [show (2 : Int32) = nI 2 from rfl, pk_mul, nI_add]
/-- a variable is used: its number, or what stands for it -/
theorem yu_any (hA : sr_A P np ne n p r g x) (hH : yv_H v0 P n p r g x) (hW : pg_W P np ne ns) (hi : i < n) (he : e < ne) (hk : pg_ek P e = 1) (hs : pg_sn P np (p i) (pg_ex P e)) (ha : a < 400) (hnd : nd a = nI e) (hwh : wh a = nI i) (hst : st ≤ 500) {K : Int32 → SY → Prop}
    (k1 : ¬ pg_bn P (pg_ex P e) → K 1 (zy_w v0 (x (5 * rb_it r (pg_h P (p i) (pg_ex P e / 5)) i + pg_ex P e % 5)) (nI st) (-1) nd wh sg kp))
    (k0 : pg_bn P (pg_ex P e) → K 0 (zy_w v0 rs (if st = 500 then nI 500 else nI (st + 1)) (if st = 500 then 1 else -1) (upd nd a (x (5 * rb_it r (pg_h P (p i) (pg_ex P e / 5)) i + pg_ex P e % 5))) (upd wh a (nI (g (2 * rb_it r (pg_h P (p i) (pg_ex P e / 5)) i + pg_ex P e % 5)))) sg kp)) :
    wpY_use K (zy_w v0 rs (nI st) (-1) nd wh sg kp) (nI a) := by
  have h50 := hW.2.1
  have h5 := hW.1
  have h12 := hA.2.1
  have hWe := hW.2.2.2.2.1 e he
  have hv := hWe.2.2.2.2.2.2.1 hk
  have hx : yf_ex v0 e = nI (pg_ex P e) := by rw [hH.2.2.1]; exact hv.1
  have e1 : wh (nI a).toNatClampNeg = nI i := by rw [nI_clamp (by omega)]; exact hwh
  have hJ := sr_J hA hi hs
  have hjn : rb_it r (pg_h P (p i) (pg_ex P e / 5)) i < n := Nat.lt_of_le_of_lt hJ.1 hi
  have hk5 : pg_ex P e % 5 < 5 := Nat.mod_lt _ (by omega)
  refine ⟨yi_in ha, yi_nd ha hnd (by omega), nm_r (yi_at ha hnd (by omega) hx) ⟨yi_in ha, by decide, ?_⟩⟩
  rw [yn_m (by omega), yn_d (by omega)]
  show wpY_find _ _ (wh (nI a).toNatClampNeg) _
  rw [e1]
  refine yn_find (u := zy_w v0 rs (nI st) (-1) nd wh sg kp) hA h5 hH.2.2.2.2.1 hH.2.2.2.2.2.1 (by omega) hi hs.2.1 ?_
  have hvar := hH.2.2.2.2.2.2.1 _ (pg_ex P e % 5) hjn hk5
  have hvin : vp_in (5 * nI (rb_it r (pg_h P (p i) (pg_ex P e / 5)) i) + nI (pg_ex P e % 5)) 60 := by
    rw [yi_5]; exact vp_in_nI (by omega) (by omega)
  have hval : yf_variables v0 (5 * nI (rb_it r (pg_h P (p i) (pg_ex P e / 5)) i) + nI (pg_ex P e % 5)).toNatClampNeg = x (5 * rb_it r (pg_h P (p i) (pg_ex P e / 5)) i + pg_ex P e % 5) := by
    rw [yi_5, nI_clamp (by omega)]; exact hvar
  refine yn_bn (u := zy_w v0 rs (nI st) (-1) nd wh sg kp) hH.1 hW hs.1 (fun hb => ?_) (fun hb => ?_)
  · have hj0 : 0 < rb_it r (pg_h P (p i) (pg_ex P e / 5)) i := sr_pos hW hA hjn (k := pg_ex P e % 5) (by rw [hJ.2, hb.2]; decide)
    have hor := hH.2.2.2.2.2.2.2 _ (pg_ex P e % 5) hjn hj0 hb.1
    have hb1 := hb.1
    have hoin : vp_in (2 * nI (rb_it r (pg_h P (p i) (pg_ex P e / 5)) i) + nI (pg_ex P e % 5)) 24 := by
      rw [yi_2]; exact vp_in_nI (by omega) (by omega)
    have horv : yf_origin v0 (2 * nI (rb_it r (pg_h P (p i) (pg_ex P e / 5)) i) + nI (pg_ex P e % 5)).toNatClampNeg = nI (g (2 * rb_it r (pg_h P (p i) (pg_ex P e / 5)) i + pg_ex P e % 5)) := by
      rw [yi_2, nI_clamp (by omega)]; exact hor
    have hu1 : upd nd (nI a).toNatClampNeg (yf_variables v0 (5 * nI (rb_it r (pg_h P (p i) (pg_ex P e / 5)) i) + nI (pg_ex P e % 5)).toNatClampNeg) = upd nd a (x (5 * rb_it r (pg_h P (p i) (pg_ex P e / 5)) i + pg_ex P e % 5)) := by
      rw [nI_clamp (by omega), hval]
    have hu2 : upd wh (nI a).toNatClampNeg (yf_origin v0 (2 * nI (rb_it r (pg_h P (p i) (pg_ex P e / 5)) i) + nI (pg_ex P e % 5)).toNatClampNeg) = upd wh a (nI (g (2 * rb_it r (pg_h P (p i) (pg_ex P e / 5)) i + pg_ex P e % 5))) := by
      rw [nI_clamp (by omega), horv]
    have kk := k0 hb
    refine br_f (by decide) ?_
    by_cases h : st = 500
    · rw [if_pos h, if_pos h] at kk
      subst h
      exact br_t rfl ⟨by decide, hvin, yi_in ha, nm_r hu1 ⟨by decide, hoin, yi_in ha, nm_r hu2 kk⟩⟩
    · rw [if_neg h, if_neg h] at kk
      exact br_f (fun z => h ((nI_eq (b := 500) (by omega) (by omega)).mp z)) (nm_r (nI_1 st) ⟨by decide, hvin, yi_in ha, nm_r hu1 ⟨by decide, hoin, yi_in ha, nm_r hu2 kk⟩⟩)
  · exact br_t rfl ⟨by decide, hvin, nm_r hval (k1 hb)⟩
end
end
section
/-! the reference's expressions, on -/
section
variable {v0 : SY} {P : pg_P} {np ne ns : Nat} {n : Nat} {p r g : Nat → Nat} {x : Nat → Int32} {i e st st' a : Nat} {rs : Int32} {nd wh sg kp : Nat → Int32} {post : SY → Prop}
theorem yi_val (hA : sr_A P np ne n p r g x) (hH : yv_H v0 P n p r g x) (hW : pg_W P np ne ns) (hi : i < n) (he : e < ne) (hk : pg_ek P e = 1) (hs : pg_sn P np (p i) (pg_ex P e)) (ha : a < 400) (hnd : nd a = nI e) (hwh : wh a = nI i) (hst : st ≤ 500) (hb : ¬ pg_bn P (pg_ex P e))
    (k : yo_R post a (zy_w v0 (x (5 * rb_it r (pg_h P (p i) (pg_ex P e / 5)) i + pg_ex P e % 5)) (nI st) (-1) nd wh sg kp)) : yo_R post (a + 1) (zy_w v0 rs (nI st) (-1) nd wh sg kp) := by
  have h50 := hW.2.1
  have hkk : yf_ekind v0 e = 1 := by rw [hH.2.1, (hW.2.2.2.2.1 e he).1, hk]; rfl
  obtain ⟨m, k⟩ := k
  refine ⟨m + 1, br_f (nI_nle (by omega) (by omega)) (br_f yi_m1 (nm_r (nI_pred a) ⟨yi_in ha, yi_nd ha hnd (by omega), nm_r (yi_at ha hnd (by omega) hkk) (br_t (by decide) (br_t rfl (br_t rfl ?_)))⟩))⟩
  exact yu_any (v0 := v0) (rs := rs) (st := st) (nd := nd) (wh := wh) (sg := sg) (kp := kp) hA hH hW hi he hk hs ha hnd hwh hst (fun _ => nm_r (nI_pred a) k) (fun hb' => absurd hb' hb)
theorem yi_name (hA : sr_A P np ne n p r g x) (hH : yv_H v0 P n p r g x) (hW : pg_W P np ne ns) (hi : i < n) (he : e < ne) (hk : pg_ek P e = 1) (hs : pg_sn P np (p i) (pg_ex P e)) (ha : a < 400) (hnd : nd a = nI e) (hwh : wh a = nI i) (hst : st < 500) (hb : pg_bn P (pg_ex P e))
    (k : yo_R post (a + 1) (zy_w v0 rs (nI (st + 1)) (-1) (upd nd a (x (5 * rb_it r (pg_h P (p i) (pg_ex P e / 5)) i + pg_ex P e % 5))) (upd wh a (nI (g (2 * rb_it r (pg_h P (p i) (pg_ex P e / 5)) i + pg_ex P e % 5)))) sg kp)) : yo_R post (a + 1) (zy_w v0 rs (nI st) (-1) nd wh sg kp) := by
  have h50 := hW.2.1
  have hkk : yf_ekind v0 e = 1 := by rw [hH.2.1, (hW.2.2.2.2.1 e he).1, hk]; rfl
  obtain ⟨m, k⟩ := k
  refine ⟨m + 1, br_f (nI_nle (by omega) (by omega)) (br_f yi_m1 (nm_r (nI_pred a) ⟨yi_in ha, yi_nd ha hnd (by omega), nm_r (yi_at ha hnd (by omega) hkk) (br_t (by decide) (br_t rfl (br_t rfl ?_)))⟩))⟩
  exact yu_any (v0 := v0) (rs := rs) (st := st) (nd := nd) (wh := wh) (sg := sg) (kp := kp) hA hH hW hi he hk hs ha hnd hwh (by omega) (fun hb' => absurd hb hb') (fun _ => by
    rw [if_neg (by omega), if_neg (by omega)]
    exact nm_r (Int32.sub_zero _) k)
theorem yi_tired (hA : sr_A P np ne n p r g x) (hH : yv_H v0 P n p r g x) (hW : pg_W P np ne ns) (hi : i < n) (he : e < ne) (hk : pg_ek P e = 1) (hs : pg_sn P np (p i) (pg_ex P e)) (ha : a < 400) (hnd : nd a = nI e) (hwh : wh a = nI i) (hst : st = 500) (hb : pg_bn P (pg_ex P e))
    (k : post (zy_w v0 rs (nI 500) 1 (upd nd a (x (5 * rb_it r (pg_h P (p i) (pg_ex P e / 5)) i + pg_ex P e % 5))) (upd wh a (nI (g (2 * rb_it r (pg_h P (p i) (pg_ex P e / 5)) i + pg_ex P e % 5)))) sg kp)) : yo_R post (a + 1) (zy_w v0 rs (nI st) (-1) nd wh sg kp) := by
  have h50 := hW.2.1
  have hkk : yf_ekind v0 e = 1 := by rw [hH.2.1, (hW.2.2.2.2.1 e he).1, hk]; rfl
  refine ⟨1 + 1, br_f (nI_nle (by omega) (by omega)) (br_f yi_m1 (nm_r (nI_pred a) ⟨yi_in ha, yi_nd ha hnd (by omega), nm_r (yi_at ha hnd (by omega) hkk) (br_t (by decide) (br_t rfl (br_t rfl ?_)))⟩))⟩
  exact yu_any (v0 := v0) (rs := rs) (st := st) (nd := nd) (wh := wh) (sg := sg) (kp := kp) hA hH hW hi he hk hs ha hnd hwh (by omega) (fun hb' => absurd hb hb') (fun _ => by
    rw [if_pos hst, if_pos hst]
    exact nm_r (Int32.sub_zero _) (br_f (nI_nle (by omega) (by omega)) (br_t (by decide) k)))
theorem yi_ne {a b c : Int32} (h : a = b) (hn : ¬ b = c) : ¬ a = c := h ▸ hn
theorem yi_gt {k m : Nat} (h : m < k) (hk : k < 50) : ¬ nI k ≤ nI m := nI_ge h (by omega)
/-- an operand is begun: the first -/
theorem yi_push0 (hH : yv_H v0 P n p r g x) (hW : pg_W P np ne ns) (he : e < ne) (hk : 2 ≤ pg_ek P e) (ha : a + 1 < 400) (hnd : nd a = nI e) (hwh : wh a = nI i) (hsg : sg a = 0)
    (k : yo_R post (a + 1 + 1) (zy_w v0 rs (nI st) (-1) (upd nd (a + 1) (nI (pg_ex P e))) (upd wh (a + 1) (nI i)) (upd (upd sg (a + 1) 0) a 1) kp)) : yo_R post (a + 1) (zy_w v0 rs (nI st) (-1) nd wh sg kp) := by
  have h50 := hW.2.1
  have hWe := hW.2.2.2.2.1 e he
  have hkk : yf_ekind v0 e = nI (pg_ek P e) := by rw [hH.2.1]; exact hWe.1
  have hx : yf_ex v0 e = nI (pg_ex P e) := by rw [hH.2.2.1]; exact (hWe.2.2.2.2.2.2.2 hk).1
  have hk7 := hWe.2.1
  have hsg0 : sg (nI a).toNatClampNeg = 0 := by rw [nI_clamp (by omega)]; exact hsg
  have hin1 : vp_in (nI (a + 1)) 400 := vp_in_nI ha (by omega)
  have hu1 : upd nd (nI (a + 1)).toNatClampNeg (yf_ex v0 (nd (nI a).toNatClampNeg).toNatClampNeg) = upd nd (a + 1) (nI (pg_ex P e)) := by
    rw [yi_at (by omega) hnd (by omega) hx, nI_clamp (by omega)]
  have hu2 : upd wh (nI (a + 1)).toNatClampNeg (wh (nI a).toNatClampNeg) = upd wh (a + 1) (nI i) := by
    rw [nI_clamp (by omega), nI_clamp (by omega), hwh]
  have hu3 : upd sg (nI (a + 1)).toNatClampNeg 0 = upd sg (a + 1) 0 := by rw [nI_clamp (by omega)]
  have hu4 : upd (upd sg (a + 1) 0) (nI a).toNatClampNeg (upd sg (a + 1) 0 (nI a).toNatClampNeg + 1) = upd (upd sg (a + 1) 0) a 1 := by
    rw [nI_clamp (by omega), pk_un (by omega), hsg]; rfl
  obtain ⟨m, k⟩ := k
  exact ⟨m + 1, br_f (nI_nle (by omega) (by omega)) (br_f yi_m1 (nm_r (nI_pred a) ⟨yi_in (by omega), yi_nd (by omega) hnd (by omega), nm_r (yi_at (by omega) hnd (by omega) hkk) (br_f (yi_gt (m := 1) (by omega) (by omega)) ⟨yi_in (by omega), br_t hsg0 (br_f (by decide) ⟨yi_in (by omega), br_f (yi_ne hsg0 (by decide)) ⟨yi_in (by omega), br_t hsg0 ⟨yi_in (by omega), yi_nd (by omega) hnd (by omega), hin1, nm_r hu1 ⟨yi_in (by omega), hin1, nm_r hu2 ⟨hin1, nm_r hu3 ⟨yi_in (by omega), yi_in (by omega), nm_r hu4 (nm_r (nI_1 (a + 1)) k)⟩⟩⟩⟩⟩⟩)⟩)⟩))⟩
/-- the second -/
theorem yi_push1 (hH : yv_H v0 P n p r g x) (hW : pg_W P np ne ns) (he : e < ne) (hk : 2 ≤ pg_ek P e) (hk7 : pg_ek P e ≤ 6) (ha : a + 1 < 400) (hnd : nd a = nI e) (hwh : wh a = nI i) (hsg : sg a = 1)
    (k : yo_R post (a + 1 + 1) (zy_w v0 rs (nI st) (-1) (upd nd (a + 1) (nI (pg_ey P e))) (upd wh (a + 1) (nI i)) (upd (upd sg (a + 1) 0) a 2) (upd kp a rs))) : yo_R post (a + 1) (zy_w v0 rs (nI st) (-1) nd wh sg kp) := by
  have h50 := hW.2.1
  have hWe := hW.2.2.2.2.1 e he
  have hkk : yf_ekind v0 e = nI (pg_ek P e) := by rw [hH.2.1]; exact hWe.1
  have hy : yf_ey v0 e = nI (pg_ey P e) := by rw [hH.2.2.2.1]; exact ((hWe.2.2.2.2.2.2.2 hk).2.2.2 (by omega)).1
  have hsg1 : sg (nI a).toNatClampNeg = 1 := by rw [nI_clamp (by omega)]; exact hsg
  have hin1 : vp_in (nI (a + 1)) 400 := vp_in_nI ha (by omega)
  have hu0 : upd kp (nI a).toNatClampNeg rs = upd kp a rs := by rw [nI_clamp (by omega)]
  have hu1 : upd nd (nI (a + 1)).toNatClampNeg (yf_ey v0 (nd (nI a).toNatClampNeg).toNatClampNeg) = upd nd (a + 1) (nI (pg_ey P e)) := by
    rw [yi_at (by omega) hnd (by omega) hy, nI_clamp (by omega)]
  have hu2 : upd wh (nI (a + 1)).toNatClampNeg (wh (nI a).toNatClampNeg) = upd wh (a + 1) (nI i) := by
    rw [nI_clamp (by omega), nI_clamp (by omega), hwh]
  have hu3 : upd sg (nI (a + 1)).toNatClampNeg 0 = upd sg (a + 1) 0 := by rw [nI_clamp (by omega)]
  have hu4 : upd (upd sg (a + 1) 0) (nI a).toNatClampNeg (upd sg (a + 1) 0 (nI a).toNatClampNeg + 1) = upd (upd sg (a + 1) 0) a 2 := by
    rw [nI_clamp (by omega), pk_un (by omega), hsg]; rfl
  obtain ⟨m, k⟩ := k
  exact ⟨m + 1, br_f (nI_nle (by omega) (by omega)) (br_f yi_m1 (nm_r (nI_pred a) ⟨yi_in (by omega), yi_nd (by omega) hnd (by omega), nm_r (yi_at (by omega) hnd (by omega) hkk) (br_f (yi_gt (m := 1) (by omega) (by omega)) ⟨yi_in (by omega), br_f (yi_ne hsg1 (by decide)) ⟨yi_in (by omega), br_t hsg1 (br_f (yi_gt (k := 7) (by omega) (by omega)) (br_f (by decide) ⟨yi_in (by omega), br_t hsg1 ⟨yi_in (by omega), nm_r hu0 ⟨yi_in (by omega), br_f (yi_ne hsg1 (by decide)) ⟨yi_in (by omega), yi_nd (by omega) hnd (by omega), hin1, nm_r hu1 ⟨yi_in (by omega), hin1, nm_r hu2 ⟨hin1, nm_r hu3 ⟨yi_in (by omega), yi_in (by omega), nm_r hu4 (nm_r (nI_1 (a + 1)) k)⟩⟩⟩⟩⟩⟩⟩))⟩⟩)⟩))⟩
theorem yi_not (hH : yv_H v0 P n p r g x) (hW : pg_W P np ne ns) (he : e < ne) (hk : pg_ek P e = 7) (ha : a < 400) (hnd : nd a = nI e) (hsg : sg a = 1)
    (k : yo_R post a (zy_w v0 (if rs = 0 then 1 else 0) (nI st) (-1) nd wh sg kp)) : yo_R post (a + 1) (zy_w v0 rs (nI st) (-1) nd wh sg kp) := by
  have h50 := hW.2.1
  have hWe := hW.2.2.2.2.1 e he
  have hkk : yf_ekind v0 e = 7 := by rw [hH.2.1, hWe.1, hk]; rfl
  have hsg1 : sg (nI a).toNatClampNeg = 1 := by rw [nI_clamp (by omega)]; exact hsg
  obtain ⟨m, k⟩ := k
  refine ⟨m + 1, br_f (nI_nle (by omega) (by omega)) (br_f yi_m1 (nm_r (nI_pred a) ⟨yi_in (by omega), yi_nd (by omega) hnd (by omega), nm_r (yi_at (by omega) hnd (by omega) hkk) (br_f (by decide) ⟨yi_in (by omega), br_f (yi_ne hsg1 (by decide)) ⟨yi_in (by omega), br_t hsg1 (br_t (by decide) (br_t rfl (br_f (by decide) (br_f (by decide) (br_t rfl ?_)))))⟩⟩)⟩))⟩
  by_cases h : rs = 0
  · rw [if_pos h] at k
    exact br_t h (nm_r (pk_m1 a) k)
  · rw [if_neg h] at k
    exact br_f h (nm_r (pk_m1 a) k)
theorem yi_op (hH : yv_H v0 P n p r g x) (hW : pg_W P np ne ns) (he : e < ne) (hk : 2 ≤ pg_ek P e) (hk7 : pg_ek P e ≤ 6) (ha : a < 400) (hnd : nd a = nI e) (hsg : sg a = 2)
    (k : yo_R post a (zy_w v0 (pg_op (pg_ek P e) (kp a) rs) (nI st) (-1) nd wh sg kp)) : yo_R post (a + 1) (zy_w v0 rs (nI st) (-1) nd wh sg kp) := by
  have h50 := hW.2.1
  have hWe := hW.2.2.2.2.1 e he
  have hkk : yf_ekind v0 e = nI (pg_ek P e) := by rw [hH.2.1]; exact hWe.1
  have hsg1 : sg (nI a).toNatClampNeg = 2 := by rw [nI_clamp (by omega)]; exact hsg
  have hq : ∀ m : Nat, m < 50 → pg_ek P e ≠ m → ¬ nI (pg_ek P e) = nI m := fun m hm h z => h ((nI_eq (by omega) (by omega)).mp z)
  have hkp : kp (nI a).toNatClampNeg = kp a := by rw [nI_clamp (by omega)]
  obtain ⟨m, k⟩ := k
  refine ⟨m + 1, br_f (nI_nle (by omega) (by omega)) (br_f yi_m1 (nm_r (nI_pred a) ⟨yi_in (by omega), yi_nd (by omega) hnd (by omega), nm_r (yi_at (by omega) hnd (by omega) hkk) (br_f (yi_gt (m := 1) (by omega) (by omega)) ⟨yi_in (by omega), br_f (yi_ne hsg1 (by decide)) ⟨yi_in (by omega), br_f (yi_ne hsg1 (by decide)) (br_t rfl (br_f (hq 1 (by omega) (by omega)) (br_f (hq 0 (by omega) (by omega)) (br_f (hq 7 (by omega) (by omega)) ⟨yi_in (by omega), ?_⟩))))⟩⟩)⟩))⟩
  rw [← hkp] at k
  unfold pg_op at k
  by_cases k2 : pg_ek P e = 2
  · simp only [if_pos k2] at k
    exact br_t (by rw [k2]; rfl) (nm_r (pk_m1 a) k)
  · simp only [if_neg k2] at k
    refine br_f (hq 2 (by omega) k2) ?_
    by_cases k3 : pg_ek P e = 3
    · simp only [if_pos k3] at k
      exact br_t (by rw [k3]; rfl) (nm_r (pk_m1 a) k)
    · simp only [if_neg k3] at k
      refine br_f (hq 3 (by omega) k3) ?_
      by_cases k4 : pg_ek P e = 4
      · simp only [if_pos k4] at k
        exact br_t (by rw [k4]; rfl) (nm_r (pk_m1 a) k)
      · simp only [if_neg k4] at k
        refine br_f (hq 4 (by omega) k4) ?_
        by_cases k5 : pg_ek P e = 5
        · simp only [if_pos k5] at k
          refine br_t (by rw [k5]; rfl) ?_
          by_cases hl : rs ≤ kp (nI a).toNatClampNeg
          · rw [if_pos hl] at k
            exact br_t hl (nm_r (pk_m1 a) k)
          · rw [if_neg hl] at k
            exact br_f hl (nm_r (pk_m1 a) k)
        · simp only [if_neg k5] at k
          refine br_f (hq 5 (by omega) k5) ?_
          by_cases hl : kp (nI a).toNatClampNeg = rs
          · rw [if_pos hl] at k
            exact br_t hl (nm_r (pk_m1 a) k)
          · rw [if_neg hl] at k
            exact br_f hl (nm_r (pk_m1 a) k)
end
end
section
/-! expressions: both sides give the same -/
section
variable {v0 : SY} {P : pg_P} {np ne ns : Nat} {n : Nat} {p r g : Nat → Nat} {x : Nat → Int32} {i e st st' : Nat} {v : Int32}
theorem ye_num (hH : yv_H v0 P n p r g x) (hW : pg_W P np ne ns) (he : e < ne) (hk : pg_ek P e = 0) : ye_V v0 P i e st (P 4 e) st := by
  intro a rs nd wh sg kp hN hnd hwh hsg
  have hw := (hW.2.2.2.2.1 e he).2.2.2.1
  exact ⟨nd, wh, sg, kp, fun j _ => ⟨rfl, rfl, rfl, rfl⟩, fun post k => yi_num hH hW he hk (by omega) hnd k⟩
theorem ye_val (hA : sr_A P np ne n p r g x) (hH : yv_H v0 P n p r g x) (hW : pg_W P np ne ns) (hi : i < n) (he : e < ne) (hk : pg_ek P e = 1) (hs : pg_sn P np (p i) (pg_ex P e)) (hst : st ≤ 500) (hb : ¬ pg_bn P (pg_ex P e)) :
    ye_V v0 P i e st (x (5 * rb_it r (pg_h P (p i) (pg_ex P e / 5)) i + pg_ex P e % 5)) st := by
  intro a rs nd wh sg kp hN hnd hwh hsg
  have hw := (hW.2.2.2.2.1 e he).2.2.2.1
  exact ⟨nd, wh, sg, kp, fun j _ => ⟨rfl, rfl, rfl, rfl⟩, fun post k => yi_val hA hH hW hi he hk hs (by omega) hnd hwh hst hb k⟩
theorem ye_tired (hA : sr_A P np ne n p r g x) (hH : yv_H v0 P n p r g x) (hW : pg_W P np ne ns) (hi : i < n) (he : e < ne) (hk : pg_ek P e = 1) (hs : pg_sn P np (p i) (pg_ex P e)) (hst : st = 500) (hb : pg_bn P (pg_ex P e)) : ye_T v0 P i e st := by
  intro a rs nd wh sg kp hN hnd hwh hsg
  have hw := (hW.2.2.2.2.1 e he).2.2.2.1
  exact ⟨rs, _, _, sg, kp, fun post k => yi_tired hA hH hW hi he hk hs (by omega) hnd hwh hst hb k⟩
theorem ye_name (hA : sr_A P np ne n p r g x) (hH : yv_H v0 P n p r g x) (hW : pg_W P np ne ns) (hi : i < n) (he : e < ne) (hk : pg_ek P e = 1) (hs : pg_sn P np (p i) (pg_ex P e)) (hst : st < 500) (hb : pg_bn P (pg_ex P e)) {e' : Nat}
    (hx : x (5 * rb_it r (pg_h P (p i) (pg_ex P e / 5)) i + pg_ex P e % 5) = nI e') (he' : e' < ne)
    (h : ye_V v0 P (g (2 * rb_it r (pg_h P (p i) (pg_ex P e / 5)) i + pg_ex P e % 5)) e' (st + 1) v st') : ye_V v0 P i e st v st' := by
  intro a rs nd wh sg kp hN hnd hwh hsg
  have hw := (hW.2.2.2.2.1 e he).2.2.2.1
  have hw' := (hW.2.2.2.2.1 e' he').2.2.2.2.1
  have ho := (sr_nm hW hA hi hs hb).1
  obtain ⟨nd', wh', sg', kp', hb', k'⟩ := h a rs (upd nd a (nI e')) (upd wh a (nI (g (2 * rb_it r (pg_h P (p i) (pg_ex P e / 5)) i + pg_ex P e % 5)))) sg kp (by omega) pk_us pk_us hsg
  refine ⟨nd', wh', sg', kp', fun j hj => ?_, fun post k => ?_⟩
  · have := hb' j hj
    rw [pk_un (by omega), pk_un (by omega)] at this
    exact this
  · refine yi_name hA hH hW hi he hk hs (by omega) hnd hwh hst hb ?_
    rw [hx]
    exact k' post k
theorem ye_nameT (hA : sr_A P np ne n p r g x) (hH : yv_H v0 P n p r g x) (hW : pg_W P np ne ns) (hi : i < n) (he : e < ne) (hk : pg_ek P e = 1) (hs : pg_sn P np (p i) (pg_ex P e)) (hst : st < 500) (hb : pg_bn P (pg_ex P e)) {e' : Nat}
    (hx : x (5 * rb_it r (pg_h P (p i) (pg_ex P e / 5)) i + pg_ex P e % 5) = nI e') (he' : e' < ne)
    (h : ye_T v0 P (g (2 * rb_it r (pg_h P (p i) (pg_ex P e / 5)) i + pg_ex P e % 5)) e' (st + 1)) : ye_T v0 P i e st := by
  intro a rs nd wh sg kp hN hnd hwh hsg
  have hw := (hW.2.2.2.2.1 e he).2.2.2.1
  have hw' := (hW.2.2.2.2.1 e' he').2.2.2.2.1
  have ho := (sr_nm hW hA hi hs hb).1
  obtain ⟨rs', nd', wh', sg', kp', k'⟩ := h a rs (upd nd a (nI e')) (upd wh a (nI (g (2 * rb_it r (pg_h P (p i) (pg_ex P e / 5)) i + pg_ex P e % 5)))) sg kp (by omega) pk_us pk_us hsg
  refine ⟨rs', nd', wh', sg', kp', fun post k => ?_⟩
  refine yi_name hA hH hW hi he hk hs (by omega) hnd hwh hst hb ?_
  rw [hx]
  exact k' post k
theorem ye_not (hH : yv_H v0 P n p r g x) (hW : pg_W P np ne ns) (he : e < ne) (hk : pg_ek P e = 7) (h : ye_V v0 P i (pg_ex P e) st v st') : ye_V v0 P i e st (if v = 0 then 1 else 0) st' := by
  intro a rs nd wh sg kp hN hnd hwh hsg
  have hWe := hW.2.2.2.2.1 e he
  have hw := hWe.2.2.2.1
  have hx := hWe.2.2.2.2.2.2.2 (by omega)
  have hwe := hx.2.2.1 hk
  have hwx := (hW.2.2.2.2.1 (pg_ex P e) (by omega)).2.2.2.1
  obtain ⟨nd', wh', sg', kp', hb', k'⟩ := h (a + 1) rs (upd nd (a + 1) (nI (pg_ex P e))) (upd wh (a + 1) (nI i)) (upd (upd sg (a + 1) 0) a 1) kp (by omega) pk_us pk_us (by rw [pk_un (by omega), pk_us])
  have ha := hb' a (by omega)
  rw [pk_un (by omega), pk_un (by omega), pk_us] at ha
  refine ⟨nd', wh', sg', kp', fun j hj => ?_, fun post k => ?_⟩
  · have := hb' j (by omega)
    rw [pk_un (by omega), pk_un (by omega), pk_un (by omega), pk_un (by omega)] at this
    exact this
  · refine yi_push0 hH hW he (by omega) (by omega) hnd hwh hsg (k' post ?_)
    exact yi_not hH hW he hk (by omega) (ha.1.trans hnd) ha.2.2.1 k
theorem ye_notT (hH : yv_H v0 P n p r g x) (hW : pg_W P np ne ns) (he : e < ne) (hk : pg_ek P e = 7) (h : ye_T v0 P i (pg_ex P e) st) : ye_T v0 P i e st := by
  intro a rs nd wh sg kp hN hnd hwh hsg
  have hWe := hW.2.2.2.2.1 e he
  have hw := hWe.2.2.2.1
  have hx := hWe.2.2.2.2.2.2.2 (by omega)
  have hwe := hx.2.2.1 hk
  have hwx := (hW.2.2.2.2.1 (pg_ex P e) (by omega)).2.2.2.1
  obtain ⟨rs', nd', wh', sg', kp', k'⟩ := h (a + 1) rs (upd nd (a + 1) (nI (pg_ex P e))) (upd wh (a + 1) (nI i)) (upd (upd sg (a + 1) 0) a 1) kp (by omega) pk_us pk_us (by rw [pk_un (by omega), pk_us])
  exact ⟨rs', nd', wh', sg', kp', fun post k => yi_push0 hH hW he (by omega) (by omega) hnd hwh hsg (k' post k)⟩
theorem ye_bin {v1 v2 : Int32} {st1 : Nat} (hH : yv_H v0 P n p r g x) (hW : pg_W P np ne ns) (he : e < ne) (hk : 2 ≤ pg_ek P e) (hk7 : pg_ek P e ≤ 6) (h1 : ye_V v0 P i (pg_ex P e) st v1 st1) (h2 : ye_V v0 P i (pg_ey P e) st1 v2 st') : ye_V v0 P i e st (pg_op (pg_ek P e) v1 v2) st' := by
  intro a rs nd wh sg kp hN hnd hwh hsg
  have hWe := hW.2.2.2.2.1 e he
  have hx := hWe.2.2.2.2.2.2.2 hk
  have hy := hx.2.2.2 (by omega)
  have hwx := (hW.2.2.2.2.1 (pg_ex P e) (by omega)).2.2.2.1
  have hwy := (hW.2.2.2.2.1 (pg_ey P e) (by omega)).2.2.2.1
  obtain ⟨nd1, wh1, sg1, kp1, b1, k1⟩ := h1 (a + 1) rs (upd nd (a + 1) (nI (pg_ex P e))) (upd wh (a + 1) (nI i)) (upd (upd sg (a + 1) 0) a 1) kp (by omega) pk_us pk_us (by rw [pk_un (by omega), pk_us])
  have a1 := b1 a (by omega)
  rw [pk_un (by omega), pk_un (by omega), pk_us] at a1
  obtain ⟨nd2, wh2, sg2, kp2, b2, k2⟩ := h2 (a + 1) v1 (upd nd1 (a + 1) (nI (pg_ey P e))) (upd wh1 (a + 1) (nI i)) (upd (upd sg1 (a + 1) 0) a 2) (upd kp1 a v1) (by omega) pk_us pk_us (by rw [pk_un (by omega), pk_us])
  have a2 := b2 a (by omega)
  rw [pk_un (by omega), pk_un (by omega), pk_us, pk_us] at a2
  refine ⟨nd2, wh2, sg2, kp2, fun j hj => ?_, fun post k => ?_⟩
  · have c1 := b1 j (by omega)
    have c2 := b2 j (by omega)
    rw [pk_un (by omega), pk_un (by omega), pk_un (by omega), pk_un (by omega)] at c1
    rw [pk_un (by omega), pk_un (by omega), pk_un (by omega), pk_un (by omega), pk_un (by omega)] at c2
    exact ⟨c2.1.trans c1.1, c2.2.1.trans c1.2.1, c2.2.2.1.trans c1.2.2.1, c2.2.2.2.trans c1.2.2.2⟩
  · refine yi_push0 hH hW he hk (by omega) hnd hwh hsg (k1 post ?_)
    refine yi_push1 hH hW he hk hk7 (by omega) (a1.1.trans hnd) (a1.2.1.trans hwh) a1.2.2.1 (k2 post ?_)
    refine yi_op hH hW he hk hk7 (by omega) (a2.1.trans (a1.1.trans hnd)) a2.2.2.1 ?_
    rw [a2.2.2.2]
    exact k
theorem ye_binT1 (hH : yv_H v0 P n p r g x) (hW : pg_W P np ne ns) (he : e < ne) (hk : 2 ≤ pg_ek P e) (hk7 : pg_ek P e ≤ 6) (h1 : ye_T v0 P i (pg_ex P e) st) : ye_T v0 P i e st := by
  intro a rs nd wh sg kp hN hnd hwh hsg
  have hWe := hW.2.2.2.2.1 e he
  have hx := hWe.2.2.2.2.2.2.2 hk
  have hy := hx.2.2.2 (by omega)
  have hwx := (hW.2.2.2.2.1 (pg_ex P e) (by omega)).2.2.2.1
  have hwy := (hW.2.2.2.2.1 (pg_ey P e) (by omega)).2.2.2.1
  obtain ⟨rs', nd1, wh1, sg1, kp1, k1⟩ := h1 (a + 1) rs (upd nd (a + 1) (nI (pg_ex P e))) (upd wh (a + 1) (nI i)) (upd (upd sg (a + 1) 0) a 1) kp (by omega) pk_us pk_us (by rw [pk_un (by omega), pk_us])
  exact ⟨rs', nd1, wh1, sg1, kp1, fun post k => yi_push0 hH hW he hk (by omega) hnd hwh hsg (k1 post k)⟩
theorem ye_binT2 {v1 : Int32} {st1 : Nat} (hH : yv_H v0 P n p r g x) (hW : pg_W P np ne ns) (he : e < ne) (hk : 2 ≤ pg_ek P e) (hk7 : pg_ek P e ≤ 6) (h1 : ye_V v0 P i (pg_ex P e) st v1 st1) (h2 : ye_T v0 P i (pg_ey P e) st1) : ye_T v0 P i e st := by
  intro a rs nd wh sg kp hN hnd hwh hsg
  have hWe := hW.2.2.2.2.1 e he
  have hx := hWe.2.2.2.2.2.2.2 hk
  have hy := hx.2.2.2 (by omega)
  have hwx := (hW.2.2.2.2.1 (pg_ex P e) (by omega)).2.2.2.1
  have hwy := (hW.2.2.2.2.1 (pg_ey P e) (by omega)).2.2.2.1
  obtain ⟨nd1, wh1, sg1, kp1, b1, k1⟩ := h1 (a + 1) rs (upd nd (a + 1) (nI (pg_ex P e))) (upd wh (a + 1) (nI i)) (upd (upd sg (a + 1) 0) a 1) kp (by omega) pk_us pk_us (by rw [pk_un (by omega), pk_us])
  have a1 := b1 a (by omega)
  rw [pk_un (by omega), pk_un (by omega), pk_us] at a1
  obtain ⟨rs', nd2, wh2, sg2, kp2, k2⟩ := h2 (a + 1) v1 (upd nd1 (a + 1) (nI (pg_ey P e))) (upd wh1 (a + 1) (nI i)) (upd (upd sg1 (a + 1) 0) a 2) (upd kp1 a v1) (by omega) pk_us pk_us (by rw [pk_un (by omega), pk_us])
  refine ⟨rs', nd2, wh2, sg2, kp2, fun post k => ?_⟩
  refine yi_push0 hH hW he hk (by omega) hnd hwh hsg (k1 post ?_)
  exact yi_push1 hH hW he hk hk7 (by omega) (a1.1.trans hnd) (a1.2.1.trans hwh) a1.2.2.1 (k2 post k)
end
theorem pg_op_s (k : Nat) (a b : Int32) : (pg_op k a b).toInt16.toInt32 = pg_op k a b := by
  unfold pg_op
  split
  · exact ww_ss _
  · split
    · exact ww_ss _
    · split
      · exact ww_ss _
      · split
        · split <;> decide
        · split <;> decide
/-- one outcome for both -/
def je_P (u0 : SX) (P : pg_P) (M0 : Nat → Int32) (n : Nat) (p r g : Nat → Nat) (x : Nat → Int32) (i e st : Nat) : Prop :=
  (∃ (v : Int32) (st' : Nat), xe_V u0 P M0 n p r g x i e st v st' ∧ rn_V u0 P M0 n p r g x i e st v st' ∧ (∀ v0 : SY, yv_H v0 P n p r g x → ye_V v0 P i e st v st') ∧ v.toInt16.toInt32 = v ∧ st ≤ st' ∧ st' ≤ 500) ∨
  (xe_T u0 P M0 n p r g x i e st ∧ rn_T u0 P M0 n p r g x i e st ∧ ∀ v0 : SY, yv_H v0 P n p r g x → ye_T v0 P i e st)
theorem je_all {u0 : SX} {P : pg_P} {np ne ns : Nat} {M0 : Nat → Int32} {n : Nat} {p r g : Nat → Nat} {x : Nat → Int32} (hS : wl_At M0 76 pg_s1) (hW : pg_W P np ne ns) (hA : sr_A P np ne n p r g x) :
    ∀ i, i < n → ∀ e, e < ne → pg_FE P np (p i) e → ∀ st, st ≤ 500 → je_P u0 P M0 n p r g x i e st := by
  intro i
  induction i using Nat.strongRecOn with
  | _ i ihi =>
    intro hi e
    induction e using Nat.strongRecOn with
    | _ e ihe =>
      intro he hF st hst
      rw [pg_FE] at hF
      have hWe := hW.2.2.2.2.1 e he
      by_cases k0 : pg_ek P e = 0
      · exact Or.inl ⟨P 4 e, st, xe_num k0, rn_exp (by omega) (xe_num k0), fun v0 hH => ye_num hH hW he k0, hWe.2.2.2.2.2.1 k0, Nat.le_refl _, hst⟩
      · by_cases k1 : pg_ek P e = 1
        · have hs := hF.1 k1
          by_cases hb : pg_bn P (pg_ex P e)
          · by_cases h5 : st = 500
            · exact Or.inr ⟨xe_tired hS k1 hb h5, rn_tired hS k1 hb h5, fun v0 hH => ye_tired hA hH hW hi he k1 hs h5 hb⟩
            · have hlt : st < 500 := by omega
              obtain ⟨ho, e', he', hx, hF'⟩ := sr_nm hW hA hi hs hb
              rcases ihi _ ho (by omega) e' he' hF' (st + 1) (by omega) with ⟨v, st', a1, a2, a3, a4, a5, a6⟩ | ⟨a1, a2, a3⟩
              · exact Or.inl ⟨v, st', xe_name hS hW hA hi k1 hs hb hlt hx he' a2, rn_name hS hW hA hi k1 hs hb hlt hx he' a2, fun v0 hH => ye_name hA hH hW hi he k1 hs hlt hb hx he' (a3 v0 hH), a4, by omega, a6⟩
              · exact Or.inr ⟨xe_nameT hS hW hA hi k1 hs hb hlt hx he' a2, rn_nameT hS hW hA hi k1 hs hb hlt hx he' a2, fun v0 hH => ye_nameT hA hH hW hi he k1 hs hlt hb hx he' (a3 v0 hH)⟩
          · have hJ := sr_J hA hi hs
            have hsv := hA.2.2.2.2.2.2 _ (pg_ex P e % 5) (Nat.lt_of_le_of_lt hJ.1 hi) (Nat.mod_lt _ (by omega)) (by
              rcases sr_val hW hA hi hs hb with h | h
              · exact Or.inl h
              · exact Or.inr (by omega))
            exact Or.inl ⟨_, st, xe_val hW hA hi k1 hs hb, rn_val hW hA hi k1 hs hb, fun v0 hH => ye_val hA hH hW hi he k1 hs hst hb, hsv, Nat.le_refl _, hst⟩
        · have k2 : 2 ≤ pg_ek P e := by omega
          have hx := hWe.2.2.2.2.2.2.2 k2
          have hwx := (hW.2.2.2.2.1 (pg_ex P e) (by omega)).2.2.2.1
          have ihx := ihe (pg_ex P e) hx.2.1 (by omega) (hF.2.1 k2 hx.2.1) st hst
          by_cases k7 : pg_ek P e = 7
          · rcases ihx with ⟨v, st', a1, a2, a3, a4, a5, a6⟩ | ⟨a1, a2, a3⟩
            · have hv := xe_not k7 hx.2.1 (hx.2.2.1 k7) a4 a1
              exact Or.inl ⟨_, st', hv, rn_exp (by omega) hv, fun v0 hH => ye_not hH hW he k7 (a3 v0 hH), by split <;> decide, a5, a6⟩
            · have hv := xe_notT k7 hx.2.1 (hx.2.2.1 k7) a1
              exact Or.inr ⟨hv, rn_expT (by omega) hv, fun v0 hH => ye_notT hH hW he k7 (a3 v0 hH)⟩
          · have hy := hx.2.2.2 k7
            have h6 : pg_ek P e ≤ 6 := by have := hWe.2.1; omega
            rcases ihx with ⟨v1, st1, a1, a2, a3, a4, a5, a6⟩ | ⟨a1, a2, a3⟩
            · rcases ihe (pg_ey P e) hy.2.1 (by omega) (hF.2.2 k2 k7 hy.2.1) st1 a6 with ⟨v2, st2, b1, b2, b3, b4, b5, b6⟩ | ⟨b1, b2, b3⟩
              · have hv := xe_bin k2 h6 hx.2.1 hy.2.1 hy.2.2 hwx a4 b4 a1 b1
                exact Or.inl ⟨_, st2, hv, rn_exp (by omega) hv, fun v0 hH => ye_bin hH hW he k2 h6 (a3 v0 hH) (b3 v0 hH), pg_op_s _ _ _, by omega, b6⟩
              · have hv := xe_binT2 k2 h6 hx.2.1 hy.2.1 hy.2.2 hwx a1 b1
                exact Or.inr ⟨hv, rn_expT (by omega) hv, fun v0 hH => ye_binT2 hH hW he k2 h6 (a3 v0 hH) (b3 v0 hH)⟩
            · have hv := xe_binT1 k2 h6 hx.2.1 hy.2.1 hy.2.2 a1
              exact Or.inr ⟨hv, rn_expT (by omega) hv, fun v0 hH => ye_binT1 hH hW he k2 h6 (a3 v0 hH)⟩
end
section
/-! the code of statements, run -/
def xs_V (u0 : SX) (P : pg_P) (M0 : Nat → Int32) (n : Nat) (p r g : Nat → Nat) (s : Nat) (x : Nat → Int32) (st C : Nat) (O : Nat → Int32) (x' : Nat → Int32) (st' C' : Nat) (O' : Nat → Int32) : Prop :=
  ∀ (tb ra : Nat → Nat) (sw : Nat → Int32) (A : Nat) (ax cx bx si : Int32), sr_X P M0 n p r g x tb ra sw → 64 ≤ A → A + (pg_S P (p (n - 1)) s A).length ≤ 3240 → wl_At M0 A (pg_S P (p (n - 1)) s A) →
    ∃ (sw' : Nat → Int32) (ax' cx' bx' si' : Int32), sr_X P M0 n p r g x' tb ra sw' ∧ ∀ post : Int32 → SX → Prop, ra_R u0 M0 post sw' (tb (n - 1) + 4) st' n ax' cx' bx' (tb (n - 1)) si' (A + (pg_S P (p (n - 1)) s A).length) C' O' → ra_R u0 M0 post sw (tb (n - 1) + 4) st n ax cx bx (tb (n - 1)) si A C O
def xs_X (u0 : SX) (P : pg_P) (M0 : Nat → Int32) (n : Nat) (p r g : Nat → Nat) (s : Nat) (x : Nat → Int32) (st C : Nat) (O : Nat → Int32) (rc : Int32) (x' : Nat → Int32) (st' C' : Nat) (O' : Nat → Int32) : Prop :=
  ∀ (tb ra : Nat → Nat) (sw : Nat → Int32) (A : Nat) (ax cx bx si : Int32), sr_X P M0 n p r g x tb ra sw → 64 ≤ A → A + (pg_S P (p (n - 1)) s A).length ≤ 3240 → wl_At M0 A (pg_S P (p (n - 1)) s A) →
    ∃ sw' : Nat → Int32, (∀ k, 2 ≤ k → k < 5 → sw' (k + 1) = x' k &&& 65535) ∧ ∀ post : Int32 → SX → Prop, ra_H u0 M0 post sw' 6 st' rc C' O' → ra_R u0 M0 post sw (tb (n - 1) + 4) st n ax cx bx (tb (n - 1)) si A C O
section
variable {u0 : SX} {P : pg_P} {np ne ns : Nat} {M0 : Nat → Int32} {n : Nat} {p r g : Nat → Nat} {x x' : Nat → Int32} {s st st' C C' : Nat} {O O' : Nat → Int32} {v : Int32}
theorem sr_main {tb ra : Nat → Nat} {sw : Nat → Int32} (hn : 1 ≤ n) (hX : sr_X P M0 n p r g x tb ra sw) : ∀ k, 2 ≤ k → k < 5 → sw (k + 1) = x k &&& 65535 := by
  intro k h2 h5
  have h := hX.2.2.2.2.2.1 0 k (by omega) h5 (Or.inl (by omega))
  unfold sr_ix at h
  rw [if_pos (by omega), hX.1] at h
  have e1 : 2 + (k - 1) = k + 1 := by omega
  have e2 : 5 * 0 + k = k := by omega
  rw [e1, e2] at h
  exact h
theorem sr_top {tb ra : Nat → Nat} {sw : Nat → Int32} (hW : pg_W P np ne ns) (hA : sr_A P np ne n p r g x) (hX : sr_X P M0 n p r g x tb ra sw) : tb (n - 1) ≤ 112 ∧ 2 ≤ tb (n - 1) := by
  have h1 := hA.1
  have h2 := hA.2.1
  have h3 := sr_tbm hW hA.2.2.2.1 hX (n - 1) (by omega)
  exact ⟨by omega, sr_tb2 hX (by omega)⟩
theorem xs_nop (hk : pg_sk P s = 6) : xs_V u0 P M0 n p r g s x st C O x st C O := by
  intro tb ra sw A ax cx bx si hX h6 hAl hc
  have hE : pg_S P (p (n - 1)) s A = [] := by rw [pg_S, if_pos hk]
  rw [hE]
  exact ⟨sw, ax, cx, bx, si, hX, fun post h => h⟩
theorem xs_thenE (hk : pg_sk P s = 1) (hx : pg_sx P s < s) (hy : pg_sy P s < s) (q A : Nat) : pg_S P q s A = pg_S P q (pg_sx P s) A ++ pg_S P q (pg_sy P s) (A + (pg_S P q (pg_sx P s) A).length) := by
  rw [pg_S, if_neg (by omega), if_neg (by omega), if_neg (by omega), if_neg (by omega), dif_pos hy, if_pos hk, dif_pos hx]
theorem xs_then {x1 : Nat → Int32} {st1 C1 : Nat} {O1 : Nat → Int32} (hk : pg_sk P s = 1) (hx : pg_sx P s < s) (hy : pg_sy P s < s) (h1 : xs_V u0 P M0 n p r g (pg_sx P s) x st C O x1 st1 C1 O1) (h2 : xs_V u0 P M0 n p r g (pg_sy P s) x1 st1 C1 O1 x' st' C' O') : xs_V u0 P M0 n p r g s x st C O x' st' C' O' := by
  intro tb ra sw A ax cx bx si hX h6 hAl hc
  rw [xs_thenE hk hx hy] at hAl hc ⊢
  rw [List.length_append] at hAl ⊢
  obtain ⟨sw1, ax1, cx1, bx1, si1, hX1, k1⟩ := h1 tb ra sw A ax cx bx si hX h6 (by omega) (wl_l hc)
  obtain ⟨sw2, ax2, cx2, bx2, si2, hX2, k2⟩ := h2 tb ra sw1 _ ax1 cx1 bx1 si1 hX1 (by omega) (by omega) (wl_r hc rfl)
  refine ⟨sw2, ax2, cx2, bx2, si2, hX2, fun post h => k1 post (k2 post ?_)⟩
  rw [Nat.add_assoc]
  exact h
theorem xs_thenX1 {rc : Int32} (hk : pg_sk P s = 1) (hx : pg_sx P s < s) (hy : pg_sy P s < s) (h1 : xs_X u0 P M0 n p r g (pg_sx P s) x st C O rc x' st' C' O') : xs_X u0 P M0 n p r g s x st C O rc x' st' C' O' := by
  intro tb ra sw A ax cx bx si hX h6 hAl hc
  rw [xs_thenE hk hx hy] at hAl hc
  rw [List.length_append] at hAl
  exact h1 tb ra sw A ax cx bx si hX h6 (by omega) (wl_l hc)
theorem xs_thenX2 {rc : Int32} {x1 : Nat → Int32} {st1 C1 : Nat} {O1 : Nat → Int32} (hk : pg_sk P s = 1) (hx : pg_sx P s < s) (hy : pg_sy P s < s) (h1 : xs_V u0 P M0 n p r g (pg_sx P s) x st C O x1 st1 C1 O1) (h2 : xs_X u0 P M0 n p r g (pg_sy P s) x1 st1 C1 O1 rc x' st' C' O') : xs_X u0 P M0 n p r g s x st C O rc x' st' C' O' := by
  intro tb ra sw A ax cx bx si hX h6 hAl hc
  rw [xs_thenE hk hx hy] at hAl hc
  rw [List.length_append] at hAl
  obtain ⟨sw1, ax1, cx1, bx1, si1, hX1, k1⟩ := h1 tb ra sw A ax cx bx si hX h6 (by omega) (wl_l hc)
  obtain ⟨sw2, hm, k2⟩ := h2 tb ra sw1 _ ax1 cx1 bx1 si1 hX1 (by omega) (by omega) (wl_r hc rfl)
  exact ⟨sw2, hm, fun post h => k1 post (k2 post h)⟩
/-- how a statement begins -/
theorem xs_head (hW : pg_W P np ne ns) (hA : sr_A P np ne n p r g x) (hk : pg_sk P s ≠ 6 ∧ pg_sk P s ≠ 1) (hs : pg_Ws P np ne s) (q A : Nat) : ∃ l, pg_S P q s A = pg_tk A ++ l := by
  have h6 := hs.2.1
  by_cases k0 : pg_sk P s = 0
  · exact ⟨_, by rw [pg_S, if_neg hk.1, if_pos k0]⟩
  · by_cases k4 : pg_sk P s = 4
    · exact ⟨_, by rw [pg_S, if_neg hk.1, if_neg k0, if_pos k4]⟩
    · by_cases k5 : pg_sk P s = 5
      · exact ⟨_, by rw [pg_S, if_neg hk.1, if_neg k0, if_neg k4, if_pos k5]⟩
      · by_cases k3 : pg_sk P s = 3
        · have h3 := hs.2.2.2.2.2.2.2.2.1 k3
          exact ⟨_, by rw [pg_S, if_neg hk.1, if_neg k0, if_neg k4, if_neg k5, dif_pos h3.2.2.2.1, if_neg hk.2, if_pos k3, pg_ts, List.append_assoc]⟩
        · have h2 := hs.2.2.2.2.2.2.2.1 (by omega)
          by_cases hz : 0 ≤ P 10 s
          · rcases h2.2.2.2.2 with hz2 | hz2
            · rw [hz2.1] at hz; exact absurd hz (by decide)
            · exact ⟨_, by rw [pg_S, if_neg hk.1, if_neg k0, if_neg k4, if_neg k5, dif_pos h2.2.2.2.1, if_neg hk.2, if_neg k3, if_pos hz, dif_pos hz2.2.1, pg_ts, List.append_assoc]⟩
          · exact ⟨_, by rw [pg_S, if_neg hk.1, if_neg k0, if_neg k4, if_neg k5, dif_pos h2.2.2.2.1, if_neg hk.2, if_neg k3, if_neg hz, pg_ts, List.append_assoc]⟩
theorem pg_tkl (A : Nat) : (pg_tk A).length = 3 := rfl
theorem xs_tired (hS : wl_At M0 76 pg_s1) (hW : pg_W P np ne ns) (hA : sr_A P np ne n p r g x) (hk : pg_sk P s ≠ 6 ∧ pg_sk P s ≠ 1) (hs : pg_Ws P np ne s) (hst : st = 500) : xs_X u0 P M0 n p r g s x st C O 1 x 500 C O := by
  intro tb ra sw A ax cx bx si hX h6 hAl hc
  obtain ⟨l, hl⟩ := xs_head hW hA hk hs (p (n - 1)) A
  rw [hl] at hAl hc
  rw [List.length_append, pg_tkl] at hAl
  have ht := sr_top hW hA hX
  refine ⟨sw, sr_main hA.1 hX, fun post h => rb_tired hS hc h6 (by omega) (by omega) hst ?_⟩
  rw [hst]
  exact ra_Hd (T' := 6) (by omega) h
/-- the step and the expression that a statement begins with -/
theorem xs_exp {e st1 : Nat} (hS : wl_At M0 76 pg_s1) (hW : pg_W P np ne ns) (hA : sr_A P np ne n p r g x) (he : e < ne) (hst : st < 500) (h : xe_V u0 P M0 n p r g x (n - 1) e (st + 1) v st1) {tb ra : Nat → Nat} {sw : Nat → Int32} {A : Nat} {ax cx bx si : Int32} {l : List Int32} (hX : sr_X P M0 n p r g x tb ra sw) (h6 : 64 ≤ A) (hAl : A + 3 + (pg_E P (p (n - 1)) e (A + 3)).length ≤ 3240) (hc : wl_At M0 A (pg_tk A ++ (pg_E P (p (n - 1)) e (A + 3) ++ l))) :
    wl_At M0 (A + 3 + (pg_E P (p (n - 1)) e (A + 3)).length) l ∧ ∃ cx' bx' si' : Int32, ∀ post : Int32 → SX → Prop, ra_R u0 M0 post sw (tb (n - 1) + 4) st1 n (v &&& 65535) cx' bx' (tb (n - 1)) si' (A + 3 + (pg_E P (p (n - 1)) e (A + 3)).length) C O → ra_R u0 M0 post sw (tb (n - 1) + 4) st n ax cx bx (tb (n - 1)) si A C O := by
  have ht := sr_top hW hA hX
  have hw := (hW.2.2.2.2.1 e he).2.2.2.2.1
  have h12 := hA.2.1
  have hc2 := wl_r (b := A + 3) hc rfl
  obtain ⟨cx', bx', si', k⟩ := h tb ra sw O (tb (n - 1) + 4) (A + 3) C ax cx bx si hX (by omega) (by omega) (by omega) (by omega) (wl_l hc2)
  exact ⟨wl_r hc2 rfl, cx', bx', si', fun post hp => rb_tick hS hc h6 (by omega) (by omega) hst (k post hp)⟩
theorem xs_expT {e : Nat} (hS : wl_At M0 76 pg_s1) (hW : pg_W P np ne ns) (hA : sr_A P np ne n p r g x) (he : e < ne) (hst : st < 500) (h : xe_T u0 P M0 n p r g x (n - 1) e (st + 1)) {tb ra : Nat → Nat} {sw : Nat → Int32} {A : Nat} {ax cx bx si : Int32} {l : List Int32} (hX : sr_X P M0 n p r g x tb ra sw) (h6 : 64 ≤ A) (hAl : A + 3 + (pg_E P (p (n - 1)) e (A + 3)).length ≤ 3240) (hc : wl_At M0 A (pg_tk A ++ (pg_E P (p (n - 1)) e (A + 3) ++ l))) :
    ∃ sw' : Nat → Int32, (∀ k, 2 ≤ k → k < 5 → sw' (k + 1) = x k &&& 65535) ∧ ∀ post : Int32 → SX → Prop, ra_H u0 M0 post sw' 6 500 1 C O → ra_R u0 M0 post sw (tb (n - 1) + 4) st n ax cx bx (tb (n - 1)) si A C O := by
  have ht := sr_top hW hA hX
  have hw := (hW.2.2.2.2.1 e he).2.2.2.2.1
  have h12 := hA.2.1
  have hc2 := wl_r (b := A + 3) hc rfl
  refine ⟨sw, sr_main hA.1 hX, fun post hp => ?_⟩
  refine rb_tick hS hc h6 (by omega) (by omega) hst ?_
  exact h tb ra sw O (tb (n - 1) + 4) (A + 3) C ax cx bx si hX (by omega) (by omega) (by omega) (by omega) (wl_l hc2) post (ra_Hd (T' := 6) (by omega) hp)
theorem xs_printE (hk : pg_sk P s = 4) (q A : Nat) : pg_S P q s A = pg_tk A ++ (pg_E P q (pg_sx P s) (A + 3) ++ [205, 1]) := by
  rw [pg_S, if_neg (by omega), if_neg (by omega), if_pos hk]
theorem xs_print {st1 : Nat} (hS : wl_At M0 76 pg_s1) (hW : pg_W P np ne ns) (hA : sr_A P np ne n p r g x) (hk : pg_sk P s = 4) (he : pg_sx P s < ne) (hst : st < 500) (hC : C ≤ 500) (hv : v.toInt16.toInt32 = v) (h : xe_V u0 P M0 n p r g x (n - 1) (pg_sx P s) (st + 1) v st1) : xs_V u0 P M0 n p r g s x st C O x st1 (C + 1) (ra_pO O C v) := by
  intro tb ra sw A ax cx bx si hX h6 hAl hc
  rw [xs_printE hk] at hAl hc ⊢
  simp only [List.length_append, pg_tkl, List.length_cons, List.length_nil] at hAl ⊢
  obtain ⟨hc2, cx', bx', si', k⟩ := xs_exp (C := C) (O := O) (ax := ax) (cx := cx) (bx := bx) (si := si) hS hW hA he hst h hX h6 (by omega) hc
  refine ⟨sw, v &&& 65535, cx', bx', si', hX, fun post hp => k post ?_⟩
  refine ra_int1 hc2 (by omega) (by omega) (by omega) ?_
  rw [ww_sw, hv, show A + 3 + (pg_E P (p (n - 1)) (pg_sx P s) (A + 3)).length + 2 = A + (3 + ((pg_E P (p (n - 1)) (pg_sx P s) (A + 3)).length + (0 + 1 + 1))) by omega]
  exact hp
theorem xs_printT (hS : wl_At M0 76 pg_s1) (hW : pg_W P np ne ns) (hA : sr_A P np ne n p r g x) (hk : pg_sk P s = 4) (he : pg_sx P s < ne) (hst : st < 500) (h : xe_T u0 P M0 n p r g x (n - 1) (pg_sx P s) (st + 1)) : xs_X u0 P M0 n p r g s x st C O 1 x 500 C O := by
  intro tb ra sw A ax cx bx si hX h6 hAl hc
  rw [xs_printE hk] at hAl hc
  simp only [List.length_append, pg_tkl, List.length_cons, List.length_nil] at hAl
  exact xs_expT hS hW hA he hst h hX h6 (by omega) hc
/-- a test: the jump is taken if the number is 0 -/
theorem xs_test {e st1 d : Nat} (hS : wl_At M0 76 pg_s1) (hW : pg_W P np ne ns) (hA : sr_A P np ne n p r g x) (he : e < ne) (hst : st < 500) (hv : v.toInt16.toInt32 = v) (h : xe_V u0 P M0 n p r g x (n - 1) e (st + 1) v st1) {tb ra : Nat → Nat} {sw : Nat → Int32} {A : Nat} {ax cx bx si : Int32} {l : List Int32} (hX : sr_X P M0 n p r g x tb ra sw) (h6 : 64 ≤ A) (hAl : A + (pg_ts P (p (n - 1)) e A).length + 2 + d ≤ 3240) (hc : wl_At M0 A (pg_ts P (p (n - 1)) e A ++ (pg_wd (nI d) ++ l))) :
    ∃ cx' bx' si' : Int32, ∀ post : Int32 → SX → Prop, ra_R u0 M0 post sw (tb (n - 1) + 4) st1 n (v &&& 65535) cx' bx' (tb (n - 1)) si' (if v = 0 then A + (pg_ts P (p (n - 1)) e A).length + 2 + d else A + (pg_ts P (p (n - 1)) e A).length + 2) C O → ra_R u0 M0 post sw (tb (n - 1) + 4) st n ax cx bx (tb (n - 1)) si A C O := by
  unfold pg_ts at hAl hc ⊢
  simp only [List.length_append, pg_tkl, List.length_cons, List.length_nil] at hAl ⊢
  rw [List.append_assoc, List.append_assoc] at hc
  obtain ⟨hc2, cx', bx', si', k⟩ := xs_exp (C := C) (O := O) (ax := ax) (cx := cx) (bx := bx) (si := si) hS hW hA he hst h hX h6 (by omega) hc
  refine ⟨cx', bx', si', fun post hp => k post ?_⟩
  refine ra_orax hc2 (by omega) (by omega) (ww_ww v) (fun il => ?_)
  by_cases hz : v = 0
  · rw [if_pos hz] at hp
    rw [if_pos ((ww_e0 hv).mpr hz)]
    refine ra_jne0 (wl_d 2 hc2) (by omega) (by omega) ?_
    refine ra_jmp (A' := A + (3 + ((pg_E P (p (n - 1)) e (A + 3)).length + (0 + 1 + 1 + 1 + 1 + 1))) + 2 + d) (wl_d 4 hc2) (by omega) (by omega) ?_ hp
    rw [rb_wd, rb_fw (by omega)]
    exact congrArg nI (by omega)
  · rw [if_neg hz] at hp
    rw [if_neg (fun z => hz ((ww_e0 hv).mp z))]
    refine ra_jne1 (A' := A + (3 + ((pg_E P (p (n - 1)) e (A + 3)).length + (0 + 1 + 1 + 1 + 1 + 1))) + 2) (wl_d 2 hc2) (by omega) (by omega) ?_ hp
    rw [rb_j (k := 3) (by decide)]
    exact congrArg nI (by omega)
theorem xs_testT {e : Nat} (hS : wl_At M0 76 pg_s1) (hW : pg_W P np ne ns) (hA : sr_A P np ne n p r g x) (he : e < ne) (hst : st < 500) (h : xe_T u0 P M0 n p r g x (n - 1) e (st + 1)) {tb ra : Nat → Nat} {sw : Nat → Int32} {A : Nat} {ax cx bx si : Int32} {l : List Int32} (hX : sr_X P M0 n p r g x tb ra sw) (h6 : 64 ≤ A) (hAl : A + (pg_ts P (p (n - 1)) e A).length ≤ 3240) (hc : wl_At M0 A (pg_ts P (p (n - 1)) e A ++ l)) :
    ∃ sw' : Nat → Int32, (∀ k, 2 ≤ k → k < 5 → sw' (k + 1) = x k &&& 65535) ∧ ∀ post : Int32 → SX → Prop, ra_H u0 M0 post sw' 6 500 1 C O → ra_R u0 M0 post sw (tb (n - 1) + 4) st n ax cx bx (tb (n - 1)) si A C O := by
  unfold pg_ts at hAl hc
  simp only [List.length_append, pg_tkl, List.length_cons, List.length_nil] at hAl
  rw [List.append_assoc, List.append_assoc] at hc
  exact xs_expT hS hW hA he hst h hX h6 (by omega) hc
end
end
section
/-! the code of statements, on: if, while, set -/
def xs_P (u0 : SX) (P : pg_P) (M0 : Nat → Int32) (n : Nat) (p r g : Nat → Nat) (s : Nat) (x : Nat → Int32) (st C : Nat) (O : Nat → Int32) (s1 st1 : Nat) : Prop :=
  ∀ (tb ra : Nat → Nat) (sw : Nat → Int32) (A : Nat) (ax cx bx si : Int32), sr_X P M0 n p r g x tb ra sw → 64 ≤ A → A + (pg_S P (p (n - 1)) s A).length ≤ 3240 → wl_At M0 A (pg_S P (p (n - 1)) s A) →
    ∃ (A1 : Nat) (ax1 cx1 bx1 si1 : Int32), 64 ≤ A1 ∧ A1 + (pg_S P (p (n - 1)) s1 A1).length ≤ 3240 ∧ wl_At M0 A1 (pg_S P (p (n - 1)) s1 A1) ∧
      (∀ post : Int32 → SX → Prop, ra_R u0 M0 post sw (tb (n - 1) + 4) st1 n ax1 cx1 bx1 (tb (n - 1)) si1 A1 C O → ra_R u0 M0 post sw (tb (n - 1) + 4) st n ax cx bx (tb (n - 1)) si A C O) ∧
      (∀ (post : Int32 → SX → Prop) (sw' : Nat → Int32) (st' C' : Nat) (O' : Nat → Int32) (ax' cx' bx' si' : Int32), ra_R u0 M0 post sw' (tb (n - 1) + 4) st' n ax' cx' bx' (tb (n - 1)) si' (A + (pg_S P (p (n - 1)) s A).length) C' O' → ra_R u0 M0 post sw' (tb (n - 1) + 4) st' n ax' cx' bx' (tb (n - 1)) si' (A1 + (pg_S P (p (n - 1)) s1 A1).length) C' O')
section
variable {u0 : SX} {P : pg_P} {np ne ns : Nat} {M0 : Nat → Int32} {n : Nat} {p r g : Nat → Nat} {x x' : Nat → Int32} {s st st1 st' C C' : Nat} {O O' : Nat → Int32} {v : Int32}
theorem xs_viaV {s1 : Nat} (h : xs_P u0 P M0 n p r g s x st C O s1 st1) (k : xs_V u0 P M0 n p r g s1 x st1 C O x' st' C' O') : xs_V u0 P M0 n p r g s x st C O x' st' C' O' := by
  intro tb ra sw A ax cx bx si hX h6 hAl hc
  obtain ⟨A1, ax1, cx1, bx1, si1, b1, b2, b3, b4, b5⟩ := h tb ra sw A ax cx bx si hX h6 hAl hc
  obtain ⟨sw2, ax2, cx2, bx2, si2, hX2, k2⟩ := k tb ra sw A1 ax1 cx1 bx1 si1 hX b1 b2 b3
  exact ⟨sw2, ax2, cx2, bx2, si2, hX2, fun post hp => b4 post (k2 post (b5 post _ _ _ _ _ _ _ _ hp))⟩
theorem xs_viaX {s1 : Nat} {rc : Int32} (h : xs_P u0 P M0 n p r g s x st C O s1 st1) (k : xs_X u0 P M0 n p r g s1 x st1 C O rc x' st' C' O') : xs_X u0 P M0 n p r g s x st C O rc x' st' C' O' := by
  intro tb ra sw A ax cx bx si hX h6 hAl hc
  obtain ⟨A1, ax1, cx1, bx1, si1, b1, b2, b3, b4, b5⟩ := h tb ra sw A ax cx bx si hX h6 hAl hc
  obtain ⟨sw2, hm, k2⟩ := k tb ra sw A1 ax1 cx1 bx1 si1 hX b1 b2 b3
  exact ⟨sw2, hm, fun post hp => b4 post (k2 post hp)⟩
theorem xs_ifE (hk : pg_sk P s = 2) (hy : pg_sy P s < s) (hz : ¬ 0 ≤ P 10 s) (q A : Nat) : pg_S P q s A = pg_ts P q (pg_sx P s) A ++ (pg_wd (nI (pg_S P q (pg_sy P s) (A + (pg_ts P q (pg_sx P s) A).length + 2)).length) ++ pg_S P q (pg_sy P s) (A + (pg_ts P q (pg_sx P s) A).length + 2)) := by
  rw [pg_S, if_neg (by omega), if_neg (by omega), if_neg (by omega), if_neg (by omega), dif_pos hy, if_neg (by omega), if_neg (by omega), if_neg hz]
theorem xs_ifE2 (hk : pg_sk P s = 2) (hy : pg_sy P s < s) (hz : 0 ≤ P 10 s) (hz2 : pg_sz P s < s) (q A : Nat) : pg_S P q s A = pg_ts P q (pg_sx P s) A ++ (pg_wd (nI ((pg_S P q (pg_sy P s) (A + (pg_ts P q (pg_sx P s) A).length + 2)).length + 3)) ++
          (pg_S P q (pg_sy P s) (A + (pg_ts P q (pg_sx P s) A).length + 2) ++ 233 :: (pg_wd (nI (pg_S P q (pg_sz P s) (A + (pg_ts P q (pg_sx P s) A).length + 2 + (pg_S P q (pg_sy P s) (A + (pg_ts P q (pg_sx P s) A).length + 2)).length + 3)).length) ++
            pg_S P q (pg_sz P s) (A + (pg_ts P q (pg_sx P s) A).length + 2 + (pg_S P q (pg_sy P s) (A + (pg_ts P q (pg_sx P s) A).length + 2)).length + 3)))) := by
  rw [pg_S, if_neg (by omega), if_neg (by omega), if_neg (by omega), if_neg (by omega), dif_pos hy, if_neg (by omega), if_neg (by omega), if_pos hz, dif_pos hz2]
theorem xs_whE (hk : pg_sk P s = 3) (hy : pg_sy P s < s) (q A : Nat) : pg_S P q s A = pg_ts P q (pg_sx P s) A ++ (pg_wd (nI ((pg_S P q (pg_sy P s) (A + (pg_ts P q (pg_sx P s) A).length + 2)).length + 3)) ++
        (pg_S P q (pg_sy P s) (A + (pg_ts P q (pg_sx P s) A).length + 2) ++ 233 :: pg_wd ((nI A - nI (A + (pg_ts P q (pg_sx P s) A).length + 2 + (pg_S P q (pg_sy P s) (A + (pg_ts P q (pg_sx P s) A).length + 2)).length + 1)) - 2))) := by
  rw [pg_S, if_neg (by omega), if_neg (by omega), if_neg (by omega), if_neg (by omega), dif_pos hy, if_neg (by omega), if_pos hk]
theorem pg_wdl (w : Int32) : (pg_wd w).length = 2 := rfl
/-- the branch that is taken -/
theorem xs_if1 (hS : wl_At M0 76 pg_s1) (hW : pg_W P np ne ns) (hA : sr_A P np ne n p r g x) (hk : pg_sk P s = 2) (hs : pg_Ws P np ne s) (hst : st < 500) (hv : v.toInt16.toInt32 = v) (hv0 : v ≠ 0) (h : xe_V u0 P M0 n p r g x (n - 1) (pg_sx P s) (st + 1) v st1) : xs_P u0 P M0 n p r g s x st C O (pg_sy P s) st1 := by
  intro tb ra sw A ax cx bx si hX h6 hAl hc
  have h2 := hs.2.2.2.2.2.2.2.1 hk
  by_cases hz : 0 ≤ P 10 s
  · rcases h2.2.2.2.2 with hz2 | hz2
    · rw [hz2.1] at hz; exact absurd hz (by decide)
    · rw [xs_ifE2 hk h2.2.2.2.1 hz hz2.2.1] at hAl hc ⊢
      simp only [List.length_append, List.length_cons, pg_wdl] at hAl ⊢
      have hc2 := wl_r (b := A + (pg_ts P (p (n - 1)) (pg_sx P s) A).length + 2) (wl_r (b := A + (pg_ts P (p (n - 1)) (pg_sx P s) A).length) hc rfl) rfl
      have hc3 := wl_r (b := A + (pg_ts P (p (n - 1)) (pg_sx P s) A).length + 2 + (pg_S P (p (n - 1)) (pg_sy P s) (A + (pg_ts P (p (n - 1)) (pg_sx P s) A).length + 2)).length) hc2 rfl
      obtain ⟨cx', bx', si', k⟩ := xs_test (C := C) (O := O) (ax := ax) (cx := cx) (bx := bx) (si := si) hS hW hA h2.2.1 hst hv h hX h6 (by omega) hc
      refine ⟨_, v &&& 65535, cx', bx', si', ?_, ?_, wl_l hc2, fun post hp => k post ?_, fun post sw' st' C' O' ax' cx' bx' si' hp => ?_⟩
      · omega
      · omega
      · rw [if_neg hv0]; exact hp
      · refine ra_jmp hc3 (by omega) (by omega) ?_ hp
        rw [rb_wd, rb_fw (by omega)]
        exact congrArg nI (by omega)
  · rw [xs_ifE hk h2.2.2.2.1 hz] at hAl hc ⊢
    simp only [List.length_append, List.length_cons, pg_wdl] at hAl ⊢
    have hc2 := wl_r (b := A + (pg_ts P (p (n - 1)) (pg_sx P s) A).length + 2) (wl_r (b := A + (pg_ts P (p (n - 1)) (pg_sx P s) A).length) hc rfl) rfl
    obtain ⟨cx', bx', si', k⟩ := xs_test (C := C) (O := O) (ax := ax) (cx := cx) (bx := bx) (si := si) hS hW hA h2.2.1 hst hv h hX h6 (by omega) hc
    refine ⟨_, v &&& 65535, cx', bx', si', ?_, ?_, hc2, fun post hp => k post ?_, fun post sw' st' C' O' ax' cx' bx' si' hp => ?_⟩
    · omega
    · omega
    · rw [if_neg hv0]; exact hp
    · rw [show A + (pg_ts P (p (n - 1)) (pg_sx P s) A).length + 2 + (pg_S P (p (n - 1)) (pg_sy P s) (A + (pg_ts P (p (n - 1)) (pg_sx P s) A).length + 2)).length = A + ((pg_ts P (p (n - 1)) (pg_sx P s) A).length + (2 + (pg_S P (p (n - 1)) (pg_sy P s) (A + (pg_ts P (p (n - 1)) (pg_sx P s) A).length + 2)).length)) by omega]
      exact hp
theorem xs_if0 (hS : wl_At M0 76 pg_s1) (hW : pg_W P np ne ns) (hA : sr_A P np ne n p r g x) (hk : pg_sk P s = 2) (hs : pg_Ws P np ne s) (hz : 0 ≤ P 10 s) (hst : st < 500) (h : xe_V u0 P M0 n p r g x (n - 1) (pg_sx P s) (st + 1) 0 st1) : xs_P u0 P M0 n p r g s x st C O (pg_sz P s) st1 := by
  intro tb ra sw A ax cx bx si hX h6 hAl hc
  have h2 := hs.2.2.2.2.2.2.2.1 hk
  rcases h2.2.2.2.2 with hz2 | hz2
  · rw [hz2.1] at hz; exact absurd hz (by decide)
  · rw [xs_ifE2 hk h2.2.2.2.1 hz hz2.2.1] at hAl hc ⊢
    simp only [List.length_append, List.length_cons, pg_wdl] at hAl ⊢
    have hc2 := wl_r (b := A + (pg_ts P (p (n - 1)) (pg_sx P s) A).length + 2) (wl_r (b := A + (pg_ts P (p (n - 1)) (pg_sx P s) A).length) hc rfl) rfl
    have hc3 := wl_r (b := A + (pg_ts P (p (n - 1)) (pg_sx P s) A).length + 2 + (pg_S P (p (n - 1)) (pg_sy P s) (A + (pg_ts P (p (n - 1)) (pg_sx P s) A).length + 2)).length) hc2 rfl
    have hc4 := wl_d 3 hc3
    obtain ⟨cx', bx', si', k⟩ := xs_test (C := C) (O := O) (ax := ax) (cx := cx) (bx := bx) (si := si) hS hW hA h2.2.1 hst (by decide) h hX h6 (by omega) hc
    refine ⟨_, 0 &&& 65535, cx', bx', si', ?_, ?_, hc4, fun post hp => k post ?_, fun post sw' st' C' O' ax' cx' bx' si' hp => ?_⟩
    · omega
    · omega
    · rw [if_pos rfl, ← Nat.add_assoc]; exact hp
    · refine Eq.mp ?_ hp
      exact congrArg (fun z => ra_R u0 M0 post sw' (tb (n - 1) + 4) st' n ax' cx' bx' (tb (n - 1)) si' z C' O') (by omega)
theorem xs_if0n (hS : wl_At M0 76 pg_s1) (hW : pg_W P np ne ns) (hA : sr_A P np ne n p r g x) (hk : pg_sk P s = 2) (hs : pg_Ws P np ne s) (hz : ¬ 0 ≤ P 10 s) (hst : st < 500) (h : xe_V u0 P M0 n p r g x (n - 1) (pg_sx P s) (st + 1) 0 st1) : xs_V u0 P M0 n p r g s x st C O x st1 C O := by
  intro tb ra sw A ax cx bx si hX h6 hAl hc
  have h2 := hs.2.2.2.2.2.2.2.1 hk
  rw [xs_ifE hk h2.2.2.2.1 hz] at hAl hc ⊢
  simp only [List.length_append, List.length_cons, pg_wdl] at hAl ⊢
  obtain ⟨cx', bx', si', k⟩ := xs_test (C := C) (O := O) (ax := ax) (cx := cx) (bx := bx) (si := si) hS hW hA h2.2.1 hst (by decide) h hX h6 (by omega) hc
  refine ⟨sw, 0 &&& 65535, cx', bx', si', hX, fun post hp => k post ?_⟩
  rw [if_pos rfl]
  refine Eq.mp ?_ hp
  exact congrArg (fun z => ra_R u0 M0 post sw (tb (n - 1) + 4) st1 n (0 &&& 65535) cx' bx' (tb (n - 1)) si' z C O) (by omega)
theorem xs_ifT (hS : wl_At M0 76 pg_s1) (hW : pg_W P np ne ns) (hA : sr_A P np ne n p r g x) (hk : pg_sk P s = 2) (hs : pg_Ws P np ne s) (hst : st < 500) (h : xe_T u0 P M0 n p r g x (n - 1) (pg_sx P s) (st + 1)) : xs_X u0 P M0 n p r g s x st C O 1 x 500 C O := by
  intro tb ra sw A ax cx bx si hX h6 hAl hc
  have h2 := hs.2.2.2.2.2.2.2.1 hk
  by_cases hz : 0 ≤ P 10 s
  · rcases h2.2.2.2.2 with hz2 | hz2
    · rw [hz2.1] at hz; exact absurd hz (by decide)
    · rw [xs_ifE2 hk h2.2.2.2.1 hz hz2.2.1] at hAl hc
      rw [List.length_append] at hAl
      exact xs_testT hS hW hA h2.2.1 hst h hX h6 (by omega) hc
  · rw [xs_ifE hk h2.2.2.2.1 hz] at hAl hc
    rw [List.length_append] at hAl
    exact xs_testT hS hW hA h2.2.1 hst h hX h6 (by omega) hc
theorem xs_whT (hS : wl_At M0 76 pg_s1) (hW : pg_W P np ne ns) (hA : sr_A P np ne n p r g x) (hk : pg_sk P s = 3) (hs : pg_Ws P np ne s) (hst : st < 500) (h : xe_T u0 P M0 n p r g x (n - 1) (pg_sx P s) (st + 1)) : xs_X u0 P M0 n p r g s x st C O 1 x 500 C O := by
  intro tb ra sw A ax cx bx si hX h6 hAl hc
  have h2 := hs.2.2.2.2.2.2.2.2.1 hk
  rw [xs_whE hk h2.2.2.2.1] at hAl hc
  rw [List.length_append] at hAl
  exact xs_testT hS hW hA h2.2.1 hst h hX h6 (by omega) hc
theorem xs_wh0 (hS : wl_At M0 76 pg_s1) (hW : pg_W P np ne ns) (hA : sr_A P np ne n p r g x) (hk : pg_sk P s = 3) (hs : pg_Ws P np ne s) (hst : st < 500) (h : xe_V u0 P M0 n p r g x (n - 1) (pg_sx P s) (st + 1) 0 st1) : xs_V u0 P M0 n p r g s x st C O x st1 C O := by
  intro tb ra sw A ax cx bx si hX h6 hAl hc
  have h2 := hs.2.2.2.2.2.2.2.2.1 hk
  rw [xs_whE hk h2.2.2.2.1] at hAl hc ⊢
  simp only [List.length_append, List.length_cons, pg_wdl] at hAl ⊢
  obtain ⟨cx', bx', si', k⟩ := xs_test (C := C) (O := O) (ax := ax) (cx := cx) (bx := bx) (si := si) hS hW hA h2.2.1 hst (by decide) h hX h6 (by omega) hc
  refine ⟨sw, 0 &&& 65535, cx', bx', si', hX, fun post hp => k post ?_⟩
  rw [if_pos rfl]
  refine Eq.mp ?_ hp
  exact congrArg (fun z => ra_R u0 M0 post sw (tb (n - 1) + 4) st1 n (0 &&& 65535) cx' bx' (tb (n - 1)) si' z C O) (by omega)
/-- into the loop's body, and back -/
theorem xs_wh1 (hS : wl_At M0 76 pg_s1) (hW : pg_W P np ne ns) (hA : sr_A P np ne n p r g x) (hk : pg_sk P s = 3) (hs : pg_Ws P np ne s) (hst : st < 500) (hv : v.toInt16.toInt32 = v) (hv0 : v ≠ 0) (h : xe_V u0 P M0 n p r g x (n - 1) (pg_sx P s) (st + 1) v st1) {tb ra : Nat → Nat} {sw : Nat → Int32} {A : Nat} {ax cx bx si : Int32} (hX : sr_X P M0 n p r g x tb ra sw) (h6 : 64 ≤ A) (hAl : A + (pg_S P (p (n - 1)) s A).length ≤ 3240) (hc : wl_At M0 A (pg_S P (p (n - 1)) s A)) :
    ∃ (A1 : Nat) (ax1 cx1 bx1 si1 : Int32), 64 ≤ A1 ∧ A1 + (pg_S P (p (n - 1)) (pg_sy P s) A1).length ≤ 3240 ∧ wl_At M0 A1 (pg_S P (p (n - 1)) (pg_sy P s) A1) ∧
      (∀ post : Int32 → SX → Prop, ra_R u0 M0 post sw (tb (n - 1) + 4) st1 n ax1 cx1 bx1 (tb (n - 1)) si1 A1 C O → ra_R u0 M0 post sw (tb (n - 1) + 4) st n ax cx bx (tb (n - 1)) si A C O) ∧
      (∀ (post : Int32 → SX → Prop) (sw' : Nat → Int32) (st' C' : Nat) (O' : Nat → Int32) (ax' cx' bx' si' : Int32), ra_R u0 M0 post sw' (tb (n - 1) + 4) st' n ax' cx' bx' (tb (n - 1)) si' A C' O' → ra_R u0 M0 post sw' (tb (n - 1) + 4) st' n ax' cx' bx' (tb (n - 1)) si' (A1 + (pg_S P (p (n - 1)) (pg_sy P s) A1).length) C' O') := by
  have h2 := hs.2.2.2.2.2.2.2.2.1 hk
  rw [xs_whE hk h2.2.2.2.1] at hAl hc
  simp only [List.length_append, List.length_cons, pg_wdl] at hAl
  have hc2 := wl_r (b := A + (pg_ts P (p (n - 1)) (pg_sx P s) A).length + 2) (wl_r (b := A + (pg_ts P (p (n - 1)) (pg_sx P s) A).length) hc rfl) rfl
  have hc3 := wl_r (b := A + (pg_ts P (p (n - 1)) (pg_sx P s) A).length + 2 + (pg_S P (p (n - 1)) (pg_sy P s) (A + (pg_ts P (p (n - 1)) (pg_sx P s) A).length + 2)).length) hc2 rfl
  obtain ⟨cx', bx', si', k⟩ := xs_test (C := C) (O := O) (ax := ax) (cx := cx) (bx := bx) (si := si) hS hW hA h2.2.1 hst hv h hX h6 (by omega) hc
  refine ⟨_, v &&& 65535, cx', bx', si', ?_, ?_, wl_l hc2, fun post hp => k post ?_, fun post sw' st' C' O' ax' cx' bx' si' hp => ?_⟩
  · omega
  · omega
  · rw [if_neg hv0]; exact hp
  · refine ra_jmp (A' := A) hc3 (by omega) (by omega) ?_ hp
    rw [rb_wd]
    exact rb_rel (by omega) (by omega)
theorem xs_whV {x1 : Nat → Int32} {st2 C1 : Nat} {O1 : Nat → Int32} (hS : wl_At M0 76 pg_s1) (hW : pg_W P np ne ns) (hA : sr_A P np ne n p r g x) (hk : pg_sk P s = 3) (hs : pg_Ws P np ne s) (hst : st < 500) (hv : v.toInt16.toInt32 = v) (hv0 : v ≠ 0) (h : xe_V u0 P M0 n p r g x (n - 1) (pg_sx P s) (st + 1) v st1)
    (h1 : xs_V u0 P M0 n p r g (pg_sy P s) x st1 C O x1 st2 C1 O1) (h2 : xs_V u0 P M0 n p r g s x1 st2 C1 O1 x' st' C' O') : xs_V u0 P M0 n p r g s x st C O x' st' C' O' := by
  intro tb ra sw A ax cx bx si hX h6 hAl hc
  obtain ⟨A1, ax1, cx1, bx1, si1, b1, b2, b3, b4, b5⟩ := xs_wh1 (C := C) (O := O) (ax := ax) (cx := cx) (bx := bx) (si := si) hS hW hA hk hs hst hv hv0 h hX h6 hAl hc
  obtain ⟨sw2, ax2, cx2, bx2, si2, hX2, k2⟩ := h1 tb ra sw A1 ax1 cx1 bx1 si1 hX b1 b2 b3
  obtain ⟨sw3, ax3, cx3, bx3, si3, hX3, k3⟩ := h2 tb ra sw2 A ax2 cx2 bx2 si2 hX2 h6 hAl hc
  exact ⟨sw3, ax3, cx3, bx3, si3, hX3, fun post hp => b4 post (k2 post (b5 post _ _ _ _ _ _ _ _ (k3 post hp)))⟩
theorem xs_whX1 {rc : Int32} (hS : wl_At M0 76 pg_s1) (hW : pg_W P np ne ns) (hA : sr_A P np ne n p r g x) (hk : pg_sk P s = 3) (hs : pg_Ws P np ne s) (hst : st < 500) (hv : v.toInt16.toInt32 = v) (hv0 : v ≠ 0) (h : xe_V u0 P M0 n p r g x (n - 1) (pg_sx P s) (st + 1) v st1)
    (h1 : xs_X u0 P M0 n p r g (pg_sy P s) x st1 C O rc x' st' C' O') : xs_X u0 P M0 n p r g s x st C O rc x' st' C' O' := by
  intro tb ra sw A ax cx bx si hX h6 hAl hc
  obtain ⟨A1, ax1, cx1, bx1, si1, b1, b2, b3, b4, b5⟩ := xs_wh1 (C := C) (O := O) (ax := ax) (cx := cx) (bx := bx) (si := si) hS hW hA hk hs hst hv hv0 h hX h6 hAl hc
  obtain ⟨sw2, hm, k2⟩ := h1 tb ra sw A1 ax1 cx1 bx1 si1 hX b1 b2 b3
  exact ⟨sw2, hm, fun post hp => b4 post (k2 post hp)⟩
theorem xs_whX2 {rc : Int32} {x1 : Nat → Int32} {st2 C1 : Nat} {O1 : Nat → Int32} (hS : wl_At M0 76 pg_s1) (hW : pg_W P np ne ns) (hA : sr_A P np ne n p r g x) (hk : pg_sk P s = 3) (hs : pg_Ws P np ne s) (hst : st < 500) (hv : v.toInt16.toInt32 = v) (hv0 : v ≠ 0) (h : xe_V u0 P M0 n p r g x (n - 1) (pg_sx P s) (st + 1) v st1)
    (h1 : xs_V u0 P M0 n p r g (pg_sy P s) x st1 C O x1 st2 C1 O1) (h2 : xs_X u0 P M0 n p r g s x1 st2 C1 O1 rc x' st' C' O') : xs_X u0 P M0 n p r g s x st C O rc x' st' C' O' := by
  intro tb ra sw A ax cx bx si hX h6 hAl hc
  obtain ⟨A1, ax1, cx1, bx1, si1, b1, b2, b3, b4, b5⟩ := xs_wh1 (C := C) (O := O) (ax := ax) (cx := cx) (bx := bx) (si := si) hS hW hA hk hs hst hv hv0 h hX h6 hAl hc
  obtain ⟨sw2, ax2, cx2, bx2, si2, hX2, k2⟩ := h1 tb ra sw A1 ax1 cx1 bx1 si1 hX b1 b2 b3
  obtain ⟨sw3, hm, k3⟩ := h2 tb ra sw2 A ax2 cx2 bx2 si2 hX2 h6 hAl hc
  exact ⟨sw3, hm, fun post hp => b4 post (k2 post (b5 post _ _ _ _ _ _ _ _ (k3 post hp)))⟩
/-! a variable is set -/
theorem sr_set (hW : pg_W P np ne ns) (hA : sr_A P np ne n p r g x) {tb ra : Nat → Nat} {sw : Nat → Int32} (hX : sr_X P M0 n p r g x tb ra sw) {j k : Nat} (hj : j < n) (hk : k < 5) (hm : 1 < k ∨ pg_md P (p j) k = 1) (v : Int32) :
    sr_X P M0 n p r g (upd x (5 * j + k) v) tb ra (upd sw (sr_ix P p tb j k) (v &&& 65535)) := by
  have hj0 : ¬ 1 < k → 0 < j := fun h => sr_pos hW hA hj (k := k) (by omega)
  have t2 : ∀ i, i < n → 2 ≤ tb i := fun i hi => sr_tb2 hX hi
  have tm : ∀ a b, a < b → b < n → tb a + 6 + (pg_md P (p b) 0 + pg_md P (p b) 1) ≤ tb b := fun a b h h2 => sr_tb hX b a h h2
  have ek : k = 0 ∨ k = 1 ∨ (1 < k) := by omega
  have xj : sr_ix P p tb j k = (if 1 < k then tb j + (k - 1) else if k = 1 then tb j - 3 else tb j - 3 - pg_md P (p j) 1) := rfl
  -- three words that no variable's word is
  have key : ∀ i, i < n → sr_ix P p tb j k ≠ tb i ∧ sr_ix P p tb j k ≠ tb i - 1 ∧ (0 < i → sr_ix P p tb j k ≠ tb i - 2) := by
    intro i hi
    have a1 := t2 i hi
    have a2 := t2 j hj
    rcases Nat.lt_trichotomy i j with h | h | h
    · have a3 := tm i j h hj
      rw [xj]
      rcases ek with z | z | z
      · subst z
        rw [if_neg (by omega), if_neg (by omega)]
        have : pg_md P (p j) 0 = 1 := by omega
        omega
      · subst z
        rw [if_neg (by omega), if_pos rfl]
        have : pg_md P (p j) 1 = 1 := by omega
        omega
      · rw [if_pos z]; omega
    · subst h
      rw [xj]
      rcases ek with z | z | z
      · subst z
        rw [if_neg (by omega), if_neg (by omega)]
        have a3 := tm 0 i (hj0 (by omega)) hi
        omega
      · subst z
        rw [if_neg (by omega), if_pos rfl]
        have a3 := tm 0 i (hj0 (by omega)) hi
        omega
      · rw [if_pos z]; omega
    · have a3 := tm j i h hi
      rw [xj]
      rcases ek with z | z | z
      · subst z
        rw [if_neg (by omega), if_neg (by omega)]; omega
      · subst z
        rw [if_neg (by omega), if_pos rfl]; omega
      · rw [if_pos z]; omega
  have key2 : ∀ i m, i < n → m < 5 → (1 < m ∨ pg_md P (p i) m = 1 ∨ pg_md P (p i) m = 2) → (i ≠ j ∨ m ≠ k) → sr_ix P p tb j k ≠ sr_ix P p tb i m ∧ (m < 2 → pg_md P (p i) m = 2 → sr_ix P p tb j k ≠ sr_ix P p tb i m - 1) := by
    intro i m hi h5 hmm hne
    have a1 := t2 i hi
    have a2 := t2 j hj
    have hi0 : ¬ 1 < m → 0 < i := fun h => sr_pos hW hA hi (k := m) (by omega)
    have xi : sr_ix P p tb i m = (if 1 < m then tb i + (m - 1) else if m = 1 then tb i - 3 else tb i - 3 - pg_md P (p i) 1) := rfl
    have em : m = 0 ∨ m = 1 ∨ (1 < m) := by omega
    rw [xj, xi]
    rcases Nat.lt_trichotomy i j with h | h | h
    · have a3 := tm i j h hj
      rcases ek with z | z | z
      · subst z
        have : pg_md P (p j) 0 = 1 := by omega
        rw [if_neg (by omega), if_neg (by omega)]
        rcases em with y | y | y
        · subst y; rw [if_neg (by omega), if_neg (by omega)]; exact ⟨by omega, fun _ _ => by omega⟩
        · subst y; rw [if_neg (by omega), if_pos rfl]; exact ⟨by omega, fun _ _ => by omega⟩
        · rw [if_pos y]; exact ⟨by omega, fun _ _ => by omega⟩
      · subst z
        have : pg_md P (p j) 1 = 1 := by omega
        rw [if_neg (by omega), if_pos rfl]
        rcases em with y | y | y
        · subst y; rw [if_neg (by omega), if_neg (by omega)]; exact ⟨by omega, fun _ _ => by omega⟩
        · subst y; rw [if_neg (by omega), if_pos rfl]; exact ⟨by omega, fun _ _ => by omega⟩
        · rw [if_pos y]; exact ⟨by omega, fun _ _ => by omega⟩
      · rw [if_pos z]
        rcases em with y | y | y
        · subst y; rw [if_neg (by omega), if_neg (by omega)]; exact ⟨by omega, fun _ _ => by omega⟩
        · subst y; rw [if_neg (by omega), if_pos rfl]; exact ⟨by omega, fun _ _ => by omega⟩
        · rw [if_pos y]; exact ⟨by omega, fun _ _ => by omega⟩
    · subst h
      have hmk : m ≠ k := by omega
      rcases ek with z | z | z
      · subst z
        have a3 := tm 0 i (hj0 (by omega)) hi
        have : pg_md P (p i) 0 = 1 := by omega
        rw [if_neg (by omega), if_neg (by omega)]
        rcases em with y | y | y
        · omega
        · subst y; rw [if_neg (by omega), if_pos rfl]; exact ⟨by omega, fun _ _ => by omega⟩
        · rw [if_pos y]; exact ⟨by omega, fun _ _ => by omega⟩
      · subst z
        have a3 := tm 0 i (hj0 (by omega)) hi
        have : pg_md P (p i) 1 = 1 := by omega
        rw [if_neg (by omega), if_pos rfl]
        rcases em with y | y | y
        · subst y; rw [if_neg (by omega), if_neg (by omega)]; exact ⟨by omega, fun _ _ => by omega⟩
        · omega
        · rw [if_pos y]; exact ⟨by omega, fun _ _ => by omega⟩
      · rw [if_pos z]
        rcases em with y | y | y
        · subst y; rw [if_neg (by omega), if_neg (by omega)]; exact ⟨by omega, fun _ _ => by omega⟩
        · subst y; rw [if_neg (by omega), if_pos rfl]; exact ⟨by omega, fun _ _ => by omega⟩
        · rw [if_pos y]; exact ⟨by omega, fun _ _ => by omega⟩
    · have a3 := tm j i h hi
      have hI : ∀ (w : Nat), (w = tb j + (k - 1) ∨ w = tb j - 3 ∨ w = tb j - 3 - pg_md P (p j) 1) → w < tb j + 4 := by omega
      have hJ : (if 1 < k then tb j + (k - 1) else if k = 1 then tb j - 3 else tb j - 3 - pg_md P (p j) 1) < tb j + 4 := by
        apply hI
        split
        · exact Or.inl rfl
        · split
          · exact Or.inr (Or.inl rfl)
          · exact Or.inr (Or.inr rfl)
      rcases em with y | y | y
      · subst y
        rw [if_neg (show ¬ 1 < 0 by omega), if_neg (show ¬ (0 = 1) by omega)]
        exact ⟨by omega, fun _ _ => by omega⟩
      · subst y
        rw [if_neg (show ¬ 1 < 1 by omega), if_pos (show (1 = 1) from rfl)]
        exact ⟨by omega, fun _ _ => by omega⟩
      · rw [if_pos y]
        exact ⟨by omega, fun _ _ => by omega⟩
  refine ⟨hX.1, hX.2.1, fun i hi h0 => ?_, fun i hi => ?_, fun i hi => ?_, fun i m hi h5 hmm => ?_, fun i m hi h5 hmm => ?_⟩
  · rw [pk_un (Ne.symm ((key i hi).2.2 h0))]; exact hX.2.2.1 i hi h0
  · rw [pk_un (Ne.symm (key i hi).2.1)]; exact hX.2.2.2.1 i hi
  · rw [pk_un (Ne.symm (key (i + 1) hi).1)]; exact hX.2.2.2.2.1 i hi
  · by_cases h : i = j ∧ m = k
    · rw [h.1, h.2, pk_us, pk_us]
    · have hne : i ≠ j ∨ m ≠ k := by omega
      rw [pk_un (Ne.symm (key2 i m hi h5 (by omega) hne).1), pk_un (by omega)]
      exact hX.2.2.2.2.2.1 i m hi h5 hmm
  · have hne : i ≠ j ∨ m ≠ k := by
      by_cases h : i = j
      · right
        intro z
        subst h
        subst z
        omega
      · exact Or.inl h
    have k2 := key2 i m hi (by omega) (by omega) hne
    rw [pk_un (Ne.symm k2.1), pk_un (Ne.symm (k2.2 h5 hmm)), pk_un (by omega)]
    exact hX.2.2.2.2.2.2 i m hi h5 hmm
theorem sr_setA (hA : sr_A P np ne n p r g x) {j k : Nat} (hj : j < n) (hk : k < 5) (hm : 1 < k ∨ pg_md P (p j) k = 1) (hv : v.toInt16.toInt32 = v) : sr_A P np ne n p r g (upd x (5 * j + k) v) := by
  refine ⟨hA.1, hA.2.1, hA.2.2.1, hA.2.2.2.1, hA.2.2.2.2.1, fun i m hi h2 hmm => ?_, fun i m hi h5 hmm => ?_⟩
  · have hne : 5 * i + m ≠ 5 * j + k := by
      intro z
      have h1 : i = j := by omega
      have h3 : m = k := by omega
      subst h1
      subst h3
      omega
    rw [pk_un hne]
    exact hA.2.2.2.2.2.1 i m hi h2 hmm
  · by_cases h : 5 * i + m = 5 * j + k
    · rw [h, pk_us]; exact hv
    · rw [pk_un h]; exact hA.2.2.2.2.2.2 i m hi h5 hmm
end
end
section
/-! the code of statements, on: set -/
section
variable {u0 : SX} {P : pg_P} {np ne ns : Nat} {M0 : Nat → Int32} {n : Nat} {p r g : Nat → Nat} {x x' : Nat → Int32} {s st st1 st' C C' i : Nat} {O O' : Nat → Int32} {v : Int32}
theorem xe_st (hW : pg_W P np ne ns) (hA : sr_A P np ne n p r g x) (hi : i < n) {v : Nat} (hs : pg_sn P np (p i) v) {tb ra : Nat → Nat} {sw O : Nat → Int32} {T A C : Nat} {ax cx bx si : Int32} {l : List Int32} (hX : sr_X P M0 n p r g x tb ra sw) (hT : tb (n - 1) + 4 ≤ T) (hT4 : T ≤ 400) (h6 : 64 ≤ A) (hl : A + 3 * pg_h P (p i) (v / 5) + 3 ≤ 3250)
    (hc : wl_At M0 A (pg_ff (pg_h P (p i) (v / 5)) ++ 137 :: (if pg_h P (p i) (v / 5) = 0 then 70 else 71) :: pg_of P v :: l)) :
    ∃ bx' : Int32, ∀ post : Int32 → SX → Prop, ra_R u0 M0 post (upd sw (sr_ix P p tb (rb_it r (pg_h P (p i) (v / 5)) i) (v % 5)) (ax &&& 65535)) T st n ax cx bx' (tb i) si (A + 3 * pg_h P (p i) (v / 5) + 3) C O → ra_R u0 M0 post sw T st n ax cx bx (tb i) si A C O := by
  have hop := sr_hop hA 4 i hi hs.2.1
  have ho := sr_of hW hA hX (j := rb_it r (pg_h P (p i) (v / 5)) i) (by have := hop.1; unfold pg_h; omega) hop.2.1 hs.2.2
  have hx := sr_ixl hX (i := rb_it r (pg_h P (p i) (v / 5)) i) (k := v % 5) (by have := hop.1; unfold pg_h; omega) (Nat.mod_lt _ (by omega))
  have hL := sr_L hA hX hT
  have hj : ∀ j, j < pg_h P (p i) (v / 5) → 0 < rb_it r j i := hop.2.2
  generalize pg_h P (p i) (v / 5) = h at *
  cases h with
  | zero =>
    refine ⟨bx, fun post k => ?_⟩
    exact ra_st_bp (t := sr_ix P p tb i (v % 5)) hc (by omega) (by omega) ho (by exact Nat.lt_of_lt_of_le hx hT) hT4 k
  | succ h =>
    refine ⟨nI (4092 - 2 * tb (rb_it r (h + 1) i)), fun post k => ?_⟩
    refine rb_ff hL hT4 hi hj hc h6 (by omega) ?_
    exact ra_st_bx (t := sr_ix P p tb (rb_it r (h + 1) i) (v % 5)) (wl_r hc (by rw [rb_ffl])) (by omega) (by omega) rfl ho (by exact Nat.lt_of_lt_of_le hx hT) hT4 k
theorem xs_setE (hk : pg_sk P s = 0) (q A : Nat) : pg_S P q s A = pg_tk A ++ (pg_E P q (pg_sy P s) (A + 3) ++ pg_st P q (pg_sx P s) (A + 3 + (pg_E P q (pg_sy P s) (A + 3)).length)) := by
  rw [pg_S, if_neg (by omega), if_pos hk]
theorem xs_setT (hS : wl_At M0 76 pg_s1) (hW : pg_W P np ne ns) (hA : sr_A P np ne n p r g x) (hk : pg_sk P s = 0) (he : pg_sy P s < ne) (hst : st < 500) (h : xe_T u0 P M0 n p r g x (n - 1) (pg_sy P s) (st + 1)) : xs_X u0 P M0 n p r g s x st C O 1 x 500 C O := by
  intro tb ra sw A ax cx bx si hX h6 hAl hc
  rw [xs_setE hk] at hAl hc
  simp only [List.length_append, pg_tkl] at hAl
  exact xs_expT hS hW hA he hst h hX h6 (by omega) hc
theorem xs_setV (hS : wl_At M0 76 pg_s1) (hW : pg_W P np ne ns) (hA : sr_A P np ne n p r g x) (hk : pg_sk P s = 0) (he : pg_sy P s < ne) (hs : pg_sn P np (p (n - 1)) (pg_sx P s)) (hb : ¬ pg_bn P (pg_sx P s)) (hst : st < 500) (h : xe_V u0 P M0 n p r g x (n - 1) (pg_sy P s) (st + 1) v st1) :
    xs_V u0 P M0 n p r g s x st C O (upd x (5 * rb_it r (pg_h P (p (n - 1)) (pg_sx P s / 5)) (n - 1) + pg_sx P s % 5) v) st1 C O := by
  intro tb ra sw A ax cx bx si hX h6 hAl hc
  have hn := hA.1
  have hi : n - 1 < n := by omega
  rw [xs_setE hk] at hAl hc ⊢
  simp only [List.length_append, pg_tkl] at hAl ⊢
  have hE : pg_st P (p (n - 1)) (pg_sx P s) (A + 3 + (pg_E P (p (n - 1)) (pg_sy P s) (A + 3)).length) = pg_ff (pg_h P (p (n - 1)) (pg_sx P s / 5)) ++ [137, (if pg_h P (p (n - 1)) (pg_sx P s / 5) = 0 then 70 else 71), pg_of P (pg_sx P s)] := by
    rw [pg_st, if_neg hb]
  have hl : (pg_st P (p (n - 1)) (pg_sx P s) (A + 3 + (pg_E P (p (n - 1)) (pg_sy P s) (A + 3)).length)).length = 3 * pg_h P (p (n - 1)) (pg_sx P s / 5) + 3 := by
    rw [hE, List.length_append, rb_ffl]; rfl
  rw [hl] at hAl ⊢
  have ht := sr_top hW hA hX
  have hJ := sr_J hA hi hs
  obtain ⟨hc2, cx', bx', si', k⟩ := xs_exp (C := C) (O := O) (ax := ax) (cx := cx) (bx := bx) (si := si) hS hW hA he hst h hX h6 (by omega) hc
  rw [hE] at hc2
  obtain ⟨bx2, k2⟩ := xe_st (st := st1) (u0 := u0) (ax := v &&& 65535) (cx := cx') (bx := bx') (si := si') (O := O) (C := C) hW hA hi hs hX (Nat.le_refl _) (by omega) (by omega) (by omega) hc2
  refine ⟨_, v &&& 65535, cx', bx2, si', sr_set hW hA hX (Nat.lt_of_le_of_lt hJ.1 hi) (Nat.mod_lt _ (by omega)) (sr_val hW hA hi hs hb) v, fun post hp => k post (k2 post ?_)⟩
  rw [ww_ww]
  refine Eq.mp ?_ hp
  exact congrArg (fun z => ra_R u0 M0 post _ (tb (n - 1) + 4) st1 n (v &&& 65535) cx' bx2 (tb (n - 1)) si' z C O) (by omega)
theorem xs_stN (hb : pg_bn P (pg_sx P s)) (q A : Nat) : pg_st P q (pg_sx P s) A = 80 :: (pg_us P q (pg_sx P s) [185, 1, 0] (A + 1) ++ [88, 137, 7]) := by
  rw [pg_st, if_pos hb]
/-- by name: no step is left for it -/
theorem xs_setNT (hS : wl_At M0 76 pg_s1) (hW : pg_W P np ne ns) (hA : sr_A P np ne n p r g x) (hk : pg_sk P s = 0) (he : pg_sy P s < ne) (hb : pg_bn P (pg_sx P s)) (hst : st < 500) (h5 : st1 = 500) (h : xe_V u0 P M0 n p r g x (n - 1) (pg_sy P s) (st + 1) v st1) :
    xs_X u0 P M0 n p r g s x st C O 1 x 500 C O := by
  intro tb ra sw A ax cx bx si hX h6 hAl hc
  rw [xs_setE hk] at hAl hc
  simp only [List.length_append, pg_tkl] at hAl
  rw [xs_stN hb] at hAl hc
  simp only [List.length_append, List.length_cons, xu_len] at hAl
  have ht := sr_top hW hA hX
  obtain ⟨hc2, cx', bx', si', k⟩ := xs_exp (C := C) (O := O) (ax := ax) (cx := cx) (bx := bx) (si := si) hS hW hA he hst h hX h6 (by omega) hc
  refine ⟨sw, sr_main hA.1 hX, fun post hp => k post ?_⟩
  refine ra_push_ax hc2 (by omega) (by omega) (by omega) ?_
  have hc3 := hc2.2
  unfold pg_us at hc3
  rw [List.append_assoc] at hc3
  refine rb_tired hS hc3 (by omega) (by omega) (by omega) h5 ?_
  rw [h5]
  exact ra_Hd (T' := 6) (by omega) (ra_Hext (fun t ht => pk_un (by omega)) hp)
theorem xs_setN {e' j k : Nat} (hS : wl_At M0 76 pg_s1) (hW : pg_W P np ne ns) (hA : sr_A P np ne n p r g x) (hk : pg_sk P s = 0) (he : pg_sy P s < ne) (hs : pg_sn P np (p (n - 1)) (pg_sx P s)) (hb : pg_bn P (pg_sx P s)) (hst : st < 500) (h5 : st1 < 500) (h : xe_V u0 P M0 n p r g x (n - 1) (pg_sy P s) (st + 1) v st1)
    (hx : x (5 * rb_it r (pg_h P (p (n - 1)) (pg_sx P s / 5)) (n - 1) + pg_sx P s % 5) = nI e') (he' : e' < ne) (hjn : j < n) (hk5 : k < 5) (hm : 1 < k ∨ pg_md P (p j) k = 1)
    (hr : pl_V u0 P M0 n p r g x (g (2 * rb_it r (pg_h P (p (n - 1)) (pg_sx P s / 5)) (n - 1) + pg_sx P s % 5)) e' (st1 + 1) j k st') : xs_V u0 P M0 n p r g s x st C O (upd x (5 * j + k) v) st' C O := by
  intro tb ra sw A ax cx bx si hX h6 hAl hc
  have hn := hA.1
  have h12 := hA.2.1
  have hi : n - 1 < n := by omega
  rw [xs_setE hk] at hAl hc ⊢
  simp only [List.length_append, pg_tkl] at hAl ⊢
  rw [xs_stN hb] at hAl hc ⊢
  simp only [List.length_append, List.length_cons, List.length_nil] at hAl ⊢
  have ht := sr_top hW hA hX
  have hw := (hW.2.2.2.2.1 e' he').2.2.2.2.1
  have ho := (sr_nm hW hA hi hs hb).1
  have hix := sr_ixl hX hjn hk5
  obtain ⟨hc2, cx', bx', si', k0⟩ := xs_exp (C := C) (O := O) (ax := ax) (cx := cx) (bx := bx) (si := si) hS hW hA he hst h hX h6 (by omega) hc
  have hX1 : sr_X P M0 n p r g x tb ra (upd sw (tb (n - 1) + 4) (v &&& 65535)) := sr_Xe hX (fun t ht => pk_un (by omega))
  obtain ⟨bx1, A1, a1, a2, a3, a4, k1⟩ := xu_call (st := st1) (u0 := u0) (ax := v &&& 65535) (cx := cx') (cx1 := 1) (bx := bx') (si := si') (O := O) (C := C) (T := tb (n - 1) + 4 + 1) hS hW hA hi hs hb h5 hx he' hX1 (by omega) (by omega) (by omega) (by omega) hc2.2 (Or.inr ⟨1, rfl, by decide⟩)
  obtain ⟨ax2, cx2, si2, k2⟩ := hr tb ra _ O (tb (n - 1) + 4 + 1 + 1) A1 C _ (v &&& 65535) bx1 (nI A1) (sr_X2 hX1 (by omega)) (by omega) (by omega) a1 a2 a3 pk_us
  rw [xu_len] at hAl ⊢
  simp only [List.length_cons, List.length_nil] at hAl a4 k1 k2 ⊢
  refine ⟨_, v &&& 65535, cx2, nI (4092 - 2 * sr_ix P p tb j k), si2, sr_set hW hA hX hjn hk5 hm v, fun post hp => k0 post ?_⟩
  refine ra_push_ax hc2 (by omega) (by omega) (by omega) ?_
  rw [ww_ww]
  refine k1 post (k2 post ?_)
  refine xu_back (by omega) (by omega) (by omega) a4 ?_
  refine ra_pop_ax (wl_d 1 a4) (by omega) (by omega) (by omega) ?_
  rw [pk_us]
  refine ra_st_0 (t := sr_ix P p tb j k) (wl_d 2 a4) (by omega) (by omega) rfl hix (by omega) ?_
  rw [ww_ww]
  refine ra_ext (sw := upd sw (sr_ix P p tb j k) (v &&& 65535)) (fun t ht => ?_) ?_
  · by_cases e : t = sr_ix P p tb j k
    · rw [e, pk_us, pk_us]
    · rw [pk_un e, pk_un e, pk_un (by omega)]
  · refine Eq.mp ?_ hp
    exact congrArg (fun z => ra_R u0 M0 post _ (tb (n - 1) + 4) st' n (v &&& 65535) cx2 (nI (4092 - 2 * sr_ix P p tb j k)) (tb (n - 1)) si2 z C O) (by omega)
theorem xs_setNX {e' : Nat} {rc : Int32} (hS : wl_At M0 76 pg_s1) (hW : pg_W P np ne ns) (hA : sr_A P np ne n p r g x) (hk : pg_sk P s = 0) (he : pg_sy P s < ne) (hs : pg_sn P np (p (n - 1)) (pg_sx P s)) (hb : pg_bn P (pg_sx P s)) (hst : st < 500) (h5 : st1 < 500) (h : xe_V u0 P M0 n p r g x (n - 1) (pg_sy P s) (st + 1) v st1)
    (hx : x (5 * rb_it r (pg_h P (p (n - 1)) (pg_sx P s / 5)) (n - 1) + pg_sx P s % 5) = nI e') (he' : e' < ne)
    (hr : pl_X u0 P M0 n p r g x (g (2 * rb_it r (pg_h P (p (n - 1)) (pg_sx P s / 5)) (n - 1) + pg_sx P s % 5)) e' (st1 + 1) rc st') : xs_X u0 P M0 n p r g s x st C O rc x st' C O := by
  intro tb ra sw A ax cx bx si hX h6 hAl hc
  have hn := hA.1
  have h12 := hA.2.1
  have hi : n - 1 < n := by omega
  rw [xs_setE hk] at hAl hc
  simp only [List.length_append, pg_tkl] at hAl
  rw [xs_stN hb] at hAl hc
  simp only [List.length_append, List.length_cons, List.length_nil] at hAl
  have ht := sr_top hW hA hX
  have hw := (hW.2.2.2.2.1 e' he').2.2.2.2.1
  have ho := (sr_nm hW hA hi hs hb).1
  obtain ⟨hc2, cx', bx', si', k0⟩ := xs_exp (C := C) (O := O) (ax := ax) (cx := cx) (bx := bx) (si := si) hS hW hA he hst h hX h6 (by omega) hc
  have hX1 : sr_X P M0 n p r g x tb ra (upd sw (tb (n - 1) + 4) (v &&& 65535)) := sr_Xe hX (fun t ht => pk_un (by omega))
  obtain ⟨bx1, A1, a1, a2, a3, a4, k1⟩ := xu_call (st := st1) (u0 := u0) (ax := v &&& 65535) (cx := cx') (cx1 := 1) (bx := bx') (si := si') (O := O) (C := C) (T := tb (n - 1) + 4 + 1) hS hW hA hi hs hb h5 hx he' hX1 (by omega) (by omega) (by omega) (by omega) hc2.2 (Or.inr ⟨1, rfl, by decide⟩)
  refine ⟨sw, sr_main hA.1 hX, fun post hp => k0 post ?_⟩
  refine ra_push_ax hc2 (by omega) (by omega) (by omega) ?_
  rw [ww_ww]
  refine k1 post (hr tb ra _ O (tb (n - 1) + 4 + 1 + 1) A1 C _ (v &&& 65535) bx1 (nI A1) (sr_X2 hX1 (by omega)) (by omega) (by omega) a1 a2 a3 pk_us post ?_)
  exact ra_Hd (T' := 6) (by omega) (ra_Hext (fun t ht => by rw [pk_un (by omega), pk_un (by omega), pk_un (by omega)]) hp)
end
end
section
/-! the code of calls -/
def sr_u (f : Nat → Nat) (k y : Nat) : Nat → Nat := fun j => if j = k then y else f j
theorem sr_us {f : Nat → Nat} {k y : Nat} : sr_u f k y k = y := if_pos rfl
theorem sr_un {f : Nat → Nat} {k y j : Nat} (h : j ≠ k) : sr_u f k y j = f j := if_neg h
def sr_g (g : Nat → Nat) (n : Nat) : Nat → Nat := fun j => if j < 2 * n then g j else n - 1
def sr_v (x : Nat → Int32) (n : Nat) (y0 y1 : Int32) : Nat → Int32 := fun i => if i < 5 * n then x i else if i = 5 * n then y0 else if i = 5 * n + 1 then y1 else 0
theorem sr_v0 {x : Nat → Int32} {n : Nat} {y0 y1 : Int32} : sr_v x n y0 y1 (5 * n + 0) = y0 := by
  unfold sr_v; rw [if_neg (by omega), if_pos (by omega)]
theorem sr_v1 {x : Nat → Int32} {n : Nat} {y0 y1 : Int32} : sr_v x n y0 y1 (5 * n + 1) = y1 := by
  unfold sr_v; rw [if_neg (by omega), if_neg (by omega), if_pos rfl]
theorem sr_v2 {x : Nat → Int32} {n k : Nat} {y0 y1 : Int32} (h : 1 < k) : sr_v x n y0 y1 (5 * n + k) = 0 := by
  unfold sr_v; rw [if_neg (by omega), if_neg (by omega), if_neg (by omega)]
/-- the activation below goes on when the one above has ended -/
theorem sr_pop {P : pg_P} {np ne : Nat} {M0 : Nat → Int32} {n c j tn rn : Nat} {p r g : Nat → Nat} {x0 x : Nat → Int32} {tb ra : Nat → Nat} {sw : Nat → Int32} (hA : sr_A P np ne n p r g x0) (hX : sr_X P M0 (n + 1) (sr_u p n c) (sr_u r n j) (sr_g g n) x (sr_u tb n tn) (sr_u ra n rn) sw) : sr_X P M0 n p r g x tb ra sw := by
  have hn := hA.1
  have ix : ∀ i k, i < n → sr_ix P (sr_u p n c) (sr_u tb n tn) i k = sr_ix P p tb i k := by
    intro i k hi
    unfold sr_ix
    rw [sr_un (by omega), sr_un (by omega)]
  refine ⟨?_, fun i hi => ?_, fun i hi h0 => ?_, fun i hi => ?_, fun i hi => ?_, fun i k hi hk hm => ?_, fun i k hi hk hm => ?_⟩
  · have := hX.1
    rw [sr_un (by omega)] at this
    exact this
  · have := hX.2.1 i (by omega)
    rw [sr_un (by omega), sr_un (by omega), sr_un (by omega)] at this
    exact this
  · have := hX.2.2.1 i (by omega) h0
    have hr := (hA.2.2.2.2.1 i hi h0).2.1
    have er : sr_u r n j i = r i := sr_un (by omega)
    rw [er, sr_un (by omega), sr_un (by omega)] at this
    exact this
  · have := hX.2.2.2.1 i (by omega)
    rw [sr_un (by omega), sr_un (by omega)] at this
    exact this
  · have := hX.2.2.2.2.1 i (by omega)
    rw [sr_un (by omega), sr_un (by omega)] at this
    exact this
  · have := hX.2.2.2.2.2.1 i k (by omega) hk (by rw [sr_un (by omega)]; exact hm)
    rw [ix i k hi] at this
    exact this
  · obtain ⟨A, a1, a2, a3, a4, a5⟩ := hX.2.2.2.2.2.2 i k (by omega) hk (by rw [sr_un (by omega)]; exact hm)
    have hg := (hA.2.2.2.2.2.1 i k hi hk hm).1
    have eg : sr_g g n (2 * i + k) = g (2 * i + k) := if_pos (by omega)
    rw [ix i k hi] at a3 a4
    rw [eg, sr_un (by omega)] at a2 a5
    rw [eg, sr_un (by omega)] at a4
    exact ⟨A, a1, a2, a3, a4, a5⟩
theorem sr_popA {P : pg_P} {np ne n c j : Nat} {p r g : Nat → Nat} {x0 x : Nat → Int32} (hA : sr_A P np ne n p r g x0) (hB : sr_A P np ne (n + 1) (sr_u p n c) (sr_u r n j) (sr_g g n) x) : sr_A P np ne n p r g x := by
  refine ⟨hA.1, hA.2.1, hA.2.2.1, hA.2.2.2.1, hA.2.2.2.2.1, fun i k hi hk hm => ?_, fun i k hi hk hm => ?_⟩
  · have := hB.2.2.2.2.2.1 i k (by omega) hk (by rw [sr_un (by omega)]; exact hm)
    have eg : sr_g g n (2 * i + k) = g (2 * i + k) := if_pos (by omega)
    have hg := (hA.2.2.2.2.2.1 i k hi hk hm).1
    rw [eg, sr_un (by omega)] at this
    exact this
  · exact hB.2.2.2.2.2.2 i k (by omega) hk (by rw [sr_un (by omega)]; exact hm)
/-- a new activation, as numbers -/
theorem sr_pushA {P : pg_P} {np ne ns n c j : Nat} {p r g : Nat → Nat} {x : Nat → Int32} {y0 y1 : Int32} {e0 e1 : Nat} (hW : pg_W P np ne ns) (hA : sr_A P np ne n p r g x) (h12 : n < 12) (hc : c < np) (hc0 : c ≠ 0) (hj : j < n) (hpj : p j = pg_pa P c)
    (h0 : pg_md P c 0 = 2 → y0 = nI e0 ∧ e0 < ne ∧ pg_FE P np (p (n - 1)) e0) (h1 : pg_md P c 1 = 2 → y1 = nI e1 ∧ e1 < ne ∧ pg_FE P np (p (n - 1)) e1) (s0 : pg_md P c 0 ≠ 2 → y0.toInt16.toInt32 = y0) (s1 : pg_md P c 1 ≠ 2 → y1.toInt16.toInt32 = y1) :
    sr_A P np ne (n + 1) (sr_u p n c) (sr_u r n j) (sr_g g n) (sr_v x n y0 y1) := by
  have hn := hA.1
  refine ⟨by omega, by omega, ?_, fun i hi => ?_, fun i hi h0' => ?_, fun i k hi hk hm => ?_, fun i k hi hk hm => ?_⟩
  · rw [sr_un (by omega)]; exact hA.2.2.1
  · by_cases h : i = n
    · rw [h, sr_us]; exact hc
    · rw [sr_un h]; exact hA.2.2.2.1 i (by omega)
  · by_cases h : i = n
    · rw [h, sr_us, sr_us, sr_un (by omega)]; exact ⟨hc0, hj, hpj⟩
    · have := hA.2.2.2.2.1 i (by omega) h0'
      rw [sr_un h, sr_un h, sr_un (by omega)]; exact this
  · by_cases h : i = n
    · have eg : sr_g g n (2 * i + k) = n - 1 := if_neg (by omega)
      rw [eg, h, sr_un (by omega)]
      rw [h, sr_us] at hm
      refine ⟨by omega, ?_⟩
      rcases (show k = 0 ∨ k = 1 by omega) with z | z
      · subst z
        rw [sr_v0]
        have := h0 hm
        exact ⟨e0, this.2.1, this.1, this.2.2⟩
      · subst z
        rw [sr_v1]
        have := h1 hm
        exact ⟨e1, this.2.1, this.1, this.2.2⟩
    · have eg : sr_g g n (2 * i + k) = g (2 * i + k) := if_pos (by omega)
      have ev : sr_v x n y0 y1 (5 * i + k) = x (5 * i + k) := if_pos (by omega)
      rw [sr_un h] at hm
      have := hA.2.2.2.2.2.1 i k (by omega) hk hm
      rw [eg, ev, sr_un (by omega)]
      exact this
  · by_cases h : i = n
    · rw [h, sr_us] at hm
      rw [h]
      unfold sr_v
      rw [if_neg (by omega)]
      by_cases k0 : k = 0
      · rw [if_pos (by omega)]; rw [k0] at hm; exact s0 (by omega)
      · rw [if_neg (by omega)]
        by_cases k1 : k = 1
        · rw [if_pos (by omega)]; rw [k1] at hm; exact s1 (by omega)
        · rw [if_neg (by omega)]; decide
    · have ev : sr_v x n y0 y1 (5 * i + k) = x (5 * i + k) := if_pos (by omega)
      rw [sr_un h] at hm
      rw [ev]
      exact hA.2.2.2.2.2.2 i k (by omega) hk hm
/-- a new activation, on the stack -/
theorem sr_pushX {P : pg_P} {np ne ns : Nat} {M0 : Nat → Int32} {n c j tn rn : Nat} {p r g : Nat → Nat} {x : Nat → Int32} {y0 y1 : Int32} {tb ra : Nat → Nat} {sw sw' : Nat → Int32} (hW : pg_W P np ne ns) (hA : sr_A P np ne n p r g x) (hX : sr_X P M0 n p r g x tb ra sw) (hc : c < np) (hj : j < n)
    (htn : tn = tb (n - 1) + 6 + pg_aw P c) (hlo : ∀ t, t < tb (n - 1) + 4 → sw' t = sw t) (w2 : sw' (tn - 2) = nI (4092 - 2 * tb j)) (w1 : sw' (tn - 1) = nI rn) (w0 : sw' tn = nI (4092 - 2 * tb (n - 1))) (wl : sw' (tn + 1) = 0 ∧ sw' (tn + 2) = 0 ∧ sw' (tn + 3) = 0)
    (a0 : pg_md P c 0 = 1 → sw' (tb (n - 1) + 4) = y0 &&& 65535) (a1 : pg_md P c 1 = 1 → sw' (tb (n - 1) + 4 + pg_md P c 0) = y1 &&& 65535)
    (b0 : pg_md P c 0 = 2 → ∃ A1, 64 ≤ A1 ∧ A1 + (pg_rt P (p (n - 1)) y0.toNatClampNeg A1).length ≤ 3240 ∧ sw' (tb (n - 1) + 4 + 1) = nI A1 ∧ sw' (tb (n - 1) + 4) = nI (4092 - 2 * tb (n - 1)) ∧ wl_At M0 A1 (pg_rt P (p (n - 1)) y0.toNatClampNeg A1))
    (b1 : pg_md P c 1 = 2 → ∃ A1, 64 ≤ A1 ∧ A1 + (pg_rt P (p (n - 1)) y1.toNatClampNeg A1).length ≤ 3240 ∧ sw' (tb (n - 1) + 4 + pg_md P c 0 + 1) = nI A1 ∧ sw' (tb (n - 1) + 4 + pg_md P c 0) = nI (4092 - 2 * tb (n - 1)) ∧ wl_At M0 A1 (pg_rt P (p (n - 1)) y1.toNatClampNeg A1)) :
    sr_X P M0 (n + 1) (sr_u p n c) (sr_u r n j) (sr_g g n) (sr_v x n y0 y1) (sr_u tb n tn) (sr_u ra n rn) sw' := by
  have hn := hA.1
  have hXo := sr_Xe hX hlo
  have ix : ∀ i k, i < n → sr_ix P (sr_u p n c) (sr_u tb n tn) i k = sr_ix P p tb i k := by
    intro i k hi
    unfold sr_ix
    rw [sr_un (by omega), sr_un (by omega)]
  have m0 := sr_md hW hc 0
  have m1 := sr_md hW hc 1
  have hw : pg_aw P c = pg_md P c 0 + pg_md P c 1 := rfl
  refine ⟨?_, fun i hi => ?_, fun i hi h0 => ?_, fun i hi => ?_, fun i hi => ?_, fun i k hi hk hm => ?_, fun i k hi hk hm => ?_⟩
  · rw [sr_un (by omega)]; exact hX.1
  · by_cases h : i + 1 = n
    · rw [h, sr_us, sr_us, sr_un (by omega), htn, show i = n - 1 by omega]
    · rw [sr_un h, sr_un h, sr_un (by omega)]; exact hX.2.1 i (by omega)
  · by_cases h : i = n
    · rw [h, sr_us, sr_us, sr_un (by omega)]; exact w2
    · have hr := (hA.2.2.2.2.1 i (by omega) h0).2.1
      rw [sr_un h, sr_un h, sr_un (by omega)]; exact hXo.2.2.1 i (by omega) h0
  · by_cases h : i = n
    · rw [h, sr_us, sr_us]; exact w1
    · rw [sr_un h, sr_un h]; exact hXo.2.2.2.1 i (by omega)
  · by_cases h : i + 1 = n
    · rw [h, sr_us, sr_un (by omega), show i = n - 1 by omega]; exact w0
    · rw [sr_un h, sr_un (by omega)]; exact hXo.2.2.2.2.1 i (by omega)
  · by_cases h : i = n
    · subst h
      rw [sr_us] at hm
      have e1 : sr_ix P (sr_u p i c) (sr_u tb i tn) i k = (if 1 < k then tn + (k - 1) else if k = 1 then tn - 3 else tn - 3 - pg_md P c 1) := by
        unfold sr_ix; rw [sr_us, sr_us]
      rw [e1]
      by_cases k0 : k = 0
      · subst k0
        have hm' : pg_md P c 0 = 1 := by omega
        rw [sr_v0, if_neg (by omega), if_neg (by omega), show tn - 3 - pg_md P c 1 = tb (i - 1) + 4 by omega]
        exact a0 hm'
      · by_cases k1 : k = 1
        · subst k1
          have hm' : pg_md P c 1 = 1 := by omega
          rw [sr_v1, if_neg (by omega), if_pos rfl, show tn - 3 = tb (i - 1) + 4 + pg_md P c 0 by omega]
          exact a1 hm'
        · rw [sr_v2 (by omega), if_pos (by omega)]
          rcases (show k = 2 ∨ k = 3 ∨ k = 4 by omega) with z | z | z
          · subst z; exact wl.1.trans (by decide)
          · subst z; exact wl.2.1.trans (by decide)
          · subst z; exact wl.2.2.trans (by decide)
    · have ev : sr_v x n y0 y1 (5 * i + k) = x (5 * i + k) := if_pos (by omega)
      rw [sr_un h] at hm
      rw [ix i k (by omega), ev]
      exact hXo.2.2.2.2.2.1 i k (by omega) hk hm
  · by_cases h : i = n
    · subst h
      rw [sr_us] at hm
      have e1 : sr_ix P (sr_u p i c) (sr_u tb i tn) i k = (if 1 < k then tn + (k - 1) else if k = 1 then tn - 3 else tn - 3 - pg_md P c 1) := by
        unfold sr_ix; rw [sr_us, sr_us]
      have eg : sr_g g i (2 * i + k) = i - 1 := if_neg (by omega)
      rw [e1, eg, sr_un (by omega), sr_un (by omega)]
      rcases (show k = 0 ∨ k = 1 by omega) with z | z
      · subst z
        obtain ⟨A1, c1, c2, c3, c4, c5⟩ := b0 hm
        rw [sr_v0, if_neg (by omega), if_neg (by omega), show tn - 3 - pg_md P c 1 = tb (i - 1) + 4 + 1 by omega]
        exact ⟨A1, c1, c2, c3, c4, c5⟩
      · subst z
        obtain ⟨A1, c1, c2, c3, c4, c5⟩ := b1 hm
        rw [sr_v1, if_neg (by omega), if_pos rfl, show tn - 3 = tb (i - 1) + 4 + pg_md P c 0 + 1 by omega]
        exact ⟨A1, c1, c2, c3, c4, c5⟩
    · have eg : sr_g g n (2 * i + k) = g (2 * i + k) := if_pos (by omega)
      have ev : sr_v x n y0 y1 (5 * i + k) = x (5 * i + k) := if_pos (by omega)
      rw [sr_un h] at hm
      have hg := (hA.2.2.2.2.2.1 i k (by omega) hk hm).1
      rw [ix i k (by omega), ev, eg, sr_un (by omega), sr_un (by omega)]
      exact hXo.2.2.2.2.2.2 i k (by omega) hk hm
/-- an argument comes to the stack -/
def ca_V (u0 : SX) (P : pg_P) (M0 : Nat → Int32) (n : Nat) (p r g : Nat → Nat) (x : Nat → Int32) (e m st : Nat) (y : Int32) (st' : Nat) : Prop :=
  ∀ (tb ra : Nat → Nat) (sw O : Nat → Int32) (T A C : Nat) (ax cx bx si : Int32), sr_X P M0 n p r g x tb ra sw → tb (n - 1) + 4 ≤ T → T + 18 * (n - 1) + 20 ≤ 400 → 64 ≤ A → A + (pg_am P (p (n - 1)) e m A).length ≤ 3240 → wl_At M0 A (pg_am P (p (n - 1)) e m A) →
    ∃ (sw' : Nat → Int32) (ax' cx' bx' si' : Int32), (∀ t, t < T → sw' t = sw t) ∧ (m = 1 → sw' T = y &&& 65535) ∧
      (m = 2 → y = nI e ∧ ∃ A1, 64 ≤ A1 ∧ A1 + (pg_rt P (p (n - 1)) e A1).length ≤ 3240 ∧ sw' (T + 1) = nI A1 ∧ sw' T = nI (4092 - 2 * tb (n - 1)) ∧ wl_At M0 A1 (pg_rt P (p (n - 1)) e A1)) ∧
      ∀ post : Int32 → SX → Prop, ra_R u0 M0 post sw' (T + m) st' n ax' cx' bx' (tb (n - 1)) si' (A + (pg_am P (p (n - 1)) e m A).length) C O → ra_R u0 M0 post sw T st n ax cx bx (tb (n - 1)) si A C O
def ca_T (u0 : SX) (P : pg_P) (M0 : Nat → Int32) (n : Nat) (p r g : Nat → Nat) (x : Nat → Int32) (e m st : Nat) : Prop :=
  ∀ (tb ra : Nat → Nat) (sw O : Nat → Int32) (T A C : Nat) (ax cx bx si : Int32), sr_X P M0 n p r g x tb ra sw → tb (n - 1) + 4 ≤ T → T + 18 * (n - 1) + 20 ≤ 400 → 64 ≤ A → A + (pg_am P (p (n - 1)) e m A).length ≤ 3240 → wl_At M0 A (pg_am P (p (n - 1)) e m A) →
    ∀ post : Int32 → SX → Prop, ra_H u0 M0 post sw T 500 1 C O → ra_R u0 M0 post sw T st n ax cx bx (tb (n - 1)) si A C O
section
variable {u0 : SX} {P : pg_P} {np ne ns : Nat} {M0 : Nat → Int32} {n : Nat} {p r g : Nat → Nat} {x x' : Nat → Int32} {s st st1 st' C C' e : Nat} {O O' : Nat → Int32} {v : Int32}
theorem ca_0 (y : Int32) : ca_V u0 P M0 n p r g x e 0 st y st := by
  intro tb ra sw O T A C ax cx bx si hX hT hN h6 hAl hc
  exact ⟨sw, ax, cx, bx, si, fun t _ => rfl, fun h => absurd h (by decide), fun h => absurd h (by decide), fun post h => h⟩
theorem ca_1 (hW : pg_W P np ne ns) (he : e < ne) (h : xe_V u0 P M0 n p r g x (n - 1) e st v st') : ca_V u0 P M0 n p r g x e 1 st v st' := by
  intro tb ra sw O T A C ax cx bx si hX hT hN h6 hAl hc
  have hw := (hW.2.2.2.2.1 e he).2.2.2.2.1
  have hE : pg_am P (p (n - 1)) e 1 A = pg_E P (p (n - 1)) e A ++ [80] := by
    rw [pg_am, if_neg (by omega), pg_ag, if_neg (by omega)]
  rw [hE] at hAl hc ⊢
  simp only [List.length_append, List.length_cons, List.length_nil] at hAl ⊢
  obtain ⟨cx', bx', si', k⟩ := h tb ra sw O T A C ax cx bx si hX hT (by omega) h6 (by omega) (wl_l hc)
  refine ⟨upd sw T (v &&& 65535), v &&& 65535, cx', bx', si', fun t ht => pk_un (by omega), fun _ => pk_us, fun h => absurd h (by decide), fun post hp => k post ?_⟩
  refine ra_push_ax (wl_r hc rfl) (by omega) (by omega) (by omega) ?_
  rw [ww_ww]
  exact hp
theorem ca_1T (hW : pg_W P np ne ns) (he : e < ne) (h : xe_T u0 P M0 n p r g x (n - 1) e st) : ca_T u0 P M0 n p r g x e 1 st := by
  intro tb ra sw O T A C ax cx bx si hX hT hN h6 hAl hc post hp
  have hw := (hW.2.2.2.2.1 e he).2.2.2.2.1
  have hE : pg_am P (p (n - 1)) e 1 A = pg_E P (p (n - 1)) e A ++ [80] := by
    rw [pg_am, if_neg (by omega), pg_ag, if_neg (by omega)]
  rw [hE] at hAl hc
  simp only [List.length_append, List.length_cons, List.length_nil] at hAl
  exact h tb ra sw O T A C ax cx bx si hX hT (by omega) h6 (by omega) (wl_l hc) post hp
theorem ca_2 : ca_V u0 P M0 n p r g x e 2 st (nI e) st := by
  intro tb ra sw O T A C ax cx bx si hX hT hN h6 hAl hc
  have hE : pg_am P (p (n - 1)) e 2 A = 233 :: (pg_wd (nI (pg_rt P (p (n - 1)) e (A + 3)).length) ++ (pg_rt P (p (n - 1)) e (A + 3) ++ 85 :: 184 :: (pg_wd (nI (A + 3)) ++ [80]))) := by
    rw [pg_am, if_neg (by omega), pg_ag, if_pos rfl]
  rw [hE] at hAl hc ⊢
  simp only [List.length_append, List.length_cons, List.length_nil, pg_wdl] at hAl ⊢
  have hc2 : wl_At M0 (A + 3) (pg_rt P (p (n - 1)) e (A + 3) ++ 85 :: 184 :: (pg_wd (nI (A + 3)) ++ [80])) := wl_d 3 hc
  have hc3 := wl_r (b := A + 3 + (pg_rt P (p (n - 1)) e (A + 3)).length) hc2 rfl
  refine ⟨upd (upd sw T (nI (4092 - 2 * tb (n - 1)))) (T + 1) (nI (A + 3)), nI (A + 3), cx, bx, si, fun t ht => by rw [pk_un (by omega), pk_un (by omega)], fun h => absurd h (by decide), fun _ => ⟨by trivial, A + 3, by omega, by omega, pk_us, by rw [pk_un (by omega), pk_us], wl_l hc2⟩, fun post hp => ?_⟩
  refine ra_jmp (A' := A + 3 + (pg_rt P (p (n - 1)) e (A + 3)).length) hc (by omega) (by omega) (by rw [rb_wd, rb_fw (by omega)]) ?_
  refine ra_push_bp hc3 (by omega) (by omega) (by omega) ?_
  refine ra_movi_ax (w := nI (A + 3)) (wl_d 1 hc3) (by omega) (by omega) (by rw [rb_wd, ww_nI (by omega)]) ?_
  refine ra_push_ax (wl_d 4 hc3) (by omega) (by omega) (by omega) ?_
  rw [ww_nI (by omega)]
  refine Eq.mp ?_ hp
  exact congrArg (fun z => ra_R u0 M0 post _ (T + 2) st n (nI (A + 3)) cx bx (tb (n - 1)) si z C O) (by omega)
end
end
section
/-! calls: into a procedure, and back -/
section
variable {u0 : SX} {P : pg_P} {np ne ns : Nat} {M0 sw : Nat → Int32} {n : Nat} {p r g : Nat → Nat} {x x' : Nat → Int32} {s st st1 st2 st' C C' A T na b : Nat} {O O' : Nat → Int32} {ax cx bx si : Int32} {post : Int32 → SX → Prop} {l : List Int32}
theorem cp_ok (hc : wl_At M0 A (pg_hd ++ l)) (h6 : 64 ≤ A) (hA : A + 24 ≤ 3250) (hT : T + 4 ≤ 400) (hna : na < 12) (h : ra_R u0 M0 post (upd (upd (upd (upd sw T (nI (4092 - 2 * b))) (T + 1) 0) (T + 2) 0) (T + 3) 0) (T + 4) st (na + 1) 0 cx bx T si (A + 24) C O) : ra_R u0 M0 post sw T st na ax cx bx b si A C O := by
  refine ra_push_bp hc (by omega) (by omega) (by omega) ?_
  refine ra_mov_bpsp (wl_d 1 hc) (by omega) (by omega) (by omega) ?_
  refine ra_cmp12_1 (wl_d 3 hc) (by omega) (by omega) hna (fun ie => ?_)
  refine ra_jl1 (A' := A + 15) (wl_d 8 hc) (by omega) (by omega) (rb_j (k := 5) (by decide)) ?_
  refine ra_inc4 (wl_d 15 hc) (by omega) (by omega) (by omega) (by omega) ?_
  refine ra_xor (wl_d 19 hc) (by omega) (by omega) ?_
  refine ra_push_ax (wl_d 21 hc) (by omega) (by omega) (by omega) ?_
  refine ra_push_ax (wl_d 22 hc) (by omega) (by omega) (by omega) ?_
  refine ra_push_ax (wl_d 23 hc) (by omega) (by omega) (by omega) ?_
  exact h
theorem cp_deep (hc : wl_At M0 A (pg_hd ++ l)) (h6 : 64 ≤ A) (hA : A + 24 ≤ 3250) (hT : T + 4 ≤ 400) (hna : na = 12) (h : ra_H u0 M0 post sw T st 2 C O) : ra_R u0 M0 post sw T st na ax cx bx b si A C O := by
  refine ra_push_bp hc (by omega) (by omega) (by omega) ?_
  refine ra_mov_bpsp (wl_d 1 hc) (by omega) (by omega) (by omega) ?_
  refine ra_cmp12_0 (wl_d 3 hc) (by omega) (by omega) (by omega) (by omega) (fun ie => ?_)
  refine ra_jl0 (wl_d 8 hc) (by omega) (by omega) ?_
  refine ra_movi_ax (w := 2) (wl_d 10 hc) (by omega) (by omega) (by decide) ?_
  refine ra_int0 (wl_d 13 hc) (by omega) (by omega) ?_
  exact ra_Hd (T' := T) (by omega) (ra_Hext (fun t ht => pk_un (by omega)) h)
theorem ce_ok {B T' b' A' q : Nat} (hw : pg_aw P q ≤ 4) (hc : wl_At M0 A (pg_tl P q ++ l)) (h6 : 64 ≤ A) (hA : A + 10 ≤ 3250) (hT : T ≤ 400) (hB : B < T) (hB2 : T' + (1 + pg_aw P q) + 1 = B) (hna : na < 65535) (hv : sw B = nI (4092 - 2 * b')) (hr : sw (B - 1) = nI A')
    (h : ra_R u0 M0 post sw T' st na ax cx bx b' si A' C O) : ra_R u0 M0 post sw T st (na + 1) ax cx bx B si A C O := by
  refine ra_mov_spbp hc (by omega) (by omega) hT hB ?_
  refine ra_dec4 (wl_d 2 hc) (by omega) (by omega) (by omega) hna ?_
  refine ra_pop_bp (b' := b') (wl_d 6 hc) (by omega) (by omega) (by omega) hv ?_
  rw [← hB2]
  refine ra_retn (m := 1 + pg_aw P q) (A' := A') (wl_d 7 hc) (by omega) (by omega) ?_ (by omega) ?_ h
  · rw [rb_wd, ww_nI (by omega)]; exact congrArg nI (by omega)
  · rw [← hr]; exact congrArg sw (by omega)
theorem xc_link {i q a c : Nat} (hA : sr_A P np ne n p r g x) (hi : i < n) (hq : pg_an P 4 (p i) q) {tb ra : Nat → Nat} (hX : sr_X P M0 n p r g x tb ra sw) (hT : tb (n - 1) + 4 ≤ T) (hT4 : T + 2 ≤ 400) (h6 : 64 ≤ A) (hl : A + 3 * pg_h P (p i) q + 7 ≤ 3250) (hcc : c < 5) (ha : ww_rd M0 (32 + 2 * c) = nI a) (ha2 : a < 65536) (htb : tb i < 2000)
    (hc : wl_At M0 A (pg_ff (pg_h P (p i) q) ++ (if pg_h P (p i) q = 0 then 85 else 83) :: 139 :: 54 :: (pg_wd (nI (32 + 2 * c)) ++ 255 :: 214 :: l))) :
    ∃ bx' : Int32, ∀ post : Int32 → SX → Prop, ra_R u0 M0 post (upd (upd sw T (nI (4092 - 2 * tb (rb_it r (pg_h P (p i) q) i)))) (T + 1) (nI (A + 3 * pg_h P (p i) q + 7))) (T + 2) st n ax cx bx' (tb i) (nI a) a C O → ra_R u0 M0 post sw T st n ax cx bx (tb i) si A C O := by
  have hop := sr_hop hA 4 i hi hq
  have hL := sr_L hA hX hT
  have hj : ∀ j, j < pg_h P (p i) q → 0 < rb_it r j i := hop.2.2
  generalize pg_h P (p i) q = h at *
  cases h with
  | zero =>
    refine ⟨bx, fun post k => ?_⟩
    refine ra_push_bp hc (by omega) (by omega) (by omega) ?_
    refine ra_mov_siw (a := 32 + 2 * c) (wl_d 1 hc) (by omega) (by omega) (by rw [rb_wd, ww_nI (by omega)]) (by omega) (by omega) ?_
    rw [ha]
    refine ra_callsi (A' := a) (wl_d 5 hc) (by omega) (by omega) rfl (by omega) ?_
    exact k
  | succ h =>
    have hc2 := wl_r (b := A + 3 * (h + 1)) hc (by rw [rb_ffl])
    rw [if_neg (by omega)] at hc2
    refine ⟨nI (4092 - 2 * tb (rb_it r (h + 1) i)), fun post k => ?_⟩
    refine rb_ff hL (by omega) hi hj hc h6 (by omega) ?_
    refine ra_push_bx hc2 (by omega) (by omega) (by omega) ?_
    rw [ww_nI (by omega)]
    refine ra_mov_siw (a := 32 + 2 * c) (wl_d 1 hc2) (by omega) (by omega) (by rw [rb_wd, ww_nI (by omega)]) (by omega) (by omega) ?_
    rw [ha]
    refine ra_callsi (A' := a) (wl_d 5 hc2) (by omega) (by omega) rfl (by omega) ?_
    exact k
theorem xs_callE (hk : pg_sk P s = 5) (q A : Nat) : pg_S P q s A = pg_tk A ++ (pg_am P q (pg_sy P s) (pg_md P (pg_sx P s) 0) (A + 3) ++ (pg_am P q (pg_sz P s) (pg_md P (pg_sx P s) 1) (A + 3 + (pg_am P q (pg_sy P s) (pg_md P (pg_sx P s) 0) (A + 3)).length) ++
  (pg_ff (pg_h P q (pg_pa P (pg_sx P s))) ++ (if pg_h P q (pg_pa P (pg_sx P s)) = 0 then 85 else 83) :: 139 :: 54 :: (pg_wd (nI (32 + 2 * pg_sx P s)) ++ [255, 214])))) := by
  rw [pg_S, if_neg (by omega), if_neg (by omega), if_neg (by omega), if_pos hk, pg_cl]
end
/-- up to the called procedure's first instruction -/
theorem xc_in {u0 : SX} {P : pg_P} {np ne ns : Nat} {M0 sw : Nat → Int32} {n : Nat} {p r g : Nat → Nat} {x : Nat → Int32} {s st st1 st2 C A : Nat} {O : Nat → Int32} {ax cx bx si y0 y1 : Int32} (hOK : pg_OK P np M0) (hW : pg_W P np ne ns) (hA : sr_A P np ne n p r g x) (hk : pg_sk P s = 5) (hs : pg_Ws P np ne s) (hc0 : pg_sx P s ≠ 0) (han : pg_an P 4 (p (n - 1)) (pg_pa P (pg_sx P s))) (hst : st < 500)
    (h0 : ca_V u0 P M0 n p r g x (pg_sy P s) (pg_md P (pg_sx P s) 0) (st + 1) y0 st1) (h1 : ca_V u0 P M0 n p r g x (pg_sz P s) (pg_md P (pg_sx P s) 1) st1 y1 st2)
    {tb ra : Nat → Nat} (hX : sr_X P M0 n p r g x tb ra sw) (h6 : 64 ≤ A) (hAl : A + (pg_S P (p (n - 1)) s A).length ≤ 3240) (hc : wl_At M0 A (pg_S P (p (n - 1)) s A)) :
    ∃ (a T1 : Nat) (sw1 : Nat → Int32) (ax1 cx1 bx1 si1 : Int32), 94 ≤ a ∧ a + (pg_pr P (pg_sx P s) a).length ≤ 3240 ∧ wl_At M0 a (pg_pr P (pg_sx P s) a) ∧ T1 = tb (n - 1) + 4 + pg_aw P (pg_sx P s) ∧ T1 ≤ 130 ∧
      (∀ t, t < tb (n - 1) + 4 → sw1 t = sw t) ∧ sw1 T1 = nI (4092 - 2 * tb (rb_it r (pg_h P (p (n - 1)) (pg_pa P (pg_sx P s))) (n - 1))) ∧ sw1 (T1 + 1) = nI (A + (pg_S P (p (n - 1)) s A).length) ∧
      (pg_md P (pg_sx P s) 0 = 1 → sw1 (tb (n - 1) + 4) = y0 &&& 65535) ∧ (pg_md P (pg_sx P s) 1 = 1 → sw1 (tb (n - 1) + 4 + pg_md P (pg_sx P s) 0) = y1 &&& 65535) ∧
      (pg_md P (pg_sx P s) 0 = 2 → ∃ A1, 64 ≤ A1 ∧ A1 + (pg_rt P (p (n - 1)) y0.toNatClampNeg A1).length ≤ 3240 ∧ sw1 (tb (n - 1) + 4 + 1) = nI A1 ∧ sw1 (tb (n - 1) + 4) = nI (4092 - 2 * tb (n - 1)) ∧ wl_At M0 A1 (pg_rt P (p (n - 1)) y0.toNatClampNeg A1)) ∧
      (pg_md P (pg_sx P s) 1 = 2 → ∃ A1, 64 ≤ A1 ∧ A1 + (pg_rt P (p (n - 1)) y1.toNatClampNeg A1).length ≤ 3240 ∧ sw1 (tb (n - 1) + 4 + pg_md P (pg_sx P s) 0 + 1) = nI A1 ∧ sw1 (tb (n - 1) + 4 + pg_md P (pg_sx P s) 0) = nI (4092 - 2 * tb (n - 1)) ∧ wl_At M0 A1 (pg_rt P (p (n - 1)) y1.toNatClampNeg A1)) ∧
      ∀ post : Int32 → SX → Prop, ra_R u0 M0 post sw1 (T1 + 2) st2 n ax1 cx1 bx1 (tb (n - 1)) si1 a C O → ra_R u0 M0 post sw (tb (n - 1) + 4) st n ax cx bx (tb (n - 1)) si A C O := by
  have hs5 := hs.2.2.2.2.2.2.2.2.2.2 hk
  have hcn := hs5.2.1
  have h5 := hW.1
  have h50 := hW.2.1
  have hn := hA.1
  have h12 := hA.2.1
  have m0 := sr_md hW hcn 0
  have m1 := sr_md hW hcn 1
  have ht := sr_top hW hA hX
  have haw : pg_aw P (pg_sx P s) = pg_md P (pg_sx P s) 0 + pg_md P (pg_sx P s) 1 := rfl
  rw [xs_callE hk] at hAl hc ⊢
  simp only [List.length_append, List.length_cons, List.length_nil, pg_tkl, pg_wdl, rb_ffl] at hAl ⊢
  have hc1 := wl_r (b := A + 3) hc rfl
  have hc2 := wl_r (b := A + 3 + (pg_am P (p (n - 1)) (pg_sy P s) (pg_md P (pg_sx P s) 0) (A + 3)).length) hc1 rfl
  have hc3 := wl_r (b := A + 3 + (pg_am P (p (n - 1)) (pg_sy P s) (pg_md P (pg_sx P s) 0) (A + 3)).length + (pg_am P (p (n - 1)) (pg_sz P s) (pg_md P (pg_sx P s) 1) (A + 3 + (pg_am P (p (n - 1)) (pg_sy P s) (pg_md P (pg_sx P s) 0) (A + 3)).length)).length) hc2 rfl
  obtain ⟨a, q1, q2, q3, q4⟩ := hOK.2.2 _ hcn
  obtain ⟨sw1, ax1, cx1, bx1, si1, b1, b2, b3, k1⟩ := h0 tb ra sw O (tb (n - 1) + 4) (A + 3) C ax cx bx si hX (Nat.le_refl _) (by omega) (by omega) (by omega) (wl_l hc1)
  have hX1 : sr_X P M0 n p r g x tb ra sw1 := sr_Xe hX (fun t ht => b1 t (by omega))
  obtain ⟨sw2, ax2, cx2, bx2, si2, d1, d2, d3, k2⟩ := h1 tb ra sw1 O (tb (n - 1) + 4 + pg_md P (pg_sx P s) 0) _ C ax1 cx1 bx1 si1 hX1 (by omega) (by omega) (by omega) (by omega) (wl_l hc2)
  have hX2 : sr_X P M0 n p r g x tb ra sw2 := sr_Xe hX1 (fun t ht => d1 t (by omega))
  obtain ⟨bx3, k3⟩ := xc_link (u0 := u0) (st := st2) (ax := ax2) (cx := cx2) (bx := bx2) (si := si2) (C := C) (O := O) (T := tb (n - 1) + 4 + pg_md P (pg_sx P s) 0 + pg_md P (pg_sx P s) 1) hA (show n - 1 < n by omega) han hX2 (by omega) (by omega) (by omega) (by omega) (by omega) q3 (by omega) (by omega) hc3
  refine ⟨a, tb (n - 1) + 4 + pg_md P (pg_sx P s) 0 + pg_md P (pg_sx P s) 1, _, ax2, cx2, bx3, nI a, q1, q2, q4, by omega, by omega, fun t ht => ?_, ?_, ?_, fun hm => ?_, fun hm => ?_, fun hm => ?_, fun hm => ?_, fun post hp => rb_tick hOK.2.1 hc h6 (by omega) (by omega) hst (k1 post (k2 post (k3 post hp)))⟩
  · rw [pk_un (by omega), pk_un (by omega), d1 t (by omega), b1 t ht]
  · rw [pk_un (by omega), pk_us]
  · rw [pk_us]; exact congrArg nI (by omega)
  · rw [pk_un (by omega), pk_un (by omega), d1 _ (by omega)]; exact b2 hm
  · rw [pk_un (by omega), pk_un (by omega)]; exact d2 hm
  · obtain ⟨e0, A1, f1, f2, f3, f4, f5⟩ := b3 hm
    have he := (hs5.2.2.1 (by omega)).2
    rw [e0, nI_clamp (by omega)]
    refine ⟨A1, f1, f2, ?_, ?_, f5⟩
    · rw [pk_un (by omega), pk_un (by omega), d1 _ (by omega)]; exact f3
    · rw [pk_un (by omega), pk_un (by omega), d1 _ (by omega)]; exact f4
  · obtain ⟨e0, A1, f1, f2, f3, f4, f5⟩ := d3 hm
    have he := (hs5.2.2.2.1 (by omega)).2
    rw [e0, nI_clamp (by omega)]
    refine ⟨A1, f1, f2, ?_, ?_, f5⟩
    · rw [pk_un (by omega), pk_un (by omega)]; exact f3
    · rw [pk_un (by omega), pk_un (by omega)]; exact f4
end
section
/-! calls: the rules -/
section
variable {u0 : SX} {P : pg_P} {np ne ns : Nat} {M0 : Nat → Int32} {n : Nat} {p r g : Nat → Nat} {x x' : Nat → Int32} {s st st1 st2 st' C C' : Nat} {O O' : Nat → Int32} {y0 y1 : Int32}
theorem xs_call0T (hOK : pg_OK P np M0) (hW : pg_W P np ne ns) (hA : sr_A P np ne n p r g x) (hk : pg_sk P s = 5) (hst : st < 500) (h0 : ca_T u0 P M0 n p r g x (pg_sy P s) (pg_md P (pg_sx P s) 0) (st + 1)) : xs_X u0 P M0 n p r g s x st C O 1 x 500 C O := by
  intro tb ra sw A ax cx bx si hX h6 hAl hc
  have h12 := hA.2.1
  have ht := sr_top hW hA hX
  rw [xs_callE hk] at hAl hc
  simp only [List.length_append, pg_tkl] at hAl
  have hc1 := wl_r (b := A + 3) hc rfl
  refine ⟨sw, sr_main hA.1 hX, fun post hp => rb_tick hOK.2.1 hc h6 (by omega) (by omega) hst ?_⟩
  exact h0 tb ra sw O (tb (n - 1) + 4) (A + 3) C ax cx bx si hX (Nat.le_refl _) (by omega) (by omega) (by omega) (wl_l hc1) post (ra_Hd (T' := 6) (by omega) hp)
theorem xs_call1T (hOK : pg_OK P np M0) (hW : pg_W P np ne ns) (hA : sr_A P np ne n p r g x) (hk : pg_sk P s = 5) (hs : pg_Ws P np ne s) (hst : st < 500) (h0 : ca_V u0 P M0 n p r g x (pg_sy P s) (pg_md P (pg_sx P s) 0) (st + 1) y0 st1) (h1 : ca_T u0 P M0 n p r g x (pg_sz P s) (pg_md P (pg_sx P s) 1) st1) : xs_X u0 P M0 n p r g s x st C O 1 x 500 C O := by
  intro tb ra sw A ax cx bx si hX h6 hAl hc
  have hs5 := hs.2.2.2.2.2.2.2.2.2.2 hk
  have m0 := sr_md hW hs5.2.1 0
  have h12 := hA.2.1
  have ht := sr_top hW hA hX
  rw [xs_callE hk] at hAl hc
  simp only [List.length_append, pg_tkl] at hAl
  have hc1 := wl_r (b := A + 3) hc rfl
  have hc2 := wl_r (b := A + 3 + (pg_am P (p (n - 1)) (pg_sy P s) (pg_md P (pg_sx P s) 0) (A + 3)).length) hc1 rfl
  obtain ⟨sw1, ax1, cx1, bx1, si1, b1, b2, b3, k1⟩ := h0 tb ra sw O (tb (n - 1) + 4) (A + 3) C ax cx bx si hX (Nat.le_refl _) (by omega) (by omega) (by omega) (wl_l hc1)
  have hX1 : sr_X P M0 n p r g x tb ra sw1 := sr_Xe hX (fun t ht => b1 t (by omega))
  refine ⟨sw, sr_main hA.1 hX, fun post hp => rb_tick hOK.2.1 hc h6 (by omega) (by omega) hst (k1 post ?_)⟩
  exact h1 tb ra sw1 O (tb (n - 1) + 4 + pg_md P (pg_sx P s) 0) _ C ax1 cx1 bx1 si1 hX1 (by omega) (by omega) (by omega) (by omega) (wl_l hc2) post (ra_Hd (T' := 6) (by omega) (ra_Hext (fun t ht => b1 t (by omega)) hp))
theorem xs_callD (hOK : pg_OK P np M0) (hW : pg_W P np ne ns) (hA : sr_A P np ne n p r g x) (hk : pg_sk P s = 5) (hs : pg_Ws P np ne s) (hc0 : pg_sx P s ≠ 0) (han : pg_an P 4 (p (n - 1)) (pg_pa P (pg_sx P s))) (hst : st < 500) (h12 : n = 12)
    (h0 : ca_V u0 P M0 n p r g x (pg_sy P s) (pg_md P (pg_sx P s) 0) (st + 1) y0 st1) (h1 : ca_V u0 P M0 n p r g x (pg_sz P s) (pg_md P (pg_sx P s) 1) st1 y1 st2) : xs_X u0 P M0 n p r g s x st C O 2 x st2 C O := by
  intro tb ra sw A ax cx bx si hX h6 hAl hc
  obtain ⟨a, T1, sw1, ax1, cx1, bx1, si1, q1, q2, q3, q4, q5, q6, q7, q8, q9, q10, q11, q12, k⟩ := xc_in (C := C) (O := O) (ax := ax) (cx := cx) (bx := bx) (si := si) hOK hW hA hk hs hc0 han hst h0 h1 hX h6 hAl hc
  have ht := sr_top hW hA hX
  unfold pg_pr at q2 q3
  rw [List.length_append, show pg_hd.length = 24 from rfl] at q2
  refine ⟨sw, sr_main hA.1 hX, fun post hp => k post ?_⟩
  refine cp_deep q3 (by omega) (by omega) (by omega) h12 ?_
  exact ra_Hd (T' := 6) (by omega) (ra_Hext (fun t ht => q6 t (by omega)) hp)
/-- into the body -/
theorem xs_callI (hOK : pg_OK P np M0) (hW : pg_W P np ne ns) (hA : sr_A P np ne n p r g x) (hk : pg_sk P s = 5) (hs : pg_Ws P np ne s) (hc0 : pg_sx P s ≠ 0) (han : pg_an P 4 (p (n - 1)) (pg_pa P (pg_sx P s))) (hst : st < 500) (h12 : n < 12)
    (h0 : ca_V u0 P M0 n p r g x (pg_sy P s) (pg_md P (pg_sx P s) 0) (st + 1) y0 st1) (h1 : ca_V u0 P M0 n p r g x (pg_sz P s) (pg_md P (pg_sx P s) 1) st1 y1 st2)
    {tb ra : Nat → Nat} {sw : Nat → Int32} {A : Nat} {ax cx bx si : Int32} (hX : sr_X P M0 n p r g x tb ra sw) (h6 : 64 ≤ A) (hAl : A + (pg_S P (p (n - 1)) s A).length ≤ 3240) (hc : wl_At M0 A (pg_S P (p (n - 1)) s A)) :
    ∃ (a tn : Nat) (sw1 : Nat → Int32) (ax1 cx1 bx1 si1 : Int32), 94 ≤ a ∧ a + (pg_pr P (pg_sx P s) a).length ≤ 3240 ∧ wl_At M0 a (pg_pr P (pg_sx P s) a) ∧ tn = tb (n - 1) + 6 + pg_aw P (pg_sx P s) ∧ tn ≤ 132 ∧
      sr_X P M0 (n + 1) (sr_u p n (pg_sx P s)) (sr_u r n (rb_it r (pg_h P (p (n - 1)) (pg_pa P (pg_sx P s))) (n - 1))) (sr_g g n) (sr_v x n y0 y1) (sr_u tb n tn) (sr_u ra n (A + (pg_S P (p (n - 1)) s A).length)) sw1 ∧
      ∀ post : Int32 → SX → Prop, ra_R u0 M0 post sw1 (tn + 4) st2 (n + 1) ax1 cx1 bx1 tn si1 (a + 24) C O → ra_R u0 M0 post sw (tb (n - 1) + 4) st n ax cx bx (tb (n - 1)) si A C O := by
  obtain ⟨a, T1, sw1, ax1, cx1, bx1, si1, q1, q2, q3, q4, q5, q6, q7, q8, q9, q10, q11, q12, k⟩ := xc_in (C := C) (O := O) (ax := ax) (cx := cx) (bx := bx) (si := si) hOK hW hA hk hs hc0 han hst h0 h1 hX h6 hAl hc
  have hs5 := hs.2.2.2.2.2.2.2.2.2.2 hk
  have hn := hA.1
  have ht := sr_top hW hA hX
  have hop := sr_hop hA 4 (n - 1) (by omega) han
  have m0 := sr_md hW hs5.2.1 0
  have m1 := sr_md hW hs5.2.1 1
  have haw : pg_aw P (pg_sx P s) = pg_md P (pg_sx P s) 0 + pg_md P (pg_sx P s) 1 := rfl
  have up : ∀ t, t < T1 + 2 → upd (upd (upd (upd sw1 (T1 + 2) (nI (4092 - 2 * tb (n - 1)))) (T1 + 2 + 1) 0) (T1 + 2 + 2) 0) (T1 + 2 + 3) 0 t = sw1 t := by
    intro t ht
    rw [pk_un (by omega), pk_un (by omega), pk_un (by omega), pk_un (by omega)]
  refine ⟨a, T1 + 2, upd (upd (upd (upd sw1 (T1 + 2) (nI (4092 - 2 * tb (n - 1)))) (T1 + 2 + 1) 0) (T1 + 2 + 2) 0) (T1 + 2 + 3) 0, 0, cx1, bx1, si1, q1, q2, q3, by omega, by omega, ?_, fun post hp => k post ?_⟩
  · refine sr_pushX hW hA hX hs5.2.1 (j := rb_it r (pg_h P (p (n - 1)) (pg_pa P (pg_sx P s))) (n - 1)) (by have := hop.1; unfold pg_h; omega) (by omega) (fun t h => ?_) ?_ ?_ ?_ ⟨?_, ?_, ?_⟩ (fun hm => ?_) (fun hm => ?_) (fun hm => ?_) (fun hm => ?_)
    · rw [up t (by omega)]; exact q6 t h
    · rw [up _ (by omega), show T1 + 2 - 2 = T1 by omega]; exact q7
    · rw [up _ (by omega), show T1 + 2 - 1 = T1 + 1 by omega]; exact q8
    · rw [pk_un (by omega), pk_un (by omega), pk_un (by omega), pk_us]
    · rw [pk_un (by omega), pk_un (by omega), pk_us]
    · rw [pk_un (by omega), pk_us]
    · rw [pk_us]
    · rw [up _ (by omega)]; exact q9 hm
    · rw [up _ (by omega)]; exact q10 hm
    · obtain ⟨A1, f1, f2, f3, f4, f5⟩ := q11 hm
      exact ⟨A1, f1, f2, by rw [up _ (by omega)]; exact f3, by rw [up _ (by omega)]; exact f4, f5⟩
    · obtain ⟨A1, f1, f2, f3, f4, f5⟩ := q12 hm
      exact ⟨A1, f1, f2, by rw [up _ (by omega)]; exact f3, by rw [up _ (by omega)]; exact f4, f5⟩
  · unfold pg_pr at q2 q3
    rw [List.length_append, show pg_hd.length = 24 from rfl] at q2
    exact cp_ok q3 (by omega) (by omega) (by omega) h12 hp
theorem xs_callV (hOK : pg_OK P np M0) (hW : pg_W P np ne ns) (hA : sr_A P np ne n p r g x) (hk : pg_sk P s = 5) (hs : pg_Ws P np ne s) (hc0 : pg_sx P s ≠ 0) (han : pg_an P 4 (p (n - 1)) (pg_pa P (pg_sx P s))) (hst : st < 500) (h12 : n < 12)
    (h0 : ca_V u0 P M0 n p r g x (pg_sy P s) (pg_md P (pg_sx P s) 0) (st + 1) y0 st1) (h1 : ca_V u0 P M0 n p r g x (pg_sz P s) (pg_md P (pg_sx P s) 1) st1 y1 st2)
    (hb : xs_V u0 P M0 (n + 1) (sr_u p n (pg_sx P s)) (sr_u r n (rb_it r (pg_h P (p (n - 1)) (pg_pa P (pg_sx P s))) (n - 1))) (sr_g g n) (pg_bo P (pg_sx P s)) (sr_v x n y0 y1) st2 C O x' st' C' O') : xs_V u0 P M0 n p r g s x st C O x' st' C' O' := by
  intro tb ra sw A ax cx bx si hX h6 hAl hc
  obtain ⟨a, tn, sw1, ax1, cx1, bx1, si1, q1, q2, q3, q4, q5, hX1, k⟩ := xs_callI (C := C) (O := O) (ax := ax) (cx := cx) (bx := bx) (si := si) hOK hW hA hk hs hc0 han hst h12 h0 h1 hX h6 hAl hc
  have hs5 := hs.2.2.2.2.2.2.2.2.2.2 hk
  have hn := hA.1
  have ht := sr_top hW hA hX
  have m0 := sr_md hW hs5.2.1 0
  have m1 := sr_md hW hs5.2.1 1
  have haw : pg_aw P (pg_sx P s) = pg_md P (pg_sx P s) 0 + pg_md P (pg_sx P s) 1 := rfl
  unfold pg_pr at q2 q3
  simp only [List.length_append, show pg_hd.length = 24 from rfl, show (pg_tl P (pg_sx P s)).length = 10 from rfl] at q2
  have qb := wl_r (b := a + 24) q3 rfl
  have hb' := hb (sr_u tb n tn) (sr_u ra n (A + (pg_S P (p (n - 1)) s A).length)) sw1 (a + 24) ax1 cx1 bx1 si1 hX1 (by omega)
  simp only [Nat.add_sub_cancel, sr_us] at hb'
  obtain ⟨sw2, ax2, cx2, bx2, si2, hX2, k2⟩ := hb' (by omega) (wl_l qb)
  have hX3 := sr_pop hA hX2
  have w0 := hX2.2.2.2.2.1 (n - 1) (by omega)
  have w1 := hX2.2.2.2.1 n (by omega)
  rw [show n - 1 + 1 = n by omega, sr_us, sr_un (by omega)] at w0
  rw [sr_us, sr_us] at w1
  refine ⟨sw2, ax2, cx2, bx2, si2, hX3, fun post hp => k post (k2 post ?_)⟩
  rw [← List.append_nil (pg_tl P (pg_sx P s))] at qb
  exact ce_ok (T' := tb (n - 1) + 4) (b' := tb (n - 1)) (by omega) (wl_r qb rfl) (by omega) (by omega) (by omega) (by omega) (by omega) (by omega) w0 w1 hp
theorem xs_callX {rc : Int32} (hOK : pg_OK P np M0) (hW : pg_W P np ne ns) (hA : sr_A P np ne n p r g x) (hk : pg_sk P s = 5) (hs : pg_Ws P np ne s) (hc0 : pg_sx P s ≠ 0) (han : pg_an P 4 (p (n - 1)) (pg_pa P (pg_sx P s))) (hst : st < 500) (h12 : n < 12)
    (h0 : ca_V u0 P M0 n p r g x (pg_sy P s) (pg_md P (pg_sx P s) 0) (st + 1) y0 st1) (h1 : ca_V u0 P M0 n p r g x (pg_sz P s) (pg_md P (pg_sx P s) 1) st1 y1 st2)
    (hb : xs_X u0 P M0 (n + 1) (sr_u p n (pg_sx P s)) (sr_u r n (rb_it r (pg_h P (p (n - 1)) (pg_pa P (pg_sx P s))) (n - 1))) (sr_g g n) (pg_bo P (pg_sx P s)) (sr_v x n y0 y1) st2 C O rc x' st' C' O') : xs_X u0 P M0 n p r g s x st C O rc x' st' C' O' := by
  intro tb ra sw A ax cx bx si hX h6 hAl hc
  obtain ⟨a, tn, sw1, ax1, cx1, bx1, si1, q1, q2, q3, q4, q5, hX1, k⟩ := xs_callI (C := C) (O := O) (ax := ax) (cx := cx) (bx := bx) (si := si) hOK hW hA hk hs hc0 han hst h12 h0 h1 hX h6 hAl hc
  unfold pg_pr at q2 q3
  simp only [List.length_append, show pg_hd.length = 24 from rfl, show (pg_tl P (pg_sx P s)).length = 10 from rfl] at q2
  have qb := wl_r (b := a + 24) q3 rfl
  have hb' := hb (sr_u tb n tn) (sr_u ra n (A + (pg_S P (p (n - 1)) s A).length)) sw1 (a + 24) ax1 cx1 bx1 si1 hX1 (by omega)
  simp only [Nat.add_sub_cancel, sr_us] at hb'
  obtain ⟨sw2, hm, k2⟩ := hb' (by omega) (wl_l qb)
  exact ⟨sw2, hm, fun post hp => k post (k2 post hp)⟩
end
end
section
/-! a variable becomes a number: the reference -/
def yb_R (post : SY → Prop) (num : Int32) (v a : Nat) (u : SY) : Prop := ∃ m, yb_W post num m (nI v) (nI a) u
def yb_V (v0 : SY) (va : Nat → Int32) (num : Int32) (v a st j k st' : Nat) : Prop :=
  ∀ post : SY → Prop, post (zy_b v0 (nI st') (-1) (upd va (5 * j + k) num)) → yb_R post num v a (zy_b v0 (nI st) (-1) va)
def yb_X (v0 : SY) (va : Nat → Int32) (num : Int32) (v a st : Nat) (rc : Int32) (st' : Nat) : Prop :=
  ∀ post : SY → Prop, post (zy_b v0 (nI st') rc va) → yb_R post num v a (zy_b v0 (nI st) (-1) va)
section
variable {v0 : SY} {P : pg_P} {np ne ns : Nat} {n : Nat} {p r g : Nat → Nat} {x : Nat → Int32} {v a st st' : Nat} {num : Int32} {va : Nat → Int32}
theorem yb_val (hm : yf_modes v0 = P 1) (hW : pg_W P np ne ns) (hv : v / 5 < np) (hb : ¬ pg_bn P v) (ha : a < 12) : yb_V v0 va num v a st a (v % 5) st := by
  intro post k
  have h5 := hW.1
  have hk5 : v % 5 < 5 := Nat.mod_lt _ (by omega)
  refine ⟨1, br_f yi_m1 ?_⟩
  refine yn_bn (u := zy_b v0 (nI st) (-1) va) hm hW hv (fun hb' => absurd hb' hb) (fun _ => ?_)
  refine br_t rfl (br_f yi_m1 ⟨by decide, ?_⟩)
  rw [yn_m (by omega), yi_5, nI_clamp (by omega)]
  exact ⟨vp_in_nI (by omega) (by omega), nm_e k⟩
theorem yb_tired (hm : yf_modes v0 = P 1) (hW : pg_W P np ne ns) (hv : v / 5 < np) (hb : pg_bn P v) (ha : a < 12) (hst : st = 500) : yb_X v0 va num v a st 1 500 := by
  intro post k
  have h5 := hW.1
  have hb1 := hb.1
  refine ⟨2, br_f yi_m1 ?_⟩
  refine yn_bn (u := zy_b v0 (nI st) (-1) va) hm hW hv (fun _ => ?_) (fun hb' => absurd hb hb')
  subst hst
  refine br_f (by decide) (br_t rfl ⟨by decide, ?_⟩)
  rw [yn_m (by omega), yi_5, yi_2]
  exact ⟨vp_in_nI (by omega) (by omega), nm_e ⟨by decide, vp_in_nI (by omega) (by omega), nm_e (br_t (by decide) (br_t (by decide) (br_t (by decide) (br_t (by decide) k))))⟩⟩
theorem yb_exp {e' : Nat} (hm : yf_modes v0 = P 1) (hek : yf_ekind v0 = P 3) (hW : pg_W P np ne ns) (hv : v / 5 < np) (hb : pg_bn P v) (ha : a < 12) (hst : st < 500) (hx : va (5 * a + v % 5) = nI e') (he' : e' < ne) (hk : pg_ek P e' ≠ 1) : yb_X v0 va num v a st 3 (st + 1) := by
  intro post k
  have h5 := hW.1
  have h50 := hW.2.1
  have hb1 := hb.1
  have hWe := hW.2.2.2.2.1 e' he'
  refine ⟨2, br_f yi_m1 ?_⟩
  refine yn_bn (u := zy_b v0 (nI st) (-1) va) hm hW hv (fun _ => ?_) (fun hb' => absurd hb hb')
  refine br_f (by decide) (br_f (fun z => by have := (nI_eq (b := 500) (by omega) (by omega)).mp z; omega) (nm_r (nI_1 st) ⟨by decide, ?_⟩))
  rw [yn_m (by omega), yi_5, yi_2]
  have e1 : va (nI (5 * a + v % 5)).toNatClampNeg = nI e' := by rw [nI_clamp (by omega)]; exact hx
  have e2 : ¬ yf_ekind v0 (nI e').toNatClampNeg = 1 := by
    rw [nI_clamp (by omega), hek, hWe.1]
    intro z
    exact hk ((nI_eq (b := 1) (by have := hWe.2.1; omega) (by omega)).mp z)
  exact ⟨vp_in_nI (by omega) (by omega), nm_r e1 ⟨by decide, vp_in_nI (by omega) (by omega), nm_e (br_f yi_m1 ⟨vp_in_nI (by omega) (by omega), br_f e2 (br_t (by decide) (br_t (by decide) (br_t (by decide) k)))⟩)⟩⟩
theorem yb_name {e' o : Nat} {post : SY → Prop} (hH : yv_H (zy_b v0 0 0 va) P n p r g x) (hA : sr_A P np ne n p r g x) (hW : pg_W P np ne ns) (hv : v / 5 < np) (hb : pg_bn P v) (ha : a < 12) (hst : st < 500) (hx : va (5 * a + v % 5) = nI e') (he' : e' < ne) (hk : pg_ek P e' = 1) (ho : yf_origin v0 (2 * a + v % 5) = nI o) (hon : o < n) (han : pg_an P 4 (p o) (pg_ex P e' / 5))
    (k : yb_R post num (pg_ex P e') (rb_it r (pg_h P (p o) (pg_ex P e' / 5)) o) (zy_b v0 (nI (st + 1)) (-1) va)) : yb_R post num v a (zy_b v0 (nI st) (-1) va) := by
  have h5 := hW.1
  have h50 := hW.2.1
  have hb1 := hb.1
  have hWe := hW.2.2.2.2.1 e' he'
  have hv25 := (hWe.2.2.2.2.2.2.1 hk)
  obtain ⟨m, k⟩ := k
  refine ⟨m + 1, br_f yi_m1 ?_⟩
  refine yn_bn (u := zy_b v0 (nI st) (-1) va) hH.1 hW hv (fun _ => ?_) (fun hb' => absurd hb hb')
  refine br_f (by decide) (br_f (fun z => by have := (nI_eq (b := 500) (by omega) (by omega)).mp z; omega) (nm_r (nI_1 st) ⟨by decide, ?_⟩))
  rw [yn_m (by omega), yi_5, yi_2]
  have e1 : va (nI (5 * a + v % 5)).toNatClampNeg = nI e' := by rw [nI_clamp (by omega)]; exact hx
  have e2 : yf_ekind v0 (nI e').toNatClampNeg = 1 := by
    rw [nI_clamp (by omega)]
    have := hH.2.1
    rw [show yf_ekind v0 = P 3 from this, hWe.1, hk]; rfl
  have e3 : yf_origin v0 (nI (2 * a + v % 5)).toNatClampNeg = nI o := by rw [nI_clamp (by omega)]; exact ho
  have e4 : yf_ex v0 (nI e').toNatClampNeg = nI (pg_ex P e') := by
    rw [nI_clamp (by omega)]
    have := hH.2.2.1
    rw [show yf_ex v0 = P 4 from this]; exact hv25.1
  refine ⟨vp_in_nI (by omega) (by omega), nm_r e1 ⟨by decide, vp_in_nI (by omega) (by omega), nm_r e3 (br_f yi_m1 ⟨vp_in_nI (by omega) (by omega), br_t e2 (br_f yi_m1 ⟨vp_in_nI (by omega) (by omega), nm_r e4 ⟨by decide, ?_⟩⟩)⟩)⟩⟩
  rw [yn_d (by omega)]
  exact yn_find (u := zy_b v0 (nI (st + 1)) (-1) va) hA h5 hH.2.2.2.2.1 hH.2.2.2.2.2.1 (by omega) hon han k
end
/-- one outcome for both -/
theorem jp_all {u0 : SX} {P : pg_P} {np ne ns : Nat} {M0 : Nat → Int32} {n : Nat} {p r g : Nat → Nat} {x : Nat → Int32} (hS : wl_At M0 76 pg_s1) (hW : pg_W P np ne ns) (hA : sr_A P np ne n p r g x) :
    ∀ i, i < n → ∀ e, e < ne → pg_ek P e = 1 → pg_FE P np (p i) e → ∀ st, st ≤ 500 →
      (∃ j k st' : Nat, pl_V u0 P M0 n p r g x i e st j k st' ∧ (∀ (v0 : SY) (va : Nat → Int32) (num : Int32), yv_H (zy_b v0 0 0 va) P n p r g x → yb_V v0 va num (pg_ex P e) (rb_it r (pg_h P (p i) (pg_ex P e / 5)) i) st j k st') ∧ j < n ∧ k < 5 ∧ (1 < k ∨ pg_md P (p j) k = 1) ∧ st ≤ st' ∧ st' ≤ 500) ∨
      (∃ (rc : Int32) (st' : Nat), pl_X u0 P M0 n p r g x i e st rc st' ∧ (∀ (v0 : SY) (va : Nat → Int32) (num : Int32), yv_H (zy_b v0 0 0 va) P n p r g x → yb_X v0 va num (pg_ex P e) (rb_it r (pg_h P (p i) (pg_ex P e / 5)) i) st rc st') ∧ 0 ≤ rc ∧ st ≤ st' ∧ st' ≤ 500) := by
  intro i
  induction i using Nat.strongRecOn with
  | _ i ihi =>
    intro hi e he hk hF st hst
    rw [pg_FE] at hF
    have hs := hF.1 hk
    have hJ := sr_J hA hi hs
    have hjn : rb_it r (pg_h P (p i) (pg_ex P e / 5)) i < n := Nat.lt_of_le_of_lt hJ.1 hi
    have h12 := hA.2.1
    by_cases hb : pg_bn P (pg_ex P e)
    · by_cases h5 : st = 500
      · exact Or.inr ⟨1, 500, pl_tired hS hk hb h5, fun v0 va num hH => yb_tired hH.1 hW hs.1 hb (by omega) h5, by decide, by omega, Nat.le_refl _⟩
      · have hlt : st < 500 := by omega
        obtain ⟨ho, e', he', hx, hF'⟩ := sr_nm hW hA hi hs hb
        have hva : ∀ (v0 : SY) (va : Nat → Int32), yv_H (zy_b v0 0 0 va) P n p r g x → va (5 * rb_it r (pg_h P (p i) (pg_ex P e / 5)) i + pg_ex P e % 5) = nI e' := by
          intro v0 va hH
          have := hH.2.2.2.2.2.2.1 _ (pg_ex P e % 5) hjn (Nat.mod_lt _ (by omega))
          exact this.trans hx
        have hj0 : 0 < rb_it r (pg_h P (p i) (pg_ex P e / 5)) i := sr_pos hW hA hjn (k := pg_ex P e % 5) (by rw [hJ.2, hb.2]; decide)
        have hog : ∀ (v0 : SY) (va : Nat → Int32), yv_H (zy_b v0 0 0 va) P n p r g x → yf_origin v0 (2 * rb_it r (pg_h P (p i) (pg_ex P e / 5)) i + pg_ex P e % 5) = nI (g (2 * rb_it r (pg_h P (p i) (pg_ex P e / 5)) i + pg_ex P e % 5)) :=
          fun v0 va hH => hH.2.2.2.2.2.2.2 _ (pg_ex P e % 5) hjn hj0 hb.1
        by_cases hk' : pg_ek P e' = 1
        · have hF2 := hF'
          rw [pg_FE] at hF2
          have han := (hF2.1 hk').2.1
          rcases ihi _ ho (by omega) e' he' hk' hF' (st + 1) (by omega) with ⟨j, k, st', a1, a2, a3, a4, a5, a6, a7⟩ | ⟨rc, st', a1, a2, a3, a4, a5⟩
          · exact Or.inl ⟨j, k, st', pl_name hS hW hA hi hk hs hb hlt hx he' a1, fun v0 va num hH post kk => yb_name hH hA hW hs.1 hb (by omega) hlt (hva v0 va hH) he' hk' (hog v0 va hH) (by omega) han (a2 v0 va num hH post kk), a3, a4, a5, by omega, a7⟩
          · exact Or.inr ⟨rc, st', pl_nameX hS hW hA hi hk hs hb hlt hx he' a1, fun v0 va num hH post kk => yb_name hH hA hW hs.1 hb (by omega) hlt (hva v0 va hH) he' hk' (hog v0 va hH) (by omega) han (a2 v0 va num hH post kk), a3, by omega, a5⟩
        · exact Or.inr ⟨3, st + 1, pl_nameX hS hW hA hi hk hs hb hlt hx he' (pl_exp hk'), fun v0 va num hH => yb_exp hH.1 hH.2.1 hW hs.1 hb (by omega) hlt (hva v0 va hH) he' hk', by decide, by omega, by omega⟩
    · exact Or.inl ⟨_, _, st, pl_val hW hA hi hk hs hb, fun v0 va num hH => yb_val hH.1 hW hs.1 hb (by omega), hjn, Nat.mod_lt _ (by omega), sr_val hW hA hi hs hb, Nat.le_refl _, hst⟩
end
section
/-! the reference's statements: its moves -/
def yp_P (v : SY) (P : pg_P) : Prop :=
  yf_parent v = P 0 ∧ yf_modes v = P 1 ∧ yf_bodies v = P 2 ∧ yf_ekind v = P 3 ∧ yf_ex v = P 4 ∧ yf_ey v = P 5 ∧ yf_eweight v = P 6 ∧ yf_skind v = P 7 ∧ yf_sx v = P 8 ∧ yf_sy v = P 9 ∧ yf_sz v = P 10 ∧ yf_sweight v = P 11
def yh_H (n : Nat) (p r g : Nat → Nat) (x pr ar va og : Nat → Int32) : Prop :=
  (∀ i, i < n → pr i = nI (p i)) ∧ (∀ i, i < n → 0 < i → ar i = nI (r i)) ∧ (∀ i k, i < n → k < 5 → va (5 * i + k) = x (5 * i + k)) ∧ (∀ i k, i < n → 0 < i → k < 2 → og (2 * i + k) = nI (g (2 * i + k)))
def yr_R (post : Int32 → SY → Prop) (h : Nat) (u : SY) : Prop := ∃ m, yr_W post m (nI h) u
theorem yr_it {post : Int32 → SY → Prop} {h h' : Nat} {u u' : SY} (hh : 0 < h) (h31 : h < 1000) (he : yf_ending u = -1) (hm : ∀ K : Int32 → SY → Prop, K (nI h') u' → wpY_move K u (nI h)) (k : yr_R post h' u') : yr_R post h u := by
  obtain ⟨m, k⟩ := k
  have he2 : ¬ 0 ≤ yf_ending u := by rw [he]; exact yi_m1
  exact ⟨m + 1, br_f (nI_nle hh (by omega)) (br_f he2 (hm (fun r u => yr_W post m r u) k))⟩
theorem yr_end {post : Int32 → SY → Prop} {h : Nat} {u : SY} (h31 : h < 1000) (he : 0 ≤ yf_ending u) (k : yr_E post u) : yr_R post h u := by
  by_cases h0 : h = 0
  · subst h0
    exact ⟨1, br_t (by decide) k⟩
  · exact ⟨1, br_f (nI_nle (by omega) (by omega)) (br_t he k)⟩
theorem yr_fin {post : Int32 → SY → Prop} {u : SY} (k : yr_E post u) : yr_R post 0 u := ⟨1, br_t (by decide) k⟩
section
variable {v : SY} {P : pg_P} {np ne ns n : Nat} {p r g : Nat → Nat} {x : Nat → Int32} {s st st' C a i : Nat} {rs : Int32} {na en : Int32} {nd wh sg kp bg pl ph pr ar va og O : Nat → Int32} {K : Int32 → SY → Prop}
theorem ym_in (h : a < 400) : vp_in (nI a) 400 := vp_in_nI h (by omega)
theorem ym_f {f : Nat → Int32} {y : Int32} (h : a < 400) (e : f a = y) : f (nI a).toNatClampNeg = y := by
  rw [nI_clamp (by omega)]; exact e
/-- what a move looks at -/
theorem ym_pre (hP : yp_P v P) (hW : pg_W P np ne ns) (hs : s < ns) (ha : a < 400) (hbg : bg a = nI s) (hpl : pl a = nI i)
    (k : ((nI (pg_sk P s) = 6 → K (nI a) (zy_m v (nI n) (-1) rs (nI st) (nI C) nd wh sg kp bg pl ph pr ar va og O)) ∧ (¬ nI (pg_sk P s) = 6 → ((nI (pg_sk P s) = 1 → (vp_in (nI a) 400 ∧ ((ph (nI a).toNatClampNeg = 1 → (vp_in (nI s) 40 ∧ wpY_replace K (zy_m v (nI n) (-1) rs (nI st) (nI C) nd wh sg kp bg pl ph pr ar va og O) (nI a) (yf_sy v (nI s).toNatClampNeg))) ∧ (¬ ph (nI a).toNatClampNeg = 1 → wY_move_64 K (nI (a + 1)) (nI a) (nI s) (nI (pg_sk P s)) (nI i) v.1 v.2.1 v.2.2.1 (nI n) (-1) rs (nI st) (nI C) v.2.2.2.2.2.2.2.2.1 v.2.2.2.2.2.2.2.2.2.1 v.2.2.2.2.2.2.2.2.2.2.1 v.2.2.2.2.2.2.2.2.2.2.2.1 v.2.2.2.2.2.2.2.2.2.2.2.2.1 v.2.2.2.2.2.2.2.2.2.2.2.2.2.1 v.2.2.2.2.2.2.2.2.2.2.2.2.2.2.1 v.2.2.2.2.2.2.2.2.2.2.2.2.2.2.2.1 v.2.2.2.2.2.2.2.2.2.2.2.2.2.2.2.2.1 v.2.2.2.2.2.2.2.2.2.2.2.2.2.2.2.2.2.1 v.2.2.2.2.2.2.2.2.2.2.2.2.2.2.2.2.2.2.1 v.2.2.2.2.2.2.2.2.2.2.2.2.2.2.2.2.2.2.2.1 v.2.2.2.2.2.2.2.2.2.2.2.2.2.2.2.2.2.2.2.2.1 nd wh sg kp bg pl ph pr ar va og O v.2.2.2.2.2.2.2.2.2.2.2.2.2.2.2.2.2.2.2.2.2.2.2.2.2.2.2.2.2.2.2.2.2)))) ∧ (¬ nI (pg_sk P s) = 1 → wY_move_64 K (nI (a + 1)) (nI a) (nI s) (nI (pg_sk P s)) (nI i) v.1 v.2.1 v.2.2.1 (nI n) (-1) rs (nI st) (nI C) v.2.2.2.2.2.2.2.2.1 v.2.2.2.2.2.2.2.2.2.1 v.2.2.2.2.2.2.2.2.2.2.1 v.2.2.2.2.2.2.2.2.2.2.2.1 v.2.2.2.2.2.2.2.2.2.2.2.2.1 v.2.2.2.2.2.2.2.2.2.2.2.2.2.1 v.2.2.2.2.2.2.2.2.2.2.2.2.2.2.1 v.2.2.2.2.2.2.2.2.2.2.2.2.2.2.2.1 v.2.2.2.2.2.2.2.2.2.2.2.2.2.2.2.2.1 v.2.2.2.2.2.2.2.2.2.2.2.2.2.2.2.2.2.1 v.2.2.2.2.2.2.2.2.2.2.2.2.2.2.2.2.2.2.1 v.2.2.2.2.2.2.2.2.2.2.2.2.2.2.2.2.2.2.2.1 v.2.2.2.2.2.2.2.2.2.2.2.2.2.2.2.2.2.2.2.2.1 nd wh sg kp bg pl ph pr ar va og O v.2.2.2.2.2.2.2.2.2.2.2.2.2.2.2.2.2.2.2.2.2.2.2.2.2.2.2.2.2.2.2.2.2))))) :
    wpY_move K (zy_m v (nI n) (-1) rs (nI st) (nI C) nd wh sg kp bg pl ph pr ar va og O) (nI (a + 1)) := by
  have h40 := hW.2.2.1
  have hsk : yf_skind v (nI s).toNatClampNeg = nI (pg_sk P s) := by
    rw [nI_clamp (by omega), hP.2.2.2.2.2.2.2.1]; exact (hW.2.2.2.2.2 s hs).1
  exact nm_r (nI_pred a) ⟨ym_in ha, nm_r (ym_f ha hbg) ⟨vp_in_nI (by omega) (by omega), nm_r hsk ⟨ym_in ha, nm_r (ym_f ha hpl) k⟩⟩⟩
theorem ym_q {k m : Nat} (hk : k < 50) (hm : m < 50) (h : k ≠ m) : ¬ nI k = nI m := fun z => h ((nI_eq (by omega) (by omega)).mp z)
theorem yl_rep {y : Int32} (ha : a < 400) (k : K (nI (a + 1)) (zy_m v na en rs (nI st) (nI C) nd wh sg kp (upd bg a y) pl (upd ph a 0) pr ar va og O)) : wpY_replace K (zy_m v na en rs (nI st) (nI C) nd wh sg kp bg pl ph pr ar va og O) (nI a) y := by
  have e1 : upd bg (nI a).toNatClampNeg y = upd bg a y := by rw [nI_clamp (by omega)]
  have e2 : upd ph (nI a).toNatClampNeg 0 = upd ph a 0 := by rw [nI_clamp (by omega)]
  have k2 : K (nI a + 1) (zy_m v na en rs (nI st) (nI C) nd wh sg kp (upd bg a y) pl (upd ph a 0) pr ar va og O) := by rw [nI_1]; exact k
  exact ⟨ym_in ha, nm_r e1 ⟨ym_in ha, nm_r e2 k2⟩⟩
theorem ym_nop (hP : yp_P v P) (hW : pg_W P np ne ns) (hs : s < ns) (ha : a < 400) (hbg : bg a = nI s) (hpl : pl a = nI i) (hk : pg_sk P s = 6) (k : K (nI a) (zy_m v (nI n) (-1) rs (nI st) (nI C) nd wh sg kp bg pl ph pr ar va og O)) : wpY_move K (zy_m v (nI n) (-1) rs (nI st) (nI C) nd wh sg kp bg pl ph pr ar va og O) (nI (a + 1)) := by
  refine ym_pre hP hW hs ha hbg hpl ?_
  rw [hk]
  exact br_t rfl k
theorem ym_sx (hP : yp_P v P) (hW : pg_W P np ne ns) (hs : s < ns) {y : Int32} (h : P 8 s = y) : yf_sx v (nI s).toNatClampNeg = y := by
  have h40 := hW.2.2.1
  rw [nI_clamp (by omega), hP.2.2.2.2.2.2.2.2.1]; exact h
theorem ym_sy (hP : yp_P v P) (hW : pg_W P np ne ns) (hs : s < ns) {y : Int32} (h : P 9 s = y) : yf_sy v (nI s).toNatClampNeg = y := by
  have h40 := hW.2.2.1
  rw [nI_clamp (by omega), hP.2.2.2.2.2.2.2.2.2.1]; exact h
theorem ym_sz (hP : yp_P v P) (hW : pg_W P np ne ns) (hs : s < ns) {y : Int32} (h : P 10 s = y) : yf_sz v (nI s).toNatClampNeg = y := by
  have h40 := hW.2.2.1
  rw [nI_clamp (by omega), hP.2.2.2.2.2.2.2.2.2.2.1]; exact h
theorem ym_s40 (hW : pg_W P np ne ns) (hs : s < ns) : vp_in (nI s) 40 := by
  have h40 := hW.2.2.1
  exact vp_in_nI (by omega) (by omega)
theorem ym_then0 (hP : yp_P v P) (hW : pg_W P np ne ns) (hs : s < ns) (ha : a + 1 < 400) (hbg : bg a = nI s) (hpl : pl a = nI i) (hph : ph a = 0) (hk : pg_sk P s = 1)
    (k : K (nI (a + 1 + 1)) (zy_m v (nI n) (-1) rs (nI st) (nI C) nd wh sg kp (upd bg (a + 1) (nI (pg_sx P s))) (upd pl (a + 1) (nI i)) (upd (upd ph a 1) (a + 1) 0) pr ar va og O)) : wpY_move K (zy_m v (nI n) (-1) rs (nI st) (nI C) nd wh sg kp bg pl ph pr ar va og O) (nI (a + 1)) := by
  have h1 := (hW.2.2.2.2.2 s hs).2.2.2.2.2.2.1 hk
  refine ym_pre hP hW hs (by omega) hbg hpl ?_
  rw [hk]
  have hph' : ¬ ph (nI a).toNatClampNeg = 1 := yi_ne (ym_f (by omega) hph) (by decide)
  have e1 : upd ph (nI a).toNatClampNeg 1 = upd ph a 1 := by rw [nI_clamp (by omega)]
  have e2 : upd pl (nI (a + 1)).toNatClampNeg (nI i) = upd pl (a + 1) (nI i) := by rw [nI_clamp (by omega)]
  refine br_f (by decide) (br_t rfl ⟨ym_in (by omega), br_f hph' (br_f (by decide) (br_t rfl ⟨ym_in (by omega), nm_r e1 ⟨ym_in ha, nm_r e2 ⟨ym_s40 hW hs, ?_⟩⟩⟩))⟩)
  show wpY_replace _ _ _ (yf_sx v (nI s).toNatClampNeg)
  rw [ym_sx hP hW hs h1.1]
  exact yl_rep ha k
theorem ym_then1 (hP : yp_P v P) (hW : pg_W P np ne ns) (hs : s < ns) (ha : a < 400) (hbg : bg a = nI s) (hpl : pl a = nI i) (hph : ph a = 1) (hk : pg_sk P s = 1)
    (k : K (nI (a + 1)) (zy_m v (nI n) (-1) rs (nI st) (nI C) nd wh sg kp (upd bg a (nI (pg_sy P s))) pl (upd ph a 0) pr ar va og O)) : wpY_move K (zy_m v (nI n) (-1) rs (nI st) (nI C) nd wh sg kp bg pl ph pr ar va og O) (nI (a + 1)) := by
  have h1 := (hW.2.2.2.2.2 s hs).2.2.2.2.2.2.1 hk
  refine ym_pre hP hW hs ha hbg hpl ?_
  rw [hk, ym_sy hP hW hs h1.2.2.1]
  exact br_f (by decide) (br_t rfl ⟨ym_in ha, br_t (ym_f ha hph) ⟨ym_s40 hW hs, yl_rep ha k⟩⟩)
/-- up to the step that a statement takes -/
theorem ym_92 (hP : yp_P v P) (hW : pg_W P np ne ns) (hs : s < ns) (ha : a < 400) (hbg : bg a = nI s) (hpl : pl a = nI i) (hph : ph a = 0) (hk : pg_sk P s ≠ 6 ∧ pg_sk P s ≠ 1)
    (k : wY_move_92 K (nI (a + 1)) (nI a) (nI s) (nI (pg_sk P s)) (nI i) v.1 v.2.1 v.2.2.1 (nI n) (-1) rs (nI st) (nI C) v.2.2.2.2.2.2.2.2.1 v.2.2.2.2.2.2.2.2.2.1 v.2.2.2.2.2.2.2.2.2.2.1 v.2.2.2.2.2.2.2.2.2.2.2.1 v.2.2.2.2.2.2.2.2.2.2.2.2.1 v.2.2.2.2.2.2.2.2.2.2.2.2.2.1 v.2.2.2.2.2.2.2.2.2.2.2.2.2.2.1 v.2.2.2.2.2.2.2.2.2.2.2.2.2.2.2.1 v.2.2.2.2.2.2.2.2.2.2.2.2.2.2.2.2.1 v.2.2.2.2.2.2.2.2.2.2.2.2.2.2.2.2.2.1 v.2.2.2.2.2.2.2.2.2.2.2.2.2.2.2.2.2.2.1 v.2.2.2.2.2.2.2.2.2.2.2.2.2.2.2.2.2.2.2.1 v.2.2.2.2.2.2.2.2.2.2.2.2.2.2.2.2.2.2.2.2.1 nd wh sg kp bg pl ph pr ar va og O v.2.2.2.2.2.2.2.2.2.2.2.2.2.2.2.2.2.2.2.2.2.2.2.2.2.2.2.2.2.2.2.2.2) : wpY_move K (zy_m v (nI n) (-1) rs (nI st) (nI C) nd wh sg kp bg pl ph pr ar va og O) (nI (a + 1)) := by
  have h6 := (hW.2.2.2.2.2 s hs).2.1
  refine ym_pre hP hW hs ha hbg hpl ?_
  refine br_f (ym_q (m := 6) (by omega) (by omega) hk.1) (br_f (ym_q (m := 1) (by omega) (by omega) hk.2) ?_)
  by_cases h5 : pg_sk P s = 5
  · exact br_t (congrArg nI h5) ⟨ym_in ha, br_f (yi_ne (ym_f ha hph) (by decide)) k⟩
  · exact br_f (ym_q (m := 5) (by omega) (by omega) h5) k
theorem ym_tired (hP : yp_P v P) (hW : pg_W P np ne ns) (hs : s < ns) (ha : a < 400) (hbg : bg a = nI s) (hpl : pl a = nI i) (hph : ph a = 0) (hk : pg_sk P s ≠ 6 ∧ pg_sk P s ≠ 1) (hst : st = 500)
    (k : K (nI (a + 1)) (zy_m v (nI n) 1 rs (nI 500) (nI C) nd wh sg kp bg pl ph pr ar va og O)) : wpY_move K (zy_m v (nI n) (-1) rs (nI st) (nI C) nd wh sg kp bg pl ph pr ar va og O) (nI (a + 1)) := by
  have h6 := (hW.2.2.2.2.2 s hs).2.1
  refine ym_92 hP hW hs ha hbg hpl hph hk ?_
  subst hst
  exact br_f (ym_q (m := 1) (by omega) (by omega) hk.2) (br_t rfl (br_f (by decide) k))
end
end
section
/-! the reference's statements: moves with an expression -/
theorem yw_V {P : pg_P} {u : SY} {e i st st' : Nat} {w : Int32} (hV : ye_V u P i e st w st') (h4 : 16 * i + pg_ew P e ≤ 400) (hst : yf_steps u = nI st) (hen : yf_ending u = -1) :
    ∃ nd' wh' sg' kp' : Nat → Int32, ∀ post : SY → Prop, post (zy_w u w (nI st') (-1) nd' wh' sg' kp') → wpY_workOut post u (nI e) (nI i) := by
  obtain ⟨nd', wh', sg', kp', _, k⟩ := hV 0 (yf_result u) (upd (yf_node u) 0 (nI e)) (upd (yf_where u) 0 (nI i)) (upd (yf_stage u) 0 0) (yf_kept u) (by omega) pk_us pk_us pk_us
  refine ⟨nd', wh', sg', kp', fun post h => ?_⟩
  refine nm_e (nm_e (nm_e ?_))
  have k2 := k post ⟨1, br_t (by decide) h⟩
  rw [← hst, ← hen] at k2
  exact k2
theorem yw_T {P : pg_P} {u : SY} {e i st : Nat} (hV : ye_T u P i e st) (h4 : 16 * i + pg_ew P e ≤ 400) (hst : yf_steps u = nI st) (hen : yf_ending u = -1) :
    ∃ (rs' : Int32) (nd' wh' sg' kp' : Nat → Int32), ∀ post : SY → Prop, post (zy_w u rs' (nI 500) 1 nd' wh' sg' kp') → wpY_workOut post u (nI e) (nI i) := by
  obtain ⟨rs', nd', wh', sg', kp', k⟩ := hV 0 (yf_result u) (upd (yf_node u) 0 (nI e)) (upd (yf_where u) 0 (nI i)) (upd (yf_stage u) 0 0) (yf_kept u) (by omega) pk_us pk_us pk_us
  refine ⟨rs', nd', wh', sg', kp', fun post h => ?_⟩
  refine nm_e (nm_e (nm_e ?_))
  have k2 := k post h
  rw [← hst, ← hen] at k2
  exact k2
section
variable {v : SY} {P : pg_P} {np ne ns n : Nat} {p r g : Nat → Nat} {x : Nat → Int32} {s st st' C a i : Nat} {rs w : Int32} {nd wh sg kp bg pl ph pr ar va og O : Nat → Int32} {K : Int32 → SY → Prop}
/-- the expression that a statement begins with -/
def ym_e (P : pg_P) (s : Nat) : Nat := if pg_sk P s = 0 then pg_sy P s else pg_sx P s
theorem ym_215 (hP : yp_P v P) (hW : pg_W P np ne ns) (hs : s < ns) (ha : a < 400) (hbg : bg a = nI s) (hpl : pl a = nI i) (hph : ph a = 0) (hk : pg_sk P s = 0 ∨ pg_sk P s = 2 ∨ pg_sk P s = 3 ∨ pg_sk P s = 4) (hst : st < 500)
    (k : wY_move_215 K (nI (a + 1)) (nI a) (nI s) (nI (pg_sk P s)) (nI i) (nI (ym_e P s)) v.1 v.2.1 v.2.2.1 (nI n) (-1) rs (nI (st + 1)) (nI C) v.2.2.2.2.2.2.2.2.1 v.2.2.2.2.2.2.2.2.2.1 v.2.2.2.2.2.2.2.2.2.2.1 v.2.2.2.2.2.2.2.2.2.2.2.1 v.2.2.2.2.2.2.2.2.2.2.2.2.1 v.2.2.2.2.2.2.2.2.2.2.2.2.2.1 v.2.2.2.2.2.2.2.2.2.2.2.2.2.2.1 v.2.2.2.2.2.2.2.2.2.2.2.2.2.2.2.1 v.2.2.2.2.2.2.2.2.2.2.2.2.2.2.2.2.1 v.2.2.2.2.2.2.2.2.2.2.2.2.2.2.2.2.2.1 v.2.2.2.2.2.2.2.2.2.2.2.2.2.2.2.2.2.2.1 v.2.2.2.2.2.2.2.2.2.2.2.2.2.2.2.2.2.2.2.1 v.2.2.2.2.2.2.2.2.2.2.2.2.2.2.2.2.2.2.2.2.1 nd wh sg kp bg pl ph pr ar va og O v.2.2.2.2.2.2.2.2.2.2.2.2.2.2.2.2.2.2.2.2.2.2.2.2.2.2.2.2.2.2.2.2.2) : wpY_move K (zy_m v (nI n) (-1) rs (nI st) (nI C) nd wh sg kp bg pl ph pr ar va og O) (nI (a + 1)) := by
  have hWs := hW.2.2.2.2.2 s hs
  refine ym_92 hP hW hs ha hbg hpl hph (by omega) ?_
  refine br_f (ym_q (m := 1) (by omega) (by omega) (by omega)) (br_f (fun z => by have := (nI_eq (b := 500) (by omega) (by omega)).mp z; omega) (nm_r (nI_1 st) (br_t (by decide) (br_f (ym_q (m := 5) (by omega) (by omega) (by omega)) ?_))))
  unfold ym_e at k
  by_cases h0 : pg_sk P s = 0
  · rw [if_pos h0] at k
    refine br_t (congrArg nI h0) ⟨ym_s40 hW hs, ?_⟩
    show wY_move_215 K _ _ _ _ _ (yf_sy v (nI s).toNatClampNeg) v.1 v.2.1 v.2.2.1 (nI n) (-1) rs (nI (st + 1)) (nI C) v.2.2.2.2.2.2.2.2.1 v.2.2.2.2.2.2.2.2.2.1 v.2.2.2.2.2.2.2.2.2.2.1 v.2.2.2.2.2.2.2.2.2.2.2.1 v.2.2.2.2.2.2.2.2.2.2.2.2.1 v.2.2.2.2.2.2.2.2.2.2.2.2.2.1 v.2.2.2.2.2.2.2.2.2.2.2.2.2.2.1 v.2.2.2.2.2.2.2.2.2.2.2.2.2.2.2.1 v.2.2.2.2.2.2.2.2.2.2.2.2.2.2.2.2.1 v.2.2.2.2.2.2.2.2.2.2.2.2.2.2.2.2.2.1 v.2.2.2.2.2.2.2.2.2.2.2.2.2.2.2.2.2.2.1 v.2.2.2.2.2.2.2.2.2.2.2.2.2.2.2.2.2.2.2.1 v.2.2.2.2.2.2.2.2.2.2.2.2.2.2.2.2.2.2.2.2.1 nd wh sg kp bg pl ph pr ar va og O v.2.2.2.2.2.2.2.2.2.2.2.2.2.2.2.2.2.2.2.2.2.2.2.2.2.2.2.2.2.2.2.2.2
    rw [ym_sy hP hW hs (hWs.2.2.2.2.2.1 h0).2.2.1]
    exact k
  · rw [if_neg h0] at k
    refine br_f (ym_q (m := 0) (by omega) (by omega) h0) ⟨ym_s40 hW hs, ?_⟩
    show wY_move_215 K _ _ _ _ _ (yf_sx v (nI s).toNatClampNeg) v.1 v.2.1 v.2.2.1 (nI n) (-1) rs (nI (st + 1)) (nI C) v.2.2.2.2.2.2.2.2.1 v.2.2.2.2.2.2.2.2.2.1 v.2.2.2.2.2.2.2.2.2.2.1 v.2.2.2.2.2.2.2.2.2.2.2.1 v.2.2.2.2.2.2.2.2.2.2.2.2.1 v.2.2.2.2.2.2.2.2.2.2.2.2.2.1 v.2.2.2.2.2.2.2.2.2.2.2.2.2.2.1 v.2.2.2.2.2.2.2.2.2.2.2.2.2.2.2.1 v.2.2.2.2.2.2.2.2.2.2.2.2.2.2.2.2.1 v.2.2.2.2.2.2.2.2.2.2.2.2.2.2.2.2.2.1 v.2.2.2.2.2.2.2.2.2.2.2.2.2.2.2.2.2.2.1 v.2.2.2.2.2.2.2.2.2.2.2.2.2.2.2.2.2.2.2.1 v.2.2.2.2.2.2.2.2.2.2.2.2.2.2.2.2.2.2.2.2.1 nd wh sg kp bg pl ph pr ar va og O v.2.2.2.2.2.2.2.2.2.2.2.2.2.2.2.2.2.2.2.2.2.2.2.2.2.2.2.2.2.2.2.2.2
    have hx : P 8 s = nI (pg_sx P s) := by
      rcases hk with h | h | h | h
      · exact absurd h h0
      · exact (hWs.2.2.2.2.2.2.2.1 h).1
      · exact (hWs.2.2.2.2.2.2.2.2.1 h).1
      · exact (hWs.2.2.2.2.2.2.2.2.2.1 h).1
    rw [ym_sx hP hW hs hx]
    exact k
theorem ym_eT (hP : yp_P v P) (hW : pg_W P np ne ns) (hs : s < ns) (ha : a < 400) (hbg : bg a = nI s) (hpl : pl a = nI i) (hph : ph a = 0) (hk : pg_sk P s = 0 ∨ pg_sk P s = 2 ∨ pg_sk P s = 3 ∨ pg_sk P s = 4) (hst : st < 500) (h4 : 16 * i + pg_ew P (ym_e P s) ≤ 400) (hV : ye_T (zy_m v (nI n) (-1) rs (nI (st + 1)) (nI C) nd wh sg kp bg pl ph pr ar va og O) P i (ym_e P s) (st + 1)) :
    ∃ (rs' : Int32) (nd' wh' sg' kp' : Nat → Int32), ∀ K : Int32 → SY → Prop, K (nI (a + 1)) (zy_m v (nI n) 1 rs' (nI 500) (nI C) nd' wh' sg' kp' bg pl ph pr ar va og O) → wpY_move K (zy_m v (nI n) (-1) rs (nI st) (nI C) nd wh sg kp bg pl ph pr ar va og O) (nI (a + 1)) := by
  obtain ⟨rs', nd', wh', sg', kp', k⟩ := yw_T hV h4 rfl rfl
  refine ⟨rs', nd', wh', sg', kp', fun K h => ym_215 hP hW hs ha hbg hpl hph hk hst ?_⟩
  unfold wY_move_215
  refine k _ ?_
  exact br_f (by decide) h
theorem ym_print (hP : yp_P v P) (hW : pg_W P np ne ns) (hs : s < ns) (ha : a < 400) (hbg : bg a = nI s) (hpl : pl a = nI i) (hph : ph a = 0) (hk : pg_sk P s = 4) (hst : st < 500) (hC : C ≤ 500) (h4 : 16 * i + pg_ew P (ym_e P s) ≤ 400) (hV : ye_V (zy_m v (nI n) (-1) rs (nI (st + 1)) (nI C) nd wh sg kp bg pl ph pr ar va og O) P i (ym_e P s) (st + 1) w st') :
    ∃ (nd' wh' sg' kp' : Nat → Int32), ∀ K : Int32 → SY → Prop, K (nI a) (zy_m v (nI n) (-1) w (nI st') (nI (C + 1)) nd' wh' sg' kp' bg pl ph pr ar va og (ra_pO O C w)) → wpY_move K (zy_m v (nI n) (-1) rs (nI st) (nI C) nd wh sg kp bg pl ph pr ar va og O) (nI (a + 1)) := by
  obtain ⟨nd', wh', sg', kp', k⟩ := yw_V hV h4 rfl rfl
  refine ⟨nd', wh', sg', kp', fun K h => ym_215 hP hW hs ha hbg hpl hph (by omega) hst ?_⟩
  unfold wY_move_215
  refine k _ ?_
  rw [hk]
  refine br_t (by decide) (br_f (by decide) (br_t rfl ?_))
  unfold ra_pO at h
  by_cases hc : C < 30
  · rw [if_pos hc] at h
    have e : upd O (nI C).toNatClampNeg w = upd O C w := by rw [nI_clamp (by omega)]
    exact br_f (nI_ge (b := 30) hc (by omega)) ⟨vp_in_nI hc (by omega), nm_r e (nm_r (nI_1 C) (br_f (by decide) (br_f (by decide) (br_t (by decide) h))))⟩
  · rw [if_neg hc] at h
    exact br_t (nI_le (a := 30) (by omega) (by omega)) (nm_r (nI_1 C) (br_f (by decide) (br_f (by decide) (br_t (by decide) h))))
theorem ym_if1 (hP : yp_P v P) (hW : pg_W P np ne ns) (hs : s < ns) (ha : a < 400) (hbg : bg a = nI s) (hpl : pl a = nI i) (hph : ph a = 0) (hk : pg_sk P s = 2) (hst : st < 500) (h4 : 16 * i + pg_ew P (ym_e P s) ≤ 400) (hw : w ≠ 0) (hV : ye_V (zy_m v (nI n) (-1) rs (nI (st + 1)) (nI C) nd wh sg kp bg pl ph pr ar va og O) P i (ym_e P s) (st + 1) w st') :
    ∃ (nd' wh' sg' kp' : Nat → Int32), ∀ K : Int32 → SY → Prop, K (nI (a + 1)) (zy_m v (nI n) (-1) w (nI st') (nI C) nd' wh' sg' kp' (upd bg a (nI (pg_sy P s))) pl (upd ph a 0) pr ar va og O) → wpY_move K (zy_m v (nI n) (-1) rs (nI st) (nI C) nd wh sg kp bg pl ph pr ar va og O) (nI (a + 1)) := by
  have hWs := (hW.2.2.2.2.2 s hs).2.2.2.2.2.2.2.1 hk
  have h40 := hW.2.2.1
  obtain ⟨nd', wh', sg', kp', k⟩ := yw_V hV h4 rfl rfl
  refine ⟨nd', wh', sg', kp', fun K h => ym_215 hP hW hs ha hbg hpl hph (by omega) hst ?_⟩
  unfold wY_move_215
  refine k _ ?_
  rw [hk]
  refine br_t (by decide) (br_f (by decide) (br_f (by decide) (br_f (by decide) (br_t rfl (br_f hw ⟨ym_s40 hW hs, ?_⟩)))))
  have e : ¬ yf_sy v (nI s).toNatClampNeg < 0 := by
    rw [ym_sy hP hW hs hWs.2.2.1]; exact nI_pos (by omega)
  refine br_f e ?_
  show wpY_replace _ _ _ (yf_sy v (nI s).toNatClampNeg)
  rw [ym_sy hP hW hs hWs.2.2.1]
  exact yl_rep ha h
theorem ym_if0 (hP : yp_P v P) (hW : pg_W P np ne ns) (hs : s < ns) (ha : a < 400) (hbg : bg a = nI s) (hpl : pl a = nI i) (hph : ph a = 0) (hk : pg_sk P s = 2) (hz : 0 ≤ P 10 s) (hst : st < 500) (h4 : 16 * i + pg_ew P (ym_e P s) ≤ 400) (hV : ye_V (zy_m v (nI n) (-1) rs (nI (st + 1)) (nI C) nd wh sg kp bg pl ph pr ar va og O) P i (ym_e P s) (st + 1) 0 st') :
    ∃ (nd' wh' sg' kp' : Nat → Int32), ∀ K : Int32 → SY → Prop, K (nI (a + 1)) (zy_m v (nI n) (-1) 0 (nI st') (nI C) nd' wh' sg' kp' (upd bg a (nI (pg_sz P s))) pl (upd ph a 0) pr ar va og O) → wpY_move K (zy_m v (nI n) (-1) rs (nI st) (nI C) nd wh sg kp bg pl ph pr ar va og O) (nI (a + 1)) := by
  have hWs := (hW.2.2.2.2.2 s hs).2.2.2.2.2.2.2.1 hk
  have h40 := hW.2.2.1
  have hz2 : P 10 s = nI (pg_sz P s) ∧ pg_sz P s < s := by
    rcases hWs.2.2.2.2 with h | h
    · rw [h.1] at hz; exact absurd hz (by decide)
    · exact ⟨h.1, h.2.1⟩
  obtain ⟨nd', wh', sg', kp', k⟩ := yw_V hV h4 rfl rfl
  refine ⟨nd', wh', sg', kp', fun K h => ym_215 hP hW hs ha hbg hpl hph (by omega) hst ?_⟩
  unfold wY_move_215
  refine k _ ?_
  rw [hk]
  refine br_t (by decide) (br_f (by decide) (br_f (by decide) (br_f (by decide) (br_t rfl (br_t rfl ⟨ym_s40 hW hs, ?_⟩)))))
  have e : ¬ yf_sz v (nI s).toNatClampNeg < 0 := by
    rw [ym_sz hP hW hs hz2.1]; exact nI_pos (by omega)
  refine br_f e ?_
  show wpY_replace _ _ _ (yf_sz v (nI s).toNatClampNeg)
  rw [ym_sz hP hW hs hz2.1]
  exact yl_rep ha h
theorem ym_if0n (hP : yp_P v P) (hW : pg_W P np ne ns) (hs : s < ns) (ha : a < 400) (hbg : bg a = nI s) (hpl : pl a = nI i) (hph : ph a = 0) (hk : pg_sk P s = 2) (hz : ¬ 0 ≤ P 10 s) (hst : st < 500) (h4 : 16 * i + pg_ew P (ym_e P s) ≤ 400) (hV : ye_V (zy_m v (nI n) (-1) rs (nI (st + 1)) (nI C) nd wh sg kp bg pl ph pr ar va og O) P i (ym_e P s) (st + 1) 0 st') :
    ∃ (nd' wh' sg' kp' : Nat → Int32), ∀ K : Int32 → SY → Prop, K (nI a) (zy_m v (nI n) (-1) 0 (nI st') (nI C) nd' wh' sg' kp' bg pl ph pr ar va og O) → wpY_move K (zy_m v (nI n) (-1) rs (nI st) (nI C) nd wh sg kp bg pl ph pr ar va og O) (nI (a + 1)) := by
  obtain ⟨nd', wh', sg', kp', k⟩ := yw_V hV h4 rfl rfl
  refine ⟨nd', wh', sg', kp', fun K h => ym_215 hP hW hs ha hbg hpl hph (by omega) hst ?_⟩
  unfold wY_move_215
  refine k _ ?_
  rw [hk]
  have e : yf_sz v (nI s).toNatClampNeg < 0 := by
    rw [ym_sz hP hW hs rfl]; exact Int32.not_le.mp hz
  exact br_t (by decide) (br_f (by decide) (br_f (by decide) (br_f (by decide) (br_t rfl (br_t rfl ⟨ym_s40 hW hs, br_t e h⟩)))))
theorem ym_wh0 (hP : yp_P v P) (hW : pg_W P np ne ns) (hs : s < ns) (ha : a < 400) (hbg : bg a = nI s) (hpl : pl a = nI i) (hph : ph a = 0) (hk : pg_sk P s = 3) (hst : st < 500) (h4 : 16 * i + pg_ew P (ym_e P s) ≤ 400) (hV : ye_V (zy_m v (nI n) (-1) rs (nI (st + 1)) (nI C) nd wh sg kp bg pl ph pr ar va og O) P i (ym_e P s) (st + 1) 0 st') :
    ∃ (nd' wh' sg' kp' : Nat → Int32), ∀ K : Int32 → SY → Prop, K (nI a) (zy_m v (nI n) (-1) 0 (nI st') (nI C) nd' wh' sg' kp' bg pl ph pr ar va og O) → wpY_move K (zy_m v (nI n) (-1) rs (nI st) (nI C) nd wh sg kp bg pl ph pr ar va og O) (nI (a + 1)) := by
  obtain ⟨nd', wh', sg', kp', k⟩ := yw_V hV h4 rfl rfl
  refine ⟨nd', wh', sg', kp', fun K h => ym_215 hP hW hs ha hbg hpl hph (by omega) hst ?_⟩
  unfold wY_move_215
  refine k _ ?_
  rw [hk]
  exact br_t (by decide) (br_f (by decide) (br_f (by decide) (br_t rfl (br_t rfl (br_f (by decide) (br_t (by decide) h))))))
theorem ym_wh1 (hP : yp_P v P) (hW : pg_W P np ne ns) (hs : s < ns) (ha : a + 1 < 400) (hbg : bg a = nI s) (hpl : pl a = nI i) (hph : ph a = 0) (hk : pg_sk P s = 3) (hst : st < 500) (h4 : 16 * i + pg_ew P (ym_e P s) ≤ 400) (hw : w ≠ 0) (hV : ye_V (zy_m v (nI n) (-1) rs (nI (st + 1)) (nI C) nd wh sg kp bg pl ph pr ar va og O) P i (ym_e P s) (st + 1) w st') :
    ∃ (nd' wh' sg' kp' : Nat → Int32), ∀ K : Int32 → SY → Prop, K (nI (a + 1 + 1)) (zy_m v (nI n) (-1) w (nI st') (nI C) nd' wh' sg' kp' (upd bg (a + 1) (nI (pg_sy P s))) (upd pl (a + 1) (nI i)) (upd ph (a + 1) 0) pr ar va og O) → wpY_move K (zy_m v (nI n) (-1) rs (nI st) (nI C) nd wh sg kp bg pl ph pr ar va og O) (nI (a + 1)) := by
  have hWs := (hW.2.2.2.2.2 s hs).2.2.2.2.2.2.2.2.1 hk
  obtain ⟨nd', wh', sg', kp', k⟩ := yw_V hV h4 rfl rfl
  refine ⟨nd', wh', sg', kp', fun K h => ym_215 hP hW hs (by omega) hbg hpl hph (by omega) hst ?_⟩
  unfold wY_move_215
  refine k _ ?_
  rw [hk]
  have e2 : upd pl (nI (a + 1)).toNatClampNeg (nI i) = upd pl (a + 1) (nI i) := by rw [nI_clamp (by omega)]
  refine br_t (by decide) (br_f (by decide) (br_f (by decide) (br_t rfl (br_f hw ⟨ym_in ha, nm_r e2 ⟨ym_s40 hW hs, ?_⟩⟩))))
  show wpY_replace _ _ _ (yf_sy v (nI s).toNatClampNeg)
  rw [ym_sy hP hW hs hWs.2.2.1]
  exact yl_rep ha h
/-- a variable is set: what 'become' leaves -/
theorem ym_set (hP : yp_P v P) (hW : pg_W P np ne ns) (hA : sr_A P np ne n p r g x) (hH : yh_H n p r g x pr ar va og) (hs : s < ns) (ha : a < 400) (hbg : bg a = nI s) (hpl : pl a = nI i) (hph : ph a = 0) (hk : pg_sk P s = 0) (hsn : pg_sn P np (p i) (pg_sx P s)) (hi : i < n) (hst : st < 500) (h4 : 16 * i + pg_ew P (ym_e P s) ≤ 400) (hV : ye_V (zy_m v (nI n) (-1) rs (nI (st + 1)) (nI C) nd wh sg kp bg pl ph pr ar va og O) P i (ym_e P s) (st + 1) w st') :
    ∃ (nd' wh' sg' kp' : Nat → Int32), ∀ K : Int32 → SY → Prop, (∀ post : SY → Prop, (∀ (st2 : Nat) (rc : Int32) (va' : Nat → Int32), K (nI a) (zy_m v (nI n) rc w (nI st2) (nI C) nd' wh' sg' kp' bg pl ph pr ar va' og O) → post (zy_m v (nI n) rc w (nI st2) (nI C) nd' wh' sg' kp' bg pl ph pr ar va' og O)) → yb_R post w (pg_sx P s) (rb_it r (pg_h P (p i) (pg_sx P s / 5)) i) (zy_m v (nI n) (-1) w (nI st') (nI C) nd' wh' sg' kp' bg pl ph pr ar va og O)) → wpY_move K (zy_m v (nI n) (-1) rs (nI st) (nI C) nd wh sg kp bg pl ph pr ar va og O) (nI (a + 1)) := by
  have hWs := (hW.2.2.2.2.2 s hs).2.2.2.2.2.1 hk
  have h5 := hW.1
  obtain ⟨nd', wh', sg', kp', k⟩ := yw_V hV h4 rfl rfl
  refine ⟨nd', wh', sg', kp', fun K h => ym_215 hP hW hs ha hbg hpl hph (by omega) hst ?_⟩
  unfold wY_move_215
  refine k _ ?_
  rw [hk]
  refine br_t (by decide) (br_t rfl ⟨ym_s40 hW hs, ?_⟩)
  show wpY_become _ _ (yf_sx v (nI s).toNatClampNeg) _ _
  rw [ym_sx hP hW hs hWs.1]
  refine ⟨by decide, ?_⟩
  rw [yn_d (by omega)]
  refine yn_find (u := (zy_m v (nI n) (-1) w (nI st') (nI C) nd' wh' sg' kp' bg pl ph pr ar va og O)) hA h5 hH.1 hH.2.1 (by omega) hi hsn.2.1 ?_
  exact h _ (fun st2 rc va' kk => br_f (by decide) (br_f (by decide) (br_f (by decide) (br_t (by decide) kk))))
end
end
section
/-! the reference's calls -/
theorem ym_neg : (-1 : Int32) < 0 := by decide
def pg_np (P : pg_P) (c : Nat) : Nat := if pg_mo P c ≤ 2 then (if pg_mo P c = 0 then 0 else 1) else 2
theorem pg_np0 {P : pg_P} {np ne ns c : Nat} (hW : pg_W P np ne ns) (hc : c < np) : (pg_md P c 0 = 0 → pg_np P c = 0) ∧ (pg_md P c 0 ≠ 0 → 1 ≤ pg_np P c) ∧ (pg_md P c 1 = 0 → pg_np P c ≤ 1) ∧ (pg_md P c 1 ≠ 0 → pg_np P c = 2) ∧ pg_np P c ≤ 2 ∧ (pg_md P c 0 = 0 → pg_md P c 1 = 0) := by
  have h := hW.2.2.2.1 c hc
  have h8 := h.2.2.2.1
  have h3 := h.2.2.2.2.1
  have hd0 : pg_md P c 0 = pg_mo P c % 3 := if_pos rfl
  have hd1 : pg_md P c 1 = pg_mo P c / 3 := if_neg (by decide)
  rw [hd0, hd1]
  unfold pg_np
  by_cases h2 : pg_mo P c ≤ 2
  · rw [if_pos h2]
    by_cases h0 : pg_mo P c = 0
    · rw [if_pos h0, h0]; omega
    · rw [if_neg h0]; omega
  · rw [if_neg h2]
    have := h3 (by omega)
    omega
theorem yn_par {post : Int32 → Prop} {u : SY} {P : pg_P} {np ne ns c : Nat} (hm : yf_modes u = P 1) (hW : pg_W P np ne ns) (hc : c < np) (h : post (nI (pg_np P c))) : wpY_parameters post u (nI c) := by
  have h5 := hW.1
  have hp := hW.2.2.2.1 c hc
  have e : yf_modes u (nI c).toNatClampNeg = nI (pg_mo P c) := by rw [nI_clamp (by omega), hm]; exact hp.2.2.1
  have h8 := hp.2.2.2.1
  unfold pg_np at h
  by_cases h2 : pg_mo P c ≤ 2
  · rw [if_pos h2] at h
    have e2 : yf_modes u (nI c).toNatClampNeg ≤ 2 := by rw [e]; exact nI_le (b := 2) h2 (by omega)
    by_cases h0 : pg_mo P c = 0
    · rw [if_pos h0] at h
      have e3 : yf_modes u (nI c).toNatClampNeg ≤ 0 := by rw [e, h0]; decide
      exact ⟨vp_in_nI (by omega) (by omega), br_t e2 ⟨vp_in_nI (by omega) (by omega), br_t e3 h⟩⟩
    · rw [if_neg h0] at h
      have e3 : ¬ yf_modes u (nI c).toNatClampNeg ≤ 0 := by rw [e]; exact nI_nle (by omega) (by omega)
      exact ⟨vp_in_nI (by omega) (by omega), br_t e2 ⟨vp_in_nI (by omega) (by omega), br_f e3 h⟩⟩
  · rw [if_neg h2] at h
    have e2 : ¬ yf_modes u (nI c).toNatClampNeg ≤ 2 := by rw [e]; exact nI_ge (a := 2) (by omega) (by omega)
    exact ⟨vp_in_nI (by omega) (by omega), br_f e2 h⟩
def yc_R (post : Int32 → SY → Prop) (s i c : Nat) (f0 f1 : Int32) (k : Nat) (u : SY) : Prop := ∃ m, yc_W post (nI s) (nI i) (nI c) m f0 f1 (nI k) u
section
variable {P : pg_P} {np ne ns : Nat} {u u' : SY} {s i c k st st' : Nat} {f0 f1 w : Int32} {post : Int32 → SY → Prop}
theorem yc_2a (hm : yf_modes u = P 1) (hy : yf_sy u = P 9) (hW : pg_W P np ne ns) (hs : s < ns) (hc : c < np) (hd : pg_md P c 0 = 2) {e : Nat} (he : P 9 s = nI e) (k : yc_R post s i c (nI e) f1 1 u) : yc_R post s i c f0 f1 0 u := by
  have h40 := hW.2.2.1
  have hp := pg_np0 hW hc
  have e1 : yf_sy u (nI s).toNatClampNeg = nI e := by rw [nI_clamp (by omega), hy]; exact he
  obtain ⟨m, k⟩ := k
  refine ⟨m + 1, ?_⟩
  unfold yc_W wY_call_16
  refine yn_par (u := u) hm hW hc ?_
  refine br_f (nI_ge (a := 0) (by omega) (by omega)) (br_t rfl ⟨vp_in_nI (by omega) (by omega), ?_⟩)
  show wY_call_46 post _ _ _ _ _ _ _ (yf_sy u (nI s).toNatClampNeg) u.1 u.2.1 u.2.2.1 u.2.2.2.1 u.2.2.2.2.1 u.2.2.2.2.2.1 u.2.2.2.2.2.2.1 u.2.2.2.2.2.2.2.1 u.2.2.2.2.2.2.2.2.1 u.2.2.2.2.2.2.2.2.2.1 u.2.2.2.2.2.2.2.2.2.2.1 u.2.2.2.2.2.2.2.2.2.2.2.1 u.2.2.2.2.2.2.2.2.2.2.2.2.1 u.2.2.2.2.2.2.2.2.2.2.2.2.2.1 u.2.2.2.2.2.2.2.2.2.2.2.2.2.2.1 u.2.2.2.2.2.2.2.2.2.2.2.2.2.2.2.1 u.2.2.2.2.2.2.2.2.2.2.2.2.2.2.2.2.1 u.2.2.2.2.2.2.2.2.2.2.2.2.2.2.2.2.2.1 u.2.2.2.2.2.2.2.2.2.2.2.2.2.2.2.2.2.2.1 u.2.2.2.2.2.2.2.2.2.2.2.2.2.2.2.2.2.2.2.1 u.2.2.2.2.2.2.2.2.2.2.2.2.2.2.2.2.2.2.2.2.1 u.2.2.2.2.2.2.2.2.2.2.2.2.2.2.2.2.2.2.2.2.2.1 u.2.2.2.2.2.2.2.2.2.2.2.2.2.2.2.2.2.2.2.2.2.2.1 u.2.2.2.2.2.2.2.2.2.2.2.2.2.2.2.2.2.2.2.2.2.2.2.1 u.2.2.2.2.2.2.2.2.2.2.2.2.2.2.2.2.2.2.2.2.2.2.2.2.1 u.2.2.2.2.2.2.2.2.2.2.2.2.2.2.2.2.2.2.2.2.2.2.2.2.2.1 u.2.2.2.2.2.2.2.2.2.2.2.2.2.2.2.2.2.2.2.2.2.2.2.2.2.2.1 u.2.2.2.2.2.2.2.2.2.2.2.2.2.2.2.2.2.2.2.2.2.2.2.2.2.2.2.1 u.2.2.2.2.2.2.2.2.2.2.2.2.2.2.2.2.2.2.2.2.2.2.2.2.2.2.2.2.1 u.2.2.2.2.2.2.2.2.2.2.2.2.2.2.2.2.2.2.2.2.2.2.2.2.2.2.2.2.2.1 u.2.2.2.2.2.2.2.2.2.2.2.2.2.2.2.2.2.2.2.2.2.2.2.2.2.2.2.2.2.2.1 u.2.2.2.2.2.2.2.2.2.2.2.2.2.2.2.2.2.2.2.2.2.2.2.2.2.2.2.2.2.2.2.1 u.2.2.2.2.2.2.2.2.2.2.2.2.2.2.2.2.2.2.2.2.2.2.2.2.2.2.2.2.2.2.2.2.1 u.2.2.2.2.2.2.2.2.2.2.2.2.2.2.2.2.2.2.2.2.2.2.2.2.2.2.2.2.2.2.2.2.2
  rw [e1]
  show wpY_mode _ u (nI c) (nI 0)
  refine yn_mode hm hW hc (by omega) ?_
  rw [hd]
  exact br_f (by decide) (br_t rfl (nm_r (nI_1 0) k))
theorem yc_1a (hm : yf_modes u = P 1) (hy : yf_sy u = P 9) (hen : yf_ending u = -1) (hW : pg_W P np ne ns) (hs : s < ns) (hc : c < np) (hd : pg_md P c 0 = 1) {e : Nat} (he : P 9 s = nI e) (hwk : ∀ post : SY → Prop, post u' → wpY_workOut post u (nI e) (nI i)) (k : yc_R post s i c (yf_result u') f1 1 u') : yc_R post s i c f0 f1 0 u := by
  have h40 := hW.2.2.1
  have hp := pg_np0 hW hc
  have e1 : yf_sy u (nI s).toNatClampNeg = nI e := by rw [nI_clamp (by omega), hy]; exact he
  have he2 : ¬ 0 ≤ yf_ending u := by rw [hen]; exact yi_m1
  obtain ⟨m, k⟩ := k
  refine ⟨m + 1, ?_⟩
  unfold yc_W wY_call_16
  refine yn_par (u := u) hm hW hc ?_
  refine br_f (nI_ge (a := 0) (by omega) (by omega)) (br_t rfl ⟨vp_in_nI (by omega) (by omega), ?_⟩)
  show wY_call_46 post _ _ _ _ _ _ _ (yf_sy u (nI s).toNatClampNeg) u.1 u.2.1 u.2.2.1 u.2.2.2.1 u.2.2.2.2.1 u.2.2.2.2.2.1 u.2.2.2.2.2.2.1 u.2.2.2.2.2.2.2.1 u.2.2.2.2.2.2.2.2.1 u.2.2.2.2.2.2.2.2.2.1 u.2.2.2.2.2.2.2.2.2.2.1 u.2.2.2.2.2.2.2.2.2.2.2.1 u.2.2.2.2.2.2.2.2.2.2.2.2.1 u.2.2.2.2.2.2.2.2.2.2.2.2.2.1 u.2.2.2.2.2.2.2.2.2.2.2.2.2.2.1 u.2.2.2.2.2.2.2.2.2.2.2.2.2.2.2.1 u.2.2.2.2.2.2.2.2.2.2.2.2.2.2.2.2.1 u.2.2.2.2.2.2.2.2.2.2.2.2.2.2.2.2.2.1 u.2.2.2.2.2.2.2.2.2.2.2.2.2.2.2.2.2.2.1 u.2.2.2.2.2.2.2.2.2.2.2.2.2.2.2.2.2.2.2.1 u.2.2.2.2.2.2.2.2.2.2.2.2.2.2.2.2.2.2.2.2.1 u.2.2.2.2.2.2.2.2.2.2.2.2.2.2.2.2.2.2.2.2.2.1 u.2.2.2.2.2.2.2.2.2.2.2.2.2.2.2.2.2.2.2.2.2.2.1 u.2.2.2.2.2.2.2.2.2.2.2.2.2.2.2.2.2.2.2.2.2.2.2.1 u.2.2.2.2.2.2.2.2.2.2.2.2.2.2.2.2.2.2.2.2.2.2.2.2.1 u.2.2.2.2.2.2.2.2.2.2.2.2.2.2.2.2.2.2.2.2.2.2.2.2.2.1 u.2.2.2.2.2.2.2.2.2.2.2.2.2.2.2.2.2.2.2.2.2.2.2.2.2.2.1 u.2.2.2.2.2.2.2.2.2.2.2.2.2.2.2.2.2.2.2.2.2.2.2.2.2.2.2.1 u.2.2.2.2.2.2.2.2.2.2.2.2.2.2.2.2.2.2.2.2.2.2.2.2.2.2.2.2.1 u.2.2.2.2.2.2.2.2.2.2.2.2.2.2.2.2.2.2.2.2.2.2.2.2.2.2.2.2.2.1 u.2.2.2.2.2.2.2.2.2.2.2.2.2.2.2.2.2.2.2.2.2.2.2.2.2.2.2.2.2.2.1 u.2.2.2.2.2.2.2.2.2.2.2.2.2.2.2.2.2.2.2.2.2.2.2.2.2.2.2.2.2.2.2.1 u.2.2.2.2.2.2.2.2.2.2.2.2.2.2.2.2.2.2.2.2.2.2.2.2.2.2.2.2.2.2.2.2.1 u.2.2.2.2.2.2.2.2.2.2.2.2.2.2.2.2.2.2.2.2.2.2.2.2.2.2.2.2.2.2.2.2.2
  rw [e1]
  show wpY_mode _ u (nI c) (nI 0)
  refine yn_mode hm hW hc (by omega) ?_
  rw [hd]
  refine br_t rfl (br_f he2 ?_)
  refine hwk _ ?_
  exact br_t rfl (nm_r (nI_1 0) k)
theorem yc_2b (hm : yf_modes u = P 1) (hz : yf_sz u = P 10) (hW : pg_W P np ne ns) (hs : s < ns) (hc : c < np) (hd : pg_md P c 1 = 2) {e : Nat} (he : P 10 s = nI e) (k : yc_R post s i c f0 (nI e) 2 u) : yc_R post s i c f0 f1 1 u := by
  have h40 := hW.2.2.1
  have hp := pg_np0 hW hc
  have e1 : yf_sz u (nI s).toNatClampNeg = nI e := by rw [nI_clamp (by omega), hz]; exact he
  obtain ⟨m, k⟩ := k
  refine ⟨m + 1, ?_⟩
  unfold yc_W wY_call_16
  refine yn_par (u := u) hm hW hc ?_
  refine br_f (nI_ge (a := 1) (by omega) (by omega)) (br_f (by decide) ⟨vp_in_nI (by omega) (by omega), ?_⟩)
  show wY_call_46 post _ _ _ _ _ _ _ (yf_sz u (nI s).toNatClampNeg) u.1 u.2.1 u.2.2.1 u.2.2.2.1 u.2.2.2.2.1 u.2.2.2.2.2.1 u.2.2.2.2.2.2.1 u.2.2.2.2.2.2.2.1 u.2.2.2.2.2.2.2.2.1 u.2.2.2.2.2.2.2.2.2.1 u.2.2.2.2.2.2.2.2.2.2.1 u.2.2.2.2.2.2.2.2.2.2.2.1 u.2.2.2.2.2.2.2.2.2.2.2.2.1 u.2.2.2.2.2.2.2.2.2.2.2.2.2.1 u.2.2.2.2.2.2.2.2.2.2.2.2.2.2.1 u.2.2.2.2.2.2.2.2.2.2.2.2.2.2.2.1 u.2.2.2.2.2.2.2.2.2.2.2.2.2.2.2.2.1 u.2.2.2.2.2.2.2.2.2.2.2.2.2.2.2.2.2.1 u.2.2.2.2.2.2.2.2.2.2.2.2.2.2.2.2.2.2.1 u.2.2.2.2.2.2.2.2.2.2.2.2.2.2.2.2.2.2.2.1 u.2.2.2.2.2.2.2.2.2.2.2.2.2.2.2.2.2.2.2.2.1 u.2.2.2.2.2.2.2.2.2.2.2.2.2.2.2.2.2.2.2.2.2.1 u.2.2.2.2.2.2.2.2.2.2.2.2.2.2.2.2.2.2.2.2.2.2.1 u.2.2.2.2.2.2.2.2.2.2.2.2.2.2.2.2.2.2.2.2.2.2.2.1 u.2.2.2.2.2.2.2.2.2.2.2.2.2.2.2.2.2.2.2.2.2.2.2.2.1 u.2.2.2.2.2.2.2.2.2.2.2.2.2.2.2.2.2.2.2.2.2.2.2.2.2.1 u.2.2.2.2.2.2.2.2.2.2.2.2.2.2.2.2.2.2.2.2.2.2.2.2.2.2.1 u.2.2.2.2.2.2.2.2.2.2.2.2.2.2.2.2.2.2.2.2.2.2.2.2.2.2.2.1 u.2.2.2.2.2.2.2.2.2.2.2.2.2.2.2.2.2.2.2.2.2.2.2.2.2.2.2.2.1 u.2.2.2.2.2.2.2.2.2.2.2.2.2.2.2.2.2.2.2.2.2.2.2.2.2.2.2.2.2.1 u.2.2.2.2.2.2.2.2.2.2.2.2.2.2.2.2.2.2.2.2.2.2.2.2.2.2.2.2.2.2.1 u.2.2.2.2.2.2.2.2.2.2.2.2.2.2.2.2.2.2.2.2.2.2.2.2.2.2.2.2.2.2.2.1 u.2.2.2.2.2.2.2.2.2.2.2.2.2.2.2.2.2.2.2.2.2.2.2.2.2.2.2.2.2.2.2.2.1 u.2.2.2.2.2.2.2.2.2.2.2.2.2.2.2.2.2.2.2.2.2.2.2.2.2.2.2.2.2.2.2.2.2
  rw [e1]
  show wpY_mode _ u (nI c) (nI 1)
  refine yn_mode hm hW hc (by omega) ?_
  rw [hd]
  exact br_f (by decide) (br_f (by decide) (nm_r (nI_1 1) k))
theorem yc_1b (hm : yf_modes u = P 1) (hz : yf_sz u = P 10) (hen : yf_ending u = -1) (hW : pg_W P np ne ns) (hs : s < ns) (hc : c < np) (hd : pg_md P c 1 = 1) {e : Nat} (he : P 10 s = nI e) (hwk : ∀ post : SY → Prop, post u' → wpY_workOut post u (nI e) (nI i)) (k : yc_R post s i c f0 (yf_result u') 2 u') : yc_R post s i c f0 f1 1 u := by
  have h40 := hW.2.2.1
  have hp := pg_np0 hW hc
  have e1 : yf_sz u (nI s).toNatClampNeg = nI e := by rw [nI_clamp (by omega), hz]; exact he
  have he2 : ¬ 0 ≤ yf_ending u := by rw [hen]; exact yi_m1
  obtain ⟨m, k⟩ := k
  refine ⟨m + 1, ?_⟩
  unfold yc_W wY_call_16
  refine yn_par (u := u) hm hW hc ?_
  refine br_f (nI_ge (a := 1) (by omega) (by omega)) (br_f (by decide) ⟨vp_in_nI (by omega) (by omega), ?_⟩)
  show wY_call_46 post _ _ _ _ _ _ _ (yf_sz u (nI s).toNatClampNeg) u.1 u.2.1 u.2.2.1 u.2.2.2.1 u.2.2.2.2.1 u.2.2.2.2.2.1 u.2.2.2.2.2.2.1 u.2.2.2.2.2.2.2.1 u.2.2.2.2.2.2.2.2.1 u.2.2.2.2.2.2.2.2.2.1 u.2.2.2.2.2.2.2.2.2.2.1 u.2.2.2.2.2.2.2.2.2.2.2.1 u.2.2.2.2.2.2.2.2.2.2.2.2.1 u.2.2.2.2.2.2.2.2.2.2.2.2.2.1 u.2.2.2.2.2.2.2.2.2.2.2.2.2.2.1 u.2.2.2.2.2.2.2.2.2.2.2.2.2.2.2.1 u.2.2.2.2.2.2.2.2.2.2.2.2.2.2.2.2.1 u.2.2.2.2.2.2.2.2.2.2.2.2.2.2.2.2.2.1 u.2.2.2.2.2.2.2.2.2.2.2.2.2.2.2.2.2.2.1 u.2.2.2.2.2.2.2.2.2.2.2.2.2.2.2.2.2.2.2.1 u.2.2.2.2.2.2.2.2.2.2.2.2.2.2.2.2.2.2.2.2.1 u.2.2.2.2.2.2.2.2.2.2.2.2.2.2.2.2.2.2.2.2.2.1 u.2.2.2.2.2.2.2.2.2.2.2.2.2.2.2.2.2.2.2.2.2.2.1 u.2.2.2.2.2.2.2.2.2.2.2.2.2.2.2.2.2.2.2.2.2.2.2.1 u.2.2.2.2.2.2.2.2.2.2.2.2.2.2.2.2.2.2.2.2.2.2.2.2.1 u.2.2.2.2.2.2.2.2.2.2.2.2.2.2.2.2.2.2.2.2.2.2.2.2.2.1 u.2.2.2.2.2.2.2.2.2.2.2.2.2.2.2.2.2.2.2.2.2.2.2.2.2.2.1 u.2.2.2.2.2.2.2.2.2.2.2.2.2.2.2.2.2.2.2.2.2.2.2.2.2.2.2.1 u.2.2.2.2.2.2.2.2.2.2.2.2.2.2.2.2.2.2.2.2.2.2.2.2.2.2.2.2.1 u.2.2.2.2.2.2.2.2.2.2.2.2.2.2.2.2.2.2.2.2.2.2.2.2.2.2.2.2.2.1 u.2.2.2.2.2.2.2.2.2.2.2.2.2.2.2.2.2.2.2.2.2.2.2.2.2.2.2.2.2.2.1 u.2.2.2.2.2.2.2.2.2.2.2.2.2.2.2.2.2.2.2.2.2.2.2.2.2.2.2.2.2.2.2.1 u.2.2.2.2.2.2.2.2.2.2.2.2.2.2.2.2.2.2.2.2.2.2.2.2.2.2.2.2.2.2.2.2.1 u.2.2.2.2.2.2.2.2.2.2.2.2.2.2.2.2.2.2.2.2.2.2.2.2.2.2.2.2.2.2.2.2.2
  rw [e1]
  show wpY_mode _ u (nI c) (nI 1)
  refine yn_mode hm hW hc (by omega) ?_
  rw [hd]
  refine br_t rfl (br_f he2 ?_)
  refine hwk _ ?_
  exact br_f (by decide) (nm_r (nI_1 1) k)
/-- nothing is worked out after an ending -/
theorem yc_Eb (hm : yf_modes u = P 1) (hz : yf_sz u = P 10) (hen : 0 ≤ yf_ending u) (hW : pg_W P np ne ns) (hs : s < ns) (hc : c < np) (hd : pg_md P c 1 ≠ 0) {e : Nat} (he : P 10 s = nI e) (k : yc_R post s i c f0 (nI e) 2 u) : yc_R post s i c f0 f1 1 u := by
  have h40 := hW.2.2.1
  have hp := pg_np0 hW hc
  have hmd := sr_md hW hc 1
  have e1 : yf_sz u (nI s).toNatClampNeg = nI e := by rw [nI_clamp (by omega), hz]; exact he
  obtain ⟨m, k⟩ := k
  refine ⟨m + 1, ?_⟩
  unfold yc_W wY_call_16
  refine yn_par (u := u) hm hW hc ?_
  refine br_f (nI_ge (a := 1) (by omega) (by omega)) (br_f (by decide) ⟨vp_in_nI (by omega) (by omega), ?_⟩)
  show wY_call_46 post _ _ _ _ _ _ _ (yf_sz u (nI s).toNatClampNeg) u.1 u.2.1 u.2.2.1 u.2.2.2.1 u.2.2.2.2.1 u.2.2.2.2.2.1 u.2.2.2.2.2.2.1 u.2.2.2.2.2.2.2.1 u.2.2.2.2.2.2.2.2.1 u.2.2.2.2.2.2.2.2.2.1 u.2.2.2.2.2.2.2.2.2.2.1 u.2.2.2.2.2.2.2.2.2.2.2.1 u.2.2.2.2.2.2.2.2.2.2.2.2.1 u.2.2.2.2.2.2.2.2.2.2.2.2.2.1 u.2.2.2.2.2.2.2.2.2.2.2.2.2.2.1 u.2.2.2.2.2.2.2.2.2.2.2.2.2.2.2.1 u.2.2.2.2.2.2.2.2.2.2.2.2.2.2.2.2.1 u.2.2.2.2.2.2.2.2.2.2.2.2.2.2.2.2.2.1 u.2.2.2.2.2.2.2.2.2.2.2.2.2.2.2.2.2.2.1 u.2.2.2.2.2.2.2.2.2.2.2.2.2.2.2.2.2.2.2.1 u.2.2.2.2.2.2.2.2.2.2.2.2.2.2.2.2.2.2.2.2.1 u.2.2.2.2.2.2.2.2.2.2.2.2.2.2.2.2.2.2.2.2.2.1 u.2.2.2.2.2.2.2.2.2.2.2.2.2.2.2.2.2.2.2.2.2.2.1 u.2.2.2.2.2.2.2.2.2.2.2.2.2.2.2.2.2.2.2.2.2.2.2.1 u.2.2.2.2.2.2.2.2.2.2.2.2.2.2.2.2.2.2.2.2.2.2.2.2.1 u.2.2.2.2.2.2.2.2.2.2.2.2.2.2.2.2.2.2.2.2.2.2.2.2.2.1 u.2.2.2.2.2.2.2.2.2.2.2.2.2.2.2.2.2.2.2.2.2.2.2.2.2.2.1 u.2.2.2.2.2.2.2.2.2.2.2.2.2.2.2.2.2.2.2.2.2.2.2.2.2.2.2.1 u.2.2.2.2.2.2.2.2.2.2.2.2.2.2.2.2.2.2.2.2.2.2.2.2.2.2.2.2.1 u.2.2.2.2.2.2.2.2.2.2.2.2.2.2.2.2.2.2.2.2.2.2.2.2.2.2.2.2.2.1 u.2.2.2.2.2.2.2.2.2.2.2.2.2.2.2.2.2.2.2.2.2.2.2.2.2.2.2.2.2.2.1 u.2.2.2.2.2.2.2.2.2.2.2.2.2.2.2.2.2.2.2.2.2.2.2.2.2.2.2.2.2.2.2.1 u.2.2.2.2.2.2.2.2.2.2.2.2.2.2.2.2.2.2.2.2.2.2.2.2.2.2.2.2.2.2.2.2.1 u.2.2.2.2.2.2.2.2.2.2.2.2.2.2.2.2.2.2.2.2.2.2.2.2.2.2.2.2.2.2.2.2.2
  rw [e1]
  show wpY_mode _ u (nI c) (nI 1)
  refine yn_mode hm hW hc (by omega) ?_
  rcases (show pg_md P c 1 = 1 ∨ pg_md P c 1 = 2 by omega) with z | z
  · rw [z]
    exact br_t rfl (br_t hen (br_f (by decide) (nm_r (nI_1 1) k)))
  · rw [z]
    exact br_f (by decide) (br_f (by decide) (nm_r (nI_1 1) k))
theorem yc_endE (hm : yf_modes u = P 1) (hen : 0 ≤ yf_ending u) (hW : pg_W P np ne ns) (hc : c < np) (hk : k = pg_np P c) (h : post (-1) u) : yc_R post s i c f0 f1 k u := by
  have hp := pg_np0 hW hc
  have hen2 : ¬ yf_ending u < 0 := Int32.not_lt.mpr hen
  refine ⟨1, ?_⟩
  unfold yc_W wY_call_16
  refine yn_par (u := u) hm hW hc ?_
  rw [← hk]
  exact br_t (Int32.le_refl _) (br_t hen (br_f hen2 h))
end
section
variable {v : SY} {P : pg_P} {np ne ns n : Nat} {p r g : Nat → Nat} {x : Nat → Int32} {s st st' C a i c k : Nat} {rs w f0 f1 : Int32} {nd wh sg kp bg pl ph pr ar va og O : Nat → Int32} {post : Int32 → SY → Prop} {K : Int32 → SY → Prop}
theorem yc_deep (hP : yp_P v P) (hW : pg_W P np ne ns) (hc : c < np) (hk : k = pg_np P c) (hn : n = 12) (h : post (-1) (zy_m v (nI n) 2 rs (nI st) (nI C) nd wh sg kp bg pl ph pr ar va og O)) : yc_R post s i c f0 f1 k (zy_m v (nI n) (-1) rs (nI st) (nI C) nd wh sg kp bg pl ph pr ar va og O) := by
  have hp := pg_np0 hW hc
  refine ⟨1, ?_⟩
  unfold yc_W wY_call_16
  refine yn_par (u := (zy_m v (nI n) (-1) rs (nI st) (nI C) nd wh sg kp bg pl ph pr ar va og O)) hP.2.1 hW hc ?_
  rw [← hk]
  subst hn
  exact br_t (Int32.le_refl _) (br_f yi_m1 (br_t rfl (br_f (by decide) h)))
def yc_va (va : Nat → Int32) (n : Nat) (f0 f1 : Int32) : Nat → Int32 :=
  upd (upd (upd (upd (upd (upd (upd va (5 * n) 0) (5 * n + 1) 0) (5 * n + 2) 0) (5 * n + 3) 0) (5 * n + 4) 0) (5 * n) f0) (5 * n + 1) f1
def yc_og (og : Nat → Int32) (n i : Nat) : Nat → Int32 := upd (upd og (2 * n) (nI i)) (2 * n + 1) (nI i)
theorem yl_open {c j : Nat} {post : SY → Prop} (hn : n < 12) (h : post (zy_m v (nI (n + 1)) (-1) rs (nI st) (nI C) nd wh sg kp bg pl ph (upd pr n (nI c)) (upd ar n (nI j)) (upd (upd (upd (upd (upd va (5 * n) 0) (5 * n + 1) 0) (5 * n + 2) 0) (5 * n + 3) 0) (5 * n + 4) 0) og O)) : wpY_open post (zy_m v (nI n) (-1) rs (nI st) (nI C) nd wh sg kp bg pl ph pr ar va og O) (nI n) (nI c) (nI j) := by
  have e1 : upd pr (nI n).toNatClampNeg (nI c) = upd pr n (nI c) := by rw [nI_clamp (by omega)]
  have e2 : upd ar (nI n).toNatClampNeg (nI j) = upd ar n (nI j) := by rw [nI_clamp (by omega)]
  have ix : ∀ m : Nat, m < 5 → 5 * nI n + nI m = nI (5 * n + m) := fun m _ => yi_5 n m
  have iv : ∀ m : Nat, m < 5 → vp_in (5 * nI n + nI m) 60 := fun m hm => by rw [ix m hm]; exact vp_in_nI (by omega) (by omega)
  have iu : ∀ (m : Nat) (f : Nat → Int32), m < 5 → upd f (5 * nI n + nI m).toNatClampNeg 0 = upd f (5 * n + m) 0 := fun m f hm => by rw [ix m hm, nI_clamp (by omega)]
  refine ⟨vp_in_nI hn (by omega), nm_r e1 ⟨vp_in_nI hn (by omega), nm_r e2 ⟨6, ?_⟩⟩⟩
  exact br_f (by decide) ⟨iv 0 (by omega), nm_r (iu 0 _ (by omega)) (nm_r (nI_1 0) (br_f (by decide) ⟨iv 1 (by omega), nm_r (iu 1 _ (by omega)) (nm_r (nI_1 1) (br_f (by decide) ⟨iv 2 (by omega), nm_r (iu 2 _ (by omega)) (nm_r (nI_1 2) (br_f (by decide) ⟨iv 3 (by omega), nm_r (iu 3 _ (by omega)) (nm_r (nI_1 3) (br_f (by decide) ⟨iv 4 (by omega), nm_r (iu 4 _ (by omega)) (nm_r (nI_1 4) (br_t (by decide) (nm_r (nI_1 n) h)))⟩))⟩))⟩))⟩))⟩
theorem yc_open (hP : yp_P v P) (hW : pg_W P np ne ns) (hA : sr_A P np ne n p r g x) (hH : yh_H n p r g x pr ar va og) (hc : c < np) (hc0 : c ≠ 0) (hk : k = pg_np P c) (hn : n < 12) (hi : i < n) (han : pg_an P 4 (p i) (pg_pa P c))
    (h : post (nI n) (zy_m v (nI (n + 1)) (-1) rs (nI st) (nI C) nd wh sg kp bg pl ph (upd pr n (nI c)) (upd ar n (nI (rb_it r (pg_h P (p i) (pg_pa P c)) i))) (yc_va va n f0 f1) (yc_og og n i) O)) : yc_R post s i c f0 f1 k (zy_m v (nI n) (-1) rs (nI st) (nI C) nd wh sg kp bg pl ph pr ar va og O) := by
  have hp := pg_np0 hW hc
  have h5 := hW.1
  have hpa := (hW.2.2.2.1 c hc).2.1 hc0
  refine ⟨1, ?_⟩
  unfold yc_W wY_call_16
  refine yn_par (u := (zy_m v (nI n) (-1) rs (nI st) (nI C) nd wh sg kp bg pl ph pr ar va og O)) hP.2.1 hW hc ?_
  rw [← hk]
  have hne : ¬ nI n = 12 := fun z => by have := (nI_eq (b := 12) (by omega) (by omega)).mp z; omega
  refine br_t (Int32.le_refl _) (br_f yi_m1 (br_f hne (br_t ym_neg ⟨vp_in_nI (by omega) (by omega), ?_⟩)))
  have e : yf_parent v (nI c).toNatClampNeg = nI (pg_pa P c) := by rw [nI_clamp (by omega), hP.1]; exact hpa.1
  show wpY_find _ _ _ (yf_parent v (nI c).toNatClampNeg)
  rw [e]
  refine yn_find (u := (zy_m v (nI n) (-1) rs (nI st) (nI C) nd wh sg kp bg pl ph pr ar va og O)) hA h5 hH.1 hH.2.1 (by omega) hi han ?_
  refine yl_open (post := _) hn ?_
  have i5 : (5 : Int32) * nI n = nI (5 * n) := pk_mul 5 n
  have i2 : (2 : Int32) * nI n = nI (2 * n) := pk_mul 2 n
  have c1 : vp_in (5 * nI n) 60 := by rw [i5]; exact vp_in_nI (by omega) (by omega)
  have c2 : vp_in (5 * nI n + 1) 60 := by rw [i5, nI_1]; exact vp_in_nI (by omega) (by omega)
  have c3 : vp_in (2 * nI n) 24 := by rw [i2]; exact vp_in_nI (by omega) (by omega)
  have c4 : vp_in (2 * nI n + 1) 24 := by rw [i2, nI_1]; exact vp_in_nI (by omega) (by omega)
  have u1 : ∀ f : Nat → Int32, upd f (5 * nI n).toNatClampNeg f0 = upd f (5 * n) f0 := fun f => by rw [i5, nI_clamp (by omega)]
  have u2 : ∀ f : Nat → Int32, upd f (5 * nI n + 1).toNatClampNeg f1 = upd f (5 * n + 1) f1 := fun f => by rw [i5, nI_1, nI_clamp (by omega)]
  have u3 : ∀ f : Nat → Int32, upd f (2 * nI n).toNatClampNeg (nI i) = upd f (2 * n) (nI i) := fun f => by rw [i2, nI_clamp (by omega)]
  have u4 : ∀ f : Nat → Int32, upd f (2 * nI n + 1).toNatClampNeg (nI i) = upd f (2 * n + 1) (nI i) := fun f => by rw [i2, nI_1, nI_clamp (by omega)]
  exact ⟨c1, nm_r (u1 _) ⟨c2, nm_r (u2 _) ⟨c3, nm_r (u3 _) ⟨c4, nm_r (u4 _) h⟩⟩⟩⟩
/-- what the store is then -/
theorem yh_open {j : Nat} (hn1 : 1 ≤ n) (hH : yh_H n p r g x pr ar va og) : yh_H (n + 1) (sr_u p n c) (sr_u r n j) (sr_g g n) (sr_v x n f0 f1) (upd pr n (nI c)) (upd ar n (nI j)) (yc_va va n f0 f1) (yc_og og n (n - 1)) := by
  refine ⟨fun i hi => ?_, fun i hi h0 => ?_, fun i k hi hk => ?_, fun i k hi h0 hk => ?_⟩
  · by_cases h : i = n
    · rw [h, pk_us, sr_us]
    · rw [pk_un h, sr_un h]; exact hH.1 i (by omega)
  · by_cases h : i = n
    · rw [h, pk_us, sr_us]
    · rw [pk_un h, sr_un h]; exact hH.2.1 i (by omega) h0
  · unfold yc_va
    by_cases h : i = n
    · rw [h]
      rcases (show k = 0 ∨ k = 1 ∨ k = 2 ∨ k = 3 ∨ k = 4 by omega) with z | z | z | z | z
      · subst z; rw [sr_v0, pk_un (by omega)]; exact pk_us
      · subst z; rw [sr_v1, pk_us]
      · subst z; rw [sr_v2 (by omega), pk_un (by omega), pk_un (by omega), pk_un (by omega), pk_un (by omega), pk_us]
      · subst z; rw [sr_v2 (by omega), pk_un (by omega), pk_un (by omega), pk_un (by omega), pk_us]
      · subst z; rw [sr_v2 (by omega), pk_un (by omega), pk_un (by omega), pk_us]
    · have ev : sr_v x n f0 f1 (5 * i + k) = x (5 * i + k) := if_pos (by omega)
      rw [ev, pk_un (by omega), pk_un (by omega), pk_un (by omega), pk_un (by omega), pk_un (by omega), pk_un (by omega), pk_un (by omega)]
      exact hH.2.2.1 i k (by omega) hk
  · unfold yc_og
    by_cases h : i = n
    · have eg : sr_g g n (2 * i + k) = n - 1 := if_neg (by omega)
      rw [eg, h]
      rcases (show k = 0 ∨ k = 1 by omega) with z | z
      · subst z; rw [pk_un (by omega)]; exact pk_us
      · subst z; rw [pk_us]
    · have eg : sr_g g n (2 * i + k) = g (2 * i + k) := if_pos (by omega)
      rw [eg, pk_un (by omega), pk_un (by omega)]
      exact hH.2.2.2 i k (by omega) h0 hk
theorem yh_pop {j : Nat} {pr' ar' va' og' : Nat → Int32} {x' : Nat → Int32} (hH : yh_H (n + 1) (sr_u p n c) (sr_u r n j) (sr_g g n) x' pr' ar' va' og') : yh_H n p r g x' pr' ar' va' og' := by
  refine ⟨fun i hi => ?_, fun i hi h0 => ?_, fun i k hi hk => ?_, fun i k hi h0 hk => ?_⟩
  · have := hH.1 i (by omega); rw [sr_un (by omega)] at this; exact this
  · have := hH.2.1 i (by omega) h0; rw [sr_un (by omega)] at this; exact this
  · exact hH.2.2.1 i k (by omega) hk
  · have := hH.2.2.2 i k (by omega) h0 hk
    have eg : sr_g g n (2 * i + k) = g (2 * i + k) := if_pos (by omega)
    rw [eg] at this; exact this
/-- into 'call' -/
theorem ym_call (hP : yp_P v P) (hW : pg_W P np ne ns) (hs : s < ns) (ha : a + 1 < 400) (hbg : bg a = nI s) (hpl : pl a = nI i) (hph : ph a = 0) (hk : pg_sk P s = 5) (hst : st < 500) {c : Nat} (hcx : P 8 s = nI c) (hc : c < np) {b : Nat} (hb : P 2 c = nI b)
    (h : ∀ post : Int32 → SY → Prop,
      (∀ (r' : Nat) (na' rs' st2 : Int32) (nd' wh' sg' kp' pr' ar' va' og' : Nat → Int32), r' < 400 → K (nI (a + 1 + 1)) (zy_m v na' (-1) rs' st2 (nI C) nd' wh' sg' kp' (upd bg (a + 1) (nI b)) (upd pl (a + 1) (nI r')) (upd (upd ph a 1) (a + 1) 0) pr' ar' va' og' O) → post (nI r') (zy_m v na' (-1) rs' st2 (nI C) nd' wh' sg' kp' bg pl ph pr' ar' va' og' O)) →
      (∀ (rc na' rs' st2 : Int32) (nd' wh' sg' kp' pr' ar' va' og' : Nat → Int32), K (nI (a + 1)) (zy_m v na' rc rs' st2 (nI C) nd' wh' sg' kp' bg (upd pl (a + 1) (-1)) (upd ph a 1) pr' ar' va' og' O) → post (-1) (zy_m v na' rc rs' st2 (nI C) nd' wh' sg' kp' bg pl ph pr' ar' va' og' O)) →
      yc_R post s i c 0 0 0 (zy_m v (nI n) (-1) rs (nI (st + 1)) (nI C) nd wh sg kp bg pl ph pr ar va og O)) : wpY_move K (zy_m v (nI n) (-1) rs (nI st) (nI C) nd wh sg kp bg pl ph pr ar va og O) (nI (a + 1)) := by
  have h40 := hW.2.2.1
  have h5 := hW.1
  refine ym_92 hP hW hs (by omega) hbg hpl hph (by omega) ?_
  rw [hk]
  refine br_f (by decide) (br_f (fun z => by have := (nI_eq (b := 500) (by omega) (by omega)).mp z; omega) (nm_r (nI_1 st) (br_t (by decide) (br_t rfl ⟨ym_s40 hW hs, nm_r (ym_sx hP hW hs hcx) ?_⟩))))
  have e1 : upd ph (nI a).toNatClampNeg 1 = upd ph a 1 := by rw [nI_clamp (by omega)]
  refine h _ (fun r' na' rs' st2 nd' wh' sg' kp' pr' ar' va' og' hr kk => ?_) (fun rc na' rs' st2 nd' wh' sg' kp' pr' ar' va' og' kk => ?_)
  · have e2 : upd pl (nI (a + 1)).toNatClampNeg (nI r') = upd pl (a + 1) (nI r') := by rw [nI_clamp (by omega)]
    have e3 : vp_in (yf_sx v (nI s).toNatClampNeg) 5 := by rw [ym_sx hP hW hs hcx]; exact vp_in_nI (by omega) (by omega)
    have e4 : yf_bodies v (yf_sx v (nI s).toNatClampNeg).toNatClampNeg = nI b := by rw [ym_sx hP hW hs hcx, nI_clamp (by omega), hP.2.2.1]; exact hb
    refine ⟨ym_in (by omega), nm_r e1 ⟨ym_in ha, nm_r e2 (br_t (nI_pos' (by omega)) ⟨ym_s40 hW hs, e3, ?_⟩)⟩⟩
    show wpY_replace _ _ _ (yf_bodies v (yf_sx v (nI s).toNatClampNeg).toNatClampNeg)
    rw [e4]
    have e5 : upd bg (nI (a + 1)).toNatClampNeg (nI b) = upd bg (a + 1) (nI b) := by rw [nI_clamp (by omega)]
    have e6 : upd (upd ph a 1) (nI (a + 1)).toNatClampNeg 0 = upd (upd ph a 1) (a + 1) 0 := by rw [nI_clamp (by omega)]
    rw [← nI_1] at kk
    exact ⟨ym_in ha, nm_r e5 ⟨ym_in ha, nm_r e6 kk⟩⟩
  · have e2 : upd pl (nI (a + 1)).toNatClampNeg (-1) = upd pl (a + 1) (-1) := by rw [nI_clamp (by omega)]
    exact ⟨ym_in (by omega), nm_r e1 ⟨ym_in ha, nm_r e2 (br_f yi_m1 kk)⟩⟩
theorem ym_ret (hP : yp_P v P) (hW : pg_W P np ne ns) (hs : s < ns) (ha : a < 400) (hbg : bg a = nI s) (hpl : pl a = nI i) (hph : ph a = 1) (hk : pg_sk P s = 5)
    (k : K (nI a) (zy_m v (nI n) (-1) rs (nI st) (nI C) nd wh sg kp bg pl ph pr ar va og O)) : wpY_move K (zy_m v (nI (n + 1)) (-1) rs (nI st) (nI C) nd wh sg kp bg pl ph pr ar va og O) (nI (a + 1)) := by
  have h40 := hW.2.2.1
  have hsk : yf_skind v (nI s).toNatClampNeg = 5 := by
    rw [nI_clamp (by omega), hP.2.2.2.2.2.2.2.1, (hW.2.2.2.2.2 s hs).1, hk]; rfl
  exact nm_r (nI_pred a) ⟨ym_in ha, nm_r (ym_f ha hbg) ⟨vp_in_nI (by omega) (by omega), nm_r hsk ⟨ym_in ha, nm_r (ym_f ha hpl) (br_f (by decide) (br_f (by decide) (br_t rfl ⟨ym_in ha, br_t (ym_f ha hph) (nm_r (nI_pred n) k)⟩)))⟩⟩⟩
end
end
section
/-! the reference's statements: rules -/
def ys_V (v : SY) (P : pg_P) (n : Nat) (p r g : Nat → Nat) (s : Nat) (x : Nat → Int32) (st C : Nat) (O : Nat → Int32) (x' : Nat → Int32) (st' C' : Nat) (O' : Nat → Int32) : Prop :=
  ∀ (a : Nat) (rs : Int32) (nd wh sg kp bg pl ph pr ar va og : Nat → Int32), a + pg_sw P s ≤ 16 * n → bg a = nI s → pl a = nI (n - 1) → ph a = 0 → yh_H n p r g x pr ar va og →
    ∃ (rs' : Int32) (nd' wh' sg' kp' bg' pl' ph' pr' ar' va' og' : Nat → Int32), (∀ j, j < a → bg' j = bg j ∧ pl' j = pl j ∧ ph' j = ph j) ∧ yh_H n p r g x' pr' ar' va' og' ∧
      ∀ post : Int32 → SY → Prop, yr_R post a (zy_m v (nI n) (-1) rs' (nI st') (nI C') nd' wh' sg' kp' bg' pl' ph' pr' ar' va' og' O') → yr_R post (a + 1) (zy_m v (nI n) (-1) rs (nI st) (nI C) nd wh sg kp bg pl ph pr ar va og O)
def ys_X (v : SY) (P : pg_P) (n : Nat) (p r g : Nat → Nat) (s : Nat) (x : Nat → Int32) (st C : Nat) (O : Nat → Int32) (rc : Int32) (x' : Nat → Int32) (st' C' : Nat) (O' : Nat → Int32) : Prop :=
  ∀ (a : Nat) (rs : Int32) (nd wh sg kp bg pl ph pr ar va og : Nat → Int32), a + pg_sw P s ≤ 16 * n → bg a = nI s → pl a = nI (n - 1) → ph a = 0 → yh_H n p r g x pr ar va og →
    ∃ (na' rs' : Int32) (nd' wh' sg' kp' bg' pl' ph' pr' ar' va' og' : Nat → Int32), (∀ k, 2 ≤ k → k < 5 → va' k = x' k) ∧
      ∀ post : Int32 → SY → Prop, yr_E post (zy_m v na' rc rs' (nI st') (nI C') nd' wh' sg' kp' bg' pl' ph' pr' ar' va' og' O') → yr_R post (a + 1) (zy_m v (nI n) (-1) rs (nI st) (nI C) nd wh sg kp bg pl ph pr ar va og O)
theorem ym_p1 : (0 : Int32) ≤ 1 := by decide
/-- a statement stands for another from here on -/
def ys_P (v : SY) (P : pg_P) (n : Nat) (p r g : Nat → Nat) (s : Nat) (x : Nat → Int32) (st C : Nat) (O : Nat → Int32) (s1 st1 : Nat) : Prop :=
  ∀ (a : Nat) (rs : Int32) (nd wh sg kp bg pl ph pr ar va og : Nat → Int32), a + pg_sw P s ≤ 16 * n → bg a = nI s → pl a = nI (n - 1) → ph a = 0 → yh_H n p r g x pr ar va og →
    ∃ (rs' : Int32) (nd' wh' sg' kp' : Nat → Int32), a + pg_sw P s1 ≤ 16 * n ∧
      ∀ post : Int32 → SY → Prop, yr_R post (a + 1) (zy_m v (nI n) (-1) rs' (nI st1) (nI C) nd' wh' sg' kp' (upd bg a (nI s1)) pl (upd ph a 0) pr ar va og O) → yr_R post (a + 1) (zy_m v (nI n) (-1) rs (nI st) (nI C) nd wh sg kp bg pl ph pr ar va og O)
section
variable {v : SY} {P : pg_P} {np ne ns n : Nat} {p r g : Nat → Nat} {x x' : Nat → Int32} {s st st1 st' C C' : Nat} {O O' : Nat → Int32} {w : Int32}
theorem yv_Hm {na en rs st C : Int32} {nd wh sg kp bg pl ph pr ar va og O : Nat → Int32} (hP : yp_P v P) (hH : yh_H n p r g x pr ar va og) : yv_H (zy_m v na en rs st C nd wh sg kp bg pl ph pr ar va og O) P n p r g x :=
  ⟨hP.2.1, hP.2.2.2.1, hP.2.2.2.2.1, hP.2.2.2.2.2.1, hH.1, hH.2.1, hH.2.2.1, hH.2.2.2⟩
theorem yh_main {pr ar va og : Nat → Int32} (hn : 1 ≤ n) (hH : yh_H n p r g x pr ar va og) : ∀ k, 2 ≤ k → k < 5 → va k = x k := by
  intro k h2 h5
  have := hH.2.2.1 0 k (by omega) h5
  rw [show 5 * 0 + k = k by omega] at this
  exact this
theorem ys_viaV {s1 : Nat} (h : ys_P v P n p r g s x st C O s1 st1) (k : ys_V v P n p r g s1 x st1 C O x' st' C' O') : ys_V v P n p r g s x st C O x' st' C' O' := by
  intro a rs nd wh sg kp bg pl ph pr ar va og ha hbg hpl hph hH
  obtain ⟨rs1, nd1, wh1, sg1, kp1, h1, k1⟩ := h a rs nd wh sg kp bg pl ph pr ar va og ha hbg hpl hph hH
  obtain ⟨rs2, nd2, wh2, sg2, kp2, bg2, pl2, ph2, pr2, ar2, va2, og2, b2, hH2, k2⟩ := k a rs1 nd1 wh1 sg1 kp1 (upd bg a (nI s1)) pl (upd ph a 0) pr ar va og h1 pk_us hpl pk_us hH
  refine ⟨rs2, nd2, wh2, sg2, kp2, bg2, pl2, ph2, pr2, ar2, va2, og2, fun j hj => ?_, hH2, fun post kk => k1 post (k2 post kk)⟩
  have := b2 j hj
  rw [pk_un (by omega), pk_un (by omega)] at this
  exact this
theorem ys_viaX {s1 : Nat} {rc : Int32} (h : ys_P v P n p r g s x st C O s1 st1) (k : ys_X v P n p r g s1 x st1 C O rc x' st' C' O') : ys_X v P n p r g s x st C O rc x' st' C' O' := by
  intro a rs nd wh sg kp bg pl ph pr ar va og ha hbg hpl hph hH
  obtain ⟨rs1, nd1, wh1, sg1, kp1, h1, k1⟩ := h a rs nd wh sg kp bg pl ph pr ar va og ha hbg hpl hph hH
  obtain ⟨na2, rs2, nd2, wh2, sg2, kp2, bg2, pl2, ph2, pr2, ar2, va2, og2, b2, k2⟩ := k a rs1 nd1 wh1 sg1 kp1 (upd bg a (nI s1)) pl (upd ph a 0) pr ar va og h1 pk_us hpl pk_us hH
  exact ⟨na2, rs2, nd2, wh2, sg2, kp2, bg2, pl2, ph2, pr2, ar2, va2, og2, b2, fun post kk => k1 post (k2 post kk)⟩
theorem ys_nop (hP : yp_P v P) (hW : pg_W P np ne ns) (hn : n ≤ 12) (hs : s < ns) (hk : pg_sk P s = 6) : ys_V v P n p r g s x st C O x st C O := by
  intro a rs nd wh sg kp bg pl ph pr ar va og ha hbg hpl hph hH
  have hw := (hW.2.2.2.2.2 s hs).2.2.2.1
  exact ⟨rs, nd, wh, sg, kp, bg, pl, ph, pr, ar, va, og, fun j _ => ⟨rfl, rfl, rfl⟩, hH, fun post k => yr_it (by omega) (by omega) rfl (fun K kk => ym_nop hP hW hs (by omega) hbg hpl hk kk) k⟩
theorem ys_then {x1 : Nat → Int32} {st1 C1 : Nat} {O1 : Nat → Int32} (hP : yp_P v P) (hW : pg_W P np ne ns) (hn : n ≤ 12) (hs : s < ns) (hk : pg_sk P s = 1) (h1 : ys_V v P n p r g (pg_sx P s) x st C O x1 st1 C1 O1) (h2 : ys_V v P n p r g (pg_sy P s) x1 st1 C1 O1 x' st' C' O') : ys_V v P n p r g s x st C O x' st' C' O' := by
  intro a rs nd wh sg kp bg pl ph pr ar va og ha hbg hpl hph hH
  have hWs := hW.2.2.2.2.2 s hs
  have hw := hWs.2.2.2.2.2.2.1 hk
  have hwx := (hW.2.2.2.2.2 (pg_sx P s) (by omega)).2.2.2.1
  have hwy := (hW.2.2.2.2.2 (pg_sy P s) (by omega)).2.2.2.1
  obtain ⟨rs1, nd1, wh1, sg1, kp1, bg1, pl1, ph1, pr1, ar1, va1, og1, b1, hH1, k1⟩ := h1 (a + 1) rs nd wh sg kp (upd bg (a + 1) (nI (pg_sx P s))) (upd pl (a + 1) (nI (n - 1))) (upd (upd ph a 1) (a + 1) 0) pr ar va og (by omega) pk_us pk_us pk_us hH
  have c1 := b1 a (by omega)
  rw [pk_un (by omega), pk_un (by omega), pk_un (by omega), pk_us] at c1
  obtain ⟨rs2, nd2, wh2, sg2, kp2, bg2, pl2, ph2, pr2, ar2, va2, og2, b2, hH2, k2⟩ := h2 a rs1 nd1 wh1 sg1 kp1 (upd bg1 a (nI (pg_sy P s))) pl1 (upd ph1 a 0) pr1 ar1 va1 og1 (by omega) pk_us (c1.2.1.trans hpl) pk_us hH1
  refine ⟨rs2, nd2, wh2, sg2, kp2, bg2, pl2, ph2, pr2, ar2, va2, og2, fun j hj => ?_, hH2, fun post k => ?_⟩
  · have d1 := b1 j (by omega)
    have d2 := b2 j hj
    rw [pk_un (by omega), pk_un (by omega), pk_un (by omega), pk_un (by omega)] at d1
    rw [pk_un (by omega), pk_un (by omega)] at d2
    exact ⟨d2.1.trans d1.1, d2.2.1.trans d1.2.1, d2.2.2.trans d1.2.2⟩
  · refine yr_it (by omega) (by omega) rfl (fun K kk => ym_then0 hP hW hs (by omega) hbg hpl hph hk kk) (k1 post ?_)
    exact yr_it (by omega) (by omega) rfl (fun K kk => ym_then1 hP hW hs (by omega) (c1.1.trans hbg) (c1.2.1.trans hpl) c1.2.2 hk kk) (k2 post k)
theorem ys_thenX1 {rc : Int32} (hP : yp_P v P) (hW : pg_W P np ne ns) (hn : n ≤ 12) (hs : s < ns) (hk : pg_sk P s = 1) (h1 : ys_X v P n p r g (pg_sx P s) x st C O rc x' st' C' O') : ys_X v P n p r g s x st C O rc x' st' C' O' := by
  intro a rs nd wh sg kp bg pl ph pr ar va og ha hbg hpl hph hH
  have hWs := hW.2.2.2.2.2 s hs
  have hw := hWs.2.2.2.2.2.2.1 hk
  have hwx := (hW.2.2.2.2.2 (pg_sx P s) (by omega)).2.2.2.1
  have hwy := (hW.2.2.2.2.2 (pg_sy P s) (by omega)).2.2.2.1
  obtain ⟨na1, rs1, nd1, wh1, sg1, kp1, bg1, pl1, ph1, pr1, ar1, va1, og1, b1, k1⟩ := h1 (a + 1) rs nd wh sg kp (upd bg (a + 1) (nI (pg_sx P s))) (upd pl (a + 1) (nI (n - 1))) (upd (upd ph a 1) (a + 1) 0) pr ar va og (by omega) pk_us pk_us pk_us hH
  exact ⟨na1, rs1, nd1, wh1, sg1, kp1, bg1, pl1, ph1, pr1, ar1, va1, og1, b1, fun post k => yr_it (by omega) (by omega) rfl (fun K kk => ym_then0 hP hW hs (by omega) hbg hpl hph hk kk) (k1 post k)⟩
theorem ys_thenX2 {rc : Int32} {x1 : Nat → Int32} {st1 C1 : Nat} {O1 : Nat → Int32} (hP : yp_P v P) (hW : pg_W P np ne ns) (hn : n ≤ 12) (hs : s < ns) (hk : pg_sk P s = 1) (h1 : ys_V v P n p r g (pg_sx P s) x st C O x1 st1 C1 O1) (h2 : ys_X v P n p r g (pg_sy P s) x1 st1 C1 O1 rc x' st' C' O') : ys_X v P n p r g s x st C O rc x' st' C' O' := by
  intro a rs nd wh sg kp bg pl ph pr ar va og ha hbg hpl hph hH
  have hWs := hW.2.2.2.2.2 s hs
  have hw := hWs.2.2.2.2.2.2.1 hk
  have hwx := (hW.2.2.2.2.2 (pg_sx P s) (by omega)).2.2.2.1
  have hwy := (hW.2.2.2.2.2 (pg_sy P s) (by omega)).2.2.2.1
  obtain ⟨rs1, nd1, wh1, sg1, kp1, bg1, pl1, ph1, pr1, ar1, va1, og1, b1, hH1, k1⟩ := h1 (a + 1) rs nd wh sg kp (upd bg (a + 1) (nI (pg_sx P s))) (upd pl (a + 1) (nI (n - 1))) (upd (upd ph a 1) (a + 1) 0) pr ar va og (by omega) pk_us pk_us pk_us hH
  have c1 := b1 a (by omega)
  rw [pk_un (by omega), pk_un (by omega), pk_un (by omega), pk_us] at c1
  obtain ⟨na2, rs2, nd2, wh2, sg2, kp2, bg2, pl2, ph2, pr2, ar2, va2, og2, b2, k2⟩ := h2 a rs1 nd1 wh1 sg1 kp1 (upd bg1 a (nI (pg_sy P s))) pl1 (upd ph1 a 0) pr1 ar1 va1 og1 (by omega) pk_us (c1.2.1.trans hpl) pk_us hH1
  refine ⟨na2, rs2, nd2, wh2, sg2, kp2, bg2, pl2, ph2, pr2, ar2, va2, og2, b2, fun post k => ?_⟩
  refine yr_it (by omega) (by omega) rfl (fun K kk => ym_then0 hP hW hs (by omega) hbg hpl hph hk kk) (k1 post ?_)
  exact yr_it (by omega) (by omega) rfl (fun K kk => ym_then1 hP hW hs (by omega) (c1.1.trans hbg) (c1.2.1.trans hpl) c1.2.2 hk kk) (k2 post k)
theorem ys_tired (hP : yp_P v P) (hW : pg_W P np ne ns) (hn1 : 1 ≤ n) (hn : n ≤ 12) (hs : s < ns) (hk : pg_sk P s ≠ 6 ∧ pg_sk P s ≠ 1) (hst : st = 500) : ys_X v P n p r g s x st C O 1 x 500 C O := by
  intro a rs nd wh sg kp bg pl ph pr ar va og ha hbg hpl hph hH
  have hw := (hW.2.2.2.2.2 s hs).2.2.2.1
  exact ⟨nI n, rs, nd, wh, sg, kp, bg, pl, ph, pr, ar, va, og, yh_main hn1 hH, fun post k => yr_it (by omega) (by omega) rfl (fun K kk => ym_tired hP hW hs (by omega) hbg hpl hph hk hst kk) (yr_end (by omega) ym_p1 k)⟩
theorem ym_ew (hW : pg_W P np ne ns) (hn1 : 1 ≤ n) (hn : n ≤ 12) (hs : s < ns) (hk : pg_sk P s = 0 ∨ pg_sk P s = 2 ∨ pg_sk P s = 3 ∨ pg_sk P s = 4) : ym_e P s < ne ∧ 16 * (n - 1) + pg_ew P (ym_e P s) ≤ 400 := by
  have hWs := hW.2.2.2.2.2 s hs
  have he : ym_e P s < ne := by
    unfold ym_e
    rcases hk with h | h | h | h
    · rw [if_pos h]; exact (hWs.2.2.2.2.2.1 h).2.2.2.1
    · rw [if_neg (by omega)]; exact (hWs.2.2.2.2.2.2.2.1 h).2.1
    · rw [if_neg (by omega)]; exact (hWs.2.2.2.2.2.2.2.2.1 h).2.1
    · rw [if_neg (by omega)]; exact (hWs.2.2.2.2.2.2.2.2.2.1 h).2.1
  have := (hW.2.2.2.2.1 _ he).2.2.2.2.1
  exact ⟨he, by omega⟩
theorem ys_eT (hP : yp_P v P) (hW : pg_W P np ne ns) (hn1 : 1 ≤ n) (hn : n ≤ 12) (hs : s < ns) (hk : pg_sk P s = 0 ∨ pg_sk P s = 2 ∨ pg_sk P s = 3 ∨ pg_sk P s = 4) (hst : st < 500) (hV : ∀ v0 : SY, yv_H v0 P n p r g x → ye_T v0 P (n - 1) (ym_e P s) (st + 1)) : ys_X v P n p r g s x st C O 1 x 500 C O := by
  intro a rs nd wh sg kp bg pl ph pr ar va og ha hbg hpl hph hH
  have hw := (hW.2.2.2.2.2 s hs).2.2.2.1
  obtain ⟨rs', nd', wh', sg', kp', k1⟩ := ym_eT (C := C) (O := O) (rs := rs) (nd := nd) (wh := wh) (sg := sg) (kp := kp) hP hW hs (show a < 400 by omega) hbg hpl hph hk hst (ym_ew hW hn1 hn hs hk).2 (hV _ (yv_Hm hP hH))
  exact ⟨nI n, rs', nd', wh', sg', kp', bg, pl, ph, pr, ar, va, og, yh_main hn1 hH, fun post k => yr_it (by omega) (by omega) rfl k1 (yr_end (by omega) ym_p1 k)⟩
theorem ys_print (hP : yp_P v P) (hW : pg_W P np ne ns) (hn1 : 1 ≤ n) (hn : n ≤ 12) (hs : s < ns) (hk : pg_sk P s = 4) (hst : st < 500) (hC : C ≤ 500) (hV : ∀ v0 : SY, yv_H v0 P n p r g x → ye_V v0 P (n - 1) (ym_e P s) (st + 1) w st1) : ys_V v P n p r g s x st C O x st1 (C + 1) (ra_pO O C w) := by
  intro a rs nd wh sg kp bg pl ph pr ar va og ha hbg hpl hph hH
  have hw := (hW.2.2.2.2.2 s hs).2.2.2.1
  obtain ⟨nd', wh', sg', kp', k1⟩ := ym_print (C := C) (O := O) (rs := rs) (nd := nd) (wh := wh) (sg := sg) (kp := kp) hP hW hs (show a < 400 by omega) hbg hpl hph hk hst hC (ym_ew hW hn1 hn hs (by omega)).2 (hV _ (yv_Hm hP hH))
  exact ⟨w, nd', wh', sg', kp', bg, pl, ph, pr, ar, va, og, fun j _ => ⟨rfl, rfl, rfl⟩, hH, fun post k => yr_it (by omega) (by omega) rfl k1 k⟩
theorem ys_if1 (hP : yp_P v P) (hW : pg_W P np ne ns) (hn1 : 1 ≤ n) (hn : n ≤ 12) (hs : s < ns) (hk : pg_sk P s = 2) (hst : st < 500) (hw0 : w ≠ 0) (hV : ∀ v0 : SY, yv_H v0 P n p r g x → ye_V v0 P (n - 1) (ym_e P s) (st + 1) w st1) : ys_P v P n p r g s x st C O (pg_sy P s) st1 := by
  intro a rs nd wh sg kp bg pl ph pr ar va og ha hbg hpl hph hH
  have hWs := hW.2.2.2.2.2 s hs
  have hw := hWs.2.2.2.1
  have h2 := hWs.2.2.2.2.2.2.2.1 hk
  obtain ⟨nd', wh', sg', kp', k1⟩ := ym_if1 (C := C) (O := O) (rs := rs) (nd := nd) (wh := wh) (sg := sg) (kp := kp) hP hW hs (show a < 400 by omega) hbg hpl hph hk hst (ym_ew hW hn1 hn hs (by omega)).2 hw0 (hV _ (yv_Hm hP hH))
  exact ⟨w, nd', wh', sg', kp', by rcases h2.2.2.2.2 with h | h <;> omega, fun post k => yr_it (by omega) (by omega) rfl k1 k⟩
theorem ys_if0 (hP : yp_P v P) (hW : pg_W P np ne ns) (hn1 : 1 ≤ n) (hn : n ≤ 12) (hs : s < ns) (hk : pg_sk P s = 2) (hz : 0 ≤ P 10 s) (hst : st < 500) (hV : ∀ v0 : SY, yv_H v0 P n p r g x → ye_V v0 P (n - 1) (ym_e P s) (st + 1) 0 st1) : ys_P v P n p r g s x st C O (pg_sz P s) st1 := by
  intro a rs nd wh sg kp bg pl ph pr ar va og ha hbg hpl hph hH
  have hWs := hW.2.2.2.2.2 s hs
  have hw := hWs.2.2.2.1
  have h2 := hWs.2.2.2.2.2.2.2.1 hk
  obtain ⟨nd', wh', sg', kp', k1⟩ := ym_if0 (C := C) (O := O) (rs := rs) (nd := nd) (wh := wh) (sg := sg) (kp := kp) hP hW hs (show a < 400 by omega) hbg hpl hph hk hz hst (ym_ew hW hn1 hn hs (by omega)).2 (hV _ (yv_Hm hP hH))
  refine ⟨0, nd', wh', sg', kp', ?_, fun post k => yr_it (by omega) (by omega) rfl k1 k⟩
  rcases h2.2.2.2.2 with h | h
  · rw [h.1] at hz; exact absurd hz (by decide)
  · omega
theorem ys_if0n (hP : yp_P v P) (hW : pg_W P np ne ns) (hn1 : 1 ≤ n) (hn : n ≤ 12) (hs : s < ns) (hk : pg_sk P s = 2) (hz : ¬ 0 ≤ P 10 s) (hst : st < 500) (hV : ∀ v0 : SY, yv_H v0 P n p r g x → ye_V v0 P (n - 1) (ym_e P s) (st + 1) 0 st1) : ys_V v P n p r g s x st C O x st1 C O := by
  intro a rs nd wh sg kp bg pl ph pr ar va og ha hbg hpl hph hH
  have hw := (hW.2.2.2.2.2 s hs).2.2.2.1
  obtain ⟨nd', wh', sg', kp', k1⟩ := ym_if0n (C := C) (O := O) (rs := rs) (nd := nd) (wh := wh) (sg := sg) (kp := kp) hP hW hs (show a < 400 by omega) hbg hpl hph hk hz hst (ym_ew hW hn1 hn hs (by omega)).2 (hV _ (yv_Hm hP hH))
  exact ⟨0, nd', wh', sg', kp', bg, pl, ph, pr, ar, va, og, fun j _ => ⟨rfl, rfl, rfl⟩, hH, fun post k => yr_it (by omega) (by omega) rfl k1 k⟩
theorem ys_wh0 (hP : yp_P v P) (hW : pg_W P np ne ns) (hn1 : 1 ≤ n) (hn : n ≤ 12) (hs : s < ns) (hk : pg_sk P s = 3) (hst : st < 500) (hV : ∀ v0 : SY, yv_H v0 P n p r g x → ye_V v0 P (n - 1) (ym_e P s) (st + 1) 0 st1) : ys_V v P n p r g s x st C O x st1 C O := by
  intro a rs nd wh sg kp bg pl ph pr ar va og ha hbg hpl hph hH
  have hw := (hW.2.2.2.2.2 s hs).2.2.2.1
  obtain ⟨nd', wh', sg', kp', k1⟩ := ym_wh0 (C := C) (O := O) (rs := rs) (nd := nd) (wh := wh) (sg := sg) (kp := kp) hP hW hs (show a < 400 by omega) hbg hpl hph hk hst (ym_ew hW hn1 hn hs (by omega)).2 (hV _ (yv_Hm hP hH))
  exact ⟨0, nd', wh', sg', kp', bg, pl, ph, pr, ar, va, og, fun j _ => ⟨rfl, rfl, rfl⟩, hH, fun post k => yr_it (by omega) (by omega) rfl k1 k⟩
theorem ys_whV {x1 : Nat → Int32} {st2 C1 : Nat} {O1 : Nat → Int32} (hP : yp_P v P) (hW : pg_W P np ne ns) (hn1 : 1 ≤ n) (hn : n ≤ 12) (hs : s < ns) (hk : pg_sk P s = 3) (hst : st < 500) (hw0 : w ≠ 0) (hV : ∀ v0 : SY, yv_H v0 P n p r g x → ye_V v0 P (n - 1) (ym_e P s) (st + 1) w st1)
    (h1 : ys_V v P n p r g (pg_sy P s) x st1 C O x1 st2 C1 O1) (h2 : ys_V v P n p r g s x1 st2 C1 O1 x' st' C' O') : ys_V v P n p r g s x st C O x' st' C' O' := by
  intro a rs nd wh sg kp bg pl ph pr ar va og ha hbg hpl hph hH
  have hWs := hW.2.2.2.2.2 s hs
  have h3 := hWs.2.2.2.2.2.2.2.2.1 hk
  have hwy := (hW.2.2.2.2.2 (pg_sy P s) (by omega)).2.2.2.1
  obtain ⟨nd0, wh0, sg0, kp0, k0⟩ := ym_wh1 (C := C) (O := O) (rs := rs) (nd := nd) (wh := wh) (sg := sg) (kp := kp) hP hW hs (show a + 1 < 400 by omega) hbg hpl hph hk hst (ym_ew hW hn1 hn hs (by omega)).2 hw0 (hV _ (yv_Hm hP hH))
  obtain ⟨rs1, nd1, wh1, sg1, kp1, bg1, pl1, ph1, pr1, ar1, va1, og1, b1, hH1, k1⟩ := h1 (a + 1) w nd0 wh0 sg0 kp0 (upd bg (a + 1) (nI (pg_sy P s))) (upd pl (a + 1) (nI (n - 1))) (upd ph (a + 1) 0) pr ar va og (by omega) pk_us pk_us pk_us hH
  have c1 := b1 a (by omega)
  rw [pk_un (by omega), pk_un (by omega), pk_un (by omega)] at c1
  obtain ⟨rs2, nd2, wh2, sg2, kp2, bg2, pl2, ph2, pr2, ar2, va2, og2, b2, hH2, k2⟩ := h2 a rs1 nd1 wh1 sg1 kp1 bg1 pl1 ph1 pr1 ar1 va1 og1 ha (c1.1.trans hbg) (c1.2.1.trans hpl) (c1.2.2.trans hph) hH1
  refine ⟨rs2, nd2, wh2, sg2, kp2, bg2, pl2, ph2, pr2, ar2, va2, og2, fun j hj => ?_, hH2, fun post k => yr_it (by omega) (by omega) rfl k0 (k1 post (k2 post k))⟩
  have d1 := b1 j (by omega)
  have d2 := b2 j hj
  rw [pk_un (by omega), pk_un (by omega), pk_un (by omega)] at d1
  exact ⟨d2.1.trans d1.1, d2.2.1.trans d1.2.1, d2.2.2.trans d1.2.2⟩
theorem ys_whX1 {rc : Int32} (hP : yp_P v P) (hW : pg_W P np ne ns) (hn1 : 1 ≤ n) (hn : n ≤ 12) (hs : s < ns) (hk : pg_sk P s = 3) (hst : st < 500) (hw0 : w ≠ 0) (hV : ∀ v0 : SY, yv_H v0 P n p r g x → ye_V v0 P (n - 1) (ym_e P s) (st + 1) w st1)
    (h1 : ys_X v P n p r g (pg_sy P s) x st1 C O rc x' st' C' O') : ys_X v P n p r g s x st C O rc x' st' C' O' := by
  intro a rs nd wh sg kp bg pl ph pr ar va og ha hbg hpl hph hH
  have hWs := hW.2.2.2.2.2 s hs
  have h3 := hWs.2.2.2.2.2.2.2.2.1 hk
  have hwy := (hW.2.2.2.2.2 (pg_sy P s) (by omega)).2.2.2.1
  obtain ⟨nd0, wh0, sg0, kp0, k0⟩ := ym_wh1 (C := C) (O := O) (rs := rs) (nd := nd) (wh := wh) (sg := sg) (kp := kp) hP hW hs (show a + 1 < 400 by omega) hbg hpl hph hk hst (ym_ew hW hn1 hn hs (by omega)).2 hw0 (hV _ (yv_Hm hP hH))
  obtain ⟨na1, rs1, nd1, wh1, sg1, kp1, bg1, pl1, ph1, pr1, ar1, va1, og1, b1, k1⟩ := h1 (a + 1) w nd0 wh0 sg0 kp0 (upd bg (a + 1) (nI (pg_sy P s))) (upd pl (a + 1) (nI (n - 1))) (upd ph (a + 1) 0) pr ar va og (by omega) pk_us pk_us pk_us hH
  exact ⟨na1, rs1, nd1, wh1, sg1, kp1, bg1, pl1, ph1, pr1, ar1, va1, og1, b1, fun post k => yr_it (by omega) (by omega) rfl k0 (k1 post k)⟩
theorem ys_whX2 {rc : Int32} {x1 : Nat → Int32} {st2 C1 : Nat} {O1 : Nat → Int32} (hP : yp_P v P) (hW : pg_W P np ne ns) (hn1 : 1 ≤ n) (hn : n ≤ 12) (hs : s < ns) (hk : pg_sk P s = 3) (hst : st < 500) (hw0 : w ≠ 0) (hV : ∀ v0 : SY, yv_H v0 P n p r g x → ye_V v0 P (n - 1) (ym_e P s) (st + 1) w st1)
    (h1 : ys_V v P n p r g (pg_sy P s) x st1 C O x1 st2 C1 O1) (h2 : ys_X v P n p r g s x1 st2 C1 O1 rc x' st' C' O') : ys_X v P n p r g s x st C O rc x' st' C' O' := by
  intro a rs nd wh sg kp bg pl ph pr ar va og ha hbg hpl hph hH
  have hWs := hW.2.2.2.2.2 s hs
  have h3 := hWs.2.2.2.2.2.2.2.2.1 hk
  have hwy := (hW.2.2.2.2.2 (pg_sy P s) (by omega)).2.2.2.1
  obtain ⟨nd0, wh0, sg0, kp0, k0⟩ := ym_wh1 (C := C) (O := O) (rs := rs) (nd := nd) (wh := wh) (sg := sg) (kp := kp) hP hW hs (show a + 1 < 400 by omega) hbg hpl hph hk hst (ym_ew hW hn1 hn hs (by omega)).2 hw0 (hV _ (yv_Hm hP hH))
  obtain ⟨rs1, nd1, wh1, sg1, kp1, bg1, pl1, ph1, pr1, ar1, va1, og1, b1, hH1, k1⟩ := h1 (a + 1) w nd0 wh0 sg0 kp0 (upd bg (a + 1) (nI (pg_sy P s))) (upd pl (a + 1) (nI (n - 1))) (upd ph (a + 1) 0) pr ar va og (by omega) pk_us pk_us pk_us hH
  have c1 := b1 a (by omega)
  rw [pk_un (by omega), pk_un (by omega), pk_un (by omega)] at c1
  obtain ⟨na2, rs2, nd2, wh2, sg2, kp2, bg2, pl2, ph2, pr2, ar2, va2, og2, b2, k2⟩ := h2 a rs1 nd1 wh1 sg1 kp1 bg1 pl1 ph1 pr1 ar1 va1 og1 ha (c1.1.trans hbg) (c1.2.1.trans hpl) (c1.2.2.trans hph) hH1
  exact ⟨na2, rs2, nd2, wh2, sg2, kp2, bg2, pl2, ph2, pr2, ar2, va2, og2, b2, fun post k => yr_it (by omega) (by omega) rfl k0 (k1 post (k2 post k))⟩
end
end
section
/-! the reference's statements: set and call -/
/-- an argument: its number or its expression -/
def ay_V (P : pg_P) (n : Nat) (p r g : Nat → Nat) (x : Nat → Int32) (e m st : Nat) (y : Int32) (st' : Nat) : Prop :=
  (m = 0 ∧ y = 0 ∧ st' = st) ∨ (m = 2 ∧ y = nI e ∧ st' = st) ∨ (m = 1 ∧ ∀ v0 : SY, yv_H v0 P n p r g x → ye_V v0 P (n - 1) e st y st')
section
variable {v : SY} {P : pg_P} {np ne ns n : Nat} {p r g : Nat → Nat} {x x' : Nat → Int32} {s st st1 st2 st' C C' : Nat} {O O' : Nat → Int32} {w y0 y1 : Int32}
theorem yh_set {pr ar va og : Nat → Int32} {j k : Nat} (hk : k < 5) (hH : yh_H n p r g x pr ar va og) : yh_H n p r g (upd x (5 * j + k) w) pr ar (upd va (5 * j + k) w) og := by
  refine ⟨hH.1, hH.2.1, fun i m hi hm => ?_, hH.2.2.2⟩
  by_cases h : 5 * i + m = 5 * j + k
  · rw [h, pk_us, pk_us]
  · rw [pk_un h, pk_un h]; exact hH.2.2.1 i m hi hm
theorem yv_Hb {na en rs st C : Int32} {nd wh sg kp bg pl ph pr ar va og O : Nat → Int32} (hP : yp_P v P) (hH : yh_H n p r g x pr ar va og) : yv_H (zy_b (zy_m v na en rs st C nd wh sg kp bg pl ph pr ar va og O) 0 0 va) P n p r g x :=
  ⟨hP.2.1, hP.2.2.2.1, hP.2.2.2.2.1, hP.2.2.2.2.2.1, hH.1, hH.2.1, hH.2.2.1, hH.2.2.2⟩
theorem ys_set {j k : Nat} (hP : yp_P v P) (hW : pg_W P np ne ns) (hA : sr_A P np ne n p r g x) (hs : s < ns) (hk : pg_sk P s = 0) (hsn : pg_sn P np (p (n - 1)) (pg_sx P s)) (hst : st < 500) (hk5 : k < 5) (hV : ∀ v0 : SY, yv_H v0 P n p r g x → ye_V v0 P (n - 1) (ym_e P s) (st + 1) w st1)
    (hB : ∀ (v0 : SY) (va : Nat → Int32) (num : Int32), yv_H (zy_b v0 0 0 va) P n p r g x → yb_V v0 va num (pg_sx P s) (rb_it r (pg_h P (p (n - 1)) (pg_sx P s / 5)) (n - 1)) st1 j k st2) : ys_V v P n p r g s x st C O (upd x (5 * j + k) w) st2 C O := by
  intro a rs nd wh sg kp bg pl ph pr ar va og ha hbg hpl hph hH
  have hn1 := hA.1
  have hn := hA.2.1
  have hw := (hW.2.2.2.2.2 s hs).2.2.2.1
  obtain ⟨nd', wh', sg', kp', k1⟩ := ym_set (C := C) (O := O) (rs := rs) (nd := nd) (wh := wh) (sg := sg) (kp := kp) hP hW hA hH hs (show a < 400 by omega) hbg hpl hph hk hsn (show n - 1 < n by omega) hst (ym_ew hW hn1 hn hs (by omega)).2 (hV _ (yv_Hm hP hH))
  exact ⟨w, nd', wh', sg', kp', bg, pl, ph, pr, ar, upd va (5 * j + k) w, og, fun j _ => ⟨rfl, rfl, rfl⟩, yh_set hk5 hH, fun post kk => yr_it (by omega) (by omega) rfl (fun K hK => k1 K (fun post hp => hB (zy_m v (nI n) (-1) w (nI st1) (nI C) nd' wh' sg' kp' bg pl ph pr ar va og O) va w (yv_Hb hP hH) post (hp st2 (-1) _ hK))) kk⟩
theorem ys_setX {rc : Int32} (hP : yp_P v P) (hW : pg_W P np ne ns) (hA : sr_A P np ne n p r g x) (hs : s < ns) (hk : pg_sk P s = 0) (hsn : pg_sn P np (p (n - 1)) (pg_sx P s)) (hst : st < 500) (hrc : 0 ≤ rc) (hV : ∀ v0 : SY, yv_H v0 P n p r g x → ye_V v0 P (n - 1) (ym_e P s) (st + 1) w st1)
    (hB : ∀ (v0 : SY) (va : Nat → Int32) (num : Int32), yv_H (zy_b v0 0 0 va) P n p r g x → yb_X v0 va num (pg_sx P s) (rb_it r (pg_h P (p (n - 1)) (pg_sx P s / 5)) (n - 1)) st1 rc st2) : ys_X v P n p r g s x st C O rc x st2 C O := by
  intro a rs nd wh sg kp bg pl ph pr ar va og ha hbg hpl hph hH
  have hn1 := hA.1
  have hn := hA.2.1
  have hw := (hW.2.2.2.2.2 s hs).2.2.2.1
  obtain ⟨nd', wh', sg', kp', k1⟩ := ym_set (C := C) (O := O) (rs := rs) (nd := nd) (wh := wh) (sg := sg) (kp := kp) hP hW hA hH hs (show a < 400 by omega) hbg hpl hph hk hsn (show n - 1 < n by omega) hst (ym_ew hW hn1 hn hs (by omega)).2 (hV _ (yv_Hm hP hH))
  exact ⟨nI n, w, nd', wh', sg', kp', bg, pl, ph, pr, ar, va, og, yh_main hn1 hH, fun post kk => yr_it (by omega) (by omega) rfl (fun K hK => k1 K (fun post hp => hB (zy_m v (nI n) (-1) w (nI st1) (nI C) nd' wh' sg' kp' bg pl ph pr ar va og O) va w (yv_Hb hP hH) post (hp st2 rc _ hK))) (yr_end (by omega) hrc kk)⟩
/-- the arguments, one behind the other -/
theorem yc_args {rs : Int32} {nd wh sg kp bg pl ph pr ar va og : Nat → Int32} (hP : yp_P v P) (hW : pg_W P np ne ns) (hn1 : 1 ≤ n) (hn : n ≤ 12) (hH : yh_H n p r g x pr ar va og) (hs : s < ns) (hk : pg_sk P s = 5)
    (h0 : ay_V P n p r g x (pg_sy P s) (pg_md P (pg_sx P s) 0) st y0 st1) (h1 : ay_V P n p r g x (pg_sz P s) (pg_md P (pg_sx P s) 1) st1 y1 st2) :
    ∃ (rs' : Int32) (nd' wh' sg' kp' : Nat → Int32), ∀ post : Int32 → SY → Prop, yc_R post s (n - 1) (pg_sx P s) y0 y1 (pg_np P (pg_sx P s)) (zy_m v (nI n) (-1) rs' (nI st2) (nI C) nd' wh' sg' kp' bg pl ph pr ar va og O) → yc_R post s (n - 1) (pg_sx P s) 0 0 0 (zy_m v (nI n) (-1) rs (nI st) (nI C) nd wh sg kp bg pl ph pr ar va og O) := by
  have hs5 := (hW.2.2.2.2.2 s hs).2.2.2.2.2.2.2.2.2.2 hk
  have hcn := hs5.2.1
  have hp := pg_np0 hW hcn
  have hw0 : pg_md P (pg_sx P s) 0 ≠ 0 → pg_ew P (pg_sy P s) ≤ 16 := fun h => (hW.2.2.2.2.1 _ (hs5.2.2.1 h).2).2.2.2.2.1
  have hw1 : pg_md P (pg_sx P s) 1 ≠ 0 → pg_ew P (pg_sz P s) ≤ 16 := fun h => (hW.2.2.2.2.1 _ (hs5.2.2.2.1 h).2).2.2.2.2.1
  -- the second, from the state that the first leaves
  have second : ∀ (rs1 : Int32) (nd1 wh1 sg1 kp1 : Nat → Int32), pg_md P (pg_sx P s) 0 ≠ 0 → ∃ (rs' : Int32) (nd' wh' sg' kp' : Nat → Int32), ∀ post : Int32 → SY → Prop, yc_R post s (n - 1) (pg_sx P s) y0 y1 (pg_np P (pg_sx P s)) (zy_m v (nI n) (-1) rs' (nI st2) (nI C) nd' wh' sg' kp' bg pl ph pr ar va og O) → yc_R post s (n - 1) (pg_sx P s) y0 0 1 (zy_m v (nI n) (-1) rs1 (nI st1) (nI C) nd1 wh1 sg1 kp1 bg pl ph pr ar va og O) := by
    intro rs1 nd1 wh1 sg1 kp1 hm0
    rcases h1 with ⟨m1, ey, es⟩ | ⟨m1, ey, es⟩ | ⟨m1, hV⟩
    · have e : pg_np P (pg_sx P s) = 1 := by have := hp.2.1 hm0; have := hp.2.2.1 m1; omega
      refine ⟨rs1, nd1, wh1, sg1, kp1, fun post k => ?_⟩
      rw [e, ey, es] at k
      exact k
    · have e : pg_np P (pg_sx P s) = 2 := hp.2.2.2.1 (by omega)
      refine ⟨rs1, nd1, wh1, sg1, kp1, fun post k => ?_⟩
      rw [e, ey, es] at k
      exact yc_2b (u := (zy_m v (nI n) (-1) rs1 (nI st1) (nI C) nd1 wh1 sg1 kp1 bg pl ph pr ar va og O)) hP.2.1 hP.2.2.2.2.2.2.2.2.2.2.1 hW hs hcn m1 (hs5.2.2.2.1 (by omega)).1 k
    · have e : pg_np P (pg_sx P s) = 2 := hp.2.2.2.1 (by omega)
      have hw := hw1 (by omega)
      obtain ⟨nd2, wh2, sg2, kp2, kw⟩ := yw_V (u := (zy_m v (nI n) (-1) rs1 (nI st1) (nI C) nd1 wh1 sg1 kp1 bg pl ph pr ar va og O)) (hV _ (yv_Hm hP hH)) (by omega) rfl rfl
      refine ⟨y1, nd2, wh2, sg2, kp2, fun post k => ?_⟩
      rw [e] at k
      exact yc_1b (u := (zy_m v (nI n) (-1) rs1 (nI st1) (nI C) nd1 wh1 sg1 kp1 bg pl ph pr ar va og O)) (u' := (zy_m v (nI n) (-1) y1 (nI st2) (nI C) nd2 wh2 sg2 kp2 bg pl ph pr ar va og O)) hP.2.1 hP.2.2.2.2.2.2.2.2.2.2.1 rfl hW hs hcn m1 (hs5.2.2.2.1 (by omega)).1 kw k
  rcases h0 with ⟨m0, ey, es⟩ | ⟨m0, ey, es⟩ | ⟨m0, hV⟩
  · have e : pg_np P (pg_sx P s) = 0 := hp.1 m0
    have m1 := hp.2.2.2.2.2 m0
    rcases h1 with ⟨_, ey1, es1⟩ | ⟨z, _⟩ | ⟨z, _⟩
    · refine ⟨rs, nd, wh, sg, kp, fun post k => ?_⟩
      rw [e, ey, ey1, es1, es] at k
      exact k
    · omega
    · omega
  · obtain ⟨rs', nd', wh', sg', kp', k2⟩ := second rs nd wh sg kp (by omega)
    refine ⟨rs', nd', wh', sg', kp', fun post k => ?_⟩
    have k3 := k2 post k
    rw [es, ey] at k3
    exact yc_2a (u := (zy_m v (nI n) (-1) rs (nI st) (nI C) nd wh sg kp bg pl ph pr ar va og O)) hP.2.1 hP.2.2.2.2.2.2.2.2.2.1 hW hs hcn m0 (hs5.2.2.1 (by omega)).1 k3
  · have hw := hw0 (by omega)
    obtain ⟨nd2, wh2, sg2, kp2, kw⟩ := yw_V (u := (zy_m v (nI n) (-1) rs (nI st) (nI C) nd wh sg kp bg pl ph pr ar va og O)) (hV _ (yv_Hm hP hH)) (by omega) rfl rfl
    obtain ⟨rs', nd', wh', sg', kp', k2⟩ := second y0 nd2 wh2 sg2 kp2 (by omega)
    refine ⟨rs', nd', wh', sg', kp', fun post k => ?_⟩
    exact yc_1a (u := (zy_m v (nI n) (-1) rs (nI st) (nI C) nd wh sg kp bg pl ph pr ar va og O)) (u' := (zy_m v (nI n) (-1) y0 (nI st1) (nI C) nd2 wh2 sg2 kp2 bg pl ph pr ar va og O)) hP.2.1 hP.2.2.2.2.2.2.2.2.2.1 rfl hW hs hcn m0 (hs5.2.2.1 (by omega)).1 kw (k2 post k)
/-- an argument finds the steps used up -/
theorem yc_argT0 {rs : Int32} {nd wh sg kp bg pl ph pr ar va og : Nat → Int32} (hP : yp_P v P) (hW : pg_W P np ne ns) (hn1 : 1 ≤ n) (hn : n ≤ 12) (hH : yh_H n p r g x pr ar va og) (hs : s < ns) (hk : pg_sk P s = 5)
    (m0 : pg_md P (pg_sx P s) 0 = 1) (hV : ∀ v0 : SY, yv_H v0 P n p r g x → ye_T v0 P (n - 1) (pg_sy P s) st) :
    ∃ (rs' : Int32) (nd' wh' sg' kp' : Nat → Int32), ∀ post : Int32 → SY → Prop, post (-1) (zy_m v (nI n) 1 rs' (nI 500) (nI C) nd' wh' sg' kp' bg pl ph pr ar va og O) → yc_R post s (n - 1) (pg_sx P s) 0 0 0 (zy_m v (nI n) (-1) rs (nI st) (nI C) nd wh sg kp bg pl ph pr ar va og O) := by
  have hs5 := (hW.2.2.2.2.2 s hs).2.2.2.2.2.2.2.2.2.2 hk
  have hcn := hs5.2.1
  have hp := pg_np0 hW hcn
  have hw := (hW.2.2.2.2.1 _ (hs5.2.2.1 (by omega)).2).2.2.2.2.1
  obtain ⟨rs', nd', wh', sg', kp', kw⟩ := yw_T (u := (zy_m v (nI n) (-1) rs (nI st) (nI C) nd wh sg kp bg pl ph pr ar va og O)) (hV _ (yv_Hm hP hH)) (by omega) rfl rfl
  refine ⟨rs', nd', wh', sg', kp', fun post k => ?_⟩
  refine yc_1a (u := (zy_m v (nI n) (-1) rs (nI st) (nI C) nd wh sg kp bg pl ph pr ar va og O)) (u' := (zy_m v (nI n) 1 rs' (nI 500) (nI C) nd' wh' sg' kp' bg pl ph pr ar va og O)) hP.2.1 hP.2.2.2.2.2.2.2.2.2.1 rfl hW hs hcn m0 (hs5.2.2.1 (by omega)).1 kw ?_
  by_cases m1 : pg_md P (pg_sx P s) 1 = 0
  · exact yc_endE (u := (zy_m v (nI n) 1 rs' (nI 500) (nI C) nd' wh' sg' kp' bg pl ph pr ar va og O)) hP.2.1 ym_p1 hW hcn (by have := hp.2.1 (by omega); have := hp.2.2.1 m1; omega) k
  · refine yc_Eb (u := (zy_m v (nI n) 1 rs' (nI 500) (nI C) nd' wh' sg' kp' bg pl ph pr ar va og O)) hP.2.1 hP.2.2.2.2.2.2.2.2.2.2.1 ym_p1 hW hs hcn m1 (hs5.2.2.2.1 m1).1 ?_
    exact yc_endE (u := (zy_m v (nI n) 1 rs' (nI 500) (nI C) nd' wh' sg' kp' bg pl ph pr ar va og O)) hP.2.1 ym_p1 hW hcn (hp.2.2.2.1 m1).symm k
theorem yc_argT1 {rs : Int32} {nd wh sg kp bg pl ph pr ar va og : Nat → Int32} (hP : yp_P v P) (hW : pg_W P np ne ns) (hn1 : 1 ≤ n) (hn : n ≤ 12) (hH : yh_H n p r g x pr ar va og) (hs : s < ns) (hk : pg_sk P s = 5)
    (h0 : ay_V P n p r g x (pg_sy P s) (pg_md P (pg_sx P s) 0) st y0 st1) (m1 : pg_md P (pg_sx P s) 1 = 1) (hV : ∀ v0 : SY, yv_H v0 P n p r g x → ye_T v0 P (n - 1) (pg_sz P s) st1) :
    ∃ (rs' : Int32) (nd' wh' sg' kp' : Nat → Int32), ∀ post : Int32 → SY → Prop, post (-1) (zy_m v (nI n) 1 rs' (nI 500) (nI C) nd' wh' sg' kp' bg pl ph pr ar va og O) → yc_R post s (n - 1) (pg_sx P s) 0 0 0 (zy_m v (nI n) (-1) rs (nI st) (nI C) nd wh sg kp bg pl ph pr ar va og O) := by
  have hs5 := (hW.2.2.2.2.2 s hs).2.2.2.2.2.2.2.2.2.2 hk
  have hcn := hs5.2.1
  have hp := pg_np0 hW hcn
  have hw := (hW.2.2.2.2.1 _ (hs5.2.2.2.1 (by omega)).2).2.2.2.2.1
  have e : pg_np P (pg_sx P s) = 2 := hp.2.2.2.1 (by omega)
  have second : ∀ (rs1 : Int32) (nd1 wh1 sg1 kp1 : Nat → Int32), ∃ (rs' : Int32) (nd' wh' sg' kp' : Nat → Int32), ∀ post : Int32 → SY → Prop, post (-1) (zy_m v (nI n) 1 rs' (nI 500) (nI C) nd' wh' sg' kp' bg pl ph pr ar va og O) → yc_R post s (n - 1) (pg_sx P s) y0 0 1 (zy_m v (nI n) (-1) rs1 (nI st1) (nI C) nd1 wh1 sg1 kp1 bg pl ph pr ar va og O) := by
    intro rs1 nd1 wh1 sg1 kp1
    obtain ⟨rs', nd', wh', sg', kp', kw⟩ := yw_T (u := (zy_m v (nI n) (-1) rs1 (nI st1) (nI C) nd1 wh1 sg1 kp1 bg pl ph pr ar va og O)) (hV _ (yv_Hm hP hH)) (by omega) rfl rfl
    refine ⟨rs', nd', wh', sg', kp', fun post k => ?_⟩
    refine yc_1b (u := (zy_m v (nI n) (-1) rs1 (nI st1) (nI C) nd1 wh1 sg1 kp1 bg pl ph pr ar va og O)) (u' := (zy_m v (nI n) 1 rs' (nI 500) (nI C) nd' wh' sg' kp' bg pl ph pr ar va og O)) hP.2.1 hP.2.2.2.2.2.2.2.2.2.2.1 rfl hW hs hcn m1 (hs5.2.2.2.1 (by omega)).1 kw ?_
    exact yc_endE (u := (zy_m v (nI n) 1 rs' (nI 500) (nI C) nd' wh' sg' kp' bg pl ph pr ar va og O)) hP.2.1 ym_p1 hW hcn e.symm k
  have hm0 : pg_md P (pg_sx P s) 0 ≠ 0 := fun z => by have := hp.2.2.2.2.2 z; omega
  have hw0 := (hW.2.2.2.2.1 _ (hs5.2.2.1 hm0).2).2.2.2.2.1
  rcases h0 with ⟨m0, ey, es⟩ | ⟨m0, ey, es⟩ | ⟨m0, hV0⟩
  · exact absurd m0 hm0
  · obtain ⟨rs', nd', wh', sg', kp', k2⟩ := second rs nd wh sg kp
    refine ⟨rs', nd', wh', sg', kp', fun post k => ?_⟩
    have k3 := k2 post k
    rw [es, ey] at k3
    exact yc_2a (u := (zy_m v (nI n) (-1) rs (nI st) (nI C) nd wh sg kp bg pl ph pr ar va og O)) hP.2.1 hP.2.2.2.2.2.2.2.2.2.1 hW hs hcn m0 (hs5.2.2.1 (by omega)).1 k3
  · obtain ⟨nd2, wh2, sg2, kp2, kw⟩ := yw_V (u := (zy_m v (nI n) (-1) rs (nI st) (nI C) nd wh sg kp bg pl ph pr ar va og O)) (hV0 _ (yv_Hm hP hH)) (by omega) rfl rfl
    obtain ⟨rs', nd', wh', sg', kp', k2⟩ := second y0 nd2 wh2 sg2 kp2
    refine ⟨rs', nd', wh', sg', kp', fun post k => ?_⟩
    exact yc_1a (u := (zy_m v (nI n) (-1) rs (nI st) (nI C) nd wh sg kp bg pl ph pr ar va og O)) (u' := (zy_m v (nI n) (-1) y0 (nI st1) (nI C) nd2 wh2 sg2 kp2 bg pl ph pr ar va og O)) hP.2.1 hP.2.2.2.2.2.2.2.2.2.1 rfl hW hs hcn m0 (hs5.2.2.1 (by omega)).1 kw (k2 post k)
theorem ys_call0T (hP : yp_P v P) (hW : pg_W P np ne ns) (hn1 : 1 ≤ n) (hn : n ≤ 12) (hs : s < ns) (hk : pg_sk P s = 5) (hbo : P 2 (pg_sx P s) = nI (pg_bo P (pg_sx P s))) (hst : st < 500) (m0 : pg_md P (pg_sx P s) 0 = 1) (hV : ∀ v0 : SY, yv_H v0 P n p r g x → ye_T v0 P (n - 1) (pg_sy P s) (st + 1)) : ys_X v P n p r g s x st C O 1 x 500 C O := by
  intro a rs nd wh sg kp bg pl ph pr ar va og ha hbg hpl hph hH
  have hs5 := (hW.2.2.2.2.2 s hs).2.2.2.2.2.2.2.2.2.2 hk
  have hw := (hW.2.2.2.2.2 s hs).2.2.2.1
  obtain ⟨rs', nd', wh', sg', kp', k1⟩ := yc_argT0 (C := C) (O := O) (st := st + 1) (rs := rs) (nd := nd) (wh := wh) (sg := sg) (kp := kp) (bg := bg) (pl := pl) (ph := ph) hP hW hn1 hn hH hs hk m0 hV
  exact ⟨nI n, rs', nd', wh', sg', kp', bg, upd pl (a + 1) (-1), upd ph a 1, pr, ar, va, og, yh_main hn1 hH, fun post kk => yr_it (by omega) (by omega) rfl (fun K hK => ym_call hP hW hs (show a + 1 < 400 by omega) hbg hpl hph hk hst hs5.1 hs5.2.1 hbo (fun post _ h2 => k1 post (h2 1 _ _ _ _ _ _ _ _ _ _ _ hK))) (yr_end (by omega) ym_p1 kk)⟩
theorem ys_call1T (hP : yp_P v P) (hW : pg_W P np ne ns) (hn1 : 1 ≤ n) (hn : n ≤ 12) (hs : s < ns) (hk : pg_sk P s = 5) (hbo : P 2 (pg_sx P s) = nI (pg_bo P (pg_sx P s))) (hst : st < 500) (h0 : ay_V P n p r g x (pg_sy P s) (pg_md P (pg_sx P s) 0) (st + 1) y0 st1) (m1 : pg_md P (pg_sx P s) 1 = 1) (hV : ∀ v0 : SY, yv_H v0 P n p r g x → ye_T v0 P (n - 1) (pg_sz P s) st1) : ys_X v P n p r g s x st C O 1 x 500 C O := by
  intro a rs nd wh sg kp bg pl ph pr ar va og ha hbg hpl hph hH
  have hs5 := (hW.2.2.2.2.2 s hs).2.2.2.2.2.2.2.2.2.2 hk
  have hw := (hW.2.2.2.2.2 s hs).2.2.2.1
  obtain ⟨rs', nd', wh', sg', kp', k1⟩ := yc_argT1 (C := C) (O := O) (st := st + 1) (rs := rs) (nd := nd) (wh := wh) (sg := sg) (kp := kp) (bg := bg) (pl := pl) (ph := ph) hP hW hn1 hn hH hs hk h0 m1 hV
  exact ⟨nI n, rs', nd', wh', sg', kp', bg, upd pl (a + 1) (-1), upd ph a 1, pr, ar, va, og, yh_main hn1 hH, fun post kk => yr_it (by omega) (by omega) rfl (fun K hK => ym_call hP hW hs (show a + 1 < 400 by omega) hbg hpl hph hk hst hs5.1 hs5.2.1 hbo (fun post _ h2 => k1 post (h2 1 _ _ _ _ _ _ _ _ _ _ _ hK))) (yr_end (by omega) ym_p1 kk)⟩
theorem ym_p2 : (0 : Int32) ≤ 2 := by decide
theorem ys_callD (hP : yp_P v P) (hW : pg_W P np ne ns) (hn1 : 1 ≤ n) (hn : n = 12) (hs : s < ns) (hk : pg_sk P s = 5) (hbo : P 2 (pg_sx P s) = nI (pg_bo P (pg_sx P s))) (hst : st < 500) (h0 : ay_V P n p r g x (pg_sy P s) (pg_md P (pg_sx P s) 0) (st + 1) y0 st1) (h1 : ay_V P n p r g x (pg_sz P s) (pg_md P (pg_sx P s) 1) st1 y1 st2) : ys_X v P n p r g s x st C O 2 x st2 C O := by
  intro a rs nd wh sg kp bg pl ph pr ar va og ha hbg hpl hph hH
  have hs5 := (hW.2.2.2.2.2 s hs).2.2.2.2.2.2.2.2.2.2 hk
  have hw := (hW.2.2.2.2.2 s hs).2.2.2.1
  obtain ⟨rs', nd', wh', sg', kp', k1⟩ := yc_args (C := C) (O := O) (st := st + 1) (rs := rs) (nd := nd) (wh := wh) (sg := sg) (kp := kp) (bg := bg) (pl := pl) (ph := ph) hP hW hn1 (by omega) hH hs hk h0 h1
  exact ⟨nI n, rs', nd', wh', sg', kp', bg, upd pl (a + 1) (-1), upd ph a 1, pr, ar, va, og, yh_main hn1 hH, fun post kk => yr_it (by omega) (by omega) rfl (fun K hK => ym_call hP hW hs (show a + 1 < 400 by omega) hbg hpl hph hk hst hs5.1 hs5.2.1 hbo (fun post _ h2 => k1 post (yc_deep hP hW hs5.2.1 rfl hn (h2 2 _ _ _ _ _ _ _ _ _ _ _ hK)))) (yr_end (by omega) ym_p2 kk)⟩
theorem ys_callV (hP : yp_P v P) (hW : pg_W P np ne ns) (hA : sr_A P np ne n p r g x) (hn : n < 12) (hs : s < ns) (hk : pg_sk P s = 5) (hbo : P 2 (pg_sx P s) = nI (pg_bo P (pg_sx P s))) (hbn : pg_bo P (pg_sx P s) < ns) (hc0 : pg_sx P s ≠ 0) (han : pg_an P 4 (p (n - 1)) (pg_pa P (pg_sx P s))) (hst : st < 500) (h0 : ay_V P n p r g x (pg_sy P s) (pg_md P (pg_sx P s) 0) (st + 1) y0 st1) (h1 : ay_V P n p r g x (pg_sz P s) (pg_md P (pg_sx P s) 1) st1 y1 st2)
    (hb : ys_V v P (n + 1) (sr_u p n (pg_sx P s)) (sr_u r n (rb_it r (pg_h P (p (n - 1)) (pg_pa P (pg_sx P s))) (n - 1))) (sr_g g n) (pg_bo P (pg_sx P s)) (sr_v x n y0 y1) st2 C O x' st' C' O') : ys_V v P n p r g s x st C O x' st' C' O' := by
  intro a rs nd wh sg kp bg pl ph pr ar va og ha hbg hpl hph hH
  have hn1 := hA.1
  have hs5 := (hW.2.2.2.2.2 s hs).2.2.2.2.2.2.2.2.2.2 hk
  have hw := (hW.2.2.2.2.2 s hs).2.2.2.1
  have hwb := (hW.2.2.2.2.2 _ hbn).2.2.2.2.1
  obtain ⟨rs', nd', wh', sg', kp', k1⟩ := yc_args (C := C) (O := O) (st := st + 1) (rs := rs) (nd := nd) (wh := wh) (sg := sg) (kp := kp) (bg := bg) (pl := pl) (ph := ph) hP hW hn1 (by omega) hH hs hk h0 h1
  obtain ⟨rs2, nd2, wh2, sg2, kp2, bg2, pl2, ph2, pr2, ar2, va2, og2, b2, hH2, k2⟩ := hb (a + 1) rs' nd' wh' sg' kp' (upd bg (a + 1) (nI (pg_bo P (pg_sx P s)))) (upd pl (a + 1) (nI n)) (upd (upd ph a 1) (a + 1) 0) _ _ _ _ (by omega) pk_us pk_us pk_us (yh_open hn1 hH)
  have c2 := b2 a (by omega)
  rw [pk_un (by omega), pk_un (by omega), pk_un (by omega), pk_us] at c2
  refine ⟨rs2, nd2, wh2, sg2, kp2, bg2, pl2, ph2, pr2, ar2, va2, og2, fun j hj => ?_, yh_pop hH2, fun post kk => ?_⟩
  · have d2 := b2 j (by omega)
    rw [pk_un (by omega), pk_un (by omega), pk_un (by omega), pk_un (by omega)] at d2
    exact d2
  · refine yr_it (by omega) (by omega) rfl (fun K hK => ym_call hP hW hs (show a + 1 < 400 by omega) hbg hpl hph hk hst hs5.1 hs5.2.1 hbo (fun post h1' _ => k1 post (yc_open hP hW hA hH hs5.2.1 hc0 rfl hn (by omega) han (h1' n _ _ _ _ _ _ _ _ _ _ _ (by omega) hK)))) (k2 post ?_)
    exact yr_it (by omega) (by omega) rfl (fun K hK => ym_ret hP hW hs (by omega) (c2.1.trans hbg) (c2.2.1.trans hpl) c2.2.2 hk hK) kk
theorem ys_callX {rc : Int32} (hP : yp_P v P) (hW : pg_W P np ne ns) (hA : sr_A P np ne n p r g x) (hn : n < 12) (hs : s < ns) (hk : pg_sk P s = 5) (hbo : P 2 (pg_sx P s) = nI (pg_bo P (pg_sx P s))) (hbn : pg_bo P (pg_sx P s) < ns) (hc0 : pg_sx P s ≠ 0) (han : pg_an P 4 (p (n - 1)) (pg_pa P (pg_sx P s))) (hst : st < 500) (h0 : ay_V P n p r g x (pg_sy P s) (pg_md P (pg_sx P s) 0) (st + 1) y0 st1) (h1 : ay_V P n p r g x (pg_sz P s) (pg_md P (pg_sx P s) 1) st1 y1 st2)
    (hb : ys_X v P (n + 1) (sr_u p n (pg_sx P s)) (sr_u r n (rb_it r (pg_h P (p (n - 1)) (pg_pa P (pg_sx P s))) (n - 1))) (sr_g g n) (pg_bo P (pg_sx P s)) (sr_v x n y0 y1) st2 C O rc x' st' C' O') : ys_X v P n p r g s x st C O rc x' st' C' O' := by
  intro a rs nd wh sg kp bg pl ph pr ar va og ha hbg hpl hph hH
  have hn1 := hA.1
  have hs5 := (hW.2.2.2.2.2 s hs).2.2.2.2.2.2.2.2.2.2 hk
  have hw := (hW.2.2.2.2.2 s hs).2.2.2.1
  have hwb := (hW.2.2.2.2.2 _ hbn).2.2.2.2.1
  obtain ⟨rs', nd', wh', sg', kp', k1⟩ := yc_args (C := C) (O := O) (st := st + 1) (rs := rs) (nd := nd) (wh := wh) (sg := sg) (kp := kp) (bg := bg) (pl := pl) (ph := ph) hP hW hn1 (by omega) hH hs hk h0 h1
  obtain ⟨na2, rs2, nd2, wh2, sg2, kp2, bg2, pl2, ph2, pr2, ar2, va2, og2, b2, k2⟩ := hb (a + 1) rs' nd' wh' sg' kp' (upd bg (a + 1) (nI (pg_bo P (pg_sx P s)))) (upd pl (a + 1) (nI n)) (upd (upd ph a 1) (a + 1) 0) _ _ _ _ (by omega) pk_us pk_us pk_us (yh_open hn1 hH)
  exact ⟨na2, rs2, nd2, wh2, sg2, kp2, bg2, pl2, ph2, pr2, ar2, va2, og2, b2, fun post kk => yr_it (by omega) (by omega) rfl (fun K hK => ym_call hP hW hs (show a + 1 < 400 by omega) hbg hpl hph hk hst hs5.1 hs5.2.1 hbo (fun post h1' _ => k1 post (yc_open hP hW hA hH hs5.2.1 hc0 rfl hn (by omega) han (h1' n _ _ _ _ _ _ _ _ _ _ _ (by omega) hK)))) (k2 post kk)⟩
end
end
section
/-! statements: both sides do the same -/
def js_P (u0 : SX) (v : SY) (P : pg_P) (np ne : Nat) (M0 : Nat → Int32) (n : Nat) (p r g : Nat → Nat) (s : Nat) (x : Nat → Int32) (st C : Nat) (O : Nat → Int32) : Prop :=
  (∃ (x' : Nat → Int32) (st' C' : Nat) (O' : Nat → Int32), xs_V u0 P M0 n p r g s x st C O x' st' C' O' ∧ ys_V v P n p r g s x st C O x' st' C' O' ∧ sr_A P np ne n p r g x' ∧ st ≤ st' ∧ st' ≤ 500 ∧ C' ≤ st') ∨
  (∃ (rc : Int32) (x' : Nat → Int32) (st' C' : Nat) (O' : Nat → Int32), xs_X u0 P M0 n p r g s x st C O rc x' st' C' O' ∧ ys_X v P n p r g s x st C O rc x' st' C' O' ∧ 0 ≤ rc ∧ st' ≤ 500 ∧ C' ≤ st' ∧ ∀ k, 2 ≤ k → k < 5 → (x' k).toInt16.toInt32 = x' k)
theorem sr_Am {P : pg_P} {np ne n : Nat} {p r g : Nat → Nat} {x : Nat → Int32} (hA : sr_A P np ne n p r g x) : ∀ k, 2 ≤ k → k < 5 → (x k).toInt16.toInt32 = x k := by
  intro k h2 h5
  have hn := hA.1
  have := hA.2.2.2.2.2.2 0 k (by omega) h5 (Or.inl (by omega))
  rw [show 5 * 0 + k = k by omega] at this
  exact this
/-- one argument of a call -/
theorem ja_all {u0 : SX} {P : pg_P} {np ne ns : Nat} {M0 : Nat → Int32} {n : Nat} {p r g : Nat → Nat} {x : Nat → Int32} (hS : wl_At M0 76 pg_s1) (hW : pg_W P np ne ns) (hA : sr_A P np ne n p r g x) {e m st : Nat} (hm : m ≤ 2) (he : m ≠ 0 → e < ne) (hF : m ≠ 0 → pg_FE P np (p (n - 1)) e) (hst : st ≤ 500) :
    (∃ (y : Int32) (st' : Nat), ca_V u0 P M0 n p r g x e m st y st' ∧ ay_V P n p r g x e m st y st' ∧ (m = 2 → y = nI e) ∧ (m ≠ 2 → y.toInt16.toInt32 = y) ∧ st ≤ st' ∧ st' ≤ 500) ∨
    (m = 1 ∧ ca_T u0 P M0 n p r g x e m st ∧ ∀ v0 : SY, yv_H v0 P n p r g x → ye_T v0 P (n - 1) e st) := by
  have hn := hA.1
  rcases (show m = 0 ∨ m = 1 ∨ m = 2 by omega) with z | z | z
  · subst z
    exact Or.inl ⟨0, st, ca_0 0, Or.inl ⟨rfl, rfl, rfl⟩, fun h => absurd h (by decide), fun _ => by decide, Nat.le_refl _, hst⟩
  · subst z
    rcases je_all (u0 := u0) hS hW hA (n - 1) (by omega) e (he (by decide)) (hF (by decide)) st hst with ⟨y, st', a1, a2, a3, a4, a5, a6⟩ | ⟨a1, a2, a3⟩
    · exact Or.inl ⟨y, st', ca_1 hW (he (by decide)) a1, Or.inr (Or.inr ⟨rfl, a3⟩), fun h => absurd h (by decide), fun _ => a4, a5, a6⟩
    · exact Or.inr ⟨rfl, ca_1T hW (he (by decide)) a1, a3⟩
  · subst z
    exact Or.inl ⟨nI e, st, ca_2, Or.inr (Or.inl ⟨rfl, rfl, rfl⟩), fun _ => rfl, fun h => absurd rfl h, Nat.le_refl _, hst⟩
theorem js_m1 {st st2 b s N : Nat} (h : (500 - st) * 50 + s < N + 1) (h1 : st + 1 ≤ st2) (h2 : st2 ≤ 500) (hb : b < 50) : (500 - st2) * 50 + b < N := by omega
theorem js_m2 {st st2 b s N : Nat} (h : (500 - st) * 50 + s < N + 1) (h1 : st ≤ st2) (hb : b < s) : (500 - st2) * 50 + b < N := by omega
def js_I (u0 : SX) (v : SY) (P : pg_P) (np ne ns : Nat) (M0 : Nat → Int32) (N : Nat) : Prop :=
  ∀ (n : Nat) (p r g : Nat → Nat) (x : Nat → Int32) (st C : Nat) (O : Nat → Int32) (s : Nat), (500 - st) * 50 + s < N → sr_A P np ne n p r g x → s < ns → pg_FS P np (p (n - 1)) s → st ≤ 500 → C ≤ st → js_P u0 v P np ne M0 n p r g s x st C O
theorem js_call {u0 : SX} {v : SY} {P : pg_P} {np ne ns : Nat} {M0 : Nat → Int32} (hOK : pg_OK P np M0) (hW : pg_W P np ne ns) (hP : yp_P v P) (hV : ∀ q, q < np → P 2 q = nI (pg_bo P q) ∧ pg_bo P q < ns ∧ pg_FS P np q (pg_bo P q)) {N n : Nat} {p r g : Nat → Nat} {x : Nat → Int32} {st C : Nat} {O : Nat → Int32} {s : Nat} (ih : js_I u0 v P np ne ns M0 N) (hN : (500 - st) * 50 + s < N + 1) (hA : sr_A P np ne n p r g x) (hs : s < ns) (hF : pg_FS P np (p (n - 1)) s) (hC : C ≤ st) (hlt : st < 500) (kc : pg_sk P s = 5) : js_P u0 v P np ne M0 n p r g s x st C O := by
  have hS := hOK.2.1
  have hn1 := hA.1
  have hn12 := hA.2.1
  have hi : n - 1 < n := by omega
  have hWs := hW.2.2.2.2.2 s hs
  have h40 := hW.2.2.1
  have hFF := hF
  rw [pg_FS] at hF
  have hs5 := hWs.2.2.2.2.2.2.2.2.2.2 kc
  have hF5 := hF.2.2.2.2.2 kc
  have hB := hV _ hs5.2.1
  have m0 := sr_md hW hs5.2.1 0
  have m1 := sr_md hW hs5.2.1 1
  have hop := sr_hop hA 4 (n - 1) hi hF5.2.1
  rcases ja_all (u0 := u0) hS hW hA m0 (fun h => (hs5.2.2.1 h).2) hF5.2.2.1 (show st + 1 ≤ 500 by omega) with ⟨y0, st1, a1, a2, a3, a4, a5, a6⟩ | ⟨a0, a1, a2⟩
  · rcases ja_all (u0 := u0) hS hW hA m1 (fun h => (hs5.2.2.2.1 h).2) hF5.2.2.2 a6 with ⟨y1, st2, b1, b2, b3, b4, b5, b6⟩ | ⟨b0, b1, b2⟩
    · by_cases hd : n = 12
      · exact Or.inr ⟨2, x, st2, C, O, xs_callD hOK hW hA kc hWs hF5.1 hF5.2.1 hlt hd a1 b1, ys_callD hP hW hn1 hd hs kc hB.1 hlt a2 b2, by decide, b6, by omega, sr_Am hA⟩
      · have hA' := sr_pushA (c := pg_sx P s) (j := rb_it r (pg_h P (p (n - 1)) (pg_pa P (pg_sx P s))) (n - 1)) (y0 := y0) (y1 := y1) (e0 := pg_sy P s) (e1 := pg_sz P s) hW hA (by omega) hs5.2.1 hF5.1 (by have := hop.1; unfold pg_h; omega) hop.2.1
          (fun h => ⟨a3 h, (hs5.2.2.1 (by omega)).2, hF5.2.2.1 (by omega)⟩) (fun h => ⟨b3 h, (hs5.2.2.2.1 (by omega)).2, hF5.2.2.2 (by omega)⟩) a4 b4
        rcases ih (n + 1) _ _ _ _ st2 C O (pg_bo P (pg_sx P s)) (js_m1 hN (by omega) b6 (by have := hB.2.1; omega)) hA' hB.2.1 (by rw [Nat.add_sub_cancel, sr_us]; exact hB.2.2) b6 (by omega) with ⟨x2, st3, C2, O2, c1, c2, c3, c4, c5, c6⟩ | ⟨rc, x2, st3, C2, O2, c1, c2, c3, c4, c5, c6⟩
        · exact Or.inl ⟨x2, st3, C2, O2, xs_callV hOK hW hA kc hWs hF5.1 hF5.2.1 hlt (by omega) a1 b1 c1, ys_callV hP hW hA (by omega) hs kc hB.1 hB.2.1 hF5.1 hF5.2.1 hlt a2 b2 c2, sr_popA hA c3, by omega, c5, c6⟩
        · exact Or.inr ⟨rc, x2, st3, C2, O2, xs_callX hOK hW hA kc hWs hF5.1 hF5.2.1 hlt (by omega) a1 b1 c1, ys_callX hP hW hA (by omega) hs kc hB.1 hB.2.1 hF5.1 hF5.2.1 hlt a2 b2 c2, c3, c4, c5, c6⟩
    · exact Or.inr ⟨1, x, 500, C, O, xs_call1T hOK hW hA kc hWs hlt a1 b1, ys_call1T hP hW hn1 hn12 hs kc hB.1 hlt a2 b0 b2, by decide, Nat.le_refl _, by omega, sr_Am hA⟩
  · exact Or.inr ⟨1, x, 500, C, O, xs_call0T hOK hW hA kc hlt a1, ys_call0T hP hW hn1 hn12 hs kc hB.1 hlt a0 a2, by decide, Nat.le_refl _, by omega, sr_Am hA⟩
theorem js_set {u0 : SX} {v : SY} {P : pg_P} {np ne ns : Nat} {M0 : Nat → Int32} (hOK : pg_OK P np M0) (hW : pg_W P np ne ns) (hP : yp_P v P) (hV : ∀ q, q < np → P 2 q = nI (pg_bo P q) ∧ pg_bo P q < ns ∧ pg_FS P np q (pg_bo P q)) {N n : Nat} {p r g : Nat → Nat} {x : Nat → Int32} {st C : Nat} {O : Nat → Int32} {s : Nat} (ih : js_I u0 v P np ne ns M0 N) (hN : (500 - st) * 50 + s < N + 1) (hA : sr_A P np ne n p r g x) (hs : s < ns) (hF : pg_FS P np (p (n - 1)) s) (hC : C ≤ st) (hlt : st < 500) (k0 : pg_sk P s = 0) : js_P u0 v P np ne M0 n p r g s x st C O := by
  have hS := hOK.2.1
  have hn1 := hA.1
  have hn12 := hA.2.1
  have hi : n - 1 < n := by omega
  have hWs := hW.2.2.2.2.2 s hs
  have h40 := hW.2.2.1
  have hFF := hF
  rw [pg_FS] at hF
  have hk4 : pg_sk P s = 0 ∨ pg_sk P s = 2 ∨ pg_sk P s = 3 ∨ pg_sk P s = 4 := by omega
  have hew := ym_ew hW hn1 hn12 hs hk4
  have hFe : pg_FE P np (p (n - 1)) (ym_e P s) := by
    unfold ym_e
    by_cases k0 : pg_sk P s = 0
    · rw [if_pos k0]; exact (hF.1 k0).2
    · rw [if_neg k0]; exact hF.2.2.1 (by omega)
  have hJ := je_all (u0 := u0) hS hW hA (n - 1) hi (ym_e P s) hew.1 hFe (st + 1) (by omega)
  have ee : ym_e P s = pg_sy P s := if_pos k0
  have h0 := hWs.2.2.2.2.2.1 k0
  have hsn := (hF.1 k0).1
  have hJJ := sr_J hA hi hsn
  rcases hJ with ⟨w, st1, a1, a2, a3, a4, a5, a6⟩ | ⟨a1, a2, a3⟩
  · rw [ee] at a1
    by_cases hb : pg_bn P (pg_sx P s)
    · by_cases h51 : st1 = 500
      · exact Or.inr ⟨1, x, 500, C, O, xs_setNT hS hW hA k0 h0.2.2.2.1 hb hlt h51 a1, ys_setX hP hW hA hs k0 hsn hlt (by decide) a3 (fun v0 va num hH => yb_tired hH.1 hW hsn.1 hb (by omega) h51), by decide, Nat.le_refl _, by omega, sr_Am hA⟩
      · have hl1 : st1 < 500 := by omega
        obtain ⟨ho, e', he', hx, hF'⟩ := sr_nm hW hA hi hsn hb
        have hjn : rb_it r (pg_h P (p (n - 1)) (pg_sx P s / 5)) (n - 1) < n := by omega
        have hva : ∀ (v0 : SY) (va : Nat → Int32), yv_H (zy_b v0 0 0 va) P n p r g x → va (5 * rb_it r (pg_h P (p (n - 1)) (pg_sx P s / 5)) (n - 1) + pg_sx P s % 5) = nI e' := by
          intro v0 va hH
          have := hH.2.2.2.2.2.2.1 _ (pg_sx P s % 5) hjn (Nat.mod_lt _ (by omega))
          exact this.trans hx
        have hj0 : 0 < rb_it r (pg_h P (p (n - 1)) (pg_sx P s / 5)) (n - 1) := sr_pos hW hA hjn (k := pg_sx P s % 5) (by rw [hJJ.2, hb.2]; decide)
        have hog : ∀ (v0 : SY) (va : Nat → Int32), yv_H (zy_b v0 0 0 va) P n p r g x → yf_origin v0 (2 * rb_it r (pg_h P (p (n - 1)) (pg_sx P s / 5)) (n - 1) + pg_sx P s % 5) = nI (g (2 * rb_it r (pg_h P (p (n - 1)) (pg_sx P s / 5)) (n - 1) + pg_sx P s % 5)) :=
          fun v0 va hH => hH.2.2.2.2.2.2.2 _ (pg_sx P s % 5) hjn hj0 hb.1
        by_cases hk' : pg_ek P e' = 1
        · have hF2 := hF'
          rw [pg_FE] at hF2
          have han := (hF2.1 hk').2.1
          rcases jp_all (u0 := u0) hS hW hA _ (show g (2 * rb_it r (pg_h P (p (n - 1)) (pg_sx P s / 5)) (n - 1) + pg_sx P s % 5) < n by omega) e' he' hk' hF' (st1 + 1) (by omega) with ⟨j, k, st2, b1, b2, b3, b4, b5, b6, b7⟩ | ⟨rc, st2, b1, b2, b3, b4, b5⟩
          · exact Or.inl ⟨_, st2, C, O, xs_setN hS hW hA k0 h0.2.2.2.1 hsn hb hlt hl1 a1 hx he' b3 b4 b5 b1, ys_set hP hW hA hs k0 hsn hlt b4 a3 (fun v0 va num hH post kk => yb_name hH hA hW hsn.1 hb (by omega) hl1 (hva v0 va hH) he' hk' (hog v0 va hH) (by omega) han (b2 v0 va num hH post kk)), sr_setA hA b3 b4 b5 a4, by omega, b7, by omega⟩
          · exact Or.inr ⟨rc, x, st2, C, O, xs_setNX hS hW hA k0 h0.2.2.2.1 hsn hb hlt hl1 a1 hx he' b1, ys_setX hP hW hA hs k0 hsn hlt b3 a3 (fun v0 va num hH post kk => yb_name hH hA hW hsn.1 hb (by omega) hl1 (hva v0 va hH) he' hk' (hog v0 va hH) (by omega) han (b2 v0 va num hH post kk)), b3, b5, by omega, sr_Am hA⟩
        · exact Or.inr ⟨3, x, st1 + 1, C, O, xs_setNX hS hW hA k0 h0.2.2.2.1 hsn hb hlt hl1 a1 hx he' (pl_exp hk'), ys_setX hP hW hA hs k0 hsn hlt (by decide) a3 (fun v0 va num hH => yb_exp hH.1 hH.2.1 hW hsn.1 hb (by omega) hl1 (hva v0 va hH) he' hk'), by decide, by omega, by omega, sr_Am hA⟩
    · exact Or.inl ⟨_, st1, C, O, xs_setV hS hW hA k0 h0.2.2.2.1 hsn hb hlt a1, ys_set hP hW hA hs k0 hsn hlt (Nat.mod_lt _ (by omega)) a3 (fun v0 va num hH => yb_val hH.1 hW hsn.1 hb (by omega)), sr_setA hA (by omega) (Nat.mod_lt _ (by omega)) (sr_val hW hA hi hsn hb) a4, by omega, a6, by omega⟩
  · rw [ee] at a1
    exact Or.inr ⟨1, x, 500, C, O, xs_setT hS hW hA k0 h0.2.2.2.1 hlt a1, ys_eT hP hW hn1 hn12 hs hk4 hlt a3, by decide, Nat.le_refl _, by omega, sr_Am hA⟩
theorem js_rest {u0 : SX} {v : SY} {P : pg_P} {np ne ns : Nat} {M0 : Nat → Int32} (hOK : pg_OK P np M0) (hW : pg_W P np ne ns) (hP : yp_P v P) (hV : ∀ q, q < np → P 2 q = nI (pg_bo P q) ∧ pg_bo P q < ns ∧ pg_FS P np q (pg_bo P q)) {N n : Nat} {p r g : Nat → Nat} {x : Nat → Int32} {st C : Nat} {O : Nat → Int32} {s : Nat} (ih : js_I u0 v P np ne ns M0 N) (hN : (500 - st) * 50 + s < N + 1) (hA : sr_A P np ne n p r g x) (hs : s < ns) (hF : pg_FS P np (p (n - 1)) s) (hC : C ≤ st) (hlt : st < 500) (kr : pg_sk P s = 2 ∨ pg_sk P s = 3 ∨ pg_sk P s = 4) : js_P u0 v P np ne M0 n p r g s x st C O := by
  have hS := hOK.2.1
  have hn1 := hA.1
  have hn12 := hA.2.1
  have hi : n - 1 < n := by omega
  have hWs := hW.2.2.2.2.2 s hs
  have h40 := hW.2.2.1
  have hFF := hF
  rw [pg_FS] at hF
  have hk4 : pg_sk P s = 0 ∨ pg_sk P s = 2 ∨ pg_sk P s = 3 ∨ pg_sk P s = 4 := by omega
  have hew := ym_ew hW hn1 hn12 hs hk4
  have hFe : pg_FE P np (p (n - 1)) (ym_e P s) := by
    unfold ym_e
    by_cases k0 : pg_sk P s = 0
    · rw [if_pos k0]; exact (hF.1 k0).2
    · rw [if_neg k0]; exact hF.2.2.1 (by omega)
  have hJ := je_all (u0 := u0) hS hW hA (n - 1) hi (ym_e P s) hew.1 hFe (st + 1) (by omega)
  have k0 : ¬ pg_sk P s = 0 := by omega
  have ee : ym_e P s = pg_sx P s := if_neg k0
  by_cases k4 : pg_sk P s = 4
  · have h4 := hWs.2.2.2.2.2.2.2.2.2.1 k4
    rcases hJ with ⟨w, st1, a1, a2, a3, a4, a5, a6⟩ | ⟨a1, a2, a3⟩
    · rw [ee] at a1
      exact Or.inl ⟨x, st1, C + 1, _, xs_print hS hW hA k4 h4.2.1 hlt (by omega) a4 a1, ys_print hP hW hn1 hn12 hs k4 hlt (by omega) a3, hA, by omega, a6, by omega⟩
    · rw [ee] at a1
      exact Or.inr ⟨1, x, 500, C, O, xs_printT hS hW hA k4 h4.2.1 hlt a1, ys_eT hP hW hn1 hn12 hs hk4 hlt a3, by decide, Nat.le_refl _, by omega, sr_Am hA⟩
  · by_cases k2 : pg_sk P s = 2
    · have h2 := hWs.2.2.2.2.2.2.2.1 k2
      rcases hJ with ⟨w, st1, a1, a2, a3, a4, a5, a6⟩ | ⟨a1, a2, a3⟩
      · rw [ee] at a1
        by_cases hw : w = 0
        · subst hw
          by_cases hz : 0 ≤ P 10 s
          · have hz2 : pg_sz P s < s := by
              rcases h2.2.2.2.2 with h | h
              · rw [h.1] at hz; exact absurd hz (by decide)
              · exact h.2.1
            rcases ih n p r g x st1 C O (pg_sz P s) (js_m2 hN (by omega) hz2) hA (by omega) (hF.2.2.2.2.1 k2 hz hz2) a6 (by omega) with ⟨x2, st2, C2, O2, c1, c2, c3, c4, c5, c6⟩ | ⟨rc, x2, st2, C2, O2, c1, c2, c3, c4, c5, c6⟩
            · exact Or.inl ⟨x2, st2, C2, O2, xs_viaV (xs_if0 hS hW hA k2 hWs hz hlt a1) c1, ys_viaV (ys_if0 hP hW hn1 hn12 hs k2 hz hlt a3) c2, c3, by omega, c5, c6⟩
            · exact Or.inr ⟨rc, x2, st2, C2, O2, xs_viaX (xs_if0 hS hW hA k2 hWs hz hlt a1) c1, ys_viaX (ys_if0 hP hW hn1 hn12 hs k2 hz hlt a3) c2, c3, c4, c5, c6⟩
          · exact Or.inl ⟨x, st1, C, O, xs_if0n hS hW hA k2 hWs hz hlt a1, ys_if0n hP hW hn1 hn12 hs k2 hz hlt a3, hA, by omega, a6, by omega⟩
        · rcases ih n p r g x st1 C O (pg_sy P s) (js_m2 hN (by omega) h2.2.2.2.1) hA (by omega) (hF.2.2.2.1 (Or.inr (Or.inl k2)) h2.2.2.2.1) a6 (by omega) with ⟨x2, st2, C2, O2, c1, c2, c3, c4, c5, c6⟩ | ⟨rc, x2, st2, C2, O2, c1, c2, c3, c4, c5, c6⟩
          · exact Or.inl ⟨x2, st2, C2, O2, xs_viaV (xs_if1 hS hW hA k2 hWs hlt a4 hw a1) c1, ys_viaV (ys_if1 hP hW hn1 hn12 hs k2 hlt hw a3) c2, c3, by omega, c5, c6⟩
          · exact Or.inr ⟨rc, x2, st2, C2, O2, xs_viaX (xs_if1 hS hW hA k2 hWs hlt a4 hw a1) c1, ys_viaX (ys_if1 hP hW hn1 hn12 hs k2 hlt hw a3) c2, c3, c4, c5, c6⟩
      · rw [ee] at a1
        exact Or.inr ⟨1, x, 500, C, O, xs_ifT hS hW hA k2 hWs hlt a1, ys_eT hP hW hn1 hn12 hs hk4 hlt a3, by decide, Nat.le_refl _, by omega, sr_Am hA⟩
    · have k3 : pg_sk P s = 3 := by omega
      have h3 := hWs.2.2.2.2.2.2.2.2.1 k3
      rcases hJ with ⟨w, st1, a1, a2, a3, a4, a5, a6⟩ | ⟨a1, a2, a3⟩
      · rw [ee] at a1
        by_cases hw : w = 0
        · subst hw
          exact Or.inl ⟨x, st1, C, O, xs_wh0 hS hW hA k3 hWs hlt a1, ys_wh0 hP hW hn1 hn12 hs k3 hlt a3, hA, by omega, a6, by omega⟩
        · rcases ih n p r g x st1 C O (pg_sy P s) (js_m2 hN (by omega) h3.2.2.2.1) hA (by omega) (hF.2.2.2.1 (Or.inr (Or.inr k3)) h3.2.2.2.1) a6 (by omega) with ⟨x2, st2, C2, O2, c1, c2, c3, c4, c5, c6⟩ | ⟨rc, x2, st2, C2, O2, c1, c2, c3, c4, c5, c6⟩
          · rcases ih n p r g x2 st2 C2 O2 s (js_m1 hN (by omega) c5 (by omega)) c3 hs hFF c5 c6 with ⟨x3, st3, C3, O3, d1, d2, d3, d4, d5, d6⟩ | ⟨rc, x3, st3, C3, O3, d1, d2, d3, d4, d5, d6⟩
            · exact Or.inl ⟨x3, st3, C3, O3, xs_whV hS hW hA k3 hWs hlt a4 hw a1 c1 d1, ys_whV hP hW hn1 hn12 hs k3 hlt hw a3 c2 d2, d3, by omega, d5, d6⟩
            · exact Or.inr ⟨rc, x3, st3, C3, O3, xs_whX2 hS hW hA k3 hWs hlt a4 hw a1 c1 d1, ys_whX2 hP hW hn1 hn12 hs k3 hlt hw a3 c2 d2, d3, d4, d5, d6⟩
          · exact Or.inr ⟨rc, x2, st2, C2, O2, xs_whX1 hS hW hA k3 hWs hlt a4 hw a1 c1, ys_whX1 hP hW hn1 hn12 hs k3 hlt hw a3 c2, c3, c4, c5, c6⟩
      · rw [ee] at a1
        exact Or.inr ⟨1, x, 500, C, O, xs_whT hS hW hA k3 hWs hlt a1, ys_eT hP hW hn1 hn12 hs hk4 hlt a3, by decide, Nat.le_refl _, by omega, sr_Am hA⟩
theorem js_all {u0 : SX} {v : SY} {P : pg_P} {np ne ns : Nat} {M0 : Nat → Int32} (hOK : pg_OK P np M0) (hW : pg_W P np ne ns) (hP : yp_P v P) (hV : ∀ q, q < np → P 2 q = nI (pg_bo P q) ∧ pg_bo P q < ns ∧ pg_FS P np q (pg_bo P q)) :
    ∀ (N n : Nat) (p r g : Nat → Nat) (x : Nat → Int32) (st C : Nat) (O : Nat → Int32) (s : Nat), (500 - st) * 50 + s < N → sr_A P np ne n p r g x → s < ns → pg_FS P np (p (n - 1)) s → st ≤ 500 → C ≤ st → js_P u0 v P np ne M0 n p r g s x st C O := by
  have hS := hOK.2.1
  intro N
  induction N with
  | zero => intro n p r g x st C O s h; omega
  | succ N ih =>
    intro n p r g x st C O s hN hA hs hF hst hC
    have hn1 := hA.1
    have hn12 := hA.2.1
    have hi : n - 1 < n := by omega
    have hWs := hW.2.2.2.2.2 s hs
    have h40 := hW.2.2.1
    have k6 := hWs.2.1
    have hFF := hF
    rw [pg_FS] at hF
    by_cases kn : pg_sk P s = 6
    · exact Or.inl ⟨x, st, C, O, xs_nop kn, ys_nop hP hW hn12 hs kn, hA, Nat.le_refl _, hst, hC⟩
    · by_cases kt : pg_sk P s = 1
      · have h1 := hWs.2.2.2.2.2.2.1 kt
        rcases ih n p r g x st C O (pg_sx P s) (js_m2 hN (Nat.le_refl _) h1.2.1) hA (by omega) (hF.2.1 kt h1.2.1) hst hC with ⟨x1, st1, C1, O1, a1, a2, a3, a4, a5, a6⟩ | ⟨rc, x1, st1, C1, O1, a1, a2, a3, a4, a5, a6⟩
        · rcases ih n p r g x1 st1 C1 O1 (pg_sy P s) (js_m2 hN a4 h1.2.2.2.1) a3 (by omega) (hF.2.2.2.1 (Or.inl kt) h1.2.2.2.1) a5 a6 with ⟨x2, st2, C2, O2, b1, b2, b3, b4, b5, b6⟩ | ⟨rc, x2, st2, C2, O2, b1, b2, b3, b4, b5, b6⟩
          · exact Or.inl ⟨x2, st2, C2, O2, xs_then kt h1.2.1 h1.2.2.2.1 a1 b1, ys_then hP hW hn12 hs kt a2 b2, b3, by omega, b5, b6⟩
          · exact Or.inr ⟨rc, x2, st2, C2, O2, xs_thenX2 kt h1.2.1 h1.2.2.2.1 a1 b1, ys_thenX2 hP hW hn12 hs kt a2 b2, b3, b4, b5, b6⟩
        · exact Or.inr ⟨rc, x1, st1, C1, O1, xs_thenX1 kt h1.2.1 h1.2.2.2.1 a1, ys_thenX1 hP hW hn12 hs kt a2, a3, a4, a5, a6⟩
      · by_cases h5 : st = 500
        · exact Or.inr ⟨1, x, 500, C, O, xs_tired hS hW hA ⟨kn, kt⟩ hWs h5, ys_tired hP hW hn1 hn12 hs ⟨kn, kt⟩ h5, by decide, Nat.le_refl _, by omega, sr_Am hA⟩
        · have hlt : st < 500 := by omega
          by_cases kc : pg_sk P s = 5
          · exact js_call hOK hW hP hV ih hN hA hs hFF hC hlt kc
          · by_cases k0 : pg_sk P s = 0
            · exact js_set hOK hW hP hV ih hN hA hs hFF hC hlt k0
            · exact js_rest hOK hW hP hV ih hN hA hs hFF hC hlt (by omega)
end
section
/-! the machine's run as a whole -/
section
variable {u0 : SX} {M R O M0 sw : Nat → Int32} {ia ie il ip ir iq C : Int32} {post : Int32 → SX → Prop}
theorem xl_it {sc : Int32} {lo : Nat → Int32} {y : Int32} {n k a : Nat} (hk : k < 3) (ha : (4086 : Int32) - 2 * nI k = nI a) (ha2 : a + 1 < 4096) (hy : (ww_rd M a).toInt16.toInt32 = y) (h : xl_W post n (nI (k + 1)) (zx_m (zx_f u0 sc (upd lo k y)) ia ie il 1 ip ir iq C M R O)) : xl_W post (n + 1) (nI k) (zx_m (zx_f u0 sc lo) ia ie il 1 ip ir iq C M R O) := by
  have hu : upd lo (nI k).toNatClampNeg (vp_nar .short (ww_rd M a).toInt16.toInt32) = upd lo k y := by
    rw [nI_clamp (by omega), pk_vs, hy]
  unfold xl_W wX_run_115
  refine br_f (nI_ge (b := 3) hk (by omega)) ?_
  rw [ha]
  refine xn_word (u0 := zx_f u0 sc lo) ha2 ?_
  exact ⟨vp_in_nI hk (by omega), nm_r hu (nm_r (nI_1 k) h)⟩
theorem xl_a0 : (4086 : Int32) - 2 * nI 0 = nI 4086 := by decide
theorem xl_a1 : (4086 : Int32) - 2 * nI 1 = nI 4084 := by decide
theorem xl_a2 : (4086 : Int32) - 2 * nI 2 = nI 4082 := by decide
theorem xl_end {u1 : SX} (h : post (R 0) (zx_m u1 ia ie il 1 ip ir iq C M R O)) : xl_W post (0 + 1) (nI 3) (zx_m u1 ia ie il 1 ip ir iq C M R O) := by
  unfold xl_W wX_run_115
  exact br_t (by decide) h
theorem xr_h1 : ¬ (1 : Int32) = 0 := by decide
/-- halted: the steps and main's variables are read -/
theorem xr_final {st na : Nat} {l0 l1 l2 : Int32} (hM : ra_M M0 M sw 6 st na) (h0 : (sw 3).toInt16.toInt32 = l0) (h1 : (sw 4).toInt16.toInt32 = l1) (h2 : (sw 5).toInt16.toInt32 = l2)
    (h : post (R 0) (zx_m (zx_f u0 (nI st) (upd (upd (upd (xf_locals u0) 0 l0) 1 l1) 2 l2)) ia ie il 1 ip ir iq C M R O)) : xr_R post (zx_m u0 ia ie il 1 ip ir iq C M R O) := by
  have e0 : ww_rd M 4086 = sw 3 := ra_rd hM (by omega) (by omega)
  have e1 : ww_rd M 4084 = sw 4 := ra_rd hM (by omega) (by omega)
  have e2 : ww_rd M 4082 = sw 5 := ra_rd hM (by omega) (by omega)
  have k3 : xl_W post (0 + 1) (nI 3) (zx_m (zx_f u0 (nI st) (upd (upd (upd (xf_locals u0) 0 l0) 1 l1) 2 l2)) ia ie il 1 ip ir iq C M R O) := xl_end h
  have k2 : xl_W post (0 + 1 + 1) (nI 2) (zx_m (zx_f u0 (nI st) (upd (upd (xf_locals u0) 0 l0) 1 l1)) ia ie il 1 ip ir iq C M R O) := xl_it (u0 := u0) (sc := nI st) (lo := (upd (upd (xf_locals u0) 0 l0) 1 l1)) (y := l2) (k := 2) (a := 4082) (by omega) xl_a2 (by omega) (by rw [e2]; exact h2) k3
  have k1 : xl_W post (0 + 1 + 1 + 1) (nI 1) (zx_m (zx_f u0 (nI st) (upd (xf_locals u0) 0 l0)) ia ie il 1 ip ir iq C M R O) := xl_it (u0 := u0) (sc := nI st) (lo := (upd (xf_locals u0) 0 l0)) (y := l1) (k := 1) (a := 4084) (by omega) xl_a1 (by omega) (by rw [e1]; exact h1) k2
  have k0 : xl_W post (0 + 1 + 1 + 1 + 1) (nI 0) (zx_m (zx_f u0 (nI st) (xf_locals u0)) ia ie il 1 ip ir iq C M R O) := xl_it (u0 := u0) (sc := nI st) (lo := (xf_locals u0)) (y := l0) (k := 0) (a := 4086) (by omega) xl_a0 (by omega) (by rw [e0]; exact h0) k1
  refine ⟨1, br_f xr_h1 ?_⟩
  refine xn_word (a := 2) (by omega) ?_
  rw [hM.2.1]
  exact ⟨0 + 1 + 1 + 1 + 1, k0⟩
end
/-- main's end: the frame is left, and the machine stops -/
theorem ra_mend {u0 : SX} {M0 sw O : Nat → Int32} {post : Int32 → SX → Prop} {st A C : Nat} {ax cx bx si : Int32} {P : pg_P} (hz : pg_aw P 0 = 0) (hc : wl_At M0 A (pg_tl P 0)) (h6 : 64 ≤ A) (hA : A + 10 ≤ 3250) (hS : wl_At M0 64 pg_s0) (hr : sw 1 = nI 71) (h : ra_H u0 M0 post sw 6 st 0 C O) :
    ra_R u0 M0 post sw 6 st 1 ax cx bx 2 si A C O := by
  intro ie il M R ip ir iq hM r0 r1 r3 r4 r5 r6
  have hb : ∀ (k : Nat) (b b' : Int32), M0 (A + k) = b.toInt8.toInt32 → k < 10 → b &&& 255 = b' → M (A + k) &&& 255 = b' := fun k b b' h hk he => ra_by hM h (by omega) (by omega) he
  refine xr_step rfl (fun Q hQ => xt_mov_spbp (by omega) (ra_by hM hc.1 (by omega) (by omega) (by decide)) (ra_by hM hc.2.1 (by omega) (by omega) (by decide)) hQ) ?_
  refine xr_step rfl (fun Q hQ => xt_dec (a := 4) (by omega) (ra_by hM hc.2.2.1 (by omega) (by omega) (by decide)) (ra_by hM hc.2.2.2.1 (by omega) (by omega) (by decide)) (ra_wd hM hc.2.2.2.2.1 hc.2.2.2.2.2.1 (by omega) (by omega) (by decide)) (by omega) hQ) ?_
  have hM1 : ra_M M0 (ww_wr M 4 (ww_rd M 4 - 1)) sw 6 st 0 := ra_M4 hM (by rw [hM.2.2.1]; decide) (by omega)
  have w1 : ww_rd (ww_wr M 4 (ww_rd M 4 - 1)) 4090 = nI 71 := by
    have := hM1.2.2.2 1 (by omega)
    rw [hr] at this
    exact this
  have h4 : upd R 4 (R 5) 4 = nI 4088 := by rw [pk_us, r5]
  refine xr_step rfl (fun Q hQ => xt_pop_bp (sp := 4088) (by omega) (ra_by hM1 (wl_d 6 hc).1 (by omega) (by omega) (by decide)) h4 (by omega) hQ) ?_
  have hw : ww_rd (ww_wr M 4 (ww_rd M 4 - 1)) (A + 7 + 1) = 2 := by
    refine ra_wd hM1 (wl_d 8 hc).1 (wl_d 9 hc).1 (by omega) (by omega) ?_
    rw [rb_wd, hz]
    decide
  refine xr_step rfl (fun Q hQ => xt_retn (sp := 4090) (by omega) (ra_by hM1 (wl_d 7 hc).1 (by omega) (by omega) (by decide)) (by rw [pk_un (by decide), pk_us]) (by omega) hQ) ?_
  rw [w1]
  refine xr_step rfl (fun Q hQ => xt_movi_ax (by omega) (ra_by hM1 (wl_d 7 hS).1 (by omega) (by omega) (by decide)) hQ) ?_
  refine xr_step rfl (fun Q hQ => xt_int0 (by omega) (ra_by hM1 (wl_d 10 hS).1 (by omega) (by omega) (by decide)) (ra_by hM1 (wl_d 11 hS).1 (by omega) (by omega) (by decide)) hQ) ?_
  exact h _ _ _ _ _ _ _ _ _ hM1 (by rw [pk_us]; exact ra_wd hM1 (wl_d 8 hS).1 (wl_d 9 hS).1 (by omega) (by omega) (by decide))
/-- the store when main begins -/
theorem sr_A0 {P : pg_P} {np ne ns : Nat} (hW : pg_W P np ne ns) (hnp : 0 < np) : sr_A P np ne 1 (fun _ => 0) (fun _ => 0) (fun _ => 0) (fun _ => 0) := by
  have h0 := ((hW.2.2.2.1 0 hnp).1 rfl).2
  refine ⟨Nat.le_refl _, by omega, rfl, fun i _ => hnp, fun i hi h => ?_, fun i k hi hk hm => ?_, fun i k hi hk hm => show (0 : Int32).toInt16.toInt32 = 0 by decide⟩
  · omega
  · exfalso
    have hz : pg_md P 0 k = 0 := by unfold pg_md; rw [h0]; split <;> rfl
    have hm' : pg_md P 0 k = 2 := hm
    omega
theorem sr_X0 {P : pg_P} {np ne ns : Nat} (hW : pg_W P np ne ns) (hnp : 0 < np) {M0 sw : Nat → Int32} (h1 : sw 1 = nI 71) (h3 : sw 3 = 0 ∧ sw 4 = 0 ∧ sw 5 = 0) : sr_X P M0 1 (fun _ => 0) (fun _ => 0) (fun _ => 0) (fun _ => 0) (fun _ => 2) (fun _ => 71) sw := by
  have h0 := ((hW.2.2.2.1 0 hnp).1 rfl).2
  have hm0 : ∀ k, pg_md P 0 k = 0 := by intro k; unfold pg_md; rw [h0]; split <;> rfl
  refine ⟨rfl, fun i hi => ?_, fun i hi h => ?_, fun i hi => h1, fun i hi => ?_, fun i k hi hk hm => ?_, fun i k hi hk hm => ?_⟩
  · omega
  · omega
  · omega
  · have hz := hm0 k
    have hm' : 1 < k ∨ pg_md P 0 k = 1 := hm
    have hk2 : 1 < k := by omega
    show sw (sr_ix P (fun _ => 0) (fun _ => 2) i k) = (0 : Int32) &&& 65535
    unfold sr_ix
    rw [if_pos hk2]
    rcases (show k = 2 ∨ k = 3 ∨ k = 4 by omega) with z | z | z
    · subst z; exact h3.1.trans (by decide)
    · subst z; exact h3.2.1.trans (by decide)
    · subst z; exact h3.2.2.trans (by decide)
  · have hz := hm0 k
    have hm' : pg_md P 0 k = 2 := hm
    omega
theorem xr_start {u0 : SX} {M0 sw O : Nat → Int32} {P : pg_P} {np : Nat} (hOK : pg_OK P np M0) (hnp : 0 < np) {ax cx bx si : Int32} :
    ∃ a sw1 bx1 si1, 94 ≤ a ∧ a + (pg_pr P 0 a).length ≤ 3240 ∧ wl_At M0 a (pg_pr P 0 a) ∧ sw1 1 = nI 71 ∧ sw1 3 = 0 ∧ sw1 4 = 0 ∧ sw1 5 = 0 ∧
      (∀ post : Int32 → SX → Prop, ra_R u0 M0 post sw1 6 0 1 0 cx bx1 2 si1 (a + 24) 0 O → ra_R u0 M0 post sw 0 0 0 ax cx bx 2046 si 64 0 O) := by
  obtain ⟨a, q1, q2, q3, q4⟩ := hOK.2.2 0 hnp
  refine ⟨a, upd (upd (upd (upd (upd (upd sw 0 (ax &&& 65535)) 1 (nI 71)) 2 (nI (4092 - 2 * 2046))) 3 0) 4 0) 5 0, bx, nI a, q1, q2, q4, ?_, ?_, ?_, ?_, fun post h => ?_⟩
  · rw [pk_un (by omega), pk_un (by omega), pk_un (by omega), pk_un (by omega)]; exact pk_us
  · rw [pk_un (by omega), pk_un (by omega)]; exact pk_us
  · rw [pk_un (by omega)]; exact pk_us
  · exact pk_us
  · refine ra_push_ax hOK.1 (by omega) (by omega) (by omega) ?_
    refine ra_mov_siw (a := 32) (A := 65) (wl_d 1 hOK.1) (by omega) (by omega) (by decide) (by omega) (by omega) ?_
    rw [q3]
    refine ra_callsi (A := 69) (A' := a) (wl_d 5 hOK.1) (by omega) (by omega) rfl (by omega) ?_
    unfold pg_pr at q2 q4
    rw [List.length_append, show pg_hd.length = 24 from rfl] at q2
    exact cp_ok q4 (by omega) (by omega) (by omega) (by omega) h
end
section
/-! run: both sides -/
section
variable {u : SX} {M0 : Nat → Int32} {post : Int32 → SX → Prop}
theorem xw_end0 {u1 : SX} (h : xr_R post (zx_m u1 64 (xf_equal u1) (xf_less u1) 0 (xf_place u1) (xf_isRegister u1) (xf_field u1) 0 (xf_memory u1) (upd (upd (xf_register u1) 4 4094) 5 0) (xf_printedList u1))) : xw_W post (0 + 1) (nI 3) u1 := by
  exact br_t (by decide) (nm_e (nm_e h))
theorem xw_end {u0 : SX} {M R O : Nat → Int32} {ia ie il ih ip ir iq C : Int32} (h : xr_R post (zx_m u0 64 ie il 0 ip ir iq 0 M (upd (upd R 4 4094) 5 0) O)) : xw_W post (0 + 1) (nI 3) (zx_m u0 ia ie il ih ip ir iq C M R O) := by
  exact xw_end0 (u1 := zx_m u0 ia ie il ih ip ir iq C M R O) h
theorem xw_it0 {u1 : SX} {n k a : Nat} (hk : k < 3) (ha : (4086 : Int32) - 2 * nI k = nI a) (ha2 : a + 1 < 4096) (h : xw_W post n (nI (k + 1)) (zx_m u1 (xf_at u1) (xf_equal u1) (xf_less u1) (xf_halted u1) (xf_place u1) (xf_isRegister u1) (xf_field u1) (xf_printedCount u1) (ww_wr (xf_memory u1) a 0) (xf_register u1) (xf_printedList u1))) : xw_W post (n + 1) (nI k) u1 := by
  refine br_f (nI_ge (b := 3) hk (by omega)) ?_
  show wpX_setWord _ _ ((4086 : Int32) - 2 * nI k) 0
  rw [ha]
  refine xn_set (u0 := u1) (ia := xf_at u1) (ie := xf_equal u1) (il := xf_less u1) (ih := xf_halted u1) (ip := xf_place u1) (ir := xf_isRegister u1) (iq := xf_field u1) (C := xf_printedCount u1) (M := xf_memory u1) (R := xf_register u1) (O := xf_printedList u1) ha2 ?_
  exact nm_r (nI_1 k) h
theorem xw_it {u0 : SX} {M R O : Nat → Int32} {ia ie il ih ip ir iq C : Int32} {n k a : Nat} (hk : k < 3) (ha : (4086 : Int32) - 2 * nI k = nI a) (ha2 : a + 1 < 4096) (h : xw_W post n (nI (k + 1)) (zx_m u0 ia ie il ih ip ir iq C (ww_wr M a 0) R O)) : xw_W post (n + 1) (nI k) (zx_m u0 ia ie il ih ip ir iq C M R O) :=
  xw_it0 (u1 := zx_m u0 ia ie il ih ip ir iq C M R O) hk ha ha2 h
theorem xg_go (h : ra_R u (xf_memory u) post (fun _ => 0) 0 0 0 (xf_register u 0) (xf_register u 1) (xf_register u 3) 2046 (xf_register u 6) 64 0 (xf_printedList u)) : xg_W post u := by
  have hr : ∀ M : Nat → Int32, ra_M (xf_memory u) M (fun _ => 0) 0 0 0 → xr_R post (zx_m u 64 (xf_equal u) (xf_less u) 0 (xf_place u) (xf_isRegister u) (xf_field u) 0 M (upd (upd (xf_register u) 4 4094) 5 0) (xf_printedList u)) := by
    intro M hM
    exact h _ _ M _ _ _ _ hM (by rw [pk_un (by decide), pk_un (by decide)]) (by rw [pk_un (by decide), pk_un (by decide)]) (by rw [pk_un (by decide), pk_un (by decide)]) (by rw [pk_un (by decide), pk_us]; rfl) (by rw [pk_us]; rfl) (by rw [pk_un (by decide), pk_un (by decide)])
  have k3 : ∀ M : Nat → Int32, ra_M (xf_memory u) M (fun _ => 0) 0 0 0 → xw_W post (0 + 1) (nI 3) (zx_m u (xf_at u) (xf_equal u) (xf_less u) (xf_halted u) (xf_place u) (xf_isRegister u) (xf_field u) (xf_printedCount u) M (xf_register u) (xf_printedList u)) := fun M hM => xw_end (hr M hM)
  have hlast : ra_M (xf_memory u) (ww_wr (ww_wr (ww_wr (ww_wr (ww_wr (xf_memory u) 2 0) 4 0) 4086 0) 4084 0) 4082 0) (fun _ => 0) 0 0 0 := by
    refine ⟨fun j h1 h2 => ?_, ?_, ?_, fun t ht => ?_⟩
    · rw [ww_wn (by omega) (by omega), ww_wn (by omega) (by omega), ww_wn (by omega) (by omega), ww_wn (by omega) (by omega), ww_wn (by omega) (by omega)]
    · rw [ww_rn (by omega), ww_rn (by omega), ww_rn (by omega), ww_rn (by omega), ww_rw]; decide
    · rw [ww_rn (by omega), ww_rn (by omega), ww_rn (by omega), ww_rw]; decide
    · omega
  have k2 := xw_it (k := 2) (a := 4082) (by omega) xl_a2 (by omega) (k3 _ hlast)
  have k1 := xw_it (k := 1) (a := 4084) (by omega) xl_a1 (by omega) k2
  have k0 := xw_it (k := 0) (a := 4086) (by omega) xl_a0 (by omega) k1
  unfold xg_W wX_run_21
  refine xn_set (u0 := u) (ia := xf_at u) (ie := xf_equal u) (il := xf_less u) (ih := xf_halted u) (ip := xf_place u) (ir := xf_isRegister u) (iq := xf_field u) (C := xf_printedCount u) (M := xf_memory u) (R := xf_register u) (O := xf_printedList u) (a := 2) (by omega) ?_
  refine xn_set (u0 := u) (ia := xf_at u) (ie := xf_equal u) (il := xf_less u) (ih := xf_halted u) (ip := xf_place u) (ir := xf_isRegister u) (iq := xf_field u) (C := xf_printedCount u) (R := xf_register u) (O := xf_printedList u) (a := 4) (by omega) ?_
  exact ⟨0 + 1 + 1 + 1 + 1, k0⟩
end
/-! the reference's end -/
theorem yl_it {post : Int32 → SY → Prop} {v1 : SY} {la : Nat → Int32} {y : Int32} {n k : Nat} (hk : k < 3) (hy : yf_variables v1 (2 + k) = y) (h : yl_W post n (nI (k + 1)) (zy_l v1 (upd la k y))) : yl_W post (n + 1) (nI k) (zy_l v1 la) := by
  have e1 : (2 : Int32) + nI k = nI (2 + k) := nI_add 2 k
  have e2 : vp_in ((2 : Int32) + nI k) 60 := by rw [e1]; exact vp_in_nI (by omega) (by omega)
  have hu : upd la (nI k).toNatClampNeg (yf_variables v1 ((2 : Int32) + nI k).toNatClampNeg) = upd la k y := by
    rw [e1, nI_clamp (by omega), nI_clamp (by omega), hy]
  unfold yl_W wY_run_78
  exact br_f (nI_ge (b := 3) hk (by omega)) ⟨e2, vp_in_nI hk (by omega), nm_r hu (nm_r (nI_1 k) h)⟩
theorem yl_end {post : Int32 → SY → Prop} {v1 : SY} (h1 : 0 ≤ yf_ending v1 → post (yf_ending v1) v1) (h2 : ¬ 0 ≤ yf_ending v1 → post 0 v1) : yl_W post (0 + 1) (nI 3) v1 := by
  unfold yl_W wY_run_78
  exact br_t (by decide) (br_c h1 h2)
theorem yr_final {post : Int32 → SY → Prop} {v1 : SY} {l0 l1 l2 : Int32} (h0 : yf_variables v1 2 = l0) (h1 : yf_variables v1 3 = l1) (h2 : yf_variables v1 4 = l2)
    (k : yl_W post (0 + 1) (nI 3) (zy_l v1 (upd (upd (upd (yf_last v1) 0 l0) 1 l1) 2 l2))) : yr_E post v1 := by
  have k2 := yl_it (k := 2) (by omega) h2 k
  have k1 := yl_it (k := 1) (by omega) h1 k2
  have k0 := yl_it (k := 0) (by omega) h0 k1
  exact ⟨0 + 1 + 1 + 1 + 1, k0⟩
theorem yl_endE {post : Int32 → SY → Prop} {v1 : SY} {la : Nat → Int32} {rc : Int32} (he : yf_ending v1 = rc) (hr : 0 ≤ rc) (h : post rc (zy_l v1 la)) : yl_W post (0 + 1) (nI 3) (zy_l v1 la) := by
  subst he
  exact yl_end (fun _ => h) (fun z => absurd hr z)
theorem yl_end0 {post : Int32 → SY → Prop} {v1 : SY} {la : Nat → Int32} (he : yf_ending v1 = -1) (h : post 0 (zy_l v1 la)) : yl_W post (0 + 1) (nI 3) (zy_l v1 la) :=
  yl_end (fun z => absurd z (by rw [show yf_ending (zy_l v1 la) = yf_ending v1 from rfl, he]; exact yi_m1)) (fun _ => h)
theorem yrun_bad {post : Int32 → SY → Prop} {v v1 : SY} (hv : ∀ K : Int32 → SY → Prop, K 0 v1 → wpY_valid K v) (h : post (-100002) v1) : wpY_run post v := by
  unfold wpY_run
  exact hv _ (br_t rfl h)
theorem yrun_go {post : Int32 → SY → Prop} {v v1 : SY} {b : Nat} (hv : ∀ K : Int32 → SY → Prop, K 1 v1 → wpY_valid K v) (hb : yf_bodies v1 0 = nI b)
    (h : yr_R post 1 (zy_m v1 (nI 1) (-1) (yf_result v1) (nI 0) (nI 0) (yf_node v1) (yf_where v1) (yf_stage v1) (yf_kept v1) (upd (yf_begun v1) 0 (nI b)) (upd (yf_place v1) 0 0) (upd (yf_phase v1) 0 0) (upd (yf_procedure v1) 0 (nI 0)) (upd (yf_around v1) 0 (nI 0)) (upd (upd (upd (upd (upd (yf_variables v1) (5 * 0) 0) (5 * 0 + 1) 0) (5 * 0 + 2) 0) (5 * 0 + 3) 0) (5 * 0 + 4) 0) (yf_origin v1) (yf_out v1))) : wpY_run post v := by
  unfold wpY_run
  refine hv _ (br_f (by decide) ?_)
  refine yl_open (v := v1) (n := 0) (C := 0) (st := 0) (rs := yf_result v1) (nd := yf_node v1) (wh := yf_where v1) (sg := yf_stage v1) (kp := yf_kept v1) (bg := yf_begun v1) (pl := yf_place v1) (ph := yf_phase v1) (pr := yf_procedure v1) (ar := yf_around v1) (va := yf_variables v1) (og := yf_origin v1) (O := yf_out v1) (c := 0) (j := 0) (by omega) ?_
  refine nm_e ?_
  show wpY_replace _ _ _ (yf_bodies v1 0)
  rw [hb]
  exact yl_rep (a := 0) (by omega) h
end
section
/-! run: one outcome -/
theorem jr_all {u : SX} {v : SY} {P : pg_P} {np ne ns : Nat} (hOK : pg_OK P np (xf_memory u)) (hW : pg_W P np ne ns) (hP : yp_P v P) (hV : ∀ q, q < np → P 2 q = nI (pg_bo P q) ∧ pg_bo P q < ns ∧ pg_FS P np q (pg_bo P q)) (hnp : 0 < np) (hO : xf_printedList u = yf_out v) :
    ∃ (rc : Int32) (st C : Nat) (sw O' : Nat → Int32) (l0 l1 l2 : Int32) (na' en' rs' : Int32) (nd' wh' sg' kp' bg' pl' ph' pr' ar' va' og' : Nat → Int32),
      (∀ post : Int32 → SX → Prop, (∀ (M R : Nat → Int32) (ia ie il ip ir iq : Int32) (na : Nat), ra_M (xf_memory u) M sw 6 st na → R 0 = rc → post rc (zx_m (zx_f u (nI st) (upd (upd (upd (xf_locals u) 0 l0) 1 l1) 2 l2)) ia ie il 1 ip ir iq (nI C) M R O')) → xg_W post u) ∧
      (∀ post : Int32 → SY → Prop, post rc (zy_l (zy_m v na' en' rs' (nI st) (nI C) nd' wh' sg' kp' bg' pl' ph' pr' ar' va' og' O') (upd (upd (upd (yf_last v) 0 l0) 1 l1) 2 l2)) →
        yr_R post 1 (zy_m v (nI 1) (-1) (yf_result v) (nI 0) (nI 0) (yf_node v) (yf_where v) (yf_stage v) (yf_kept v) (upd (yf_begun v) 0 (nI (pg_bo P 0))) (upd (yf_place v) 0 0) (upd (yf_phase v) 0 0) (upd (yf_procedure v) 0 (nI 0)) (upd (yf_around v) 0 (nI 0)) (upd (upd (upd (upd (upd (yf_variables v) (5 * 0) 0) (5 * 0 + 1) 0) (5 * 0 + 2) 0) (5 * 0 + 3) 0) (5 * 0 + 4) 0) (yf_origin v) (yf_out v))) := by
  have hA := sr_A0 hW hnp
  have h0 := ((hW.2.2.2.1 0 hnp).1 rfl).2
  have haw : pg_aw P 0 = 0 := by unfold pg_aw pg_md; rw [h0]; rfl
  have hB := hV 0 hnp
  have hWb := hW.2.2.2.2.2 _ hB.2.1
  obtain ⟨a, sw1, bx1, si1, q1, q2, q3, q4, q5, q6, q7, k⟩ := xr_start (u0 := u) (sw := fun _ => 0) (O := xf_printedList u) hOK hnp (ax := xf_register u 0) (cx := xf_register u 1) (bx := xf_register u 3) (si := xf_register u 6)
  have hX := sr_X0 hW hnp (M0 := xf_memory u) q4 ⟨q5, q6, q7⟩
  unfold pg_pr at q2 q3
  simp only [List.length_append, show pg_hd.length = 24 from rfl, show (pg_tl P 0).length = 10 from rfl] at q2
  have qb := wl_r (b := a + 24) q3 rfl
  have qt := wl_r qb rfl
  have hl : a + 24 + (pg_S P 0 (pg_bo P 0) (a + 24)).length ≤ 3240 := by omega
  have hl2 : a + 24 + (pg_S P 0 (pg_bo P 0) (a + 24)).length + 10 ≤ 3250 := by omega
  have hw16 : 0 + pg_sw P (pg_bo P 0) ≤ 16 * 1 := by have := hWb.2.2.2.2.1; omega
  have hH : yh_H 1 (fun _ => 0) (fun _ => 0) (fun _ => 0) (fun _ => 0) (upd (yf_procedure v) 0 (nI 0)) (upd (yf_around v) 0 (nI 0)) (upd (upd (upd (upd (upd (yf_variables v) (5 * 0) 0) (5 * 0 + 1) 0) (5 * 0 + 2) 0) (5 * 0 + 3) 0) (5 * 0 + 4) 0) (yf_origin v) := by
    refine ⟨fun i hi => ?_, fun i hi h => ?_, fun i m hi hm => ?_, fun i m hi h => ?_⟩
    · rw [show i = 0 by omega]; exact pk_us
    · omega
    · rw [show i = 0 by omega]
      rcases (show m = 0 ∨ m = 1 ∨ m = 2 ∨ m = 3 ∨ m = 4 by omega) with z | z | z | z | z <;> subst z <;> rfl
    · omega
  rcases js_all (u0 := u) hOK hW hP hV 30000 1 (fun _ => 0) (fun _ => 0) (fun _ => 0) (fun _ => 0) 0 0 (xf_printedList u) (pg_bo P 0) (by have := hW.2.2.1; have := hB.2.1; omega) hA hB.2.1 hB.2.2 (by omega) (Nat.le_refl _) with ⟨x', st', C', O', a1, a2, a3, a4, a5, a6⟩ | ⟨rc, x', st', C', O', a1, a2, a3, a4, a5, a6⟩
  · obtain ⟨sw2, ax2, cx2, bx2, si2, hX2, k2⟩ := a1 (fun _ => 2) (fun _ => 71) sw1 (a + 24) 0 (xf_register u 1) bx1 si1 hX (by omega) hl (wl_l qb)
    obtain ⟨rs2, nd2, wh2, sg2, kp2, bg2, pl2, ph2, pr2, ar2, va2, og2, b2, hH2, m2⟩ := a2 0 (yf_result v) (yf_node v) (yf_where v) (yf_stage v) (yf_kept v) (upd (yf_begun v) 0 (nI (pg_bo P 0))) (upd (yf_place v) 0 0) (upd (yf_phase v) 0 0) _ _ _ _ hw16 pk_us pk_us pk_us hH
    have hm := sr_main (Nat.le_refl 1) hX2
    have hs := sr_Am a3
    have hy := yh_main (Nat.le_refl 1) hH2
    refine ⟨0, st', C', sw2, O', x' 2, x' 3, x' 4, nI 1, -1, rs2, nd2, wh2, sg2, kp2, bg2, pl2, ph2, pr2, ar2, va2, og2, fun post hp => ?_, fun post hp => ?_⟩
    · refine xg_go (k post (k2 post ?_))
      refine ra_mend haw qt (by omega) hl2 hOK.1 (hX2.2.2.2.1 0 (by omega)) ?_
      intro M R ia ie il ip ir iq na hM hR
      refine xr_final hM ?_ ?_ ?_ ?_ (l0 := x' 2) (l1 := x' 3) (l2 := x' 4)
      · rw [hm 2 (by omega) (by omega), ww_sw]; exact hs 2 (by omega) (by omega)
      · rw [hm 3 (by omega) (by omega), ww_sw]; exact hs 3 (by omega) (by omega)
      · rw [hm 4 (by omega) (by omega), ww_sw]; exact hs 4 (by omega) (by omega)
      · rw [hR]; exact hp M R ia ie il ip ir iq na hM hR
    · rw [hO] at m2
      refine m2 post (yr_fin (yr_final (hy 2 (by omega) (by omega)) (hy 3 (by omega) (by omega)) (hy 4 (by omega) (by omega)) (yl_end0 rfl hp)))
  · obtain ⟨sw2, hm, k2⟩ := a1 (fun _ => 2) (fun _ => 71) sw1 (a + 24) 0 (xf_register u 1) bx1 si1 hX (by omega) hl (wl_l qb)
    obtain ⟨na2, rs2, nd2, wh2, sg2, kp2, bg2, pl2, ph2, pr2, ar2, va2, og2, hy, m2⟩ := a2 0 (yf_result v) (yf_node v) (yf_where v) (yf_stage v) (yf_kept v) (upd (yf_begun v) 0 (nI (pg_bo P 0))) (upd (yf_place v) 0 0) (upd (yf_phase v) 0 0) _ _ _ _ hw16 pk_us pk_us pk_us hH
    refine ⟨rc, st', C', sw2, O', x' 2, x' 3, x' 4, na2, rc, rs2, nd2, wh2, sg2, kp2, bg2, pl2, ph2, pr2, ar2, va2, og2, fun post hp => ?_, fun post hp => ?_⟩
    · refine xg_go (k post (k2 post ?_))
      intro M R ia ie il ip ir iq na hM hR
      refine xr_final hM ?_ ?_ ?_ ?_ (l0 := x' 2) (l1 := x' 3) (l2 := x' 4)
      · rw [hm 2 (by omega) (by omega), ww_sw]; exact a6 2 (by omega) (by omega)
      · rw [hm 3 (by omega) (by omega), ww_sw]; exact a6 3 (by omega) (by omega)
      · rw [hm 4 (by omega) (by omega), ww_sw]; exact a6 4 (by omega) (by omega)
      · rw [hR]; exact hp M R ia ie il ip ir iq na hM hR
    · rw [hO] at m2
      refine m2 post (yr_final (hy 2 (by omega) (by omega)) (hy 3 (by omega) (by omega)) (hy 4 (by omega) (by omega)) (yl_endE rfl a3 hp))
end
section
/-! the compiler's looks at the program -/
def xp_P (u : SX) (P : pg_P) (np ne ns : Nat) : Prop :=
  xf_procedureCount u = nI np ∧ xf_expressionCount u = nI ne ∧ xf_stateCount u = nI ns ∧
  (∀ i, i < np → xf_parentOf u i = P 0 i) ∧ (∀ i, i < np → xf_modesOf u i = P 1 i) ∧ (∀ i, i < np → xf_bodyOf u i = P 2 i) ∧
  (∀ e, e < ne → xf_expressionKind u e = P 3 e) ∧ (∀ e, e < ne → xf_expressionX u e = P 4 e) ∧ (∀ e, e < ne → 2 ≤ pg_ek P e → pg_ek P e ≠ 7 → xf_expressionY u e = P 5 e) ∧
  (∀ s, s < ns → xf_stateKind u s = P 7 s) ∧ (∀ s, s < ns → pg_sk P s ≠ 6 → xf_stateX u s = P 8 s) ∧
  (∀ s, s < ns → pg_sk P s < 4 ∨ (pg_sk P s = 5 ∧ pg_md P (pg_sx P s) 0 ≠ 0) → xf_stateY u s = P 9 s) ∧
  (∀ s, s < ns → pg_sk P s = 2 ∨ (pg_sk P s = 5 ∧ pg_md P (pg_sx P s) 1 ≠ 0) → xf_stateZ u s = P 10 s)
section
variable {u : SX} {P : pg_P} {np ne ns : Nat} {post : Int32 → Prop}
theorem xh_hop (hX : xp_P u P np ne ns) (hW : pg_W P np ne ns) {r : Nat} (hr : r < np) :
    ∀ m q c : Nat, q < np → c + m < 100 → pg_an P m q r → post (nI (c + pg_hp P m q r)) → xh_W post (nI r) u (m + 1) (nI c) (nI q) := by
  have h5 := hW.1
  intro m
  induction m with
  | zero =>
    intro q c hq hc ha h
    have e : nI q = nI r := congrArg nI ha
    exact br_f (nI_pos (by omega)) (br_t e (br_t (nI_pos' (by omega)) h))
  | succ m ih =>
    intro q c hq hc ha h
    unfold pg_hp at h
    by_cases e : q = r
    · rw [if_pos e] at h
      exact br_f (nI_pos (by omega)) (br_t (congrArg nI e) (br_t (nI_pos' (by omega)) h))
    · rw [if_neg e] at h
      have h2 : q ≠ 0 ∧ pg_an P m (pg_pa P q) r := by
        rcases ha with ha | ha
        · exact absurd ha e
        · exact ha
      have hp := (hW.2.2.2.1 q hq).2.1 h2.1
      have ea : xf_parentOf u (nI q).toNatClampNeg = nI (pg_pa P q) := by
        rw [nI_clamp (by omega), hX.2.2.2.1 q hq]; exact hp.1
      have ne : ¬ nI q = nI r := fun z => e ((nI_eq (by omega) (by omega)).mp z)
      refine br_f (nI_pos (by omega)) (br_f ne ⟨vp_in_nI (by omega) (by omega), nm_r ea (nm_r (nI_1 c) (ih (pg_pa P q) (c + 1) (by omega) (by omega) h2.2 ?_))⟩)
      rw [show c + 1 + pg_hp P m (pg_pa P q) r = c + (pg_hp P m (pg_pa P q) r + 1) by omega]
      exact h
theorem xh_hops (hX : xp_P u P np ne ns) (hW : pg_W P np ne ns) {q r : Nat} (hq : q < np) (hr : r < np) (ha : pg_an P 4 q r) (h : post (nI (pg_h P q r))) : wpX_hopsTo post u (nI q) (nI r) :=
  ⟨5, xh_hop hX hW hr 4 q 0 hq (by omega) ha (by rw [Nat.zero_add]; exact h)⟩
theorem xh_mode (hX : xp_P u P np ne ns) (hW : pg_W P np ne ns) {q k : Nat} (hq : q < np) (hk : k < 2) (h : post (nI (pg_md P q k))) : wpX_modeOf post u (nI q) (nI k) := by
  have h5 := hW.1
  have hp := hW.2.2.2.1 q hq
  have e : xf_modesOf u (nI q).toNatClampNeg = nI (pg_mo P q) := by rw [nI_clamp (by omega), hX.2.2.2.2.1 q hq]; exact hp.2.2.1
  have h8 := hp.2.2.2.1
  unfold pg_md at h
  rcases (show k = 0 ∨ k = 1 by omega) with z | z
  · subst z
    rw [if_pos rfl] at h
    have e2 : xf_modesOf u (nI q).toNatClampNeg - xf_modesOf u (nI q).toNatClampNeg / 3 * 3 = nI (pg_mo P q % 3) := by rw [e]; exact yn_m3 (by omega)
    exact br_t nI_0 ⟨vp_in_nI (by omega) (by omega), by decide, by rw [← e2] at h; exact h⟩
  · subst z
    rw [if_neg (by omega)] at h
    have e2 : xf_modesOf u (nI q).toNatClampNeg / 3 = nI (pg_mo P q / 3) := by rw [e]; exact yn_d3 (by omega)
    exact br_f (by decide) ⟨vp_in_nI (by omega) (by omega), by decide, by rw [← e2] at h; exact h⟩
theorem xh_size (hX : xp_P u P np ne ns) (hW : pg_W P np ne ns) {q k : Nat} (hq : q < np) (hk : k < 2) (h : post (nI (2 * pg_md P q k))) : wpX_sizeOf post u (nI q) (nI k) := by
  have hm := sr_md hW hq k
  unfold wpX_sizeOf
  refine xh_mode (u := u) hX hW hq hk ?_
  by_cases h2 : pg_md P q k = 2
  · rw [h2] at h ⊢
    exact br_t rfl h
  · refine br_f (fun z => h2 ((nI_eq (b := 2) (by omega) (by omega)).mp z)) ?_
    show post (2 * nI (pg_md P q k))
    rw [show (2 : Int32) * nI (pg_md P q k) = nI (2 * pg_md P q k) from pk_mul 2 _]
    exact h
theorem xh_bn (hX : xp_P u P np ne ns) (hW : pg_W P np ne ns) {v : Nat} (hq : v / 5 < np) (h1 : pg_bn P v → post 1) (h0 : ¬ pg_bn P v → post 0) : wpX_isByName post u (nI v) := by
  have h5 := hW.1
  have em := yn_m (v := v) (by omega)
  have ed := yn_d (v := v) (by omega)
  refine ⟨by decide, ?_⟩
  show (2 ≤ nI v - nI v / 5 * 5 → post 0) ∧ (¬ 2 ≤ nI v - nI v / 5 * 5 → (¬ (5 : Int32) = 0 ∧ (¬ (5 : Int32) = 0 ∧ wpX_modeOf (fun r => (r = 2 → post 1) ∧ (¬ r = 2 → post 0)) u (nI v / 5) (nI v - nI v / 5 * 5))))
  rw [em, ed]
  by_cases h2 : 2 ≤ v % 5
  · exact br_t (nI_le (a := 2) h2 (by omega)) (h0 (fun z => by have := z.1; omega))
  · refine br_f (nI_ge (b := 2) (by omega) (by omega)) ⟨by decide, by decide, xh_mode hX hW hq (by omega) ?_⟩
    have hmd := sr_md hW hq (v % 5)
    by_cases h3 : pg_md P (v / 5) (v % 5) = 2
    · exact br_t (by rw [h3]; rfl) (h1 ⟨by omega, h3⟩)
    · refine br_f ?_ (h0 (fun z => h3 z.2))
      intro z
      exact h3 ((nI_eq (b := 2) (by omega) (by omega)).mp z)
theorem xh_off (hX : xp_P u P np ne ns) (hW : pg_W P np ne ns) {v : Nat} (hq : v / 5 < np) (h : post (pg_of P v)) : wpX_offsetOf post u (nI v) := by
  have h5 := hW.1
  have em := yn_m (v := v) (by omega)
  have ed := yn_d (v := v) (by omega)
  have hk5 : v % 5 < 5 := Nat.mod_lt _ (by omega)
  refine ⟨by decide, nm_r em ?_⟩
  unfold pg_of at h
  by_cases h1 : 1 < v % 5
  · rw [if_pos h1] at h
    exact br_f (nI_ge (a := 1) h1 (by omega)) h
  · rw [if_neg h1] at h
    refine br_t (nI_le (b := 1) (by omega) (by omega)) ?_
    by_cases h2 : v % 5 = 1
    · rw [if_pos h2] at h
      exact br_t (congrArg nI h2) h
    · rw [if_neg h2] at h
      refine br_f (fun z => h2 ((nI_eq (b := 1) (by omega) (by omega)).mp z)) ⟨by decide, ?_⟩
      show wpX_sizeOf (fun r => post (6 + r)) u (nI v / 5) (nI 1)
      rw [ed]
      exact xh_size hX hW hq (by omega) h
end
end
section
/-! the compiler writes: single bytes, words, jumps -/
section
variable {u : SX} {hr sd ed : Int32} {sa sp pt ea ep M : Nat → Int32} {c : Nat} {K : SX → Prop} {K2 : Int32 → SX → Prop}
theorem em_put {b : Int32} (hc : c < 4096) (h : K (zx_c u (nI (c + 1)) hr sd ed sa sp pt ea ep (wl_wr M c [b]))) : wpX_put K (zx_c u (nI c) hr sd ed sa sp pt ea ep M) b := by
  show vp_in (nI c) 4096 ∧ ∀ m : Nat → Int32, m = upd M (nI c).toNatClampNeg (vp_nar .byte b.toInt8.toInt32) → ∀ y : Int32, y = nI c + 1 → K (zx_c u y hr sd ed sa sp pt ea ep m)
  rw [nI_clamp (by omega), pk_vb]
  exact ⟨vp_in_nI hc (by omega), nm_e (nm_r (nI_1 c) h)⟩
theorem em_seq {l1 l2 : List Int32} (h : K (zx_c u (nI (c + (l1 ++ l2).length)) hr sd ed sa sp pt ea ep (wl_wr M c (l1 ++ l2)))) : K (zx_c u (nI (c + l1.length + l2.length)) hr sd ed sa sp pt ea ep (wl_wr (wl_wr M c l1) (c + l1.length) l2)) := by
  rw [wl_wapp, Nat.add_assoc, ← List.length_append]
  exact h
theorem em_put2 {b1 b2 : Int32} (hc : c + 1 < 4096) (h : K (zx_c u (nI (c + 2)) hr sd ed sa sp pt ea ep (wl_wr M c [b1, b2]))) : wpX_put2 K (zx_c u (nI c) hr sd ed sa sp pt ea ep M) b1 b2 := by
  unfold wpX_put2
  refine em_put (by omega) ?_
  exact em_put (c := c + 1) (M := wl_wr M c [b1]) hc h
theorem em_put3 {b1 b2 b3 : Int32} (hc : c + 2 < 4096) (h : K (zx_c u (nI (c + 3)) hr sd ed sa sp pt ea ep (wl_wr M c [b1, b2, b3]))) : wpX_put3 K (zx_c u (nI c) hr sd ed sa sp pt ea ep M) b1 b2 b3 := by
  unfold wpX_put3
  refine em_put (by omega) ?_
  refine em_put (c := c + 1) (M := wl_wr M c [b1]) (by omega) ?_
  exact em_put (c := c + 2) (M := wl_wr M c [b1, b2]) hc h
theorem em_word {w : Int32} (hc : c + 1 < 4096) (h : K (zx_c u (nI (c + 2)) hr sd ed sa sp pt ea ep (wl_wr M c (pg_wd w)))) : wpX_putWord K (zx_c u (nI c) hr sd ed sa sp pt ea ep M) w := by
  unfold wpX_putWord
  refine em_put (by omega) ?_
  exact em_put (c := c + 1) (M := wl_wr M c [w &&& 255]) hc h
theorem em_load {r w : Int32} (hc : c + 2 < 4096) (h : K (zx_c u (nI (c + 3)) hr sd ed sa sp pt ea ep (wl_wr M c ((184 + r) :: pg_wd w)))) : wpX_loadNumber K (zx_c u (nI c) hr sd ed sa sp pt ea ep M) r w := by
  unfold wpX_loadNumber
  refine em_put (by omega) ?_
  exact em_word (c := c + 1) (M := wl_wr M c [184 + r]) hc h
theorem em_stop {w : Int32} {l : List Int32} (hl : ((184 + 0 : Int32) :: (pg_wd w ++ [205, 0])) = l) (hc : c + 4 < 4096) (h : K (zx_c u (nI (c + 5)) hr sd ed sa sp pt ea ep (wl_wr M c l))) : wpX_stop K (zx_c u (nI c) hr sd ed sa sp pt ea ep M) w := by
  subst hl
  unfold wpX_stop
  refine em_load (by omega) ?_
  exact em_put2 (c := c + 3) (M := wl_wr M c ((184 + 0) :: pg_wd w)) (by omega) h
theorem em_call {t : Int32} (hc : c + 2 < 4096) (h : K (zx_c u (nI (c + 3)) hr sd ed sa sp pt ea ep (wl_wr M c (232 :: pg_wd ((t - nI (c + 1)) - 2))))) : wpX_callTo K (zx_c u (nI c) hr sd ed sa sp pt ea ep M) t := by
  unfold wpX_callTo
  refine em_put (by omega) ?_
  exact em_word (c := c + 1) (M := wl_wr M c [232]) hc h
theorem em_tick (hc : c + 2 < 4096) (h : K (zx_c u (nI (c + 3)) hr sd ed sa sp pt ea ep (wl_wr M c (pg_tk c)))) : wpX_callTo K (zx_c u (nI c) hr sd ed sa sp pt ea ep M) 76 := em_call hc h
theorem em_jmp {t : Int32} (hc : c + 2 < 4096) (h : K (zx_c u (nI (c + 3)) hr sd ed sa sp pt ea ep (wl_wr M c (233 :: pg_wd ((t - nI (c + 1)) - 2))))) : wpX_jumpTo K (zx_c u (nI c) hr sd ed sa sp pt ea ep M) t := by
  unfold wpX_jumpTo
  refine em_put (by omega) ?_
  exact em_word (c := c + 1) (M := wl_wr M c [233]) hc h
theorem em_fwd (hc : c + 2 < 4096) (h : K2 (nI (c + 1)) (zx_c u (nI (c + 3)) hr sd ed sa sp pt ea ep (wl_wr M c (233 :: pg_wd 0)))) : wpX_jumpForward K2 (zx_c u (nI c) hr sd ed sa sp pt ea ep M) := by
  unfold wpX_jumpForward
  refine em_put (by omega) ?_
  refine em_word (c := c + 1) (M := wl_wr M c [233]) hc ?_
  have e : nI (c + 1 + 2) - 2 = nI (c + 1) := pk_sub (a := c + 1 + 2) (b := 2) (by omega)
  show K2 (nI (c + 1 + 2) - 2) _
  rw [e]
  exact h
theorem em_set {a : Nat} {w : Int32} (ha : a + 1 < 4096) (h : K (zx_c u (nI c) hr sd ed sa sp pt ea ep (ww_wr M a w))) : wpX_setWord K (zx_c u (nI c) hr sd ed sa sp pt ea ep M) (nI a) w := by
  show vp_in (nI a &&& 4095) 4096 ∧ ∀ m : Nat → Int32, m = upd M (nI a &&& 4095).toNatClampNeg (vp_nar .byte w.toInt8.toInt32) → (vp_in ((nI a + 1) &&& 4095) 4096 ∧ ∀ m2 : Nat → Int32, m2 = upd m ((nI a + 1) &&& 4095).toNatClampNeg (vp_nar .byte (w >>> ((8 : Int32) &&& 31)).toInt8.toInt32) → K (zx_c u (nI c) hr sd ed sa sp pt ea ep m2))
  rw [nI_1, ww_m4 (by omega), ww_m4 ha, nI_clamp (by omega), nI_clamp (by omega), pk_vb, pk_vb]
  exact ⟨vp_in_nI (by omega) (by omega), nm_e ⟨vp_in_nI ha (by omega), nm_e h⟩⟩
theorem em_land {a : Nat} (ha : a + 1 < 4096) (h : K (zx_c u (nI c) hr sd ed sa sp pt ea ep (ww_wr M a ((nI c - nI a) - 2)))) : wpX_land K (zx_c u (nI c) hr sd ed sa sp pt ea ep M) (nI a) := by
  unfold wpX_land
  exact em_set ha h
theorem em_wat {K3 : Int32 → Prop} {a : Nat} (ha : a + 1 < 4096) (h : K3 (ww_rd M a)) : wpX_wordAt K3 (zx_c u (nI c) hr sd ed sa sp pt ea ep M) (nI a) := by
  have hb : ∀ (k : Nat) (Q : Int32 → Prop), k < 4096 → Q (M k &&& 255) → wpX_byteAt Q (zx_c u (nI c) hr sd ed sa sp pt ea ep M) (nI k) := by
    intro k Q hk hq
    show vp_in (nI k &&& 4095) 4096 ∧ Q (M (nI k &&& 4095).toNatClampNeg &&& 255)
    rw [ww_m4 hk, nI_clamp (by omega)]
    exact ⟨vp_in_nI hk (by omega), hq⟩
  unfold wpX_wordAt
  refine hb a _ (by omega) ?_
  rw [nI_1]
  exact hb (a + 1) _ ha h
/-- a jump's word is written when its target is known -/
theorem em_b255 (x : Int32) : (x &&& 255).toInt8.toInt32 = x.toInt8.toInt32 := by
  have h1 : ((x &&& 255).toInt8.toInt32) &&& 255 = x.toInt8.toInt32 &&& 255 := by rw [bp_b, bp_b, Int32.and_assoc]; rfl
  have h2 : ∀ y : Int32, (y &&& 255).toInt8.toInt32 = y.toInt8.toInt32 := by
    intro y
    apply Int32.toBitVec_inj.mp
    show ((y.toBitVec &&& 255#32).signExtend 8).signExtend 32 = (y.toBitVec.signExtend 8).signExtend 32
    congr 1
    apply BitVec.eq_of_getLsbD_eq
    intro i hi
    rw [BitVec.getLsbD_signExtend, BitVec.getLsbD_signExtend, BitVec.getLsbD_and]
    have hi32 : i < 32 := by omega
    have h255 : (255#32).getLsbD i = true := by
      have := b_255 i
      rw [decide_eq_true hi] at this
      exact this
    simp [hi, hi32, h255]
  exact h2 x
theorem em_patch {l1 l2 : List Int32} {x y w : Int32} {a : Nat} (ha : a = c + l1.length) : ww_wr (wl_wr M c (l1 ++ x :: y :: l2)) a w = wl_wr M c (l1 ++ (pg_wd w ++ l2)) := by
  subst ha
  rw [← wl_wapp, ← wl_wapp]
  generalize wl_wr M c l1 = N
  generalize c + l1.length = b
  show ww_wr (wl_wr (upd (upd N b x.toInt8.toInt32) (b + 1) y.toInt8.toInt32) (b + 1 + 1) l2) b w = wl_wr (upd (upd N b (w &&& 255).toInt8.toInt32) (b + 1) ((w >>> ((8 : Int32) &&& 31)) &&& 255).toInt8.toInt32) (b + 1 + 1) l2
  unfold ww_wr
  rw [wl_wu (by omega), wl_wu (by omega), em_b255, em_b255]
  congr 1
  funext i
  unfold upd
  by_cases h1 : i = b + 1
  · simp [h1]
  · by_cases h2 : i = b
    · simp [h2]
    · simp [h1, h2]
end
end
section
/-! the compiler writes: frames, variables, operators -/
section
variable {K2 : Int32 → SX → Prop} {h k n : Nat} {u1 u2 : SX}
theorem xff_end (hk : h ≤ k) (h31 : k < 1000) (hp : K2 1 u1) : xff_W K2 (nI h) (n + 1) (nI k) u1 :=
  br_t (nI_le hk (by omega)) hp
theorem xff_it (hk : k < h) (h31 : h < 1000) (hp : ∀ Q : SX → Prop, Q u2 → wpX_put3 Q u1 139 95 4) (hr : xff_W K2 (nI h) n (nI (k + 1)) u2) : xff_W K2 (nI h) (n + 1) (nI k) u1 :=
  br_f (nI_ge hk (by omega)) (hp _ (nm_r (nI_1 k) hr))
end
section
variable {u : SX} {P : pg_P} {np ne ns q : Nat} {hr sd ed : Int32} {sa sp pt ea ep M : Nat → Int32} {c : Nat} {K : SX → Prop} {K2 : Int32 → SX → Prop}
theorem em_2 {a t : List Int32} {c1 : Nat} (h1 : c1 = c + a.length) (h : K (zx_c u (nI (c + (a ++ t).length)) hr sd ed sa sp pt ea ep (wl_wr M c (a ++ t)))) : K (zx_c u (nI (c1 + t.length)) hr sd ed sa sp pt ea ep (wl_wr (wl_wr M c a) c1 t)) := by
  subst h1
  exact em_seq h
theorem em_3 {a b t : List Int32} {c1 c2 : Nat} (h1 : c1 = c + a.length) (h2 : c2 = c1 + b.length) (h : K (zx_c u (nI (c + (a ++ (b ++ t)).length)) hr sd ed sa sp pt ea ep (wl_wr M c (a ++ (b ++ t))))) : K (zx_c u (nI (c2 + t.length)) hr sd ed sa sp pt ea ep (wl_wr (wl_wr (wl_wr M c a) c1 b) c2 t)) := by
  subst h2
  refine em_seq (c := c1) (M := wl_wr M c a) ?_
  exact em_2 h1 h
theorem em_rp {hh : Nat} (h31 : hh < 1000) : ∀ (m k c : Nat) (M : Nat → Int32), k + m = hh → c + 3 * m ≤ 4090 → K2 1 (zx_c u (nI (c + (pg_rp m).length)) hr sd ed sa sp pt ea ep (wl_wr M c (pg_rp m))) → xff_W K2 (nI hh) (m + 1) (nI k) (zx_c u (nI c) hr sd ed sa sp pt ea ep M) := by
  intro m
  induction m with
  | zero => intro k c M hk hc h; exact xff_end (by omega) (by omega) h
  | succ m ih =>
    intro k c M hk hc h
    refine xff_it (u2 := (zx_c u (nI (c + 3)) hr sd ed sa sp pt ea ep (wl_wr M c [139, 95, 4]))) (by omega) h31 (fun Q hQ => em_put3 (by omega) hQ) ?_
    refine ih (k + 1) (c + 3) (wl_wr M c [139, 95, 4]) (by omega) (by omega) ?_
    exact em_2 (K := K2 1) (a := [139, 95, 4]) rfl h
theorem em_ff (hX : xp_P u P np ne ns) (hW : pg_W P np ne ns) (hq : q < np) {r : Nat} (hr2 : r < np) (ha : pg_an P 4 q r) (hc : c + 12 ≤ 4090) (h : K2 (if pg_h P q r = 0 then 0 else 1) (zx_c u (nI (c + (pg_ff (pg_h P q r)).length)) (nI q) sd ed sa sp pt ea ep (wl_wr M c (pg_ff (pg_h P q r))))) : wpX_findFrame K2 (zx_c u (nI c) (nI q) sd ed sa sp pt ea ep M) (nI r) := by
  have hle := pg_h_le P q r
  unfold wpX_findFrame
  refine xh_hops (u := (zx_c u (nI c) (nI q) sd ed sa sp pt ea ep M)) hX hW hq hr2 ha ?_
  generalize pg_h P q r = hh at *
  cases hh with
  | zero => exact br_t rfl h
  | succ m =>
    refine br_f (nI_ne0 (by omega) (by omega)) ?_
    refine em_put3 (by omega) ?_
    refine ⟨m + 1, ?_⟩
    refine em_rp (hh := m + 1) (by omega) m 1 (c + 3) (wl_wr M c [139, 94, 4]) (by omega) (by omega) ?_
    rw [if_neg (by omega)] at h
    exact em_2 (K := K2 1) (a := [139, 94, 4]) rfl h
theorem em_touch {what r far off b : Int32} (hb : (64 ||| (r <<< ((3 : Int32) &&& 31))) ||| (if far = 0 then 6 else 7) = b) (hc : c + 2 < 4096) (h : K (zx_c u (nI (c + 3)) hr sd ed sa sp pt ea ep (wl_wr M c [what, b, off]))) : wpX_touch K (zx_c u (nI c) hr sd ed sa sp pt ea ep M) what r far off := by
  subst hb
  by_cases hf : far = 0
  · rw [if_pos hf] at h
    refine br_t hf ?_
    unfold wX_touch_19
    exact em_put3 hc h
  · rw [if_neg hf] at h
    refine br_f hf ?_
    unfold wX_touch_19
    exact em_put3 hc h
theorem em_i01 (hh : Nat) : (if (if hh = 0 then (0 : Int32) else 1) = 0 then (6 : Int32) else 7) = if hh = 0 then 6 else 7 := by
  by_cases h : hh = 0
  · rw [if_pos h, if_pos h, if_pos rfl]
  · rw [if_neg h, if_neg h, if_neg (by decide)]
theorem em_m0 (hh : Nat) : (64 ||| ((0 : Int32) <<< ((3 : Int32) &&& 31))) ||| (if (if hh = 0 then (0 : Int32) else 1) = 0 then 6 else 7) = if hh = 0 then 70 else 71 := by
  rw [em_i01]; by_cases h : hh = 0
  · rw [if_pos h, if_pos h]; decide
  · rw [if_neg h, if_neg h]; decide
theorem em_m6 (hh : Nat) : (64 ||| ((6 : Int32) <<< ((3 : Int32) &&& 31))) ||| (if (if hh = 0 then (0 : Int32) else 1) = 0 then 6 else 7) = if hh = 0 then 118 else 119 := by
  rw [em_i01]; by_cases h : hh = 0
  · rw [if_pos h, if_pos h]; decide
  · rw [if_neg h, if_neg h]; decide
theorem em_m5 (hh : Nat) : (64 ||| ((5 : Int32) <<< ((3 : Int32) &&& 31))) ||| (if (if hh = 0 then (0 : Int32) else 1) = 0 then 6 else 7) = if hh = 0 then 110 else 111 := by
  rw [em_i01]; by_cases h : hh = 0
  · rw [if_pos h, if_pos h]; decide
  · rw [if_neg h, if_neg h]; decide
/-- a parameter by name is used -/
theorem em_us (hX : xp_P u P np ne ns) (htk : xf_tickAt u = 76) (hW : pg_W P np ne ns) (hq : q < np) {v : Nat} (hs : pg_sn P np q v) {w : Int32} {wn : List Int32} (hwn : (w < 0 ∧ wn = []) ∨ (¬ w < 0 ∧ (184 + 1) :: pg_wd w = wn)) (hc : c + 40 ≤ 4090)
    (h : K (zx_c u (nI (c + (pg_us P q v wn c).length)) (nI q) sd ed sa sp pt ea ep (wl_wr M c (pg_us P q v wn c)))) : wpX_useName K (zx_c u (nI c) (nI q) sd ed sa sp pt ea ep M) (nI v) w := by
  have h5 := hW.1
  have hle := pg_h_le P q (v / 5)
  have hfl := rb_ffl (pg_h P q (v / 5))
  have hs1 := hs.1
  unfold wpX_useName
  show wpX_callTo _ _ (xf_tickAt u)
  rw [htk]
  refine em_tick (by omega) ⟨by decide, ?_⟩
  rw [yn_d (by omega)]
  refine em_ff (c := c + 3) (M := wl_wr M c (pg_tk c)) hX hW hq hs.1 hs.2.1 (by omega) ?_
  refine xh_off (u := (zx_c u (nI (c + 3 + (pg_ff (pg_h P q (v / 5))).length)) (nI q) sd ed sa sp pt ea ep (wl_wr (wl_wr M c (pg_tk c)) (c + 3) (pg_ff (pg_h P q (v / 5)))))) hX hW hs.1 ?_
  have h3 : ∀ t : List Int32, t = 139 :: (if pg_h P q (v / 5) = 0 then 118 else 119) :: pg_of P v :: 85 :: 139 :: (if pg_h P q (v / 5) = 0 then 110 else 111) :: (pg_of P v + 2) :: (wn ++ [255, 214, 93]) → K (zx_c u (nI (c + 3 + (pg_ff (pg_h P q (v / 5))).length + t.length)) (nI q) sd ed sa sp pt ea ep (wl_wr (wl_wr (wl_wr M c (pg_tk c)) (c + 3) (pg_ff (pg_h P q (v / 5)))) (c + 3 + (pg_ff (pg_h P q (v / 5))).length) t)) := by
    intro t ht
    subst ht
    exact em_3 rfl rfl h
  generalize wl_wr (wl_wr M c (pg_tk c)) (c + 3) (pg_ff (pg_h P q (v / 5))) = N at *
  have hcc : c + 3 + (pg_ff (pg_h P q (v / 5))).length + 20 ≤ 4090 := by omega
  generalize c + 3 + (pg_ff (pg_h P q (v / 5))).length = d at *
  refine em_touch (c := d) (M := N) (em_m6 _) (by omega) ?_
  refine em_put (c := d + 3) (M := wl_wr N d [139, (if pg_h P q (v / 5) = 0 then 118 else 119), pg_of P v]) (by omega) ?_
  refine em_touch (c := d + 4) (M := wl_wr N d [139, (if pg_h P q (v / 5) = 0 then 118 else 119), pg_of P v, 85]) (em_m5 _) (by omega) ?_
  rcases hwn with ⟨hw, e⟩ | ⟨hw, e⟩
  · refine br_t hw ?_
    unfold wX_useName_64
    subst e
    refine em_put2 (c := d + 7) (M := wl_wr N d [139, (if pg_h P q (v / 5) = 0 then 118 else 119), pg_of P v, 85, 139, (if pg_h P q (v / 5) = 0 then 110 else 111), pg_of P v + 2]) (by omega) ?_
    exact em_put (c := d + 9) (M := wl_wr N d [139, (if pg_h P q (v / 5) = 0 then 118 else 119), pg_of P v, 85, 139, (if pg_h P q (v / 5) = 0 then 110 else 111), pg_of P v + 2, 255, 214]) (by omega) (h3 _ rfl)
  · refine br_f hw ?_
    refine em_load (c := d + 7) (M := wl_wr N d [139, (if pg_h P q (v / 5) = 0 then 118 else 119), pg_of P v, 85, 139, (if pg_h P q (v / 5) = 0 then 110 else 111), pg_of P v + 2]) (by omega) ?_
    unfold wX_useName_64
    subst e
    refine em_put2 (c := d + 10) (M := wl_wr N d (139 :: (if pg_h P q (v / 5) = 0 then 118 else 119) :: pg_of P v :: 85 :: 139 :: (if pg_h P q (v / 5) = 0 then 110 else 111) :: (pg_of P v + 2) :: (184 + 1) :: pg_wd w)) (by omega) ?_
    exact em_put (c := d + 12) (M := wl_wr N d (139 :: (if pg_h P q (v / 5) = 0 then 118 else 119) :: pg_of P v :: 85 :: 139 :: (if pg_h P q (v / 5) = 0 then 110 else 111) :: (pg_of P v + 2) :: (184 + 1) :: (pg_wd w ++ [255, 214]))) (by omega) (h3 _ rfl)
theorem em_lv (hX : xp_P u P np ne ns) (htk : xf_tickAt u = 76) (hW : pg_W P np ne ns) (hq : q < np) {v : Nat} (hs : pg_sn P np q v) (hc : c + 40 ≤ 4090)
    (h : K (zx_c u (nI (c + (pg_lv P q v c).length)) (nI q) sd ed sa sp pt ea ep (wl_wr M c (pg_lv P q v c)))) : wpX_loadVariable K (zx_c u (nI c) (nI q) sd ed sa sp pt ea ep M) (nI v) := by
  have h5 := hW.1
  have hle := pg_h_le P q (v / 5)
  have hfl := rb_ffl (pg_h P q (v / 5))
  have hs1 := hs.1
  unfold wpX_loadVariable
  unfold pg_lv at h
  refine xh_bn (u := (zx_c u (nI c) (nI q) sd ed sa sp pt ea ep M)) hX hW hs.1 (fun hb => ?_) (fun hb => ?_)
  · rw [if_pos hb] at h
    refine br_f (by decide) ?_
    exact em_us hX htk hW hq hs (Or.inr ⟨by decide, by decide⟩) hc h
  · rw [if_neg hb] at h
    refine br_t rfl ⟨by decide, ?_⟩
    rw [yn_d (by omega)]
    refine em_ff hX hW hq hs.1 hs.2.1 (by omega) ?_
    refine xh_off (u := (zx_c u (nI (c + (pg_ff (pg_h P q (v / 5))).length)) (nI q) sd ed sa sp pt ea ep (wl_wr M c (pg_ff (pg_h P q (v / 5)))))) hX hW hs.1 ?_
    refine em_touch (c := c + (pg_ff (pg_h P q (v / 5))).length) (M := wl_wr M c (pg_ff (pg_h P q (v / 5)))) (em_m0 _) (by omega) ?_
    exact em_2 (t := [139, (if pg_h P q (v / 5) = 0 then 70 else 71), pg_of P v]) rfl h
theorem em_ch {br : Int32} (hc : c + 10 < 4096) (h : K (zx_c u (nI (c + 8)) hr sd ed sa sp pt ea ep (wl_wr M c (pg_ch br)))) : wpX_chooseOne K (zx_c u (nI c) hr sd ed sa sp pt ea ep M) br := by
  unfold wpX_chooseOne
  refine em_load (by omega) ?_
  refine em_put2 (c := c + 3) (M := wl_wr M c ((184 + 0) :: pg_wd 1)) (by omega) ?_
  refine em_load (c := c + 5) (M := wl_wr M c ((184 + 0) :: (pg_wd 1 ++ [br, 3]))) (by omega) ?_
  have e : (184 + 0 : Int32) :: (pg_wd 1 ++ br :: 3 :: (184 + 0) :: pg_wd 0) = pg_ch br := by
    have e1 : (184 + 0 : Int32) = 184 := by decide
    have e2 : pg_wd 1 = [1, 0] := by decide
    have e3 : pg_wd 0 = [0, 0] := by decide
    rw [e1, e2, e3]; rfl
  rw [← e] at h
  exact h
theorem em_fin {k : Nat} (hk : 2 ≤ k) (hk7 : k ≤ 7) (hc : c + 20 < 4096) (h : K (zx_c u (nI (c + (pg_fn k).length)) hr sd ed sa sp pt ea ep (wl_wr M c (pg_fn k)))) : wpX_finishExpression K (zx_c u (nI c) hr sd ed sa sp pt ea ep M) (nI k) := by
  have hq : ∀ m : Nat, m < 50 → k ≠ m → ¬ nI k = nI m := fun m hm h z => h ((nI_eq (by omega) (by omega)).mp z)
  unfold pg_fn at h
  by_cases k7 : k = 7
  · rw [if_pos k7] at h
    subst k7
    refine br_t rfl ?_
    refine em_put2 (by omega) ?_
    exact em_ch (c := c + 2) (M := wl_wr M c [11, 192]) (by omega) h
  · rw [if_neg k7] at h
    refine br_f (hq 7 (by omega) k7) ?_
    refine em_put2 (by omega) ?_
    refine em_put (c := c + 2) (M := wl_wr M c [139, 216]) (by omega) ?_
    by_cases k2 : k = 2
    · rw [if_pos k2] at h
      refine br_t (congrArg nI k2) ?_
      exact em_put2 (c := c + 3) (M := wl_wr M c [139, 216, 88]) (by omega) h
    · rw [if_neg k2] at h
      refine br_f (hq 2 (by omega) k2) ?_
      by_cases k3 : k = 3
      · rw [if_pos k3] at h
        refine br_t (congrArg nI k3) ?_
        exact em_put2 (c := c + 3) (M := wl_wr M c [139, 216, 88]) (by omega) h
      · rw [if_neg k3] at h
        refine br_f (hq 3 (by omega) k3) ?_
        by_cases k4 : k = 4
        · rw [if_pos k4] at h
          refine br_t (congrArg nI k4) ?_
          exact em_put2 (c := c + 3) (M := wl_wr M c [139, 216, 88]) (by omega) h
        · rw [if_neg k4] at h
          refine br_f (hq 4 (by omega) k4) ?_
          refine em_put2 (c := c + 3) (M := wl_wr M c [139, 216, 88]) (by omega) ?_
          by_cases k5 : k = 5
          · rw [if_pos k5] at h
            refine br_t (congrArg nI k5) ?_
            unfold wX_finishExpression_111
            exact em_ch (c := c + 5) (M := wl_wr M c [139, 216, 88, 59, 195]) (by omega) h
          · rw [if_neg k5] at h
            refine br_f (hq 5 (by omega) k5) ?_
            unfold wX_finishExpression_111
            exact em_ch (c := c + 5) (M := wl_wr M c [139, 216, 88, 59, 195]) (by omega) h
end
end
section
/-! the compiler's expressions -/
def xe_R (post : SX → Prop) (u : SX) : Prop := ∃ n, xe_W post n u
theorem xe_ph {k : Nat} (hk : k ≤ 5) : vp_nar .byte ((nI k + 1).toInt8.toInt32) = nI (k + 1) := by
  rw [pk_vb, nI_1, ww_bI (by omega)]
section
variable {u1 u2 u3 : SX} {post : SX → Prop} {d e k f : Nat}
theorem xe_done (hd : xf_expressionDepth u1 = 0) (h : post u1) : xe_R post u1 := by
  have h0 : xf_expressionDepth u1 ≤ 0 := by rw [hd]; decide
  exact ⟨0 + 1, br_t h0 h⟩
end
section
variable {u1 u2 u3 : SX} {post : SX → Prop} {d e k f : Nat} (hd : xf_expressionDepth u1 = nI (d + 1)) (hd20 : d < 20) (hat : xf_expressionAt u1 d = nI e) (he : e < 50) (hk : xf_expressionKind u1 e = nI k) (hk7 : k ≤ 7) (hph : xf_expressionPhase u1 d = nI f) (hf : f ≤ 5)
/-- what an iteration looks at -/
theorem xe_pre {n : Nat} (hd : xf_expressionDepth u1 = nI (d + 1)) (hd20 : d < 20) (hat : xf_expressionAt u1 d = nI e) (he : e < 50) (hk : xf_expressionKind u1 e = nI k) (hph : xf_expressionPhase u1 d = nI f) (hf : f ≤ 5)
    (h : ((nI k = 0 → wX_compileExpression_69 post (wX_compileExpression_10 post n) (nI e) (nI k) u1.1 u1.2.1 u1.2.2.1 u1.2.2.2.1 u1.2.2.2.2.1 u1.2.2.2.2.2.1 u1.2.2.2.2.2.2.1 u1.2.2.2.2.2.2.2.1 u1.2.2.2.2.2.2.2.2.1 u1.2.2.2.2.2.2.2.2.2.1 u1.2.2.2.2.2.2.2.2.2.2.1 u1.2.2.2.2.2.2.2.2.2.2.2.1 u1.2.2.2.2.2.2.2.2.2.2.2.2.1 u1.2.2.2.2.2.2.2.2.2.2.2.2.2.1 u1.2.2.2.2.2.2.2.2.2.2.2.2.2.2.1 u1.2.2.2.2.2.2.2.2.2.2.2.2.2.2.2.1 u1.2.2.2.2.2.2.2.2.2.2.2.2.2.2.2.2.1 u1.2.2.2.2.2.2.2.2.2.2.2.2.2.2.2.2.2.1 u1.2.2.2.2.2.2.2.2.2.2.2.2.2.2.2.2.2.2.1 u1.2.2.2.2.2.2.2.2.2.2.2.2.2.2.2.2.2.2.2.1 u1.2.2.2.2.2.2.2.2.2.2.2.2.2.2.2.2.2.2.2.2.1 u1.2.2.2.2.2.2.2.2.2.2.2.2.2.2.2.2.2.2.2.2.2.1 u1.2.2.2.2.2.2.2.2.2.2.2.2.2.2.2.2.2.2.2.2.2.2.1 u1.2.2.2.2.2.2.2.2.2.2.2.2.2.2.2.2.2.2.2.2.2.2.2.1 u1.2.2.2.2.2.2.2.2.2.2.2.2.2.2.2.2.2.2.2.2.2.2.2.2.1 u1.2.2.2.2.2.2.2.2.2.2.2.2.2.2.2.2.2.2.2.2.2.2.2.2.2.1 u1.2.2.2.2.2.2.2.2.2.2.2.2.2.2.2.2.2.2.2.2.2.2.2.2.2.2.1 u1.2.2.2.2.2.2.2.2.2.2.2.2.2.2.2.2.2.2.2.2.2.2.2.2.2.2.2.1 u1.2.2.2.2.2.2.2.2.2.2.2.2.2.2.2.2.2.2.2.2.2.2.2.2.2.2.2.2.1 u1.2.2.2.2.2.2.2.2.2.2.2.2.2.2.2.2.2.2.2.2.2.2.2.2.2.2.2.2.2.1 u1.2.2.2.2.2.2.2.2.2.2.2.2.2.2.2.2.2.2.2.2.2.2.2.2.2.2.2.2.2.2.1 u1.2.2.2.2.2.2.2.2.2.2.2.2.2.2.2.2.2.2.2.2.2.2.2.2.2.2.2.2.2.2.2.1 u1.2.2.2.2.2.2.2.2.2.2.2.2.2.2.2.2.2.2.2.2.2.2.2.2.2.2.2.2.2.2.2.2.1 u1.2.2.2.2.2.2.2.2.2.2.2.2.2.2.2.2.2.2.2.2.2.2.2.2.2.2.2.2.2.2.2.2.2.1 (upd (xf_expressionPhase u1) d (nI (f + 1))) u1.2.2.2.2.2.2.2.2.2.2.2.2.2.2.2.2.2.2.2.2.2.2.2.2.2.2.2.2.2.2.2.2.2.2.2.1 u1.2.2.2.2.2.2.2.2.2.2.2.2.2.2.2.2.2.2.2.2.2.2.2.2.2.2.2.2.2.2.2.2.2.2.2.2.1 u1.2.2.2.2.2.2.2.2.2.2.2.2.2.2.2.2.2.2.2.2.2.2.2.2.2.2.2.2.2.2.2.2.2.2.2.2.2.1 u1.2.2.2.2.2.2.2.2.2.2.2.2.2.2.2.2.2.2.2.2.2.2.2.2.2.2.2.2.2.2.2.2.2.2.2.2.2.2) ∧ (¬ nI k = 0 → ((nI k = 1 → wX_compileExpression_69 post (wX_compileExpression_10 post n) (nI e) (nI k) u1.1 u1.2.1 u1.2.2.1 u1.2.2.2.1 u1.2.2.2.2.1 u1.2.2.2.2.2.1 u1.2.2.2.2.2.2.1 u1.2.2.2.2.2.2.2.1 u1.2.2.2.2.2.2.2.2.1 u1.2.2.2.2.2.2.2.2.2.1 u1.2.2.2.2.2.2.2.2.2.2.1 u1.2.2.2.2.2.2.2.2.2.2.2.1 u1.2.2.2.2.2.2.2.2.2.2.2.2.1 u1.2.2.2.2.2.2.2.2.2.2.2.2.2.1 u1.2.2.2.2.2.2.2.2.2.2.2.2.2.2.1 u1.2.2.2.2.2.2.2.2.2.2.2.2.2.2.2.1 u1.2.2.2.2.2.2.2.2.2.2.2.2.2.2.2.2.1 u1.2.2.2.2.2.2.2.2.2.2.2.2.2.2.2.2.2.1 u1.2.2.2.2.2.2.2.2.2.2.2.2.2.2.2.2.2.2.1 u1.2.2.2.2.2.2.2.2.2.2.2.2.2.2.2.2.2.2.2.1 u1.2.2.2.2.2.2.2.2.2.2.2.2.2.2.2.2.2.2.2.2.1 u1.2.2.2.2.2.2.2.2.2.2.2.2.2.2.2.2.2.2.2.2.2.1 u1.2.2.2.2.2.2.2.2.2.2.2.2.2.2.2.2.2.2.2.2.2.2.1 u1.2.2.2.2.2.2.2.2.2.2.2.2.2.2.2.2.2.2.2.2.2.2.2.1 u1.2.2.2.2.2.2.2.2.2.2.2.2.2.2.2.2.2.2.2.2.2.2.2.2.1 u1.2.2.2.2.2.2.2.2.2.2.2.2.2.2.2.2.2.2.2.2.2.2.2.2.2.1 u1.2.2.2.2.2.2.2.2.2.2.2.2.2.2.2.2.2.2.2.2.2.2.2.2.2.2.1 u1.2.2.2.2.2.2.2.2.2.2.2.2.2.2.2.2.2.2.2.2.2.2.2.2.2.2.2.1 u1.2.2.2.2.2.2.2.2.2.2.2.2.2.2.2.2.2.2.2.2.2.2.2.2.2.2.2.2.1 u1.2.2.2.2.2.2.2.2.2.2.2.2.2.2.2.2.2.2.2.2.2.2.2.2.2.2.2.2.2.1 u1.2.2.2.2.2.2.2.2.2.2.2.2.2.2.2.2.2.2.2.2.2.2.2.2.2.2.2.2.2.2.1 u1.2.2.2.2.2.2.2.2.2.2.2.2.2.2.2.2.2.2.2.2.2.2.2.2.2.2.2.2.2.2.2.1 u1.2.2.2.2.2.2.2.2.2.2.2.2.2.2.2.2.2.2.2.2.2.2.2.2.2.2.2.2.2.2.2.2.1 u1.2.2.2.2.2.2.2.2.2.2.2.2.2.2.2.2.2.2.2.2.2.2.2.2.2.2.2.2.2.2.2.2.2.1 (upd (xf_expressionPhase u1) d (nI (f + 1))) u1.2.2.2.2.2.2.2.2.2.2.2.2.2.2.2.2.2.2.2.2.2.2.2.2.2.2.2.2.2.2.2.2.2.2.2.1 u1.2.2.2.2.2.2.2.2.2.2.2.2.2.2.2.2.2.2.2.2.2.2.2.2.2.2.2.2.2.2.2.2.2.2.2.2.1 u1.2.2.2.2.2.2.2.2.2.2.2.2.2.2.2.2.2.2.2.2.2.2.2.2.2.2.2.2.2.2.2.2.2.2.2.2.2.1 u1.2.2.2.2.2.2.2.2.2.2.2.2.2.2.2.2.2.2.2.2.2.2.2.2.2.2.2.2.2.2.2.2.2.2.2.2.2.2) ∧ (¬ nI k = 1 → ((nI f = 0 → (vp_in (nI e) 50 ∧ wpX_enterExpression (fun u => xe_W post n u) (zx_c u1 (xf_codeEnd u1) (xf_here u1) (xf_stateDepth u1) (xf_expressionDepth u1) (xf_stateAt u1) (xf_statePhase u1) (xf_statePatch u1) (xf_expressionAt u1) (upd (xf_expressionPhase u1) d (nI (f + 1))) (xf_memory u1)) (xf_expressionX u1 (nI e).toNatClampNeg))) ∧ (¬ nI f = 0 → ((nI f = 1 → ((nI k = 7 → wX_compileExpression_161 post (wX_compileExpression_10 post n) (nI k) u1.1 u1.2.1 u1.2.2.1 u1.2.2.2.1 u1.2.2.2.2.1 u1.2.2.2.2.2.1 u1.2.2.2.2.2.2.1 u1.2.2.2.2.2.2.2.1 u1.2.2.2.2.2.2.2.2.1 u1.2.2.2.2.2.2.2.2.2.1 u1.2.2.2.2.2.2.2.2.2.2.1 u1.2.2.2.2.2.2.2.2.2.2.2.1 u1.2.2.2.2.2.2.2.2.2.2.2.2.1 u1.2.2.2.2.2.2.2.2.2.2.2.2.2.1 u1.2.2.2.2.2.2.2.2.2.2.2.2.2.2.1 u1.2.2.2.2.2.2.2.2.2.2.2.2.2.2.2.1 u1.2.2.2.2.2.2.2.2.2.2.2.2.2.2.2.2.1 u1.2.2.2.2.2.2.2.2.2.2.2.2.2.2.2.2.2.1 u1.2.2.2.2.2.2.2.2.2.2.2.2.2.2.2.2.2.2.1 u1.2.2.2.2.2.2.2.2.2.2.2.2.2.2.2.2.2.2.2.1 u1.2.2.2.2.2.2.2.2.2.2.2.2.2.2.2.2.2.2.2.2.1 u1.2.2.2.2.2.2.2.2.2.2.2.2.2.2.2.2.2.2.2.2.2.1 u1.2.2.2.2.2.2.2.2.2.2.2.2.2.2.2.2.2.2.2.2.2.2.1 u1.2.2.2.2.2.2.2.2.2.2.2.2.2.2.2.2.2.2.2.2.2.2.2.1 u1.2.2.2.2.2.2.2.2.2.2.2.2.2.2.2.2.2.2.2.2.2.2.2.2.1 u1.2.2.2.2.2.2.2.2.2.2.2.2.2.2.2.2.2.2.2.2.2.2.2.2.2.1 u1.2.2.2.2.2.2.2.2.2.2.2.2.2.2.2.2.2.2.2.2.2.2.2.2.2.2.1 u1.2.2.2.2.2.2.2.2.2.2.2.2.2.2.2.2.2.2.2.2.2.2.2.2.2.2.2.1 u1.2.2.2.2.2.2.2.2.2.2.2.2.2.2.2.2.2.2.2.2.2.2.2.2.2.2.2.2.1 u1.2.2.2.2.2.2.2.2.2.2.2.2.2.2.2.2.2.2.2.2.2.2.2.2.2.2.2.2.2.1 u1.2.2.2.2.2.2.2.2.2.2.2.2.2.2.2.2.2.2.2.2.2.2.2.2.2.2.2.2.2.2.1 u1.2.2.2.2.2.2.2.2.2.2.2.2.2.2.2.2.2.2.2.2.2.2.2.2.2.2.2.2.2.2.2.1 u1.2.2.2.2.2.2.2.2.2.2.2.2.2.2.2.2.2.2.2.2.2.2.2.2.2.2.2.2.2.2.2.2.1 u1.2.2.2.2.2.2.2.2.2.2.2.2.2.2.2.2.2.2.2.2.2.2.2.2.2.2.2.2.2.2.2.2.2.1 (upd (xf_expressionPhase u1) d (nI (f + 1))) u1.2.2.2.2.2.2.2.2.2.2.2.2.2.2.2.2.2.2.2.2.2.2.2.2.2.2.2.2.2.2.2.2.2.2.2.1 u1.2.2.2.2.2.2.2.2.2.2.2.2.2.2.2.2.2.2.2.2.2.2.2.2.2.2.2.2.2.2.2.2.2.2.2.2.1 u1.2.2.2.2.2.2.2.2.2.2.2.2.2.2.2.2.2.2.2.2.2.2.2.2.2.2.2.2.2.2.2.2.2.2.2.2.2.1 u1.2.2.2.2.2.2.2.2.2.2.2.2.2.2.2.2.2.2.2.2.2.2.2.2.2.2.2.2.2.2.2.2.2.2.2.2.2.2) ∧ (¬ nI k = 7 → wpX_put (fun u => (vp_in (nI e) 50 ∧ wpX_enterExpression (fun u => xe_W post n u) u (xf_expressionY u (nI e).toNatClampNeg))) (zx_c u1 (xf_codeEnd u1) (xf_here u1) (xf_stateDepth u1) (xf_expressionDepth u1) (xf_stateAt u1) (xf_statePhase u1) (xf_statePatch u1) (xf_expressionAt u1) (upd (xf_expressionPhase u1) d (nI (f + 1))) (xf_memory u1)) 80))) ∧ (¬ nI f = 1 → wX_compileExpression_161 post (wX_compileExpression_10 post n) (nI k) u1.1 u1.2.1 u1.2.2.1 u1.2.2.2.1 u1.2.2.2.2.1 u1.2.2.2.2.2.1 u1.2.2.2.2.2.2.1 u1.2.2.2.2.2.2.2.1 u1.2.2.2.2.2.2.2.2.1 u1.2.2.2.2.2.2.2.2.2.1 u1.2.2.2.2.2.2.2.2.2.2.1 u1.2.2.2.2.2.2.2.2.2.2.2.1 u1.2.2.2.2.2.2.2.2.2.2.2.2.1 u1.2.2.2.2.2.2.2.2.2.2.2.2.2.1 u1.2.2.2.2.2.2.2.2.2.2.2.2.2.2.1 u1.2.2.2.2.2.2.2.2.2.2.2.2.2.2.2.1 u1.2.2.2.2.2.2.2.2.2.2.2.2.2.2.2.2.1 u1.2.2.2.2.2.2.2.2.2.2.2.2.2.2.2.2.2.1 u1.2.2.2.2.2.2.2.2.2.2.2.2.2.2.2.2.2.2.1 u1.2.2.2.2.2.2.2.2.2.2.2.2.2.2.2.2.2.2.2.1 u1.2.2.2.2.2.2.2.2.2.2.2.2.2.2.2.2.2.2.2.2.1 u1.2.2.2.2.2.2.2.2.2.2.2.2.2.2.2.2.2.2.2.2.2.1 u1.2.2.2.2.2.2.2.2.2.2.2.2.2.2.2.2.2.2.2.2.2.2.1 u1.2.2.2.2.2.2.2.2.2.2.2.2.2.2.2.2.2.2.2.2.2.2.2.1 u1.2.2.2.2.2.2.2.2.2.2.2.2.2.2.2.2.2.2.2.2.2.2.2.2.1 u1.2.2.2.2.2.2.2.2.2.2.2.2.2.2.2.2.2.2.2.2.2.2.2.2.2.1 u1.2.2.2.2.2.2.2.2.2.2.2.2.2.2.2.2.2.2.2.2.2.2.2.2.2.2.1 u1.2.2.2.2.2.2.2.2.2.2.2.2.2.2.2.2.2.2.2.2.2.2.2.2.2.2.2.1 u1.2.2.2.2.2.2.2.2.2.2.2.2.2.2.2.2.2.2.2.2.2.2.2.2.2.2.2.2.1 u1.2.2.2.2.2.2.2.2.2.2.2.2.2.2.2.2.2.2.2.2.2.2.2.2.2.2.2.2.2.1 u1.2.2.2.2.2.2.2.2.2.2.2.2.2.2.2.2.2.2.2.2.2.2.2.2.2.2.2.2.2.2.1 u1.2.2.2.2.2.2.2.2.2.2.2.2.2.2.2.2.2.2.2.2.2.2.2.2.2.2.2.2.2.2.2.1 u1.2.2.2.2.2.2.2.2.2.2.2.2.2.2.2.2.2.2.2.2.2.2.2.2.2.2.2.2.2.2.2.2.1 u1.2.2.2.2.2.2.2.2.2.2.2.2.2.2.2.2.2.2.2.2.2.2.2.2.2.2.2.2.2.2.2.2.2.1 (upd (xf_expressionPhase u1) d (nI (f + 1))) u1.2.2.2.2.2.2.2.2.2.2.2.2.2.2.2.2.2.2.2.2.2.2.2.2.2.2.2.2.2.2.2.2.2.2.2.1 u1.2.2.2.2.2.2.2.2.2.2.2.2.2.2.2.2.2.2.2.2.2.2.2.2.2.2.2.2.2.2.2.2.2.2.2.2.1 u1.2.2.2.2.2.2.2.2.2.2.2.2.2.2.2.2.2.2.2.2.2.2.2.2.2.2.2.2.2.2.2.2.2.2.2.2.2.1 u1.2.2.2.2.2.2.2.2.2.2.2.2.2.2.2.2.2.2.2.2.2.2.2.2.2.2.2.2.2.2.2.2.2.2.2.2.2.2))))))))) : xe_W post (n + 1) u1 := by
  have e0 : ¬ xf_expressionDepth u1 ≤ 0 := by rw [hd]; exact nI_nle (by omega) (by omega)
  have e1 : xf_expressionDepth u1 - 1 = nI d := by rw [hd]; exact nI_pred d
  have e2 : xf_expressionAt u1 (nI d).toNatClampNeg = nI e := by rw [nI_clamp (by omega)]; exact hat
  have e3 : xf_expressionKind u1 (nI e).toNatClampNeg = nI k := by rw [nI_clamp (by omega)]; exact hk
  have e4 : xf_expressionPhase u1 (nI d).toNatClampNeg = nI f := by rw [nI_clamp (by omega)]; exact hph
  have e5 : upd (xf_expressionPhase u1) (nI d).toNatClampNeg (vp_nar .byte ((xf_expressionPhase u1 (nI d).toNatClampNeg + 1).toInt8.toInt32)) = upd (xf_expressionPhase u1) d (nI (f + 1)) := by
    rw [e4, nI_clamp (by omega), xe_ph hf]
  have i1 : vp_in (nI d) 20 := vp_in_nI hd20 (by omega)
  exact br_f e0 (nm_r e1 ⟨i1, nm_r e2 ⟨vp_in_nI he (by omega), nm_r e3 ⟨i1, nm_r e4 ⟨i1, i1, nm_r e5 h⟩⟩⟩⟩)
theorem xe_i0 (hd : xf_expressionDepth u1 = nI (d + 1)) (hd20 : d < 20) (hat : xf_expressionAt u1 d = nI e) (he : e < 50) (hk : xf_expressionKind u1 e = nI 0) (hph : xf_expressionPhase u1 d = nI f) (hf : f ≤ 5)
    (hp : ∀ Q : SX → Prop, Q u2 → wpX_loadNumber Q (zx_c u1 (xf_codeEnd u1) (xf_here u1) (xf_stateDepth u1) (nI d) (xf_stateAt u1) (xf_statePhase u1) (xf_statePatch u1) (xf_expressionAt u1) (upd (xf_expressionPhase u1) d (nI (f + 1))) (xf_memory u1)) 0 (xf_expressionX u1 e)) (h : xe_R post u2) : xe_R post u1 := by
  obtain ⟨n, h⟩ := h
  have e1 : xf_expressionDepth u1 - 1 = nI d := by rw [hd]; exact nI_pred d
  have e2 : xf_expressionX u1 (nI e).toNatClampNeg = xf_expressionX u1 e := by rw [nI_clamp (by omega)]
  refine ⟨n + 1, xe_pre hd hd20 hat he hk hph hf (br_t rfl (nm_r e1 (br_t rfl ⟨vp_in_nI he (by omega), ?_⟩)))⟩
  show wpX_loadNumber _ _ 0 (xf_expressionX u1 (nI e).toNatClampNeg)
  rw [e2]
  exact hp _ h
theorem xe_i1 (hd : xf_expressionDepth u1 = nI (d + 1)) (hd20 : d < 20) (hat : xf_expressionAt u1 d = nI e) (he : e < 50) (hk : xf_expressionKind u1 e = nI 1) (hph : xf_expressionPhase u1 d = nI f) (hf : f ≤ 5)
    (hp : ∀ Q : SX → Prop, Q u2 → wpX_loadVariable Q (zx_c u1 (xf_codeEnd u1) (xf_here u1) (xf_stateDepth u1) (nI d) (xf_stateAt u1) (xf_statePhase u1) (xf_statePatch u1) (xf_expressionAt u1) (upd (xf_expressionPhase u1) d (nI (f + 1))) (xf_memory u1)) (xf_expressionX u1 e)) (h : xe_R post u2) : xe_R post u1 := by
  obtain ⟨n, h⟩ := h
  have e1 : xf_expressionDepth u1 - 1 = nI d := by rw [hd]; exact nI_pred d
  have e2 : xf_expressionX u1 (nI e).toNatClampNeg = xf_expressionX u1 e := by rw [nI_clamp (by omega)]
  refine ⟨n + 1, xe_pre hd hd20 hat he hk hph hf (br_f (by decide) (br_t rfl (nm_r e1 (br_f (by decide) ⟨vp_in_nI he (by omega), ?_⟩))))⟩
  show wpX_loadVariable _ _ (xf_expressionX u1 (nI e).toNatClampNeg)
  rw [e2]
  exact hp _ h
theorem xe_ix (hd : xf_expressionDepth u1 = nI (d + 1)) (hd20 : d < 20) (hat : xf_expressionAt u1 d = nI e) (he : e < 50) (hk : xf_expressionKind u1 e = nI k) (hk2 : 2 ≤ k) (hk7 : k ≤ 7) (hph : xf_expressionPhase u1 d = nI 0)
    (hp : ∀ Q : SX → Prop, Q u2 → wpX_enterExpression Q (zx_c u1 (xf_codeEnd u1) (xf_here u1) (xf_stateDepth u1) (xf_expressionDepth u1) (xf_stateAt u1) (xf_statePhase u1) (xf_statePatch u1) (xf_expressionAt u1) (upd (xf_expressionPhase u1) d (nI 1)) (xf_memory u1)) (xf_expressionX u1 e)) (h : xe_R post u2) : xe_R post u1 := by
  obtain ⟨n, h⟩ := h
  have e2 : xf_expressionX u1 (nI e).toNatClampNeg = xf_expressionX u1 e := by rw [nI_clamp (by omega)]
  refine ⟨n + 1, xe_pre hd hd20 hat he hk hph (by omega) (br_f (ym_q (m := 0) (by omega) (by omega) (by omega)) (br_f (ym_q (m := 1) (by omega) (by omega) (by omega)) (br_t rfl ⟨vp_in_nI he (by omega), ?_⟩)))⟩
  rw [e2]
  exact hp _ h
theorem xe_iy (hd : xf_expressionDepth u1 = nI (d + 1)) (hd20 : d < 20) (hat : xf_expressionAt u1 d = nI e) (he : e < 50) (hk : xf_expressionKind u1 e = nI k) (hk2 : 2 ≤ k) (hk7 : k ≤ 6) (hph : xf_expressionPhase u1 d = nI 1)
    (hp : ∀ Q : SX → Prop, Q u3 → wpX_put Q (zx_c u1 (xf_codeEnd u1) (xf_here u1) (xf_stateDepth u1) (xf_expressionDepth u1) (xf_stateAt u1) (xf_statePhase u1) (xf_statePatch u1) (xf_expressionAt u1) (upd (xf_expressionPhase u1) d (nI 2)) (xf_memory u1)) 80) (hp2 : ∀ Q : SX → Prop, Q u2 → wpX_enterExpression Q u3 (xf_expressionY u3 e)) (h : xe_R post u2) : xe_R post u1 := by
  obtain ⟨n, h⟩ := h
  have e2 : xf_expressionY u3 (nI e).toNatClampNeg = xf_expressionY u3 e := by rw [nI_clamp (by omega)]
  refine ⟨n + 1, xe_pre hd hd20 hat he hk hph (by omega) (br_f (ym_q (m := 0) (by omega) (by omega) (by omega)) (br_f (ym_q (m := 1) (by omega) (by omega) (by omega)) (br_f (by decide) (br_t rfl (br_f (ym_q (m := 7) (by omega) (by omega) (by omega)) (hp _ ⟨vp_in_nI he (by omega), ?_⟩))))))⟩
  rw [e2]
  exact hp2 _ h
theorem xe_if (hd : xf_expressionDepth u1 = nI (d + 1)) (hd20 : d < 20) (hat : xf_expressionAt u1 d = nI e) (he : e < 50) (hk : xf_expressionKind u1 e = nI k) (hk2 : 2 ≤ k) (hk7 : k ≤ 7) (hph : xf_expressionPhase u1 d = nI f) (hf : (f = 1 ∧ k = 7) ∨ f = 2)
    (hp : ∀ Q : SX → Prop, Q u2 → wpX_finishExpression Q (zx_c u1 (xf_codeEnd u1) (xf_here u1) (xf_stateDepth u1) (nI d) (xf_stateAt u1) (xf_statePhase u1) (xf_statePatch u1) (xf_expressionAt u1) (upd (xf_expressionPhase u1) d (nI (f + 1))) (xf_memory u1)) (nI k)) (h : xe_R post u2) : xe_R post u1 := by
  obtain ⟨n, h⟩ := h
  have e1 : xf_expressionDepth u1 - 1 = nI d := by rw [hd]; exact nI_pred d
  refine ⟨n + 1, xe_pre hd hd20 hat he hk hph (by omega) (br_f (ym_q (m := 0) (by omega) (by omega) (by omega)) (br_f (ym_q (m := 1) (by omega) (by omega) (by omega)) (br_f (ym_q (m := 0) (by omega) (by omega) (by omega)) ?_)))⟩
  rcases hf with ⟨hf, h7⟩ | hf
  · subst hf
    subst h7
    exact br_t rfl (br_t rfl (nm_r e1 (hp _ h)))
  · subst hf
    exact br_f (by decide) (nm_r e1 (hp _ h))
end
section
variable {u : SX} {hr sd : Int32} {sa sp pt ea ep M : Nat → Int32} {c d x : Nat} {K : SX → Prop}
theorem em_enter (hd : d < 20) (hx : x < 128) (h : K (zx_c u (nI c) hr sd (nI (d + 1)) sa sp pt (upd ea d (nI x)) (upd ep d 0) M)) : wpX_enterExpression K (zx_c u (nI c) hr sd (nI d) sa sp pt ea ep M) (nI x) := by
  have e1 : upd ea (nI d).toNatClampNeg (vp_nar .byte (nI x).toInt8.toInt32) = upd ea d (nI x) := by rw [nI_clamp (by omega), pk_vb, ww_bI hx]
  have e2 : upd ep (nI d).toNatClampNeg (vp_nar .byte 0) = upd ep d 0 := by rw [nI_clamp (by omega), vp_nar_byte]; rfl
  exact ⟨vp_in_nI hd (by omega), nm_r e1 ⟨vp_in_nI hd (by omega), nm_r e2 (nm_r (nI_1 d) h)⟩⟩
end
end
section
/-! the compiler's expressions: what is written -/
theorem ce_all {u : SX} {P : pg_P} {np ne ns q : Nat} {sd : Int32} {sa sp pt : Nat → Int32} (hX : xp_P u P np ne ns) (htk : xf_tickAt u = 76) (hW : pg_W P np ne ns) (hq : q < np) :
    ∀ e, e < ne → pg_FE P np q e → ∀ (d c : Nat) (M ea ep : Nat → Int32), ea d = nI e → ep d = 0 → d + pg_ew P e ≤ 20 → c + (pg_E P q e c).length ≤ 4000 →
      ∃ ea' ep' : Nat → Int32, (∀ j, j < d → ea' j = ea j ∧ ep' j = ep j) ∧ ∀ post : SX → Prop, xe_R post (zx_c u (nI (c + (pg_E P q e c).length)) (nI q) sd (nI d) sa sp pt ea' ep' (wl_wr M c (pg_E P q e c))) → xe_R post (zx_c u (nI c) (nI q) sd (nI (d + 1)) sa sp pt ea ep M) := by
  have h50 := hW.2.1
  intro e
  induction e using Nat.strongRecOn with
  | _ e ihe =>
    intro he hF d c M ea ep hea hep hw hc
    rw [pg_FE] at hF
    have hWe := hW.2.2.2.2.1 e he
    have hw1 := hWe.2.2.2.1
    have hkk : xf_expressionKind u e = nI (pg_ek P e) := by rw [hX.2.2.2.2.2.2.1 e he]; exact hWe.1
    have hxx : xf_expressionX u e = P 4 e := hX.2.2.2.2.2.2.2.1 e he
    by_cases k0 : pg_ek P e = 0
    · have hE : pg_E P q e c = 184 :: pg_wd (P 4 e) := by rw [pg_E, if_pos k0]
      rw [hE] at hc ⊢
      rw [k0] at hkk
      have hc2 : c + 3 ≤ 4000 := hc
      refine ⟨ea, upd ep d (nI (0 + 1)), fun j hj => ⟨rfl, pk_un (by omega)⟩, fun post h => ?_⟩
      refine xe_i0 (f := 0) (u1 := (zx_c u (nI c) (nI q) sd (nI (d + 1)) sa sp pt ea ep M)) rfl (by omega) hea (by omega) hkk hep (by omega) (fun Q hQ => ?_) h
      show wpX_loadNumber Q (zx_c u (nI c) (nI q) sd (nI d) sa sp pt ea (upd ep d (nI (0 + 1))) M) 0 (xf_expressionX u e)
      rw [hxx]
      exact em_load (by omega) hQ
    · by_cases k1 : pg_ek P e = 1
      · have hE : pg_E P q e c = pg_lv P q (pg_ex P e) c := by rw [pg_E, if_neg k0, if_pos k1]
        rw [hE] at hc ⊢
        rw [k1] at hkk
        have hx4 := (hWe.2.2.2.2.2.2.1 k1).1
        refine ⟨ea, upd ep d (nI (0 + 1)), fun j hj => ⟨rfl, pk_un (by omega)⟩, fun post h => ?_⟩
        refine xe_i1 (f := 0) (u1 := (zx_c u (nI c) (nI q) sd (nI (d + 1)) sa sp pt ea ep M)) rfl (by omega) hea (by omega) hkk hep (by omega) (fun Q hQ => ?_) h
        show wpX_loadVariable Q (zx_c u (nI c) (nI q) sd (nI d) sa sp pt ea (upd ep d (nI (0 + 1))) M) (xf_expressionX u e)
        rw [hxx, hx4]
        exact em_lv hX htk hW hq (hF.1 k1) (by omega) hQ
      · have k2 : 2 ≤ pg_ek P e := by omega
        have hx := hWe.2.2.2.2.2.2.2 k2
        have hwx := (hW.2.2.2.2.1 (pg_ex P e) (by omega)).2.2.2.1
        by_cases k7 : pg_ek P e = 7
        · have hE := xe_notE k7 hx.2.1 q c
          have hl : (pg_E P q e c).length = (pg_E P q (pg_ex P e) c).length + (pg_fn 7).length := by rw [hE, List.length_append]; rfl
          have hE2 : pg_E P q e c = pg_E P q (pg_ex P e) c ++ pg_fn 7 := hE
          have hfn : (pg_fn 7).length = 10 := rfl
          have hwe := hx.2.2.1 k7
          obtain ⟨ea1, ep1, b1, m1⟩ := ihe (pg_ex P e) hx.2.1 (by omega) (hF.2.1 k2 hx.2.1) (d + 1) c M (upd ea (d + 1) (nI (pg_ex P e))) (upd (upd ep d (nI 1)) (d + 1) 0) pk_us pk_us (by omega) (by omega)
          have c1 := b1 d (by omega)
          rw [pk_un (by omega), pk_un (by omega), pk_us] at c1
          refine ⟨ea1, upd ep1 d (nI (1 + 1)), fun j hj => ?_, fun post h => ?_⟩
          · have c2 := b1 j (by omega)
            rw [pk_un (by omega), pk_un (by omega), pk_un (by omega)] at c2
            exact ⟨c2.1, by rw [pk_un (by omega)]; exact c2.2⟩
          · refine xe_ix (u1 := (zx_c u (nI c) (nI q) sd (nI (d + 1)) sa sp pt ea ep M)) (u2 := (zx_c u (nI c) (nI q) sd (nI (d + 1 + 1)) sa sp pt (upd ea (d + 1) (nI (pg_ex P e))) (upd (upd ep d (nI 1)) (d + 1) 0) M)) rfl (by omega) hea (by omega) hkk k2 hWe.2.1 hep (fun Q hQ => ?_) (m1 post ?_)
            · show wpX_enterExpression Q (zx_c u (nI c) (nI q) sd (nI (d + 1)) sa sp pt ea (upd ep d (nI 1)) M) (xf_expressionX u e)
              rw [hxx, hx.1]
              exact em_enter (by omega) (by omega) hQ
            · refine xe_if (u1 := (zx_c u (nI (c + (pg_E P q (pg_ex P e) c).length)) (nI q) sd (nI (d + 1)) sa sp pt ea1 ep1 (wl_wr M c (pg_E P q (pg_ex P e) c)))) (f := 1) rfl (by omega) (c1.1.trans hea) (by omega) hkk k2 hWe.2.1 c1.2 (Or.inl ⟨rfl, k7⟩) (fun Q hQ => ?_) h
              rw [k7]
              refine em_fin (c := c + (pg_E P q (pg_ex P e) c).length) (M := wl_wr M c (pg_E P q (pg_ex P e) c)) (ed := nI d) (ep := upd ep1 d (nI (1 + 1))) (by omega) (by omega) (by omega) ?_
              refine em_2 rfl ?_
              rw [← hE2]
              exact hQ
        · have hk6 : pg_ek P e ≤ 6 := by have := hWe.2.1; omega
          have hy := hx.2.2.2 k7
          have hwy := (hW.2.2.2.2.1 (pg_ey P e) (by omega)).2.2.2.1
          have hE := xe_binE k2 k7 hx.2.1 hy.2.1 q c
          have hyy : xf_expressionY u e = nI (pg_ey P e) := by rw [hX.2.2.2.2.2.2.2.2.1 e he k2 k7]; exact hy.1
          have hfn : (pg_fn (pg_ek P e)).length ≤ 13 := by
            rcases (show pg_ek P e = 2 ∨ pg_ek P e = 3 ∨ pg_ek P e = 4 ∨ pg_ek P e = 5 ∨ pg_ek P e = 6 by omega) with z | z | z | z | z <;> rw [z] <;> decide
          have hl : (pg_E P q e c).length = (pg_E P q (pg_ex P e) c).length + ((pg_E P q (pg_ey P e) (c + (pg_E P q (pg_ex P e) c).length + 1)).length + (pg_fn (pg_ek P e)).length + 1) := by rw [hE]; simp only [List.length_append, List.length_cons]
          obtain ⟨ea1, ep1, b1, m1⟩ := ihe (pg_ex P e) hx.2.1 (by omega) (hF.2.1 k2 hx.2.1) (d + 1) c M (upd ea (d + 1) (nI (pg_ex P e))) (upd (upd ep d (nI 1)) (d + 1) 0) pk_us pk_us (by omega) (by omega)
          have c1 := b1 d (by omega)
          rw [pk_un (by omega), pk_un (by omega), pk_us] at c1
          obtain ⟨ea2, ep2, b2, m2⟩ := ihe (pg_ey P e) hy.2.1 (by omega) (hF.2.2 k2 k7 hy.2.1) (d + 1) (c + (pg_E P q (pg_ex P e) c).length + 1) (wl_wr (wl_wr M c (pg_E P q (pg_ex P e) c)) (c + (pg_E P q (pg_ex P e) c).length) [80]) (upd ea1 (d + 1) (nI (pg_ey P e))) (upd (upd ep1 d (nI 2)) (d + 1) 0) pk_us pk_us (by omega) (by omega)
          have c2 := b2 d (by omega)
          rw [pk_un (by omega), pk_un (by omega), pk_us] at c2
          refine ⟨ea2, upd ep2 d (nI (2 + 1)), fun j hj => ?_, fun post h => ?_⟩
          · have f1 := b1 j (by omega)
            have f2 := b2 j (by omega)
            rw [pk_un (by omega), pk_un (by omega), pk_un (by omega)] at f1 f2
            exact ⟨f2.1.trans f1.1, by rw [pk_un (by omega)]; exact f2.2.trans f1.2⟩
          · refine xe_ix (u1 := (zx_c u (nI c) (nI q) sd (nI (d + 1)) sa sp pt ea ep M)) (u2 := (zx_c u (nI c) (nI q) sd (nI (d + 1 + 1)) sa sp pt (upd ea (d + 1) (nI (pg_ex P e))) (upd (upd ep d (nI 1)) (d + 1) 0) M)) rfl (by omega) hea (by omega) hkk k2 hWe.2.1 hep (fun Q hQ => ?_) (m1 post ?_)
            · show wpX_enterExpression Q (zx_c u (nI c) (nI q) sd (nI (d + 1)) sa sp pt ea (upd ep d (nI 1)) M) (xf_expressionX u e)
              rw [hxx, hx.1]
              exact em_enter (by omega) (by omega) hQ
            · refine xe_iy (u1 := (zx_c u (nI (c + (pg_E P q (pg_ex P e) c).length)) (nI q) sd (nI (d + 1)) sa sp pt ea1 ep1 (wl_wr M c (pg_E P q (pg_ex P e) c)))) (u3 := (zx_c u (nI (c + (pg_E P q (pg_ex P e) c).length + 1)) (nI q) sd (nI (d + 1)) sa sp pt ea1 (upd ep1 d (nI 2)) (wl_wr (wl_wr M c (pg_E P q (pg_ex P e) c)) (c + (pg_E P q (pg_ex P e) c).length) [80]))) (u2 := (zx_c u (nI (c + (pg_E P q (pg_ex P e) c).length + 1)) (nI q) sd (nI (d + 1 + 1)) sa sp pt (upd ea1 (d + 1) (nI (pg_ey P e))) (upd (upd ep1 d (nI 2)) (d + 1) 0) (wl_wr (wl_wr M c (pg_E P q (pg_ex P e) c)) (c + (pg_E P q (pg_ex P e) c).length) [80]))) rfl (by omega) (c1.1.trans hea) (by omega) hkk k2 hk6 c1.2 (fun Q hQ => ?_) (fun Q hQ => ?_) (m2 post ?_)
              · exact em_put (c := c + (pg_E P q (pg_ex P e) c).length) (M := wl_wr M c (pg_E P q (pg_ex P e) c)) (ep := upd ep1 d (nI 2)) (ed := nI (d + 1)) (ea := ea1) (by omega) hQ
              · show wpX_enterExpression Q _ (xf_expressionY u e)
                rw [hyy]
                exact em_enter (c := c + (pg_E P q (pg_ex P e) c).length + 1) (M := wl_wr (wl_wr M c (pg_E P q (pg_ex P e) c)) (c + (pg_E P q (pg_ex P e) c).length) [80]) (ep := upd ep1 d (nI 2)) (ea := ea1) (d := d + 1) (by omega) (by omega) hQ
              · refine xe_if (u1 := (zx_c u (nI (c + (pg_E P q (pg_ex P e) c).length + 1 + (pg_E P q (pg_ey P e) (c + (pg_E P q (pg_ex P e) c).length + 1)).length)) (nI q) sd (nI (d + 1)) sa sp pt ea2 ep2 (wl_wr (wl_wr (wl_wr M c (pg_E P q (pg_ex P e) c)) (c + (pg_E P q (pg_ex P e) c).length) [80]) (c + (pg_E P q (pg_ex P e) c).length + 1) (pg_E P q (pg_ey P e) (c + (pg_E P q (pg_ex P e) c).length + 1))))) (f := 2) rfl (by omega) (c2.1.trans (c1.1.trans hea)) (by omega) hkk k2 hWe.2.1 c2.2 (Or.inr rfl) (fun Q hQ => ?_) h
                refine em_fin (c := c + (pg_E P q (pg_ex P e) c).length + 1 + (pg_E P q (pg_ey P e) (c + (pg_E P q (pg_ex P e) c).length + 1)).length) (M := wl_wr (wl_wr (wl_wr M c (pg_E P q (pg_ex P e) c)) (c + (pg_E P q (pg_ex P e) c).length) [80]) (c + (pg_E P q (pg_ex P e) c).length + 1) (pg_E P q (pg_ey P e) (c + (pg_E P q (pg_ex P e) c).length + 1))) (ed := nI d) (ea := ea2) (ep := upd ep2 d (nI (2 + 1))) (by omega) (by omega) (by omega) ?_
                refine em_3 (M := wl_wr M c (pg_E P q (pg_ex P e) c)) (c := c + (pg_E P q (pg_ex P e) c).length) (a := [80]) rfl rfl ?_
                refine em_2 rfl ?_
                have hE3 : pg_E P q e c = pg_E P q (pg_ex P e) c ++ ([80] ++ (pg_E P q (pg_ey P e) (c + (pg_E P q (pg_ex P e) c).length + 1) ++ pg_fn (pg_ek P e))) := hE
                rw [← hE3]
                exact hQ
end
section
/-! the compiler's tests, routines, arguments -/
section
variable {u : SX} {P : pg_P} {np ne ns q : Nat} {hr sd ed : Int32} {sa sp pt ea ep M : Nat → Int32} {c e : Nat}
theorem em_E (hX : xp_P u P np ne ns) (htk : xf_tickAt u = 76) (hW : pg_W P np ne ns) (hq : q < np) (he : e < ne) (hF : pg_FE P np q e) (hc : c + (pg_E P q e c).length ≤ 4000) :
    ∃ (ed' : Int32) (ea' ep' : Nat → Int32), ∀ K : SX → Prop, K (zx_c u (nI (c + (pg_E P q e c).length)) (nI q) sd ed' sa sp pt ea' ep' (wl_wr M c (pg_E P q e c))) → wpX_compileExpression K (zx_c u (nI c) (nI q) sd ed sa sp pt ea ep M) (nI e) := by
  have h50 := hW.2.1
  have hw := (hW.2.2.2.2.1 e he).2.2.2.2.1
  obtain ⟨ea', ep', _, m⟩ := ce_all (sd := sd) (sa := sa) (sp := sp) (pt := pt) hX htk hW hq e he hF 0 c M (upd ea 0 (nI e)) (upd ep 0 0) pk_us pk_us (by omega) hc
  refine ⟨nI 0, ea', ep', fun K h => ?_⟩
  unfold wpX_compileExpression
  refine em_enter (u := u) (c := c) (d := 0) (M := M) (ea := ea) (ep := ep) (hr := nI q) (by omega) (by omega) ?_
  exact m K (xe_done rfl h)
theorem em_test (hX : xp_P u P np ne ns) (htk : xf_tickAt u = 76) (hW : pg_W P np ne ns) (hq : q < np) (he : e < ne) (hF : pg_FE P np q e) (hc : c + (pg_ts P q e c).length + 2 ≤ 4000) :
    ∃ (ed' : Int32) (ea' ep' : Nat → Int32), ∀ K2 : Int32 → SX → Prop, K2 (nI (c + (pg_ts P q e c).length)) (zx_c u (nI (c + (pg_ts P q e c ++ pg_wd 0).length)) (nI q) sd ed' sa sp pt ea' ep' (wl_wr M c (pg_ts P q e c ++ pg_wd 0))) → wpX_compileTest K2 (zx_c u (nI c) (nI q) sd ed sa sp pt ea ep M) (nI e) := by
  have hl : (pg_ts P q e c).length = 3 + (pg_E P q e (c + 3)).length + 5 := by
    unfold pg_ts; simp only [List.length_append, pg_tkl, List.length_cons, List.length_nil]; omega
  obtain ⟨ed', ea', ep', m⟩ := em_E (u := u) (sd := sd) (ed := ed) (sa := sa) (sp := sp) (pt := pt) (ea := ea) (ep := ep) (M := wl_wr M c (pg_tk c)) (c := c + 3) hX htk hW hq he hF (by omega)
  refine ⟨ed', ea', ep', fun K2 h => ?_⟩
  unfold wpX_compileTest
  show wpX_callTo _ _ (xf_tickAt u)
  rw [htk]
  refine em_tick (by omega) ?_
  refine m _ ?_
  have h3 : ∀ t : List Int32, t = [11, 192, 117, 3, 233] ++ pg_wd 0 → K2 (nI (c + 3 + (pg_E P q e (c + 3)).length + 5)) (zx_c u (nI (c + 3 + (pg_E P q e (c + 3)).length + t.length)) (nI q) sd ed' sa sp pt ea' ep' (wl_wr (wl_wr (wl_wr M c (pg_tk c)) (c + 3) (pg_E P q e (c + 3))) (c + 3 + (pg_E P q e (c + 3)).length) t)) := by
    intro t ht
    subst ht
    refine em_3 (K := K2 (nI (c + 3 + (pg_E P q e (c + 3)).length + 5))) rfl rfl ?_
    have e1 : pg_ts P q e c ++ pg_wd 0 = pg_tk c ++ (pg_E P q e (c + 3) ++ ([11, 192, 117, 3, 233] ++ pg_wd 0)) := by
      unfold pg_ts; simp only [List.append_assoc]
    rw [← e1, show c + 3 + (pg_E P q e (c + 3)).length + 5 = c + (pg_ts P q e c).length by omega]
    exact h
  generalize wl_wr (wl_wr M c (pg_tk c)) (c + 3) (pg_E P q e (c + 3)) = N at *
  have hcc : c + 3 + (pg_E P q e (c + 3)).length + 7 ≤ 4000 := by omega
  generalize c + 3 + (pg_E P q e (c + 3)).length = d at *
  refine em_put2 (c := d) (M := N) (by omega) ?_
  refine em_put2 (c := d + 2) (M := wl_wr N d [11, 192]) (by omega) ?_
  refine em_fwd (c := d + 4) (M := wl_wr N d [11, 192, 117, 3]) (by omega) ?_
  exact h3 _ rfl
theorem em_place {K : SX → Prop} (hX : xp_P u P np ne ns) (hW : pg_W P np ne ns) (hq : q < np) {v : Nat} (hs : pg_sn P np q v) (hc : c + 40 ≤ 4090)
    (h : K (zx_c u (nI (c + ((if pg_h P q (v / 5) = 0 then [141, 94, pg_of P v] else pg_ff (pg_h P q (v / 5)) ++ [131, 195, pg_of P v]) ++ [11, 201, 117, 2, 139, 7]).length)) (nI q) sd ed sa sp pt ea ep (wl_wr M c ((if pg_h P q (v / 5) = 0 then [141, 94, pg_of P v] else pg_ff (pg_h P q (v / 5)) ++ [131, 195, pg_of P v]) ++ [11, 201, 117, 2, 139, 7])))) : wpX_compilePlace K (zx_c u (nI c) (nI q) sd ed sa sp pt ea ep M) (nI v) := by
  have h5 := hW.1
  have hs1 := hs.1
  have hle := pg_h_le P q (v / 5)
  have hfl := rb_ffl (pg_h P q (v / 5))
  unfold wpX_compilePlace
  refine xh_off (u := (zx_c u (nI c) (nI q) sd ed sa sp pt ea ep M)) hX hW hs.1 ⟨by decide, ?_⟩
  rw [yn_d (by omega)]
  refine em_ff hX hW hq hs.1 hs.2.1 (by omega) ?_
  by_cases hz : pg_h P q (v / 5) = 0
  · rw [if_pos hz] at h
    rw [hz]
    refine br_t rfl ?_
    refine em_put3 (c := c) (M := M) (by omega) ?_
    unfold wX_compilePlace_40
    refine em_put2 (c := c + 3) (M := wl_wr M c [141, 94, pg_of P v]) (by omega) ?_
    refine em_put2 (c := c + 5) (M := wl_wr M c [141, 94, pg_of P v, 11, 201]) (by omega) ?_
    exact em_put2 (c := c + 7) (M := wl_wr M c [141, 94, pg_of P v, 11, 201, 117, 2]) (by omega) h
  · rw [if_neg hz] at h
    rw [if_neg hz]
    refine br_f (by decide) ?_
    have h3 : ∀ t : List Int32, t = [131, 195, pg_of P v, 11, 201, 117, 2, 139, 7] → K (zx_c u (nI (c + (pg_ff (pg_h P q (v / 5))).length + t.length)) (nI q) sd ed sa sp pt ea ep (wl_wr (wl_wr M c (pg_ff (pg_h P q (v / 5)))) (c + (pg_ff (pg_h P q (v / 5))).length) t)) := by
      intro t ht
      subst ht
      refine em_2 rfl ?_
      rw [List.append_assoc] at h
      exact h
    generalize wl_wr M c (pg_ff (pg_h P q (v / 5))) = N at *
    have hcc : c + (pg_ff (pg_h P q (v / 5))).length + 12 ≤ 4090 := by omega
    generalize c + (pg_ff (pg_h P q (v / 5))).length = d at *
    refine em_put3 (c := d) (M := N) (by omega) ?_
    unfold wX_compilePlace_40
    refine em_put2 (c := d + 3) (M := wl_wr N d [131, 195, pg_of P v]) (by omega) ?_
    refine em_put2 (c := d + 5) (M := wl_wr N d [131, 195, pg_of P v, 11, 201]) (by omega) ?_
    exact em_put2 (c := d + 7) (M := wl_wr N d [131, 195, pg_of P v, 11, 201, 117, 2]) (by omega) (h3 _ rfl)
/-- the word of a jump over what lies between -/
theorem em_dist (a n : Nat) : (nI (a + 2 + n) - nI a) - 2 = nI n := by
  rw [pk_sub (by omega), show a + 2 + n - a = n + 2 by omega]
  exact pk_sub (a := n + 2) (b := 2) (by omega)
theorem em_rtl {K2 : Int32 → SX → Prop} {b : List Int32} (hc : c + 3 + b.length + 1 ≤ 4000) (h : K2 (nI (c + 3)) (zx_c u (nI (c + (233 :: (pg_wd (nI (b ++ [195]).length) ++ (b ++ [195]))).length)) hr sd ed sa sp pt ea ep (wl_wr M c (233 :: (pg_wd (nI (b ++ [195]).length) ++ (b ++ [195])))))) :
    wX_compileRoutine_86 K2 (nI (c + 1)) (nI (c + 3)) u.1 u.2.1 u.2.2.1 u.2.2.2.1 (nI (c + 3 + b.length)) u.2.2.2.2.2.1 hr sd ed u.2.2.2.2.2.2.2.2.2.1 u.2.2.2.2.2.2.2.2.2.2.1 u.2.2.2.2.2.2.2.2.2.2.2.1 u.2.2.2.2.2.2.2.2.2.2.2.2.1 u.2.2.2.2.2.2.2.2.2.2.2.2.2.1 u.2.2.2.2.2.2.2.2.2.2.2.2.2.2.1 u.2.2.2.2.2.2.2.2.2.2.2.2.2.2.2.1 u.2.2.2.2.2.2.2.2.2.2.2.2.2.2.2.2.1 u.2.2.2.2.2.2.2.2.2.2.2.2.2.2.2.2.2.1 u.2.2.2.2.2.2.2.2.2.2.2.2.2.2.2.2.2.2.1 u.2.2.2.2.2.2.2.2.2.2.2.2.2.2.2.2.2.2.2.1 u.2.2.2.2.2.2.2.2.2.2.2.2.2.2.2.2.2.2.2.2.1 u.2.2.2.2.2.2.2.2.2.2.2.2.2.2.2.2.2.2.2.2.2.1 u.2.2.2.2.2.2.2.2.2.2.2.2.2.2.2.2.2.2.2.2.2.2.1 u.2.2.2.2.2.2.2.2.2.2.2.2.2.2.2.2.2.2.2.2.2.2.2.1 u.2.2.2.2.2.2.2.2.2.2.2.2.2.2.2.2.2.2.2.2.2.2.2.2.1 u.2.2.2.2.2.2.2.2.2.2.2.2.2.2.2.2.2.2.2.2.2.2.2.2.2.1 u.2.2.2.2.2.2.2.2.2.2.2.2.2.2.2.2.2.2.2.2.2.2.2.2.2.2.1 u.2.2.2.2.2.2.2.2.2.2.2.2.2.2.2.2.2.2.2.2.2.2.2.2.2.2.2.1 u.2.2.2.2.2.2.2.2.2.2.2.2.2.2.2.2.2.2.2.2.2.2.2.2.2.2.2.2.1 u.2.2.2.2.2.2.2.2.2.2.2.2.2.2.2.2.2.2.2.2.2.2.2.2.2.2.2.2.2.1 sa sp pt ea ep (wl_wr (wl_wr M c (233 :: pg_wd 0)) (c + 3) b) u.2.2.2.2.2.2.2.2.2.2.2.2.2.2.2.2.2.2.2.2.2.2.2.2.2.2.2.2.2.2.2.2.2.2.2.2.1 u.2.2.2.2.2.2.2.2.2.2.2.2.2.2.2.2.2.2.2.2.2.2.2.2.2.2.2.2.2.2.2.2.2.2.2.2.2.1 u.2.2.2.2.2.2.2.2.2.2.2.2.2.2.2.2.2.2.2.2.2.2.2.2.2.2.2.2.2.2.2.2.2.2.2.2.2.2 := by
  unfold wX_compileRoutine_86
  refine em_put (c := c + 3 + b.length) (M := wl_wr (wl_wr M c (233 :: pg_wd 0)) (c + 3) b) (by omega) ?_
  refine em_land (c := c + 3 + b.length + 1) (M := wl_wr (wl_wr (wl_wr M c (233 :: pg_wd 0)) (c + 3) b) (c + 3 + b.length) [195]) (a := c + 1) (by omega) ?_
  have e1 : wl_wr (wl_wr (wl_wr M c (233 :: pg_wd 0)) (c + 3) b) (c + 3 + b.length) [195] = wl_wr M c ([233] ++ ((0 : Int32) &&& 255) :: (((0 : Int32) >>> ((8 : Int32) &&& 31)) &&& 255) :: (b ++ [195])) := by
    rw [wl_wapp]
    exact wl_wapp (l1 := 233 :: pg_wd 0)
  have e2 : (nI (c + 3 + b.length + 1) - nI (c + 1)) - 2 = nI (b ++ [195]).length := by
    rw [List.length_append]
    have := em_dist (c + 1) (b.length + 1)
    rw [show c + 1 + 2 + (b.length + 1) = c + 3 + b.length + 1 by omega] at this
    exact this
  rw [e1, em_patch (a := c + 1) rfl, e2]
  have e3 : c + 3 + b.length + 1 = c + (233 :: (pg_wd (nI (b ++ [195]).length) ++ (b ++ [195]))).length := by
    simp only [List.length_cons, List.length_append, pg_wdl, List.length_nil]; omega
  rw [e3]
  exact h
theorem em_rt (hX : xp_P u P np ne ns) (htk : xf_tickAt u = 76) (hW : pg_W P np ne ns) (hq : q < np) (he : e < ne) (hF : pg_FE P np q e) (hc : c + 3 + (pg_rt P q e (c + 3)).length + 45 ≤ 4000) :
    ∃ (ed' : Int32) (ea' ep' : Nat → Int32), ∀ K2 : Int32 → SX → Prop, K2 (nI (c + 3)) (zx_c u (nI (c + (233 :: (pg_wd (nI (pg_rt P q e (c + 3)).length) ++ pg_rt P q e (c + 3))).length)) (nI q) sd ed' sa sp pt ea' ep' (wl_wr M c (233 :: (pg_wd (nI (pg_rt P q e (c + 3)).length) ++ pg_rt P q e (c + 3))))) → wpX_compileRoutine K2 (zx_c u (nI c) (nI q) sd ed sa sp pt ea ep M) (nI e) := by
  have h50 := hW.2.1
  have hWe := hW.2.2.2.2.1 e he
  have hkk : xf_expressionKind u (nI e).toNatClampNeg = nI (pg_ek P e) := by rw [nI_clamp (by omega), hX.2.2.2.2.2.2.1 e he]; exact hWe.1
  have hxx : xf_expressionX u (nI e).toNatClampNeg = P 4 e := by rw [nI_clamp (by omega)]; exact hX.2.2.2.2.2.2.2.1 e he
  have hin : vp_in (nI e) 50 := vp_in_nI (by omega) (by omega)
  by_cases k1 : pg_ek P e = 1
  · have hF2 := hF
    rw [pg_FE] at hF2
    have hs := hF2.1 k1
    have hx4 := (hWe.2.2.2.2.2.2.1 k1).1
    refine ⟨ed, ea, ep, fun K2 h => ?_⟩
    unfold wpX_compileRoutine
    refine em_fwd (by omega) ⟨hin, br_t (by show xf_expressionKind u (nI e).toNatClampNeg = 1; rw [hkk, k1]; rfl) ⟨hin, ?_⟩⟩
    show wpX_isByName _ _ (xf_expressionX u (nI e).toNatClampNeg)
    rw [hxx, hx4]
    refine xh_bn (u := (zx_c u (nI (c + 3)) (nI q) sd ed sa sp pt ea ep (wl_wr M c (233 :: pg_wd 0)))) hX hW hs.1 (fun hb => ?_) (fun hb => ?_)
    · rw [rt_name k1 hb] at h hc
      refine br_f (by decide) ⟨hin, ?_⟩
      show wpX_useName _ _ (xf_expressionX u (nI e).toNatClampNeg) (-1)
      rw [hxx, hx4]
      refine em_us (c := c + 3) (M := wl_wr M c (233 :: pg_wd 0)) hX htk hW hq hs (Or.inl ⟨by decide, rfl⟩) (by rw [List.length_append, xu_len] at hc; omega) ?_
      exact em_rtl (hr := nI q) (by rw [List.length_append] at hc; simp only [List.length_cons, List.length_nil] at hc; omega) h
    · rw [rt_val k1 hb] at h hc
      have ea1 : (if pg_h P q (pg_ex P e / 5) = 0 then [141, 94, pg_of P (pg_ex P e)] else pg_ff (pg_h P q (pg_ex P e / 5)) ++ [131, 195, pg_of P (pg_ex P e)]) ++ [11, 201, 117, 2, 139, 7, 195] = ((if pg_h P q (pg_ex P e / 5) = 0 then [141, 94, pg_of P (pg_ex P e)] else pg_ff (pg_h P q (pg_ex P e / 5)) ++ [131, 195, pg_of P (pg_ex P e)]) ++ [11, 201, 117, 2, 139, 7]) ++ [195] := by
        rw [List.append_assoc]; rfl
      rw [ea1] at h hc
      refine br_t rfl ⟨hin, ?_⟩
      show wpX_compilePlace _ _ (xf_expressionX u (nI e).toNatClampNeg)
      rw [hxx, hx4]
      refine em_place (c := c + 3) (M := wl_wr M c (233 :: pg_wd 0)) hX hW hq hs (by rw [List.length_append] at hc; omega) ?_
      exact em_rtl (hr := nI q) (by rw [List.length_append] at hc; simp only [List.length_cons, List.length_nil] at hc; omega) h
  · have hR := rt_exp (P := P) k1 q (c + 3)
    have hR2 : pg_rt P q e (c + 3) = (11 :: 201 :: 116 :: 5 :: 184 :: 3 :: 0 :: 205 :: 0 :: pg_E P q e (c + 3 + 9)) ++ [195] := hR
    have hl : (pg_rt P q e (c + 3)).length = 9 + (pg_E P q e (c + 3 + 9)).length + 1 := by
      rw [hR]; simp only [List.length_cons, List.length_append, List.length_nil]; omega
    obtain ⟨ed', ea', ep', m⟩ := em_E (u := u) (sd := sd) (ed := ed) (sa := sa) (sp := sp) (pt := pt) (ea := ea) (ep := ep) (M := wl_wr (wl_wr M c (233 :: pg_wd 0)) (c + 3) [11, 201, 116, 5, 184, 3, 0, 205, 0]) (c := c + 3 + 9) hX htk hW hq he hF (by omega)
    refine ⟨ed', ea', ep', fun K2 h => ?_⟩
    unfold wpX_compileRoutine
    refine em_fwd (by omega) ⟨hin, br_f (by
      show ¬ xf_expressionKind u (nI e).toNatClampNeg = 1
      rw [hkk]
      exact ym_q (m := 1) (by have := hWe.2.1; omega) (by omega) k1) ?_⟩
    refine em_put2 (c := c + 3) (M := wl_wr M c (233 :: pg_wd 0)) (by omega) ?_
    refine em_put2 (c := c + 5) (M := wl_wr (wl_wr M c (233 :: pg_wd 0)) (c + 3) [11, 201]) (by omega) ?_
    refine em_stop (c := c + 7) (M := wl_wr (wl_wr M c (233 :: pg_wd 0)) (c + 3) [11, 201, 116, 5]) (l := [184, 3, 0, 205, 0]) (by decide) (by omega) ?_
    refine m _ ?_
    rw [hR2] at h
    have hb : wX_compileRoutine_86 K2 (nI (c + 1)) (nI (c + 3)) u.1 u.2.1 u.2.2.1 u.2.2.2.1 (nI (c + 3 + (11 :: 201 :: 116 :: 5 :: 184 :: 3 :: 0 :: 205 :: 0 :: pg_E P q e (c + 3 + 9)).length)) u.2.2.2.2.2.1 (nI q) sd (ed') u.2.2.2.2.2.2.2.2.2.1 u.2.2.2.2.2.2.2.2.2.2.1 u.2.2.2.2.2.2.2.2.2.2.2.1 u.2.2.2.2.2.2.2.2.2.2.2.2.1 u.2.2.2.2.2.2.2.2.2.2.2.2.2.1 u.2.2.2.2.2.2.2.2.2.2.2.2.2.2.1 u.2.2.2.2.2.2.2.2.2.2.2.2.2.2.2.1 u.2.2.2.2.2.2.2.2.2.2.2.2.2.2.2.2.1 u.2.2.2.2.2.2.2.2.2.2.2.2.2.2.2.2.2.1 u.2.2.2.2.2.2.2.2.2.2.2.2.2.2.2.2.2.2.1 u.2.2.2.2.2.2.2.2.2.2.2.2.2.2.2.2.2.2.2.1 u.2.2.2.2.2.2.2.2.2.2.2.2.2.2.2.2.2.2.2.2.1 u.2.2.2.2.2.2.2.2.2.2.2.2.2.2.2.2.2.2.2.2.2.1 u.2.2.2.2.2.2.2.2.2.2.2.2.2.2.2.2.2.2.2.2.2.2.1 u.2.2.2.2.2.2.2.2.2.2.2.2.2.2.2.2.2.2.2.2.2.2.2.1 u.2.2.2.2.2.2.2.2.2.2.2.2.2.2.2.2.2.2.2.2.2.2.2.2.1 u.2.2.2.2.2.2.2.2.2.2.2.2.2.2.2.2.2.2.2.2.2.2.2.2.2.1 u.2.2.2.2.2.2.2.2.2.2.2.2.2.2.2.2.2.2.2.2.2.2.2.2.2.2.1 u.2.2.2.2.2.2.2.2.2.2.2.2.2.2.2.2.2.2.2.2.2.2.2.2.2.2.2.1 u.2.2.2.2.2.2.2.2.2.2.2.2.2.2.2.2.2.2.2.2.2.2.2.2.2.2.2.2.1 u.2.2.2.2.2.2.2.2.2.2.2.2.2.2.2.2.2.2.2.2.2.2.2.2.2.2.2.2.2.1 sa sp pt (ea') (ep') (wl_wr (wl_wr M c (233 :: pg_wd 0)) (c + 3) (11 :: 201 :: 116 :: 5 :: 184 :: 3 :: 0 :: 205 :: 0 :: pg_E P q e (c + 3 + 9))) u.2.2.2.2.2.2.2.2.2.2.2.2.2.2.2.2.2.2.2.2.2.2.2.2.2.2.2.2.2.2.2.2.2.2.2.2.1 u.2.2.2.2.2.2.2.2.2.2.2.2.2.2.2.2.2.2.2.2.2.2.2.2.2.2.2.2.2.2.2.2.2.2.2.2.2.1 u.2.2.2.2.2.2.2.2.2.2.2.2.2.2.2.2.2.2.2.2.2.2.2.2.2.2.2.2.2.2.2.2.2.2.2.2.2.2 :=
      em_rtl (hr := nI q) (by rw [hl] at hc; simp only [List.length_cons]; omega) h
    have e3 : c + 3 + (11 :: 201 :: 116 :: 5 :: 184 :: 3 :: 0 :: 205 :: 0 :: pg_E P q e (c + 3 + 9)).length = c + 3 + 9 + (pg_E P q e (c + 3 + 9)).length := by
      simp only [List.length_cons]; omega
    rw [e3] at hb
    exact hb
end
end
section
/-! the compiler's calls and plain statements -/
section
variable {u1 u2 : SX} {post : SX → Prop} {P : pg_P} {np ne ns s c k n : Nat}
theorem xca_0 (hX : xp_P u1 P np ne ns) (hW : pg_W P np ne ns) (hc : c < np) (hk : k < 2) (hm : pg_md P c k = 0) (h : xca_W post (nI s) (nI c) n (nI (k + 1)) u1) : xca_W post (nI s) (nI c) (n + 1) (nI k) u1 := by
  refine br_f (nI_ge (b := 2) hk (by omega)) ?_
  refine xh_mode (u := u1) hX hW hc hk ?_
  rw [hm]
  exact br_t rfl (nm_r (nI_1 k) h)
theorem xca_a (hX : xp_P u1 P np ne ns) (hW : pg_W P np ne ns) (hs : s < 40) (hc : c < np) (hk : k < 2) (hm : pg_md P c k ≠ 0) {z : Int32} (hz : (if k = 0 then xf_stateY u1 s else xf_stateZ u1 s) = z) (hp : ∀ Q : SX → Prop, Q u2 → wpX_compileArgument Q u1 z (nI (pg_md P c k))) (h : xca_W post (nI s) (nI c) n (nI (k + 1)) u2) : xca_W post (nI s) (nI c) (n + 1) (nI k) u1 := by
  have hmd := sr_md hW hc k
  have hin : vp_in (nI s) 40 := vp_in_nI hs (by omega)
  refine br_f (nI_ge (b := 2) hk (by omega)) ?_
  refine xh_mode (u := u1) hX hW hc hk ?_
  refine br_f (nI_ne0 (by omega) (by omega)) ?_
  rcases (show k = 0 ∨ k = 1 by omega) with y | y
  · subst y
    rw [if_pos rfl] at hz
    have e : xf_stateY u1 (nI s).toNatClampNeg = z := by rw [nI_clamp (by omega)]; exact hz
    refine br_t rfl ⟨hin, ?_⟩
    show wpX_compileArgument _ _ (xf_stateY u1 (nI s).toNatClampNeg) _
    rw [e]
    exact hp _ (nm_r (nI_1 0) h)
  · subst y
    rw [if_neg (by decide)] at hz
    have e : xf_stateZ u1 (nI s).toNatClampNeg = z := by rw [nI_clamp (by omega)]; exact hz
    refine br_f (by decide) ⟨hin, ?_⟩
    show wpX_compileArgument _ _ (xf_stateZ u1 (nI s).toNatClampNeg) _
    rw [e]
    exact hp _ (nm_r (nI_1 1) h)
end
section
variable {u : SX} {P : pg_P} {np ne ns q : Nat} {hr sd ed : Int32} {sa sp pt ea ep M : Nat → Int32} {c e : Nat}
theorem em_ag (hX : xp_P u P np ne ns) (htk : xf_tickAt u = 76) (hW : pg_W P np ne ns) (hq : q < np) (he : e < ne) (hF : pg_FE P np q e) {m : Nat} (hm : m = 1 ∨ m = 2) (hc : c + (pg_ag P q e m c).length + 45 ≤ 4000) :
    ∃ (ed' : Int32) (ea' ep' : Nat → Int32), ∀ K : SX → Prop, K (zx_c u (nI (c + (pg_ag P q e m c).length)) (nI q) sd ed' sa sp pt ea' ep' (wl_wr M c (pg_ag P q e m c))) → wpX_compileArgument K (zx_c u (nI c) (nI q) sd ed sa sp pt ea ep M) (nI e) (nI m) := by
  rcases hm with hm | hm
  · subst hm
    have hE : pg_ag P q e 1 c = pg_E P q e c ++ [80] := by rw [pg_ag, if_neg (by omega)]
    rw [hE] at hc ⊢
    rw [List.length_append] at hc
    simp only [List.length_cons, List.length_nil] at hc
    obtain ⟨ed', ea', ep', m⟩ := em_E (u := u) (sd := sd) (ed := ed) (sa := sa) (sp := sp) (pt := pt) (ea := ea) (ep := ep) (M := M) (c := c) hX htk hW hq he hF (by omega)
    refine ⟨ed', ea', ep', fun K h => br_f (by decide) ?_⟩
    refine m _ ?_
    unfold wX_compileArgument_31
    exact em_put (c := c + (pg_E P q e c).length) (M := wl_wr M c (pg_E P q e c)) (by omega) (em_2 (t := [80]) rfl h)
  · subst hm
    have hE : pg_ag P q e 2 c = (233 :: (pg_wd (nI (pg_rt P q e (c + 3)).length) ++ pg_rt P q e (c + 3))) ++ (85 :: 184 :: (pg_wd (nI (c + 3)) ++ [80])) := by
      rw [pg_ag, if_pos rfl]; simp only [List.cons_append, List.append_assoc]
    have hl : (233 :: (pg_wd (nI (pg_rt P q e (c + 3)).length) ++ pg_rt P q e (c + 3))).length = (pg_rt P q e (c + 3)).length + 3 := by
      simp only [List.length_cons, List.length_append, pg_wdl]; omega
    rw [hE] at hc ⊢
    rw [List.length_append, hl] at hc
    have ht : (85 :: 184 :: (pg_wd (nI (c + 3)) ++ [80])).length = 5 := rfl
    rw [ht] at hc
    obtain ⟨ed', ea', ep', m⟩ := em_rt (u := u) (sd := sd) (ed := ed) (sa := sa) (sp := sp) (pt := pt) (ea := ea) (ep := ep) (M := M) (c := c) hX htk hW hq he hF (by omega)
    refine ⟨ed', ea', ep', fun K h => br_t rfl ?_⟩
    refine m _ ?_
    have h3 : ∀ t : List Int32, t = 85 :: 184 :: (pg_wd (nI (c + 3)) ++ [80]) → K (zx_c u (nI (c + (233 :: (pg_wd (nI (pg_rt P q e (c + 3)).length) ++ pg_rt P q e (c + 3))).length + t.length)) (nI q) sd ed' sa sp pt ea' ep' (wl_wr (wl_wr M c (233 :: (pg_wd (nI (pg_rt P q e (c + 3)).length) ++ pg_rt P q e (c + 3)))) (c + (233 :: (pg_wd (nI (pg_rt P q e (c + 3)).length) ++ pg_rt P q e (c + 3))).length) t)) := by
      intro t ht
      subst ht
      exact em_2 rfl h
    generalize wl_wr M c (233 :: (pg_wd (nI (pg_rt P q e (c + 3)).length) ++ pg_rt P q e (c + 3))) = N at *
    have hcc : c + (233 :: (pg_wd (nI (pg_rt P q e (c + 3)).length) ++ pg_rt P q e (c + 3))).length + 6 ≤ 4000 := by omega
    generalize c + (233 :: (pg_wd (nI (pg_rt P q e (c + 3)).length) ++ pg_rt P q e (c + 3))).length = d at *
    refine em_put (c := d) (M := N) (by omega) ?_
    refine em_load (c := d + 1) (M := wl_wr N d [85]) (by omega) ?_
    unfold wX_compileArgument_31
    refine em_put (c := d + 4) (M := wl_wr N d (85 :: (184 + 0) :: pg_wd (nI (c + 3)))) (by omega) ?_
    refine em_2 (c := d) (M := N) (a := 85 :: (184 + 0) :: pg_wd (nI (c + 3))) (t := [80]) rfl ?_
    refine h3 _ ?_
    rw [show (184 : Int32) + 0 = 184 by decide]
    rfl
/-- the k-th argument in the call's loop -/
theorem em_am (hX : xp_P u P np ne ns) (htk : xf_tickAt u = 76) (hW : pg_W P np ne ns) (hq : q < np) {s x k : Nat} (hs : s < 40) (hx : x < np) (hk : k < 2) (hz : pg_md P x k ≠ 0 → (if k = 0 then xf_stateY u s else xf_stateZ u s) = nI e) (he : pg_md P x k ≠ 0 → e < ne) (hF : pg_md P x k ≠ 0 → pg_FE P np q e) (hc : c + (pg_am P q e (pg_md P x k) c).length + 45 ≤ 4000) :
    ∃ (ed' : Int32) (ea' ep' : Nat → Int32), ∀ (post : SX → Prop) (n : Nat), xca_W post (nI s) (nI x) n (nI (k + 1)) (zx_c u (nI (c + (pg_am P q e (pg_md P x k) c).length)) (nI q) sd ed' sa sp pt ea' ep' (wl_wr M c (pg_am P q e (pg_md P x k) c))) → xca_W post (nI s) (nI x) (n + 1) (nI k) (zx_c u (nI c) (nI q) sd ed sa sp pt ea ep M) := by
  have hmd := sr_md hW hx k
  by_cases hm : pg_md P x k = 0
  · have hE : pg_am P q e (pg_md P x k) c = [] := by rw [hm]; rfl
    rw [hE]
    exact ⟨ed, ea, ep, fun post n h => xca_0 (u1 := (zx_c u (nI c) (nI q) sd ed sa sp pt ea ep M)) hX hW hx hk hm h⟩
  · have hE : pg_am P q e (pg_md P x k) c = pg_ag P q e (pg_md P x k) c := by rw [pg_am, if_neg hm]
    rw [hE] at hc ⊢
    obtain ⟨ed', ea', ep', m⟩ := em_ag (u := u) (sd := sd) (ed := ed) (sa := sa) (sp := sp) (pt := pt) (ea := ea) (ep := ep) (M := M) (c := c) hX htk hW hq (he hm) (hF hm) (m := pg_md P x k) (by omega) hc
    exact ⟨ed', ea', ep', fun post n h => xca_a (u1 := (zx_c u (nI c) (nI q) sd ed sa sp pt ea ep M)) hX hW hs hx hk hm (hz hm) m h⟩
theorem em_cl (hX : xp_P u P np ne ns) (htk : xf_tickAt u = 76) (hW : pg_W P np ne ns) (hq : q < np) {s : Nat} (hs : s < ns) (hk : pg_sk P s = 5) (hF : pg_FS P np q s) (hc : c + (pg_cl P q s c).length + 60 ≤ 4000) :
    ∃ (ed' : Int32) (ea' ep' : Nat → Int32), ∀ K : SX → Prop, K (zx_c u (nI (c + (pg_cl P q s c).length)) (nI q) sd ed' sa sp pt ea' ep' (wl_wr M c (pg_cl P q s c))) → wpX_compileCall K (zx_c u (nI c) (nI q) sd ed sa sp pt ea ep M) (nI s) := by
  have h40 := hW.2.2.1
  have h5 := hW.1
  have hs5 := (hW.2.2.2.2.2 s hs).2.2.2.2.2.2.2.2.2.2 hk
  rw [pg_FS] at hF
  have hF5 := hF.2.2.2.2.2 hk
  have hpa := (hW.2.2.2.1 _ hs5.2.1).2.1 hF5.1
  have hpn : pg_pa P (pg_sx P s) < np := by have := hs5.2.1; omega
  have hle := pg_h_le P q (pg_pa P (pg_sx P s))
  have hfl := rb_ffl (pg_h P q (pg_pa P (pg_sx P s)))
  have hsx : xf_stateX u (nI s).toNatClampNeg = nI (pg_sx P s) := by
    rw [nI_clamp (by omega), hX.2.2.2.2.2.2.2.2.2.2.1 s hs (by omega)]; exact hs5.1
  have hl : (pg_cl P q s c).length = (pg_am P q (pg_sy P s) (pg_md P (pg_sx P s) 0) c).length + ((pg_am P q (pg_sz P s) (pg_md P (pg_sx P s) 1) (c + (pg_am P q (pg_sy P s) (pg_md P (pg_sx P s) 0) c).length)).length + ((pg_ff (pg_h P q (pg_pa P (pg_sx P s)))).length + 7)) := by
    unfold pg_cl; simp only [List.length_append, List.length_cons, List.length_nil, pg_wdl]
  obtain ⟨ed1, ea1, ep1, m1⟩ := em_am (u := u) (sd := sd) (ed := ed) (sa := sa) (sp := sp) (pt := pt) (ea := ea) (ep := ep) (M := M) (c := c) (e := pg_sy P s) (s := s) (x := pg_sx P s) (k := 0) hX htk hW hq (by omega) hs5.2.1 (by omega)
    (fun h => by rw [if_pos rfl, hX.2.2.2.2.2.2.2.2.2.2.2.1 s hs (Or.inr ⟨hk, h⟩)]; exact (hs5.2.2.1 h).1) (fun h => (hs5.2.2.1 h).2) (fun h => hF5.2.2.1 h) (by omega)
  obtain ⟨ed2, ea2, ep2, m2⟩ := em_am (u := u) (sd := sd) (ed := ed1) (sa := sa) (sp := sp) (pt := pt) (ea := ea1) (ep := ep1) (M := wl_wr M c (pg_am P q (pg_sy P s) (pg_md P (pg_sx P s) 0) c)) (c := c + (pg_am P q (pg_sy P s) (pg_md P (pg_sx P s) 0) c).length) (e := pg_sz P s) (s := s) (x := pg_sx P s) (k := 1) hX htk hW hq (by omega) hs5.2.1 (by omega)
    (fun h => by rw [if_neg (by decide), hX.2.2.2.2.2.2.2.2.2.2.2.2 s hs (Or.inr ⟨hk, h⟩)]; exact (hs5.2.2.2.1 h).1) (fun h => (hs5.2.2.2.1 h).2) (fun h => hF5.2.2.2 h) (by omega)
  refine ⟨ed2, ea2, ep2, fun K h => ⟨vp_in_nI (by omega) (by omega), nm_r hsx ⟨0 + 1 + 1 + 1, m1 K _ (m2 K _ ?_)⟩⟩⟩
  have h3 : ∀ t : List Int32, t = (if pg_h P q (pg_pa P (pg_sx P s)) = 0 then 85 else 83) :: 139 :: 54 :: (pg_wd (nI (32 + 2 * pg_sx P s)) ++ [255, 214]) → K (zx_c u (nI (c + (pg_am P q (pg_sy P s) (pg_md P (pg_sx P s) 0) c).length + (pg_am P q (pg_sz P s) (pg_md P (pg_sx P s) 1) (c + (pg_am P q (pg_sy P s) (pg_md P (pg_sx P s) 0) c).length)).length + (pg_ff (pg_h P q (pg_pa P (pg_sx P s)))).length + t.length)) (nI q) sd ed2 sa sp pt ea2 ep2 (wl_wr (wl_wr (wl_wr (wl_wr M c (pg_am P q (pg_sy P s) (pg_md P (pg_sx P s) 0) c)) (c + (pg_am P q (pg_sy P s) (pg_md P (pg_sx P s) 0) c).length) (pg_am P q (pg_sz P s) (pg_md P (pg_sx P s) 1) (c + (pg_am P q (pg_sy P s) (pg_md P (pg_sx P s) 0) c).length))) (c + (pg_am P q (pg_sy P s) (pg_md P (pg_sx P s) 0) c).length + (pg_am P q (pg_sz P s) (pg_md P (pg_sx P s) 1) (c + (pg_am P q (pg_sy P s) (pg_md P (pg_sx P s) 0) c).length)).length) (pg_ff (pg_h P q (pg_pa P (pg_sx P s))))) (c + (pg_am P q (pg_sy P s) (pg_md P (pg_sx P s) 0) c).length + (pg_am P q (pg_sz P s) (pg_md P (pg_sx P s) 1) (c + (pg_am P q (pg_sy P s) (pg_md P (pg_sx P s) 0) c).length)).length + (pg_ff (pg_h P q (pg_pa P (pg_sx P s)))).length) t)) := by
    intro t ht
    subst ht
    refine em_3 (c := c + (pg_am P q (pg_sy P s) (pg_md P (pg_sx P s) 0) c).length) (M := wl_wr M c (pg_am P q (pg_sy P s) (pg_md P (pg_sx P s) 0) c)) rfl rfl ?_
    refine em_2 rfl ?_
    exact h
  generalize wl_wr (wl_wr M c (pg_am P q (pg_sy P s) (pg_md P (pg_sx P s) 0) c)) (c + (pg_am P q (pg_sy P s) (pg_md P (pg_sx P s) 0) c).length) (pg_am P q (pg_sz P s) (pg_md P (pg_sx P s) 1) (c + (pg_am P q (pg_sy P s) (pg_md P (pg_sx P s) 0) c).length)) = N at *
  have hcc : c + (pg_am P q (pg_sy P s) (pg_md P (pg_sx P s) 0) c).length + (pg_am P q (pg_sz P s) (pg_md P (pg_sx P s) 1) (c + (pg_am P q (pg_sy P s) (pg_md P (pg_sx P s) 0) c).length)).length + (pg_ff (pg_h P q (pg_pa P (pg_sx P s)))).length + 50 ≤ 4000 := by omega
  generalize c + (pg_am P q (pg_sy P s) (pg_md P (pg_sx P s) 0) c).length + (pg_am P q (pg_sz P s) (pg_md P (pg_sx P s) 1) (c + (pg_am P q (pg_sy P s) (pg_md P (pg_sx P s) 0) c).length)).length = d at *
  refine br_t (by decide) ⟨vp_in_nI (by have := hs5.2.1; omega) (by omega), ?_⟩
  have hpar : xf_parentOf u (nI (pg_sx P s)).toNatClampNeg = nI (pg_pa P (pg_sx P s)) := by
    rw [nI_clamp (by have := hs5.2.1; omega), hX.2.2.2.1 _ hs5.2.1]; exact hpa.1
  show wpX_findFrame _ _ (xf_parentOf u (nI (pg_sx P s)).toNatClampNeg)
  rw [hpar]
  refine em_ff (u := u) (c := d) (M := N) hX hW hq hpn hF5.2.1 (by omega) ?_
  have e89 : (32 : Int32) + 2 * nI (pg_sx P s) = nI (32 + 2 * pg_sx P s) := by
    rw [show (2 : Int32) * nI (pg_sx P s) = nI (2 * pg_sx P s) from pk_mul 2 _]; exact nI_add 32 _
  generalize wl_wr N d (pg_ff (pg_h P q (pg_pa P (pg_sx P s)))) = N2 at *
  generalize d + (pg_ff (pg_h P q (pg_pa P (pg_sx P s)))).length = d2 at *
  by_cases hz : pg_h P q (pg_pa P (pg_sx P s)) = 0
  · rw [if_pos hz]
    rw [if_pos hz] at h3
    refine br_t rfl ?_
    refine em_put (c := d2) (M := N2) (by omega) ?_
    unfold wX_compileCall_89
    rw [e89]
    refine em_put2 (c := d2 + 1) (M := wl_wr N2 d2 [85]) (by omega) ?_
    refine em_word (c := d2 + 3) (M := wl_wr N2 d2 [85, 139, 54]) (by omega) ?_
    exact em_put2 (c := d2 + 5) (M := wl_wr N2 d2 (85 :: 139 :: 54 :: pg_wd (nI (32 + 2 * pg_sx P s)))) (by omega) (h3 _ rfl)
  · rw [if_neg hz]
    rw [if_neg hz] at h3
    refine br_f (by decide) ?_
    refine em_put (c := d2) (M := N2) (by omega) ?_
    unfold wX_compileCall_89
    rw [e89]
    refine em_put2 (c := d2 + 1) (M := wl_wr N2 d2 [83]) (by omega) ?_
    refine em_word (c := d2 + 3) (M := wl_wr N2 d2 [83, 139, 54]) (by omega) ?_
    exact em_put2 (c := d2 + 5) (M := wl_wr N2 d2 (83 :: 139 :: 54 :: pg_wd (nI (32 + 2 * pg_sx P s)))) (by omega) (h3 _ rfl)
end
end
section
/-! the compiler's plain statements -/
section
variable {u : SX} {P : pg_P} {np ne ns q : Nat} {hr sd ed : Int32} {sa sp pt ea ep M : Nat → Int32} {c e s : Nat}
theorem em_st {K : SX → Prop} (hX : xp_P u P np ne ns) (htk : xf_tickAt u = 76) (hW : pg_W P np ne ns) (hq : q < np) {v : Nat} (hs : pg_sn P np q v) (hc : c + 60 ≤ 4090)
    (h : K (zx_c u (nI (c + (pg_st P q v c).length)) (nI q) sd ed sa sp pt ea ep (wl_wr M c (pg_st P q v c)))) :
    wpX_isByName (fun r => (r = 0 → (¬ (5 : Int32) = 0 ∧ wpX_findFrame (fun r2 u2 => wpX_offsetOf (fun o => wpX_touch K u2 137 0 r2 o) u2 (nI v)) (zx_c u (nI c) (nI q) sd ed sa sp pt ea ep M) (nI v / 5))) ∧ (¬ r = 0 → wpX_put (fun u2 => wpX_useName (fun u3 => wpX_put (fun u4 => wpX_put2 K u4 137 7) u3 88) u2 (nI v) 1) (zx_c u (nI c) (nI q) sd ed sa sp pt ea ep M) 80)) (zx_c u (nI c) (nI q) sd ed sa sp pt ea ep M) (nI v) := by
  have h5 := hW.1
  have hs1 := hs.1
  have hle := pg_h_le P q (v / 5)
  have hfl := rb_ffl (pg_h P q (v / 5))
  unfold pg_st at h
  refine xh_bn (u := (zx_c u (nI c) (nI q) sd ed sa sp pt ea ep M)) hX hW hs.1 (fun hb => ?_) (fun hb => ?_)
  · rw [if_pos hb] at h
    refine br_f (by decide) ?_
    refine em_put (by omega) ?_
    have hul : (pg_us P q v [185, 1, 0] (c + 1)).length ≤ 28 := by rw [xu_len]; simp only [List.length_cons, List.length_nil]; omega
    refine em_us (c := c + 1) (M := wl_wr M c [80]) (wn := [185, 1, 0]) hX htk hW hq hs (Or.inr ⟨by decide, by decide⟩) (by omega) ?_
    have h3 : ∀ t : List Int32, t = [88, 137, 7] → K (zx_c u (nI (c + 1 + (pg_us P q v [185, 1, 0] (c + 1)).length + t.length)) (nI q) sd ed sa sp pt ea ep (wl_wr (wl_wr (wl_wr M c [80]) (c + 1) (pg_us P q v [185, 1, 0] (c + 1))) (c + 1 + (pg_us P q v [185, 1, 0] (c + 1)).length) t)) := by
      intro t ht
      subst ht
      exact em_3 (a := [80]) rfl rfl h
    generalize wl_wr (wl_wr M c [80]) (c + 1) (pg_us P q v [185, 1, 0] (c + 1)) = N at *
    have hcc : c + 1 + (pg_us P q v [185, 1, 0] (c + 1)).length + 5 ≤ 4090 := by omega
    generalize c + 1 + (pg_us P q v [185, 1, 0] (c + 1)).length = d at *
    refine em_put (c := d) (M := N) (by omega) ?_
    exact em_put2 (c := d + 1) (M := wl_wr N d [88]) (by omega) (h3 _ rfl)
  · rw [if_neg hb] at h
    refine br_t rfl ⟨by decide, ?_⟩
    rw [yn_d (by omega)]
    refine em_ff hX hW hq hs.1 hs.2.1 (by omega) ?_
    refine xh_off (u := (zx_c u (nI (c + (pg_ff (pg_h P q (v / 5))).length)) (nI q) sd ed sa sp pt ea ep (wl_wr M c (pg_ff (pg_h P q (v / 5)))))) hX hW hs.1 ?_
    refine em_touch (c := c + (pg_ff (pg_h P q (v / 5))).length) (M := wl_wr M c (pg_ff (pg_h P q (v / 5)))) (em_m0 _) (by omega) ?_
    exact em_2 (t := [137, (if pg_h P q (v / 5) = 0 then 70 else 71), pg_of P v]) rfl h
theorem em_plain (hX : xp_P u P np ne ns) (htk : xf_tickAt u = 76) (hW : pg_W P np ne ns) (hq : q < np) (hs : s < ns) (hk : pg_sk P s = 6 ∨ pg_sk P s = 0 ∨ pg_sk P s = 4 ∨ pg_sk P s = 5) (hF : pg_FS P np q s) (hc : c + (pg_S P q s c).length + 70 ≤ 4000) :
    ∃ (ed' : Int32) (ea' ep' : Nat → Int32), ∀ K : SX → Prop, K (zx_c u (nI (c + (pg_S P q s c).length)) (nI q) sd ed' sa sp pt ea' ep' (wl_wr M c (pg_S P q s c))) → wpX_compilePlain K (zx_c u (nI c) (nI q) sd ed sa sp pt ea ep M) (nI s) (nI (pg_sk P s)) := by
  have h40 := hW.2.2.1
  have hWs := hW.2.2.2.2.2 s hs
  have hin : vp_in (nI s) 40 := vp_in_nI (by omega) (by omega)
  by_cases k6 : pg_sk P s = 6
  · have hE : pg_S P q s c = [] := by rw [pg_S, if_pos k6]
    rw [hE, k6]
    exact ⟨ed, ea, ep, fun K h => br_t rfl h⟩
  · by_cases k5 : pg_sk P s = 5
    · have hE : pg_S P q s c = pg_tk c ++ pg_cl P q s (c + 3) := by rw [pg_S, if_neg k6, if_neg (by omega), if_neg (by omega), if_pos k5]
      have hl : (pg_S P q s c).length = 3 + (pg_cl P q s (c + 3)).length := by rw [hE, List.length_append, pg_tkl]
      obtain ⟨ed', ea', ep', m⟩ := em_cl (u := u) (sd := sd) (ed := ed) (sa := sa) (sp := sp) (pt := pt) (ea := ea) (ep := ep) (M := wl_wr M c (pg_tk c)) (c := c + 3) hX htk hW hq hs k5 hF (by omega)
      refine ⟨ed', ea', ep', fun K h => ?_⟩
      rw [k5]
      refine br_f (by decide) ?_
      show wpX_callTo _ _ (xf_tickAt u)
      rw [htk]
      refine em_tick (by omega) (br_t rfl ?_)
      refine m _ ?_
      rw [hE] at h
      exact em_2 rfl h
    · rw [pg_FS] at hF
      by_cases k0 : pg_sk P s = 0
      · have h0 := hWs.2.2.2.2.2.1 k0
        have hE := xs_setE (P := P) k0 q c
        have hF0 := hF.1 k0
        have hsy : xf_stateY u (nI s).toNatClampNeg = nI (pg_sy P s) := by rw [nI_clamp (by omega), hX.2.2.2.2.2.2.2.2.2.2.2.1 s hs (by omega)]; exact h0.2.2.1
        have hsx : xf_stateX u (nI s).toNatClampNeg = nI (pg_sx P s) := by rw [nI_clamp (by omega), hX.2.2.2.2.2.2.2.2.2.2.1 s hs (by omega)]; exact h0.1
        have hl : (pg_S P q s c).length = 3 + ((pg_E P q (pg_sy P s) (c + 3)).length + (pg_st P q (pg_sx P s) (c + 3 + (pg_E P q (pg_sy P s) (c + 3)).length)).length) := by rw [hE, List.length_append, List.length_append, pg_tkl]
        obtain ⟨ed', ea', ep', m⟩ := em_E (u := u) (sd := sd) (ed := ed) (sa := sa) (sp := sp) (pt := pt) (ea := ea) (ep := ep) (M := wl_wr M c (pg_tk c)) (c := c + 3) hX htk hW hq h0.2.2.2.1 hF0.2 (by omega)
        refine ⟨ed', ea', ep', fun K h => ?_⟩
        rw [k0]
        refine br_f (by decide) ?_
        show wpX_callTo _ _ (xf_tickAt u)
        rw [htk]
        refine em_tick (by omega) (br_f (by decide) (br_t rfl ⟨hin, ?_⟩))
        show wX_compilePlain_46 K _ _ (xf_stateY u (nI s).toNatClampNeg) u.1 u.2.1 u.2.2.1 u.2.2.2.1 (nI (c + 3)) u.2.2.2.2.2.1 (nI q) sd ed u.2.2.2.2.2.2.2.2.2.1 u.2.2.2.2.2.2.2.2.2.2.1 u.2.2.2.2.2.2.2.2.2.2.2.1 u.2.2.2.2.2.2.2.2.2.2.2.2.1 u.2.2.2.2.2.2.2.2.2.2.2.2.2.1 u.2.2.2.2.2.2.2.2.2.2.2.2.2.2.1 u.2.2.2.2.2.2.2.2.2.2.2.2.2.2.2.1 u.2.2.2.2.2.2.2.2.2.2.2.2.2.2.2.2.1 u.2.2.2.2.2.2.2.2.2.2.2.2.2.2.2.2.2.1 u.2.2.2.2.2.2.2.2.2.2.2.2.2.2.2.2.2.2.1 u.2.2.2.2.2.2.2.2.2.2.2.2.2.2.2.2.2.2.2.1 u.2.2.2.2.2.2.2.2.2.2.2.2.2.2.2.2.2.2.2.2.1 u.2.2.2.2.2.2.2.2.2.2.2.2.2.2.2.2.2.2.2.2.2.1 u.2.2.2.2.2.2.2.2.2.2.2.2.2.2.2.2.2.2.2.2.2.2.1 u.2.2.2.2.2.2.2.2.2.2.2.2.2.2.2.2.2.2.2.2.2.2.2.1 u.2.2.2.2.2.2.2.2.2.2.2.2.2.2.2.2.2.2.2.2.2.2.2.2.1 u.2.2.2.2.2.2.2.2.2.2.2.2.2.2.2.2.2.2.2.2.2.2.2.2.2.1 u.2.2.2.2.2.2.2.2.2.2.2.2.2.2.2.2.2.2.2.2.2.2.2.2.2.2.1 u.2.2.2.2.2.2.2.2.2.2.2.2.2.2.2.2.2.2.2.2.2.2.2.2.2.2.2.1 u.2.2.2.2.2.2.2.2.2.2.2.2.2.2.2.2.2.2.2.2.2.2.2.2.2.2.2.2.1 u.2.2.2.2.2.2.2.2.2.2.2.2.2.2.2.2.2.2.2.2.2.2.2.2.2.2.2.2.2.1 sa sp pt ea ep (wl_wr M c (pg_tk c)) u.2.2.2.2.2.2.2.2.2.2.2.2.2.2.2.2.2.2.2.2.2.2.2.2.2.2.2.2.2.2.2.2.2.2.2.2.1 u.2.2.2.2.2.2.2.2.2.2.2.2.2.2.2.2.2.2.2.2.2.2.2.2.2.2.2.2.2.2.2.2.2.2.2.2.2.1 u.2.2.2.2.2.2.2.2.2.2.2.2.2.2.2.2.2.2.2.2.2.2.2.2.2.2.2.2.2.2.2.2.2.2.2.2.2.2
        rw [hsy]
        unfold wX_compilePlain_46
        refine m _ (br_f (by decide) ⟨hin, nm_r hsx ?_⟩)
        refine em_st (c := c + 3 + (pg_E P q (pg_sy P s) (c + 3)).length) (M := wl_wr (wl_wr M c (pg_tk c)) (c + 3) (pg_E P q (pg_sy P s) (c + 3))) (ed := ed') (ea := ea') (ep := ep') hX htk hW hq hF0.1 (by omega) ?_
        refine em_3 rfl rfl ?_
        rw [hE] at h
        exact h
      · have k4 : pg_sk P s = 4 := by omega
        have h4 := hWs.2.2.2.2.2.2.2.2.2.1 k4
        have hE := xs_printE (P := P) k4 q c
        have hF4 := hF.2.2.1 (by omega)
        have hsx : xf_stateX u (nI s).toNatClampNeg = nI (pg_sx P s) := by rw [nI_clamp (by omega), hX.2.2.2.2.2.2.2.2.2.2.1 s hs (by omega)]; exact h4.1
        have hl : (pg_S P q s c).length = 3 + ((pg_E P q (pg_sx P s) (c + 3)).length + 2) := by rw [hE, List.length_append, List.length_append, pg_tkl]; rfl
        obtain ⟨ed', ea', ep', m⟩ := em_E (u := u) (sd := sd) (ed := ed) (sa := sa) (sp := sp) (pt := pt) (ea := ea) (ep := ep) (M := wl_wr M c (pg_tk c)) (c := c + 3) hX htk hW hq h4.2.1 hF4 (by omega)
        refine ⟨ed', ea', ep', fun K h => ?_⟩
        rw [k4]
        refine br_f (by decide) ?_
        show wpX_callTo _ _ (xf_tickAt u)
        rw [htk]
        refine em_tick (by omega) (br_f (by decide) (br_f (by decide) ⟨hin, ?_⟩))
        show wX_compilePlain_46 K _ _ (xf_stateX u (nI s).toNatClampNeg) u.1 u.2.1 u.2.2.1 u.2.2.2.1 (nI (c + 3)) u.2.2.2.2.2.1 (nI q) sd ed u.2.2.2.2.2.2.2.2.2.1 u.2.2.2.2.2.2.2.2.2.2.1 u.2.2.2.2.2.2.2.2.2.2.2.1 u.2.2.2.2.2.2.2.2.2.2.2.2.1 u.2.2.2.2.2.2.2.2.2.2.2.2.2.1 u.2.2.2.2.2.2.2.2.2.2.2.2.2.2.1 u.2.2.2.2.2.2.2.2.2.2.2.2.2.2.2.1 u.2.2.2.2.2.2.2.2.2.2.2.2.2.2.2.2.1 u.2.2.2.2.2.2.2.2.2.2.2.2.2.2.2.2.2.1 u.2.2.2.2.2.2.2.2.2.2.2.2.2.2.2.2.2.2.1 u.2.2.2.2.2.2.2.2.2.2.2.2.2.2.2.2.2.2.2.1 u.2.2.2.2.2.2.2.2.2.2.2.2.2.2.2.2.2.2.2.2.1 u.2.2.2.2.2.2.2.2.2.2.2.2.2.2.2.2.2.2.2.2.2.1 u.2.2.2.2.2.2.2.2.2.2.2.2.2.2.2.2.2.2.2.2.2.2.1 u.2.2.2.2.2.2.2.2.2.2.2.2.2.2.2.2.2.2.2.2.2.2.2.1 u.2.2.2.2.2.2.2.2.2.2.2.2.2.2.2.2.2.2.2.2.2.2.2.2.1 u.2.2.2.2.2.2.2.2.2.2.2.2.2.2.2.2.2.2.2.2.2.2.2.2.2.1 u.2.2.2.2.2.2.2.2.2.2.2.2.2.2.2.2.2.2.2.2.2.2.2.2.2.2.1 u.2.2.2.2.2.2.2.2.2.2.2.2.2.2.2.2.2.2.2.2.2.2.2.2.2.2.2.1 u.2.2.2.2.2.2.2.2.2.2.2.2.2.2.2.2.2.2.2.2.2.2.2.2.2.2.2.2.1 u.2.2.2.2.2.2.2.2.2.2.2.2.2.2.2.2.2.2.2.2.2.2.2.2.2.2.2.2.2.1 sa sp pt ea ep (wl_wr M c (pg_tk c)) u.2.2.2.2.2.2.2.2.2.2.2.2.2.2.2.2.2.2.2.2.2.2.2.2.2.2.2.2.2.2.2.2.2.2.2.2.1 u.2.2.2.2.2.2.2.2.2.2.2.2.2.2.2.2.2.2.2.2.2.2.2.2.2.2.2.2.2.2.2.2.2.2.2.2.2.1 u.2.2.2.2.2.2.2.2.2.2.2.2.2.2.2.2.2.2.2.2.2.2.2.2.2.2.2.2.2.2.2.2.2.2.2.2.2.2
        rw [hsx]
        unfold wX_compilePlain_46
        refine m _ (br_t rfl ?_)
        refine em_put2 (c := c + 3 + (pg_E P q (pg_sx P s) (c + 3)).length) (M := wl_wr (wl_wr M c (pg_tk c)) (c + 3) (pg_E P q (pg_sx P s) (c + 3))) (by omega) ?_
        refine em_3 (t := [205, 1]) rfl rfl ?_
        rw [hE] at h
        exact h
end
end
section
/-! the compiler's statements -/
def xs_R (post : SX → Prop) (u : SX) : Prop := ∃ n, xs_W post n u
section
variable {u1 u2 u3 : SX} {post : SX → Prop} {d s k f : Nat}
theorem xs_done (hd : xf_stateDepth u1 = 0) (h : post u1) : xs_R post u1 := by
  have h0 : xf_stateDepth u1 ≤ 0 := by rw [hd]; decide
  exact ⟨0 + 1, br_t h0 h⟩
/-- what an iteration looks at -/
theorem xs_pre {n : Nat} (hd : xf_stateDepth u1 = nI (d + 1)) (hd20 : d < 20) (hat : xf_stateAt u1 d = nI s) (hs : s < 40) (hk : xf_stateKind u1 s = nI k) (hph : xf_statePhase u1 d = nI f) (hf : f ≤ 5)
    (h : ((nI k = 1 → ((nI f = 2 → ∀ y : Int32, y = xf_stateDepth u1 - 1 → xs_W post n (zx_c u1 (xf_codeEnd u1) (xf_here u1) (y) (xf_expressionDepth u1) (xf_stateAt u1) (upd (xf_statePhase u1) d (nI (f + 1))) (xf_statePatch u1) (xf_expressionAt u1) (xf_expressionPhase u1) (xf_memory u1))) ∧ (¬ nI f = 2 → ((nI f = 0 → (vp_in (nI s) 40 ∧ wpX_enterState (fun u => xs_W post n u) (zx_c u1 (xf_codeEnd u1) (xf_here u1) (xf_stateDepth u1) (xf_expressionDepth u1) (xf_stateAt u1) (upd (xf_statePhase u1) d (nI (f + 1))) (xf_statePatch u1) (xf_expressionAt u1) (xf_expressionPhase u1) (xf_memory u1)) (xf_stateX u1 (nI s).toNatClampNeg))) ∧ (¬ nI f = 0 → (vp_in (nI s) 40 ∧ wpX_enterState (fun u => xs_W post n u) (zx_c u1 (xf_codeEnd u1) (xf_here u1) (xf_stateDepth u1) (xf_expressionDepth u1) (xf_stateAt u1) (upd (xf_statePhase u1) d (nI (f + 1))) (xf_statePatch u1) (xf_expressionAt u1) (xf_expressionPhase u1) (xf_memory u1)) (xf_stateY u1 (nI s).toNatClampNeg))))))) ∧ (¬ nI k = 1 → ((nI k = 2 → wpX_compileIf (fun u => xs_W post n u) (zx_c u1 (xf_codeEnd u1) (xf_here u1) (xf_stateDepth u1) (xf_expressionDepth u1) (xf_stateAt u1) (upd (xf_statePhase u1) d (nI (f + 1))) (xf_statePatch u1) (xf_expressionAt u1) (xf_expressionPhase u1) (xf_memory u1)) (nI d) (nI s) (nI f)) ∧ (¬ nI k = 2 → ((nI k = 3 → wpX_compileWhile (fun u => xs_W post n u) (zx_c u1 (xf_codeEnd u1) (xf_here u1) (xf_stateDepth u1) (xf_expressionDepth u1) (xf_stateAt u1) (upd (xf_statePhase u1) d (nI (f + 1))) (xf_statePatch u1) (xf_expressionAt u1) (xf_expressionPhase u1) (xf_memory u1)) (nI d) (nI s) (nI f)) ∧ (¬ nI k = 3 → ∀ y : Int32, y = xf_stateDepth u1 - 1 → wpX_compilePlain (fun u => xs_W post n u) (zx_c u1 (xf_codeEnd u1) (xf_here u1) (y) (xf_expressionDepth u1) (xf_stateAt u1) (upd (xf_statePhase u1) d (nI (f + 1))) (xf_statePatch u1) (xf_expressionAt u1) (xf_expressionPhase u1) (xf_memory u1)) (nI s) (nI k)))))))) : xs_W post (n + 1) u1 := by
  have e0 : ¬ xf_stateDepth u1 ≤ 0 := by rw [hd]; exact nI_nle (by omega) (by omega)
  have e1 : xf_stateDepth u1 - 1 = nI d := by rw [hd]; exact nI_pred d
  have e2 : xf_stateAt u1 (nI d).toNatClampNeg = nI s := by rw [nI_clamp (by omega)]; exact hat
  have e3 : xf_stateKind u1 (nI s).toNatClampNeg = nI k := by rw [nI_clamp (by omega)]; exact hk
  have e4 : xf_statePhase u1 (nI d).toNatClampNeg = nI f := by rw [nI_clamp (by omega)]; exact hph
  have e5 : upd (xf_statePhase u1) (nI d).toNatClampNeg (vp_nar .byte ((xf_statePhase u1 (nI d).toNatClampNeg + 1).toInt8.toInt32)) = upd (xf_statePhase u1) d (nI (f + 1)) := by
    rw [e4, nI_clamp (by omega), xe_ph hf]
  have i1 : vp_in (nI d) 20 := vp_in_nI hd20 (by omega)
  exact br_f e0 (nm_r e1 ⟨i1, nm_r e2 ⟨vp_in_nI hs (by omega), nm_r e3 ⟨i1, nm_r e4 ⟨i1, i1, nm_r e5 h⟩⟩⟩⟩)
theorem xs_it0 (hd : xf_stateDepth u1 = nI (d + 1)) (hd20 : d < 20) (hat : xf_stateAt u1 d = nI s) (hs : s < 40) (hk : xf_stateKind u1 s = nI 1) (hph : xf_statePhase u1 d = nI 0)
    (hp : ∀ Q : SX → Prop, Q u2 → wpX_enterState Q (zx_c u1 (xf_codeEnd u1) (xf_here u1) (xf_stateDepth u1) (xf_expressionDepth u1) (xf_stateAt u1) (upd (xf_statePhase u1) d (nI 1)) (xf_statePatch u1) (xf_expressionAt u1) (xf_expressionPhase u1) (xf_memory u1)) (xf_stateX u1 s)) (h : xs_R post u2) : xs_R post u1 := by
  obtain ⟨n, h⟩ := h
  have e2 : xf_stateX u1 (nI s).toNatClampNeg = xf_stateX u1 s := by rw [nI_clamp (by omega)]
  refine ⟨n + 1, xs_pre hd hd20 hat hs hk hph (by omega) (br_t rfl (br_f (by decide) (br_t rfl ⟨vp_in_nI hs (by omega), ?_⟩)))⟩
  rw [e2]
  exact hp _ h
theorem xs_it1 (hd : xf_stateDepth u1 = nI (d + 1)) (hd20 : d < 20) (hat : xf_stateAt u1 d = nI s) (hs : s < 40) (hk : xf_stateKind u1 s = nI 1) (hph : xf_statePhase u1 d = nI 1)
    (hp : ∀ Q : SX → Prop, Q u2 → wpX_enterState Q (zx_c u1 (xf_codeEnd u1) (xf_here u1) (xf_stateDepth u1) (xf_expressionDepth u1) (xf_stateAt u1) (upd (xf_statePhase u1) d (nI 2)) (xf_statePatch u1) (xf_expressionAt u1) (xf_expressionPhase u1) (xf_memory u1)) (xf_stateY u1 s)) (h : xs_R post u2) : xs_R post u1 := by
  obtain ⟨n, h⟩ := h
  have e2 : xf_stateY u1 (nI s).toNatClampNeg = xf_stateY u1 s := by rw [nI_clamp (by omega)]
  refine ⟨n + 1, xs_pre hd hd20 hat hs hk hph (by omega) (br_t rfl (br_f (by decide) (br_f (by decide) ⟨vp_in_nI hs (by omega), ?_⟩)))⟩
  rw [e2]
  exact hp _ h
theorem xs_it2 (hd : xf_stateDepth u1 = nI (d + 1)) (hd20 : d < 20) (hat : xf_stateAt u1 d = nI s) (hs : s < 40) (hk : xf_stateKind u1 s = nI 1) (hph : xf_statePhase u1 d = nI 2)
    (h : xs_R post (zx_c u1 (xf_codeEnd u1) (xf_here u1) (nI d) (xf_expressionDepth u1) (xf_stateAt u1) (upd (xf_statePhase u1) d (nI 3)) (xf_statePatch u1) (xf_expressionAt u1) (xf_expressionPhase u1) (xf_memory u1))) : xs_R post u1 := by
  obtain ⟨n, h⟩ := h
  have e1 : xf_stateDepth u1 - 1 = nI d := by rw [hd]; exact nI_pred d
  exact ⟨n + 1, xs_pre hd hd20 hat hs hk hph (by omega) (br_t rfl (br_t rfl (nm_r e1 h)))⟩
theorem xs_iif (hd : xf_stateDepth u1 = nI (d + 1)) (hd20 : d < 20) (hat : xf_stateAt u1 d = nI s) (hs : s < 40) (hk : xf_stateKind u1 s = nI 2) (hph : xf_statePhase u1 d = nI f) (hf : f ≤ 5)
    (hp : ∀ Q : SX → Prop, Q u2 → wpX_compileIf Q (zx_c u1 (xf_codeEnd u1) (xf_here u1) (xf_stateDepth u1) (xf_expressionDepth u1) (xf_stateAt u1) (upd (xf_statePhase u1) d (nI (f + 1))) (xf_statePatch u1) (xf_expressionAt u1) (xf_expressionPhase u1) (xf_memory u1)) (nI d) (nI s) (nI f)) (h : xs_R post u2) : xs_R post u1 := by
  obtain ⟨n, h⟩ := h
  exact ⟨n + 1, xs_pre hd hd20 hat hs hk hph hf (br_f (by decide) (br_t rfl (hp _ h)))⟩
theorem xs_iwh (hd : xf_stateDepth u1 = nI (d + 1)) (hd20 : d < 20) (hat : xf_stateAt u1 d = nI s) (hs : s < 40) (hk : xf_stateKind u1 s = nI 3) (hph : xf_statePhase u1 d = nI f) (hf : f ≤ 5)
    (hp : ∀ Q : SX → Prop, Q u2 → wpX_compileWhile Q (zx_c u1 (xf_codeEnd u1) (xf_here u1) (xf_stateDepth u1) (xf_expressionDepth u1) (xf_stateAt u1) (upd (xf_statePhase u1) d (nI (f + 1))) (xf_statePatch u1) (xf_expressionAt u1) (xf_expressionPhase u1) (xf_memory u1)) (nI d) (nI s) (nI f)) (h : xs_R post u2) : xs_R post u1 := by
  obtain ⟨n, h⟩ := h
  exact ⟨n + 1, xs_pre hd hd20 hat hs hk hph hf (br_f (by decide) (br_f (by decide) (br_t rfl (hp _ h))))⟩
theorem xs_ipl (hd : xf_stateDepth u1 = nI (d + 1)) (hd20 : d < 20) (hat : xf_stateAt u1 d = nI s) (hs : s < 40) (hk : xf_stateKind u1 s = nI k) (hk6 : k ≤ 6) (hkn : k ≠ 1 ∧ k ≠ 2 ∧ k ≠ 3) (hph : xf_statePhase u1 d = nI 0)
    (hp : ∀ Q : SX → Prop, Q u2 → wpX_compilePlain Q (zx_c u1 (xf_codeEnd u1) (xf_here u1) (nI d) (xf_expressionDepth u1) (xf_stateAt u1) (upd (xf_statePhase u1) d (nI 1)) (xf_statePatch u1) (xf_expressionAt u1) (xf_expressionPhase u1) (xf_memory u1)) (nI s) (nI k)) (h : xs_R post u2) : xs_R post u1 := by
  obtain ⟨n, h⟩ := h
  have e1 : xf_stateDepth u1 - 1 = nI d := by rw [hd]; exact nI_pred d
  exact ⟨n + 1, xs_pre hd hd20 hat hs hk hph (by omega) (br_f (ym_q (m := 1) (by omega) (by omega) hkn.1) (br_f (ym_q (m := 2) (by omega) (by omega) hkn.2.1) (br_f (ym_q (m := 3) (by omega) (by omega) hkn.2.2) (nm_r e1 (hp _ h)))))⟩
end
section
variable {u : SX} {P : pg_P} {np ne ns q : Nat} {hr ed : Int32} {sa sp pt ea ep M : Nat → Int32} {c d x s : Nat} {K : SX → Prop}
theorem em_ents (hd : d < 20) (hx : x < 128) (h : K (zx_c u (nI c) hr (nI (d + 1)) ed (upd sa d (nI x)) (upd sp d 0) pt ea ep M)) : wpX_enterState K (zx_c u (nI c) hr (nI d) ed sa sp pt ea ep M) (nI x) := by
  have e1 : upd sa (nI d).toNatClampNeg (vp_nar .byte (nI x).toInt8.toInt32) = upd sa d (nI x) := by rw [nI_clamp (by omega), pk_vb, ww_bI hx]
  have e2 : upd sp (nI d).toNatClampNeg (vp_nar .byte 0) = upd sp d 0 := by rw [nI_clamp (by omega), vp_nar_byte]; rfl
  exact ⟨vp_in_nI hd (by omega), nm_r e1 ⟨vp_in_nI hd (by omega), nm_r e2 (nm_r (nI_1 d) h)⟩⟩
theorem em_pt {a : Nat} (hd : d < 20) (ha : a < 32768) : upd pt (nI d).toNatClampNeg (vp_nar .short (nI a).toInt16.toInt32) = upd pt d (nI a) := by
  rw [nI_clamp (by omega), pk_vs, ww_sI ha]
/-- 'if', its test and the first branch's beginning -/
theorem em_if0 (hX : xp_P u P np ne ns) (htk : xf_tickAt u = 76) (hW : pg_W P np ne ns) (hq : q < np) (hs : s < ns) (hk : pg_sk P s = 2) (hF : pg_FE P np q (pg_sx P s)) (hd : d + 1 < 20) (hc : c + (pg_ts P q (pg_sx P s) c).length + 2 ≤ 4000) :
    ∃ (ed' : Int32) (ea' ep' : Nat → Int32), ∀ K : SX → Prop, K (zx_c u (nI (c + (pg_ts P q (pg_sx P s) c ++ pg_wd 0).length)) (nI q) (nI (d + 1 + 1)) ed' (upd sa (d + 1) (nI (pg_sy P s))) (upd sp (d + 1) 0) (upd pt d (nI (c + (pg_ts P q (pg_sx P s) c).length))) ea' ep' (wl_wr M c (pg_ts P q (pg_sx P s) c ++ pg_wd 0))) → wpX_compileIf K (zx_c u (nI c) (nI q) (nI (d + 1)) ed sa sp pt ea ep M) (nI d) (nI s) (nI 0) := by
  have h40 := hW.2.2.1
  have h2 := (hW.2.2.2.2.2 s hs).2.2.2.2.2.2.2.1 hk
  have hin : vp_in (nI s) 40 := vp_in_nI (by omega) (by omega)
  have hsx : xf_stateX u (nI s).toNatClampNeg = nI (pg_sx P s) := by rw [nI_clamp (by omega), hX.2.2.2.2.2.2.2.2.2.2.1 s hs (by omega)]; exact h2.1
  have hsy : xf_stateY u (nI s).toNatClampNeg = nI (pg_sy P s) := by rw [nI_clamp (by omega), hX.2.2.2.2.2.2.2.2.2.2.2.1 s hs (by omega)]; exact h2.2.2.1
  obtain ⟨ed', ea', ep', m⟩ := em_test (u := u) (sd := nI (d + 1)) (ed := ed) (sa := sa) (sp := sp) (pt := pt) (ea := ea) (ep := ep) (M := M) (c := c) hX htk hW hq h2.2.1 hF hc
  refine ⟨ed', ea', ep', fun K h => br_t rfl ⟨hin, ?_⟩⟩
  show wpX_compileTest _ _ (xf_stateX u (nI s).toNatClampNeg)
  rw [hsx]
  refine m _ ⟨vp_in_nI (by omega) (by omega), nm_r (em_pt (by omega) (by omega)) ⟨hin, ?_⟩⟩
  show wpX_enterState _ _ (xf_stateY u (nI s).toNatClampNeg)
  rw [hsy]
  exact em_ents (c := c + (pg_ts P q (pg_sx P s) c ++ pg_wd 0).length) (M := wl_wr M c (pg_ts P q (pg_sx P s) c ++ pg_wd 0)) (d := d + 1) (pt := upd pt d (nI (c + (pg_ts P q (pg_sx P s) c).length))) hd (by omega) h
/-- 'if', the way over the second branch and its beginning -/
theorem em_if1 {b : Nat} (hX : xp_P u P np ne ns) (hW : pg_W P np ne ns) (hs : s < ns) (hk : pg_sk P s = 2) (hz : 0 ≤ P 10 s) (hd : d + 1 < 20) (hc : c + 3 ≤ 4000) (hpt : pt d = nI b) (hb : b + 1 < 4096)
    (h : K (zx_c u (nI (c + 3)) hr (nI (d + 1 + 1)) ed (upd sa (d + 1) (nI (pg_sz P s))) (upd sp (d + 1) 0) (upd pt d (nI (c + 1))) ea ep (ww_wr (wl_wr M c (233 :: pg_wd 0)) b ((nI (c + 3) - nI b) - 2)))) : wpX_compileIf K (zx_c u (nI c) hr (nI (d + 1)) ed sa sp pt ea ep M) (nI d) (nI s) (nI 1) := by
  have h40 := hW.2.2.1
  have h2 := (hW.2.2.2.2.2 s hs).2.2.2.2.2.2.2.1 hk
  have hz2 : P 10 s = nI (pg_sz P s) ∧ pg_sz P s < s := by
    rcases h2.2.2.2.2 with h | h
    · rw [h.1] at hz; exact absurd hz (by decide)
    · exact ⟨h.1, h.2.1⟩
  have hin : vp_in (nI s) 40 := vp_in_nI (by omega) (by omega)
  have hsz : xf_stateZ u (nI s).toNatClampNeg = nI (pg_sz P s) := by rw [nI_clamp (by omega), hX.2.2.2.2.2.2.2.2.2.2.2.2 s hs (Or.inl hk)]; exact hz2.1
  have hpd : pt (nI d).toNatClampNeg = nI b := by rw [nI_clamp (by omega)]; exact hpt
  refine br_f (by decide) (br_t rfl ⟨hin, br_f (by show ¬ xf_stateZ u (nI s).toNatClampNeg < 0; rw [hsz]; exact nI_pos (by omega)) ?_⟩)
  refine em_fwd (by omega) ⟨vp_in_nI (by omega) (by omega), ?_⟩
  show wpX_land _ _ (pt (nI d).toNatClampNeg)
  rw [hpd]
  refine em_land (c := c + 3) (M := wl_wr M c (233 :: pg_wd 0)) hb ⟨vp_in_nI (by omega) (by omega), nm_r (em_pt (by omega) (by omega)) ⟨hin, ?_⟩⟩
  show wpX_enterState _ _ (xf_stateZ u (nI s).toNatClampNeg)
  rw [hsz]
  exact em_ents (c := c + 3) (d := d + 1) (pt := upd pt d (nI (c + 1))) hd (by omega) h
/-- 'if', its end -/
theorem em_if2 {b f : Nat} (hX : xp_P u P np ne ns) (hW : pg_W P np ne ns) (hs : s < ns) (hk : pg_sk P s = 2) (hf : (f = 1 ∧ ¬ 0 ≤ P 10 s) ∨ f = 2) (hd : d < 20) (hpt : pt d = nI b) (hb : b + 1 < 4096)
    (h : K (zx_c u (nI c) hr (nI d) ed sa sp pt ea ep (ww_wr M b ((nI c - nI b) - 2)))) : wpX_compileIf K (zx_c u (nI c) hr (nI (d + 1)) ed sa sp pt ea ep M) (nI d) (nI s) (nI f) := by
  have h40 := hW.2.2.1
  have hin : vp_in (nI s) 40 := vp_in_nI (by omega) (by omega)
  have hpd : pt (nI d).toNatClampNeg = nI b := by rw [nI_clamp (by omega)]; exact hpt
  have hk86 : wX_compileIf_86 K (nI d) u.1 u.2.1 u.2.2.1 u.2.2.2.1 (nI c) u.2.2.2.2.2.1 hr (nI (d + 1)) ed u.2.2.2.2.2.2.2.2.2.1 u.2.2.2.2.2.2.2.2.2.2.1 u.2.2.2.2.2.2.2.2.2.2.2.1 u.2.2.2.2.2.2.2.2.2.2.2.2.1 u.2.2.2.2.2.2.2.2.2.2.2.2.2.1 u.2.2.2.2.2.2.2.2.2.2.2.2.2.2.1 u.2.2.2.2.2.2.2.2.2.2.2.2.2.2.2.1 u.2.2.2.2.2.2.2.2.2.2.2.2.2.2.2.2.1 u.2.2.2.2.2.2.2.2.2.2.2.2.2.2.2.2.2.1 u.2.2.2.2.2.2.2.2.2.2.2.2.2.2.2.2.2.2.1 u.2.2.2.2.2.2.2.2.2.2.2.2.2.2.2.2.2.2.2.1 u.2.2.2.2.2.2.2.2.2.2.2.2.2.2.2.2.2.2.2.2.1 u.2.2.2.2.2.2.2.2.2.2.2.2.2.2.2.2.2.2.2.2.2.1 u.2.2.2.2.2.2.2.2.2.2.2.2.2.2.2.2.2.2.2.2.2.2.1 u.2.2.2.2.2.2.2.2.2.2.2.2.2.2.2.2.2.2.2.2.2.2.2.1 u.2.2.2.2.2.2.2.2.2.2.2.2.2.2.2.2.2.2.2.2.2.2.2.2.1 u.2.2.2.2.2.2.2.2.2.2.2.2.2.2.2.2.2.2.2.2.2.2.2.2.2.1 u.2.2.2.2.2.2.2.2.2.2.2.2.2.2.2.2.2.2.2.2.2.2.2.2.2.2.1 u.2.2.2.2.2.2.2.2.2.2.2.2.2.2.2.2.2.2.2.2.2.2.2.2.2.2.2.1 u.2.2.2.2.2.2.2.2.2.2.2.2.2.2.2.2.2.2.2.2.2.2.2.2.2.2.2.2.1 u.2.2.2.2.2.2.2.2.2.2.2.2.2.2.2.2.2.2.2.2.2.2.2.2.2.2.2.2.2.1 sa sp pt ea ep M u.2.2.2.2.2.2.2.2.2.2.2.2.2.2.2.2.2.2.2.2.2.2.2.2.2.2.2.2.2.2.2.2.2.2.2.2.1 u.2.2.2.2.2.2.2.2.2.2.2.2.2.2.2.2.2.2.2.2.2.2.2.2.2.2.2.2.2.2.2.2.2.2.2.2.2.1 u.2.2.2.2.2.2.2.2.2.2.2.2.2.2.2.2.2.2.2.2.2.2.2.2.2.2.2.2.2.2.2.2.2.2.2.2.2.2 := by
    refine ⟨vp_in_nI hd (by omega), ?_⟩
    show wpX_land _ (zx_c u (nI c) hr (nI (d + 1)) ed sa sp pt ea ep M) (pt (nI d).toNatClampNeg)
    rw [hpd]
    exact em_land hb (nm_r (nI_pred d) h)
  rcases hf with ⟨hf, hz⟩ | hf
  · subst hf
    have hsz : xf_stateZ u (nI s).toNatClampNeg < 0 := by rw [nI_clamp (by omega), hX.2.2.2.2.2.2.2.2.2.2.2.2 s hs (Or.inl hk)]; exact Int32.not_le.mp hz
    exact br_f (by decide) (br_t rfl ⟨hin, br_t hsz hk86⟩)
  · subst hf
    exact br_f (by decide) (br_f (by decide) hk86)
theorem em_wh0 (hX : xp_P u P np ne ns) (htk : xf_tickAt u = 76) (hW : pg_W P np ne ns) (hq : q < np) (hs : s < ns) (hk : pg_sk P s = 3) (hF : pg_FE P np q (pg_sx P s)) (hd : d + 1 < 20) (hc : c + (pg_ts P q (pg_sx P s) c).length + 2 ≤ 4000) :
    ∃ (ed' : Int32) (ea' ep' : Nat → Int32), ∀ K : SX → Prop, K (zx_c u (nI (c + (pg_ts P q (pg_sx P s) c ++ pg_wd 0).length)) (nI q) (nI (d + 1 + 1)) ed' (upd sa (d + 1) (nI (pg_sy P s))) (upd sp (d + 1) 0) (upd pt d (nI (c + (pg_ts P q (pg_sx P s) c).length))) ea' ep' (ww_wr (wl_wr M c (pg_ts P q (pg_sx P s) c ++ pg_wd 0)) (c + (pg_ts P q (pg_sx P s) c).length) (nI c))) → wpX_compileWhile K (zx_c u (nI c) (nI q) (nI (d + 1)) ed sa sp pt ea ep M) (nI d) (nI s) (nI 0) := by
  have h40 := hW.2.2.1
  have h2 := (hW.2.2.2.2.2 s hs).2.2.2.2.2.2.2.2.1 hk
  have hin : vp_in (nI s) 40 := vp_in_nI (by omega) (by omega)
  have hsx : xf_stateX u (nI s).toNatClampNeg = nI (pg_sx P s) := by rw [nI_clamp (by omega), hX.2.2.2.2.2.2.2.2.2.2.1 s hs (by omega)]; exact h2.1
  have hsy : xf_stateY u (nI s).toNatClampNeg = nI (pg_sy P s) := by rw [nI_clamp (by omega), hX.2.2.2.2.2.2.2.2.2.2.2.1 s hs (by omega)]; exact h2.2.2.1
  obtain ⟨ed', ea', ep', m⟩ := em_test (u := u) (sd := nI (d + 1)) (ed := ed) (sa := sa) (sp := sp) (pt := pt) (ea := ea) (ep := ep) (M := M) (c := c) hX htk hW hq h2.2.1 hF hc
  refine ⟨ed', ea', ep', fun K h => br_t rfl ⟨hin, ?_⟩⟩
  show wpX_compileTest _ _ (xf_stateX u (nI s).toNatClampNeg)
  rw [hsx]
  refine m _ ?_
  refine em_set (c := c + (pg_ts P q (pg_sx P s) c ++ pg_wd 0).length) (M := wl_wr M c (pg_ts P q (pg_sx P s) c ++ pg_wd 0)) (a := c + (pg_ts P q (pg_sx P s) c).length) (by omega) ⟨vp_in_nI (by omega) (by omega), nm_r (em_pt (by omega) (by omega)) ⟨hin, ?_⟩⟩
  show wpX_enterState _ _ (xf_stateY u (nI s).toNatClampNeg)
  rw [hsy]
  exact em_ents (c := c + (pg_ts P q (pg_sx P s) c ++ pg_wd 0).length) (d := d + 1) (pt := upd pt d (nI (c + (pg_ts P q (pg_sx P s) c).length))) hd (by omega) h
theorem em_wh1 {b c0 : Nat} (hd : d < 20) (hc : c + 3 ≤ 4000) (hpt : pt d = nI b) (hb : b + 1 < 4096) (hr0 : ww_rd M b = nI c0)
    (h : K (zx_c u (nI (c + 3)) hr (nI d) ed sa sp pt ea ep (ww_wr (wl_wr M c (233 :: pg_wd ((nI c0 - nI (c + 1)) - 2))) b ((nI (c + 3) - nI b) - 2)))) : wpX_compileWhile K (zx_c u (nI c) hr (nI (d + 1)) ed sa sp pt ea ep M) (nI d) (nI s) (nI 1) := by
  have hpd : pt (nI d).toNatClampNeg = nI b := by rw [nI_clamp (by omega)]; exact hpt
  refine br_f (by decide) ⟨vp_in_nI hd (by omega), nm_r hpd ?_⟩
  refine em_wat (sd := nI (d + 1)) hb ?_
  rw [hr0]
  refine em_jmp (sd := nI (d + 1)) (by omega) ?_
  exact em_land (c := c + 3) (sd := nI (d + 1)) (M := wl_wr M c (233 :: pg_wd ((nI c0 - nI (c + 1)) - 2))) hb (nm_r (nI_pred d) h)
end
end
section
/-! the compiler's statements: what is written -/
theorem cm_1 {M : Nat → Int32} {c c1 : Nat} {ts l : List Int32} {w0 w : Int32} (h1 : c1 = c + ts.length + 2) : ww_wr (wl_wr (wl_wr M c (ts ++ pg_wd w0)) c1 l) (c + ts.length) w = wl_wr M c (ts ++ (pg_wd w ++ l)) := by
  have e : wl_wr (wl_wr M c (ts ++ pg_wd w0)) c1 l = wl_wr M c (ts ++ (w0 &&& 255) :: ((w0 >>> ((8 : Int32) &&& 31)) &&& 255) :: l) := by
    have := wl_wapp (M := M) (a := c) (l1 := ts ++ pg_wd w0) (l2 := l)
    rw [List.length_append, pg_wdl, ← Nat.add_assoc, ← h1, List.append_assoc] at this
    exact this
  rw [e]
  exact em_patch rfl
theorem cs_all {u : SX} {P : pg_P} {np ne ns q : Nat} (hX : xp_P u P np ne ns) (htk : xf_tickAt u = 76) (hW : pg_W P np ne ns) (hq : q < np) :
    ∀ s, s < ns → pg_FS P np q s → ∀ (d c : Nat) (M sa sp pt : Nat → Int32) (ed : Int32) (ea ep : Nat → Int32), sa d = nI s → sp d = 0 → d + pg_sw P s ≤ 20 → c + (pg_S P q s c).length + 70 ≤ 4000 →
      ∃ (sa' sp' pt' : Nat → Int32) (ed' : Int32) (ea' ep' : Nat → Int32), (∀ j, j < d → sa' j = sa j ∧ sp' j = sp j ∧ pt' j = pt j) ∧ ∀ post : SX → Prop, xs_R post (zx_c u (nI (c + (pg_S P q s c).length)) (nI q) (nI d) ed' sa' sp' pt' ea' ep' (wl_wr M c (pg_S P q s c))) → xs_R post (zx_c u (nI c) (nI q) (nI (d + 1)) ed sa sp pt ea ep M) := by
  have h40 := hW.2.2.1
  intro s
  induction s using Nat.strongRecOn with
  | _ s ihs =>
    intro hs hF d c M sa sp pt ed ea ep hsa hsp hw hc
    have hFF := hF
    rw [pg_FS] at hF
    have hWs := hW.2.2.2.2.2 s hs
    have hw1 := hWs.2.2.2.1
    have hkk : xf_stateKind u s = nI (pg_sk P s) := by rw [hX.2.2.2.2.2.2.2.2.2.1 s hs]; exact hWs.1
    by_cases k1 : pg_sk P s = 1
    · have h1 := hWs.2.2.2.2.2.2.1 k1
      have hwx := (hW.2.2.2.2.2 (pg_sx P s) (by omega)).2.2.2.1
      have hwy := (hW.2.2.2.2.2 (pg_sy P s) (by omega)).2.2.2.1
      have hE := xs_thenE (P := P) k1 h1.2.1 h1.2.2.2.1 q c
      have hl : (pg_S P q s c).length = (pg_S P q (pg_sx P s) c).length + (pg_S P q (pg_sy P s) (c + (pg_S P q (pg_sx P s) c).length)).length := by rw [hE, List.length_append]
      have hxx : xf_stateX u s = nI (pg_sx P s) := by rw [hX.2.2.2.2.2.2.2.2.2.2.1 s hs (by omega)]; exact h1.1
      have hyy : xf_stateY u s = nI (pg_sy P s) := by rw [hX.2.2.2.2.2.2.2.2.2.2.2.1 s hs (by omega)]; exact h1.2.2.1
      rw [k1] at hkk
      obtain ⟨sa1, sp1, pt1, ed1, ea1, ep1, b1, m1⟩ := ihs (pg_sx P s) h1.2.1 (by omega) (hF.2.1 k1 h1.2.1) (d + 1) c M (upd sa (d + 1) (nI (pg_sx P s))) (upd (upd sp d (nI 1)) (d + 1) 0) pt ed ea ep pk_us pk_us (by omega) (by omega)
      have c1 := b1 d (by omega)
      rw [pk_un (by omega), pk_un (by omega), pk_us] at c1
      obtain ⟨sa2, sp2, pt2, ed2, ea2, ep2, b2, m2⟩ := ihs (pg_sy P s) h1.2.2.2.1 (by omega) (hF.2.2.2.1 (Or.inl k1) h1.2.2.2.1) (d + 1) (c + (pg_S P q (pg_sx P s) c).length) (wl_wr M c (pg_S P q (pg_sx P s) c)) (upd sa1 (d + 1) (nI (pg_sy P s))) (upd (upd sp1 d (nI 2)) (d + 1) 0) pt1 ed1 ea1 ep1 pk_us pk_us (by omega) (by omega)
      have c2 := b2 d (by omega)
      rw [pk_un (by omega), pk_un (by omega), pk_us] at c2
      refine ⟨sa2, upd sp2 d (nI 3), pt2, ed2, ea2, ep2, fun j hj => ?_, fun post h => ?_⟩
      · have f1 := b1 j (by omega)
        have f2 := b2 j (by omega)
        rw [pk_un (by omega), pk_un (by omega), pk_un (by omega)] at f1 f2
        exact ⟨f2.1.trans f1.1, by rw [pk_un (by omega)]; exact f2.2.1.trans f1.2.1, f2.2.2.trans f1.2.2⟩
      · refine xs_it0 (u1 := (zx_c u (nI c) (nI q) (nI (d + 1)) ed sa sp pt ea ep M)) (u2 := (zx_c u (nI c) (nI q) (nI (d + 1 + 1)) ed (upd sa (d + 1) (nI (pg_sx P s))) (upd (upd sp d (nI 1)) (d + 1) 0) pt ea ep M)) rfl (by omega) hsa (by omega) hkk hsp (fun Q hQ => ?_) (m1 post ?_)
        · show wpX_enterState Q (zx_c u (nI c) (nI q) (nI (d + 1)) ed sa (upd sp d (nI 1)) pt ea ep M) (xf_stateX u s)
          rw [hxx]
          exact em_ents (by omega) (by omega) hQ
        · refine xs_it1 (u1 := (zx_c u (nI (c + (pg_S P q (pg_sx P s) c).length)) (nI q) (nI (d + 1)) ed1 sa1 sp1 pt1 ea1 ep1 (wl_wr M c (pg_S P q (pg_sx P s) c)))) (u2 := (zx_c u (nI (c + (pg_S P q (pg_sx P s) c).length)) (nI q) (nI (d + 1 + 1)) ed1 (upd sa1 (d + 1) (nI (pg_sy P s))) (upd (upd sp1 d (nI 2)) (d + 1) 0) pt1 ea1 ep1 (wl_wr M c (pg_S P q (pg_sx P s) c)))) rfl (by omega) (c1.1.trans hsa) (by omega) hkk c1.2.1 (fun Q hQ => ?_) (m2 post ?_)
          · show wpX_enterState Q (zx_c u (nI (c + (pg_S P q (pg_sx P s) c).length)) (nI q) (nI (d + 1)) ed1 sa1 (upd sp1 d (nI 2)) pt1 ea1 ep1 (wl_wr M c (pg_S P q (pg_sx P s) c))) (xf_stateY u s)
            rw [hyy]
            exact em_ents (c := c + (pg_S P q (pg_sx P s) c).length) (d := d + 1) (by omega) (by omega) hQ
          · refine xs_it2 (u1 := (zx_c u (nI (c + (pg_S P q (pg_sx P s) c).length + (pg_S P q (pg_sy P s) (c + (pg_S P q (pg_sx P s) c).length)).length)) (nI q) (nI (d + 1)) ed2 sa2 sp2 pt2 ea2 ep2 (wl_wr (wl_wr M c (pg_S P q (pg_sx P s) c)) (c + (pg_S P q (pg_sx P s) c).length) (pg_S P q (pg_sy P s) (c + (pg_S P q (pg_sx P s) c).length))))) rfl (by omega) (c2.1.trans (c1.1.trans hsa)) (by omega) hkk c2.2.1 ?_
            refine em_2 (K := xs_R post) rfl ?_
            rw [← hE]
            exact h
    · by_cases k2 : pg_sk P s = 2
      · have h2 := hWs.2.2.2.2.2.2.2.1 k2
        have hwy := (hW.2.2.2.2.2 (pg_sy P s) (by omega)).2.2.2.1
        rw [k2] at hkk
        have hFx := hF.2.2.1 (Or.inl k2)
        have hFy := hF.2.2.2.1 (Or.inr (Or.inl k2)) h2.2.2.2.1
        by_cases hz : 0 ≤ P 10 s
        · have hz2 : pg_sz P s < s ∧ pg_sw P s = 1 + pg_ew P (pg_sx P s) + pg_sw P (pg_sy P s) + pg_sw P (pg_sz P s) := by
            rcases h2.2.2.2.2 with h | h
            · rw [h.1] at hz; exact absurd hz (by decide)
            · exact ⟨h.2.1, h.2.2⟩
          have hwz := (hW.2.2.2.2.2 (pg_sz P s) (by omega)).2.2.2.1
          have hE := xs_ifE2 (P := P) k2 h2.2.2.2.1 hz hz2.1 q c
          have hl : (pg_S P q s c).length = (pg_ts P q (pg_sx P s) c).length + (2 + ((pg_S P q (pg_sy P s) (c + (pg_ts P q (pg_sx P s) c).length + 2)).length + (2 + (pg_S P q (pg_sz P s) (c + (pg_ts P q (pg_sx P s) c).length + 2 + (pg_S P q (pg_sy P s) (c + (pg_ts P q (pg_sx P s) c).length + 2)).length + 3)).length + 1))) := by
            rw [hE]; simp only [List.length_append, List.length_cons, pg_wdl]
          have hFz := hF.2.2.2.2.1 k2 hz hz2.1
          obtain ⟨ed0, ea0, ep0, m0⟩ := em_if0 (u := u) (ed := ed) (sa := sa) (sp := upd sp d (nI (0 + 1))) (pt := pt) (ea := ea) (ep := ep) (M := M) (c := c) (d := d) hX htk hW hq hs k2 hFx (by omega) (by omega)
          have ecl : c + (pg_ts P q (pg_sx P s) c ++ pg_wd 0).length = c + (pg_ts P q (pg_sx P s) c).length + 2 := by rw [List.length_append, pg_wdl, Nat.add_assoc]
          rw [ecl] at m0
          obtain ⟨sa1, sp1, pt1, ed1, ea1, ep1, b1, m1⟩ := ihs (pg_sy P s) h2.2.2.2.1 (by omega) hFy (d + 1) (c + (pg_ts P q (pg_sx P s) c).length + 2) (wl_wr M c (pg_ts P q (pg_sx P s) c ++ pg_wd 0)) (upd sa (d + 1) (nI (pg_sy P s))) (upd (upd sp d (nI (0 + 1))) (d + 1) 0) (upd pt d (nI (c + (pg_ts P q (pg_sx P s) c).length))) ed0 ea0 ep0 pk_us pk_us (by omega) (by omega)
          have c1 := b1 d (by omega)
          rw [pk_un (by omega), pk_un (by omega), pk_us, pk_us] at c1
          have hM3 : ww_wr (wl_wr (wl_wr (wl_wr M c (pg_ts P q (pg_sx P s) c ++ pg_wd 0)) (c + (pg_ts P q (pg_sx P s) c).length + 2) (pg_S P q (pg_sy P s) (c + (pg_ts P q (pg_sx P s) c).length + 2))) (c + (pg_ts P q (pg_sx P s) c).length + 2 + (pg_S P q (pg_sy P s) (c + (pg_ts P q (pg_sx P s) c).length + 2)).length) (233 :: pg_wd 0)) (c + (pg_ts P q (pg_sx P s) c).length) ((nI (c + (pg_ts P q (pg_sx P s) c).length + 2 + (pg_S P q (pg_sy P s) (c + (pg_ts P q (pg_sx P s) c).length + 2)).length + 3) - nI (c + (pg_ts P q (pg_sx P s) c).length)) - 2) = wl_wr M c (pg_ts P q (pg_sx P s) c ++ (pg_wd (nI ((pg_S P q (pg_sy P s) (c + (pg_ts P q (pg_sx P s) c).length + 2)).length + 3)) ++ (pg_S P q (pg_sy P s) (c + (pg_ts P q (pg_sx P s) c).length + 2) ++ 233 :: pg_wd 0))) := by
            rw [wl_wapp, Nat.add_assoc (c + (pg_ts P q (pg_sx P s) c).length + 2), em_dist, cm_1 rfl]
          obtain ⟨sa2, sp2, pt2, ed2, ea2, ep2, b2, m2⟩ := ihs (pg_sz P s) hz2.1 (by omega) hFz (d + 1) (c + (pg_ts P q (pg_sx P s) c).length + 2 + (pg_S P q (pg_sy P s) (c + (pg_ts P q (pg_sx P s) c).length + 2)).length + 3) (wl_wr M c (pg_ts P q (pg_sx P s) c ++ (pg_wd (nI ((pg_S P q (pg_sy P s) (c + (pg_ts P q (pg_sx P s) c).length + 2)).length + 3)) ++ (pg_S P q (pg_sy P s) (c + (pg_ts P q (pg_sx P s) c).length + 2) ++ 233 :: pg_wd 0)))) (upd sa1 (d + 1) (nI (pg_sz P s))) (upd (upd sp1 d (nI (1 + 1))) (d + 1) 0) (upd pt1 d (nI (c + (pg_ts P q (pg_sx P s) c).length + 2 + (pg_S P q (pg_sy P s) (c + (pg_ts P q (pg_sx P s) c).length + 2)).length + 1))) ed1 ea1 ep1 pk_us pk_us (by omega) (by omega)
          have c2 := b2 d (by omega)
          rw [pk_un (by omega), pk_un (by omega), pk_us, pk_us] at c2
          refine ⟨sa2, upd sp2 d (nI (2 + 1)), pt2, ed2, ea2, ep2, fun j hj => ?_, fun post h => ?_⟩
          · have f1 := b1 j (by omega)
            have f2 := b2 j (by omega)
            rw [pk_un (by omega), pk_un (by omega), pk_un (by omega), pk_un (by omega)] at f1 f2
            exact ⟨f2.1.trans f1.1, by rw [pk_un (by omega)]; exact f2.2.1.trans f1.2.1, f2.2.2.trans f1.2.2⟩
          · refine xs_iif (u1 := (zx_c u (nI c) (nI q) (nI (d + 1)) ed sa sp pt ea ep M)) (f := 0) rfl (by omega) hsa (by omega) hkk hsp (by omega) m0 (m1 post ?_)
            refine xs_iif (u1 := (zx_c u (nI (c + (pg_ts P q (pg_sx P s) c).length + 2 + (pg_S P q (pg_sy P s) (c + (pg_ts P q (pg_sx P s) c).length + 2)).length)) (nI q) (nI (d + 1)) ed1 sa1 sp1 pt1 ea1 ep1 (wl_wr (wl_wr M c (pg_ts P q (pg_sx P s) c ++ pg_wd 0)) (c + (pg_ts P q (pg_sx P s) c).length + 2) (pg_S P q (pg_sy P s) (c + (pg_ts P q (pg_sx P s) c).length + 2))))) (f := 1) rfl (by omega) (c1.1.trans hsa) (by omega) hkk c1.2.1 (by omega) (fun Q hQ => em_if1 (hr := nI q) (b := c + (pg_ts P q (pg_sx P s) c).length) (sp := upd sp1 d (nI (1 + 1))) hX hW hs k2 hz (by omega) (by omega) c1.2.2 (by omega) hQ) ?_
            rw [hM3]
            refine m2 post ?_
            refine xs_iif (u1 := (zx_c u (nI (c + (pg_ts P q (pg_sx P s) c).length + 2 + (pg_S P q (pg_sy P s) (c + (pg_ts P q (pg_sx P s) c).length + 2)).length + 3 + (pg_S P q (pg_sz P s) (c + (pg_ts P q (pg_sx P s) c).length + 2 + (pg_S P q (pg_sy P s) (c + (pg_ts P q (pg_sx P s) c).length + 2)).length + 3)).length)) (nI q) (nI (d + 1)) ed2 sa2 sp2 pt2 ea2 ep2 (wl_wr (wl_wr M c (pg_ts P q (pg_sx P s) c ++ (pg_wd (nI ((pg_S P q (pg_sy P s) (c + (pg_ts P q (pg_sx P s) c).length + 2)).length + 3)) ++ (pg_S P q (pg_sy P s) (c + (pg_ts P q (pg_sx P s) c).length + 2) ++ 233 :: pg_wd 0)))) (c + (pg_ts P q (pg_sx P s) c).length + 2 + (pg_S P q (pg_sy P s) (c + (pg_ts P q (pg_sx P s) c).length + 2)).length + 3) (pg_S P q (pg_sz P s) (c + (pg_ts P q (pg_sx P s) c).length + 2 + (pg_S P q (pg_sy P s) (c + (pg_ts P q (pg_sx P s) c).length + 2)).length + 3))))) (f := 2) rfl (by omega) (c2.1.trans (c1.1.trans hsa)) (by omega) hkk c2.2.1 (by omega) (fun Q hQ => em_if2 (hr := nI q) (b := c + (pg_ts P q (pg_sx P s) c).length + 2 + (pg_S P q (pg_sy P s) (c + (pg_ts P q (pg_sx P s) c).length + 2)).length + 1) (sp := upd sp2 d (nI (2 + 1))) hX hW hs k2 (Or.inr rfl) (by omega) c2.2.2 (by omega) hQ) ?_
            have hM5 : ww_wr (wl_wr (wl_wr M c (pg_ts P q (pg_sx P s) c ++ (pg_wd (nI ((pg_S P q (pg_sy P s) (c + (pg_ts P q (pg_sx P s) c).length + 2)).length + 3)) ++ (pg_S P q (pg_sy P s) (c + (pg_ts P q (pg_sx P s) c).length + 2) ++ 233 :: pg_wd 0)))) (c + (pg_ts P q (pg_sx P s) c).length + 2 + (pg_S P q (pg_sy P s) (c + (pg_ts P q (pg_sx P s) c).length + 2)).length + 3) (pg_S P q (pg_sz P s) (c + (pg_ts P q (pg_sx P s) c).length + 2 + (pg_S P q (pg_sy P s) (c + (pg_ts P q (pg_sx P s) c).length + 2)).length + 3))) (c + (pg_ts P q (pg_sx P s) c).length + 2 + (pg_S P q (pg_sy P s) (c + (pg_ts P q (pg_sx P s) c).length + 2)).length + 1) ((nI (c + (pg_ts P q (pg_sx P s) c).length + 2 + (pg_S P q (pg_sy P s) (c + (pg_ts P q (pg_sx P s) c).length + 2)).length + 3 + (pg_S P q (pg_sz P s) (c + (pg_ts P q (pg_sx P s) c).length + 2 + (pg_S P q (pg_sy P s) (c + (pg_ts P q (pg_sx P s) c).length + 2)).length + 3)).length) - nI (c + (pg_ts P q (pg_sx P s) c).length + 2 + (pg_S P q (pg_sy P s) (c + (pg_ts P q (pg_sx P s) c).length + 2)).length + 1)) - 2) = wl_wr M c (pg_S P q s c) := by
              rw [hE]
              generalize hSy : pg_S P q (pg_sy P s) (c + (pg_ts P q (pg_sx P s) c).length + 2) = Sy
              generalize hSz : pg_S P q (pg_sz P s) (c + (pg_ts P q (pg_sx P s) c).length + 2 + Sy.length + 3) = Sz
              generalize hts : pg_ts P q (pg_sx P s) c = ts
              have e1 : ts ++ (pg_wd (nI (Sy.length + 3)) ++ (Sy ++ 233 :: pg_wd 0)) = (ts ++ (pg_wd (nI (Sy.length + 3)) ++ (Sy ++ [233]))) ++ pg_wd 0 := by
                simp only [List.append_assoc, List.cons_append, List.nil_append]
              have e2 : (ts ++ (pg_wd (nI (Sy.length + 3)) ++ (Sy ++ [233]))).length = ts.length + 2 + Sy.length + 1 := by
                simp only [List.length_append, pg_wdl, List.length_cons, List.length_nil]; omega
              have e3 := em_dist (c + ts.length + 2 + Sy.length + 1) Sz.length
              rw [show c + ts.length + 2 + Sy.length + 1 + 2 + Sz.length = c + ts.length + 2 + Sy.length + 3 + Sz.length by omega] at e3
              rw [e3, e1]
              have e4 := cm_1 (M := M) (c := c) (ts := ts ++ (pg_wd (nI (Sy.length + 3)) ++ (Sy ++ [233]))) (l := Sz) (w0 := 0) (w := nI Sz.length) (c1 := c + ts.length + 2 + Sy.length + 3) (by rw [e2]; omega)
              rw [e2] at e4
              rw [show c + ts.length + 2 + Sy.length + 1 = c + (ts.length + 2 + Sy.length + 1) by omega, e4]
              simp only [List.append_assoc, List.cons_append, List.nil_append]
            rw [hM5, show c + (pg_ts P q (pg_sx P s) c).length + 2 + (pg_S P q (pg_sy P s) (c + (pg_ts P q (pg_sx P s) c).length + 2)).length + 3 + (pg_S P q (pg_sz P s) (c + (pg_ts P q (pg_sx P s) c).length + 2 + (pg_S P q (pg_sy P s) (c + (pg_ts P q (pg_sx P s) c).length + 2)).length + 3)).length = c + (pg_S P q s c).length by omega]
            exact h
        · have hz2 : pg_sw P s = 1 + pg_ew P (pg_sx P s) + pg_sw P (pg_sy P s) := by
            rcases h2.2.2.2.2 with h | h
            · exact h.2
            · rw [h.1] at hz; exact absurd (nI_pos' (by omega)) hz
          have hE := xs_ifE (P := P) k2 h2.2.2.2.1 hz q c
          have hl : (pg_S P q s c).length = (pg_ts P q (pg_sx P s) c).length + (2 + (pg_S P q (pg_sy P s) (c + (pg_ts P q (pg_sx P s) c).length + 2)).length) := by
            rw [hE]; simp only [List.length_append, List.length_cons, pg_wdl]
          obtain ⟨ed0, ea0, ep0, m0⟩ := em_if0 (u := u) (ed := ed) (sa := sa) (sp := upd sp d (nI (0 + 1))) (pt := pt) (ea := ea) (ep := ep) (M := M) (c := c) (d := d) hX htk hW hq hs k2 hFx (by omega) (by omega)
          have ecl : c + (pg_ts P q (pg_sx P s) c ++ pg_wd 0).length = c + (pg_ts P q (pg_sx P s) c).length + 2 := by rw [List.length_append, pg_wdl, Nat.add_assoc]
          rw [ecl] at m0
          obtain ⟨sa1, sp1, pt1, ed1, ea1, ep1, b1, m1⟩ := ihs (pg_sy P s) h2.2.2.2.1 (by omega) hFy (d + 1) (c + (pg_ts P q (pg_sx P s) c).length + 2) (wl_wr M c (pg_ts P q (pg_sx P s) c ++ pg_wd 0)) (upd sa (d + 1) (nI (pg_sy P s))) (upd (upd sp d (nI (0 + 1))) (d + 1) 0) (upd pt d (nI (c + (pg_ts P q (pg_sx P s) c).length))) ed0 ea0 ep0 pk_us pk_us (by omega) (by omega)
          have c1 := b1 d (by omega)
          rw [pk_un (by omega), pk_un (by omega), pk_us, pk_us] at c1
          refine ⟨sa1, upd sp1 d (nI (1 + 1)), pt1, ed1, ea1, ep1, fun j hj => ?_, fun post h => ?_⟩
          · have f1 := b1 j (by omega)
            rw [pk_un (by omega), pk_un (by omega), pk_un (by omega), pk_un (by omega)] at f1
            exact ⟨f1.1, by rw [pk_un (by omega)]; exact f1.2.1, f1.2.2⟩
          · refine xs_iif (u1 := (zx_c u (nI c) (nI q) (nI (d + 1)) ed sa sp pt ea ep M)) (f := 0) rfl (by omega) hsa (by omega) hkk hsp (by omega) m0 (m1 post ?_)
            refine xs_iif (u1 := (zx_c u (nI (c + (pg_ts P q (pg_sx P s) c).length + 2 + (pg_S P q (pg_sy P s) (c + (pg_ts P q (pg_sx P s) c).length + 2)).length)) (nI q) (nI (d + 1)) ed1 sa1 sp1 pt1 ea1 ep1 (wl_wr (wl_wr M c (pg_ts P q (pg_sx P s) c ++ pg_wd 0)) (c + (pg_ts P q (pg_sx P s) c).length + 2) (pg_S P q (pg_sy P s) (c + (pg_ts P q (pg_sx P s) c).length + 2))))) (f := 1) rfl (by omega) (c1.1.trans hsa) (by omega) hkk c1.2.1 (by omega) (fun Q hQ => em_if2 (hr := nI q) (b := c + (pg_ts P q (pg_sx P s) c).length) (sp := upd sp1 d (nI (1 + 1))) hX hW hs k2 (Or.inl ⟨rfl, hz⟩) (by omega) c1.2.2 (by omega) hQ) ?_
            rw [em_dist, cm_1 rfl, ← hE, show c + (pg_ts P q (pg_sx P s) c).length + 2 + (pg_S P q (pg_sy P s) (c + (pg_ts P q (pg_sx P s) c).length + 2)).length = c + (pg_S P q s c).length by omega]
            exact h
      · by_cases k3 : pg_sk P s = 3
        · have h2 := hWs.2.2.2.2.2.2.2.2.1 k3
          have hwy := (hW.2.2.2.2.2 (pg_sy P s) (by omega)).2.2.2.1
          rw [k3] at hkk
          have hFx := hF.2.2.1 (Or.inr (Or.inl k3))
          have hFy := hF.2.2.2.1 (Or.inr (Or.inr k3)) h2.2.2.2.1
          have hE := xs_whE (P := P) k3 h2.2.2.2.1 q c
          have hl : (pg_S P q s c).length = (pg_ts P q (pg_sx P s) c).length + (2 + ((pg_S P q (pg_sy P s) (c + (pg_ts P q (pg_sx P s) c).length + 2)).length + 3)) := by
            rw [hE]; simp only [List.length_append, List.length_cons, pg_wdl]
          obtain ⟨ed0, ea0, ep0, m0⟩ := em_wh0 (u := u) (ed := ed) (sa := sa) (sp := upd sp d (nI (0 + 1))) (pt := pt) (ea := ea) (ep := ep) (M := M) (c := c) (d := d) hX htk hW hq hs k3 hFx (by omega) (by omega)
          have ecl : c + (pg_ts P q (pg_sx P s) c ++ pg_wd 0).length = c + (pg_ts P q (pg_sx P s) c).length + 2 := by rw [List.length_append, pg_wdl, Nat.add_assoc]
          have hM1 : ww_wr (wl_wr M c (pg_ts P q (pg_sx P s) c ++ pg_wd 0)) (c + (pg_ts P q (pg_sx P s) c).length) (nI c) = wl_wr M c (pg_ts P q (pg_sx P s) c ++ pg_wd (nI c)) := by
            have := cm_1 (M := M) (c := c) (ts := pg_ts P q (pg_sx P s) c) (l := []) (w0 := 0) (w := nI c) (c1 := c + (pg_ts P q (pg_sx P s) c).length + 2) rfl
            rw [List.append_nil] at this
            exact this
          rw [ecl, hM1] at m0
          obtain ⟨sa1, sp1, pt1, ed1, ea1, ep1, b1, m1⟩ := ihs (pg_sy P s) h2.2.2.2.1 (by omega) hFy (d + 1) (c + (pg_ts P q (pg_sx P s) c).length + 2) (wl_wr M c (pg_ts P q (pg_sx P s) c ++ pg_wd (nI c))) (upd sa (d + 1) (nI (pg_sy P s))) (upd (upd sp d (nI (0 + 1))) (d + 1) 0) (upd pt d (nI (c + (pg_ts P q (pg_sx P s) c).length))) ed0 ea0 ep0 pk_us pk_us (by omega) (by omega)
          have c1 := b1 d (by omega)
          rw [pk_un (by omega), pk_un (by omega), pk_us, pk_us] at c1
          have hrd : ww_rd (wl_wr (wl_wr M c (pg_ts P q (pg_sx P s) c ++ pg_wd (nI c))) (c + (pg_ts P q (pg_sx P s) c).length + 2) (pg_S P q (pg_sy P s) (c + (pg_ts P q (pg_sx P s) c).length + 2))) (c + (pg_ts P q (pg_sx P s) c).length) = nI c := by
            rw [ww_r2 (M' := wl_wr M c (pg_ts P q (pg_sx P s) c ++ pg_wd (nI c))) (wl_wn (by omega)) (wl_wn (by omega)), ← hM1, ww_rw, ww_nI (by omega)]
          refine ⟨sa1, upd sp1 d (nI (1 + 1)), pt1, ed1, ea1, ep1, fun j hj => ?_, fun post h => ?_⟩
          · have f1 := b1 j (by omega)
            rw [pk_un (by omega), pk_un (by omega), pk_un (by omega), pk_un (by omega)] at f1
            exact ⟨f1.1, by rw [pk_un (by omega)]; exact f1.2.1, f1.2.2⟩
          · refine xs_iwh (u1 := (zx_c u (nI c) (nI q) (nI (d + 1)) ed sa sp pt ea ep M)) (f := 0) rfl (by omega) hsa (by omega) hkk hsp (by omega) m0 (m1 post ?_)
            refine xs_iwh (u1 := (zx_c u (nI (c + (pg_ts P q (pg_sx P s) c).length + 2 + (pg_S P q (pg_sy P s) (c + (pg_ts P q (pg_sx P s) c).length + 2)).length)) (nI q) (nI (d + 1)) ed1 sa1 sp1 pt1 ea1 ep1 (wl_wr (wl_wr M c (pg_ts P q (pg_sx P s) c ++ pg_wd (nI c))) (c + (pg_ts P q (pg_sx P s) c).length + 2) (pg_S P q (pg_sy P s) (c + (pg_ts P q (pg_sx P s) c).length + 2))))) (f := 1) rfl (by omega) (c1.1.trans hsa) (by omega) hkk c1.2.1 (by omega) (fun Q hQ => em_wh1 (hr := nI q) (b := c + (pg_ts P q (pg_sx P s) c).length) (c0 := c) (sp := upd sp1 d (nI (1 + 1))) (by omega) (by omega) c1.2.2 (by omega) hrd hQ) ?_
            rw [wl_wapp, Nat.add_assoc (c + (pg_ts P q (pg_sx P s) c).length + 2) _ 3, em_dist, cm_1 rfl, ← hE, show c + (pg_ts P q (pg_sx P s) c).length + 2 + ((pg_S P q (pg_sy P s) (c + (pg_ts P q (pg_sx P s) c).length + 2)).length + 3) = c + (pg_S P q s c).length by omega]
            exact h
        · have hkp : pg_sk P s = 6 ∨ pg_sk P s = 0 ∨ pg_sk P s = 4 ∨ pg_sk P s = 5 := by have := hWs.2.1; omega
          obtain ⟨ed', ea', ep', m⟩ := em_plain (u := u) (sd := nI d) (ed := ed) (sa := sa) (sp := upd sp d (nI 1)) (pt := pt) (ea := ea) (ep := ep) (M := M) (c := c) hX htk hW hq hs hkp hFF (by omega)
          refine ⟨sa, upd sp d (nI 1), pt, ed', ea', ep', fun j hj => ⟨rfl, pk_un (by omega), rfl⟩, fun post h => ?_⟩
          exact xs_ipl (u1 := (zx_c u (nI c) (nI q) (nI (d + 1)) ed sa sp pt ea ep M)) rfl (by omega) hsa (by omega) hkk hWs.2.1 ⟨k1, k2, k3⟩ hsp m h
end
section
/-! how long the code is -/
theorem ln_us (P : pg_P) (q v : Nat) (wn : List Int32) (c : Nat) (hw : wn.length ≤ 3) : (pg_us P q v wn c).length ≤ 28 := by
  have := pg_h_le P q (v / 5)
  rw [xu_len]; omega
theorem ln_lv (P : pg_P) (q v c : Nat) : (pg_lv P q v c).length ≤ 28 := by
  unfold pg_lv
  split
  · exact ln_us P q v _ c (by decide)
  · have := pg_h_le P q (v / 5)
    rw [List.length_append, rb_ffl]
    simp only [List.length_cons, List.length_nil]; omega
theorem ln_fn (k : Nat) : (pg_fn k).length ≤ 13 := by
  unfold pg_fn pg_ch
  split
  · exact (by decide : (10 : Nat) ≤ 13)
  · split
    · exact (by decide : (5 : Nat) ≤ 13)
    · split
      · exact (by decide : (5 : Nat) ≤ 13)
      · split
        · exact (by decide : (5 : Nat) ≤ 13)
        · exact Nat.le_refl 13
theorem ln_E {P : pg_P} {np ne ns : Nat} (hW : pg_W P np ne ns) (q : Nat) : ∀ e, e < ne → ∀ c, (pg_E P q e c).length ≤ 28 * pg_ew P e := by
  intro e
  induction e using Nat.strongRecOn with
  | _ e ihe =>
    intro he c
    have hWe := hW.2.2.2.2.1 e he
    have hw := hWe.2.2.2.1
    by_cases k0 : pg_ek P e = 0
    · rw [pg_E, if_pos k0]
      show 3 ≤ _; omega
    · by_cases k1 : pg_ek P e = 1
      · rw [pg_E, if_neg k0, if_pos k1]
        have := ln_lv P q (pg_ex P e) c; omega
      · have hx := hWe.2.2.2.2.2.2.2 (by omega)
        have ix := ihe (pg_ex P e) hx.2.1 (by omega) c
        by_cases k7 : pg_ek P e = 7
        · rw [xe_notE k7 hx.2.1, List.length_append]
          have := hx.2.2.1 k7
          simp only [List.length_cons, List.length_nil]; omega
        · have hy := hx.2.2.2 k7
          have iy := ihe (pg_ey P e) hy.2.1 (by omega) (c + (pg_E P q (pg_ex P e) c).length + 1)
          have hf := ln_fn (pg_ek P e)
          rw [xe_binE (by omega) k7 hx.2.1 hy.2.1]
          simp only [List.length_append, List.length_cons]; omega
theorem ln_ag {P : pg_P} {np ne ns : Nat} (hW : pg_W P np ne ns) (q : Nat) {e : Nat} (he : e < ne) (m c : Nat) : (pg_ag P q e m c).length ≤ 37 * pg_ew P e := by
  have hWe := hW.2.2.2.2.1 e he
  have hw := hWe.2.2.2.1
  unfold pg_ag
  split
  · have hr : (pg_rt P q e (c + 3)).length + 8 ≤ 37 * pg_ew P e := by
      by_cases k1 : pg_ek P e = 1
      · by_cases hb : pg_bn P (pg_ex P e)
        · have := pg_h_le P q (pg_ex P e / 5)
          rw [rt_name k1 hb, List.length_append, xu_len]
          simp only [List.length_cons, List.length_nil]; omega
        · have := pg_h_le P q (pg_ex P e / 5)
          rw [rt_vlen k1 hb]; omega
      · rw [rt_exp k1]
        have hl := ln_E hW q e he (c + 3 + 9)
        simp only [List.length_cons, List.length_append, List.length_nil]
        by_cases k0 : pg_ek P e = 0
        · have h3 : (pg_E P q e (c + 3 + 9)).length = 3 := by rw [pg_E, if_pos k0]; rfl
          omega
        · have hx := hWe.2.2.2.2.2.2.2 (by omega)
          have hwx := (hW.2.2.2.2.1 (pg_ex P e) (by omega)).2.2.2.1
          have h2 : 2 ≤ pg_ew P e := by
            by_cases k7 : pg_ek P e = 7
            · have := hx.2.2.1 k7; omega
            · have := hx.2.2.2 k7; omega
          omega
    simp only [List.length_cons, List.length_append, pg_wdl, List.length_nil]; omega
  · have hl := ln_E hW q e he c
    rw [List.length_append]
    simp only [List.length_cons, List.length_nil]; omega
theorem ln_am {P : pg_P} {np ne ns : Nat} (hW : pg_W P np ne ns) (q e m c : Nat) (he : m ≠ 0 → e < ne) : (pg_am P q e m c).length ≤ 37 * (if m = 0 then 0 else pg_ew P e) := by
  unfold pg_am
  by_cases h : m = 0
  · rw [if_pos h, if_pos h]; exact Nat.le_refl 0
  · rw [if_neg h, if_neg h]; exact ln_ag hW q (he h) m c
theorem ln_S {P : pg_P} {np ne ns : Nat} (hW : pg_W P np ne ns) (q : Nat) : ∀ s, s < ns → ∀ c, (pg_S P q s c).length ≤ 37 * pg_sw P s := by
  intro s
  induction s using Nat.strongRecOn with
  | _ s ihs =>
    intro hs c
    have hWs := hW.2.2.2.2.2 s hs
    have hw := hWs.2.2.2.1
    have hts : ∀ e, e < ne → (pg_ts P q e c).length ≤ 8 + 28 * pg_ew P e := by
      intro e he
      have := ln_E hW q e he (c + 3)
      unfold pg_ts
      simp only [List.length_append, pg_tkl, List.length_cons, List.length_nil]; omega
    by_cases k6 : pg_sk P s = 6
    · rw [pg_S, if_pos k6]; show 0 ≤ _; omega
    · by_cases k0 : pg_sk P s = 0
      · have h0 := hWs.2.2.2.2.2.1 k0
        have hl := ln_E hW q _ h0.2.2.2.1 (c + 3)
        have hst : ∀ c', (pg_st P q (pg_sx P s) c').length ≤ 32 := by
          intro c'
          unfold pg_st
          split
          · have := ln_us P q (pg_sx P s) [185, 1, 0] (c' + 1) (by decide)
            simp only [List.length_cons, List.length_append, List.length_nil]; omega
          · have := pg_h_le P q (pg_sx P s / 5)
            rw [List.length_append, rb_ffl]
            simp only [List.length_cons, List.length_nil]; omega
        have := hst (c + 3 + (pg_E P q (pg_sy P s) (c + 3)).length)
        rw [xs_setE k0]
        simp only [List.length_append, pg_tkl]; omega
      · by_cases k4 : pg_sk P s = 4
        · have h4 := hWs.2.2.2.2.2.2.2.2.2.1 k4
          have hl := ln_E hW q _ h4.2.1 (c + 3)
          rw [xs_printE k4]
          simp only [List.length_append, pg_tkl, List.length_cons, List.length_nil]; omega
        · by_cases k5 : pg_sk P s = 5
          · have h5 := hWs.2.2.2.2.2.2.2.2.2.2 k5
            have a0 := ln_am hW q (pg_sy P s) (pg_md P (pg_sx P s) 0) (c + 3) (fun h => (h5.2.2.1 h).2)
            have a1 := ln_am hW q (pg_sz P s) (pg_md P (pg_sx P s) 1) (c + 3 + (pg_am P q (pg_sy P s) (pg_md P (pg_sx P s) 0) (c + 3)).length) (fun h => (h5.2.2.2.1 h).2)
            have hh := pg_h_le P q (pg_pa P (pg_sx P s))
            have hsw := h5.2.2.2.2
            rw [xs_callE k5]
            simp only [List.length_append, pg_tkl, List.length_cons, List.length_nil, pg_wdl, rb_ffl]
            omega
          · by_cases k1 : pg_sk P s = 1
            · have h1 := hWs.2.2.2.2.2.2.1 k1
              have i1 := ihs _ h1.2.1 (by omega) c
              have i2 := ihs _ h1.2.2.2.1 (by omega) (c + (pg_S P q (pg_sx P s) c).length)
              rw [xs_thenE k1 h1.2.1 h1.2.2.2.1, List.length_append]; omega
            · by_cases k3 : pg_sk P s = 3
              · have h3 := hWs.2.2.2.2.2.2.2.2.1 k3
                have i1 := ihs _ h3.2.2.2.1 (by omega) (c + (pg_ts P q (pg_sx P s) c).length + 2)
                have it := hts _ h3.2.1
                rw [xs_whE k3 h3.2.2.2.1]
                simp only [List.length_append, List.length_cons, pg_wdl]; omega
              · have k2 : pg_sk P s = 2 := by have := hWs.2.1; omega
                have h2 := hWs.2.2.2.2.2.2.2.1 k2
                have i1 := ihs _ h2.2.2.2.1 (by omega) (c + (pg_ts P q (pg_sx P s) c).length + 2)
                have it := hts _ h2.2.1
                by_cases hz : 0 ≤ P 10 s
                · rcases h2.2.2.2.2 with h | h
                  · rw [h.1] at hz; exact absurd hz (by decide)
                  · have i2 := ihs _ h.2.1 (by omega) (c + (pg_ts P q (pg_sx P s) c).length + 2 + (pg_S P q (pg_sy P s) (c + (pg_ts P q (pg_sx P s) c).length + 2)).length + 3)
                    rw [xs_ifE2 k2 h2.2.2.2.1 hz h.2.1]
                    simp only [List.length_append, List.length_cons, pg_wdl]; omega
                · rcases h2.2.2.2.2 with h | h
                  · rw [xs_ifE k2 h2.2.2.2.1 hz]
                    simp only [List.length_append, List.length_cons, pg_wdl]; omega
                  · rw [h.1] at hz; exact absurd (nI_pos' (by have := hW.2.2.1; omega)) hz
theorem ln_pr {P : pg_P} {np ne ns : Nat} (hW : pg_W P np ne ns) {q : Nat} (hb : pg_bo P q < ns) (c : Nat) : (pg_pr P q c).length ≤ 626 := by
  have h1 := ln_S hW q _ hb (c + 24)
  have h2 := (hW.2.2.2.2.2 _ hb).2.2.2.2.1
  unfold pg_pr
  rw [List.length_append, List.length_append, show pg_hd.length = 24 from rfl, show (pg_tl P q).length = 10 from rfl]
  omega
/-! a procedure -/
section
variable {u : SX} {P : pg_P} {np ne ns p : Nat} {hr sd ed : Int32} {sa sp pt ea ep M : Nat → Int32} {c : Nat}
theorem em_S (hX : xp_P u P np ne ns) (htk : xf_tickAt u = 76) (hW : pg_W P np ne ns) (hp : p < np) {s : Nat} (hs : s < ns) (hF : pg_FS P np p s) (hc : c + (pg_S P p s c).length + 70 ≤ 4000) :
    ∃ (sd' ed' : Int32) (sa' sp' pt' ea' ep' : Nat → Int32), ∀ K : SX → Prop, K (zx_c u (nI (c + (pg_S P p s c).length)) (nI p) sd' ed' sa' sp' pt' ea' ep' (wl_wr M c (pg_S P p s c))) → wpX_compileState K (zx_c u (nI c) (nI p) sd ed sa sp pt ea ep M) (nI s) := by
  have h40 := hW.2.2.1
  have hw := (hW.2.2.2.2.2 s hs).2.2.2.2.1
  obtain ⟨sa', sp', pt', ed', ea', ep', _, m⟩ := cs_all hX htk hW hp s hs hF 0 c M (upd sa 0 (nI s)) (upd sp 0 0) pt ed ea ep pk_us pk_us (by omega) hc
  refine ⟨nI 0, ed', sa', sp', pt', ea', ep', fun K h => ?_⟩
  unfold wpX_compileState
  refine em_ents (u := u) (c := c) (d := 0) (M := M) (sa := sa) (sp := sp) (hr := nI p) (by omega) (by omega) ?_
  exact m K (xs_done rfl h)
theorem em_proc (hX : xp_P u P np ne ns) (htk : xf_tickAt u = 76) (hW : pg_W P np ne ns) (hp : p < np) (hb : P 2 p = nI (pg_bo P p)) (hbn : pg_bo P p < ns) (hF : pg_FS P np p (pg_bo P p)) (hc : c + (pg_pr P p c).length + 80 ≤ 4000) :
    ∃ (sd' ed' : Int32) (sa' sp' pt' ea' ep' : Nat → Int32), ∀ K : SX → Prop, K (zx_c u (nI (c + (pg_pr P p c).length)) (nI p) sd' ed' sa' sp' pt' ea' ep' (wl_wr (ww_wr M (32 + 2 * p) (nI c)) c (pg_pr P p c))) → wpX_compileProcedure K (zx_c u (nI c) hr sd ed sa sp pt ea ep M) (nI p) := by
  have h5 := hW.1
  have hl : (pg_pr P p c).length = 24 + ((pg_S P p (pg_bo P p) (c + 24)).length + 10) := by
    unfold pg_pr; rw [List.length_append, List.length_append]; rfl
  have e32 : (32 : Int32) + 2 * nI p = nI (32 + 2 * p) := by
    rw [show (2 : Int32) * nI p = nI (2 * p) from pk_mul 2 _]; exact nI_add 32 _
  have hbo : xf_bodyOf u (nI p).toNatClampNeg = nI (pg_bo P p) := by rw [nI_clamp (by omega), hX.2.2.2.2.2.1 p hp]; exact hb
  obtain ⟨sd', ed', sa', sp', pt', ea', ep', m⟩ := em_S (u := u) (sd := sd) (ed := ed) (sa := sa) (sp := sp) (pt := pt) (ea := ea) (ep := ep) (M := wl_wr (ww_wr M (32 + 2 * p) (nI c)) c pg_hd) (c := c + 24) hX htk hW hp hbn hF (by omega)
  refine ⟨sd', ed', sa', sp', pt', ea', ep', fun K h => ?_⟩
  unfold wpX_compileProcedure
  rw [e32]
  refine em_set (hr := nI p) (a := 32 + 2 * p) (by omega) ?_
  generalize ww_wr M (32 + 2 * p) (nI c) = M1 at *
  refine em_put (hr := nI p) (c := c) (M := M1) (by omega) ?_
  refine em_put2 (hr := nI p) (c := c + 1) (M := wl_wr M1 c [85]) (by omega) ?_
  refine em_put2 (hr := nI p) (c := c + 3) (M := wl_wr M1 c [85, 139, 236]) (by omega) ?_
  refine em_word (hr := nI p) (c := c + 5) (M := wl_wr M1 c [85, 139, 236, 131, 62]) (by omega) ?_
  rw [show pg_wd 4 = [4, 0] by decide]
  refine em_put (hr := nI p) (c := c + 7) (M := wl_wr M1 c [85, 139, 236, 131, 62, 4, 0]) (by omega) ?_
  refine em_put2 (hr := nI p) (c := c + 8) (M := wl_wr M1 c [85, 139, 236, 131, 62, 4, 0, 12]) (by omega) ?_
  refine em_stop (hr := nI p) (c := c + 10) (M := wl_wr M1 c [85, 139, 236, 131, 62, 4, 0, 12, 124, 5]) (l := [184, 2, 0, 205, 0]) (by decide) (by omega) ?_
  refine em_put2 (hr := nI p) (c := c + 15) (M := wl_wr M1 c [85, 139, 236, 131, 62, 4, 0, 12, 124, 5, 184, 2, 0, 205, 0]) (by omega) ?_
  refine em_word (hr := nI p) (c := c + 17) (M := wl_wr M1 c [85, 139, 236, 131, 62, 4, 0, 12, 124, 5, 184, 2, 0, 205, 0, 255, 6]) (by omega) ?_
  rw [show pg_wd 4 = [4, 0] by decide]
  refine em_put2 (hr := nI p) (c := c + 19) (M := wl_wr M1 c [85, 139, 236, 131, 62, 4, 0, 12, 124, 5, 184, 2, 0, 205, 0, 255, 6, 4, 0]) (by omega) ?_
  refine em_put3 (hr := nI p) (c := c + 21) (M := wl_wr M1 c [85, 139, 236, 131, 62, 4, 0, 12, 124, 5, 184, 2, 0, 205, 0, 255, 6, 4, 0, 51, 192]) (by omega) ⟨vp_in_nI (by omega) (by omega), ?_⟩
  show wpX_compileState _ _ (xf_bodyOf u (nI p).toNatClampNeg)
  rw [hbo]
  refine m _ ?_
  have h3 : ∀ t : List Int32, t = pg_tl P p → K (zx_c u (nI (c + 24 + (pg_S P p (pg_bo P p) (c + 24)).length + t.length)) (nI p) sd' ed' sa' sp' pt' ea' ep' (wl_wr (wl_wr (wl_wr M1 c pg_hd) (c + 24) (pg_S P p (pg_bo P p) (c + 24))) (c + 24 + (pg_S P p (pg_bo P p) (c + 24)).length) t)) := by
    intro t ht
    subst ht
    exact em_3 rfl rfl h
  generalize wl_wr (wl_wr M1 c pg_hd) (c + 24) (pg_S P p (pg_bo P p) (c + 24)) = N at *
  have hcc : c + 24 + (pg_S P p (pg_bo P p) (c + 24)).length + 20 ≤ 4000 := by omega
  generalize c + 24 + (pg_S P p (pg_bo P p) (c + 24)).length = d at *
  refine em_put2 (c := d) (M := N) (by omega) ?_
  refine em_put2 (c := d + 2) (M := wl_wr N d [139, 229]) (by omega) ?_
  refine em_word (c := d + 4) (M := wl_wr N d [139, 229, 255, 14]) (by omega) ?_
  rw [show pg_wd 4 = [4, 0] by decide]
  refine em_put (c := d + 6) (M := wl_wr N d [139, 229, 255, 14, 4, 0]) (by omega) ?_
  refine em_put (c := d + 7) (M := wl_wr N d [139, 229, 255, 14, 4, 0, 93]) (by omega) ?_
  refine xh_size (u := (zx_c u (nI (d + 8)) (nI p) sd' ed' sa' sp' pt' ea' ep' (wl_wr N d [139, 229, 255, 14, 4, 0, 93, 194]))) (q := p) (k := 0) hX hW hp (by omega) ?_
  refine xh_size (u := (zx_c u (nI (d + 8)) (nI p) sd' ed' sa' sp' pt' ea' ep' (wl_wr N d [139, 229, 255, 14, 4, 0, 93, 194]))) (q := p) (k := 1) hX hW hp (by omega) ?_
  have ew : ((2 : Int32) + nI (2 * pg_md P p 0)) + nI (2 * pg_md P p 1) = nI (2 + 2 * pg_aw P p) := by
    rw [show (2 : Int32) + nI (2 * pg_md P p 0) = nI (2 + 2 * pg_md P p 0) from nI_add 2 _, nI_add]
    unfold pg_aw
    exact congrArg nI (by omega)
  refine nm_r ew ?_
  exact em_word (c := d + 8) (M := wl_wr N d [139, 229, 255, 14, 4, 0, 93, 194]) (by omega) (h3 _ rfl)
end
end
section
/-! the whole program is compiled -/
def cc_I (P : pg_P) (p c : Nat) (M : Nat → Int32) : Prop :=
  94 ≤ c ∧ c ≤ 94 + 626 * p ∧ wl_At M 64 pg_s0 ∧ wl_At M 76 pg_s1 ∧ ∀ q, q < p → ∃ a, 94 ≤ a ∧ a + (pg_pr P q a).length ≤ c ∧ ww_rd M (32 + 2 * q) = nI a ∧ wl_At M a (pg_pr P q a)
theorem cc_step {P : pg_P} {p c : Nat} {M : Nat → Int32} (hp : p < 5) (hl : (pg_pr P p c).length ≤ 626) (h : cc_I P p c M) : cc_I P (p + 1) (c + (pg_pr P p c).length) (wl_wr (ww_wr M (32 + 2 * p) (nI c)) c (pg_pr P p c)) := by
  obtain ⟨h1, h2, h3, h4, h5⟩ := h
  have ag : ∀ j, 64 ≤ j → j < c → wl_wr (ww_wr M (32 + 2 * p) (nI c)) c (pg_pr P p c) j = M j := by
    intro j hj hc
    rw [wl_wn (by omega), ww_wn (by omega) (by omega)]
  refine ⟨by omega, by omega, wl_ext (fun j ha hb => ag j ha (by have : pg_s0.length = 12 := rfl; omega)) h3, wl_ext (fun j ha hb => ag j (by omega) (by have : pg_s1.length = 18 := rfl; omega)) h4, fun q hq => ?_⟩
  by_cases e : q = p
  · subst e
    refine ⟨c, h1, Nat.le_refl _, ?_, wl_wat⟩
    rw [ww_r2 (M' := ww_wr M (32 + 2 * q) (nI c)) (wl_wn (by omega)) (wl_wn (by omega)), ww_rw, ww_nI (by omega)]
  · obtain ⟨a, a1, a2, a3, a4⟩ := h5 q (by omega)
    refine ⟨a, a1, by omega, ?_, wl_ext (fun j ha hb => ag j (by omega) (by omega)) a4⟩
    rw [ww_r2 (M' := ww_wr M (32 + 2 * p) (nI c)) (wl_wn (by omega)) (wl_wn (by omega)), ww_rn (by omega)]
    exact a3
section
variable {u1 u2 : SX} {post : SX → Prop} {np p n : Nat}
theorem xcp_end (hc : xf_procedureCount u1 = nI np) (h31 : p < 1000) (hp : np ≤ p) (h : post u1) : xcp_W post (n + 1) (nI p) u1 := by
  have e : xf_procedureCount u1 ≤ nI p := by rw [hc]; exact nI_le hp (by omega)
  exact br_t e h
theorem xcp_it (hc : xf_procedureCount u1 = nI np) (h31 : np < 1000) (hp : p < np) (hq : ∀ Q : SX → Prop, Q u2 → wpX_compileProcedure Q u1 (nI p)) (h : xcp_W post n (nI (p + 1)) u2) : xcp_W post (n + 1) (nI p) u1 := by
  have e : ¬ xf_procedureCount u1 ≤ nI p := by rw [hc]; exact nI_ge hp (by omega)
  exact br_f e (hq _ (nm_r (nI_1 p) h))
end
theorem cc_all {u : SX} {P : pg_P} {np ne ns : Nat} (hX : xp_P u P np ne ns) (htk : xf_tickAt u = 76) (hW : pg_W P np ne ns) (hV : ∀ q, q < np → P 2 q = nI (pg_bo P q) ∧ pg_bo P q < ns ∧ pg_FS P np q (pg_bo P q)) :
    ∀ (m p c : Nat) (hr sd ed : Int32) (sa sp pt ea ep M : Nat → Int32), p + m = np → cc_I P p c M →
      ∃ (c' : Nat) (hr' sd' ed' : Int32) (sa' sp' pt' ea' ep' M' : Nat → Int32), cc_I P np c' M' ∧ ∀ post : SX → Prop, post (zx_c u (nI c') hr' sd' ed' sa' sp' pt' ea' ep' M') → xcp_W post (m + 1) (nI p) (zx_c u (nI c) hr sd ed sa sp pt ea ep M) := by
  have h5 := hW.1
  intro m
  induction m with
  | zero =>
    intro p c hr sd ed sa sp pt ea ep M hp hI
    rw [Nat.add_zero] at hp
    subst hp
    exact ⟨c, hr, sd, ed, sa, sp, pt, ea, ep, M, hI, fun post h => xcp_end (u1 := (zx_c u (nI c) hr sd ed sa sp pt ea ep M)) hX.1 (by omega) (Nat.le_refl _) h⟩
  | succ m ih =>
    intro p c hr sd ed sa sp pt ea ep M hp hI
    have hv := hV p (by omega)
    have hl := ln_pr hW hv.2.1 c
    have hc := hI.2.1
    obtain ⟨sd1, ed1, sa1, sp1, pt1, ea1, ep1, m1⟩ := em_proc (u := u) (hr := hr) (sd := sd) (ed := ed) (sa := sa) (sp := sp) (pt := pt) (ea := ea) (ep := ep) (M := M) (c := c) (p := p) hX htk hW (by omega) hv.1 hv.2.1 hv.2.2 (by omega)
    obtain ⟨c', hr', sd', ed', sa', sp', pt', ea', ep', M', hI', m2⟩ := ih (p + 1) (c + (pg_pr P p c).length) (nI p) sd1 ed1 sa1 sp1 pt1 ea1 ep1 (wl_wr (ww_wr M (32 + 2 * p) (nI c)) c (pg_pr P p c)) (by omega) (cc_step (by omega) hl hI)
    exact ⟨c', hr', sd', ed', sa', sp', pt', ea', ep', M', hI', fun post h => xcp_it (u1 := (zx_c u (nI c) hr sd ed sa sp pt ea ep M)) hX.1 (by omega) (by omega) m1 (m2 post h)⟩
theorem cc_OK {P : pg_P} {np c : Nat} {M : Nat → Int32} (hnp : np ≤ 5) (h : cc_I P np c M) : pg_OK P np M := by
  refine ⟨h.2.2.1, h.2.2.2.1, fun q hq => ?_⟩
  obtain ⟨a, a1, a2, a3, a4⟩ := h.2.2.2.2 q hq
  have := h.2.1
  exact ⟨a, a1, by omega, a3, a4⟩
theorem cc_I0 {P : pg_P} {M : Nat → Int32} : cc_I P 0 94 (wl_wr (wl_wr M 64 pg_s0) 76 pg_s1) := by
  refine ⟨Nat.le_refl _, by omega, ?_, wl_wat, fun q hq => absurd hq (Nat.not_lt_zero q)⟩
  refine wl_ext (fun j ha hb => ?_) (wl_wat (M := M) (a := 64) (l := pg_s0))
  have : pg_s0.length = 12 := rfl
  exact wl_wn (by omega)
abbrev zx_0 (u : SX) (ch : Int32) (ce : Int32) : SX := (u.1, u.2.1, u.2.2.1, ch, ce, u.2.2.2.2.2.1, u.2.2.2.2.2.2.1, u.2.2.2.2.2.2.2.1, u.2.2.2.2.2.2.2.2.1, u.2.2.2.2.2.2.2.2.2.1, u.2.2.2.2.2.2.2.2.2.2.1, u.2.2.2.2.2.2.2.2.2.2.2.1, u.2.2.2.2.2.2.2.2.2.2.2.2.1, u.2.2.2.2.2.2.2.2.2.2.2.2.2.1, u.2.2.2.2.2.2.2.2.2.2.2.2.2.2.1, u.2.2.2.2.2.2.2.2.2.2.2.2.2.2.2.1, u.2.2.2.2.2.2.2.2.2.2.2.2.2.2.2.2.1, u.2.2.2.2.2.2.2.2.2.2.2.2.2.2.2.2.2.1, u.2.2.2.2.2.2.2.2.2.2.2.2.2.2.2.2.2.2.1, u.2.2.2.2.2.2.2.2.2.2.2.2.2.2.2.2.2.2.2.1, u.2.2.2.2.2.2.2.2.2.2.2.2.2.2.2.2.2.2.2.2.1, u.2.2.2.2.2.2.2.2.2.2.2.2.2.2.2.2.2.2.2.2.2.1, u.2.2.2.2.2.2.2.2.2.2.2.2.2.2.2.2.2.2.2.2.2.2.1, u.2.2.2.2.2.2.2.2.2.2.2.2.2.2.2.2.2.2.2.2.2.2.2.1, u.2.2.2.2.2.2.2.2.2.2.2.2.2.2.2.2.2.2.2.2.2.2.2.2.1, u.2.2.2.2.2.2.2.2.2.2.2.2.2.2.2.2.2.2.2.2.2.2.2.2.2.1, u.2.2.2.2.2.2.2.2.2.2.2.2.2.2.2.2.2.2.2.2.2.2.2.2.2.2.1, u.2.2.2.2.2.2.2.2.2.2.2.2.2.2.2.2.2.2.2.2.2.2.2.2.2.2.2.1, u.2.2.2.2.2.2.2.2.2.2.2.2.2.2.2.2.2.2.2.2.2.2.2.2.2.2.2.2.1, u.2.2.2.2.2.2.2.2.2.2.2.2.2.2.2.2.2.2.2.2.2.2.2.2.2.2.2.2.2.1, u.2.2.2.2.2.2.2.2.2.2.2.2.2.2.2.2.2.2.2.2.2.2.2.2.2.2.2.2.2.2.1, u.2.2.2.2.2.2.2.2.2.2.2.2.2.2.2.2.2.2.2.2.2.2.2.2.2.2.2.2.2.2.2.1, u.2.2.2.2.2.2.2.2.2.2.2.2.2.2.2.2.2.2.2.2.2.2.2.2.2.2.2.2.2.2.2.2.1, u.2.2.2.2.2.2.2.2.2.2.2.2.2.2.2.2.2.2.2.2.2.2.2.2.2.2.2.2.2.2.2.2.2.1, u.2.2.2.2.2.2.2.2.2.2.2.2.2.2.2.2.2.2.2.2.2.2.2.2.2.2.2.2.2.2.2.2.2.2.1, u.2.2.2.2.2.2.2.2.2.2.2.2.2.2.2.2.2.2.2.2.2.2.2.2.2.2.2.2.2.2.2.2.2.2.2.1, u.2.2.2.2.2.2.2.2.2.2.2.2.2.2.2.2.2.2.2.2.2.2.2.2.2.2.2.2.2.2.2.2.2.2.2.2.1, u.2.2.2.2.2.2.2.2.2.2.2.2.2.2.2.2.2.2.2.2.2.2.2.2.2.2.2.2.2.2.2.2.2.2.2.2.2.1, u.2.2.2.2.2.2.2.2.2.2.2.2.2.2.2.2.2.2.2.2.2.2.2.2.2.2.2.2.2.2.2.2.2.2.2.2.2.2)
theorem cc_g {u s0 a1 a2 a3 a4 a5 b0 b1 b2 b3 b4 b5 b6 b7 b8 : SX} {post : SX → Prop} (e0 : s0 = zx_0 u 0 64) (p1 : ∀ Q : SX → Prop, Q a1 → wpX_put Q s0 80) (p2 : ∀ Q : SX → Prop, Q a2 → wpX_put2 Q a1 139 54) (p3 : ∀ Q : SX → Prop, Q a3 → wpX_putWord Q a2 32) (p4 : ∀ Q : SX → Prop, Q a4 → wpX_put2 Q a3 255 214) (p5 : ∀ Q : SX → Prop, Q a5 → wpX_stop Q a4 0) {ch ce : Int32} (e1 : b0 = zx_t a5 ch ce) (hch : xf_changed a5 = ch) (hce : xf_codeEnd a5 = ce) (q1 : ∀ Q : SX → Prop, Q b1 → wpX_put2 Q b0 129 62) (q2 : ∀ Q : SX → Prop, Q b2 → wpX_putWord Q b1 2) (q3 : ∀ Q : SX → Prop, Q b3 → wpX_putWord Q b2 500) (q4 : ∀ Q : SX → Prop, Q b4 → wpX_put2 Q b3 124 5) (q5 : ∀ Q : SX → Prop, Q b5 → wpX_stop Q b4 1) (q6 : ∀ Q : SX → Prop, Q b6 → wpX_put2 Q b5 255 6) (q7 : ∀ Q : SX → Prop, Q b7 → wpX_putWord Q b6 2) (q8 : ∀ Q : SX → Prop, Q b8 → wpX_put Q b7 195) (h : ∃ n, xcp_W post n (nI 0) b8) : wpX_compile post u := by
  subst e0
  subst hch
  subst hce
  subst e1
  unfold wpX_compile
  refine p1 _ ?_
  refine p2 _ ?_
  refine p3 _ ?_
  refine p4 _ ?_
  refine p5 _ ?_
  refine q1 _ ?_
  refine q2 _ ?_
  refine q3 _ ?_
  refine q4 _ ?_
  refine q5 _ ?_
  refine q6 _ ?_
  refine q7 _ ?_
  refine q8 _ ?_
  exact h
theorem cc_a1 {u : SX} {hr sd ed : Int32} {sa sp pt ea ep M : Nat → Int32} {Q : SX → Prop} (hQ : Q (zx_c u (nI 65) hr sd ed sa sp pt ea ep (wl_wr M 64 [80]))) : wpX_put Q (zx_c u (nI 64) hr sd ed sa sp pt ea ep M) 80 := by
  exact em_put (c := 64) (M := M) (by omega) hQ
theorem cc_a2 {u : SX} {hr sd ed : Int32} {sa sp pt ea ep M : Nat → Int32} {Q : SX → Prop} (hQ : Q (zx_c u (nI 67) hr sd ed sa sp pt ea ep (wl_wr M 64 [80, 139, 54]))) : wpX_put2 Q (zx_c u (nI 65) hr sd ed sa sp pt ea ep (wl_wr M 64 [80])) 139 54 := by
  exact em_put2 (c := 65) (M := (wl_wr M 64 [80])) (by omega) hQ
theorem cc_a3 {u : SX} {hr sd ed : Int32} {sa sp pt ea ep M : Nat → Int32} {Q : SX → Prop} (hQ : Q (zx_c u (nI 69) hr sd ed sa sp pt ea ep (wl_wr M 64 [80, 139, 54, 32, 0]))) : wpX_putWord Q (zx_c u (nI 67) hr sd ed sa sp pt ea ep (wl_wr M 64 [80, 139, 54])) 32 := by
  refine em_word (c := 67) (M := (wl_wr M 64 [80, 139, 54])) (by omega) ?_
  rw [show pg_wd 32 = [32, 0] by decide]
  exact hQ
theorem cc_a4 {u : SX} {hr sd ed : Int32} {sa sp pt ea ep M : Nat → Int32} {Q : SX → Prop} (hQ : Q (zx_c u (nI 71) hr sd ed sa sp pt ea ep (wl_wr M 64 [80, 139, 54, 32, 0, 255, 214]))) : wpX_put2 Q (zx_c u (nI 69) hr sd ed sa sp pt ea ep (wl_wr M 64 [80, 139, 54, 32, 0])) 255 214 := by
  exact em_put2 (c := 69) (M := (wl_wr M 64 [80, 139, 54, 32, 0])) (by omega) hQ
theorem cc_a5 {u : SX} {hr sd ed : Int32} {sa sp pt ea ep M : Nat → Int32} {Q : SX → Prop} (hQ : Q (zx_c u (nI 76) hr sd ed sa sp pt ea ep (wl_wr M 64 [80, 139, 54, 32, 0, 255, 214, 184, 0, 0, 205, 0]))) : wpX_stop Q (zx_c u (nI 71) hr sd ed sa sp pt ea ep (wl_wr M 64 [80, 139, 54, 32, 0, 255, 214])) 0 := by
  exact em_stop (c := 71) (M := (wl_wr M 64 [80, 139, 54, 32, 0, 255, 214])) (l := [184, 0, 0, 205, 0]) (by decide) (by omega) hQ
theorem cc_b1 {u : SX} {hr sd ed : Int32} {sa sp pt ea ep M : Nat → Int32} {Q : SX → Prop} (hQ : Q (zx_c u (nI 78) hr sd ed sa sp pt ea ep (wl_wr M 76 [129, 62]))) : wpX_put2 Q (zx_c u (nI 76) hr sd ed sa sp pt ea ep M) 129 62 := by
  exact em_put2 (c := 76) (M := M) (by omega) hQ
theorem cc_b2 {u : SX} {hr sd ed : Int32} {sa sp pt ea ep M : Nat → Int32} {Q : SX → Prop} (hQ : Q (zx_c u (nI 80) hr sd ed sa sp pt ea ep (wl_wr M 76 [129, 62, 2, 0]))) : wpX_putWord Q (zx_c u (nI 78) hr sd ed sa sp pt ea ep (wl_wr M 76 [129, 62])) 2 := by
  refine em_word (c := 78) (M := (wl_wr M 76 [129, 62])) (by omega) ?_
  rw [show pg_wd 2 = [2, 0] by decide]
  exact hQ
theorem cc_b3 {u : SX} {hr sd ed : Int32} {sa sp pt ea ep M : Nat → Int32} {Q : SX → Prop} (hQ : Q (zx_c u (nI 82) hr sd ed sa sp pt ea ep (wl_wr M 76 [129, 62, 2, 0, 244, 1]))) : wpX_putWord Q (zx_c u (nI 80) hr sd ed sa sp pt ea ep (wl_wr M 76 [129, 62, 2, 0])) 500 := by
  refine em_word (c := 80) (M := (wl_wr M 76 [129, 62, 2, 0])) (by omega) ?_
  rw [show pg_wd 500 = [244, 1] by decide]
  exact hQ
theorem cc_b4 {u : SX} {hr sd ed : Int32} {sa sp pt ea ep M : Nat → Int32} {Q : SX → Prop} (hQ : Q (zx_c u (nI 84) hr sd ed sa sp pt ea ep (wl_wr M 76 [129, 62, 2, 0, 244, 1, 124, 5]))) : wpX_put2 Q (zx_c u (nI 82) hr sd ed sa sp pt ea ep (wl_wr M 76 [129, 62, 2, 0, 244, 1])) 124 5 := by
  exact em_put2 (c := 82) (M := (wl_wr M 76 [129, 62, 2, 0, 244, 1])) (by omega) hQ
theorem cc_b5 {u : SX} {hr sd ed : Int32} {sa sp pt ea ep M : Nat → Int32} {Q : SX → Prop} (hQ : Q (zx_c u (nI 89) hr sd ed sa sp pt ea ep (wl_wr M 76 [129, 62, 2, 0, 244, 1, 124, 5, 184, 1, 0, 205, 0]))) : wpX_stop Q (zx_c u (nI 84) hr sd ed sa sp pt ea ep (wl_wr M 76 [129, 62, 2, 0, 244, 1, 124, 5])) 1 := by
  exact em_stop (c := 84) (M := (wl_wr M 76 [129, 62, 2, 0, 244, 1, 124, 5])) (l := [184, 1, 0, 205, 0]) (by decide) (by omega) hQ
theorem cc_b6 {u : SX} {hr sd ed : Int32} {sa sp pt ea ep M : Nat → Int32} {Q : SX → Prop} (hQ : Q (zx_c u (nI 91) hr sd ed sa sp pt ea ep (wl_wr M 76 [129, 62, 2, 0, 244, 1, 124, 5, 184, 1, 0, 205, 0, 255, 6]))) : wpX_put2 Q (zx_c u (nI 89) hr sd ed sa sp pt ea ep (wl_wr M 76 [129, 62, 2, 0, 244, 1, 124, 5, 184, 1, 0, 205, 0])) 255 6 := by
  exact em_put2 (c := 89) (M := (wl_wr M 76 [129, 62, 2, 0, 244, 1, 124, 5, 184, 1, 0, 205, 0])) (by omega) hQ
theorem cc_b7 {u : SX} {hr sd ed : Int32} {sa sp pt ea ep M : Nat → Int32} {Q : SX → Prop} (hQ : Q (zx_c u (nI 93) hr sd ed sa sp pt ea ep (wl_wr M 76 [129, 62, 2, 0, 244, 1, 124, 5, 184, 1, 0, 205, 0, 255, 6, 2, 0]))) : wpX_putWord Q (zx_c u (nI 91) hr sd ed sa sp pt ea ep (wl_wr M 76 [129, 62, 2, 0, 244, 1, 124, 5, 184, 1, 0, 205, 0, 255, 6])) 2 := by
  refine em_word (c := 91) (M := (wl_wr M 76 [129, 62, 2, 0, 244, 1, 124, 5, 184, 1, 0, 205, 0, 255, 6])) (by omega) ?_
  rw [show pg_wd 2 = [2, 0] by decide]
  exact hQ
theorem cc_b8 {u : SX} {hr sd ed : Int32} {sa sp pt ea ep M : Nat → Int32} {Q : SX → Prop} (hQ : Q (zx_c u (nI 94) hr sd ed sa sp pt ea ep (wl_wr M 76 [129, 62, 2, 0, 244, 1, 124, 5, 184, 1, 0, 205, 0, 255, 6, 2, 0, 195]))) : wpX_put Q (zx_c u (nI 93) hr sd ed sa sp pt ea ep (wl_wr M 76 [129, 62, 2, 0, 244, 1, 124, 5, 184, 1, 0, 205, 0, 255, 6, 2, 0])) 195 := by
  exact em_put (c := 93) (M := (wl_wr M 76 [129, 62, 2, 0, 244, 1, 124, 5, 184, 1, 0, 205, 0, 255, 6, 2, 0])) (by omega) hQ
theorem cc_e0 {u : SX} : zx_c (zx_t u 0 (xf_tickAt u)) (nI 64) (xf_here u) (xf_stateDepth u) (xf_expressionDepth u) (xf_stateAt u) (xf_statePhase u) (xf_statePatch u) (xf_expressionAt u) (xf_expressionPhase u) (xf_memory u) = zx_0 u 0 64 := by
  simp only [zx_t, zx_c, zx_0, xf_tickAt, xf_here, xf_stateDepth, xf_expressionDepth, xf_stateAt, xf_statePhase, xf_statePatch, xf_expressionAt, xf_expressionPhase, xf_memory]
  rfl
theorem cc_t1 {u : SX} {c hr sd ed a b : Int32} {sa sp pt ea ep M : Nat → Int32} : zx_t (zx_c u c hr sd ed sa sp pt ea ep M) a b = zx_c (zx_t u a b) c hr sd ed sa sp pt ea ep M := by
  simp only [zx_t, zx_c, zx_0, xf_tickAt, xf_here, xf_stateDepth, xf_expressionDepth, xf_stateAt, xf_statePhase, xf_statePatch, xf_expressionAt, xf_expressionPhase, xf_memory]
theorem cc_t2 {u : SX} {a b c d : Int32} : zx_t (zx_t u a b) c d = zx_t u c d := by
  simp only [zx_t, zx_c, zx_0, xf_tickAt, xf_here, xf_stateDepth, xf_expressionDepth, xf_stateAt, xf_statePhase, xf_statePatch, xf_expressionAt, xf_expressionPhase, xf_memory]
theorem cc_t3 {u : SX} {c hr sd ed : Int32} {sa sp pt ea ep M : Nat → Int32} : xf_changed (zx_c u c hr sd ed sa sp pt ea ep M) = xf_changed u := rfl
theorem cc_t4 {u : SX} {a b : Int32} : xf_changed (zx_t u a b) = a := rfl
theorem cc_t5 {u : SX} {c hr sd ed : Int32} {sa sp pt ea ep M : Nat → Int32} : xf_codeEnd (zx_c u c hr sd ed sa sp pt ea ep M) = c := rfl
theorem cc_e1 {u : SX} {t c hr sd ed a b : Int32} {sa sp pt ea ep M : Nat → Int32} : zx_c (zx_t u a b) c hr sd ed sa sp pt ea ep M = zx_t (zx_c (zx_t u 0 t) c hr sd ed sa sp pt ea ep M) a b := by
  have h1 := cc_t1 (u := zx_t u 0 t) (c := c) (hr := hr) (sd := sd) (ed := ed) (a := a) (b := b) (sa := sa) (sp := sp) (pt := pt) (ea := ea) (ep := ep) (M := M)
  have h2 := congrArg (fun w => zx_c w c hr sd ed sa sp pt ea ep M) (cc_t2 (u := u) (a := 0) (b := t) (c := a) (d := b))
  exact (h1.trans h2).symm
theorem cc_w {u : SX} {post : SX → Prop}
    (h : ∃ n, xcp_W post n (nI 0) (zx_c (zx_t u 0 (nI 76)) (nI 94) (xf_here u) (xf_stateDepth u) (xf_expressionDepth u) (xf_stateAt u) (xf_statePhase u) (xf_statePatch u) (xf_expressionAt u) (xf_expressionPhase u) (wl_wr (wl_wr (xf_memory u) 64 pg_s0) 76 pg_s1))) : wpX_compile post u :=
  cc_g cc_e0 (fun Q hQ => cc_a1 (u := zx_t u 0 (xf_tickAt u)) (hr := xf_here u) (sd := xf_stateDepth u) (ed := xf_expressionDepth u) (sa := xf_stateAt u) (sp := xf_statePhase u) (pt := xf_statePatch u) (ea := xf_expressionAt u) (ep := xf_expressionPhase u) (M := xf_memory u) hQ) (fun Q hQ => cc_a2 (u := zx_t u 0 (xf_tickAt u)) (hr := xf_here u) (sd := xf_stateDepth u) (ed := xf_expressionDepth u) (sa := xf_stateAt u) (sp := xf_statePhase u) (pt := xf_statePatch u) (ea := xf_expressionAt u) (ep := xf_expressionPhase u) (M := xf_memory u) hQ) (fun Q hQ => cc_a3 (u := zx_t u 0 (xf_tickAt u)) (hr := xf_here u) (sd := xf_stateDepth u) (ed := xf_expressionDepth u) (sa := xf_stateAt u) (sp := xf_statePhase u) (pt := xf_statePatch u) (ea := xf_expressionAt u) (ep := xf_expressionPhase u) (M := xf_memory u) hQ) (fun Q hQ => cc_a4 (u := zx_t u 0 (xf_tickAt u)) (hr := xf_here u) (sd := xf_stateDepth u) (ed := xf_expressionDepth u) (sa := xf_stateAt u) (sp := xf_statePhase u) (pt := xf_statePatch u) (ea := xf_expressionAt u) (ep := xf_expressionPhase u) (M := xf_memory u) hQ) (fun Q hQ => cc_a5 (u := zx_t u 0 (xf_tickAt u)) (hr := xf_here u) (sd := xf_stateDepth u) (ed := xf_expressionDepth u) (sa := xf_stateAt u) (sp := xf_statePhase u) (pt := xf_statePatch u) (ea := xf_expressionAt u) (ep := xf_expressionPhase u) (M := xf_memory u) hQ) cc_e1 (cc_t3.trans cc_t4) cc_t5 (fun Q hQ => cc_b1 (u := zx_t u 0 (nI 76)) (hr := xf_here u) (sd := xf_stateDepth u) (ed := xf_expressionDepth u) (sa := xf_stateAt u) (sp := xf_statePhase u) (pt := xf_statePatch u) (ea := xf_expressionAt u) (ep := xf_expressionPhase u) (M := wl_wr (xf_memory u) 64 pg_s0) hQ) (fun Q hQ => cc_b2 (u := zx_t u 0 (nI 76)) (hr := xf_here u) (sd := xf_stateDepth u) (ed := xf_expressionDepth u) (sa := xf_stateAt u) (sp := xf_statePhase u) (pt := xf_statePatch u) (ea := xf_expressionAt u) (ep := xf_expressionPhase u) (M := wl_wr (xf_memory u) 64 pg_s0) hQ) (fun Q hQ => cc_b3 (u := zx_t u 0 (nI 76)) (hr := xf_here u) (sd := xf_stateDepth u) (ed := xf_expressionDepth u) (sa := xf_stateAt u) (sp := xf_statePhase u) (pt := xf_statePatch u) (ea := xf_expressionAt u) (ep := xf_expressionPhase u) (M := wl_wr (xf_memory u) 64 pg_s0) hQ) (fun Q hQ => cc_b4 (u := zx_t u 0 (nI 76)) (hr := xf_here u) (sd := xf_stateDepth u) (ed := xf_expressionDepth u) (sa := xf_stateAt u) (sp := xf_statePhase u) (pt := xf_statePatch u) (ea := xf_expressionAt u) (ep := xf_expressionPhase u) (M := wl_wr (xf_memory u) 64 pg_s0) hQ) (fun Q hQ => cc_b5 (u := zx_t u 0 (nI 76)) (hr := xf_here u) (sd := xf_stateDepth u) (ed := xf_expressionDepth u) (sa := xf_stateAt u) (sp := xf_statePhase u) (pt := xf_statePatch u) (ea := xf_expressionAt u) (ep := xf_expressionPhase u) (M := wl_wr (xf_memory u) 64 pg_s0) hQ) (fun Q hQ => cc_b6 (u := zx_t u 0 (nI 76)) (hr := xf_here u) (sd := xf_stateDepth u) (ed := xf_expressionDepth u) (sa := xf_stateAt u) (sp := xf_statePhase u) (pt := xf_statePatch u) (ea := xf_expressionAt u) (ep := xf_expressionPhase u) (M := wl_wr (xf_memory u) 64 pg_s0) hQ) (fun Q hQ => cc_b7 (u := zx_t u 0 (nI 76)) (hr := xf_here u) (sd := xf_stateDepth u) (ed := xf_expressionDepth u) (sa := xf_stateAt u) (sp := xf_statePhase u) (pt := xf_statePatch u) (ea := xf_expressionAt u) (ep := xf_expressionPhase u) (M := wl_wr (xf_memory u) 64 pg_s0) hQ) (fun Q hQ => cc_b8 (u := zx_t u 0 (nI 76)) (hr := xf_here u) (sd := xf_stateDepth u) (ed := xf_expressionDepth u) (sa := xf_stateAt u) (sp := xf_statePhase u) (pt := xf_statePatch u) (ea := xf_expressionAt u) (ep := xf_expressionPhase u) (M := wl_wr (xf_memory u) 64 pg_s0) hQ) h
theorem cc_compile {u : SX} {P : pg_P} {np ne ns : Nat} (hX : xp_P u P np ne ns) (hW : pg_W P np ne ns) (hV : ∀ q, q < np → P 2 q = nI (pg_bo P q) ∧ pg_bo P q < ns ∧ pg_FS P np q (pg_bo P q)) :
    ∃ (c' : Nat) (hr' sd' ed' : Int32) (sa' sp' pt' ea' ep' M' : Nat → Int32), pg_OK P np M' ∧ ∀ post : SX → Prop, post (zx_c (zx_t u 0 (nI 76)) (nI c') hr' sd' ed' sa' sp' pt' ea' ep' M') → wpX_compile post u := by
  obtain ⟨c', hr', sd', ed', sa', sp', pt', ea', ep', M', hI, m⟩ := cc_all (u := zx_t u 0 (nI 76)) hX rfl hW hV np 0 94 (xf_here u) (xf_stateDepth u) (xf_expressionDepth u) (xf_stateAt u) (xf_statePhase u) (xf_statePatch u) (xf_expressionAt u) (xf_expressionPhase u) (wl_wr (wl_wr (xf_memory u) 64 pg_s0) 76 pg_s1) (by omega) cc_I0
  exact ⟨c', hr', sd', ed', sa', sp', pt', ea', ep', M', cc_OK hW.1 hI, fun post h => cc_w ⟨_, m post h⟩⟩
end
section
/-! the code stays when the program grows -/
def pg_X (P P' : pg_P) (ne ns : Nat) : Prop :=
  P' 0 = P 0 ∧ P' 1 = P 1 ∧ P' 2 = P 2 ∧ (∀ e, e < ne → P' 3 e = P 3 e ∧ P' 4 e = P 4 e ∧ P' 5 e = P 5 e ∧ P' 6 e = P 6 e) ∧ (∀ s, s < ns → P' 7 s = P 7 s ∧ P' 8 s = P 8 s ∧ P' 9 s = P 9 s ∧ P' 10 s = P 10 s ∧ P' 11 s = P 11 s)
section
variable {P P' : pg_P} {np ne ns : Nat}
theorem cg_md (hx : pg_X P P' ne ns) (q k : Nat) : pg_md P' q k = pg_md P q k := by unfold pg_md pg_mo; rw [hx.2.1]
theorem cg_pa (hx : pg_X P P' ne ns) (q : Nat) : pg_pa P' q = pg_pa P q := by unfold pg_pa; rw [hx.1]
theorem cg_bo (hx : pg_X P P' ne ns) (q : Nat) : pg_bo P' q = pg_bo P q := by unfold pg_bo; rw [hx.2.2.1]
theorem cg_aw (hx : pg_X P P' ne ns) (q : Nat) : pg_aw P' q = pg_aw P q := by unfold pg_aw; rw [cg_md hx, cg_md hx]
theorem cg_bn (hx : pg_X P P' ne ns) (v : Nat) : pg_bn P' v = pg_bn P v := by unfold pg_bn; rw [cg_md hx]
theorem cg_hp (hx : pg_X P P' ne ns) : ∀ n q r : Nat, pg_hp P' n q r = pg_hp P n q r := by
  intro n
  induction n with
  | zero => intro q r; rfl
  | succ n ih => intro q r; unfold pg_hp; rw [cg_pa hx, ih]
theorem cg_h (hx : pg_X P P' ne ns) (q r : Nat) : pg_h P' q r = pg_h P q r := cg_hp hx 4 q r
theorem cg_of (hx : pg_X P P' ne ns) (v : Nat) : pg_of P' v = pg_of P v := by unfold pg_of; rw [cg_md hx]
theorem cg_us (hx : pg_X P P' ne ns) (q v : Nat) (wn : List Int32) (c : Nat) : pg_us P' q v wn c = pg_us P q v wn c := by unfold pg_us; rw [cg_h hx, cg_of hx]
theorem cg_lv (hx : pg_X P P' ne ns) (q v c : Nat) : pg_lv P' q v c = pg_lv P q v c := by
  unfold pg_lv
  simp only [pg_bn, cg_md hx, cg_h hx, cg_of hx, cg_us hx]
theorem cg_ek (hx : pg_X P P' ne ns) {e : Nat} (he : e < ne) : pg_ek P' e = pg_ek P e := by unfold pg_ek; rw [(hx.2.2.2.1 e he).1]
theorem cg_ex (hx : pg_X P P' ne ns) {e : Nat} (he : e < ne) : pg_ex P' e = pg_ex P e := by unfold pg_ex; rw [(hx.2.2.2.1 e he).2.1]
theorem cg_ey (hx : pg_X P P' ne ns) {e : Nat} (he : e < ne) : pg_ey P' e = pg_ey P e := by unfold pg_ey; rw [(hx.2.2.2.1 e he).2.2.1]
theorem cg_E (hx : pg_X P P' ne ns) (q : Nat) : ∀ e, e < ne → ∀ c, pg_E P' q e c = pg_E P q e c := by
  intro e
  induction e using Nat.strongRecOn with
  | _ e ihe =>
    intro he c
    have ek := cg_ek hx he
    have ex := cg_ex hx he
    have ey := cg_ey hx he
    have e4 := (hx.2.2.2.1 e he).2.1
    conv => lhs; rw [pg_E]
    conv => rhs; rw [pg_E]
    rw [ek, ex, ey, e4, cg_lv hx]
    by_cases k0 : pg_ek P e = 0
    · rw [if_pos k0, if_pos k0]
    · rw [if_neg k0, if_neg k0]
      by_cases k1 : pg_ek P e = 1
      · rw [if_pos k1, if_pos k1]
      · rw [if_neg k1, if_neg k1]
        by_cases hxe : pg_ex P e < e
        · rw [dif_pos hxe, dif_pos hxe, ihe _ hxe (by omega)]
          by_cases hye : pg_ey P e < e
          · rw [dif_pos hye, dif_pos hye, ihe _ hye (by omega)]
          · rw [dif_neg hye, dif_neg hye]
        · rw [dif_neg hxe, dif_neg hxe]
theorem cg_rt (hx : pg_X P P' ne ns) (q : Nat) {e : Nat} (he : e < ne) (c : Nat) : pg_rt P' q e c = pg_rt P q e c := by
  unfold pg_rt
  simp only [cg_ek hx he, cg_ex hx he, pg_bn, cg_md hx, cg_us hx, cg_h hx, cg_of hx, cg_E hx q e he]
theorem cg_ag (hx : pg_X P P' ne ns) (q : Nat) {e : Nat} (he : e < ne) (m c : Nat) : pg_ag P' q e m c = pg_ag P q e m c := by
  unfold pg_ag
  rw [cg_rt hx q he, cg_E hx q e he]
theorem cg_am (hx : pg_X P P' ne ns) (q e m c : Nat) (he : m ≠ 0 → e < ne) : pg_am P' q e m c = pg_am P q e m c := by
  unfold pg_am
  by_cases h : m = 0
  · rw [if_pos h, if_pos h]
  · rw [if_neg h, if_neg h, cg_ag hx q (he h)]
theorem cg_st (hx : pg_X P P' ne ns) (q v c : Nat) : pg_st P' q v c = pg_st P q v c := by
  unfold pg_st
  simp only [pg_bn, cg_md hx, cg_us hx, cg_h hx, cg_of hx]
theorem cg_ts (hx : pg_X P P' ne ns) (q : Nat) {e : Nat} (he : e < ne) (c : Nat) : pg_ts P' q e c = pg_ts P q e c := by
  unfold pg_ts; rw [cg_E hx q e he]
theorem cg_sk (hx : pg_X P P' ne ns) {s : Nat} (hs : s < ns) : pg_sk P' s = pg_sk P s := by unfold pg_sk; rw [(hx.2.2.2.2 s hs).1]
theorem cg_sx (hx : pg_X P P' ne ns) {s : Nat} (hs : s < ns) : pg_sx P' s = pg_sx P s := by unfold pg_sx; rw [(hx.2.2.2.2 s hs).2.1]
theorem cg_sy (hx : pg_X P P' ne ns) {s : Nat} (hs : s < ns) : pg_sy P' s = pg_sy P s := by unfold pg_sy; rw [(hx.2.2.2.2 s hs).2.2.1]
theorem cg_sz (hx : pg_X P P' ne ns) {s : Nat} (hs : s < ns) : pg_sz P' s = pg_sz P s := by unfold pg_sz; rw [(hx.2.2.2.2 s hs).2.2.2.1]
theorem cg_S (hx : pg_X P P' ne ns) (hW : pg_W P np ne ns) (q : Nat) : ∀ s, s < ns → ∀ c, pg_S P' q s c = pg_S P q s c := by
  intro s
  induction s using Nat.strongRecOn with
  | _ s ihs =>
    intro hs c
    have hWs := hW.2.2.2.2.2 s hs
    have k' := cg_sk hx hs
    have x' := cg_sx hx hs
    have y' := cg_sy hx hs
    have z' := cg_sz hx hs
    have t' := (hx.2.2.2.2 s hs).2.2.2.1
    by_cases k6 : pg_sk P s = 6
    · rw [pg_S, if_pos (k'.trans k6), pg_S, if_pos k6]
    · by_cases k0 : pg_sk P s = 0
      · have h0 := hWs.2.2.2.2.2.1 k0
        rw [xs_setE (P := P') (k'.trans k0), xs_setE k0, y', x', cg_E hx q _ h0.2.2.2.1, cg_st hx]
      · by_cases k4 : pg_sk P s = 4
        · have h4 := hWs.2.2.2.2.2.2.2.2.2.1 k4
          rw [xs_printE (P := P') (k'.trans k4), xs_printE k4, x', cg_E hx q _ h4.2.1]
        · by_cases k5 : pg_sk P s = 5
          · have h5 := hWs.2.2.2.2.2.2.2.2.2.2 k5
            rw [xs_callE (P := P') (k'.trans k5), xs_callE k5, x', y', z', cg_md hx, cg_md hx, cg_pa hx, cg_h hx, cg_am hx q _ _ _ (fun h => (h5.2.2.1 h).2), cg_am hx q _ _ _ (fun h => (h5.2.2.2.1 h).2)]
          · by_cases k1 : pg_sk P s = 1
            · have h1 := hWs.2.2.2.2.2.2.1 k1
              rw [xs_thenE (P := P') (k'.trans k1) (by rw [x']; exact h1.2.1) (by rw [y']; exact h1.2.2.2.1), xs_thenE k1 h1.2.1 h1.2.2.2.1, x', y', ihs _ h1.2.1 (by omega), ihs _ h1.2.2.2.1 (by omega)]
            · by_cases k3 : pg_sk P s = 3
              · have h3 := hWs.2.2.2.2.2.2.2.2.1 k3
                rw [xs_whE (P := P') (k'.trans k3) (by rw [y']; exact h3.2.2.2.1), xs_whE k3 h3.2.2.2.1, x', y', cg_ts hx q h3.2.1, ihs _ h3.2.2.2.1 (by omega)]
              · have k2 : pg_sk P s = 2 := by have := hWs.2.1; omega
                have h2 := hWs.2.2.2.2.2.2.2.1 k2
                by_cases hz : 0 ≤ P 10 s
                · rcases h2.2.2.2.2 with h | h
                  · rw [h.1] at hz; exact absurd hz (by decide)
                  · rw [xs_ifE2 (P := P') (k'.trans k2) (by rw [y']; exact h2.2.2.2.1) (by rw [t']; exact hz) (by rw [z']; exact h.2.1), xs_ifE2 k2 h2.2.2.2.1 hz h.2.1, x', y', z', cg_ts hx q h2.2.1, ihs _ h2.2.2.2.1 (by omega), ihs _ h.2.1 (by omega)]
                · rw [xs_ifE (P := P') (k'.trans k2) (by rw [y']; exact h2.2.2.2.1) (by rw [t']; exact hz), xs_ifE k2 h2.2.2.2.1 hz, x', y', cg_ts hx q h2.2.1, ihs _ h2.2.2.2.1 (by omega)]
theorem cg_OK (hx : pg_X P P' ne ns) (hW : pg_W P np ne ns) (hb : ∀ q, q < np → pg_bo P q < ns) {M : Nat → Int32} (h : pg_OK P np M) : pg_OK P' np M := by
  have e : ∀ q, q < np → ∀ a, pg_pr P' q a = pg_pr P q a := by
    intro q hq a
    unfold pg_pr pg_tl
    rw [cg_bo hx, cg_aw hx, cg_S hx hW q _ (hb q hq)]
  refine ⟨h.1, h.2.1, fun q hq => ?_⟩
  obtain ⟨a, a1, a2, a3, a4⟩ := h.2.2 q hq
  exact ⟨a, a1, by rw [e q hq]; exact a2, a3, by rw [e q hq]; exact a4⟩
end
end
section
/-! valid: the component's side -/
theorem wq_sX {f : Int32 → Prop} {u : SX} {q x y : Int32} (e : x = y) (h : wpX_isSeen f u q y) : wpX_isSeen f u q x := by subst e; exact h
theorem wq_hX {f : Int32 → Prop} {u : SX} {q x y : Int32} (e : x = y) (h : wpX_hopsTo f u q y) : wpX_hopsTo f u q x := by subst e; exact h
theorem wq_mX {f : Int32 → Prop} {u : SX} {q x y : Int32} (e : x = y) (h : wpX_modeOf f u q y) : wpX_modeOf f u q x := by subst e; exact h
theorem wq_sY {f : Int32 → Prop} {u : SY} {q x y : Int32} (e : x = y) (h : wpY_isSeen f u y q) : wpY_isSeen f u x q := by subst e; exact h
theorem wq_aY {f : Int32 → Prop} {u : SY} {q x y : Int32} (e : x = y) (h : wpY_isAncestor f u y q) : wpY_isAncestor f u x q := by subst e; exact h
theorem wq_fY {f : Int32 → SY → Prop} {u : SY} {q x y : Int32} (e : x = y) (h : wpY_isFine f u y q) : wpY_isFine f u x q := by subst e; exact h
def vb_b (w : Int64) (k : Nat) : Prop := w.toBitVec.getLsbD k = true
theorem vb_at (w : Int64) {k : Nat} (hk : k < 64) : ((w.toUInt64 >>> ((nI k).toInt64.toUInt64 &&& Int64.toUInt64 63)).toInt64 &&& 1) = 0 ↔ ¬ vb_b w k := by
  rw [wb_cu k hk, ts_bit hk (u_tn (by omega))]
  unfold vb_b
  cases w.toBitVec.getLsbD k <;> simp
theorem vb_or (a b : Int64) (k : Nat) : vb_b (a ||| b) k ↔ vb_b a k ∨ vb_b b k := by
  unfold vb_b
  rw [Int64.toBitVec_or, BitVec.getLsbD_or, Bool.or_eq_true]
theorem vb_0 (k : Nat) : ¬ vb_b 0 k := by
  unfold vb_b
  intro h
  have e : (0 : Int64).toBitVec = 0#64 := rfl
  rw [e, BitVec.getLsbD_zero] at h
  exact Bool.noConfusion h
theorem vb_1 {j k : Nat} (hj : j < 64) (hk : k < 64) : vb_b ((1 : Int64) <<< ((nI j).toInt64 &&& 63)) k ↔ k = j := by
  have e := wb_shl 1 hj
  rw [show (1 : Int64) = lN 1 from rfl, e, Nat.one_mul]
  unfold vb_b
  rw [wb_tb, BitVec.getLsbD_ofNat, Nat.testBit_two_pow]
  simp [hk]
  exact eq_comm
/-- parts of an expression; parts of a statement, and what a statement asks itself -/
def vc_e (P : pg_P) (e j : Nat) : Prop := 2 ≤ pg_ek P e ∧ (j = pg_ex P e ∨ (pg_ek P e ≠ 7 ∧ j = pg_ey P e))
def vc_s (P : pg_P) (s j : Nat) : Prop := (pg_sk P s = 1 ∧ j = pg_sx P s) ∨ ((pg_sk P s = 1 ∨ pg_sk P s = 2 ∨ pg_sk P s = 3) ∧ j = pg_sy P s) ∨ (pg_sk P s = 2 ∧ 0 ≤ P 10 s ∧ j = pg_sz P s)
def vc_x (P : pg_P) (s j : Nat) : Prop := (pg_sk P s = 0 ∧ j = pg_sy P s) ∨ ((pg_sk P s = 2 ∨ pg_sk P s = 3 ∨ pg_sk P s = 4) ∧ j = pg_sx P s) ∨ (pg_sk P s = 5 ∧ pg_md P (pg_sx P s) 0 ≠ 0 ∧ j = pg_sy P s) ∨ (pg_sk P s = 5 ∧ pg_md P (pg_sx P s) 1 ≠ 0 ∧ j = pg_sz P s)
def vc_p (P : pg_P) (np q s : Nat) : Prop := (pg_sk P s = 0 → pg_sn P np q (pg_sx P s)) ∧ (pg_sk P s = 5 → pg_sx P s ≠ 0 ∧ pg_an P 4 q (pg_pa P (pg_sx P s)))
section
variable {P : pg_P} {np ne ns : Nat}
theorem vc_elt (hW : pg_W P np ne ns) {e j : Nat} (he : e < ne) (h : vc_e P e j) : j < e := by
  have hWe := (hW.2.2.2.2.1 e he).2.2.2.2.2.2.2 h.1
  rcases h.2 with z | z
  · rw [z]; exact hWe.2.1
  · rw [z.2]; exact (hWe.2.2.2 z.1).2.1
theorem vc_slt (hW : pg_W P np ne ns) {s j : Nat} (hs : s < ns) (h : vc_s P s j) : j < s := by
  have hWs := (hW.2.2.2.2.2 s hs).2.2.2.2.2
  rcases h with z | z | z
  · rw [z.2]; exact (hWs.2.1 z.1).2.1
  · rw [z.2]
    rcases z.1 with k | k | k
    · exact (hWs.2.1 k).2.2.2.1
    · exact (hWs.2.2.1 k).2.2.2.1
    · exact (hWs.2.2.2.1 k).2.2.2.1
  · rw [z.2.2]
    rcases (hWs.2.2.1 z.1).2.2.2.2 with k | k
    · rw [k.1] at z; exact absurd z.2.1 (by decide)
    · exact k.2.1
theorem vc_xlt (hW : pg_W P np ne ns) {s j : Nat} (hs : s < ns) (h : vc_x P s j) : j < ne := by
  have hWs := (hW.2.2.2.2.2 s hs).2.2.2.2.2
  rcases h with z | z | z | z
  · rw [z.2]; exact (hWs.1 z.1).2.2.2.1
  · rw [z.2]
    rcases z.1 with k | k | k
    · exact (hWs.2.2.1 k).2.1
    · exact (hWs.2.2.2.1 k).2.1
    · exact (hWs.2.2.2.2.1 k).2.1
  · rw [z.2.2]; exact ((hWs.2.2.2.2.2 z.1).2.2.1 z.2.1).2
  · rw [z.2.2]; exact ((hWs.2.2.2.2.2 z.1).2.2.2.1 z.2.1).2
theorem vc_FE (hW : pg_W P np ne ns) {e : Nat} (he : e < ne) (q : Nat) : pg_FE P np q e ↔ (pg_ek P e = 1 → pg_sn P np q (pg_ex P e)) ∧ ∀ j, vc_e P e j → pg_FE P np q j := by
  rw [pg_FE]
  constructor
  · intro h
    refine ⟨h.1, fun j hj => ?_⟩
    have hl := vc_elt hW he hj
    rcases hj.2 with z | z
    · subst z; exact h.2.1 hj.1 hl
    · have z2 := z.2
      subst z2; exact h.2.2 hj.1 z.1 hl
  · intro h
    exact ⟨h.1, fun k _ => h.2 _ ⟨k, Or.inl rfl⟩, fun k k7 _ => h.2 _ ⟨k, Or.inr ⟨k7, rfl⟩⟩⟩
theorem vc_FS (hW : pg_W P np ne ns) {s : Nat} (hs : s < ns) (q : Nat) : pg_FS P np q s ↔ vc_p P np q s ∧ (∀ j, vc_s P s j → pg_FS P np q j) ∧ ∀ j, vc_x P s j → pg_FE P np q j := by
  rw [pg_FS]
  constructor
  · intro h
    refine ⟨⟨fun k => (h.1 k).1, fun k => ⟨(h.2.2.2.2.2 k).1, (h.2.2.2.2.2 k).2.1⟩⟩, fun j hj => ?_, fun j hj => ?_⟩
    · have hl := vc_slt hW hs hj
      rcases hj with z | z | z
      · have z2 := z.2
        subst z2; exact h.2.1 z.1 hl
      · have z2 := z.2
        subst z2; exact h.2.2.2.1 z.1 hl
      · have z2 := z.2.2
        subst z2; exact h.2.2.2.2.1 z.1 z.2.1 hl
    · rcases hj with z | z | z | z
      · rw [z.2]; exact (h.1 z.1).2
      · rw [z.2]; exact h.2.2.1 z.1
      · rw [z.2.2]; exact (h.2.2.2.2.2 z.1).2.2.1 z.2.1
      · rw [z.2.2]; exact (h.2.2.2.2.2 z.1).2.2.2 z.2.1
  · intro h
    exact ⟨fun k => ⟨h.1.1 k, h.2.2 _ (Or.inl ⟨k, rfl⟩)⟩, fun k _ => h.2.1 _ (Or.inl ⟨k, rfl⟩), fun k => h.2.2 _ (Or.inr (Or.inl ⟨k, rfl⟩)), fun k _ => h.2.1 _ (Or.inr (Or.inl ⟨k, rfl⟩)),
      fun k z _ => h.2.1 _ (Or.inr (Or.inr ⟨k, z, rfl⟩)), fun k => ⟨(h.1.2 k).1, (h.1.2 k).2, fun d => h.2.2 _ (Or.inr (Or.inr (Or.inl ⟨k, d, rfl⟩))), fun d => h.2.2 _ (Or.inr (Or.inr (Or.inr ⟨k, d, rfl⟩)))⟩⟩
end
section
variable {u : SX} {P : pg_P} {np ne ns : Nat} {post : Int32 → Prop}
theorem xh_no0 (hX : xp_P u P np ne ns) (hW : pg_W P np ne ns) (hnp : 0 < np) {r n c : Nat} (hr : r < np) (hr0 : r ≠ 0) (h : post (-1)) : xh_W post (nI r) u (n + 2) (nI c) (nI 0) := by
  have h5 := hW.1
  have ea : xf_parentOf u (nI 0).toNatClampNeg = -1 := by
    rw [nI_clamp (by omega), hX.2.2.2.1 0 hnp]; exact ((hW.2.2.2.1 0 hnp).1 rfl).1
  have ne : ¬ nI 0 = nI r := fun z => hr0 ((nI_eq (by omega) (by omega)).mp z).symm
  exact br_f (nI_pos (by omega)) (br_f ne ⟨vp_in_nI (by omega) (by omega), nm_r ea (nm_r (nI_1 c) (br_t (by decide) (br_f (by decide) h)))⟩)
theorem xh_no (hX : xp_P u P np ne ns) (hW : pg_W P np ne ns) {r : Nat} (hr : r < np) (h : post (-1)) :
    ∀ m q c : Nat, q < np → q ≤ m → c + m < 100 → ¬ pg_an P m q r → xh_W post (nI r) u (m + 2) (nI c) (nI q) := by
  have h5 := hW.1
  intro m
  induction m with
  | zero =>
    intro q c hq hm hc ha
    have z : q = 0 := by omega
    subst z
    exact xh_no0 hX hW hq hr (fun z => ha z.symm) h
  | succ m ih =>
    intro q c hq hm hc ha
    have hqr : q ≠ r := fun z => ha (Or.inl z)
    by_cases q0 : q = 0
    · subst q0
      exact xh_no0 hX hW hq hr (fun z => hqr z.symm) h
    · have hp := (hW.2.2.2.1 q hq).2.1 q0
      have ea : xf_parentOf u (nI q).toNatClampNeg = nI (pg_pa P q) := by
        rw [nI_clamp (by omega), hX.2.2.2.1 q hq]; exact hp.1
      have ne : ¬ nI q = nI r := fun z => hqr ((nI_eq (by omega) (by omega)).mp z)
      exact br_f (nI_pos (by omega)) (br_f ne ⟨vp_in_nI (by omega) (by omega), nm_r ea (nm_r (nI_1 c) (ih (pg_pa P q) (c + 1) (by omega) (by omega) (by omega) (fun z => ha (Or.inr ⟨q0, z⟩))))⟩)
theorem xv_hops (hX : xp_P u P np ne ns) (hW : pg_W P np ne ns) {q r : Nat} (hq : q < np) (hr : r < np) (h1 : pg_an P 4 q r → ∀ k : Nat, k < 100 → post (nI k)) (h0 : ¬ pg_an P 4 q r → post (-1)) : wpX_hopsTo post u (nI q) (nI r) := by
  by_cases ha : pg_an P 4 q r
  · exact xh_hops hX hW hq hr ha (h1 ha _ (by have := pg_h_le P q r; omega))
  · exact ⟨6, xh_no hX hW hr (h0 ha) 4 q 0 hq (by have := hW.1; omega) (by omega) ha⟩
theorem xv_seen (hX : xp_P u P np ne ns) (hW : pg_W P np ne ns) {q v : Nat} (hq : q < np) (hv : v ≤ 24) (h1 : pg_sn P np q v → post 1) (h0 : ¬ pg_sn P np q v → post 0) : wpX_isSeen post u (nI q) (nI v) := by
  have h5 := hW.1
  have em := yn_m (v := v) (by omega)
  have ed := yn_d (v := v) (by omega)
  have hk5 : v % 5 < 5 := Nat.mod_lt _ (by omega)
  have hc := hX.1
  refine ⟨by decide, nm_r ed ?_⟩
  by_cases ho : v / 5 < np
  · refine br_f (show ¬ xf_procedureCount u ≤ nI (v / 5) by rw [hc]; exact nI_ge ho (by omega)) ?_
    refine xv_hops (u := u) hX hW hq ho (fun ha k hk => ?_) (fun ha => ?_)
    · refine br_t (nI_pos' (by omega)) ⟨by decide, ?_⟩
      by_cases h2 : 1 < v % 5
      · exact br_t (by rw [em]; exact nI_lt (a := 1) h2 (by omega)) (h1 ⟨ho, ha, Or.inl h2⟩)
      · refine br_f (by rw [em]; exact nI_nlt (a := 1) (by omega) (by omega)) ⟨by decide, ?_⟩
        refine wq_mX (u := u) em (xh_mode hX hW ho (by omega) ?_)
        have hm := sr_md hW ho (v % 5)
        by_cases h3 : pg_md P (v / 5) (v % 5) = 0
        · refine br_t (by rw [h3]; decide) (h0 (fun z => ?_))
          rcases z.2.2 with z | z <;> omega
        · exact br_f (nI_nle (by omega) (by omega)) (h1 ⟨ho, ha, Or.inr (by omega)⟩)
    · exact br_f (by decide) (h0 (fun z => ha z.2.1))
  · exact br_t (show xf_procedureCount u ≤ nI (v / 5) by rw [hc]; exact nI_le (by omega) (by omega)) (h0 (fun z => ho z.1))
end
def xb_E (post : Int32 → Prop) (x1 : Int32) (u : SX) (n : Nat) (x4 : Int64) (x6 : Int32) : Prop := wX_bodyFits_143 post x1 u.1 u.2.1 u.2.2.1 u.2.2.2.1 u.2.2.2.2.1 u.2.2.2.2.2.1 u.2.2.2.2.2.2.1 u.2.2.2.2.2.2.2.1 u.2.2.2.2.2.2.2.2.1 u.2.2.2.2.2.2.2.2.2.1 u.2.2.2.2.2.2.2.2.2.2.1 u.2.2.2.2.2.2.2.2.2.2.2.1 u.2.2.2.2.2.2.2.2.2.2.2.2.1 u.2.2.2.2.2.2.2.2.2.2.2.2.2.1 u.2.2.2.2.2.2.2.2.2.2.2.2.2.2.1 u.2.2.2.2.2.2.2.2.2.2.2.2.2.2.2.1 u.2.2.2.2.2.2.2.2.2.2.2.2.2.2.2.2.1 u.2.2.2.2.2.2.2.2.2.2.2.2.2.2.2.2.2.1 u.2.2.2.2.2.2.2.2.2.2.2.2.2.2.2.2.2.2.1 u.2.2.2.2.2.2.2.2.2.2.2.2.2.2.2.2.2.2.2.1 u.2.2.2.2.2.2.2.2.2.2.2.2.2.2.2.2.2.2.2.2.1 u.2.2.2.2.2.2.2.2.2.2.2.2.2.2.2.2.2.2.2.2.2.1 u.2.2.2.2.2.2.2.2.2.2.2.2.2.2.2.2.2.2.2.2.2.2.1 u.2.2.2.2.2.2.2.2.2.2.2.2.2.2.2.2.2.2.2.2.2.2.2.1 u.2.2.2.2.2.2.2.2.2.2.2.2.2.2.2.2.2.2.2.2.2.2.2.2.1 u.2.2.2.2.2.2.2.2.2.2.2.2.2.2.2.2.2.2.2.2.2.2.2.2.2.1 u.2.2.2.2.2.2.2.2.2.2.2.2.2.2.2.2.2.2.2.2.2.2.2.2.2.2.1 u.2.2.2.2.2.2.2.2.2.2.2.2.2.2.2.2.2.2.2.2.2.2.2.2.2.2.2.1 u.2.2.2.2.2.2.2.2.2.2.2.2.2.2.2.2.2.2.2.2.2.2.2.2.2.2.2.2.1 u.2.2.2.2.2.2.2.2.2.2.2.2.2.2.2.2.2.2.2.2.2.2.2.2.2.2.2.2.2.1 u.2.2.2.2.2.2.2.2.2.2.2.2.2.2.2.2.2.2.2.2.2.2.2.2.2.2.2.2.2.2.1 u.2.2.2.2.2.2.2.2.2.2.2.2.2.2.2.2.2.2.2.2.2.2.2.2.2.2.2.2.2.2.2.1 u.2.2.2.2.2.2.2.2.2.2.2.2.2.2.2.2.2.2.2.2.2.2.2.2.2.2.2.2.2.2.2.2.1 u.2.2.2.2.2.2.2.2.2.2.2.2.2.2.2.2.2.2.2.2.2.2.2.2.2.2.2.2.2.2.2.2.2.1 u.2.2.2.2.2.2.2.2.2.2.2.2.2.2.2.2.2.2.2.2.2.2.2.2.2.2.2.2.2.2.2.2.2.2.1 u.2.2.2.2.2.2.2.2.2.2.2.2.2.2.2.2.2.2.2.2.2.2.2.2.2.2.2.2.2.2.2.2.2.2.2.1 u.2.2.2.2.2.2.2.2.2.2.2.2.2.2.2.2.2.2.2.2.2.2.2.2.2.2.2.2.2.2.2.2.2.2.2.2.1 u.2.2.2.2.2.2.2.2.2.2.2.2.2.2.2.2.2.2.2.2.2.2.2.2.2.2.2.2.2.2.2.2.2.2.2.2.2.1 u.2.2.2.2.2.2.2.2.2.2.2.2.2.2.2.2.2.2.2.2.2.2.2.2.2.2.2.2.2.2.2.2.2.2.2.2.2.2 n x4 x6
def xb_S (post : Int32 → Prop) (x1 : Int32) (u : SX) (n : Nat) (x2 x4 : Int64) (x6 : Int32) : Prop := wX_bodyFits_20 post x1 u.1 u.2.1 u.2.2.1 u.2.2.2.1 u.2.2.2.2.1 u.2.2.2.2.2.1 u.2.2.2.2.2.2.1 u.2.2.2.2.2.2.2.1 u.2.2.2.2.2.2.2.2.1 u.2.2.2.2.2.2.2.2.2.1 u.2.2.2.2.2.2.2.2.2.2.1 u.2.2.2.2.2.2.2.2.2.2.2.1 u.2.2.2.2.2.2.2.2.2.2.2.2.1 u.2.2.2.2.2.2.2.2.2.2.2.2.2.1 u.2.2.2.2.2.2.2.2.2.2.2.2.2.2.1 u.2.2.2.2.2.2.2.2.2.2.2.2.2.2.2.1 u.2.2.2.2.2.2.2.2.2.2.2.2.2.2.2.2.1 u.2.2.2.2.2.2.2.2.2.2.2.2.2.2.2.2.2.1 u.2.2.2.2.2.2.2.2.2.2.2.2.2.2.2.2.2.2.1 u.2.2.2.2.2.2.2.2.2.2.2.2.2.2.2.2.2.2.2.1 u.2.2.2.2.2.2.2.2.2.2.2.2.2.2.2.2.2.2.2.2.1 u.2.2.2.2.2.2.2.2.2.2.2.2.2.2.2.2.2.2.2.2.2.1 u.2.2.2.2.2.2.2.2.2.2.2.2.2.2.2.2.2.2.2.2.2.2.1 u.2.2.2.2.2.2.2.2.2.2.2.2.2.2.2.2.2.2.2.2.2.2.2.1 u.2.2.2.2.2.2.2.2.2.2.2.2.2.2.2.2.2.2.2.2.2.2.2.2.1 u.2.2.2.2.2.2.2.2.2.2.2.2.2.2.2.2.2.2.2.2.2.2.2.2.2.1 u.2.2.2.2.2.2.2.2.2.2.2.2.2.2.2.2.2.2.2.2.2.2.2.2.2.2.1 u.2.2.2.2.2.2.2.2.2.2.2.2.2.2.2.2.2.2.2.2.2.2.2.2.2.2.2.1 u.2.2.2.2.2.2.2.2.2.2.2.2.2.2.2.2.2.2.2.2.2.2.2.2.2.2.2.2.1 u.2.2.2.2.2.2.2.2.2.2.2.2.2.2.2.2.2.2.2.2.2.2.2.2.2.2.2.2.2.1 u.2.2.2.2.2.2.2.2.2.2.2.2.2.2.2.2.2.2.2.2.2.2.2.2.2.2.2.2.2.2.1 u.2.2.2.2.2.2.2.2.2.2.2.2.2.2.2.2.2.2.2.2.2.2.2.2.2.2.2.2.2.2.2.1 u.2.2.2.2.2.2.2.2.2.2.2.2.2.2.2.2.2.2.2.2.2.2.2.2.2.2.2.2.2.2.2.2.1 u.2.2.2.2.2.2.2.2.2.2.2.2.2.2.2.2.2.2.2.2.2.2.2.2.2.2.2.2.2.2.2.2.2.1 u.2.2.2.2.2.2.2.2.2.2.2.2.2.2.2.2.2.2.2.2.2.2.2.2.2.2.2.2.2.2.2.2.2.2.1 u.2.2.2.2.2.2.2.2.2.2.2.2.2.2.2.2.2.2.2.2.2.2.2.2.2.2.2.2.2.2.2.2.2.2.2.1 u.2.2.2.2.2.2.2.2.2.2.2.2.2.2.2.2.2.2.2.2.2.2.2.2.2.2.2.2.2.2.2.2.2.2.2.2.1 u.2.2.2.2.2.2.2.2.2.2.2.2.2.2.2.2.2.2.2.2.2.2.2.2.2.2.2.2.2.2.2.2.2.2.2.2.2.1 u.2.2.2.2.2.2.2.2.2.2.2.2.2.2.2.2.2.2.2.2.2.2.2.2.2.2.2.2.2.2.2.2.2.2.2.2.2.2 n x2 x4 x6
def xb_e (post : Int32 → Prop) (J : Int64 → Int32 → Prop) (x1 : Int32) (x4 : Int64) (x6 x7 : Int32) (u : SX) : Prop := wX_bodyFits_195 post J x1 x4 x6 x7 u.1 u.2.1 u.2.2.1 u.2.2.2.1 u.2.2.2.2.1 u.2.2.2.2.2.1 u.2.2.2.2.2.2.1 u.2.2.2.2.2.2.2.1 u.2.2.2.2.2.2.2.2.1 u.2.2.2.2.2.2.2.2.2.1 u.2.2.2.2.2.2.2.2.2.2.1 u.2.2.2.2.2.2.2.2.2.2.2.1 u.2.2.2.2.2.2.2.2.2.2.2.2.1 u.2.2.2.2.2.2.2.2.2.2.2.2.2.1 u.2.2.2.2.2.2.2.2.2.2.2.2.2.2.1 u.2.2.2.2.2.2.2.2.2.2.2.2.2.2.2.1 u.2.2.2.2.2.2.2.2.2.2.2.2.2.2.2.2.1 u.2.2.2.2.2.2.2.2.2.2.2.2.2.2.2.2.2.1 u.2.2.2.2.2.2.2.2.2.2.2.2.2.2.2.2.2.2.1 u.2.2.2.2.2.2.2.2.2.2.2.2.2.2.2.2.2.2.2.1 u.2.2.2.2.2.2.2.2.2.2.2.2.2.2.2.2.2.2.2.2.1 u.2.2.2.2.2.2.2.2.2.2.2.2.2.2.2.2.2.2.2.2.2.1 u.2.2.2.2.2.2.2.2.2.2.2.2.2.2.2.2.2.2.2.2.2.2.1 u.2.2.2.2.2.2.2.2.2.2.2.2.2.2.2.2.2.2.2.2.2.2.2.1 u.2.2.2.2.2.2.2.2.2.2.2.2.2.2.2.2.2.2.2.2.2.2.2.2.1 u.2.2.2.2.2.2.2.2.2.2.2.2.2.2.2.2.2.2.2.2.2.2.2.2.2.1 u.2.2.2.2.2.2.2.2.2.2.2.2.2.2.2.2.2.2.2.2.2.2.2.2.2.2.1 u.2.2.2.2.2.2.2.2.2.2.2.2.2.2.2.2.2.2.2.2.2.2.2.2.2.2.2.1 u.2.2.2.2.2.2.2.2.2.2.2.2.2.2.2.2.2.2.2.2.2.2.2.2.2.2.2.2.1 u.2.2.2.2.2.2.2.2.2.2.2.2.2.2.2.2.2.2.2.2.2.2.2.2.2.2.2.2.2.1 u.2.2.2.2.2.2.2.2.2.2.2.2.2.2.2.2.2.2.2.2.2.2.2.2.2.2.2.2.2.2.1 u.2.2.2.2.2.2.2.2.2.2.2.2.2.2.2.2.2.2.2.2.2.2.2.2.2.2.2.2.2.2.2.1 u.2.2.2.2.2.2.2.2.2.2.2.2.2.2.2.2.2.2.2.2.2.2.2.2.2.2.2.2.2.2.2.2.1 u.2.2.2.2.2.2.2.2.2.2.2.2.2.2.2.2.2.2.2.2.2.2.2.2.2.2.2.2.2.2.2.2.2.1 u.2.2.2.2.2.2.2.2.2.2.2.2.2.2.2.2.2.2.2.2.2.2.2.2.2.2.2.2.2.2.2.2.2.2.1 u.2.2.2.2.2.2.2.2.2.2.2.2.2.2.2.2.2.2.2.2.2.2.2.2.2.2.2.2.2.2.2.2.2.2.2.1 u.2.2.2.2.2.2.2.2.2.2.2.2.2.2.2.2.2.2.2.2.2.2.2.2.2.2.2.2.2.2.2.2.2.2.2.2.1 u.2.2.2.2.2.2.2.2.2.2.2.2.2.2.2.2.2.2.2.2.2.2.2.2.2.2.2.2.2.2.2.2.2.2.2.2.2.1 u.2.2.2.2.2.2.2.2.2.2.2.2.2.2.2.2.2.2.2.2.2.2.2.2.2.2.2.2.2.2.2.2.2.2.2.2.2.2
def xb_s (post : Int32 → Prop) (J : Int64 → Int64 → Int32 → Prop) (x1 : Int32) (x2 x4 : Int64) (x6 : Int32) (u : SX) : Prop := wX_bodyFits_86 post J x1 x2 x4 x6 u.1 u.2.1 u.2.2.1 u.2.2.2.1 u.2.2.2.2.1 u.2.2.2.2.2.1 u.2.2.2.2.2.2.1 u.2.2.2.2.2.2.2.1 u.2.2.2.2.2.2.2.2.1 u.2.2.2.2.2.2.2.2.2.1 u.2.2.2.2.2.2.2.2.2.2.1 u.2.2.2.2.2.2.2.2.2.2.2.1 u.2.2.2.2.2.2.2.2.2.2.2.2.1 u.2.2.2.2.2.2.2.2.2.2.2.2.2.1 u.2.2.2.2.2.2.2.2.2.2.2.2.2.2.1 u.2.2.2.2.2.2.2.2.2.2.2.2.2.2.2.1 u.2.2.2.2.2.2.2.2.2.2.2.2.2.2.2.2.1 u.2.2.2.2.2.2.2.2.2.2.2.2.2.2.2.2.2.1 u.2.2.2.2.2.2.2.2.2.2.2.2.2.2.2.2.2.2.1 u.2.2.2.2.2.2.2.2.2.2.2.2.2.2.2.2.2.2.2.1 u.2.2.2.2.2.2.2.2.2.2.2.2.2.2.2.2.2.2.2.2.1 u.2.2.2.2.2.2.2.2.2.2.2.2.2.2.2.2.2.2.2.2.2.1 u.2.2.2.2.2.2.2.2.2.2.2.2.2.2.2.2.2.2.2.2.2.2.1 u.2.2.2.2.2.2.2.2.2.2.2.2.2.2.2.2.2.2.2.2.2.2.2.1 u.2.2.2.2.2.2.2.2.2.2.2.2.2.2.2.2.2.2.2.2.2.2.2.2.1 u.2.2.2.2.2.2.2.2.2.2.2.2.2.2.2.2.2.2.2.2.2.2.2.2.2.1 u.2.2.2.2.2.2.2.2.2.2.2.2.2.2.2.2.2.2.2.2.2.2.2.2.2.2.1 u.2.2.2.2.2.2.2.2.2.2.2.2.2.2.2.2.2.2.2.2.2.2.2.2.2.2.2.1 u.2.2.2.2.2.2.2.2.2.2.2.2.2.2.2.2.2.2.2.2.2.2.2.2.2.2.2.2.1 u.2.2.2.2.2.2.2.2.2.2.2.2.2.2.2.2.2.2.2.2.2.2.2.2.2.2.2.2.2.1 u.2.2.2.2.2.2.2.2.2.2.2.2.2.2.2.2.2.2.2.2.2.2.2.2.2.2.2.2.2.2.1 u.2.2.2.2.2.2.2.2.2.2.2.2.2.2.2.2.2.2.2.2.2.2.2.2.2.2.2.2.2.2.2.1 u.2.2.2.2.2.2.2.2.2.2.2.2.2.2.2.2.2.2.2.2.2.2.2.2.2.2.2.2.2.2.2.2.1 u.2.2.2.2.2.2.2.2.2.2.2.2.2.2.2.2.2.2.2.2.2.2.2.2.2.2.2.2.2.2.2.2.2.1 u.2.2.2.2.2.2.2.2.2.2.2.2.2.2.2.2.2.2.2.2.2.2.2.2.2.2.2.2.2.2.2.2.2.2.1 u.2.2.2.2.2.2.2.2.2.2.2.2.2.2.2.2.2.2.2.2.2.2.2.2.2.2.2.2.2.2.2.2.2.2.2.1 u.2.2.2.2.2.2.2.2.2.2.2.2.2.2.2.2.2.2.2.2.2.2.2.2.2.2.2.2.2.2.2.2.2.2.2.2.1 u.2.2.2.2.2.2.2.2.2.2.2.2.2.2.2.2.2.2.2.2.2.2.2.2.2.2.2.2.2.2.2.2.2.2.2.2.2.1 u.2.2.2.2.2.2.2.2.2.2.2.2.2.2.2.2.2.2.2.2.2.2.2.2.2.2.2.2.2.2.2.2.2.2.2.2.2.2
section
variable {u : SX} {P : pg_P} {np ne ns : Nat} {post : Int32 → Prop}
theorem xb_e_go (hX : xp_P u P np ne ns) (hW : pg_W P np ne ns) {J : Int64 → Int32 → Prop} {x1 : Int32} {A : Int64} {m : Nat} (hm : m < ne)
    (h : ∀ A' : Int64, (∀ j, j < 64 → (vb_b A' j ↔ vb_b A j ∨ vc_e P m j)) → J A' (nI m + (-1))) : xb_e post J x1 A (nI m) (nI (pg_ek P m)) u := by
  have h50 := hW.2.1
  have hWe := hW.2.2.2.2.1 m hm
  have hk := hWe.2.1
  by_cases k2 : 2 ≤ pg_ek P m
  · have hc := hWe.2.2.2.2.2.2.2 k2
    have e1 : ¬ nI (pg_ek P m) < 2 := nI_nlt (b := 2) k2 (by omega)
    have ex : xf_expressionX u (nI m).toNatClampNeg = nI (pg_ex P m) := by rw [nI_clamp (by omega), hX.2.2.2.2.2.2.2.1 m hm]; exact hc.1
    have b1 := fun j (hj : j < 64) => vb_1 (j := pg_ex P m) (k := j) (by omega) hj
    rw [← ex] at b1
    by_cases k7 : pg_ek P m = 7
    · have e2 : nI (pg_ek P m) = 7 := by rw [k7]; rfl
      refine br_f e1 ⟨vp_in_nI (by omega) (by omega), nm_e (br_f e1 (br_t e2 (nm_e (h _ (fun j hj => ?_)))))⟩
      rw [vb_or, b1 j hj]
      unfold vc_e
      constructor
      · intro z; rcases z with z | z
        · exact Or.inl z
        · exact Or.inr ⟨k2, Or.inl z⟩
      · intro z; rcases z with z | z
        · exact Or.inl z
        · rcases z.2 with z | z
          · exact Or.inr z
          · exact absurd k7 z.1
    · have e2 : ¬ nI (pg_ek P m) = 7 := fun z => k7 ((nI_eq (b := 7) (by omega) (by omega)).mp z)
      have hy := hc.2.2.2 k7
      have ey : xf_expressionY u (nI m).toNatClampNeg = nI (pg_ey P m) := by rw [nI_clamp (by omega), hX.2.2.2.2.2.2.2.2.1 m hm k2 k7]; exact hy.1
      have b2 := fun j (hj : j < 64) => vb_1 (j := pg_ey P m) (k := j) (by omega) hj
      rw [← ey] at b2
      refine br_f e1 ⟨vp_in_nI (by omega) (by omega), nm_e (br_f e1 (br_f e2 ⟨vp_in_nI (by omega) (by omega), nm_e (nm_e (h _ (fun j hj => ?_)))⟩))⟩
      rw [vb_or, vb_or, b1 j hj, b2 j hj]
      unfold vc_e
      constructor
      · intro z; rcases z with (z | z) | z
        · exact Or.inl z
        · exact Or.inr ⟨k2, Or.inl z⟩
        · exact Or.inr ⟨k2, Or.inr ⟨k7, z⟩⟩
      · intro z; rcases z with z | z
        · exact Or.inl (Or.inl z)
        · rcases z.2 with z | z
          · exact Or.inl (Or.inr z)
          · exact Or.inr z.2
  · have e1 : nI (pg_ek P m) < 2 := nI_lt (b := 2) (by omega) (by omega)
    refine br_t e1 (br_t e1 (nm_e (h A (fun j hj => ⟨Or.inl, fun z => ?_⟩))))
    rcases z with z | z
    · exact z
    · exact absurd z.1 k2
theorem xb_exp (hX : xp_P u P np ne ns) (hW : pg_W P np ne ns) {q : Nat} (hq : q < np) : ∀ m : Nat, m ≤ ne → ∀ A : Int64,
    ((∀ e, e < m → vb_b A e → pg_FE P np q e) → post 1) → (¬ (∀ e, e < m → vb_b A e → pg_FE P np q e) → post 0) → xb_E post (nI q) u (m + 1) A (nI m + (-1)) := by
  have h50 := hW.2.1
  intro m
  induction m with
  | zero =>
    intro _ A h1 _
    exact br_t (by decide) (h1 (fun e he => absurd he (Nat.not_lt_zero e)))
  | succ m ih =>
    intro hm A h1 h0
    rw [pk_m1]
    have hm' : m < ne := by omega
    have hWe := hW.2.2.2.2.1 m hm'
    have ek : xf_expressionKind u (nI m).toNatClampNeg = nI (pg_ek P m) := by rw [nI_clamp (by omega), hX.2.2.2.2.2.2.1 m hm']; exact hWe.1
    have hk := hWe.2.1
    by_cases hb : vb_b A m
    · have hf := vc_FE hW hm' q
      have key : ∀ A' : Int64, (∀ j, j < 64 → (vb_b A' j ↔ vb_b A j ∨ vc_e P m j)) → (pg_ek P m = 1 → pg_sn P np q (pg_ex P m)) → ((∀ e, e < m → vb_b A' e → pg_FE P np q e) ↔ (∀ e, e < m + 1 → vb_b A e → pg_FE P np q e)) := by
        intro A' hA hs
        constructor
        · intro h e he hbe
          by_cases z : e = m
          · subst z
            exact hf.mpr ⟨hs, fun j hj => h j (vc_elt hW hm' hj) ((hA j (by have := vc_elt hW hm' hj; omega)).mpr (Or.inr hj))⟩
          · exact h e (by omega) ((hA e (by omega)).mpr (Or.inl hbe))
        · intro h e he hbe
          rcases (hA e (by omega)).mp hbe with z | z
          · exact h e (by omega) z
          · exact (hf.mp (h m (by omega) hb)).2 e z
      have go : (pg_ek P m = 1 → pg_sn P np q (pg_ex P m)) → xb_e post (xb_E post (nI q) u (m + 1)) (nI q) A (nI m) (nI (pg_ek P m)) u := by
        intro hs
        refine xb_e_go hX hW hm' (fun A' hA => ?_)
        exact ih (by omega) A' (fun z => h1 ((key A' hA hs).mp z)) (fun z => h0 (fun y => z ((key A' hA hs).mpr y)))
      refine br_f (nI_pos (by omega)) (br_f (fun z => (vb_at A (by omega)).mp z hb) ⟨vp_in_nI (by omega) (by omega), nm_r ek ?_⟩)
      by_cases k1 : pg_ek P m = 1
      · have hv := hWe.2.2.2.2.2.2.1 k1
        have ex : xf_expressionX u (nI m).toNatClampNeg = nI (pg_ex P m) := by rw [nI_clamp (by omega), hX.2.2.2.2.2.2.2.1 m hm']; exact hv.1
        refine br_t (by rw [k1]; rfl) ⟨vp_in_nI (by omega) (by omega), ?_⟩
        refine wq_sX (u := u) ex (xv_seen hX hW hq hv.2 (fun hs => br_f (by decide) (go (fun _ => hs))) (fun hs => br_t rfl (h0 (fun z => hs ((hf.mp (z m (by omega) hb)).1 k1)))))
      · exact br_f (fun z => k1 ((nI_eq (b := 1) (by omega) (by omega)).mp z)) (go (fun z => absurd z k1))
    · have key : (∀ e, e < m → vb_b A e → pg_FE P np q e) ↔ (∀ e, e < m + 1 → vb_b A e → pg_FE P np q e) := by
        constructor
        · intro h e he hbe
          by_cases z : e = m
          · subst z; exact absurd hbe hb
          · exact h e (by omega) hbe
        · intro h e he hbe
          exact h e (by omega) hbe
      exact br_f (nI_pos (by omega)) (br_t ((vb_at A (by omega)).mpr hb) (nm_e (ih (by omega) A (fun z => h1 (key.mp z)) (fun z => h0 (fun y => z (key.mpr y))))))
end
end
section
/-! valid: the component's statements -/
section
variable {u : SX} {P : pg_P} {np ne ns : Nat} {post : Int64 → Prop}
theorem xv_sx (hX : xp_P u P np ne ns) (hW : pg_W P np ne ns) {s : Nat} (hs : s < ns) (k6 : pg_sk P s ≠ 6) : xf_stateX u (nI s).toNatClampNeg = nI (pg_sx P s) := by
  have h40 := hW.2.2.1
  have hWs := hW.2.2.2.2.2 s hs
  rw [nI_clamp (by omega), hX.2.2.2.2.2.2.2.2.2.2.1 s hs k6]
  have hk := hWs.2.1
  rcases (show pg_sk P s = 0 ∨ pg_sk P s = 1 ∨ pg_sk P s = 2 ∨ pg_sk P s = 3 ∨ pg_sk P s = 4 ∨ pg_sk P s = 5 by omega) with k | k | k | k | k | k
  · exact (hWs.2.2.2.2.2.1 k).1
  · exact (hWs.2.2.2.2.2.2.1 k).1
  · exact (hWs.2.2.2.2.2.2.2.1 k).1
  · exact (hWs.2.2.2.2.2.2.2.2.1 k).1
  · exact (hWs.2.2.2.2.2.2.2.2.2.1 k).1
  · exact (hWs.2.2.2.2.2.2.2.2.2.2 k).1
theorem xv_sk (hX : xp_P u P np ne ns) (hW : pg_W P np ne ns) {s : Nat} (hs : s < ns) : xf_stateKind u (nI s).toNatClampNeg = nI (pg_sk P s) := by
  have h40 := hW.2.2.1
  rw [nI_clamp (by omega), hX.2.2.2.2.2.2.2.2.2.1 s hs]
  exact (hW.2.2.2.2.2 s hs).1
theorem xv_sy (hX : xp_P u P np ne ns) (hW : pg_W P np ne ns) {s : Nat} (hs : s < ns) (k : pg_sk P s < 4 ∨ (pg_sk P s = 5 ∧ pg_md P (pg_sx P s) 0 ≠ 0)) : xf_stateY u (nI s).toNatClampNeg = nI (pg_sy P s) := by
  have h40 := hW.2.2.1
  have hWs := hW.2.2.2.2.2 s hs
  rw [nI_clamp (by omega), hX.2.2.2.2.2.2.2.2.2.2.2.1 s hs k]
  rcases k with k | k
  · rcases (show pg_sk P s = 0 ∨ pg_sk P s = 1 ∨ pg_sk P s = 2 ∨ pg_sk P s = 3 by omega) with k | k | k | k
    · exact (hWs.2.2.2.2.2.1 k).2.2.1
    · exact (hWs.2.2.2.2.2.2.1 k).2.2.1
    · exact (hWs.2.2.2.2.2.2.2.1 k).2.2.1
    · exact (hWs.2.2.2.2.2.2.2.2.1 k).2.2.1
  · exact ((hWs.2.2.2.2.2.2.2.2.2.2 k.1).2.2.1 k.2).1
theorem xv_kn {k c : Nat} (hk : k ≤ 6) (hc : c ≤ 6) (h : k ≠ c) : ¬ nI k = nI c := fun z => h ((nI_eq (by omega) (by omega)).mp z)
theorem xv_in (hX : xp_P u P np ne ns) (hW : pg_W P np ne ns) {s : Nat} (hs : s < ns) (h : ∀ w : Int64, (∀ j, j < 64 → (vb_b w j ↔ vc_s P s j)) → post w) : wpX_statesIn post u (nI s) := by
  have h40 := hW.2.2.1
  have hWs := hW.2.2.2.2.2 s hs
  have hk := hWs.2.1
  have iv : vp_in (nI s) 40 := vp_in_nI (by omega) (by omega)
  have ek := xv_sk hX hW hs
  refine ⟨iv, nm_r ek ?_⟩
  by_cases k1 : pg_sk P s = 1
  · have c := hWs.2.2.2.2.2.2.1 k1
    have ex := xv_sx hX hW hs (by omega)
    have ey := xv_sy hX hW hs (Or.inl (by omega))
    have b1 := fun j (hj : j < 64) => vb_1 (j := pg_sx P s) (k := j) (by omega) hj
    have b2 := fun j (hj : j < 64) => vb_1 (j := pg_sy P s) (k := j) (by omega) hj
    rw [← ex] at b1
    rw [← ey] at b2
    refine br_t (by rw [k1]; rfl) ⟨iv, iv, h _ (fun j hj => ?_)⟩
    rw [vb_or, b1 j hj, b2 j hj]
    unfold vc_s
    constructor
    · intro z; rcases z with z | z
      · exact Or.inl ⟨k1, z⟩
      · exact Or.inr (Or.inl ⟨Or.inl k1, z⟩)
    · intro z; rcases z with z | z | z
      · exact Or.inl z.2
      · exact Or.inr z.2
      · omega
  · refine br_f (xv_kn (c := 1) hk (by omega) k1) ?_
    by_cases k2 : pg_sk P s = 2
    · have c := hWs.2.2.2.2.2.2.2.1 k2
      have ey := xv_sy hX hW hs (Or.inl (by omega))
      have b2 := fun j (hj : j < 64) => vb_1 (j := pg_sy P s) (k := j) (by omega) hj
      rw [← ey] at b2
      have ez : xf_stateZ u (nI s).toNatClampNeg = P 10 s := by rw [nI_clamp (by omega), hX.2.2.2.2.2.2.2.2.2.2.2.2 s hs (Or.inl k2)]
      refine br_t (by rw [k2]; rfl) ⟨iv, iv, ?_⟩
      by_cases hz : 0 ≤ P 10 s
      · rcases c.2.2.2.2 with d | d
        · rw [d.1] at hz; exact absurd hz (by decide)
        · have b3 := fun j (hj : j < 64) => vb_1 (j := pg_sz P s) (k := j) (by omega) hj
          rw [← d.1, ← ez] at b3
          refine br_t (show 0 ≤ xf_stateZ u (nI s).toNatClampNeg by rw [ez]; exact hz) ⟨iv, h _ (fun j hj => ?_)⟩
          rw [vb_or, b2 j hj, b3 j hj]
          unfold vc_s
          constructor
          · intro z; rcases z with z | z
            · exact Or.inr (Or.inl ⟨Or.inr (Or.inl k2), z⟩)
            · exact Or.inr (Or.inr ⟨k2, hz, z⟩)
          · intro z; rcases z with z | z | z
            · exact absurd z.1 k1
            · exact Or.inl z.2
            · exact Or.inr z.2.2
      · refine br_f (show ¬ 0 ≤ xf_stateZ u (nI s).toNatClampNeg by rw [ez]; exact hz) (h _ (fun j hj => ?_))
        rw [vb_or, b2 j hj]
        unfold vc_s
        constructor
        · intro z; rcases z with z | z
          · exact Or.inr (Or.inl ⟨Or.inr (Or.inl k2), z⟩)
          · exact absurd z (vb_0 j)
        · intro z; rcases z with z | z | z
          · exact absurd z.1 k1
          · exact Or.inl z.2
          · exact absurd z.2.1 hz
    · refine br_f (xv_kn (c := 2) hk (by omega) k2) ?_
      by_cases k3 : pg_sk P s = 3
      · have c := hWs.2.2.2.2.2.2.2.2.1 k3
        have ey := xv_sy hX hW hs (Or.inl (by omega))
        have b2 := fun j (hj : j < 64) => vb_1 (j := pg_sy P s) (k := j) (by omega) hj
        rw [← ey] at b2
        refine br_t (by rw [k3]; rfl) ⟨iv, h _ (fun j hj => ?_)⟩
        rw [b2 j hj]
        unfold vc_s
        constructor
        · intro z; exact Or.inr (Or.inl ⟨Or.inr (Or.inr k3), z⟩)
        · intro z; rcases z with z | z | z
          · exact absurd z.1 k1
          · exact z.2
          · exact absurd z.1 k2
      · refine br_f (xv_kn (c := 3) hk (by omega) k3) (h 0 (fun j hj => ⟨fun z => absurd z (vb_0 j), fun z => ?_⟩))
        rcases z with z | z | z
        · exact absurd z.1 k1
        · rcases z.1 with z | z | z
          · exact absurd z k1
          · exact absurd z k2
          · exact absurd z k3
        · exact absurd z.1 k2
def xb_x (post : Int64 → Prop) (x1 x3 : Int32) (z0 : Int64) (u : SX) : Prop := wX_expressionsIn_79 post x1 x3 z0 u.1 u.2.1 u.2.2.1 u.2.2.2.1 u.2.2.2.2.1 u.2.2.2.2.2.1 u.2.2.2.2.2.2.1 u.2.2.2.2.2.2.2.1 u.2.2.2.2.2.2.2.2.1 u.2.2.2.2.2.2.2.2.2.1 u.2.2.2.2.2.2.2.2.2.2.1 u.2.2.2.2.2.2.2.2.2.2.2.1 u.2.2.2.2.2.2.2.2.2.2.2.2.1 u.2.2.2.2.2.2.2.2.2.2.2.2.2.1 u.2.2.2.2.2.2.2.2.2.2.2.2.2.2.1 u.2.2.2.2.2.2.2.2.2.2.2.2.2.2.2.1 u.2.2.2.2.2.2.2.2.2.2.2.2.2.2.2.2.1 u.2.2.2.2.2.2.2.2.2.2.2.2.2.2.2.2.2.1 u.2.2.2.2.2.2.2.2.2.2.2.2.2.2.2.2.2.2.1 u.2.2.2.2.2.2.2.2.2.2.2.2.2.2.2.2.2.2.2.1 u.2.2.2.2.2.2.2.2.2.2.2.2.2.2.2.2.2.2.2.2.1 u.2.2.2.2.2.2.2.2.2.2.2.2.2.2.2.2.2.2.2.2.2.1 u.2.2.2.2.2.2.2.2.2.2.2.2.2.2.2.2.2.2.2.2.2.2.1 u.2.2.2.2.2.2.2.2.2.2.2.2.2.2.2.2.2.2.2.2.2.2.2.1 u.2.2.2.2.2.2.2.2.2.2.2.2.2.2.2.2.2.2.2.2.2.2.2.2.1 u.2.2.2.2.2.2.2.2.2.2.2.2.2.2.2.2.2.2.2.2.2.2.2.2.2.1 u.2.2.2.2.2.2.2.2.2.2.2.2.2.2.2.2.2.2.2.2.2.2.2.2.2.2.1 u.2.2.2.2.2.2.2.2.2.2.2.2.2.2.2.2.2.2.2.2.2.2.2.2.2.2.2.1 u.2.2.2.2.2.2.2.2.2.2.2.2.2.2.2.2.2.2.2.2.2.2.2.2.2.2.2.2.1 u.2.2.2.2.2.2.2.2.2.2.2.2.2.2.2.2.2.2.2.2.2.2.2.2.2.2.2.2.2.1 u.2.2.2.2.2.2.2.2.2.2.2.2.2.2.2.2.2.2.2.2.2.2.2.2.2.2.2.2.2.2.1 u.2.2.2.2.2.2.2.2.2.2.2.2.2.2.2.2.2.2.2.2.2.2.2.2.2.2.2.2.2.2.2.1 u.2.2.2.2.2.2.2.2.2.2.2.2.2.2.2.2.2.2.2.2.2.2.2.2.2.2.2.2.2.2.2.2.1 u.2.2.2.2.2.2.2.2.2.2.2.2.2.2.2.2.2.2.2.2.2.2.2.2.2.2.2.2.2.2.2.2.2.1 u.2.2.2.2.2.2.2.2.2.2.2.2.2.2.2.2.2.2.2.2.2.2.2.2.2.2.2.2.2.2.2.2.2.2.1 u.2.2.2.2.2.2.2.2.2.2.2.2.2.2.2.2.2.2.2.2.2.2.2.2.2.2.2.2.2.2.2.2.2.2.2.1 u.2.2.2.2.2.2.2.2.2.2.2.2.2.2.2.2.2.2.2.2.2.2.2.2.2.2.2.2.2.2.2.2.2.2.2.2.1 u.2.2.2.2.2.2.2.2.2.2.2.2.2.2.2.2.2.2.2.2.2.2.2.2.2.2.2.2.2.2.2.2.2.2.2.2.2.1 u.2.2.2.2.2.2.2.2.2.2.2.2.2.2.2.2.2.2.2.2.2.2.2.2.2.2.2.2.2.2.2.2.2.2.2.2.2.2
theorem xv_ex2 (hX : xp_P u P np ne ns) (hW : pg_W P np ne ns) {s : Nat} (hs : s < ns) (k5 : pg_sk P s = 5) {z0 : Int64} (hz : ∀ j, j < 64 → (vb_b z0 j ↔ (pg_md P (pg_sx P s) 0 ≠ 0 ∧ j = pg_sy P s)))
    (h : ∀ w : Int64, (∀ j, j < 64 → (vb_b w j ↔ vc_x P s j)) → post w) : xb_x post (nI s) (nI (pg_sx P s)) z0 u := by
  have h40 := hW.2.2.1
  have h50 := hW.2.1
  have hWs := hW.2.2.2.2.2 s hs
  have c := hWs.2.2.2.2.2.2.2.2.2.2 k5
  have iv : vp_in (nI s) 40 := vp_in_nI (by omega) (by omega)
  have hm := sr_md hW c.2.1 1
  unfold xb_x wX_expressionsIn_79
  refine xh_mode (u := u) (k := 1) hX hW c.2.1 (by omega) ?_
  by_cases m1 : pg_md P (pg_sx P s) 1 = 0
  · refine br_t (by rw [m1]; rfl) (h _ (fun j hj => ?_))
    rw [hz j hj]
    unfold vc_x
    constructor
    · intro z; exact Or.inr (Or.inr (Or.inl ⟨k5, z.1, z.2⟩))
    · intro z; rcases z with z | z | z | z
      · omega
      · omega
      · exact z.2
      · exact absurd m1 z.2.1
  · have d := c.2.2.2.1 m1
    have ez : xf_stateZ u (nI s).toNatClampNeg = nI (pg_sz P s) := by rw [nI_clamp (by omega), hX.2.2.2.2.2.2.2.2.2.2.2.2 s hs (Or.inr ⟨k5, m1⟩)]; exact d.1
    have b3 := fun j (hj : j < 64) => vb_1 (j := pg_sz P s) (k := j) (by omega) hj
    rw [← ez] at b3
    refine br_f (nI_ne0 (by omega) (by omega)) ⟨iv, h _ (fun j hj => ?_)⟩
    rw [vb_or, hz j hj, b3 j hj]
    unfold vc_x
    constructor
    · intro z; rcases z with z | z
      · exact Or.inr (Or.inr (Or.inl ⟨k5, z.1, z.2⟩))
      · exact Or.inr (Or.inr (Or.inr ⟨k5, m1, z⟩))
    · intro z; rcases z with z | z | z | z
      · omega
      · omega
      · exact Or.inl z.2
      · exact Or.inr z.2.2
theorem xv_ex (hX : xp_P u P np ne ns) (hW : pg_W P np ne ns) {s : Nat} (hs : s < ns) (h : ∀ w : Int64, (∀ j, j < 64 → (vb_b w j ↔ vc_x P s j)) → post w) : wpX_expressionsIn post u (nI s) := by
  have h40 := hW.2.2.1
  have h50 := hW.2.1
  have hWs := hW.2.2.2.2.2 s hs
  have hk := hWs.2.1
  have iv : vp_in (nI s) 40 := vp_in_nI (by omega) (by omega)
  have ek := xv_sk hX hW hs
  refine ⟨iv, nm_r ek ?_⟩
  by_cases k0 : pg_sk P s = 0
  · have c := hWs.2.2.2.2.2.1 k0
    have ey := xv_sy hX hW hs (Or.inl (by omega))
    have b2 := fun j (hj : j < 64) => vb_1 (j := pg_sy P s) (k := j) (by omega) hj
    rw [← ey] at b2
    refine br_t (by rw [k0]; rfl) ⟨iv, h _ (fun j hj => ?_)⟩
    rw [b2 j hj]
    unfold vc_x
    constructor
    · intro z; exact Or.inl ⟨k0, z⟩
    · intro z; rcases z with z | z | z | z
      · exact z.2
      · omega
      · omega
      · omega
  · refine br_f (xv_kn (c := 0) hk (by omega) k0) ?_
    have mid : pg_sk P s = 2 ∨ pg_sk P s = 3 ∨ pg_sk P s = 4 → post ((1 : Int64) <<< ((xf_stateX u (nI s).toNatClampNeg).toInt64 &&& 63)) := by
      intro k
      have ex := xv_sx hX hW hs (by omega)
      have cx : pg_sx P s < ne := by
        rcases k with k | k | k
        · exact (hWs.2.2.2.2.2.2.2.1 k).2.1
        · exact (hWs.2.2.2.2.2.2.2.2.1 k).2.1
        · exact (hWs.2.2.2.2.2.2.2.2.2.1 k).2.1
      have b1 := fun j (hj : j < 64) => vb_1 (j := pg_sx P s) (k := j) (by omega) hj
      rw [← ex] at b1
      refine h _ (fun j hj => ?_)
      rw [b1 j hj]
      unfold vc_x
      constructor
      · intro z; exact Or.inr (Or.inl ⟨k, z⟩)
      · intro z; rcases z with z | z | z | z
        · exact absurd z.1 k0
        · exact z.2
        · omega
        · omega
    by_cases k2 : pg_sk P s = 2
    · exact br_t (by rw [k2]; rfl) ⟨iv, mid (Or.inl k2)⟩
    · refine br_f (xv_kn (c := 2) hk (by omega) k2) ?_
      by_cases k3 : pg_sk P s = 3
      · exact br_t (by rw [k3]; rfl) ⟨iv, mid (Or.inr (Or.inl k3))⟩
      · refine br_f (xv_kn (c := 3) hk (by omega) k3) ?_
        by_cases k4 : pg_sk P s = 4
        · exact br_t (by rw [k4]; rfl) ⟨iv, mid (Or.inr (Or.inr k4))⟩
        · refine br_f (xv_kn (c := 4) hk (by omega) k4) ?_
          by_cases k5 : pg_sk P s = 5
          · have c := hWs.2.2.2.2.2.2.2.2.2.2 k5
            have ex := xv_sx hX hW hs (by omega)
            have hm := sr_md hW c.2.1 0
            refine br_t (by rw [k5]; rfl) ⟨iv, nm_r ex ?_⟩
            refine xh_mode (u := u) (k := 0) hX hW c.2.1 (by omega) ?_
            by_cases m0 : pg_md P (pg_sx P s) 0 = 0
            · refine br_t (by rw [m0]; rfl) (xv_ex2 (u := u) hX hW hs k5 (fun j hj => ⟨fun z => absurd z (vb_0 j), fun z => absurd m0 z.1⟩) h)
            · have d := c.2.2.1 m0
              have ey := xv_sy hX hW hs (Or.inr ⟨k5, m0⟩)
              have b2 := fun j (hj : j < 64) => vb_1 (j := pg_sy P s) (k := j) (by omega) hj
              rw [← ey] at b2
              refine br_f (nI_ne0 (by omega) (by omega)) ⟨iv, xv_ex2 (u := u) hX hW hs k5 (fun j hj => ?_) h⟩
              rw [b2 j hj]
              exact ⟨fun z => ⟨m0, z⟩, fun z => z.2⟩
          · refine br_f (xv_kn (c := 5) hk (by omega) k5) (h 0 (fun j hj => ⟨fun z => absurd z (vb_0 j), fun z => ?_⟩))
            rcases z with z | z | z | z
            · exact absurd z.1 k0
            · omega
            · exact absurd z.1 k5
            · exact absurd z.1 k5
end
section
variable {u : SX} {P : pg_P} {np ne ns : Nat} {post : Int32 → Prop}
theorem xb_s_go (hX : xp_P u P np ne ns) (hW : pg_W P np ne ns) {q : Nat} (hq : q < np) {J : Int64 → Int64 → Int32 → Prop} {B A : Int64} {m : Nat} (hm : m < ns)
    (h1 : (pg_sk P m = 5 → pg_sx P m ≠ 0 ∧ pg_an P 4 q (pg_pa P (pg_sx P m))) → J B A (nI m + (-1))) (h0 : ¬ (pg_sk P m = 5 → pg_sx P m ≠ 0 ∧ pg_an P 4 q (pg_pa P (pg_sx P m))) → post 0) : xb_s post J (nI q) B A (nI m) u := by
  have h40 := hW.2.2.1
  have h5 := hW.1
  have hWs := hW.2.2.2.2.2 m hm
  have hk := hWs.2.1
  have iv : vp_in (nI m) 40 := vp_in_nI (by omega) (by omega)
  have ek := xv_sk hX hW hm
  refine ⟨iv, ?_⟩
  by_cases k5 : pg_sk P m = 5
  · have c := hWs.2.2.2.2.2.2.2.2.2.2 k5
    have ex := xv_sx hX hW hm (by omega)
    refine br_t (show xf_stateKind u (nI m).toNatClampNeg = 5 by rw [ek, k5]; rfl) ⟨iv, ?_⟩
    by_cases x0 : pg_sx P m = 0
    · exact br_t (show xf_stateX u (nI m).toNatClampNeg = 0 by rw [ex, x0]; rfl) (h0 (fun z => (z k5).1 x0))
    · refine br_f (show ¬ xf_stateX u (nI m).toNatClampNeg = 0 by rw [ex]; exact nI_ne0 (by omega) (by omega)) ⟨iv, (show vp_in (xf_stateX u (nI m).toNatClampNeg) 5 by rw [ex]; exact vp_in_nI (by omega) (by omega)), ?_⟩
      have hp := (hW.2.2.2.1 _ c.2.1).2.1 x0
      have ep : xf_parentOf u (xf_stateX u (nI m).toNatClampNeg).toNatClampNeg = nI (pg_pa P (pg_sx P m)) := by
        rw [ex, nI_clamp (by omega), hX.2.2.2.1 _ c.2.1]; exact hp.1
      refine wq_hX (u := u) ep (xv_hops hX hW hq (by omega) (fun ha k hk => ?_) (fun ha => ?_))
      · exact br_t (nI_pos' (by omega)) (nm_e (h1 (fun _ => ⟨x0, ha⟩)))
      · exact br_f (by decide) (h0 (fun z => ha (z k5).2))
  · exact br_f (show ¬ xf_stateKind u (nI m).toNatClampNeg = 5 by rw [ek]; exact xv_kn (c := 5) hk (by omega) k5) (nm_e (h1 (fun z => absurd z k5)))
theorem xb_st (hX : xp_P u P np ne ns) (hW : pg_W P np ne ns) {q : Nat} (hq : q < np) : ∀ m : Nat, m ≤ ns → ∀ B A : Int64,
    (((∀ s, s < m → vb_b B s → pg_FS P np q s) ∧ (∀ e, e < ne → vb_b A e → pg_FE P np q e)) → post 1) → (¬ ((∀ s, s < m → vb_b B s → pg_FS P np q s) ∧ (∀ e, e < ne → vb_b A e → pg_FE P np q e)) → post 0) →
      xb_S post (nI q) u (m + 1) B A (nI m + (-1)) := by
  have h50 := hW.2.1
  have h40 := hW.2.2.1
  intro m
  induction m with
  | zero =>
    intro _ B A h1 h0
    have e : xf_expressionCount u - 1 = nI ne + (-1) := by rw [hX.2.1]; exact Int32.sub_eq_add_neg _ _
    exact br_t (by decide) (nm_r e ⟨ne + 1, xb_exp hX hW hq ne (Nat.le_refl _) A (fun z => h1 ⟨fun e he => absurd he (Nat.not_lt_zero e), z⟩) (fun z => h0 (fun y => z y.2))⟩)
  | succ m ih =>
    intro hm B A h1 h0
    rw [pk_m1]
    have hm' : m < ns := by omega
    have hWs := hW.2.2.2.2.2 m hm'
    have hk := hWs.2.1
    have iv : vp_in (nI m) 40 := vp_in_nI (by omega) (by omega)
    have ek := xv_sk hX hW hm'
    by_cases hb : vb_b B m
    · have hf := vc_FS hW hm' q
      refine br_f (nI_pos (by omega)) (br_f (fun z => (vb_at B (by omega)).mp z hb) ?_)
      refine xv_in (u := u) hX hW hm' (fun w hw => nm_e ?_)
      refine xv_ex (u := u) hX hW hm' (fun x hx => nm_e ⟨iv, ?_⟩)
      have key : vc_p P np q m → (((∀ s, s < m → vb_b (B ||| w) s → pg_FS P np q s) ∧ (∀ e, e < ne → vb_b (A ||| x) e → pg_FE P np q e)) ↔ ((∀ s, s < m + 1 → vb_b B s → pg_FS P np q s) ∧ (∀ e, e < ne → vb_b A e → pg_FE P np q e))) := by
        intro hp
        constructor
        · intro h
          refine ⟨fun s hs hbs => ?_, fun e he hbe => h.2 e he ((vb_or _ _ _).mpr (Or.inl hbe))⟩
          by_cases z : s = m
          · subst z
            refine hf.mpr ⟨hp, fun j hj => ?_, fun j hj => ?_⟩
            · have hl := vc_slt hW hm' hj
              exact h.1 j hl ((vb_or _ _ _).mpr (Or.inr ((hw j (by omega)).mpr hj)))
            · have hl := vc_xlt hW hm' hj
              exact h.2 j hl ((vb_or _ _ _).mpr (Or.inr ((hx j (by omega)).mpr hj)))
          · exact h.1 s (by omega) ((vb_or _ _ _).mpr (Or.inl hbs))
        · intro h
          have hfm := hf.mp (h.1 m (by omega) hb)
          refine ⟨fun s hs hbs => ?_, fun e he hbe => ?_⟩
          · rcases (vb_or _ _ _).mp hbs with z | z
            · exact h.1 s (by omega) z
            · exact hfm.2.1 s ((hw s (by omega)).mp z)
          · rcases (vb_or _ _ _).mp hbe with z | z
            · exact h.2 e he z
            · exact hfm.2.2 e ((hx e (by omega)).mp z)
      have go : (pg_sk P m = 0 → pg_sn P np q (pg_sx P m)) → xb_s post (xb_S post (nI q) u (m + 1)) (nI q) (B ||| w) (A ||| x) (nI m) u := by
        intro hs
        refine xb_s_go hX hW hq hm' (fun hc => ?_) (fun hc => h0 (fun y => hc (hf.mp (y.1 m (by omega) hb)).1.2))
        have kk := key ⟨hs, hc⟩
        exact ih (by omega) _ _ (fun z => h1 (kk.mp z)) (fun z => h0 (fun y => z (kk.mpr y)))
      by_cases k0 : pg_sk P m = 0
      · have c := hWs.2.2.2.2.2.1 k0
        have ex := xv_sx hX hW hm' (by omega)
        refine br_t (show xf_stateKind u (nI m).toNatClampNeg = 0 by rw [ek, k0]; rfl) ⟨iv, ?_⟩
        refine wq_sX (u := u) ex (xv_seen hX hW hq c.2.1 (fun hs => br_f (by decide) (go (fun _ => hs))) (fun hs => br_t rfl (h0 (fun z => hs ((hf.mp (z.1 m (by omega) hb)).1.1 k0)))))
      · exact br_f (show ¬ xf_stateKind u (nI m).toNatClampNeg = 0 by rw [ek]; exact xv_kn (c := 0) hk (by omega) k0) (go (fun z => absurd z k0))
    · have key : ((∀ s, s < m → vb_b B s → pg_FS P np q s) ∧ (∀ e, e < ne → vb_b A e → pg_FE P np q e)) ↔ ((∀ s, s < m + 1 → vb_b B s → pg_FS P np q s) ∧ (∀ e, e < ne → vb_b A e → pg_FE P np q e)) := by
        constructor
        · intro h
          refine ⟨fun s hs hbs => ?_, h.2⟩
          by_cases z : s = m
          · subst z; exact absurd hbs hb
          · exact h.1 s (by omega) hbs
        · intro h
          exact ⟨fun s hs hbs => h.1 s (by omega) hbs, h.2⟩
      exact br_f (nI_pos (by omega)) (br_t ((vb_at B (by omega)).mpr hb) (nm_e (ih (by omega) B A (fun z => h1 (key.mp z)) (fun z => h0 (fun y => z (key.mpr y))))))
theorem xv_body (hX : xp_P u P np ne ns) (hW : pg_W P np ne ns) {q : Nat} (hq : q < np) (hb : P 2 q = nI (pg_bo P q)) (hbs : pg_bo P q < ns) (h1 : pg_FS P np q (pg_bo P q) → post 1) (h0 : ¬ pg_FS P np q (pg_bo P q) → post 0) : wpX_bodyFits post u (nI q) := by
  have h5 := hW.1
  have h40 := hW.2.2.1
  have e : xf_bodyOf u (nI q).toNatClampNeg = nI (pg_bo P q) := by rw [nI_clamp (by omega), hX.2.2.2.2.2.1 q hq]; exact hb
  have iv : vp_in (nI q) 5 := vp_in_nI (by omega) (by omega)
  have b1 := fun j (hj : j < 64) => vb_1 (j := pg_bo P q) (k := j) (by omega) hj
  rw [← e] at b1
  have key : ((∀ s, s < pg_bo P q + 1 → vb_b ((1 : Int64) <<< ((xf_bodyOf u (nI q).toNatClampNeg).toInt64 &&& 63)) s → pg_FS P np q s) ∧ (∀ e, e < ne → vb_b 0 e → pg_FE P np q e)) ↔ pg_FS P np q (pg_bo P q) := by
    constructor
    · intro h
      exact h.1 _ (by omega) ((b1 _ (by omega)).mpr rfl)
    · intro h
      refine ⟨fun s hs z => ?_, fun e _ z => absurd z (vb_0 e)⟩
      rw [(b1 s (by omega)).mp z]; exact h
  have e2 : xf_bodyOf u (nI q).toNatClampNeg = nI (pg_bo P q + 1) + (-1) := by rw [e, pk_m1]
  exact ⟨iv, nm_e ⟨iv, nm_r e2 ⟨_, xb_st hX hW hq (pg_bo P q + 1) (by omega) _ 0 (fun z => h1 (key.mp z)) (fun z => h0 (fun y => z (key.mpr y)))⟩⟩⟩
/-- a program is fine from one procedure on -/
def pg_V (P : pg_P) (np ns p : Nat) : Prop := ∀ q, p ≤ q → q < np → P 2 q = nI (pg_bo P q) ∧ pg_bo P q < ns ∧ pg_FS P np q (pg_bo P q)
theorem pg_V1 {p : Nat} (hp : p < np) : pg_V P np ns p ↔ (P 2 p = nI (pg_bo P p) ∧ pg_bo P p < ns ∧ pg_FS P np p (pg_bo P p)) ∧ pg_V P np ns (p + 1) := by
  constructor
  · intro h
    exact ⟨h p (Nat.le_refl _) hp, fun q hq => h q (by omega)⟩
  · intro h q hq hn
    by_cases e : q = p
    · subst e; exact h.1
    · exact h.2 q (by omega) hn
def xb_V (post : Int32 → Prop) (u : SX) (n : Nat) (x1 : Int32) : Prop := wX_valid_11 post u.1 u.2.1 u.2.2.1 u.2.2.2.1 u.2.2.2.2.1 u.2.2.2.2.2.1 u.2.2.2.2.2.2.1 u.2.2.2.2.2.2.2.1 u.2.2.2.2.2.2.2.2.1 u.2.2.2.2.2.2.2.2.2.1 u.2.2.2.2.2.2.2.2.2.2.1 u.2.2.2.2.2.2.2.2.2.2.2.1 u.2.2.2.2.2.2.2.2.2.2.2.2.1 u.2.2.2.2.2.2.2.2.2.2.2.2.2.1 u.2.2.2.2.2.2.2.2.2.2.2.2.2.2.1 u.2.2.2.2.2.2.2.2.2.2.2.2.2.2.2.1 u.2.2.2.2.2.2.2.2.2.2.2.2.2.2.2.2.1 u.2.2.2.2.2.2.2.2.2.2.2.2.2.2.2.2.2.1 u.2.2.2.2.2.2.2.2.2.2.2.2.2.2.2.2.2.2.1 u.2.2.2.2.2.2.2.2.2.2.2.2.2.2.2.2.2.2.2.1 u.2.2.2.2.2.2.2.2.2.2.2.2.2.2.2.2.2.2.2.2.1 u.2.2.2.2.2.2.2.2.2.2.2.2.2.2.2.2.2.2.2.2.2.1 u.2.2.2.2.2.2.2.2.2.2.2.2.2.2.2.2.2.2.2.2.2.2.1 u.2.2.2.2.2.2.2.2.2.2.2.2.2.2.2.2.2.2.2.2.2.2.2.1 u.2.2.2.2.2.2.2.2.2.2.2.2.2.2.2.2.2.2.2.2.2.2.2.2.1 u.2.2.2.2.2.2.2.2.2.2.2.2.2.2.2.2.2.2.2.2.2.2.2.2.2.1 u.2.2.2.2.2.2.2.2.2.2.2.2.2.2.2.2.2.2.2.2.2.2.2.2.2.2.1 u.2.2.2.2.2.2.2.2.2.2.2.2.2.2.2.2.2.2.2.2.2.2.2.2.2.2.2.1 u.2.2.2.2.2.2.2.2.2.2.2.2.2.2.2.2.2.2.2.2.2.2.2.2.2.2.2.2.1 u.2.2.2.2.2.2.2.2.2.2.2.2.2.2.2.2.2.2.2.2.2.2.2.2.2.2.2.2.2.1 u.2.2.2.2.2.2.2.2.2.2.2.2.2.2.2.2.2.2.2.2.2.2.2.2.2.2.2.2.2.2.1 u.2.2.2.2.2.2.2.2.2.2.2.2.2.2.2.2.2.2.2.2.2.2.2.2.2.2.2.2.2.2.2.1 u.2.2.2.2.2.2.2.2.2.2.2.2.2.2.2.2.2.2.2.2.2.2.2.2.2.2.2.2.2.2.2.2.1 u.2.2.2.2.2.2.2.2.2.2.2.2.2.2.2.2.2.2.2.2.2.2.2.2.2.2.2.2.2.2.2.2.2.1 u.2.2.2.2.2.2.2.2.2.2.2.2.2.2.2.2.2.2.2.2.2.2.2.2.2.2.2.2.2.2.2.2.2.2.1 u.2.2.2.2.2.2.2.2.2.2.2.2.2.2.2.2.2.2.2.2.2.2.2.2.2.2.2.2.2.2.2.2.2.2.2.1 u.2.2.2.2.2.2.2.2.2.2.2.2.2.2.2.2.2.2.2.2.2.2.2.2.2.2.2.2.2.2.2.2.2.2.2.2.1 u.2.2.2.2.2.2.2.2.2.2.2.2.2.2.2.2.2.2.2.2.2.2.2.2.2.2.2.2.2.2.2.2.2.2.2.2.2.1 u.2.2.2.2.2.2.2.2.2.2.2.2.2.2.2.2.2.2.2.2.2.2.2.2.2.2.2.2.2.2.2.2.2.2.2.2.2.2 n x1
theorem xv_all (hX : xp_P u P np ne ns) (hW : pg_W P np ne ns) : ∀ m p : Nat, p + m = np → (pg_V P np ns p → post 1) → (¬ pg_V P np ns p → post 0) → xb_V post u (m + 1) (nI p) := by
  have h5 := hW.1
  have h40 := hW.2.2.1
  have hc := hX.1
  intro m
  induction m with
  | zero =>
    intro p hp h1 h0
    exact br_t (show xf_procedureCount u ≤ nI p by rw [hc]; exact nI_le (by omega) (by omega)) (h1 (fun q h2 h3 => by omega))
  | succ m ih =>
    intro p hp h1 h0
    have hq : p < np := by omega
    have iv : vp_in (nI p) 5 := vp_in_nI (by omega) (by omega)
    have hv := pg_V1 (P := P) (ns := ns) hq
    have e : xf_bodyOf u (nI p).toNatClampNeg = P 2 p := by rw [nI_clamp (by omega), hX.2.2.2.2.2.1 p hq]
    refine br_f (show ¬ xf_procedureCount u ≤ nI p by rw [hc]; exact nI_ge hq (by omega)) ⟨iv, ?_⟩
    rcases (hW.2.2.2.1 p hq).2.2.2.2.2 with b | b
    · refine br_t (show xf_bodyOf u (nI p).toNatClampNeg < 0 by rw [e, b]; decide) (h0 (fun z => ?_))
      have z1 := (hv.mp z).1.1
      rw [b] at z1
      have : (-1 : Int32) < 0 := by decide
      rw [z1] at this
      have hlt := (hv.mp z).1.2.1
      exact nI_pos (by omega) this
    · refine br_f (show ¬ xf_bodyOf u (nI p).toNatClampNeg < 0 by rw [e, b.1]; exact nI_pos (by omega)) ?_
      refine xv_body (u := u) hX hW hq b.1 b.2 (fun hf => ?_) (fun hf => br_t rfl (h0 (fun z => hf (hv.mp z).1.2.2)))
      exact br_f (by decide) (nm_r (nI_1 p) (ih (p + 1) (by omega) (fun z => h1 (hv.mpr ⟨⟨b.1, b.2, hf⟩, z⟩)) (fun z => h0 (fun y => z (hv.mp y).2))))
theorem xv_valid (hX : xp_P u P np ne ns) (hW : pg_W P np ne ns) (h1 : 0 < np → pg_V P np ns 0 → post 1) (h0 : ¬ (0 < np ∧ pg_V P np ns 0) → post 0) : wpX_valid post u := by
  have h5 := hW.1
  have hc := hX.1
  by_cases hn : np = 0
  · exact br_t (show xf_procedureCount u = 0 by rw [hc, hn]; rfl) (h0 (fun z => by omega))
  · exact br_f (show ¬ xf_procedureCount u = 0 by rw [hc]; exact nI_ne0 (by omega) (by omega)) ⟨np + 1, xv_all hX hW np 0 (by omega) (fun z => h1 (by omega) z) (fun z => h0 (fun y => z y.2))⟩
end
end
section
/-! valid: the reference's side -/
def yk_At (L : Nat → Int32) (b : Nat) : List Nat → Prop
  | [] => True
  | x :: l => L (b + l.length) = nI x ∧ yk_At L b l
theorem yk_keep {L L' : Nat → Int32} {b : Nat} : ∀ l : List Nat, (∀ j, j < b + l.length → L' j = L j) → yk_At L b l → yk_At L' b l := by
  intro l
  induction l with
  | nil => intro _ _; trivial
  | cons x l ih =>
    intro h ha
    simp only [List.length_cons] at h
    exact ⟨by rw [h _ (by omega)]; exact ha.1, ih (fun j hj => h j (by omega)) ha.2⟩
theorem yk_push {L : Nat → Int32} {b x : Nat} {l : List Nat} (h : yk_At L b l) : yk_At (upd L (b + l.length) (nI x)) b (x :: l) :=
  ⟨pk_us, yk_keep l (fun j hj => pk_un (by omega)) h⟩
def yk_w (f : Nat → Nat) : List Nat → Nat
  | [] => 0
  | x :: l => f x + yk_w f l
theorem yk_wa (f : Nat → Nat) : ∀ a b : List Nat, yk_w f (a ++ b) = yk_w f a + yk_w f b := by
  intro a b
  induction a with
  | nil => show yk_w f b = 0 + yk_w f b; omega
  | cons x a ih => show f x + yk_w f (a ++ b) = f x + yk_w f a + yk_w f b; rw [ih]; omega
theorem yk_wl {f : Nat → Nat} : ∀ l : List Nat, (∀ x, x ∈ l → 1 ≤ f x) → l.length ≤ yk_w f l := by
  intro l
  induction l with
  | nil => intro _; exact Nat.le_refl 0
  | cons x l ih =>
    intro h
    have h1 := h x (List.mem_cons_self)
    have h2 := ih (fun y hy => h y (List.mem_cons_of_mem x hy))
    show l.length + 1 ≤ f x + yk_w f l
    omega
def vc_l (P : pg_P) (e : Nat) : List Nat := if pg_ek P e ≤ 1 then [] else if pg_ek P e = 7 then [pg_ex P e] else [pg_ey P e, pg_ex P e]
def vs_l (P : pg_P) (s : Nat) : List Nat := if pg_sk P s = 1 then [pg_sy P s, pg_sx P s] else if pg_sk P s = 2 then (if 0 ≤ P 10 s then [pg_sz P s, pg_sy P s] else [pg_sy P s]) else if pg_sk P s = 3 then [pg_sy P s] else []
section
variable {P : pg_P} {np ne ns : Nat}
theorem vc_lm {e j : Nat} : j ∈ vc_l P e ↔ vc_e P e j := by
  unfold vc_l vc_e
  by_cases k1 : pg_ek P e ≤ 1
  · rw [if_pos k1]
    simp only [List.not_mem_nil, false_iff]
    intro z; omega
  · rw [if_neg k1]
    by_cases k7 : pg_ek P e = 7
    · rw [if_pos k7, List.mem_singleton]
      constructor
      · intro z; exact ⟨by omega, Or.inl z⟩
      · intro z; rcases z.2 with y | y
        · exact y
        · exact absurd k7 y.1
    · rw [if_neg k7, List.mem_cons, List.mem_singleton]
      constructor
      · intro z; rcases z with z | z
        · exact ⟨by omega, Or.inr ⟨k7, z⟩⟩
        · exact ⟨by omega, Or.inl z⟩
      · intro z; rcases z.2 with y | y
        · exact Or.inr y
        · exact Or.inl y.2
theorem vc_lw (hW : pg_W P np ne ns) {e : Nat} (he : e < ne) : yk_w (pg_ew P) (vc_l P e) + 1 ≤ pg_ew P e := by
  have hWe := hW.2.2.2.2.1 e he
  unfold vc_l
  by_cases k1 : pg_ek P e ≤ 1
  · rw [if_pos k1]; exact hWe.2.2.2.1
  · rw [if_neg k1]
    have c := hWe.2.2.2.2.2.2.2 (by omega)
    by_cases k7 : pg_ek P e = 7
    · rw [if_pos k7]
      have := c.2.2.1 k7
      show pg_ew P (pg_ex P e) + 0 + 1 ≤ pg_ew P e
      omega
    · rw [if_neg k7]
      have := (c.2.2.2 k7).2.2
      show pg_ew P (pg_ey P e) + (pg_ew P (pg_ex P e) + 0) + 1 ≤ pg_ew P e
      omega
theorem vs_lm {s j : Nat} : j ∈ vs_l P s ↔ vc_s P s j := by
  unfold vs_l vc_s
  by_cases k1 : pg_sk P s = 1
  · rw [if_pos k1, List.mem_cons, List.mem_singleton]
    constructor
    · intro z; rcases z with z | z
      · exact Or.inr (Or.inl ⟨Or.inl k1, z⟩)
      · exact Or.inl ⟨k1, z⟩
    · intro z; rcases z with z | z | z
      · exact Or.inr z.2
      · exact Or.inl z.2
      · omega
  · rw [if_neg k1]
    by_cases k2 : pg_sk P s = 2
    · rw [if_pos k2]
      by_cases hz : 0 ≤ P 10 s
      · rw [if_pos hz, List.mem_cons, List.mem_singleton]
        constructor
        · intro z; rcases z with z | z
          · exact Or.inr (Or.inr ⟨k2, hz, z⟩)
          · exact Or.inr (Or.inl ⟨Or.inr (Or.inl k2), z⟩)
        · intro z; rcases z with z | z | z
          · exact absurd z.1 k1
          · exact Or.inr z.2
          · exact Or.inl z.2.2
      · rw [if_neg hz, List.mem_singleton]
        constructor
        · intro z; exact Or.inr (Or.inl ⟨Or.inr (Or.inl k2), z⟩)
        · intro z; rcases z with z | z | z
          · exact absurd z.1 k1
          · exact z.2
          · exact absurd z.2.1 hz
    · rw [if_neg k2]
      by_cases k3 : pg_sk P s = 3
      · rw [if_pos k3, List.mem_singleton]
        constructor
        · intro z; exact Or.inr (Or.inl ⟨Or.inr (Or.inr k3), z⟩)
        · intro z; rcases z with z | z | z
          · exact absurd z.1 k1
          · exact z.2
          · exact absurd z.1 k2
      · rw [if_neg k3]
        simp only [List.not_mem_nil, false_iff]
        intro z; rcases z with z | z | z
        · exact absurd z.1 k1
        · omega
        · exact absurd z.1 k2
theorem vs_lw (hW : pg_W P np ne ns) {s : Nat} (hs : s < ns) : yk_w (pg_sw P) (vs_l P s) + 1 ≤ pg_sw P s := by
  have hWs := hW.2.2.2.2.2 s hs
  unfold vs_l
  by_cases k1 : pg_sk P s = 1
  · rw [if_pos k1]
    have := (hWs.2.2.2.2.2.2.1 k1).2.2.2.2
    show pg_sw P (pg_sy P s) + (pg_sw P (pg_sx P s) + 0) + 1 ≤ pg_sw P s
    omega
  · rw [if_neg k1]
    by_cases k2 : pg_sk P s = 2
    · rw [if_pos k2]
      have c := (hWs.2.2.2.2.2.2.2.1 k2).2.2.2.2
      by_cases hz : 0 ≤ P 10 s
      · rw [if_pos hz]
        rcases c with c | c
        · rw [c.1] at hz; exact absurd hz (by decide)
        · have := c.2.2
          show pg_sw P (pg_sz P s) + (pg_sw P (pg_sy P s) + 0) + 1 ≤ pg_sw P s
          omega
      · rw [if_neg hz]
        show pg_sw P (pg_sy P s) + 0 + 1 ≤ pg_sw P s
        rcases c with c | c
        · have := c.2; omega
        · have := c.2.2; omega
    · rw [if_neg k2]
      by_cases k3 : pg_sk P s = 3
      · rw [if_pos k3]
        have := (hWs.2.2.2.2.2.2.2.2.1 k3).2.2.2.2
        show pg_sw P (pg_sy P s) + 0 + 1 ≤ pg_sw P s
        omega
      · rw [if_neg k3]
        exact hWs.2.2.2.1
end
section
variable {P : pg_P} {np ne ns : Nat} {g1 g2 g3 g4 g5 : Int32} {b1 b2 b3 b4 b5 b6 b7 b8 b9 b10 b11 b12 b13 : Nat → Int32}
variable {L : Nat → Int32} {post : Int32 → Prop}
theorem yv_anc (hW : pg_W P np ne ns) {r : Nat} (hr : r < np) : ∀ m q c : Nat, q < np → q ≤ m → c + m ≤ 4 → (pg_an P m q r → post 1) → (¬ pg_an P m q r → post 0) → wY_isAncestor_5 post (nI r) (nI np) (nI ne) (nI ns) g1 g2 g3 g4 g5 (P 0) (P 1) (P 2) (P 3) (P 4) (P 5) (P 6) (P 7) (P 8) (P 9) (P 10) (P 11) L b1 b2 b3 b4 b5 b6 b7 b8 b9 b10 b11 b12 b13 (m + 2) (nI q) (nI c) := by
  have h5 := hW.1
  have zero : ∀ n c : Nat, 0 < np → c ≤ 4 → (0 = r → post 1) → (0 ≠ r → post 0) → wY_isAncestor_5 post (nI r) (nI np) (nI ne) (nI ns) g1 g2 g3 g4 g5 (P 0) (P 1) (P 2) (P 3) (P 4) (P 5) (P 6) (P 7) (P 8) (P 9) (P 10) (P 11) L b1 b2 b3 b4 b5 b6 b7 b8 b9 b10 b11 b12 b13 (n + 2) (nI 0) (nI c) := by
    intro n c hn hc h1 h0
    refine br_f (nI_ge (b := 5) (by omega) (by omega)) (br_f (nI_pos (by omega)) ?_)
    by_cases z : 0 = r
    · exact br_t (congrArg nI z) (h1 z)
    · have ea : P 0 (nI 0).toNatClampNeg = -1 := by rw [nI_clamp (by omega)]; exact ((hW.2.2.2.1 0 hn).1 rfl).1
      refine br_f (fun y => z ((nI_eq (by omega) (by omega)).mp y)) ⟨vp_in_nI (by omega) (by omega), nm_r ea (nm_r (nI_1 c) ?_)⟩
      by_cases c4 : c = 4
      · exact br_t (by rw [c4]; decide) (h0 z)
      · exact br_f (nI_ge (b := 5) (by omega) (by omega)) (br_t (by decide) (h0 z))
  intro m
  induction m with
  | zero =>
    intro q c hq hm hc h1 h0
    have z : q = 0 := by omega
    subst z
    exact zero 0 c hq (by omega) h1 h0
  | succ m ih =>
    intro q c hq hm hc h1 h0
    by_cases q0 : q = 0
    · subst q0
      refine zero (m + 1) c hq (by omega) (fun z => h1 (Or.inl z)) (fun z => h0 (fun y => ?_))
      rcases y with y | y
      · exact z y
      · exact y.1 rfl
    · refine br_f (nI_ge (b := 5) (by omega) (by omega)) (br_f (nI_pos (by omega)) ?_)
      by_cases z : q = r
      · exact br_t (congrArg nI z) (h1 (Or.inl z))
      · have hp := (hW.2.2.2.1 q hq).2.1 q0
        have ea : P 0 (nI q).toNatClampNeg = nI (pg_pa P q) := by rw [nI_clamp (by omega)]; exact hp.1
        refine br_f (fun y => z ((nI_eq (by omega) (by omega)).mp y)) ⟨vp_in_nI (by omega) (by omega), nm_r ea (nm_r (nI_1 c) (ih (pg_pa P q) (c + 1) (by omega) (by omega) (by omega) (fun y => h1 (Or.inr ⟨q0, y⟩)) (fun y => h0 (fun x => ?_))))⟩
        rcases x with x | x
        · exact z x
        · exact y x.2
theorem yv_an (hW : pg_W P np ne ns) {q r : Nat} (hq : q < np) (hr : r < np) (h1 : pg_an P 4 q r → post 1) (h0 : ¬ pg_an P 4 q r → post 0) : wpY_isAncestor post ((nI np), (nI ne), (nI ns), g1, g2, g3, g4, g5, (P 0), (P 1), (P 2), (P 3), (P 4), (P 5), (P 6), (P 7), (P 8), (P 9), (P 10), (P 11), L, b1, b2, b3, b4, b5, b6, b7, b8, b9, b10, b11, b12, b13) (nI r) (nI q) :=
  ⟨6, yv_anc hW hr 4 q 0 hq (by have := hW.1; omega) (by omega) h1 h0⟩
theorem yv_seen (hW : pg_W P np ne ns) {q v : Nat} (hq : q < np) (hv : v ≤ 24) (h1 : pg_sn P np q v → post 1) (h0 : ¬ pg_sn P np q v → post 0) : wpY_isSeen post ((nI np), (nI ne), (nI ns), g1, g2, g3, g4, g5, (P 0), (P 1), (P 2), (P 3), (P 4), (P 5), (P 6), (P 7), (P 8), (P 9), (P 10), (P 11), L, b1, b2, b3, b4, b5, b6, b7, b8, b9, b10, b11, b12, b13) (nI v) (nI q) := by
  have h5 := hW.1
  have em := yn_m (v := v) (by omega)
  have ed := yn_d (v := v) (by omega)
  have hk5 : v % 5 < 5 := Nat.mod_lt _ (by omega)
  refine ⟨by decide, nm_r ed ?_⟩
  by_cases ho : v / 5 < np
  · refine br_f (nI_ge ho (by omega)) ?_
    refine yv_an hW hq ho (fun ha => ?_) (fun ha => br_t rfl (h0 (fun z => ha z.2.1)))
    refine br_f (by decide) ⟨by decide, ?_⟩
    by_cases h2 : 1 < v % 5
    · exact br_t (by rw [em]; exact nI_lt (a := 1) h2 (by omega)) (h1 ⟨ho, ha, Or.inl h2⟩)
    · refine br_f (by rw [em]; exact nI_nlt (a := 1) (by omega) (by omega)) ⟨by decide, ?_⟩
      have hp := pg_np0 hW ho
      refine yn_par (u := ((nI np), (nI ne), (nI ns), g1, g2, g3, g4, g5, (P 0), (P 1), (P 2), (P 3), (P 4), (P 5), (P 6), (P 7), (P 8), (P 9), (P 10), (P 11), L, b1, b2, b3, b4, b5, b6, b7, b8, b9, b10, b11, b12, b13)) rfl hW ho ?_
      rw [em]
      by_cases h3 : pg_md P (v / 5) (v % 5) = 0
      · refine br_t (nI_le ?_ (by omega)) (h0 (fun z => ?_))
        · rcases (show v % 5 = 0 ∨ v % 5 = 1 by omega) with k | k
          · rw [k] at h3 ⊢; have := hp.1 h3; omega
          · rw [k] at h3 ⊢; exact hp.2.2.1 h3
        · rcases z.2.2 with z | z <;> omega
      · refine br_f (nI_ge ?_ (by omega)) (h1 ⟨ho, ha, Or.inr (by omega)⟩)
        rcases (show v % 5 = 0 ∨ v % 5 = 1 by omega) with k | k
        · rw [k] at h3 ⊢; have := hp.2.1 h3; omega
        · rw [k] at h3 ⊢; have := hp.2.2.2.1 h3; omega
  · exact br_t (nI_le (by omega) (by omega)) (h0 (fun z => ho z.1))
end
section
variable {P : pg_P} {np ne ns : Nat} {g1 g2 g3 g4 g5 : Int32} {b1 b2 b3 b4 b5 b6 b7 b8 b9 b10 b11 b12 b13 : Nat → Int32}
theorem yv_70 (hW : pg_W P np ne ns) {x2 : Int32} {n t e : Nat} {r : List Nat} {L : Nat → Int32} (he : e < ne) (hl : r.length ≤ 20) (hA : yk_At L 32 r) :
    ∃ L' : Nat → Int32, (∀ j, j < 32 → L' j = L j) ∧ yk_At L' 32 (vc_l P e ++ r) ∧ ∀ post : Int32 → SY → Prop, wY_isFine_13 post x2 (nI np) (nI ne) (nI ns) g1 g2 g3 g4 g5 n (nI (vc_l P e ++ r).length) (nI (t + 1)) (P 0) (P 1) (P 2) (P 3) (P 4) (P 5) (P 6) (P 7) (P 8) (P 9) (P 10) (P 11) L' b1 b2 b3 b4 b5 b6 b7 b8 b9 b10 b11 b12 b13 →
      wY_isFine_70 post (wY_isFine_13 post x2 (nI np) (nI ne) (nI ns) g1 g2 g3 g4 g5 n) x2 (nI r.length) (nI t) (nI e) (nI (pg_ek P e)) (nI np) (nI ne) (nI ns) g1 g2 g3 g4 g5 (P 0) (P 1) (P 2) (P 3) (P 4) (P 5) (P 6) (P 7) (P 8) (P 9) (P 10) (P 11) L b1 b2 b3 b4 b5 b6 b7 b8 b9 b10 b11 b12 b13 := by
  have h50 := hW.2.1
  have hWe := hW.2.2.2.2.1 e he
  have hk := hWe.2.1
  unfold vc_l
  by_cases k1 : pg_ek P e ≤ 1
  · rw [if_pos k1]
    have e1 : nI (pg_ek P e) ≤ 1 := nI_le (b := 1) k1 (by omega)
    exact ⟨L, fun _ _ => rfl, hA, fun post h => br_t e1 (br_t e1 (nm_r (nI_1 t) h))⟩
  · rw [if_neg k1]
    have c := hWe.2.2.2.2.2.2.2 (by omega)
    have e1 : ¬ nI (pg_ek P e) ≤ 1 := nI_ge (a := 1) (by omega) (by omega)
    have e32 : (32 + nI r.length : Int32) = nI (32 + r.length) := nI_add 32 r.length
    have ex : P 4 (nI e).toNatClampNeg = nI (pg_ex P e) := by rw [nI_clamp (by omega)]; exact c.1
    have eu : upd L (32 + nI r.length).toNatClampNeg (P 4 (nI e).toNatClampNeg) = upd L (32 + r.length) (nI (pg_ex P e)) := by rw [ex, e32, nI_clamp (by omega)]
    have hA1 := yk_push (x := pg_ex P e) hA
    have iv : vp_in (nI e) 50 := vp_in_nI (by omega) (by omega)
    have i2 : vp_in (32 + nI r.length) 64 := by rw [e32]; exact vp_in_nI (by omega) (by omega)
    by_cases k7 : pg_ek P e = 7
    · rw [if_pos k7]
      have e7 : 7 ≤ nI (pg_ek P e) := by rw [k7]; decide
      exact ⟨_, fun j hj => pk_un (by omega), hA1, fun post h => br_f e1 ⟨iv, i2, nm_r eu (nm_r (nI_1 r.length) (br_f e1 (br_t e7 (nm_r (nI_1 t) h))))⟩⟩
    · rw [if_neg k7]
      have hy := c.2.2.2 k7
      have e7 : ¬ 7 ≤ nI (pg_ek P e) := nI_ge (b := 7) (by omega) (by omega)
      have e33 : (32 + nI (r.length + 1) : Int32) = nI (32 + (r.length + 1)) := nI_add 32 (r.length + 1)
      have ey : P 5 (nI e).toNatClampNeg = nI (pg_ey P e) := by rw [nI_clamp (by omega)]; exact hy.1
      have eu2 : upd (upd L (32 + r.length) (nI (pg_ex P e))) (32 + nI (r.length + 1)).toNatClampNeg (P 5 (nI e).toNatClampNeg) = upd (upd L (32 + r.length) (nI (pg_ex P e))) (32 + (r.length + 1)) (nI (pg_ey P e)) := by rw [ey, e33, nI_clamp (by omega)]
      have hA2 := yk_push (x := pg_ey P e) hA1
      have i3 : vp_in (32 + nI (r.length + 1)) 64 := by rw [e33]; exact vp_in_nI (by omega) (by omega)
      refine ⟨_, fun j hj => ?_, hA2, fun post h => br_f e1 ⟨iv, i2, nm_r eu (nm_r (nI_1 r.length) (br_f e1 (br_f e7 ⟨iv, i3, nm_r eu2 (nm_r (nI_1 (r.length + 1)) (nm_r (nI_1 t) h))⟩)))⟩⟩
      rw [pk_un (by show j ≠ 32 + (r.length + 1); omega), pk_un (by omega)]
theorem yv_exp (hW : pg_W P np ne ns) {q : Nat} (hq : q < np) : ∀ (n t : Nat) (l : List Nat) (L : Nat → Int32), yk_At L 32 l → (∀ e, e ∈ l → e < ne) → t + yk_w (pg_ew P) l ≤ 16 → yk_w (pg_ew P) l < n →
    ∃ L' : Nat → Int32, (∀ j, j < 32 → L' j = L j) ∧ ∀ post : Int32 → SY → Prop, ((∀ e, e ∈ l → pg_FE P np q e) → post 1 ((nI np), (nI ne), (nI ns), g1, g2, g3, g4, g5, (P 0), (P 1), (P 2), (P 3), (P 4), (P 5), (P 6), (P 7), (P 8), (P 9), (P 10), (P 11), L', b1, b2, b3, b4, b5, b6, b7, b8, b9, b10, b11, b12, b13)) → (¬ (∀ e, e ∈ l → pg_FE P np q e) → post 0 ((nI np), (nI ne), (nI ns), g1, g2, g3, g4, g5, (P 0), (P 1), (P 2), (P 3), (P 4), (P 5), (P 6), (P 7), (P 8), (P 9), (P 10), (P 11), L', b1, b2, b3, b4, b5, b6, b7, b8, b9, b10, b11, b12, b13)) →
    wY_isFine_13 post (nI q) (nI np) (nI ne) (nI ns) g1 g2 g3 g4 g5 n (nI l.length) (nI t) (P 0) (P 1) (P 2) (P 3) (P 4) (P 5) (P 6) (P 7) (P 8) (P 9) (P 10) (P 11) L b1 b2 b3 b4 b5 b6 b7 b8 b9 b10 b11 b12 b13 := by
  have h50 := hW.2.1
  intro n
  induction n with
  | zero => intro t l L _ _ _ hn; omega
  | succ n ih =>
    intro t l L hA hl ht hn
    cases l with
    | nil =>
      exact ⟨L, fun _ _ => rfl, fun post h1 h0 => br_f (nI_ge (b := 40) (by omega) (by omega)) (br_t (by show nI 0 ≤ 0; decide) (h1 (fun e he => absurd he (List.not_mem_nil))))⟩
    | cons e r =>
      have he := hl e (List.mem_cons_self)
      have hr : ∀ x, x ∈ r → x < ne := fun x hx => hl x (List.mem_cons_of_mem e hx)
      have hw1 : yk_w (pg_ew P) (e :: r) = pg_ew P e + yk_w (pg_ew P) r := rfl
      rw [hw1] at ht hn
      have hWe := hW.2.2.2.2.1 e he
      have hk := hWe.2.1
      have hlen := yk_wl (f := pg_ew P) r (fun x hx => (hW.2.2.2.2.1 x (hr x hx)).2.2.2.1)
      have hcw := vc_lw hW he
      have hf := vc_FE hW he q
      have e32 : (32 + nI r.length : Int32) = nI (32 + r.length) := nI_add 32 r.length
      have el : L (32 + nI r.length).toNatClampNeg = nI e := by rw [e32, nI_clamp (by omega)]; exact hA.1
      have ek : P 3 (nI e).toNatClampNeg = nI (pg_ek P e) := by rw [nI_clamp (by omega)]; exact hWe.1
      have iv : vp_in (nI e) 50 := vp_in_nI (by omega) (by omega)
      have i2 : vp_in (32 + nI r.length) 64 := by rw [e32]; exact vp_in_nI (by omega) (by omega)
      have c40 : ¬ 40 ≤ nI t := nI_ge (b := 40) (by omega) (by omega)
      have c0 : ¬ nI (e :: r).length ≤ 0 := nI_nle (by show 0 < r.length + 1; omega) (by show r.length + 1 < _; omega)
      by_cases hs : pg_ek P e = 1 → pg_sn P np q (pg_ex P e)
      · have key : (∀ x, x ∈ vc_l P e ++ r → pg_FE P np q x) ↔ (∀ x, x ∈ e :: r → pg_FE P np q x) := by
          constructor
          · intro h x hx
            rcases List.mem_cons.mp hx with z | z
            · rw [z]; exact hf.mpr ⟨hs, fun j hj => h j (List.mem_append.mpr (Or.inl (vc_lm.mpr hj)))⟩
            · exact h x (List.mem_append.mpr (Or.inr z))
          · intro h x hx
            rcases List.mem_append.mp hx with z | z
            · exact (hf.mp (h e (List.mem_cons_self))).2 x (vc_lm.mp z)
            · exact h x (List.mem_cons_of_mem e z)
        obtain ⟨L1, hL1, hA1, m1⟩ := yv_70 (x2 := nI q) (n := n) (t := t) (g1 := g1) (g2 := g2) (g3 := g3) (g4 := g4) (g5 := g5) (b1 := b1) (b2 := b2) (b3 := b3) (b4 := b4) (b5 := b5) (b6 := b6) (b7 := b7) (b8 := b8) (b9 := b9) (b10 := b10) (b11 := b11) (b12 := b12) (b13 := b13) hW he (by omega) hA.2
        obtain ⟨L2, hL2, m2⟩ := ih (t + 1) (vc_l P e ++ r) L1 hA1 (fun x hx => by
          rcases List.mem_append.mp hx with z | z
          · have := vc_elt hW he (vc_lm.mp z); omega
          · exact hr x z) (by rw [yk_wa]; omega) (by rw [yk_wa]; omega)
        refine ⟨L2, fun j hj => by rw [hL2 j hj, hL1 j hj], fun post h1 h0 => ?_⟩
        have go := m1 post (m2 post (fun z => h1 (key.mp z)) (fun z => h0 (fun y => z (key.mpr y))))
        refine br_f c40 (br_f c0 (nm_r (pk_m1 r.length) ⟨i2, nm_r el ⟨iv, nm_r ek ?_⟩⟩))
        by_cases k1 : pg_ek P e = 1
        · have hv := hWe.2.2.2.2.2.2.1 k1
          have ex : P 4 (nI e).toNatClampNeg = nI (pg_ex P e) := by rw [nI_clamp (by omega)]; exact hv.1
          refine br_t (by rw [k1]; rfl) ⟨iv, ?_⟩
          refine wq_sY ex (yv_seen hW hq hv.2 (fun _ => br_f (by decide) go) (fun z => absurd (hs k1) z))
        · exact br_f (fun z => k1 ((nI_eq (b := 1) (by omega) (by omega)).mp z)) go
      · have k1 : pg_ek P e = 1 := by
          by_cases z : pg_ek P e = 1
          · exact z
          · exact absurd (fun y => absurd y z) hs
        have hv := hWe.2.2.2.2.2.2.1 k1
        have ex : P 4 (nI e).toNatClampNeg = nI (pg_ex P e) := by rw [nI_clamp (by omega)]; exact hv.1
        refine ⟨L, fun _ _ => rfl, fun post h1 h0 => br_f c40 (br_f c0 (nm_r (pk_m1 r.length) ⟨i2, nm_r el ⟨iv, nm_r ek (br_t (by rw [k1]; rfl) ⟨iv, ?_⟩)⟩⟩))⟩
        refine wq_sY ex (yv_seen hW hq hv.2 (fun z => absurd (fun _ => z) hs) (fun _ => br_t rfl (h0 (fun z => hs (hf.mp (z e (List.mem_cons_self))).1))))
theorem yv_fine (hW : pg_W P np ne ns) {q e : Nat} (hq : q < np) (he : e < ne) (L : Nat → Int32) :
    ∃ L' : Nat → Int32, (∀ j, j < 32 → L' j = L j) ∧ ∀ post : Int32 → SY → Prop, (pg_FE P np q e → post 1 ((nI np), (nI ne), (nI ns), g1, g2, g3, g4, g5, (P 0), (P 1), (P 2), (P 3), (P 4), (P 5), (P 6), (P 7), (P 8), (P 9), (P 10), (P 11), L', b1, b2, b3, b4, b5, b6, b7, b8, b9, b10, b11, b12, b13)) → (¬ pg_FE P np q e → post 0 ((nI np), (nI ne), (nI ns), g1, g2, g3, g4, g5, (P 0), (P 1), (P 2), (P 3), (P 4), (P 5), (P 6), (P 7), (P 8), (P 9), (P 10), (P 11), L', b1, b2, b3, b4, b5, b6, b7, b8, b9, b10, b11, b12, b13)) → wpY_isFine post ((nI np), (nI ne), (nI ns), g1, g2, g3, g4, g5, (P 0), (P 1), (P 2), (P 3), (P 4), (P 5), (P 6), (P 7), (P 8), (P 9), (P 10), (P 11), L, b1, b2, b3, b4, b5, b6, b7, b8, b9, b10, b11, b12, b13) (nI e) (nI q) := by
  have hWe := hW.2.2.2.2.1 e he
  have hw : yk_w (pg_ew P) [e] = pg_ew P e + 0 := rfl
  have h16 := hWe.2.2.2.2.1
  obtain ⟨L', hL, m⟩ := yv_exp (g1 := g1) (g2 := g2) (g3 := g3) (g4 := g4) (g5 := g5) (b1 := b1) (b2 := b2) (b3 := b3) (b4 := b4) (b5 := b5) (b6 := b6) (b7 := b7) (b8 := b8) (b9 := b9) (b10 := b10) (b11 := b11) (b12 := b12) (b13 := b13) hW hq 17 0 [e] (upd L 32 (nI e)) ⟨pk_us, trivial⟩ (fun x hx => by rw [List.mem_singleton.mp hx]; exact he) (by rw [hw]; omega) (by rw [hw]; omega)
  refine ⟨L', fun j hj => by rw [hL j hj, pk_un (by omega)], fun post h1 h0 => nm_e ⟨17, m post (fun z => h1 (z e (List.mem_singleton.mpr rfl))) (fun z => h0 (fun y => z (fun x hx => ?_)))⟩⟩
  rw [List.mem_singleton.mp hx]; exact y
end
end
section
/-! valid: the reference's statements -/
def vs_P (P : pg_P) (np q s : Nat) : Prop := vc_p P np q s ∧ ∀ j, vc_x P s j → pg_FE P np q j
section
variable {P : pg_P} {np ne ns : Nat} {g1 g2 g3 g4 g5 : Int32} {b1 b2 b3 b4 b5 b6 b7 b8 b9 b10 b11 b12 b13 : Nat → Int32}
theorem yv_140 (hW : pg_W P np ne ns) {q s : Nat} (hq : q < np) (hs : s < ns) (k5 : pg_sk P s = 5) (L : Nat → Int32) :
    ∃ L' : Nat → Int32, (∀ j, j < 32 → L' j = L j) ∧ ∀ post : Int32 → SY → Prop, ((pg_md P (pg_sx P s) 1 ≠ 0 → pg_FE P np q (pg_sz P s)) → post 1 ((nI np), (nI ne), (nI ns), g1, g2, g3, g4, g5, (P 0), (P 1), (P 2), (P 3), (P 4), (P 5), (P 6), (P 7), (P 8), (P 9), (P 10), (P 11), L', b1, b2, b3, b4, b5, b6, b7, b8, b9, b10, b11, b12, b13)) → (¬ (pg_md P (pg_sx P s) 1 ≠ 0 → pg_FE P np q (pg_sz P s)) → post 0 ((nI np), (nI ne), (nI ns), g1, g2, g3, g4, g5, (P 0), (P 1), (P 2), (P 3), (P 4), (P 5), (P 6), (P 7), (P 8), (P 9), (P 10), (P 11), L', b1, b2, b3, b4, b5, b6, b7, b8, b9, b10, b11, b12, b13)) →
    wY_isFineStatement_140 post (nI s) (nI q) (nI (pg_sx P s)) (nI np) (nI ne) (nI ns) g1 g2 g3 g4 g5 (P 0) (P 1) (P 2) (P 3) (P 4) (P 5) (P 6) (P 7) (P 8) (P 9) (P 10) (P 11) L b1 b2 b3 b4 b5 b6 b7 b8 b9 b10 b11 b12 b13 := by
  have h40 := hW.2.2.1
  have c := (hW.2.2.2.2.2 s hs).2.2.2.2.2.2.2.2.2.2 k5
  have hp := pg_np0 hW c.2.1
  by_cases m1 : pg_md P (pg_sx P s) 1 = 0
  · refine ⟨L, fun _ _ => rfl, fun post h1 h0 => ?_⟩
    refine yn_par (u := ((nI np), (nI ne), (nI ns), g1, g2, g3, g4, g5, (P 0), (P 1), (P 2), (P 3), (P 4), (P 5), (P 6), (P 7), (P 8), (P 9), (P 10), (P 11), L, b1, b2, b3, b4, b5, b6, b7, b8, b9, b10, b11, b12, b13)) rfl hW c.2.1 ?_
    exact br_t (nI_lt (b := 2) (by have := hp.2.2.1 m1; omega) (by omega)) (h1 (fun z => absurd m1 z))
  · have d := c.2.2.2.1 m1
    have ez : P 10 (nI s).toNatClampNeg = nI (pg_sz P s) := by rw [nI_clamp (by omega)]; exact d.1
    obtain ⟨L', hL, m⟩ := yv_fine (g1 := g1) (g2 := g2) (g3 := g3) (g4 := g4) (g5 := g5) (b1 := b1) (b2 := b2) (b3 := b3) (b4 := b4) (b5 := b5) (b6 := b6) (b7 := b7) (b8 := b8) (b9 := b9) (b10 := b10) (b11 := b11) (b12 := b12) (b13 := b13) hW hq d.2 L
    refine ⟨L', hL, fun post h1 h0 => ?_⟩
    refine yn_par (u := ((nI np), (nI ne), (nI ns), g1, g2, g3, g4, g5, (P 0), (P 1), (P 2), (P 3), (P 4), (P 5), (P 6), (P 7), (P 8), (P 9), (P 10), (P 11), L, b1, b2, b3, b4, b5, b6, b7, b8, b9, b10, b11, b12, b13)) rfl hW c.2.1 ?_
    refine br_f (nI_nlt (b := 2) (by have := hp.2.2.2.1 m1; omega) (by omega)) ⟨vp_in_nI (by omega) (by omega), ?_⟩
    exact wq_fY ez (m _ (fun hf => br_f (by decide) (h1 (fun _ => hf))) (fun hf => br_t rfl (h0 (fun z => hf (z m1)))))
theorem yv_109 (hW : pg_W P np ne ns) {q s : Nat} (hq : q < np) (hs : s < ns) (k5 : pg_sk P s = 5) (L : Nat → Int32) :
    ∃ L' : Nat → Int32, (∀ j, j < 32 → L' j = L j) ∧ ∀ post : Int32 → SY → Prop, (((pg_md P (pg_sx P s) 0 ≠ 0 → pg_FE P np q (pg_sy P s)) ∧ (pg_md P (pg_sx P s) 1 ≠ 0 → pg_FE P np q (pg_sz P s))) → post 1 ((nI np), (nI ne), (nI ns), g1, g2, g3, g4, g5, (P 0), (P 1), (P 2), (P 3), (P 4), (P 5), (P 6), (P 7), (P 8), (P 9), (P 10), (P 11), L', b1, b2, b3, b4, b5, b6, b7, b8, b9, b10, b11, b12, b13)) → (¬ ((pg_md P (pg_sx P s) 0 ≠ 0 → pg_FE P np q (pg_sy P s)) ∧ (pg_md P (pg_sx P s) 1 ≠ 0 → pg_FE P np q (pg_sz P s))) → post 0 ((nI np), (nI ne), (nI ns), g1, g2, g3, g4, g5, (P 0), (P 1), (P 2), (P 3), (P 4), (P 5), (P 6), (P 7), (P 8), (P 9), (P 10), (P 11), L', b1, b2, b3, b4, b5, b6, b7, b8, b9, b10, b11, b12, b13)) →
    wY_isFineStatement_109 post (nI s) (nI q) (nI (pg_sx P s)) 1 (nI np) (nI ne) (nI ns) g1 g2 g3 g4 g5 (P 0) (P 1) (P 2) (P 3) (P 4) (P 5) (P 6) (P 7) (P 8) (P 9) (P 10) (P 11) L b1 b2 b3 b4 b5 b6 b7 b8 b9 b10 b11 b12 b13 := by
  have h40 := hW.2.2.1
  have c := (hW.2.2.2.2.2 s hs).2.2.2.2.2.2.2.2.2.2 k5
  have hp := pg_np0 hW c.2.1
  by_cases m0 : pg_md P (pg_sx P s) 0 = 0
  · obtain ⟨L', hL, m⟩ := yv_140 (g1 := g1) (g2 := g2) (g3 := g3) (g4 := g4) (g5 := g5) (b1 := b1) (b2 := b2) (b3 := b3) (b4 := b4) (b5 := b5) (b6 := b6) (b7 := b7) (b8 := b8) (b9 := b9) (b10 := b10) (b11 := b11) (b12 := b12) (b13 := b13) hW hq hs k5 L
    refine ⟨L', hL, fun post h1 h0 => br_f (by decide) ?_⟩
    refine yn_par (u := ((nI np), (nI ne), (nI ns), g1, g2, g3, g4, g5, (P 0), (P 1), (P 2), (P 3), (P 4), (P 5), (P 6), (P 7), (P 8), (P 9), (P 10), (P 11), L, b1, b2, b3, b4, b5, b6, b7, b8, b9, b10, b11, b12, b13)) rfl hW c.2.1 ?_
    exact br_t (nI_lt (b := 1) (by have := hp.1 m0; omega) (by omega)) (m _ (fun z => h1 ⟨fun y => absurd m0 y, z⟩) (fun z => h0 (fun y => z y.2)))
  · have d := c.2.2.1 m0
    have ey : P 9 (nI s).toNatClampNeg = nI (pg_sy P s) := by rw [nI_clamp (by omega)]; exact d.1
    have iv : vp_in (nI s) 40 := vp_in_nI (by omega) (by omega)
    have c1 : ¬ nI (pg_np P (pg_sx P s)) < 1 := nI_nlt (b := 1) (by have := hp.2.1 m0; omega) (by omega)
    obtain ⟨L1, hL1, m1⟩ := yv_fine (g1 := g1) (g2 := g2) (g3 := g3) (g4 := g4) (g5 := g5) (b1 := b1) (b2 := b2) (b3 := b3) (b4 := b4) (b5 := b5) (b6 := b6) (b7 := b7) (b8 := b8) (b9 := b9) (b10 := b10) (b11 := b11) (b12 := b12) (b13 := b13) hW hq d.2 L
    by_cases hf : pg_FE P np q (pg_sy P s)
    · obtain ⟨L2, hL2, m2⟩ := yv_140 (g1 := g1) (g2 := g2) (g3 := g3) (g4 := g4) (g5 := g5) (b1 := b1) (b2 := b2) (b3 := b3) (b4 := b4) (b5 := b5) (b6 := b6) (b7 := b7) (b8 := b8) (b9 := b9) (b10 := b10) (b11 := b11) (b12 := b12) (b13 := b13) hW hq hs k5 L1
      refine ⟨L2, fun j hj => by rw [hL2 j hj, hL1 j hj], fun post h1 h0 => br_f (by decide) ?_⟩
      refine yn_par (u := ((nI np), (nI ne), (nI ns), g1, g2, g3, g4, g5, (P 0), (P 1), (P 2), (P 3), (P 4), (P 5), (P 6), (P 7), (P 8), (P 9), (P 10), (P 11), L, b1, b2, b3, b4, b5, b6, b7, b8, b9, b10, b11, b12, b13)) rfl hW c.2.1 ?_
      refine br_f c1 ⟨iv, ?_⟩
      exact wq_fY ey (m1 _ (fun _ => br_f (by decide) (m2 _ (fun z => h1 ⟨fun _ => hf, z⟩) (fun z => h0 (fun y => z y.2)))) (fun z => absurd hf z))
    · refine ⟨L1, hL1, fun post h1 h0 => br_f (by decide) ?_⟩
      refine yn_par (u := ((nI np), (nI ne), (nI ns), g1, g2, g3, g4, g5, (P 0), (P 1), (P 2), (P 3), (P 4), (P 5), (P 6), (P 7), (P 8), (P 9), (P 10), (P 11), L, b1, b2, b3, b4, b5, b6, b7, b8, b9, b10, b11, b12, b13)) rfl hW c.2.1 ?_
      refine br_f c1 ⟨iv, ?_⟩
      exact wq_fY ey (m1 _ (fun z => absurd z hf) (fun _ => br_t rfl (h0 (fun z => hf (z.1 m0)))))
theorem yv_stm (hW : pg_W P np ne ns) {q s : Nat} (hq : q < np) (hs : s < ns) (L : Nat → Int32) :
    ∃ L' : Nat → Int32, (∀ j, j < 32 → L' j = L j) ∧ ∀ post : Int32 → SY → Prop, (vs_P P np q s → post 1 ((nI np), (nI ne), (nI ns), g1, g2, g3, g4, g5, (P 0), (P 1), (P 2), (P 3), (P 4), (P 5), (P 6), (P 7), (P 8), (P 9), (P 10), (P 11), L', b1, b2, b3, b4, b5, b6, b7, b8, b9, b10, b11, b12, b13)) → (¬ vs_P P np q s → post 0 ((nI np), (nI ne), (nI ns), g1, g2, g3, g4, g5, (P 0), (P 1), (P 2), (P 3), (P 4), (P 5), (P 6), (P 7), (P 8), (P 9), (P 10), (P 11), L', b1, b2, b3, b4, b5, b6, b7, b8, b9, b10, b11, b12, b13)) → wpY_isFineStatement post ((nI np), (nI ne), (nI ns), g1, g2, g3, g4, g5, (P 0), (P 1), (P 2), (P 3), (P 4), (P 5), (P 6), (P 7), (P 8), (P 9), (P 10), (P 11), L, b1, b2, b3, b4, b5, b6, b7, b8, b9, b10, b11, b12, b13) (nI s) (nI q) := by
  have h40 := hW.2.2.1
  have h5 := hW.1
  have hWs := hW.2.2.2.2.2 s hs
  have hk := hWs.2.1
  have iv : vp_in (nI s) 40 := vp_in_nI (by omega) (by omega)
  have ek : P 7 (nI s).toNatClampNeg = nI (pg_sk P s) := by rw [nI_clamp (by omega)]; exact hWs.1
  by_cases k0 : pg_sk P s = 0
  · have c := hWs.2.2.2.2.2.1 k0
    have ex : P 8 (nI s).toNatClampNeg = nI (pg_sx P s) := by rw [nI_clamp (by omega)]; exact c.1
    have ey : P 9 (nI s).toNatClampNeg = nI (pg_sy P s) := by rw [nI_clamp (by omega)]; exact c.2.2.1
    by_cases hv : pg_sn P np q (pg_sx P s)
    · obtain ⟨L1, hL1, m1⟩ := yv_fine (g1 := g1) (g2 := g2) (g3 := g3) (g4 := g4) (g5 := g5) (b1 := b1) (b2 := b2) (b3 := b3) (b4 := b4) (b5 := b5) (b6 := b6) (b7 := b7) (b8 := b8) (b9 := b9) (b10 := b10) (b11 := b11) (b12 := b12) (b13 := b13) hW hq c.2.2.2.1 L
      refine ⟨L1, hL1, fun post h1 h0 => ⟨iv, nm_r ek ⟨iv, nm_r ex (br_t (by rw [k0]; rfl) ?_)⟩⟩⟩
      refine yv_seen hW hq c.2.1 (fun _ => br_f (by decide) ⟨iv, ?_⟩) (fun z => absurd hv z)
      refine wq_fY ey (m1 _ (fun hf => br_f (by decide) (h1 ⟨⟨fun _ => hv, fun z => by omega⟩, fun j hj => ?_⟩)) (fun hf => br_t rfl (h0 (fun z => hf (z.2 _ (Or.inl ⟨k0, rfl⟩))))))
      rcases hj with z | z | z | z
      · rw [z.2]; exact hf
      · omega
      · omega
      · omega
    · refine ⟨L, fun _ _ => rfl, fun post h1 h0 => ⟨iv, nm_r ek ⟨iv, nm_r ex (br_t (by rw [k0]; rfl) ?_)⟩⟩⟩
      exact yv_seen hW hq c.2.1 (fun z => absurd z hv) (fun _ => br_t rfl (h0 (fun z => hv (z.1.1 k0))))
  · by_cases km : pg_sk P s = 2 ∨ pg_sk P s = 3 ∨ pg_sk P s = 4
    · have cx : P 8 s = nI (pg_sx P s) ∧ pg_sx P s < ne := by
        rcases km with k | k | k
        · exact ⟨(hWs.2.2.2.2.2.2.2.1 k).1, (hWs.2.2.2.2.2.2.2.1 k).2.1⟩
        · exact ⟨(hWs.2.2.2.2.2.2.2.2.1 k).1, (hWs.2.2.2.2.2.2.2.2.1 k).2.1⟩
        · exact ⟨(hWs.2.2.2.2.2.2.2.2.2.1 k).1, (hWs.2.2.2.2.2.2.2.2.2.1 k).2.1⟩
      have ex : P 8 (nI s).toNatClampNeg = nI (pg_sx P s) := by rw [nI_clamp (by omega)]; exact cx.1
      obtain ⟨L1, hL1, m1⟩ := yv_fine (g1 := g1) (g2 := g2) (g3 := g3) (g4 := g4) (g5 := g5) (b1 := b1) (b2 := b2) (b3 := b3) (b4 := b4) (b5 := b5) (b6 := b6) (b7 := b7) (b8 := b8) (b9 := b9) (b10 := b10) (b11 := b11) (b12 := b12) (b13 := b13) hW hq cx.2 L
      refine ⟨L1, hL1, fun post h1 h0 => ⟨iv, nm_r ek ⟨iv, nm_r ex (br_f (xv_kn (c := 0) hk (by omega) k0) ?_)⟩⟩⟩
      have mid : wY_isFineStatement_64 post (nI q) (nI (pg_sx P s)) (nI np) (nI ne) (nI ns) g1 g2 g3 g4 g5 (P 0) (P 1) (P 2) (P 3) (P 4) (P 5) (P 6) (P 7) (P 8) (P 9) (P 10) (P 11) L b1 b2 b3 b4 b5 b6 b7 b8 b9 b10 b11 b12 b13 := by
        refine m1 _ (fun hf => ⟨narrow_b1, h1 ⟨⟨fun z => by omega, fun z => by omega⟩, fun j hj => ?_⟩⟩) (fun hf => ⟨narrow_b0, h0 (fun z => hf (z.2 _ (Or.inr (Or.inl ⟨km, rfl⟩))))⟩)
        rcases hj with z | z | z | z
        · omega
        · rw [z.2]; exact hf
        · omega
        · omega
      by_cases k2 : pg_sk P s = 2
      · exact br_t (by rw [k2]; rfl) mid
      · refine br_f (xv_kn (c := 2) hk (by omega) k2) ?_
        by_cases k3 : pg_sk P s = 3
        · exact br_t (by rw [k3]; rfl) mid
        · have k4 : pg_sk P s = 4 := by omega
          exact br_f (xv_kn (c := 3) hk (by omega) k3) (br_t (by rw [k4]; rfl) mid)
    · have n0 := xv_kn (c := 0) hk (by omega) k0
      have n2 := xv_kn (k := pg_sk P s) (c := 2) hk (by omega) (by omega)
      have n3 := xv_kn (k := pg_sk P s) (c := 3) hk (by omega) (by omega)
      have n4 := xv_kn (k := pg_sk P s) (c := 4) hk (by omega) (by omega)
      by_cases k5 : pg_sk P s = 5
      · have c := hWs.2.2.2.2.2.2.2.2.2.2 k5
        have ex : P 8 (nI s).toNatClampNeg = nI (pg_sx P s) := by rw [nI_clamp (by omega)]; exact c.1
        have ix : vp_in (nI (pg_sx P s)) 5 := vp_in_nI (by omega) (by omega)
        by_cases x0 : pg_sx P s = 0
        · have ep : P 0 (nI (pg_sx P s)).toNatClampNeg = -1 := by rw [nI_clamp (by omega)]; exact ((hW.2.2.2.1 _ c.2.1).1 x0).1
          refine ⟨L, fun _ _ => rfl, fun post h1 h0 => ⟨iv, nm_r ek ⟨iv, nm_r ex (br_f n0 (br_f n2 (br_f n3 (br_f n4 (br_t (by rw [k5]; rfl) ⟨ix, ?_⟩)))))⟩⟩⟩
          exact br_t (by rw [ep]; decide) (br_t rfl (h0 (fun z => (z.1.2 k5).1 x0)))
        · have hp := (hW.2.2.2.1 _ c.2.1).2.1 x0
          have ep : P 0 (nI (pg_sx P s)).toNatClampNeg = nI (pg_pa P (pg_sx P s)) := by rw [nI_clamp (by omega)]; exact hp.1
          by_cases ha : pg_an P 4 q (pg_pa P (pg_sx P s))
          · obtain ⟨L1, hL1, m1⟩ := yv_109 (g1 := g1) (g2 := g2) (g3 := g3) (g4 := g4) (g5 := g5) (b1 := b1) (b2 := b2) (b3 := b3) (b4 := b4) (b5 := b5) (b6 := b6) (b7 := b7) (b8 := b8) (b9 := b9) (b10 := b10) (b11 := b11) (b12 := b12) (b13 := b13) hW hq hs k5 L
            refine ⟨L1, hL1, fun post h1 h0 => ⟨iv, nm_r ek ⟨iv, nm_r ex (br_f n0 (br_f n2 (br_f n3 (br_f n4 (br_t (by rw [k5]; rfl) ⟨ix, ?_⟩)))))⟩⟩⟩
            refine br_f (by rw [ep]; exact nI_pos (by omega)) ⟨ix, ?_⟩
            refine wq_aY ep (yv_an hW hq (by omega) (fun _ => br_f (by decide) ?_) (fun z => absurd ha z))
            refine m1 _ (fun z => h1 ⟨⟨fun y => by omega, fun _ => ⟨x0, ha⟩⟩, fun j hj => ?_⟩) (fun z => h0 (fun y => z ⟨fun d => y.2 _ (Or.inr (Or.inr (Or.inl ⟨k5, d, rfl⟩))), fun d => y.2 _ (Or.inr (Or.inr (Or.inr ⟨k5, d, rfl⟩)))⟩))
            rcases hj with y | y | y | y
            · omega
            · omega
            · rw [y.2.2]; exact z.1 y.2.1
            · rw [y.2.2]; exact z.2 y.2.1
          · refine ⟨L, fun _ _ => rfl, fun post h1 h0 => ⟨iv, nm_r ek ⟨iv, nm_r ex (br_f n0 (br_f n2 (br_f n3 (br_f n4 (br_t (by rw [k5]; rfl) ⟨ix, ?_⟩)))))⟩⟩⟩
            refine br_f (by rw [ep]; exact nI_pos (by omega)) ⟨ix, ?_⟩
            exact wq_aY ep (yv_an hW hq (by omega) (fun z => absurd z ha) (fun _ => br_t rfl (br_t rfl (h0 (fun z => ha (z.1.2 k5).2)))))
      · refine ⟨L, fun _ _ => rfl, fun post h1 h0 => ⟨iv, nm_r ek ⟨iv, nm_e (br_f n0 (br_f n2 (br_f n3 (br_f n4 (br_f (xv_kn (c := 5) hk (by omega) k5) (h1 ⟨⟨fun z => by omega, fun z => by omega⟩, fun j hj => ?_⟩))))))⟩⟩⟩
        rcases hj with z | z | z | z
        · omega
        · omega
        · omega
        · omega
def vs_z (P : pg_P) (s : Nat) : List Nat := if pg_sk P s = 2 ∧ 0 ≤ P 10 s then [pg_sz P s] else []
def vs_y (P : pg_P) (s : Nat) : List Nat := if 1 ≤ pg_sk P s ∧ pg_sk P s < 4 then [pg_sy P s] else []
def vs_x (P : pg_P) (s : Nat) : List Nat := if pg_sk P s = 1 then [pg_sx P s] else []
theorem vs_eq (P : pg_P) (s : Nat) (r : List Nat) : vs_l P s ++ r = vs_z P s ++ (vs_y P s ++ (vs_x P s ++ r)) := by
  unfold vs_l vs_z vs_y vs_x
  by_cases k1 : pg_sk P s = 1
  · rw [if_pos k1, if_neg (by omega), if_pos (by omega), if_pos k1]; rfl
  · rw [if_neg k1]
    by_cases k2 : pg_sk P s = 2
    · rw [if_pos k2]
      by_cases hz : 0 ≤ P 10 s
      · rw [if_pos hz, if_pos ⟨k2, hz⟩, if_pos (by omega), if_neg k1]; rfl
      · rw [if_neg hz, if_neg (fun z => hz z.2), if_pos (by omega), if_neg k1]; rfl
    · rw [if_neg k2]
      by_cases k3 : pg_sk P s = 3
      · rw [if_pos k3, if_neg (fun z => k2 z.1), if_pos (by omega), if_neg k1]; rfl
      · rw [if_neg k3, if_neg (fun z => k2 z.1), if_neg (by omega), if_neg k1]; rfl
theorem yv_113 (hW : pg_W P np ne ns) {x1 : Int32} {n t s : Nat} (hs : s < ns) {l : List Nat} (hl : l.length ≤ 24) {L : Nat → Int32} (hA : yk_At L 0 l) :
    ∃ L' : Nat → Int32, yk_At L' 0 (vs_z P s ++ l) ∧ ∀ post : Int32 → SY → Prop, wY_isFineBody_16 post x1 n (nI (vs_z P s ++ l).length) (nI (t + 1)) (nI np) (nI ne) (nI ns) g1 g2 g3 g4 g5 (P 0) (P 1) (P 2) (P 3) (P 4) (P 5) (P 6) (P 7) (P 8) (P 9) (P 10) (P 11) L' b1 b2 b3 b4 b5 b6 b7 b8 b9 b10 b11 b12 b13 →
    wY_isFineBody_113 post (wY_isFineBody_16 post x1 n) x1 (nI l.length) (nI t) (nI s) (nI np) (nI ne) (nI ns) g1 g2 g3 g4 g5 (P 0) (P 1) (P 2) (P 3) (P 4) (P 5) (P 6) (P 7) (P 8) (P 9) (P 10) (P 11) L b1 b2 b3 b4 b5 b6 b7 b8 b9 b10 b11 b12 b13 := by
  have h40 := hW.2.2.1
  have hWs := hW.2.2.2.2.2 s hs
  have hk := hWs.2.1
  have iv : vp_in (nI s) 40 := vp_in_nI (by omega) (by omega)
  have ek : P 7 (nI s).toNatClampNeg = nI (pg_sk P s) := by rw [nI_clamp (by omega)]; exact hWs.1
  have ez : P 10 (nI s).toNatClampNeg = P 10 s := by rw [nI_clamp (by omega)]
  unfold vs_z
  by_cases k2 : pg_sk P s = 2
  · by_cases hz : 0 ≤ P 10 s
    · rw [if_pos ⟨k2, hz⟩]
      rcases (hWs.2.2.2.2.2.2.2.1 k2).2.2.2.2 with d | d
      · rw [d.1] at hz; exact absurd hz (by decide)
      · have eu : upd L (nI l.length).toNatClampNeg (P 10 (nI s).toNatClampNeg) = upd L (0 + l.length) (nI (pg_sz P s)) := by rw [ez, nI_clamp (by omega), d.1, Nat.zero_add]
        exact ⟨_, yk_push hA, fun post h => ⟨iv, br_t (by rw [ek, k2]; rfl) ⟨iv, br_f (by rw [ez, d.1]; exact nI_pos (by omega)) ⟨iv, vp_in_nI (by omega) (by omega), nm_r eu (nm_r (nI_1 l.length) (nm_r (nI_1 t) h))⟩⟩⟩⟩
    · rw [if_neg (fun z => hz z.2)]
      have hz2 : P 10 s < 0 := by
        rcases (hWs.2.2.2.2.2.2.2.1 k2).2.2.2.2 with d | d
        · rw [d.1]; decide
        · rw [d.1] at hz; exact absurd (nI_pos' (by omega)) hz
      exact ⟨L, hA, fun post h => ⟨iv, br_t (by rw [ek, k2]; rfl) ⟨iv, br_t (by rw [ez]; exact hz2) (nm_r (nI_1 t) h)⟩⟩⟩
  · rw [if_neg (fun z => k2 z.1)]
    exact ⟨L, hA, fun post h => ⟨iv, br_f (by rw [ek]; exact xv_kn (c := 2) hk (by omega) k2) (nm_r (nI_1 t) h)⟩⟩
theorem yv_76 (hW : pg_W P np ne ns) {x1 : Int32} {n t s : Nat} (hs : s < ns) {l : List Nat} (hl : l.length ≤ 22) {L : Nat → Int32} (hA : yk_At L 0 l) :
    ∃ L' : Nat → Int32, yk_At L' 0 (vs_z P s ++ (vs_y P s ++ l)) ∧ ∀ post : Int32 → SY → Prop, wY_isFineBody_16 post x1 n (nI (vs_z P s ++ (vs_y P s ++ l)).length) (nI (t + 1)) (nI np) (nI ne) (nI ns) g1 g2 g3 g4 g5 (P 0) (P 1) (P 2) (P 3) (P 4) (P 5) (P 6) (P 7) (P 8) (P 9) (P 10) (P 11) L' b1 b2 b3 b4 b5 b6 b7 b8 b9 b10 b11 b12 b13 →
    wY_isFineBody_76 post (wY_isFineBody_16 post x1 n) x1 (nI l.length) (nI t) (nI s) (nI np) (nI ne) (nI ns) g1 g2 g3 g4 g5 (P 0) (P 1) (P 2) (P 3) (P 4) (P 5) (P 6) (P 7) (P 8) (P 9) (P 10) (P 11) L b1 b2 b3 b4 b5 b6 b7 b8 b9 b10 b11 b12 b13 := by
  have h40 := hW.2.2.1
  have hWs := hW.2.2.2.2.2 s hs
  have hk := hWs.2.1
  have iv : vp_in (nI s) 40 := vp_in_nI (by omega) (by omega)
  have ek : P 7 (nI s).toNatClampNeg = nI (pg_sk P s) := by rw [nI_clamp (by omega)]; exact hWs.1
  unfold vs_y
  by_cases k0 : pg_sk P s = 0
  · rw [if_neg (by omega)]
    obtain ⟨L1, hA1, m1⟩ := yv_113 (x1 := x1) (n := n) (t := t) (g1 := g1) (g2 := g2) (g3 := g3) (g4 := g4) (g5 := g5) (b1 := b1) (b2 := b2) (b3 := b3) (b4 := b4) (b5 := b5) (b6 := b6) (b7 := b7) (b8 := b8) (b9 := b9) (b10 := b10) (b11 := b11) (b12 := b12) (b13 := b13) hW hs (l := l) (by omega) hA
    exact ⟨L1, hA1, fun post h => ⟨iv, br_t (by rw [ek, k0]; decide) (m1 post h)⟩⟩
  · by_cases k4 : 4 ≤ pg_sk P s
    · rw [if_neg (by omega)]
      obtain ⟨L1, hA1, m1⟩ := yv_113 (x1 := x1) (n := n) (t := t) (g1 := g1) (g2 := g2) (g3 := g3) (g4 := g4) (g5 := g5) (b1 := b1) (b2 := b2) (b3 := b3) (b4 := b4) (b5 := b5) (b6 := b6) (b7 := b7) (b8 := b8) (b9 := b9) (b10 := b10) (b11 := b11) (b12 := b12) (b13 := b13) hW hs (l := l) (by omega) hA
      exact ⟨L1, hA1, fun post h => ⟨iv, br_f (by rw [ek]; exact nI_nle (by omega) (by omega)) ⟨iv, br_t (by rw [ek]; exact nI_le (a := 4) k4 (by omega)) (m1 post h)⟩⟩⟩
    · rw [if_pos (by omega)]
      have y : P 9 s = nI (pg_sy P s) := by
        rcases (show pg_sk P s = 1 ∨ pg_sk P s = 2 ∨ pg_sk P s = 3 by omega) with k | k | k
        · exact (hWs.2.2.2.2.2.2.1 k).2.2.1
        · exact (hWs.2.2.2.2.2.2.2.1 k).2.2.1
        · exact (hWs.2.2.2.2.2.2.2.2.1 k).2.2.1
      have eu : upd L (nI l.length).toNatClampNeg (P 9 (nI s).toNatClampNeg) = upd L (0 + l.length) (nI (pg_sy P s)) := by rw [nI_clamp (by omega), nI_clamp (by omega), y, Nat.zero_add]
      obtain ⟨L1, hA1, m1⟩ := yv_113 (x1 := x1) (n := n) (t := t) (g1 := g1) (g2 := g2) (g3 := g3) (g4 := g4) (g5 := g5) (b1 := b1) (b2 := b2) (b3 := b3) (b4 := b4) (b5 := b5) (b6 := b6) (b7 := b7) (b8 := b8) (b9 := b9) (b10 := b10) (b11 := b11) (b12 := b12) (b13 := b13) hW hs (l := pg_sy P s :: l) (by show l.length + 1 ≤ 24; omega) (yk_push hA)
      exact ⟨L1, hA1, fun post h => ⟨iv, br_f (by rw [ek]; exact nI_nle (by omega) (by omega)) ⟨iv, br_f (by rw [ek]; exact nI_ge (b := 4) (by omega) (by omega)) ⟨iv, vp_in_nI (by omega) (by omega), nm_r eu (nm_r (nI_1 l.length) (m1 post h))⟩⟩⟩⟩
theorem yv_bod (hW : pg_W P np ne ns) {q : Nat} (hq : q < np) : ∀ (n t : Nat) (l : List Nat) (L : Nat → Int32), yk_At L 0 l → (∀ s, s ∈ l → s < ns) → t + yk_w (pg_sw P) l ≤ 16 → yk_w (pg_sw P) l < n →
    ∃ L' : Nat → Int32, ∀ post : Int32 → SY → Prop, ((∀ s, s ∈ l → pg_FS P np q s) → post 1 ((nI np), (nI ne), (nI ns), g1, g2, g3, g4, g5, (P 0), (P 1), (P 2), (P 3), (P 4), (P 5), (P 6), (P 7), (P 8), (P 9), (P 10), (P 11), L', b1, b2, b3, b4, b5, b6, b7, b8, b9, b10, b11, b12, b13)) → (¬ (∀ s, s ∈ l → pg_FS P np q s) → post 0 ((nI np), (nI ne), (nI ns), g1, g2, g3, g4, g5, (P 0), (P 1), (P 2), (P 3), (P 4), (P 5), (P 6), (P 7), (P 8), (P 9), (P 10), (P 11), L', b1, b2, b3, b4, b5, b6, b7, b8, b9, b10, b11, b12, b13)) →
    wY_isFineBody_16 post (nI q) n (nI l.length) (nI t) (nI np) (nI ne) (nI ns) g1 g2 g3 g4 g5 (P 0) (P 1) (P 2) (P 3) (P 4) (P 5) (P 6) (P 7) (P 8) (P 9) (P 10) (P 11) L b1 b2 b3 b4 b5 b6 b7 b8 b9 b10 b11 b12 b13 := by
  have h40 := hW.2.2.1
  intro n
  induction n with
  | zero => intro t l L _ _ _ hn; omega
  | succ n ih =>
    intro t l L hA hl ht hn
    cases l with
    | nil =>
      exact ⟨L, fun post h1 h0 => br_f (nI_ge (b := 40) (by omega) (by omega)) (br_t (by show nI 0 ≤ 0; decide) (h1 (fun e he => absurd he (List.not_mem_nil))))⟩
    | cons s r =>
      have hs := hl s (List.mem_cons_self)
      have hr : ∀ x, x ∈ r → x < ns := fun x hx => hl x (List.mem_cons_of_mem s hx)
      have hw1 : yk_w (pg_sw P) (s :: r) = pg_sw P s + yk_w (pg_sw P) r := rfl
      rw [hw1] at ht hn
      have hWs := hW.2.2.2.2.2 s hs
      have hk := hWs.2.1
      have hlen := yk_wl (f := pg_sw P) r (fun x hx => (hW.2.2.2.2.2 x (hr x hx)).2.2.2.1)
      have hcw := vs_lw hW hs
      have hf := vc_FS hW hs q
      have iv : vp_in (nI s) 40 := vp_in_nI (by omega) (by omega)
      have i2 : vp_in (nI r.length) 64 := vp_in_nI (by omega) (by omega)
      have el : L (nI r.length).toNatClampNeg = nI s := by rw [nI_clamp (by omega)]; have := hA.1; rw [Nat.zero_add] at this; exact this
      have ek : P 7 (nI s).toNatClampNeg = nI (pg_sk P s) := by rw [nI_clamp (by omega)]; exact hWs.1
      have c40 : ¬ 40 ≤ nI t := nI_ge (b := 40) (by omega) (by omega)
      have c0 : ¬ nI (s :: r).length ≤ 0 := nI_nle (by show 0 < r.length + 1; omega) (by show r.length + 1 < _; omega)
      obtain ⟨L1, hL1, m1⟩ := yv_stm (g1 := g1) (g2 := g2) (g3 := g3) (g4 := g4) (g5 := g5) (b1 := b1) (b2 := b2) (b3 := b3) (b4 := b4) (b5 := b5) (b6 := b6) (b7 := b7) (b8 := b8) (b9 := b9) (b10 := b10) (b11 := b11) (b12 := b12) (b13 := b13) hW hq hs L
      by_cases hsp : vs_P P np q s
      · have key : (∀ x, x ∈ vs_l P s ++ r → pg_FS P np q x) ↔ (∀ x, x ∈ s :: r → pg_FS P np q x) := by
          constructor
          · intro h x hx
            rcases List.mem_cons.mp hx with z | z
            · rw [z]; exact hf.mpr ⟨hsp.1, fun j hj => h j (List.mem_append.mpr (Or.inl (vs_lm.mpr hj))), hsp.2⟩
            · exact h x (List.mem_append.mpr (Or.inr z))
          · intro h x hx
            rcases List.mem_append.mp hx with z | z
            · exact (hf.mp (h s (List.mem_cons_self))).2.1 x (vs_lm.mp z)
            · exact h x (List.mem_cons_of_mem s z)
        have hA1 : yk_At L1 0 r := yk_keep r (fun j hj => hL1 j (by omega)) hA.2
        have nx : ∀ L2 : Nat → Int32, yk_At L2 0 (vs_z P s ++ (vs_y P s ++ (vs_x P s ++ r))) → ∃ L' : Nat → Int32, ∀ post : Int32 → SY → Prop, ((∀ s', s' ∈ s :: r → pg_FS P np q s') → post 1 ((nI np), (nI ne), (nI ns), g1, g2, g3, g4, g5, (P 0), (P 1), (P 2), (P 3), (P 4), (P 5), (P 6), (P 7), (P 8), (P 9), (P 10), (P 11), L', b1, b2, b3, b4, b5, b6, b7, b8, b9, b10, b11, b12, b13)) → (¬ (∀ s', s' ∈ s :: r → pg_FS P np q s') → post 0 ((nI np), (nI ne), (nI ns), g1, g2, g3, g4, g5, (P 0), (P 1), (P 2), (P 3), (P 4), (P 5), (P 6), (P 7), (P 8), (P 9), (P 10), (P 11), L', b1, b2, b3, b4, b5, b6, b7, b8, b9, b10, b11, b12, b13)) →
            wY_isFineBody_16 post (nI q) n (nI (vs_z P s ++ (vs_y P s ++ (vs_x P s ++ r))).length) (nI (t + 1)) (nI np) (nI ne) (nI ns) g1 g2 g3 g4 g5 (P 0) (P 1) (P 2) (P 3) (P 4) (P 5) (P 6) (P 7) (P 8) (P 9) (P 10) (P 11) L2 b1 b2 b3 b4 b5 b6 b7 b8 b9 b10 b11 b12 b13 := by
          intro L2 hA2
          rw [← vs_eq] at hA2 ⊢
          obtain ⟨L3, m3⟩ := ih (t + 1) (vs_l P s ++ r) L2 hA2 (fun x hx => by
            rcases List.mem_append.mp hx with z | z
            · have := vc_slt hW hs (vs_lm.mp z); omega
            · exact hr x z) (by rw [yk_wa]; omega) (by rw [yk_wa]; omega)
          exact ⟨L3, fun post h1 h0 => m3 post (fun z => h1 (key.mp z)) (fun z => h0 (fun y => z (key.mpr y)))⟩
        unfold vs_x at nx
        by_cases k1 : pg_sk P s = 1
        · rw [if_pos k1] at nx
          have c := hWs.2.2.2.2.2.2.1 k1
          have eu : upd L1 (nI r.length).toNatClampNeg (P 8 (nI s).toNatClampNeg) = upd L1 (0 + r.length) (nI (pg_sx P s)) := by rw [nI_clamp (by omega), nI_clamp (by omega), c.1, Nat.zero_add]
          obtain ⟨L2, hA2, m2⟩ := yv_76 (x1 := nI q) (n := n) (t := t) (g1 := g1) (g2 := g2) (g3 := g3) (g4 := g4) (g5 := g5) (b1 := b1) (b2 := b2) (b3 := b3) (b4 := b4) (b5 := b5) (b6 := b6) (b7 := b7) (b8 := b8) (b9 := b9) (b10 := b10) (b11 := b11) (b12 := b12) (b13 := b13) hW hs (l := pg_sx P s :: r) (by show r.length + 1 ≤ 22; omega) (yk_push hA1)
          obtain ⟨L3, m3⟩ := nx L2 hA2
          refine ⟨L3, fun post h1 h0 => br_f c40 (br_f c0 (nm_r (pk_m1 r.length) ⟨i2, nm_r el ?_⟩))⟩
          refine m1 _ (fun _ => br_f (by decide) ⟨iv, ?_⟩) (fun z => absurd hsp z)
          exact br_t (by rw [ek, k1]; rfl) ⟨iv, i2, nm_r eu (nm_r (nI_1 r.length) (m2 post (m3 post h1 h0)))⟩
        · rw [if_neg k1] at nx
          obtain ⟨L2, hA2, m2⟩ := yv_76 (x1 := nI q) (n := n) (t := t) (g1 := g1) (g2 := g2) (g3 := g3) (g4 := g4) (g5 := g5) (b1 := b1) (b2 := b2) (b3 := b3) (b4 := b4) (b5 := b5) (b6 := b6) (b7 := b7) (b8 := b8) (b9 := b9) (b10 := b10) (b11 := b11) (b12 := b12) (b13 := b13) hW hs (l := r) (by omega) hA1
          obtain ⟨L3, m3⟩ := nx L2 hA2
          refine ⟨L3, fun post h1 h0 => br_f c40 (br_f c0 (nm_r (pk_m1 r.length) ⟨i2, nm_r el ?_⟩))⟩
          refine m1 _ (fun _ => br_f (by decide) ⟨iv, ?_⟩) (fun z => absurd hsp z)
          exact br_f (by rw [ek]; exact xv_kn (c := 1) hk (by omega) k1) (m2 post (m3 post h1 h0))
      · refine ⟨L1, fun post h1 h0 => br_f c40 (br_f c0 (nm_r (pk_m1 r.length) ⟨i2, nm_r el ?_⟩))⟩
        refine m1 _ (fun z => absurd z hsp) (fun _ => br_t rfl (h0 (fun z => ?_)))
        have z1 := hf.mp (z s (List.mem_cons_self))
        exact hsp ⟨z1.1, z1.2.2⟩
theorem yv_body (hW : pg_W P np ne ns) {q : Nat} (hq : q < np) (hb : P 2 q = nI (pg_bo P q)) (hbs : pg_bo P q < ns) (L : Nat → Int32) :
    ∃ L' : Nat → Int32, ∀ post : Int32 → SY → Prop, (pg_FS P np q (pg_bo P q) → post 1 ((nI np), (nI ne), (nI ns), g1, g2, g3, g4, g5, (P 0), (P 1), (P 2), (P 3), (P 4), (P 5), (P 6), (P 7), (P 8), (P 9), (P 10), (P 11), L', b1, b2, b3, b4, b5, b6, b7, b8, b9, b10, b11, b12, b13)) → (¬ pg_FS P np q (pg_bo P q) → post 0 ((nI np), (nI ne), (nI ns), g1, g2, g3, g4, g5, (P 0), (P 1), (P 2), (P 3), (P 4), (P 5), (P 6), (P 7), (P 8), (P 9), (P 10), (P 11), L', b1, b2, b3, b4, b5, b6, b7, b8, b9, b10, b11, b12, b13)) → wpY_isFineBody post ((nI np), (nI ne), (nI ns), g1, g2, g3, g4, g5, (P 0), (P 1), (P 2), (P 3), (P 4), (P 5), (P 6), (P 7), (P 8), (P 9), (P 10), (P 11), L, b1, b2, b3, b4, b5, b6, b7, b8, b9, b10, b11, b12, b13) (nI q) := by
  have h5 := hW.1
  have hWs := hW.2.2.2.2.2 _ hbs
  have hw : yk_w (pg_sw P) [pg_bo P q] = pg_sw P (pg_bo P q) + 0 := rfl
  have h16 := hWs.2.2.2.2.1
  have e : upd L 0 (P 2 (nI q).toNatClampNeg) = upd L (0 + 0) (nI (pg_bo P q)) := by rw [nI_clamp (by omega), hb]
  obtain ⟨L', m⟩ := yv_bod (g1 := g1) (g2 := g2) (g3 := g3) (g4 := g4) (g5 := g5) (b1 := b1) (b2 := b2) (b3 := b3) (b4 := b4) (b5 := b5) (b6 := b6) (b7 := b7) (b8 := b8) (b9 := b9) (b10 := b10) (b11 := b11) (b12 := b12) (b13 := b13) hW hq 17 0 [pg_bo P q] (upd L (0 + 0) (nI (pg_bo P q))) ⟨pk_us, trivial⟩ (fun x hx => by rw [List.mem_singleton.mp hx]; exact hbs) (by rw [hw]; omega) (by rw [hw]; omega)
  refine ⟨L', fun post h1 h0 => ⟨vp_in_nI (by omega) (by omega), nm_r e ⟨17, m post (fun z => h1 (z _ (List.mem_singleton.mpr rfl))) (fun z => h0 (fun y => z (fun x hx => ?_)))⟩⟩⟩
  rw [List.mem_singleton.mp hx]; exact y
theorem yv_all (hW : pg_W P np ne ns) : ∀ (m p : Nat) (L : Nat → Int32), p + m = np → ∃ L' : Nat → Int32, ∀ post : Int32 → SY → Prop, (0 < np → pg_V P np ns p → post 1 ((nI np), (nI ne), (nI ns), g1, g2, g3, g4, g5, (P 0), (P 1), (P 2), (P 3), (P 4), (P 5), (P 6), (P 7), (P 8), (P 9), (P 10), (P 11), L', b1, b2, b3, b4, b5, b6, b7, b8, b9, b10, b11, b12, b13)) → (¬ (0 < np ∧ pg_V P np ns p) → post 0 ((nI np), (nI ne), (nI ns), g1, g2, g3, g4, g5, (P 0), (P 1), (P 2), (P 3), (P 4), (P 5), (P 6), (P 7), (P 8), (P 9), (P 10), (P 11), L', b1, b2, b3, b4, b5, b6, b7, b8, b9, b10, b11, b12, b13)) → wY_valid_2 post (m + 1) (nI p) (nI np) (nI ne) (nI ns) g1 g2 g3 g4 g5 (P 0) (P 1) (P 2) (P 3) (P 4) (P 5) (P 6) (P 7) (P 8) (P 9) (P 10) (P 11) L b1 b2 b3 b4 b5 b6 b7 b8 b9 b10 b11 b12 b13 := by
  have h5 := hW.1
  have h40 := hW.2.2.1
  intro m
  induction m with
  | zero =>
    intro p L hp
    refine ⟨L, fun post h1 h0 => br_t (nI_le (by omega) (by omega)) ?_⟩
    by_cases hn : np = 0
    · exact br_t (by rw [hn]; decide) (h0 (fun z => by omega))
    · exact br_f (nI_nle (by omega) (by omega)) (h1 (by omega) (fun q h2 h3 => by omega))
  | succ m ih =>
    intro p L hp
    have hq : p < np := by omega
    have hv := pg_V1 (P := P) (ns := ns) hq
    have e : P 2 (nI p).toNatClampNeg = P 2 p := by rw [nI_clamp (by omega)]
    have iv : vp_in (nI p) 5 := vp_in_nI (by omega) (by omega)
    have c0 : ¬ nI np ≤ nI p := nI_ge hq (by omega)
    rcases (hW.2.2.2.1 p hq).2.2.2.2.2 with b | b
    · refine ⟨L, fun post h1 h0 => br_f c0 ⟨iv, br_t (by rw [e, b]; decide) (h0 (fun z => ?_))⟩⟩
      have z1 := (hv.mp z.2).1.1
      rw [b] at z1
      have : (-1 : Int32) < 0 := by decide
      rw [z1] at this
      have hlt := (hv.mp z.2).1.2.1
      exact nI_pos (by omega) this
    · have cb : ¬ P 2 (nI p).toNatClampNeg < 0 := by rw [e, b.1]; exact nI_pos (by omega)
      obtain ⟨L1, m1⟩ := yv_body (g1 := g1) (g2 := g2) (g3 := g3) (g4 := g4) (g5 := g5) (b1 := b1) (b2 := b2) (b3 := b3) (b4 := b4) (b5 := b5) (b6 := b6) (b7 := b7) (b8 := b8) (b9 := b9) (b10 := b10) (b11 := b11) (b12 := b12) (b13 := b13) hW hq b.1 b.2 L
      by_cases hf : pg_FS P np p (pg_bo P p)
      · obtain ⟨L2, m2⟩ := ih (p + 1) L1 (by omega)
        refine ⟨L2, fun post h1 h0 => br_f c0 ⟨iv, br_f cb (m1 _ (fun _ => br_f (by decide) (nm_r (nI_1 p) ?_)) (fun z => absurd hf z))⟩⟩
        exact m2 post (fun hn z => h1 hn (hv.mpr ⟨⟨b.1, b.2, hf⟩, z⟩)) (fun z => h0 (fun y => z ⟨y.1, (hv.mp y.2).2⟩))
      · exact ⟨L1, fun post h1 h0 => br_f c0 ⟨iv, br_f cb (m1 _ (fun z => absurd z hf) (fun _ => br_t rfl (h0 (fun z => hf (hv.mp z.2).1.2.2))))⟩⟩
end
abbrev zy_k (u : SY) (L : Nat → Int32) : SY := (u.1, u.2.1, u.2.2.1, u.2.2.2.1, u.2.2.2.2.1, u.2.2.2.2.2.1, u.2.2.2.2.2.2.1, u.2.2.2.2.2.2.2.1, u.2.2.2.2.2.2.2.2.1, u.2.2.2.2.2.2.2.2.2.1, u.2.2.2.2.2.2.2.2.2.2.1, u.2.2.2.2.2.2.2.2.2.2.2.1, u.2.2.2.2.2.2.2.2.2.2.2.2.1, u.2.2.2.2.2.2.2.2.2.2.2.2.2.1, u.2.2.2.2.2.2.2.2.2.2.2.2.2.2.1, u.2.2.2.2.2.2.2.2.2.2.2.2.2.2.2.1, u.2.2.2.2.2.2.2.2.2.2.2.2.2.2.2.2.1, u.2.2.2.2.2.2.2.2.2.2.2.2.2.2.2.2.2.1, u.2.2.2.2.2.2.2.2.2.2.2.2.2.2.2.2.2.2.1, u.2.2.2.2.2.2.2.2.2.2.2.2.2.2.2.2.2.2.2.1, L, u.2.2.2.2.2.2.2.2.2.2.2.2.2.2.2.2.2.2.2.2.2.1, u.2.2.2.2.2.2.2.2.2.2.2.2.2.2.2.2.2.2.2.2.2.2.1, u.2.2.2.2.2.2.2.2.2.2.2.2.2.2.2.2.2.2.2.2.2.2.2.1, u.2.2.2.2.2.2.2.2.2.2.2.2.2.2.2.2.2.2.2.2.2.2.2.2.1, u.2.2.2.2.2.2.2.2.2.2.2.2.2.2.2.2.2.2.2.2.2.2.2.2.2.1, u.2.2.2.2.2.2.2.2.2.2.2.2.2.2.2.2.2.2.2.2.2.2.2.2.2.2.1, u.2.2.2.2.2.2.2.2.2.2.2.2.2.2.2.2.2.2.2.2.2.2.2.2.2.2.2.1, u.2.2.2.2.2.2.2.2.2.2.2.2.2.2.2.2.2.2.2.2.2.2.2.2.2.2.2.2.1, u.2.2.2.2.2.2.2.2.2.2.2.2.2.2.2.2.2.2.2.2.2.2.2.2.2.2.2.2.2.1, u.2.2.2.2.2.2.2.2.2.2.2.2.2.2.2.2.2.2.2.2.2.2.2.2.2.2.2.2.2.2.1, u.2.2.2.2.2.2.2.2.2.2.2.2.2.2.2.2.2.2.2.2.2.2.2.2.2.2.2.2.2.2.2.1, u.2.2.2.2.2.2.2.2.2.2.2.2.2.2.2.2.2.2.2.2.2.2.2.2.2.2.2.2.2.2.2.2.1, u.2.2.2.2.2.2.2.2.2.2.2.2.2.2.2.2.2.2.2.2.2.2.2.2.2.2.2.2.2.2.2.2.2)
theorem yv_valid {P : pg_P} {np ne ns : Nat} {v : SY} (hW : pg_W P np ne ns) (hP : yp_P v P) (e1 : yf_procedures v = nI np) (e2 : yf_expressions v = nI ne) (e3 : yf_statements v = nI ns) :
    ∃ L : Nat → Int32, ∀ post : Int32 → SY → Prop, (0 < np → pg_V P np ns 0 → post 1 (zy_k v L)) → (¬ (0 < np ∧ pg_V P np ns 0) → post 0 (zy_k v L)) → wpY_valid post v := by
  obtain ⟨f1, f2, f3, g1, g2, g3, g4, g5, p0, p1, p2, p3, p4, p5, p6, p7, p8, p9, p10, p11, L, b1, b2, b3, b4, b5, b6, b7, b8, b9, b10, b11, b12, b13⟩ := v
  obtain ⟨q0, q1, q2, q3, q4, q5, q6, q7, q8, q9, q10, q11⟩ := hP
  dsimp only [yf_procedures, yf_expressions, yf_statements, yf_parent, yf_modes, yf_bodies, yf_ekind, yf_ex, yf_ey, yf_eweight, yf_skind, yf_sx, yf_sy, yf_sz, yf_sweight] at e1 e2 e3 q0 q1 q2 q3 q4 q5 q6 q7 q8 q9 q10 q11
  subst e1 e2 e3 q0 q1 q2 q3 q4 q5 q6 q7 q8 q9 q10 q11
  obtain ⟨L', m⟩ := yv_all (g1 := g1) (g2 := g2) (g3 := g3) (g4 := g4) (g5 := g5) (b1 := b1) (b2 := b2) (b3 := b3) (b4 := b4) (b5 := b5) (b6 := b6) (b7 := b7) (b8 := b8) (b9 := b9) (b10 := b10) (b11 := b11) (b12 := b12) (b13 := b13) hW np 0 L (by omega)
  exact ⟨L', fun post h1 h0 => ⟨np + 1, m post h1 h0⟩⟩
end
section
/-! the relation -/
def rl_S (u : SX) (v : SY) : Prop := xf_stepCount u = yf_steps v ∧ xf_printedCount u = yf_printed v ∧ xf_printedList u = yf_out v ∧ ∀ i, i < 3 → xf_locals u i = yf_last v i
def rl_C (P : pg_P) (np ns : Nat) (u : SX) : Prop := xf_changed u = 0 → 0 < np → pg_OK P np (xf_memory u) ∧ ∀ q, q < np → P 2 q = nI (pg_bo P q) ∧ pg_bo P q < ns
def rl_Y (v : SY) (P : pg_P) (np ne ns : Nat) : Prop := yp_P v P ∧ yf_procedures v = nI np ∧ yf_expressions v = nI ne ∧ yf_statements v = nI ns
def rl_X (u : SX) (P : pg_P) (np ne ns : Nat) : Prop := xp_P u P np ne ns ∧ (∀ e, e < ne → xf_expressionWeight u e = P 6 e) ∧ ∀ s, s < ns → xf_stateWeight u s = P 11 s
def i_Rel (k : Nat) (u : SX) (v : SY) : Prop := ∃ (P : pg_P) (np ne ns : Nat), pg_W P np ne ns ∧ rl_X u P np ne ns ∧ rl_Y v P np ne ns ∧ rl_C P np ns u ∧ rl_S u v
theorem i_up {k : Nat} {u : SX} {v : SY} (h : i_Rel k u v) : i_Rel (k + 5) u v := h
theorem pg_mk (a0 a1 a2 a3 a4 a5 a6 a7 a8 a9 a10 a11 : Nat → Int32) : ∃ P : pg_P, P 0 = a0 ∧ P 1 = a1 ∧ P 2 = a2 ∧ P 3 = a3 ∧ P 4 = a4 ∧ P 5 = a5 ∧ P 6 = a6 ∧ P 7 = a7 ∧ P 8 = a8 ∧ P 9 = a9 ∧ P 10 = a10 ∧ P 11 = a11 :=
  ⟨fun k => if k = 0 then a0 else if k = 1 then a1 else if k = 2 then a2 else if k = 3 then a3 else if k = 4 then a4 else if k = 5 then a5 else if k = 6 then a6 else if k = 7 then a7 else if k = 8 then a8 else if k = 9 then a9 else if k = 10 then a10 else a11, rfl, rfl, rfl, rfl, rfl, rfl, rfl, rfl, rfl, rfl, rfl, rfl⟩
theorem rl_0 {k : Nat} {u : SX} {v : SY} (a1 : xf_procedureCount u = 0) (a2 : xf_expressionCount u = 0) (a3 : xf_stateCount u = 0) (b1 : yf_procedures v = 0) (b2 : yf_expressions v = 0) (b3 : yf_statements v = 0) (hS : rl_S u v) : i_Rel k u v := by
  have n0 : ∀ (i : Nat) (Q : Prop), i < 0 → Q := fun i Q h => absurd h (Nat.not_lt_zero i)
  obtain ⟨P, q0, q1, q2, q3, q4, q5, q6, q7, q8, q9, q10, q11⟩ := pg_mk (yf_parent v) (yf_modes v) (yf_bodies v) (yf_ekind v) (yf_ex v) (yf_ey v) (yf_eweight v) (yf_skind v) (yf_sx v) (yf_sy v) (yf_sz v) (yf_sweight v)
  refine ⟨P, 0, 0, 0, ⟨by omega, by omega, by omega, fun i h => n0 i _ h, fun i h => n0 i _ h, fun i h => n0 i _ h⟩, ⟨⟨a1, a2, a3, ?_⟩, fun i h => n0 i _ h, fun i h => n0 i _ h⟩, ⟨⟨q0.symm, q1.symm, q2.symm, q3.symm, q4.symm, q5.symm, q6.symm, q7.symm, q8.symm, q9.symm, q10.symm, q11.symm⟩, b1, b2, b3⟩, fun _ h => n0 0 _ h, hS⟩
  exact ⟨fun i h => n0 i _ h, fun i h => n0 i _ h, fun i h => n0 i _ h, fun i h => n0 i _ h, fun i h => n0 i _ h, fun i h => n0 i _ h, fun i h => n0 i _ h, fun i h => n0 i _ h, fun i h => n0 i _ h, fun i h => n0 i _ h⟩
theorem i_vc0 : wpX_init (fun u => wpY_init (fun v => i_Rel 0 u v)) := by
  unfold wpX_init wpY_init
  exact rl_0 rfl rfl rfl rfl rfl rfl ⟨rfl, rfl, rfl, fun _ _ => rfl⟩
theorem i_vc_steps {k : Nat} {u : SX} {v : SY} (I : i_Rel k u v) (hk : k + 5 ≤ 2560) : wpX_steps (fun r => wpY_steps (fun r' => r' = r ∧ i_Rel (k + 5) u v) v) u := by
  have I2 := i_up I
  obtain ⟨P, np, ne, ns, hW, hX, hY, hC, hS⟩ := I
  have e : yf_steps v = xf_stepCount u := hS.1.symm
  exact And.intro e I2
theorem i_vc_printed {k : Nat} {u : SX} {v : SY} (I : i_Rel k u v) (hk : k + 5 ≤ 2560) : wpX_printed (fun r => wpY_printed (fun r' => r' = r ∧ i_Rel (k + 5) u v) v) u := by
  have I2 := i_up I
  obtain ⟨P, np, ne, ns, hW, hX, hY, hC, hS⟩ := I
  have e : yf_printed v = xf_printedCount u := hS.2.1.symm
  exact And.intro e I2
theorem i_vc_drop {k : Nat} {u : SX} {v : SY} (I : i_Rel k u v) (hk : k + 5 ≤ 2560) : wpX_drop (fun r u' => wpY_drop (fun r' v' => r' = r ∧ i_Rel (k + 5) u' v') v) u := by
  obtain ⟨P, np, ne, ns, hW, hX, hY, hC, hS⟩ := I
  have e : yf_procedures v = xf_procedureCount u := by rw [hY.2.1, hX.1.1]
  exact And.intro e (rl_0 rfl rfl rfl rfl rfl rfl ⟨hS.1, hS.2.1, hS.2.2.1, hS.2.2.2⟩)
theorem i_vc_variable {k : Nat} {u : SX} {v : SY} (I : i_Rel k u v) (hk : k + 5 ≤ 2560) (v1 : Int32) : wpX_variable (fun r => wpY_variable (fun r' => r' = r ∧ i_Rel (k + 5) u v) v v1) u v1 := by
  have I2 := i_up I
  obtain ⟨P, np, ne, ns, hW, hX, hY, hC, hS⟩ := I
  refine br_c (fun h => ?_) (fun h => br_c (fun h2 => ?_) (fun h2 => ?_))
  · exact br_t h (br_t rfl ⟨rfl, I2⟩)
  · have g : ∃ j : Nat, j < 3 ∧ v1 - 2 = nI j := by
      obtain ⟨a, ha, ea⟩ := nI_of (x := v1) (fun z => h (by
        rw [Int32.lt_iff_toInt_lt] at z ⊢
        have : (0 : Int32).toInt = 0 := by decide
        have : (2 : Int32).toInt = 2 := by decide
        omega))
      subst ea
      have g1 : ¬ a < 2 := fun z => h (nI_lt (b := 2) z (by omega))
      have g2 : a ≤ 4 := (nI_leI (b := 4) ha (by omega)).mp h2
      exact ⟨a - 2, by omega, pk_sub (b := 2) (by omega)⟩
    obtain ⟨j, hj, ej⟩ := g
    have ev : vp_in (v1 - 2) 3 := by rw [ej]; exact vp_in_nI (by omega) (by omega)
    have h3 : ¬ 4 < v1 := by
      rw [Int32.lt_iff_toInt_lt]
      rw [Int32.le_iff_toInt_le] at h2
      omega
    have e : yf_last v (v1 - 2).toNatClampNeg = xf_locals u (v1 - 2).toNatClampNeg := by rw [ej, nI_clamp (by omega)]; exact (hS.2.2.2 j hj).symm
    exact ⟨ev, br_f h (br_f h3 (br_f (by decide) ⟨ev, And.intro e I2⟩))⟩
  · have h3 : 4 < v1 := by
      rw [Int32.lt_iff_toInt_lt]
      rw [Int32.le_iff_toInt_le] at h2
      omega
    exact br_f h (br_t h3 (br_t rfl ⟨rfl, I2⟩))
theorem i_vc_output {k : Nat} {u : SX} {v : SY} (I : i_Rel k u v) (hk : k + 5 ≤ 2560) (v1 : Int32) : wpX_output (fun r => wpY_output (fun r' => r' = r ∧ i_Rel (k + 5) u v) v v1) u v1 := by
  have I2 := i_up I
  obtain ⟨P, np, ne, ns, hW, hX, hY, hC, hS⟩ := I
  have ec := hS.2.1
  have hi : ∀ h : ¬ v1 ≤ 29, 29 < v1 := by
    intro h
    rw [Int32.lt_iff_toInt_lt]
    rw [Int32.le_iff_toInt_le] at h
    omega
  have lo : ∀ h : v1 ≤ 29, ¬ 29 < v1 := by
    intro h
    rw [Int32.lt_iff_toInt_lt]
    rw [Int32.le_iff_toInt_le] at h
    omega
  refine br_c (fun h => ?_) (fun h => br_c (fun h2 => ?_) (fun h2 => br_c (fun h3 => ?_) (fun h3 => ?_)))
  · exact br_t h (br_t rfl ⟨rfl, I2⟩)
  · have h2' : xf_printedCount u ≤ v1 := h2
    rw [ec] at h2'
    refine br_f h ?_
    by_cases h3 : v1 ≤ 29
    · exact br_f (lo h3) (br_f (by decide) (br_t h2' ⟨rfl, I2⟩))
    · exact br_t (hi h3) (br_t rfl ⟨rfl, I2⟩)
  · have h2' : ¬ xf_printedCount u ≤ v1 := h2
    rw [ec] at h2'
    obtain ⟨a, ha, ea⟩ := nI_of (x := v1) h
    have g : a ≤ 29 := by rw [ea] at h3; exact (nI_leI (b := 29) ha (by omega)).mp h3
    have ev : vp_in v1 30 := by rw [ea]; exact vp_in_nI (by omega) (by omega)
    have e : yf_out v v1.toNatClampNeg = xf_printedList u v1.toNatClampNeg := by rw [hS.2.2.1]
    exact ⟨ev, br_f h (br_f (lo h3) (br_f (by decide) (br_f h2' ⟨ev, And.intro e I2⟩)))⟩
  · exact br_f h (br_t (hi h3) (br_t rfl ⟨rfl, I2⟩))
end
section
/-! making the program: numbers in a range, and programs that agree -/
def iv_n (x : Int32) (n : Nat) : Prop := ∃ a : Nat, a < n ∧ x = nI a
theorem iv_lo {x : Int32} {n : Nat} (hn : n < 1000) (h : x < 0) : ¬ iv_n x n := by
  intro z
  obtain ⟨a, ha, e⟩ := z
  subst e
  exact nI_pos (by omega) h
theorem iv_hi {x : Int32} {n : Nat} (hn : n < 1000) (h : nI n ≤ x) : ¬ iv_n x n := by
  intro z
  obtain ⟨a, ha, e⟩ := z
  subst e
  exact nI_ge ha (by omega) h
theorem iv_ok {x : Int32} {n : Nat} (hn : n < 1000) (h0 : ¬ x < 0) (h1 : ¬ nI n ≤ x) : iv_n x n := by
  obtain ⟨a, ha, e⟩ := nI_of h0
  subst e
  refine ⟨a, ?_, rfl⟩
  by_cases z : a < n
  · exact z
  · exact absurd (nI_le (by omega) (by omega)) h1
theorem iv_m1 {x : Int32} {n : Nat} (hn : n < 1000) : nI n - 1 < x ↔ nI n ≤ x := by
  have e : (nI n - nI 1).toInt = (n : Int) - 1 := pk_sub_toInt (b := 1) (by omega) (by omega)
  have e2 : (nI n).toInt = (n : Int) := nI_toInt (by omega)
  have e3 : (nI n - 1 : Int32) = nI n - nI 1 := rfl
  rw [e3, Int32.lt_iff_toInt_lt, Int32.le_iff_toInt_le, e, e2]
  omega
theorem iv_le {x : Int32} {n : Nat} (hn : n < 1000) (h : ¬ nI n < x) (h0 : ¬ x < 0) : iv_n x (n + 1) := by
  obtain ⟨a, ha, e⟩ := nI_of h0
  subst e
  refine ⟨a, ?_, rfl⟩
  by_cases z : a < n + 1
  · exact z
  · exact absurd (nI_lt (by omega) (by omega)) h
theorem nw_b {c : Nat} (h : c < 128) : vp_nar .byte (nI c).toInt8.toInt32 = nI c := by
  have e := nI_toInt (n := c) (by omega)
  rw [pk_vb, lg_i2b_small (by omega) (by omega)]
theorem nw_m : vp_nar .byte (-1 : Int32).toInt8.toInt32 = -1 := by rw [pk_vb]; decide
theorem nw_m' : vp_nar .byte (-1 : Int32) = -1 := by rw [vp_nar_byte]; decide
section
variable {u : SX} {v : SY} {x m : Int32} {n : Nat} {post : Int32 → Prop}
theorem xi_p (hc : xf_procedureCount u = nI n) (hn : n < 1000) (h1 : iv_n x n → post 1) (h0 : ¬ iv_n x n → post 0) : wpX_isProcedure post u x := by
  refine br_c (fun h => h0 (iv_lo hn h)) (fun h => br_c (fun h2 => h0 (iv_hi hn ?_)) (fun h2 => h1 (iv_ok hn h ?_)))
  · rw [← hc]; exact h2
  · rw [← hc]; exact h2
theorem xi_e (hc : xf_expressionCount u = nI n) (hn : n < 1000) (h1 : iv_n x n → post 1) (h0 : ¬ iv_n x n → post 0) : wpX_isExpression post u x := by
  refine br_c (fun h => h0 (iv_lo hn h)) (fun h => br_c (fun h2 => h0 (iv_hi hn ?_)) (fun h2 => h1 (iv_ok hn h ?_)))
  · rw [← hc]; exact h2
  · rw [← hc]; exact h2
theorem xi_s (hc : xf_stateCount u = nI n) (hn : n < 1000) (h1 : iv_n x n → post 1) (h0 : ¬ iv_n x n → post 0) : wpX_isState post u x := by
  refine br_c (fun h => h0 (iv_lo hn h)) (fun h => br_c (fun h2 => h0 (iv_hi hn ?_)) (fun h2 => h1 (iv_ok hn h ?_)))
  · rw [← hc]; exact h2
  · rw [← hc]; exact h2
theorem iv_24 {x : Int32} (h : 24 < x) : ¬ iv_n x 25 := by
  intro z
  obtain ⟨a, ha, e⟩ := z
  subst e
  exact nI_nlt (b := a) (a := 24) (by omega) (by omega) h
theorem xi_v (h1 : iv_n x 25 → post 1) (h0 : ¬ iv_n x 25 → post 0) : wpX_isVariable post u x :=
  br_c (fun h => h0 (iv_lo (by omega) h)) (fun h => br_c (fun h2 => h0 (iv_24 h2)) (fun h2 => h1 (iv_le (n := 24) (by omega) h2 h)))
theorem yi_rg (hn : n < 1000) (hm : m = nI n - 1) (h1 : iv_n x n → post 1) (h0 : ¬ iv_n x n → post 0) : wpY_in post v x 0 m := by
  subst hm
  exact br_c (fun h => h0 (iv_lo hn h)) (fun h => br_c (fun h2 => h0 (iv_hi hn ((iv_m1 hn).mp h2))) (fun h2 => h1 (iv_ok hn h (fun z => h2 ((iv_m1 hn).mpr z)))))
theorem yi_e (hc : yf_expressions v = nI n) (hn : n < 1000) (h1 : iv_n x n → post 1) (h0 : ¬ iv_n x n → post 0) : wpY_isExpression post v x := by
  have e : yf_expressions v - 1 = nI n - 1 := by rw [hc]
  unfold wpY_isExpression
  exact yi_rg hn e (fun z => ⟨narrow_b1, h1 z⟩) (fun z => ⟨narrow_b0, h0 z⟩)
theorem yi_s (hc : yf_statements v = nI n) (hn : n < 1000) (h1 : iv_n x n → post 1) (h0 : ¬ iv_n x n → post 0) : wpY_isStatement post v x := by
  have e : yf_statements v - 1 = nI n - 1 := by rw [hc]
  unfold wpY_isStatement
  exact yi_rg hn e (fun z => ⟨narrow_b1, h1 z⟩) (fun z => ⟨narrow_b0, h0 z⟩)
end
def pg_put (P : pg_P) (k : Nat) (a : Nat → Int32) : pg_P := fun j => if j = k then a else P j
/-- programs that agree below counts -/
def pg_A (P P' : pg_P) (np ne ns : Nat) : Prop :=
  (∀ i, i < np → P' 0 i = P 0 i ∧ P' 1 i = P 1 i) ∧ (∀ e, e < ne → P' 3 e = P 3 e ∧ P' 4 e = P 4 e ∧ P' 5 e = P 5 e ∧ P' 6 e = P 6 e) ∧ (∀ s, s < ns → P' 7 s = P 7 s ∧ P' 8 s = P 8 s ∧ P' 9 s = P 9 s ∧ P' 10 s = P 10 s ∧ P' 11 s = P 11 s)
section
variable {P P' : pg_P} {np ne ns np' ne' ns' : Nat}
theorem cw_md (h : pg_A P P' np ne ns) {i : Nat} (hi : i < np) (k : Nat) : pg_md P' i k = pg_md P i k := by unfold pg_md pg_mo; rw [(h.1 i hi).2]
theorem cw_ew (h : pg_A P P' np ne ns) {e : Nat} (he : e < ne) : pg_ew P' e = pg_ew P e := by unfold pg_ew; rw [(h.2.1 e he).2.2.2]
theorem cw_sw (h : pg_A P P' np ne ns) {s : Nat} (hs : s < ns) : pg_sw P' s = pg_sw P s := by unfold pg_sw; rw [(h.2.2 s hs).2.2.2.2]
theorem cw_Wp (h : pg_A P P' np ne ns) {i : Nat} (hi : i < np) (h2 : P' 2 i = P 2 i) (hs : ns ≤ ns') (hw : pg_Wp P ns i) : pg_Wp P' ns' i := by
  have a := (h.1 i hi).1
  have b := (h.1 i hi).2
  have ea : pg_pa P' i = pg_pa P i := by unfold pg_pa; rw [a]
  have eb : pg_mo P' i = pg_mo P i := by unfold pg_mo; rw [b]
  have ec : pg_bo P' i = pg_bo P i := by unfold pg_bo; rw [h2]
  unfold pg_Wp
  rw [ea, eb, ec, a, b, h2]
  refine ⟨hw.1, hw.2.1, hw.2.2.1, hw.2.2.2.1, hw.2.2.2.2.1, ?_⟩
  rcases hw.2.2.2.2.2 with z | z
  · exact Or.inl z
  · exact Or.inr ⟨z.1, by omega⟩
theorem cw_We (h : pg_A P P' np ne ns) {e : Nat} (he : e < ne) (hw : pg_We P e) : pg_We P' e := by
  have a := h.2.1 e he
  have ea : pg_ek P' e = pg_ek P e := by unfold pg_ek; rw [a.1]
  have eb : pg_ex P' e = pg_ex P e := by unfold pg_ex; rw [a.2.1]
  have ec : pg_ey P' e = pg_ey P e := by unfold pg_ey; rw [a.2.2.1]
  have ed := cw_ew h he
  unfold pg_We
  rw [ea, eb, ec, ed, a.1, a.2.1, a.2.2.1, a.2.2.2]
  refine ⟨hw.1, hw.2.1, hw.2.2.1, hw.2.2.2.1, hw.2.2.2.2.1, hw.2.2.2.2.2.1, hw.2.2.2.2.2.2.1, fun k2 => ?_⟩
  have c := hw.2.2.2.2.2.2.2 k2
  have hx := c.2.1
  rw [cw_ew h (show pg_ex P e < ne by omega)]
  refine ⟨c.1, c.2.1, c.2.2.1, fun k7 => ?_⟩
  have d := c.2.2.2 k7
  have hy := d.2.1
  rw [cw_ew h (show pg_ey P e < ne by omega)]
  exact d
theorem cw_Ws (h : pg_A P P' np ne ns) {s : Nat} (hs : s < ns) (hp : np ≤ np') (hn : ne ≤ ne') (hw : pg_Ws P np ne s) : pg_Ws P' np' ne' s := by
  have a := h.2.2 s hs
  have ea : pg_sk P' s = pg_sk P s := by unfold pg_sk; rw [a.1]
  have eb : pg_sx P' s = pg_sx P s := by unfold pg_sx; rw [a.2.1]
  have ec : pg_sy P' s = pg_sy P s := by unfold pg_sy; rw [a.2.2.1]
  have ed : pg_sz P' s = pg_sz P s := by unfold pg_sz; rw [a.2.2.2.1]
  have ee := cw_sw h hs
  unfold pg_Ws
  rw [ea, eb, ec, ed, ee, a.1, a.2.1, a.2.2.1, a.2.2.2.1, a.2.2.2.2]
  obtain ⟨w1, w2, w3, w4, w5, c0, c1, c2, c3, c4, c5⟩ := hw
  refine ⟨w1, w2, w3, w4, w5, fun k => ?_, fun k => ?_, fun k => ?_, fun k => ?_, fun k => ?_, fun k => ?_⟩
  · obtain ⟨d1, d2, d3, d4, d5⟩ := c0 k
    rw [cw_ew h d4]
    exact ⟨d1, d2, d3, by omega, d5⟩
  · obtain ⟨d1, d2, d3, d4, d5⟩ := c1 k
    rw [cw_sw h (show pg_sx P s < ns by omega), cw_sw h (show pg_sy P s < ns by omega)]
    exact ⟨d1, d2, d3, d4, d5⟩
  · obtain ⟨d1, d2, d3, d4, d5⟩ := c2 k
    rw [cw_ew h d2, cw_sw h (show pg_sy P s < ns by omega)]
    refine ⟨d1, by omega, d3, d4, ?_⟩
    rcases d5 with z | z
    · exact Or.inl z
    · have z2 := z.2.1
      rw [cw_sw h (show pg_sz P s < ns by omega)]
      exact Or.inr z
  · obtain ⟨d1, d2, d3, d4, d5⟩ := c3 k
    rw [cw_ew h d2, cw_sw h (show pg_sy P s < ns by omega)]
    exact ⟨d1, by omega, d3, d4, d5⟩
  · obtain ⟨d1, d2, d3⟩ := c4 k
    rw [cw_ew h d2]
    exact ⟨d1, by omega, d3⟩
  · obtain ⟨d1, d2, d3, d4, d5⟩ := c5 k
    rw [cw_md h d2, cw_md h d2]
    refine ⟨d1, by omega, fun z => ⟨(d3 z).1, by have := (d3 z).2; omega⟩, fun z => ⟨(d4 z).1, by have := (d4 z).2; omega⟩, ?_⟩
    rw [d5]
    by_cases m0 : pg_md P (pg_sx P s) 0 = 0
    · rw [if_pos m0, if_pos m0]
      by_cases m1 : pg_md P (pg_sx P s) 1 = 0
      · rw [if_pos m1, if_pos m1]
      · rw [if_neg m1, if_neg m1, cw_ew h (d4 m1).2]
    · rw [if_neg m0, if_neg m0, cw_ew h (d3 m0).2]
      by_cases m1 : pg_md P (pg_sx P s) 1 = 0
      · rw [if_pos m1, if_pos m1]
      · rw [if_neg m1, if_neg m1, cw_ew h (d4 m1).2]
theorem cw_ek (h : pg_A P P' np ne ns) {e : Nat} (he : e < ne) : pg_ek P' e = pg_ek P e := by unfold pg_ek; rw [(h.2.1 e he).1]
theorem cw_sk (h : pg_A P P' np ne ns) {s : Nat} (hs : s < ns) : pg_sk P' s = pg_sk P s := by unfold pg_sk; rw [(h.2.2 s hs).1]
theorem cw_sx (h : pg_A P P' np ne ns) {s : Nat} (hs : s < ns) : pg_sx P' s = pg_sx P s := by unfold pg_sx; rw [(h.2.2 s hs).2.1]
/-- the component's arrays go on to agree, below the old counts -/
def xq_P (u : SX) (P : pg_P) (np ne ns : Nat) : Prop :=
  (∀ i, i < np → xf_parentOf u i = P 0 i ∧ xf_modesOf u i = P 1 i) ∧
  (∀ e, e < ne → xf_expressionKind u e = P 3 e ∧ xf_expressionX u e = P 4 e ∧ (2 ≤ pg_ek P e → pg_ek P e ≠ 7 → xf_expressionY u e = P 5 e) ∧ xf_expressionWeight u e = P 6 e) ∧
  (∀ s, s < ns → xf_stateKind u s = P 7 s ∧ (pg_sk P s ≠ 6 → xf_stateX u s = P 8 s) ∧ (pg_sk P s < 4 ∨ (pg_sk P s = 5 ∧ pg_md P (pg_sx P s) 0 ≠ 0) → xf_stateY u s = P 9 s) ∧ (pg_sk P s = 2 ∨ (pg_sk P s = 5 ∧ pg_md P (pg_sx P s) 1 ≠ 0) → xf_stateZ u s = P 10 s) ∧ xf_stateWeight u s = P 11 s)
theorem xq_of {u : SX} (h : rl_X u P np ne ns) : xq_P u P np ne ns := by
  obtain ⟨⟨_, _, _, a0, a1, _, a3, a4, a5, a7, a8, a9, a10⟩, a6, a11⟩ := h
  exact ⟨fun i hi => ⟨a0 i hi, a1 i hi⟩, fun e he => ⟨a3 e he, a4 e he, a5 e he, a6 e he⟩, fun s hs => ⟨a7 s hs, a8 s hs, a9 s hs, a10 s hs, a11 s hs⟩⟩
theorem xq_to {u : SX} (h : xq_P u P np ne ns) (h1 : xf_procedureCount u = nI np) (h2 : xf_expressionCount u = nI ne) (h3 : xf_stateCount u = nI ns) (hb : ∀ i, i < np → xf_bodyOf u i = P 2 i) : rl_X u P np ne ns :=
  ⟨⟨h1, h2, h3, fun i hi => (h.1 i hi).1, fun i hi => (h.1 i hi).2, hb, fun e he => (h.2.1 e he).1, fun e he => (h.2.1 e he).2.1, fun e he => (h.2.1 e he).2.2.1,
    fun s hs => (h.2.2 s hs).1, fun s hs => (h.2.2 s hs).2.1, fun s hs => (h.2.2 s hs).2.2.1, fun s hs => (h.2.2 s hs).2.2.2.1⟩, fun e he => (h.2.1 e he).2.2.2, fun s hs => (h.2.2 s hs).2.2.2.2⟩
theorem xq_cg (h : pg_A P P' np ne ns) (hW : pg_W P np ne ns) {u u' : SX} (hx : xq_P u P np ne ns) (e1 : ∀ i, i < np → xf_parentOf u' i = xf_parentOf u i ∧ xf_modesOf u' i = xf_modesOf u i)
    (e2 : ∀ e, e < ne → xf_expressionKind u' e = xf_expressionKind u e ∧ xf_expressionX u' e = xf_expressionX u e ∧ xf_expressionY u' e = xf_expressionY u e ∧ xf_expressionWeight u' e = xf_expressionWeight u e)
    (e3 : ∀ s, s < ns → xf_stateKind u' s = xf_stateKind u s ∧ xf_stateX u' s = xf_stateX u s ∧ xf_stateY u' s = xf_stateY u s ∧ xf_stateZ u' s = xf_stateZ u s ∧ xf_stateWeight u' s = xf_stateWeight u s) : xq_P u' P' np ne ns := by
  refine ⟨fun i hi => ?_, fun e he => ?_, fun s hs => ?_⟩
  · rw [(e1 i hi).1, (e1 i hi).2, (h.1 i hi).1, (h.1 i hi).2]; exact hx.1 i hi
  · rw [(e2 e he).1, (e2 e he).2.1, (e2 e he).2.2.1, (e2 e he).2.2.2, (h.2.1 e he).1, (h.2.1 e he).2.1, (h.2.1 e he).2.2.1, (h.2.1 e he).2.2.2, cw_ek h he]; exact hx.2.1 e he
  · rw [(e3 s hs).1, (e3 s hs).2.1, (e3 s hs).2.2.1, (e3 s hs).2.2.2.1, (e3 s hs).2.2.2.2, (h.2.2 s hs).1, (h.2.2 s hs).2.1, (h.2.2 s hs).2.2.1, (h.2.2 s hs).2.2.2.1, (h.2.2 s hs).2.2.2.2, cw_sk h hs, cw_sx h hs]
    obtain ⟨z1, z2, z3, z4, z5⟩ := hx.2.2 s hs
    have c5 := (hW.2.2.2.2.2 s hs).2.2.2.2.2.2.2.2.2.2
    refine ⟨z1, z2, fun k => z3 ?_, fun k => z4 ?_, z5⟩
    · rcases k with k | k
      · exact Or.inl k
      · have hm := k.2
        rw [cw_md h (c5 k.1).2.1] at hm
        exact Or.inr ⟨k.1, hm⟩
    · rcases k with k | k
      · exact Or.inl k
      · have hm := k.2
        rw [cw_md h (c5 k.1).2.1] at hm
        exact Or.inr ⟨k.1, hm⟩
end
end
section
/-! procedure and body -/
abbrev zx_p (u : SX) (pc : Int32) (ch : Int32) (pa : Nat → Int32) (mo : Nat → Int32) (bo : Nat → Int32) : SX := (pc, u.2.1, u.2.2.1, ch, u.2.2.2.2.1, u.2.2.2.2.2.1, u.2.2.2.2.2.2.1, u.2.2.2.2.2.2.2.1, u.2.2.2.2.2.2.2.2.1, u.2.2.2.2.2.2.2.2.2.1, u.2.2.2.2.2.2.2.2.2.2.1, u.2.2.2.2.2.2.2.2.2.2.2.1, u.2.2.2.2.2.2.2.2.2.2.2.2.1, u.2.2.2.2.2.2.2.2.2.2.2.2.2.1, u.2.2.2.2.2.2.2.2.2.2.2.2.2.2.1, u.2.2.2.2.2.2.2.2.2.2.2.2.2.2.2.1, u.2.2.2.2.2.2.2.2.2.2.2.2.2.2.2.2.1, u.2.2.2.2.2.2.2.2.2.2.2.2.2.2.2.2.2.1, pa, mo, bo, u.2.2.2.2.2.2.2.2.2.2.2.2.2.2.2.2.2.2.2.2.2.1, u.2.2.2.2.2.2.2.2.2.2.2.2.2.2.2.2.2.2.2.2.2.2.1, u.2.2.2.2.2.2.2.2.2.2.2.2.2.2.2.2.2.2.2.2.2.2.2.1, u.2.2.2.2.2.2.2.2.2.2.2.2.2.2.2.2.2.2.2.2.2.2.2.2.1, u.2.2.2.2.2.2.2.2.2.2.2.2.2.2.2.2.2.2.2.2.2.2.2.2.2.1, u.2.2.2.2.2.2.2.2.2.2.2.2.2.2.2.2.2.2.2.2.2.2.2.2.2.2.1, u.2.2.2.2.2.2.2.2.2.2.2.2.2.2.2.2.2.2.2.2.2.2.2.2.2.2.2.1, u.2.2.2.2.2.2.2.2.2.2.2.2.2.2.2.2.2.2.2.2.2.2.2.2.2.2.2.2.1, u.2.2.2.2.2.2.2.2.2.2.2.2.2.2.2.2.2.2.2.2.2.2.2.2.2.2.2.2.2.1, u.2.2.2.2.2.2.2.2.2.2.2.2.2.2.2.2.2.2.2.2.2.2.2.2.2.2.2.2.2.2.1, u.2.2.2.2.2.2.2.2.2.2.2.2.2.2.2.2.2.2.2.2.2.2.2.2.2.2.2.2.2.2.2.1, u.2.2.2.2.2.2.2.2.2.2.2.2.2.2.2.2.2.2.2.2.2.2.2.2.2.2.2.2.2.2.2.2.1, u.2.2.2.2.2.2.2.2.2.2.2.2.2.2.2.2.2.2.2.2.2.2.2.2.2.2.2.2.2.2.2.2.2.1, u.2.2.2.2.2.2.2.2.2.2.2.2.2.2.2.2.2.2.2.2.2.2.2.2.2.2.2.2.2.2.2.2.2.2.1, u.2.2.2.2.2.2.2.2.2.2.2.2.2.2.2.2.2.2.2.2.2.2.2.2.2.2.2.2.2.2.2.2.2.2.2.1, u.2.2.2.2.2.2.2.2.2.2.2.2.2.2.2.2.2.2.2.2.2.2.2.2.2.2.2.2.2.2.2.2.2.2.2.2.1, u.2.2.2.2.2.2.2.2.2.2.2.2.2.2.2.2.2.2.2.2.2.2.2.2.2.2.2.2.2.2.2.2.2.2.2.2.2.1, u.2.2.2.2.2.2.2.2.2.2.2.2.2.2.2.2.2.2.2.2.2.2.2.2.2.2.2.2.2.2.2.2.2.2.2.2.2.2)
abbrev zy_p (u : SY) (pc : Int32) (pa : Nat → Int32) (mo : Nat → Int32) (bo : Nat → Int32) : SY := (pc, u.2.1, u.2.2.1, u.2.2.2.1, u.2.2.2.2.1, u.2.2.2.2.2.1, u.2.2.2.2.2.2.1, u.2.2.2.2.2.2.2.1, pa, mo, bo, u.2.2.2.2.2.2.2.2.2.2.2.1, u.2.2.2.2.2.2.2.2.2.2.2.2.1, u.2.2.2.2.2.2.2.2.2.2.2.2.2.1, u.2.2.2.2.2.2.2.2.2.2.2.2.2.2.1, u.2.2.2.2.2.2.2.2.2.2.2.2.2.2.2.1, u.2.2.2.2.2.2.2.2.2.2.2.2.2.2.2.2.1, u.2.2.2.2.2.2.2.2.2.2.2.2.2.2.2.2.2.1, u.2.2.2.2.2.2.2.2.2.2.2.2.2.2.2.2.2.2.1, u.2.2.2.2.2.2.2.2.2.2.2.2.2.2.2.2.2.2.2.1, u.2.2.2.2.2.2.2.2.2.2.2.2.2.2.2.2.2.2.2.2.1, u.2.2.2.2.2.2.2.2.2.2.2.2.2.2.2.2.2.2.2.2.2.1, u.2.2.2.2.2.2.2.2.2.2.2.2.2.2.2.2.2.2.2.2.2.2.1, u.2.2.2.2.2.2.2.2.2.2.2.2.2.2.2.2.2.2.2.2.2.2.2.1, u.2.2.2.2.2.2.2.2.2.2.2.2.2.2.2.2.2.2.2.2.2.2.2.2.1, u.2.2.2.2.2.2.2.2.2.2.2.2.2.2.2.2.2.2.2.2.2.2.2.2.2.1, u.2.2.2.2.2.2.2.2.2.2.2.2.2.2.2.2.2.2.2.2.2.2.2.2.2.2.1, u.2.2.2.2.2.2.2.2.2.2.2.2.2.2.2.2.2.2.2.2.2.2.2.2.2.2.2.1, u.2.2.2.2.2.2.2.2.2.2.2.2.2.2.2.2.2.2.2.2.2.2.2.2.2.2.2.2.1, u.2.2.2.2.2.2.2.2.2.2.2.2.2.2.2.2.2.2.2.2.2.2.2.2.2.2.2.2.2.1, u.2.2.2.2.2.2.2.2.2.2.2.2.2.2.2.2.2.2.2.2.2.2.2.2.2.2.2.2.2.2.1, u.2.2.2.2.2.2.2.2.2.2.2.2.2.2.2.2.2.2.2.2.2.2.2.2.2.2.2.2.2.2.2.1, u.2.2.2.2.2.2.2.2.2.2.2.2.2.2.2.2.2.2.2.2.2.2.2.2.2.2.2.2.2.2.2.2.1, u.2.2.2.2.2.2.2.2.2.2.2.2.2.2.2.2.2.2.2.2.2.2.2.2.2.2.2.2.2.2.2.2.2)
def pm_G (np : Nat) (v1 v2 : Int32) (m : Nat) (par : Int32) : Prop := v2 = nI m ∧ m ≤ 8 ∧ (2 < m → m % 3 ≠ 0) ∧ ((np = 0 ∧ m = 0 ∧ par = -1) ∨ (np ≠ 0 ∧ iv_n v1 np ∧ par = v1))
def pm_ok (np : Nat) (v1 v2 : Int32) : Prop := ∃ (m : Nat) (par : Int32), pm_G np v1 v2 m par
theorem pm_m {np m m' : Nat} {v1 par : Int32} (hm : m < 9) (h : pm_G np v1 (nI m) m' par) : m' = m := ((nI_eq (by omega) (by have := h.2.1; omega)).mp h.1).symm
section
variable {u : SX} {np : Nat} {v1 v2 : Int32} {post : Int32 → SX → Prop}
theorem xm_93 (hc : xf_procedureCount u = nI np) (hn : np < 5) {m : Nat} (hm : m ≤ 8) {z0 par : Int32} (hz : vp_nar .byte z0.toInt8.toInt32 = par)
    (h : post (xf_procedureCount u) (zx_p u (nI (np + 1)) 1 (upd (xf_parentOf u) np par) (upd (xf_modesOf u) np (nI m)) (upd (xf_bodyOf u) np (-1)))) :
    wX_procedure_93 post (nI m) (xf_procedureCount u) z0 (xf_procedureCount u) (nI (np + 1)) u.2.1 u.2.2.1 u.2.2.2.1 u.2.2.2.2.1 u.2.2.2.2.2.1 u.2.2.2.2.2.2.1 u.2.2.2.2.2.2.2.1 u.2.2.2.2.2.2.2.2.1 u.2.2.2.2.2.2.2.2.2.1 u.2.2.2.2.2.2.2.2.2.2.1 u.2.2.2.2.2.2.2.2.2.2.2.1 u.2.2.2.2.2.2.2.2.2.2.2.2.1 u.2.2.2.2.2.2.2.2.2.2.2.2.2.1 u.2.2.2.2.2.2.2.2.2.2.2.2.2.2.1 u.2.2.2.2.2.2.2.2.2.2.2.2.2.2.2.1 u.2.2.2.2.2.2.2.2.2.2.2.2.2.2.2.2.1 u.2.2.2.2.2.2.2.2.2.2.2.2.2.2.2.2.2.1 u.2.2.2.2.2.2.2.2.2.2.2.2.2.2.2.2.2.2.1 u.2.2.2.2.2.2.2.2.2.2.2.2.2.2.2.2.2.2.2.1 u.2.2.2.2.2.2.2.2.2.2.2.2.2.2.2.2.2.2.2.2.1 u.2.2.2.2.2.2.2.2.2.2.2.2.2.2.2.2.2.2.2.2.2.1 u.2.2.2.2.2.2.2.2.2.2.2.2.2.2.2.2.2.2.2.2.2.2.1 u.2.2.2.2.2.2.2.2.2.2.2.2.2.2.2.2.2.2.2.2.2.2.2.1 u.2.2.2.2.2.2.2.2.2.2.2.2.2.2.2.2.2.2.2.2.2.2.2.2.1 u.2.2.2.2.2.2.2.2.2.2.2.2.2.2.2.2.2.2.2.2.2.2.2.2.2.1 u.2.2.2.2.2.2.2.2.2.2.2.2.2.2.2.2.2.2.2.2.2.2.2.2.2.2.1 u.2.2.2.2.2.2.2.2.2.2.2.2.2.2.2.2.2.2.2.2.2.2.2.2.2.2.2.1 u.2.2.2.2.2.2.2.2.2.2.2.2.2.2.2.2.2.2.2.2.2.2.2.2.2.2.2.2.1 u.2.2.2.2.2.2.2.2.2.2.2.2.2.2.2.2.2.2.2.2.2.2.2.2.2.2.2.2.2.1 u.2.2.2.2.2.2.2.2.2.2.2.2.2.2.2.2.2.2.2.2.2.2.2.2.2.2.2.2.2.2.1 u.2.2.2.2.2.2.2.2.2.2.2.2.2.2.2.2.2.2.2.2.2.2.2.2.2.2.2.2.2.2.2.1 u.2.2.2.2.2.2.2.2.2.2.2.2.2.2.2.2.2.2.2.2.2.2.2.2.2.2.2.2.2.2.2.2.1 u.2.2.2.2.2.2.2.2.2.2.2.2.2.2.2.2.2.2.2.2.2.2.2.2.2.2.2.2.2.2.2.2.2.1 u.2.2.2.2.2.2.2.2.2.2.2.2.2.2.2.2.2.2.2.2.2.2.2.2.2.2.2.2.2.2.2.2.2.2.1 u.2.2.2.2.2.2.2.2.2.2.2.2.2.2.2.2.2.2.2.2.2.2.2.2.2.2.2.2.2.2.2.2.2.2.2.1 u.2.2.2.2.2.2.2.2.2.2.2.2.2.2.2.2.2.2.2.2.2.2.2.2.2.2.2.2.2.2.2.2.2.2.2.2.1 u.2.2.2.2.2.2.2.2.2.2.2.2.2.2.2.2.2.2.2.2.2.2.2.2.2.2.2.2.2.2.2.2.2.2.2.2.2.1 u.2.2.2.2.2.2.2.2.2.2.2.2.2.2.2.2.2.2.2.2.2.2.2.2.2.2.2.2.2.2.2.2.2.2.2.2.2.2 := by
  have iv : vp_in (xf_procedureCount u) 5 := by rw [hc]; exact vp_in_nI (by omega) (by omega)
  have e0 : upd (xf_parentOf u) (xf_procedureCount u).toNatClampNeg (vp_nar .byte z0.toInt8.toInt32) = upd (xf_parentOf u) np par := by rw [hz, hc, nI_clamp (by omega)]
  have e1 : upd (xf_modesOf u) (xf_procedureCount u).toNatClampNeg (vp_nar .byte (nI m).toInt8.toInt32) = upd (xf_modesOf u) np (nI m) := by rw [nw_b (by omega), hc, nI_clamp (by omega)]
  have e2 : upd (xf_bodyOf u) (xf_procedureCount u).toNatClampNeg (vp_nar .byte (-1)) = upd (xf_bodyOf u) np (-1) := by rw [nw_m', hc, nI_clamp (by omega)]
  exact ⟨iv, nm_r e0 ⟨iv, nm_r e1 ⟨iv, nm_r e2 h⟩⟩⟩
theorem xm_proc (hc : xf_procedureCount u = nI np) (h5 : np ≤ 5) (hF : np = 5 → post (-100001) u) (hB : np < 5 → ¬ pm_ok np v1 v2 → post (-100000) u)
    (hG : ∀ (m : Nat) (par : Int32), np < 5 → pm_G np v1 v2 m par → post (xf_procedureCount u) (zx_p u (nI (np + 1)) 1 (upd (xf_parentOf u) np par) (upd (xf_modesOf u) np (nI m)) (upd (xf_bodyOf u) np (-1)))) : wpX_procedure post u v1 v2 := by
  by_cases n5 : np = 5
  · exact br_f (show ¬ xf_procedureCount u < 5 by rw [hc, n5]; decide) (hF n5)
  · have hn : np < 5 := by omega
    refine br_t (show xf_procedureCount u < 5 by rw [hc]; exact nI_lt (b := 5) hn (by omega)) ?_
    refine br_c (fun h => hB hn ?_) (fun h => br_c (fun h2 => hB hn ?_) (fun h2 => ?_))
    · intro z
      obtain ⟨m, par, z⟩ := z
      rw [z.1] at h
      exact nI_pos (by have := z.2.1; omega) h
    · intro z
      obtain ⟨m, par, z⟩ := z
      rw [z.1] at h2
      exact nI_nlt (a := 8) (b := m) z.2.1 (by omega) h2
    · obtain ⟨m, hm, e⟩ := iv_le (n := 8) (by omega) h2 h
      subst e
      have e1 : xf_procedureCount u + 1 = nI (np + 1) := by rw [hc, nI_1]
      have t35 : (2 < m → m % 3 ≠ 0) → wX_procedure_35 post v1 (nI m) u.1 u.2.1 u.2.2.1 u.2.2.2.1 u.2.2.2.2.1 u.2.2.2.2.2.1 u.2.2.2.2.2.2.1 u.2.2.2.2.2.2.2.1 u.2.2.2.2.2.2.2.2.1 u.2.2.2.2.2.2.2.2.2.1 u.2.2.2.2.2.2.2.2.2.2.1 u.2.2.2.2.2.2.2.2.2.2.2.1 u.2.2.2.2.2.2.2.2.2.2.2.2.1 u.2.2.2.2.2.2.2.2.2.2.2.2.2.1 u.2.2.2.2.2.2.2.2.2.2.2.2.2.2.1 u.2.2.2.2.2.2.2.2.2.2.2.2.2.2.2.1 u.2.2.2.2.2.2.2.2.2.2.2.2.2.2.2.2.1 u.2.2.2.2.2.2.2.2.2.2.2.2.2.2.2.2.2.1 u.2.2.2.2.2.2.2.2.2.2.2.2.2.2.2.2.2.2.1 u.2.2.2.2.2.2.2.2.2.2.2.2.2.2.2.2.2.2.2.1 u.2.2.2.2.2.2.2.2.2.2.2.2.2.2.2.2.2.2.2.2.1 u.2.2.2.2.2.2.2.2.2.2.2.2.2.2.2.2.2.2.2.2.2.1 u.2.2.2.2.2.2.2.2.2.2.2.2.2.2.2.2.2.2.2.2.2.2.1 u.2.2.2.2.2.2.2.2.2.2.2.2.2.2.2.2.2.2.2.2.2.2.2.1 u.2.2.2.2.2.2.2.2.2.2.2.2.2.2.2.2.2.2.2.2.2.2.2.2.1 u.2.2.2.2.2.2.2.2.2.2.2.2.2.2.2.2.2.2.2.2.2.2.2.2.2.1 u.2.2.2.2.2.2.2.2.2.2.2.2.2.2.2.2.2.2.2.2.2.2.2.2.2.2.1 u.2.2.2.2.2.2.2.2.2.2.2.2.2.2.2.2.2.2.2.2.2.2.2.2.2.2.2.1 u.2.2.2.2.2.2.2.2.2.2.2.2.2.2.2.2.2.2.2.2.2.2.2.2.2.2.2.2.1 u.2.2.2.2.2.2.2.2.2.2.2.2.2.2.2.2.2.2.2.2.2.2.2.2.2.2.2.2.2.1 u.2.2.2.2.2.2.2.2.2.2.2.2.2.2.2.2.2.2.2.2.2.2.2.2.2.2.2.2.2.2.1 u.2.2.2.2.2.2.2.2.2.2.2.2.2.2.2.2.2.2.2.2.2.2.2.2.2.2.2.2.2.2.2.1 u.2.2.2.2.2.2.2.2.2.2.2.2.2.2.2.2.2.2.2.2.2.2.2.2.2.2.2.2.2.2.2.2.1 u.2.2.2.2.2.2.2.2.2.2.2.2.2.2.2.2.2.2.2.2.2.2.2.2.2.2.2.2.2.2.2.2.2.1 u.2.2.2.2.2.2.2.2.2.2.2.2.2.2.2.2.2.2.2.2.2.2.2.2.2.2.2.2.2.2.2.2.2.2.1 u.2.2.2.2.2.2.2.2.2.2.2.2.2.2.2.2.2.2.2.2.2.2.2.2.2.2.2.2.2.2.2.2.2.2.2.1 u.2.2.2.2.2.2.2.2.2.2.2.2.2.2.2.2.2.2.2.2.2.2.2.2.2.2.2.2.2.2.2.2.2.2.2.2.1 u.2.2.2.2.2.2.2.2.2.2.2.2.2.2.2.2.2.2.2.2.2.2.2.2.2.2.2.2.2.2.2.2.2.2.2.2.2.1 u.2.2.2.2.2.2.2.2.2.2.2.2.2.2.2.2.2.2.2.2.2.2.2.2.2.2.2.2.2.2.2.2.2.2.2.2.2.2 := by
        intro h3
        by_cases n0 : np = 0
        · have c0 : xf_procedureCount u = 0 := by rw [hc, n0]; rfl
          refine br_t c0 (br_c (fun e => ?_) (fun e => hB hn ?_))
          · have m0 : m = 0 := (nI_eq (b := 0) (by omega) (by omega)).mp e
            exact nm_r e1 (br_t c0 (xm_93 hc hn (by omega) nw_m (hG m (-1) hn ⟨rfl, by omega, h3, Or.inl ⟨n0, m0, rfl⟩⟩)))
          · intro z
            obtain ⟨m', par, z⟩ := z
            have hmm := pm_m hm z
            rcases z.2.2.2 with y | y
            · rw [hmm] at y; exact e (by rw [y.2.1]; rfl)
            · exact y.1 n0
        · have c0 : ¬ xf_procedureCount u = 0 := by rw [hc]; exact nI_ne0 (by omega) (by omega)
          refine br_f c0 (br_c (fun e => hB hn ?_) (fun e => br_c (fun e2 => ?_) (fun e2 => hB hn ?_)))
          · intro z
            obtain ⟨m', par, z⟩ := z
            rcases z.2.2.2 with y | y
            · exact n0 y.1
            · exact iv_lo (by omega) e y.2.1
          · have e3 : v1 < xf_procedureCount u := e2
            rw [hc] at e3
            have iv : iv_n v1 np := iv_ok (by omega) e (fun z => by
              rw [Int32.lt_iff_toInt_lt] at e3
              rw [Int32.le_iff_toInt_le] at z
              omega)
            obtain ⟨p, hp, ep⟩ := iv
            exact nm_r e1 (br_f c0 (xm_93 hc hn (by omega) (by rw [ep]; exact nw_b (by omega)) (hG m v1 hn ⟨rfl, by omega, h3, Or.inr ⟨n0, ⟨p, hp, ep⟩, rfl⟩⟩)))
          · intro z
            obtain ⟨m', par, z⟩ := z
            rcases z.2.2.2 with y | y
            · exact n0 y.1
            · obtain ⟨p, hp, ep⟩ := y.2.1
              refine e2 (show v1 < xf_procedureCount u from ?_)
              rw [hc, ep]; exact nI_lt hp (by omega)
      refine br_c (fun h3 => t35 (fun z => absurd h3 (nI_ge (a := 2) z (by omega)))) (fun h3 => ⟨by decide, br_c (fun h4 => hB hn ?_) (fun h4 => t35 (fun _ z => h4 ?_))⟩)
      · intro z
        obtain ⟨m', par, z⟩ := z
        have hmm := pm_m hm z
        rw [yn_m3 (by omega)] at h4
        have g : m % 3 = 0 := (nI_eq (b := 0) (by omega) (by omega)).mp h4
        have g2 : 2 < m := by
          by_cases y : 2 < m
          · exact y
          · exact absurd (nI_le (b := 2) (by omega) (by omega)) h3
        rw [hmm] at z
        exact z.2.2.1 g2 g
      · rw [yn_m3 (by omega), z]; rfl
end
section
variable {v : SY} {np : Nat} {v1 v2 : Int32} {post : Int32 → SY → Prop}
theorem ym_88 (hc : yf_procedures v = nI np) (hn : np < 5) {m : Nat} {par : Int32} (h : post (nI np) (zy_p v (nI (np + 1)) (upd (yf_parent v) np par) (upd (yf_modes v) np (nI m)) (upd (yf_bodies v) np (-1)))) :
    wY_procedure_88 post (nI m) par (yf_procedures v) v.1 v.2.1 v.2.2.1 v.2.2.2.1 v.2.2.2.2.1 v.2.2.2.2.2.1 v.2.2.2.2.2.2.1 v.2.2.2.2.2.2.2.1 v.2.2.2.2.2.2.2.2.1 v.2.2.2.2.2.2.2.2.2.1 v.2.2.2.2.2.2.2.2.2.2.1 v.2.2.2.2.2.2.2.2.2.2.2.1 v.2.2.2.2.2.2.2.2.2.2.2.2.1 v.2.2.2.2.2.2.2.2.2.2.2.2.2.1 v.2.2.2.2.2.2.2.2.2.2.2.2.2.2.1 v.2.2.2.2.2.2.2.2.2.2.2.2.2.2.2.1 v.2.2.2.2.2.2.2.2.2.2.2.2.2.2.2.2.1 v.2.2.2.2.2.2.2.2.2.2.2.2.2.2.2.2.2.1 v.2.2.2.2.2.2.2.2.2.2.2.2.2.2.2.2.2.2.1 v.2.2.2.2.2.2.2.2.2.2.2.2.2.2.2.2.2.2.2.1 v.2.2.2.2.2.2.2.2.2.2.2.2.2.2.2.2.2.2.2.2.1 v.2.2.2.2.2.2.2.2.2.2.2.2.2.2.2.2.2.2.2.2.2.1 v.2.2.2.2.2.2.2.2.2.2.2.2.2.2.2.2.2.2.2.2.2.2.1 v.2.2.2.2.2.2.2.2.2.2.2.2.2.2.2.2.2.2.2.2.2.2.2.1 v.2.2.2.2.2.2.2.2.2.2.2.2.2.2.2.2.2.2.2.2.2.2.2.2.1 v.2.2.2.2.2.2.2.2.2.2.2.2.2.2.2.2.2.2.2.2.2.2.2.2.2.1 v.2.2.2.2.2.2.2.2.2.2.2.2.2.2.2.2.2.2.2.2.2.2.2.2.2.2.1 v.2.2.2.2.2.2.2.2.2.2.2.2.2.2.2.2.2.2.2.2.2.2.2.2.2.2.2.1 v.2.2.2.2.2.2.2.2.2.2.2.2.2.2.2.2.2.2.2.2.2.2.2.2.2.2.2.2.1 v.2.2.2.2.2.2.2.2.2.2.2.2.2.2.2.2.2.2.2.2.2.2.2.2.2.2.2.2.2.1 v.2.2.2.2.2.2.2.2.2.2.2.2.2.2.2.2.2.2.2.2.2.2.2.2.2.2.2.2.2.2.1 v.2.2.2.2.2.2.2.2.2.2.2.2.2.2.2.2.2.2.2.2.2.2.2.2.2.2.2.2.2.2.2.1 v.2.2.2.2.2.2.2.2.2.2.2.2.2.2.2.2.2.2.2.2.2.2.2.2.2.2.2.2.2.2.2.2.1 v.2.2.2.2.2.2.2.2.2.2.2.2.2.2.2.2.2.2.2.2.2.2.2.2.2.2.2.2.2.2.2.2.2 := by
  have iv : vp_in (yf_procedures v) 5 := by rw [hc]; exact vp_in_nI (by omega) (by omega)
  have e0 : upd (yf_parent v) (yf_procedures v).toNatClampNeg par = upd (yf_parent v) np par := by rw [hc, nI_clamp (by omega)]
  have e1 : upd (yf_modes v) (yf_procedures v).toNatClampNeg (nI m) = upd (yf_modes v) np (nI m) := by rw [hc, nI_clamp (by omega)]
  have e2 : upd (yf_bodies v) (yf_procedures v).toNatClampNeg (-1) = upd (yf_bodies v) np (-1) := by rw [hc, nI_clamp (by omega)]
  have e3 : yf_procedures v + 1 = nI (np + 1) := by rw [hc, nI_1]
  rw [← nI_pred np] at h
  exact ⟨iv, nm_r e0 ⟨iv, nm_r e1 ⟨iv, nm_r e2 (nm_r e3 h)⟩⟩⟩
theorem ym_proc (hc : yf_procedures v = nI np) (h5 : np ≤ 5) (hF : np = 5 → post (-100001) v) (hB : np < 5 → ¬ pm_ok np v1 v2 → post (-100000) v)
    (hG : ∀ (m : Nat) (par : Int32), np < 5 → pm_G np v1 v2 m par → post (nI np) (zy_p v (nI (np + 1)) (upd (yf_parent v) np par) (upd (yf_modes v) np (nI m)) (upd (yf_bodies v) np (-1)))) : wpY_procedure post v v1 v2 := by
  by_cases n5 : np = 5
  · exact br_t (show yf_procedures v = 5 by rw [hc, n5]; rfl) (hF n5)
  · have hn : np < 5 := by omega
    refine br_f (show ¬ yf_procedures v = 5 by rw [hc]; exact fun z => n5 ((nI_eq (b := 5) (by omega) (by omega)).mp z)) ?_
    refine yi_rg (v := v) (n := 9) (by omega) rfl (fun iv => br_f (by decide) ?_) (fun iv => br_t rfl (hB hn ?_))
    · obtain ⟨m, hm, e⟩ := iv
      subst e
      have t36 : (2 < m → m % 3 ≠ 0) → wY_procedure_36 post v1 (nI m) v.1 v.2.1 v.2.2.1 v.2.2.2.1 v.2.2.2.2.1 v.2.2.2.2.2.1 v.2.2.2.2.2.2.1 v.2.2.2.2.2.2.2.1 v.2.2.2.2.2.2.2.2.1 v.2.2.2.2.2.2.2.2.2.1 v.2.2.2.2.2.2.2.2.2.2.1 v.2.2.2.2.2.2.2.2.2.2.2.1 v.2.2.2.2.2.2.2.2.2.2.2.2.1 v.2.2.2.2.2.2.2.2.2.2.2.2.2.1 v.2.2.2.2.2.2.2.2.2.2.2.2.2.2.1 v.2.2.2.2.2.2.2.2.2.2.2.2.2.2.2.1 v.2.2.2.2.2.2.2.2.2.2.2.2.2.2.2.2.1 v.2.2.2.2.2.2.2.2.2.2.2.2.2.2.2.2.2.1 v.2.2.2.2.2.2.2.2.2.2.2.2.2.2.2.2.2.2.1 v.2.2.2.2.2.2.2.2.2.2.2.2.2.2.2.2.2.2.2.1 v.2.2.2.2.2.2.2.2.2.2.2.2.2.2.2.2.2.2.2.2.1 v.2.2.2.2.2.2.2.2.2.2.2.2.2.2.2.2.2.2.2.2.2.1 v.2.2.2.2.2.2.2.2.2.2.2.2.2.2.2.2.2.2.2.2.2.2.1 v.2.2.2.2.2.2.2.2.2.2.2.2.2.2.2.2.2.2.2.2.2.2.2.1 v.2.2.2.2.2.2.2.2.2.2.2.2.2.2.2.2.2.2.2.2.2.2.2.2.1 v.2.2.2.2.2.2.2.2.2.2.2.2.2.2.2.2.2.2.2.2.2.2.2.2.2.1 v.2.2.2.2.2.2.2.2.2.2.2.2.2.2.2.2.2.2.2.2.2.2.2.2.2.2.1 v.2.2.2.2.2.2.2.2.2.2.2.2.2.2.2.2.2.2.2.2.2.2.2.2.2.2.2.1 v.2.2.2.2.2.2.2.2.2.2.2.2.2.2.2.2.2.2.2.2.2.2.2.2.2.2.2.2.1 v.2.2.2.2.2.2.2.2.2.2.2.2.2.2.2.2.2.2.2.2.2.2.2.2.2.2.2.2.2.1 v.2.2.2.2.2.2.2.2.2.2.2.2.2.2.2.2.2.2.2.2.2.2.2.2.2.2.2.2.2.2.1 v.2.2.2.2.2.2.2.2.2.2.2.2.2.2.2.2.2.2.2.2.2.2.2.2.2.2.2.2.2.2.2.1 v.2.2.2.2.2.2.2.2.2.2.2.2.2.2.2.2.2.2.2.2.2.2.2.2.2.2.2.2.2.2.2.2.1 v.2.2.2.2.2.2.2.2.2.2.2.2.2.2.2.2.2.2.2.2.2.2.2.2.2.2.2.2.2.2.2.2.2 := by
        intro h3
        by_cases n0 : np = 0
        · have c0 : yf_procedures v = 0 := by rw [hc, n0]; rfl
          refine br_t c0 (br_c (fun e => ?_) (fun e => hB hn ?_))
          · have m0 : m = 0 := (nI_eq (b := 0) (by omega) (by omega)).mp e
            exact br_t c0 (ym_88 hc hn (hG m (-1) hn ⟨rfl, by omega, h3, Or.inl ⟨n0, m0, rfl⟩⟩))
          · intro z
            obtain ⟨m', par, z⟩ := z
            have hmm := pm_m hm z
            rcases z.2.2.2 with y | y
            · rw [hmm] at y; exact e (by rw [y.2.1]; rfl)
            · exact y.1 n0
        · have c0 : ¬ yf_procedures v = 0 := by rw [hc]; exact nI_ne0 (by omega) (by omega)
          have e1 : yf_procedures v - 1 = nI np - 1 := by rw [hc]
          refine br_f c0 (yi_rg (v := v) (n := np) (by omega) e1 (fun i2 => br_f (by decide) (br_f c0 (ym_88 hc hn (hG m v1 hn ⟨rfl, by omega, h3, Or.inr ⟨n0, i2, rfl⟩⟩)))) (fun i2 => br_t rfl (hB hn ?_)))
          intro z
          obtain ⟨m', par, z⟩ := z
          rcases z.2.2.2 with y | y
          · exact n0 y.1
          · exact i2 y.2.1
      refine br_c (fun h3 => t36 (fun z => absurd h3 (nI_ge (a := 2) z (by omega)))) (fun h3 => ⟨by decide, br_c (fun h4 => hB hn ?_) (fun h4 => t36 (fun _ z => h4 ?_))⟩)
      · intro z
        obtain ⟨m', par, z⟩ := z
        have hmm := pm_m hm z
        rw [yn_m3 (by omega)] at h4
        have g : m % 3 = 0 := (nI_eq (b := 0) (by omega) (by omega)).mp h4
        have g2 : 2 < m := by
          by_cases y : 2 < m
          · exact y
          · exact absurd (nI_le (b := 2) (by omega) (by omega)) h3
        rw [hmm] at z
        exact z.2.2.1 g2 g
      · rw [yn_m3 (by omega), z]; rfl
    · intro z
      obtain ⟨m, par, z⟩ := z
      exact iv ⟨m, by have := z.2.1; omega, z.1⟩
end
theorem pp_rel {k np ne ns m : Nat} {u : SX} {v : SY} {P : pg_P} {v1 v2 par : Int32} (hW : pg_W P np ne ns) (hX : rl_X u P np ne ns) (hY : rl_Y v P np ne ns) (hS : rl_S u v) (hn : np < 5) (hg : pm_G np v1 v2 m par) :
    i_Rel k (zx_p u (nI (np + 1)) 1 (upd (xf_parentOf u) np par) (upd (xf_modesOf u) np (nI m)) (upd (xf_bodyOf u) np (-1))) (zy_p v (nI (np + 1)) (upd (yf_parent v) np par) (upd (yf_modes v) np (nI m)) (upd (yf_bodies v) np (-1))) := by
  obtain ⟨P', q0, q1, q2, q3, q4, q5, q6, q7, q8, q9, q10, q11⟩ := pg_mk (upd (P 0) np par) (upd (P 1) np (nI m)) (upd (P 2) np (-1)) (P 3) (P 4) (P 5) (P 6) (P 7) (P 8) (P 9) (P 10) (P 11)
  have hA : pg_A P P' np ne ns := by
    refine ⟨fun i hi => ?_, fun e he => ?_, fun s hs => ?_⟩
    · rw [q0, q1]; exact ⟨pk_un (by omega), pk_un (by omega)⟩
    · rw [q3, q4, q5, q6]; exact ⟨rfl, rfl, rfl, rfl⟩
    · rw [q7, q8, q9, q10, q11]; exact ⟨rfl, rfl, rfl, rfl, rfl⟩
  have n0 : P' 0 np = par := by rw [q0]; exact pk_us
  have n1 : P' 1 np = nI m := by rw [q1]; exact pk_us
  have n2 : P' 2 np = -1 := by rw [q2]; exact pk_us
  have hm8 := hg.2.1
  have em : pg_mo P' np = m := by unfold pg_mo; rw [n1]; exact nI_clamp (by omega)
  obtain ⟨⟨y0, y1, y2, y3, y4, y5, y6, y7, y8, y9, y10, y11⟩, z1, z2, z3⟩ := hY
  refine ⟨P', np + 1, ne, ns, ⟨by omega, hW.2.1, hW.2.2.1, fun i hi => ?_, fun e he => cw_We hA he (hW.2.2.2.2.1 e he), fun s hs => cw_Ws hA hs (by omega) (Nat.le_refl _) (hW.2.2.2.2.2 s hs)⟩, ?_, ⟨⟨?_, ?_, ?_, y3.trans q3.symm, y4.trans q4.symm, y5.trans q5.symm, y6.trans q6.symm, y7.trans q7.symm, y8.trans q8.symm, y9.trans q9.symm, y10.trans q10.symm, y11.trans q11.symm⟩, rfl, z2, z3⟩, fun h => absurd (show (1 : Int32) = 0 from h) (by decide), hS⟩
  · by_cases e : i = np
    · subst e
      unfold pg_Wp
      rw [em, n0, n1, n2]
      refine ⟨fun z => ?_, fun z => ?_, rfl, hm8, hg.2.2.1, Or.inl rfl⟩
      · rcases hg.2.2.2 with y | y
        · exact ⟨y.2.2, y.2.1⟩
        · exact absurd z y.1
      · rcases hg.2.2.2 with y | y
        · exact absurd y.1 z
        · obtain ⟨p, hp, ep⟩ := y.2.1
          have ea : pg_pa P' i = p := by unfold pg_pa; rw [n0, y.2.2, ep]; exact nI_clamp (by omega)
          rw [ea, y.2.2]
          exact ⟨ep, hp⟩
    · exact cw_Wp hA (by omega) (by rw [q2]; exact pk_un e) (Nat.le_refl _) (hW.2.2.2.1 i (by omega))
  · have hq : xq_P (zx_p u (nI (np + 1)) 1 (upd (xf_parentOf u) np par) (upd (xf_modesOf u) np (nI m)) (upd (xf_bodyOf u) np (-1))) P' np ne ns := by
      refine xq_cg hA hW (xq_of hX) (fun i hi => ⟨?_, ?_⟩) (fun e he => ⟨rfl, rfl, rfl, rfl⟩) (fun s hs => ⟨rfl, rfl, rfl, rfl, rfl⟩)
      · show upd (xf_parentOf u) np par i = xf_parentOf u i
        exact pk_un (by omega)
      · show upd (xf_modesOf u) np (nI m) i = xf_modesOf u i
        exact pk_un (by omega)
    refine xq_to ⟨fun i hi => ?_, hq.2.1, hq.2.2⟩ rfl hX.1.2.1 hX.1.2.2.1 (fun i hi => ?_)
    · by_cases e : i = np
      · subst e
        rw [n0, n1]
        exact ⟨pk_us, pk_us⟩
      · exact hq.1 i (by omega)
    · by_cases e : i = np
      · subst e
        rw [n2]
        exact pk_us
      · rw [q2]
        show upd (xf_bodyOf u) np (-1) i = upd (P 2) np (-1) i
        rw [pk_un e, pk_un e]
        exact hX.1.2.2.2.2.2.1 i (by omega)
  · rw [q0, ← y0]
  · rw [q1, ← y1]
  · rw [q2, ← y2]
theorem pm_u {np m m' : Nat} {v1 v2 par par' : Int32} (h : pm_G np v1 v2 m par) (h' : pm_G np v1 v2 m' par') : m' = m ∧ par' = par := by
  have e := h.1
  rw [h'.1] at e
  refine ⟨(nI_eq (by have := h'.2.1; omega) (by have := h.2.1; omega)).mp e, ?_⟩
  rcases h.2.2.2 with y | y
  · rcases h'.2.2.2 with z | z
    · rw [y.2.2, z.2.2]
    · exact absurd y.1 z.1
  · rcases h'.2.2.2 with z | z
    · exact absurd z.1 y.1
    · rw [y.2.2, z.2.2]
theorem i_vc_procedure {k : Nat} {u : SX} {v : SY} (I : i_Rel k u v) (hk : k + 5 ≤ 2560) (v1 : Int32) (v2 : Int32) : wpX_procedure (fun r u' => wpY_procedure (fun r' v' => r' = r ∧ i_Rel (k + 5) u' v') v v1 v2) u v1 v2 := by
  have I2 := i_up I
  obtain ⟨P, np, ne, ns, hW, hX, hY, hC, hS⟩ := I
  have hc := hX.1.1
  have hd := hY.2.1
  refine xm_proc hc hW.1 (fun h => ?_) (fun h hb => ?_) (fun m par h hg => ?_)
  · exact ym_proc hd hW.1 (fun _ => ⟨rfl, I2⟩) (fun z => by omega) (fun m par z => by omega)
  · exact ym_proc hd hW.1 (fun z => by omega) (fun _ _ => ⟨rfl, I2⟩) (fun m par _ z => absurd ⟨m, par, z⟩ hb)
  · refine ym_proc hd hW.1 (fun z => by omega) (fun _ z => absurd ⟨m, par, hg⟩ z) (fun m' par' _ hg' => ?_)
    obtain ⟨q1, q2⟩ := pm_u hg hg'
    subst q1
    subst q2
    exact ⟨hc.symm, pp_rel hW hX hY hS h hg⟩
theorem pb_rel {k np ne ns i s : Nat} {u : SX} {v : SY} {P : pg_P} (hW : pg_W P np ne ns) (hX : rl_X u P np ne ns) (hY : rl_Y v P np ne ns) (hS : rl_S u v) (hi : i < np) (hs : s < ns) :
    i_Rel k (zx_p u (xf_procedureCount u) 1 (xf_parentOf u) (xf_modesOf u) (upd (xf_bodyOf u) i (nI s))) (zy_p v (yf_procedures v) (yf_parent v) (yf_modes v) (upd (yf_bodies v) i (nI s))) := by
  obtain ⟨P', q0, q1, q2, q3, q4, q5, q6, q7, q8, q9, q10, q11⟩ := pg_mk (P 0) (P 1) (upd (P 2) i (nI s)) (P 3) (P 4) (P 5) (P 6) (P 7) (P 8) (P 9) (P 10) (P 11)
  have hA : pg_A P P' np ne ns := by
    refine ⟨fun i hi => ?_, fun e he => ?_, fun s hs => ?_⟩
    · rw [q0, q1]; exact ⟨rfl, rfl⟩
    · rw [q3, q4, q5, q6]; exact ⟨rfl, rfl, rfl, rfl⟩
    · rw [q7, q8, q9, q10, q11]; exact ⟨rfl, rfl, rfl, rfl, rfl⟩
  have h40 := hW.2.2.1
  have n2 : P' 2 i = nI s := by rw [q2]; exact pk_us
  have eb : pg_bo P' i = s := by unfold pg_bo; rw [n2]; exact nI_clamp (by omega)
  obtain ⟨⟨y0, y1, y2, y3, y4, y5, y6, y7, y8, y9, y10, y11⟩, z1, z2, z3⟩ := hY
  refine ⟨P', np, ne, ns, ⟨hW.1, hW.2.1, hW.2.2.1, fun j hj => ?_, fun e he => cw_We hA he (hW.2.2.2.2.1 e he), fun s hs => cw_Ws hA hs (Nat.le_refl _) (Nat.le_refl _) (hW.2.2.2.2.2 s hs)⟩, ?_, ⟨⟨y0.trans q0.symm, y1.trans q1.symm, ?_, y3.trans q3.symm, y4.trans q4.symm, y5.trans q5.symm, y6.trans q6.symm, y7.trans q7.symm, y8.trans q8.symm, y9.trans q9.symm, y10.trans q10.symm, y11.trans q11.symm⟩, z1, z2, z3⟩, fun h => absurd (show (1 : Int32) = 0 from h) (by decide), hS⟩
  · by_cases e : j = i
    · subst e
      have w := hW.2.2.2.1 j hj
      have ea : pg_pa P' j = pg_pa P j := by unfold pg_pa; rw [q0]
      have em : pg_mo P' j = pg_mo P j := by unfold pg_mo; rw [q1]
      unfold pg_Wp
      rw [eb, n2, ea, em, q0, q1]
      exact ⟨w.1, w.2.1, w.2.2.1, w.2.2.2.1, w.2.2.2.2.1, Or.inr ⟨rfl, hs⟩⟩
    · exact cw_Wp hA hj (by rw [q2]; exact pk_un e) (Nat.le_refl _) (hW.2.2.2.1 j hj)
  · have hq : xq_P (zx_p u (xf_procedureCount u) 1 (xf_parentOf u) (xf_modesOf u) (upd (xf_bodyOf u) i (nI s))) P' np ne ns :=
      xq_cg hA hW (xq_of hX) (fun i hi => ⟨rfl, rfl⟩) (fun e he => ⟨rfl, rfl, rfl, rfl⟩) (fun s hs => ⟨rfl, rfl, rfl, rfl, rfl⟩)
    refine xq_to hq hX.1.1 hX.1.2.1 hX.1.2.2.1 (fun j hj => ?_)
    by_cases e : j = i
    · subst e
      rw [n2]
      exact pk_us
    · rw [q2]
      show upd (xf_bodyOf u) i (nI s) j = upd (P 2) i (nI s) j
      rw [pk_un e, pk_un e]
      exact hX.1.2.2.2.2.2.1 j hj
  · rw [q2, ← y2]
theorem i_vc_body {k : Nat} {u : SX} {v : SY} (I : i_Rel k u v) (hk : k + 5 ≤ 2560) (v1 : Int32) (v2 : Int32) : wpX_body (fun r u' => wpY_body (fun r' v' => r' = r ∧ i_Rel (k + 5) u' v') v v1 v2) u v1 v2 := by
  have I2 := i_up I
  obtain ⟨P, np, ne, ns, hW, hX, hY, hC, hS⟩ := I
  have hc := hX.1.1
  have hc3 := hX.1.2.2.1
  have hd := hY.2.1
  have hd3 := hY.2.2.2
  have h5 := hW.1
  have h40 := hW.2.2.1
  have ed : yf_procedures v - 1 = nI np - 1 := by rw [hd]
  unfold wpX_body
  refine xi_p (u := u) hc (by omega) (fun i1 => br_f (by decide) ?_) (fun i1 => br_t rfl ?_)
  · refine xi_s (u := u) hc3 (by omega) (fun i2 => br_f (by decide) ?_) (fun i2 => br_t rfl ?_)
    · obtain ⟨i, hi, ei⟩ := i1
      obtain ⟨s, hs, es⟩ := i2
      subst ei
      subst es
      have iv : vp_in (nI i) 5 := vp_in_nI (by omega) (by omega)
      have e0 : upd (xf_bodyOf u) (nI i).toNatClampNeg (vp_nar .byte (nI s).toInt8.toInt32) = upd (xf_bodyOf u) i (nI s) := by rw [nw_b (by omega), nI_clamp (by omega)]
      have e1 : upd (yf_bodies v) (nI i).toNatClampNeg (nI s) = upd (yf_bodies v) i (nI s) := by rw [nI_clamp (by omega)]
      refine ⟨iv, nm_r e0 ?_⟩
      unfold wpY_body
      refine yi_rg (v := v) (n := np) (by omega) ed (fun _ => br_f (by decide) ?_) (fun z => absurd ⟨i, hi, rfl⟩ z)
      refine yi_s (v := v) hd3 (by omega) (fun _ => br_f (by decide) ⟨iv, nm_r e1 ⟨rfl, ?_⟩⟩) (fun z => absurd ⟨s, hs, rfl⟩ z)
      exact pb_rel hW hX hY hS hi hs
    · unfold wpY_body
      refine yi_rg (v := v) (n := np) (by omega) ed (fun _ => br_f (by decide) ?_) (fun z => absurd i1 z)
      exact yi_s (v := v) hd3 (by omega) (fun z => absurd z i2) (fun _ => br_t rfl ⟨rfl, I2⟩)
  · unfold wpY_body
    exact yi_rg (v := v) (n := np) (by omega) ed (fun z => absurd z i1) (fun _ => br_t rfl ⟨rfl, I2⟩)
end
section
/-! express -/
abbrev zx_e (u : SX) (ec : Int32) (ek : Nat → Int32) (ex : Nat → Int32) (ey : Nat → Int32) (ew : Nat → Int32) : SX := (u.1, ec, u.2.2.1, u.2.2.2.1, u.2.2.2.2.1, u.2.2.2.2.2.1, u.2.2.2.2.2.2.1, u.2.2.2.2.2.2.2.1, u.2.2.2.2.2.2.2.2.1, u.2.2.2.2.2.2.2.2.2.1, u.2.2.2.2.2.2.2.2.2.2.1, u.2.2.2.2.2.2.2.2.2.2.2.1, u.2.2.2.2.2.2.2.2.2.2.2.2.1, u.2.2.2.2.2.2.2.2.2.2.2.2.2.1, u.2.2.2.2.2.2.2.2.2.2.2.2.2.2.1, u.2.2.2.2.2.2.2.2.2.2.2.2.2.2.2.1, u.2.2.2.2.2.2.2.2.2.2.2.2.2.2.2.2.1, u.2.2.2.2.2.2.2.2.2.2.2.2.2.2.2.2.2.1, u.2.2.2.2.2.2.2.2.2.2.2.2.2.2.2.2.2.2.1, u.2.2.2.2.2.2.2.2.2.2.2.2.2.2.2.2.2.2.2.1, u.2.2.2.2.2.2.2.2.2.2.2.2.2.2.2.2.2.2.2.2.1, ek, ex, ey, ew, u.2.2.2.2.2.2.2.2.2.2.2.2.2.2.2.2.2.2.2.2.2.2.2.2.2.1, u.2.2.2.2.2.2.2.2.2.2.2.2.2.2.2.2.2.2.2.2.2.2.2.2.2.2.1, u.2.2.2.2.2.2.2.2.2.2.2.2.2.2.2.2.2.2.2.2.2.2.2.2.2.2.2.1, u.2.2.2.2.2.2.2.2.2.2.2.2.2.2.2.2.2.2.2.2.2.2.2.2.2.2.2.2.1, u.2.2.2.2.2.2.2.2.2.2.2.2.2.2.2.2.2.2.2.2.2.2.2.2.2.2.2.2.2.1, u.2.2.2.2.2.2.2.2.2.2.2.2.2.2.2.2.2.2.2.2.2.2.2.2.2.2.2.2.2.2.1, u.2.2.2.2.2.2.2.2.2.2.2.2.2.2.2.2.2.2.2.2.2.2.2.2.2.2.2.2.2.2.2.1, u.2.2.2.2.2.2.2.2.2.2.2.2.2.2.2.2.2.2.2.2.2.2.2.2.2.2.2.2.2.2.2.2.1, u.2.2.2.2.2.2.2.2.2.2.2.2.2.2.2.2.2.2.2.2.2.2.2.2.2.2.2.2.2.2.2.2.2.1, u.2.2.2.2.2.2.2.2.2.2.2.2.2.2.2.2.2.2.2.2.2.2.2.2.2.2.2.2.2.2.2.2.2.2.1, u.2.2.2.2.2.2.2.2.2.2.2.2.2.2.2.2.2.2.2.2.2.2.2.2.2.2.2.2.2.2.2.2.2.2.2.1, u.2.2.2.2.2.2.2.2.2.2.2.2.2.2.2.2.2.2.2.2.2.2.2.2.2.2.2.2.2.2.2.2.2.2.2.2.1, u.2.2.2.2.2.2.2.2.2.2.2.2.2.2.2.2.2.2.2.2.2.2.2.2.2.2.2.2.2.2.2.2.2.2.2.2.2.1, u.2.2.2.2.2.2.2.2.2.2.2.2.2.2.2.2.2.2.2.2.2.2.2.2.2.2.2.2.2.2.2.2.2.2.2.2.2.2)
abbrev zy_e (u : SY) (ec : Int32) (ek : Nat → Int32) (ex : Nat → Int32) (ey : Nat → Int32) (ew : Nat → Int32) : SY := (u.1, ec, u.2.2.1, u.2.2.2.1, u.2.2.2.2.1, u.2.2.2.2.2.1, u.2.2.2.2.2.2.1, u.2.2.2.2.2.2.2.1, u.2.2.2.2.2.2.2.2.1, u.2.2.2.2.2.2.2.2.2.1, u.2.2.2.2.2.2.2.2.2.2.1, ek, ex, ey, ew, u.2.2.2.2.2.2.2.2.2.2.2.2.2.2.2.1, u.2.2.2.2.2.2.2.2.2.2.2.2.2.2.2.2.1, u.2.2.2.2.2.2.2.2.2.2.2.2.2.2.2.2.2.1, u.2.2.2.2.2.2.2.2.2.2.2.2.2.2.2.2.2.2.1, u.2.2.2.2.2.2.2.2.2.2.2.2.2.2.2.2.2.2.2.1, u.2.2.2.2.2.2.2.2.2.2.2.2.2.2.2.2.2.2.2.2.1, u.2.2.2.2.2.2.2.2.2.2.2.2.2.2.2.2.2.2.2.2.2.1, u.2.2.2.2.2.2.2.2.2.2.2.2.2.2.2.2.2.2.2.2.2.2.1, u.2.2.2.2.2.2.2.2.2.2.2.2.2.2.2.2.2.2.2.2.2.2.2.1, u.2.2.2.2.2.2.2.2.2.2.2.2.2.2.2.2.2.2.2.2.2.2.2.2.1, u.2.2.2.2.2.2.2.2.2.2.2.2.2.2.2.2.2.2.2.2.2.2.2.2.2.1, u.2.2.2.2.2.2.2.2.2.2.2.2.2.2.2.2.2.2.2.2.2.2.2.2.2.2.1, u.2.2.2.2.2.2.2.2.2.2.2.2.2.2.2.2.2.2.2.2.2.2.2.2.2.2.2.1, u.2.2.2.2.2.2.2.2.2.2.2.2.2.2.2.2.2.2.2.2.2.2.2.2.2.2.2.2.1, u.2.2.2.2.2.2.2.2.2.2.2.2.2.2.2.2.2.2.2.2.2.2.2.2.2.2.2.2.2.1, u.2.2.2.2.2.2.2.2.2.2.2.2.2.2.2.2.2.2.2.2.2.2.2.2.2.2.2.2.2.2.1, u.2.2.2.2.2.2.2.2.2.2.2.2.2.2.2.2.2.2.2.2.2.2.2.2.2.2.2.2.2.2.2.1, u.2.2.2.2.2.2.2.2.2.2.2.2.2.2.2.2.2.2.2.2.2.2.2.2.2.2.2.2.2.2.2.2.1, u.2.2.2.2.2.2.2.2.2.2.2.2.2.2.2.2.2.2.2.2.2.2.2.2.2.2.2.2.2.2.2.2.2)
def pe_ok (ne : Nat) (v1 v2 v3 : Int32) (k : Nat) : Prop := v1 = nI k ∧ k ≤ 7 ∧ (k = 0 → ¬ v2 < -32768 ∧ v2 ≤ 32767) ∧ (k = 1 → iv_n v2 25) ∧ (2 ≤ k → iv_n v2 ne) ∧ (2 ≤ k → k ≠ 7 → iv_n v3 ne)
def pe_w (w : Nat → Nat) (v2 v3 : Int32) (k : Nat) : Nat := 1 + (if 2 ≤ k then w v2.toNatClampNeg else 0) + (if 2 ≤ k ∧ k ≠ 7 then w v3.toNatClampNeg else 0)
theorem pe_k {ne k k' : Nat} {v2 v3 : Int32} (hk : k < 8) (h : pe_ok ne (nI k) v2 v3 k') : k' = k := ((nI_eq (by omega) (by have := h.2.1; omega)).mp h.1).symm
section
variable {u : SX} {ne : Nat} {w : Nat → Nat} {v1 v2 v3 : Int32} {post : Int32 → SX → Prop}
theorem xm_133 (hc : xf_expressionCount u = nI ne) (hn : ne < 50) {k n : Nat} (hk : k ≤ 7) (h100 : n ≤ 100) (hO : 16 < n → post (-100001) u)
    (hG : n ≤ 16 → post (xf_expressionCount u) (zx_e u (nI (ne + 1)) (upd (xf_expressionKind u) ne (nI k)) (upd (xf_expressionX u) ne v2.toInt16.toInt32) (upd (xf_expressionY u) ne v3.toInt8.toInt32) (upd (xf_expressionWeight u) ne (nI n)))) :
    wX_express_133 post (nI k) v2 v3 (nI n) u.1 u.2.1 u.2.2.1 u.2.2.2.1 u.2.2.2.2.1 u.2.2.2.2.2.1 u.2.2.2.2.2.2.1 u.2.2.2.2.2.2.2.1 u.2.2.2.2.2.2.2.2.1 u.2.2.2.2.2.2.2.2.2.1 u.2.2.2.2.2.2.2.2.2.2.1 u.2.2.2.2.2.2.2.2.2.2.2.1 u.2.2.2.2.2.2.2.2.2.2.2.2.1 u.2.2.2.2.2.2.2.2.2.2.2.2.2.1 u.2.2.2.2.2.2.2.2.2.2.2.2.2.2.1 u.2.2.2.2.2.2.2.2.2.2.2.2.2.2.2.1 u.2.2.2.2.2.2.2.2.2.2.2.2.2.2.2.2.1 u.2.2.2.2.2.2.2.2.2.2.2.2.2.2.2.2.2.1 u.2.2.2.2.2.2.2.2.2.2.2.2.2.2.2.2.2.2.1 u.2.2.2.2.2.2.2.2.2.2.2.2.2.2.2.2.2.2.2.1 u.2.2.2.2.2.2.2.2.2.2.2.2.2.2.2.2.2.2.2.2.1 u.2.2.2.2.2.2.2.2.2.2.2.2.2.2.2.2.2.2.2.2.2.1 u.2.2.2.2.2.2.2.2.2.2.2.2.2.2.2.2.2.2.2.2.2.2.1 u.2.2.2.2.2.2.2.2.2.2.2.2.2.2.2.2.2.2.2.2.2.2.2.1 u.2.2.2.2.2.2.2.2.2.2.2.2.2.2.2.2.2.2.2.2.2.2.2.2.1 u.2.2.2.2.2.2.2.2.2.2.2.2.2.2.2.2.2.2.2.2.2.2.2.2.2.1 u.2.2.2.2.2.2.2.2.2.2.2.2.2.2.2.2.2.2.2.2.2.2.2.2.2.2.1 u.2.2.2.2.2.2.2.2.2.2.2.2.2.2.2.2.2.2.2.2.2.2.2.2.2.2.2.1 u.2.2.2.2.2.2.2.2.2.2.2.2.2.2.2.2.2.2.2.2.2.2.2.2.2.2.2.2.1 u.2.2.2.2.2.2.2.2.2.2.2.2.2.2.2.2.2.2.2.2.2.2.2.2.2.2.2.2.2.1 u.2.2.2.2.2.2.2.2.2.2.2.2.2.2.2.2.2.2.2.2.2.2.2.2.2.2.2.2.2.2.1 u.2.2.2.2.2.2.2.2.2.2.2.2.2.2.2.2.2.2.2.2.2.2.2.2.2.2.2.2.2.2.2.1 u.2.2.2.2.2.2.2.2.2.2.2.2.2.2.2.2.2.2.2.2.2.2.2.2.2.2.2.2.2.2.2.2.1 u.2.2.2.2.2.2.2.2.2.2.2.2.2.2.2.2.2.2.2.2.2.2.2.2.2.2.2.2.2.2.2.2.2.1 u.2.2.2.2.2.2.2.2.2.2.2.2.2.2.2.2.2.2.2.2.2.2.2.2.2.2.2.2.2.2.2.2.2.2.1 u.2.2.2.2.2.2.2.2.2.2.2.2.2.2.2.2.2.2.2.2.2.2.2.2.2.2.2.2.2.2.2.2.2.2.2.1 u.2.2.2.2.2.2.2.2.2.2.2.2.2.2.2.2.2.2.2.2.2.2.2.2.2.2.2.2.2.2.2.2.2.2.2.2.1 u.2.2.2.2.2.2.2.2.2.2.2.2.2.2.2.2.2.2.2.2.2.2.2.2.2.2.2.2.2.2.2.2.2.2.2.2.2.1 u.2.2.2.2.2.2.2.2.2.2.2.2.2.2.2.2.2.2.2.2.2.2.2.2.2.2.2.2.2.2.2.2.2.2.2.2.2.2 := by
  have iv : vp_in (xf_expressionCount u) 50 := by rw [hc]; exact vp_in_nI (by omega) (by omega)
  have e1 : xf_expressionCount u + 1 = nI (ne + 1) := by rw [hc, nI_1]
  by_cases h : n ≤ 16
  · have a1 : upd (xf_expressionKind u) (xf_expressionCount u).toNatClampNeg (vp_nar .byte (nI k).toInt8.toInt32) = upd (xf_expressionKind u) ne (nI k) := by rw [nw_b (by omega), hc, nI_clamp (by omega)]
    have a2 : upd (xf_expressionX u) (xf_expressionCount u).toNatClampNeg (vp_nar .short v2.toInt16.toInt32) = upd (xf_expressionX u) ne v2.toInt16.toInt32 := by rw [pk_vs, hc, nI_clamp (by omega)]
    have a3 : upd (xf_expressionY u) (xf_expressionCount u).toNatClampNeg (vp_nar .byte v3.toInt8.toInt32) = upd (xf_expressionY u) ne v3.toInt8.toInt32 := by rw [pk_vb, hc, nI_clamp (by omega)]
    have a4 : upd (xf_expressionWeight u) (xf_expressionCount u).toNatClampNeg (vp_nar .byte (nI n).toInt8.toInt32) = upd (xf_expressionWeight u) ne (nI n) := by rw [nw_b (by omega), hc, nI_clamp (by omega)]
    exact br_t (nI_le (b := 16) h (by omega)) (nm_r e1 ⟨iv, nm_r a1 ⟨iv, nm_r a2 ⟨iv, nm_r a3 ⟨iv, nm_r a4 (hG h)⟩⟩⟩⟩)
  · exact br_f (nI_ge (a := 16) (by omega) (by omega)) (hO (by omega))
theorem xm_92 (hc : xf_expressionCount u = nI ne) (hn : ne < 50) (hw : ∀ e, e < ne → xf_expressionWeight u e = nI (w e) ∧ w e ≤ 16) {k : Nat} (hk : k ≤ 7) (h2 : 2 ≤ k → iv_n v2 ne) (h3 : 2 ≤ k → k ≠ 7 → iv_n v3 ne) (hO : 16 < pe_w w v2 v3 k → post (-100001) u)
    (hG : pe_w w v2 v3 k ≤ 16 → post (xf_expressionCount u) (zx_e u (nI (ne + 1)) (upd (xf_expressionKind u) ne (nI k)) (upd (xf_expressionX u) ne v2.toInt16.toInt32) (upd (xf_expressionY u) ne v3.toInt8.toInt32) (upd (xf_expressionWeight u) ne (nI (pe_w w v2 v3 k))))) :
    wX_express_92 post (nI k) v2 v3 u.1 u.2.1 u.2.2.1 u.2.2.2.1 u.2.2.2.2.1 u.2.2.2.2.2.1 u.2.2.2.2.2.2.1 u.2.2.2.2.2.2.2.1 u.2.2.2.2.2.2.2.2.1 u.2.2.2.2.2.2.2.2.2.1 u.2.2.2.2.2.2.2.2.2.2.1 u.2.2.2.2.2.2.2.2.2.2.2.1 u.2.2.2.2.2.2.2.2.2.2.2.2.1 u.2.2.2.2.2.2.2.2.2.2.2.2.2.1 u.2.2.2.2.2.2.2.2.2.2.2.2.2.2.1 u.2.2.2.2.2.2.2.2.2.2.2.2.2.2.2.1 u.2.2.2.2.2.2.2.2.2.2.2.2.2.2.2.2.1 u.2.2.2.2.2.2.2.2.2.2.2.2.2.2.2.2.2.1 u.2.2.2.2.2.2.2.2.2.2.2.2.2.2.2.2.2.2.1 u.2.2.2.2.2.2.2.2.2.2.2.2.2.2.2.2.2.2.2.1 u.2.2.2.2.2.2.2.2.2.2.2.2.2.2.2.2.2.2.2.2.1 u.2.2.2.2.2.2.2.2.2.2.2.2.2.2.2.2.2.2.2.2.2.1 u.2.2.2.2.2.2.2.2.2.2.2.2.2.2.2.2.2.2.2.2.2.2.1 u.2.2.2.2.2.2.2.2.2.2.2.2.2.2.2.2.2.2.2.2.2.2.2.1 u.2.2.2.2.2.2.2.2.2.2.2.2.2.2.2.2.2.2.2.2.2.2.2.2.1 u.2.2.2.2.2.2.2.2.2.2.2.2.2.2.2.2.2.2.2.2.2.2.2.2.2.1 u.2.2.2.2.2.2.2.2.2.2.2.2.2.2.2.2.2.2.2.2.2.2.2.2.2.2.1 u.2.2.2.2.2.2.2.2.2.2.2.2.2.2.2.2.2.2.2.2.2.2.2.2.2.2.2.1 u.2.2.2.2.2.2.2.2.2.2.2.2.2.2.2.2.2.2.2.2.2.2.2.2.2.2.2.2.1 u.2.2.2.2.2.2.2.2.2.2.2.2.2.2.2.2.2.2.2.2.2.2.2.2.2.2.2.2.2.1 u.2.2.2.2.2.2.2.2.2.2.2.2.2.2.2.2.2.2.2.2.2.2.2.2.2.2.2.2.2.2.1 u.2.2.2.2.2.2.2.2.2.2.2.2.2.2.2.2.2.2.2.2.2.2.2.2.2.2.2.2.2.2.2.1 u.2.2.2.2.2.2.2.2.2.2.2.2.2.2.2.2.2.2.2.2.2.2.2.2.2.2.2.2.2.2.2.2.1 u.2.2.2.2.2.2.2.2.2.2.2.2.2.2.2.2.2.2.2.2.2.2.2.2.2.2.2.2.2.2.2.2.2.1 u.2.2.2.2.2.2.2.2.2.2.2.2.2.2.2.2.2.2.2.2.2.2.2.2.2.2.2.2.2.2.2.2.2.2.1 u.2.2.2.2.2.2.2.2.2.2.2.2.2.2.2.2.2.2.2.2.2.2.2.2.2.2.2.2.2.2.2.2.2.2.2.1 u.2.2.2.2.2.2.2.2.2.2.2.2.2.2.2.2.2.2.2.2.2.2.2.2.2.2.2.2.2.2.2.2.2.2.2.2.1 u.2.2.2.2.2.2.2.2.2.2.2.2.2.2.2.2.2.2.2.2.2.2.2.2.2.2.2.2.2.2.2.2.2.2.2.2.2.1 u.2.2.2.2.2.2.2.2.2.2.2.2.2.2.2.2.2.2.2.2.2.2.2.2.2.2.2.2.2.2.2.2.2.2.2.2.2.2 := by
  by_cases k2 : 2 ≤ k
  · have c2 : ¬ nI k < 2 := nI_nlt (b := 2) k2 (by omega)
    obtain ⟨a, ha, ea⟩ := h2 k2
    have wa := hw a ha
    have e1 : 1 + xf_expressionWeight u v2.toNatClampNeg = nI (1 + w a) := by rw [ea, nI_clamp (by omega), wa.1]; exact nI_add 1 (w a)
    have iv : vp_in v2 50 := by rw [ea]; exact vp_in_nI (by omega) (by omega)
    refine br_f c2 ⟨iv, nm_r e1 (br_f c2 ?_)⟩
    by_cases k7 : k = 7
    · have ew : pe_w w v2 v3 k = 1 + w a := by unfold pe_w; rw [if_pos k2, if_neg (fun z => z.2 k7), ea, nI_clamp (by omega)]; rfl
      rw [ew] at hO hG
      exact br_t (by rw [k7]; rfl) (xm_133 hc hn hk (by omega) hO hG)
    · obtain ⟨b, hb, eb⟩ := h3 k2 k7
      have wb := hw b hb
      have ew : pe_w w v2 v3 k = 1 + w a + w b := by unfold pe_w; rw [if_pos k2, if_pos ⟨k2, k7⟩, ea, eb, nI_clamp (by omega), nI_clamp (by omega)]
      rw [ew] at hO hG
      have e2 : nI (1 + w a) + xf_expressionWeight u v3.toNatClampNeg = nI (1 + w a + w b) := by rw [eb, nI_clamp (by omega), wb.1, nI_add]
      have iv3 : vp_in v3 50 := by rw [eb]; exact vp_in_nI (by omega) (by omega)
      exact br_f (fun z => k7 ((nI_eq (b := 7) (by omega) (by omega)).mp z)) ⟨iv3, nm_r e2 (xm_133 hc hn hk (by omega) hO hG)⟩
  · have c2 : nI k < 2 := nI_lt (b := 2) (by omega) (by omega)
    have ew : pe_w w v2 v3 k = 1 := by unfold pe_w; rw [if_neg k2, if_neg (fun z => k2 z.1)]
    rw [ew] at hO hG
    exact br_t c2 (br_t c2 (xm_133 (n := 1) hc hn hk (by omega) hO hG))
theorem xm_expr (hc : xf_expressionCount u = nI ne) (h50 : ne ≤ 50) (hw : ∀ e, e < ne → xf_expressionWeight u e = nI (w e) ∧ w e ≤ 16) (hF : ne = 50 → post (-100001) u) (hB : ne < 50 → (∀ k, ¬ pe_ok ne v1 v2 v3 k) → post (-100000) u)
    (hO : ∀ k, ne < 50 → pe_ok ne v1 v2 v3 k → 16 < pe_w w v2 v3 k → post (-100001) u)
    (hG : ∀ k, ne < 50 → pe_ok ne v1 v2 v3 k → pe_w w v2 v3 k ≤ 16 → post (xf_expressionCount u) (zx_e u (nI (ne + 1)) (upd (xf_expressionKind u) ne (nI k)) (upd (xf_expressionX u) ne v2.toInt16.toInt32) (upd (xf_expressionY u) ne v3.toInt8.toInt32) (upd (xf_expressionWeight u) ne (nI (pe_w w v2 v3 k))))) : wpX_express post u v1 v2 v3 := by
  by_cases n5 : ne = 50
  · exact br_f (show ¬ xf_expressionCount u < 50 by rw [hc, n5]; decide) (hF n5)
  · have hn : ne < 50 := by omega
    refine br_t (show xf_expressionCount u < 50 by rw [hc]; exact nI_lt (b := 50) hn (by omega)) ?_
    refine br_c (fun h => hB hn (fun k z => ?_)) (fun h => br_c (fun h2 => ?_) (fun h2 => hB hn (fun k z => ?_)))
    · rw [z.1] at h
      exact nI_pos (by have := z.2.1; omega) h
    · obtain ⟨k, hk, e⟩ : ∃ k : Nat, k < 8 ∧ v1 = nI k := by
        obtain ⟨a, ha, ea⟩ := nI_of h
        subst ea
        exact ⟨a, by have := (nI_leI (b := 7) ha (by omega)).mp h2; omega, rfl⟩
      subst e
      have t62 : (k = 0 → ¬ v2 < -32768 ∧ v2 ≤ 32767) → (k = 1 → iv_n v2 25) → wX_express_62 post (nI k) v2 v3 u.1 u.2.1 u.2.2.1 u.2.2.2.1 u.2.2.2.2.1 u.2.2.2.2.2.1 u.2.2.2.2.2.2.1 u.2.2.2.2.2.2.2.1 u.2.2.2.2.2.2.2.2.1 u.2.2.2.2.2.2.2.2.2.1 u.2.2.2.2.2.2.2.2.2.2.1 u.2.2.2.2.2.2.2.2.2.2.2.1 u.2.2.2.2.2.2.2.2.2.2.2.2.1 u.2.2.2.2.2.2.2.2.2.2.2.2.2.1 u.2.2.2.2.2.2.2.2.2.2.2.2.2.2.1 u.2.2.2.2.2.2.2.2.2.2.2.2.2.2.2.1 u.2.2.2.2.2.2.2.2.2.2.2.2.2.2.2.2.1 u.2.2.2.2.2.2.2.2.2.2.2.2.2.2.2.2.2.1 u.2.2.2.2.2.2.2.2.2.2.2.2.2.2.2.2.2.2.1 u.2.2.2.2.2.2.2.2.2.2.2.2.2.2.2.2.2.2.2.1 u.2.2.2.2.2.2.2.2.2.2.2.2.2.2.2.2.2.2.2.2.1 u.2.2.2.2.2.2.2.2.2.2.2.2.2.2.2.2.2.2.2.2.2.1 u.2.2.2.2.2.2.2.2.2.2.2.2.2.2.2.2.2.2.2.2.2.2.1 u.2.2.2.2.2.2.2.2.2.2.2.2.2.2.2.2.2.2.2.2.2.2.2.1 u.2.2.2.2.2.2.2.2.2.2.2.2.2.2.2.2.2.2.2.2.2.2.2.2.1 u.2.2.2.2.2.2.2.2.2.2.2.2.2.2.2.2.2.2.2.2.2.2.2.2.2.1 u.2.2.2.2.2.2.2.2.2.2.2.2.2.2.2.2.2.2.2.2.2.2.2.2.2.2.1 u.2.2.2.2.2.2.2.2.2.2.2.2.2.2.2.2.2.2.2.2.2.2.2.2.2.2.2.1 u.2.2.2.2.2.2.2.2.2.2.2.2.2.2.2.2.2.2.2.2.2.2.2.2.2.2.2.2.1 u.2.2.2.2.2.2.2.2.2.2.2.2.2.2.2.2.2.2.2.2.2.2.2.2.2.2.2.2.2.1 u.2.2.2.2.2.2.2.2.2.2.2.2.2.2.2.2.2.2.2.2.2.2.2.2.2.2.2.2.2.2.1 u.2.2.2.2.2.2.2.2.2.2.2.2.2.2.2.2.2.2.2.2.2.2.2.2.2.2.2.2.2.2.2.1 u.2.2.2.2.2.2.2.2.2.2.2.2.2.2.2.2.2.2.2.2.2.2.2.2.2.2.2.2.2.2.2.2.1 u.2.2.2.2.2.2.2.2.2.2.2.2.2.2.2.2.2.2.2.2.2.2.2.2.2.2.2.2.2.2.2.2.2.1 u.2.2.2.2.2.2.2.2.2.2.2.2.2.2.2.2.2.2.2.2.2.2.2.2.2.2.2.2.2.2.2.2.2.2.1 u.2.2.2.2.2.2.2.2.2.2.2.2.2.2.2.2.2.2.2.2.2.2.2.2.2.2.2.2.2.2.2.2.2.2.2.1 u.2.2.2.2.2.2.2.2.2.2.2.2.2.2.2.2.2.2.2.2.2.2.2.2.2.2.2.2.2.2.2.2.2.2.2.2.1 u.2.2.2.2.2.2.2.2.2.2.2.2.2.2.2.2.2.2.2.2.2.2.2.2.2.2.2.2.2.2.2.2.2.2.2.2.2.1 u.2.2.2.2.2.2.2.2.2.2.2.2.2.2.2.2.2.2.2.2.2.2.2.2.2.2.2.2.2.2.2.2.2.2.2.2.2.2 := by
        intro g0 g1
        by_cases k2 : 2 ≤ k
        · have c2 : ¬ nI k < 2 := nI_nlt (b := 2) k2 (by omega)
          refine br_f c2 (xi_e (u := u) hc (by omega) (fun i2 => br_f (by decide) ?_) (fun i2 => br_t rfl (hB hn (fun k' z => ?_))))
          · by_cases k7 : k = 7
            · have ok : pe_ok ne (nI k) v2 v3 k := ⟨rfl, by omega, g0, g1, fun _ => i2, fun _ z => absurd k7 z⟩
              exact br_t (by rw [k7]; rfl) (xm_92 (u := u) hc hn hw (by omega) (fun _ => i2) (fun _ z => absurd k7 z) (hO k hn ok) (hG k hn ok))
            · refine br_f (fun z => k7 ((nI_eq (b := 7) (by omega) (by omega)).mp z)) (xi_e (u := u) hc (by omega) (fun i3 => br_f (by decide) ?_) (fun i3 => br_t rfl (hB hn (fun k' z => ?_))))
              · have ok : pe_ok ne (nI k) v2 v3 k := ⟨rfl, by omega, g0, g1, fun _ => i2, fun _ _ => i3⟩
                exact xm_92 (u := u) hc hn hw (by omega) (fun _ => i2) (fun _ _ => i3) (hO k hn ok) (hG k hn ok)
              · have e := pe_k hk z
                subst e
                exact i3 (z.2.2.2.2.2 k2 k7)
          · have e := pe_k hk z
            subst e
            exact i2 (z.2.2.2.2.1 k2)
        · have c2 : nI k < 2 := nI_lt (b := 2) (by omega) (by omega)
          have ok : pe_ok ne (nI k) v2 v3 k := ⟨rfl, by omega, g0, g1, fun z => absurd z k2, fun z => absurd z k2⟩
          exact br_t c2 (xm_92 (u := u) hc hn hw (by omega) (fun z => absurd z k2) (fun z => absurd z k2) (hO k hn ok) (hG k hn ok))
      have t46 : (k = 0 → ¬ v2 < -32768 ∧ v2 ≤ 32767) → wX_express_46 post (nI k) v2 v3 u.1 u.2.1 u.2.2.1 u.2.2.2.1 u.2.2.2.2.1 u.2.2.2.2.2.1 u.2.2.2.2.2.2.1 u.2.2.2.2.2.2.2.1 u.2.2.2.2.2.2.2.2.1 u.2.2.2.2.2.2.2.2.2.1 u.2.2.2.2.2.2.2.2.2.2.1 u.2.2.2.2.2.2.2.2.2.2.2.1 u.2.2.2.2.2.2.2.2.2.2.2.2.1 u.2.2.2.2.2.2.2.2.2.2.2.2.2.1 u.2.2.2.2.2.2.2.2.2.2.2.2.2.2.1 u.2.2.2.2.2.2.2.2.2.2.2.2.2.2.2.1 u.2.2.2.2.2.2.2.2.2.2.2.2.2.2.2.2.1 u.2.2.2.2.2.2.2.2.2.2.2.2.2.2.2.2.2.1 u.2.2.2.2.2.2.2.2.2.2.2.2.2.2.2.2.2.2.1 u.2.2.2.2.2.2.2.2.2.2.2.2.2.2.2.2.2.2.2.1 u.2.2.2.2.2.2.2.2.2.2.2.2.2.2.2.2.2.2.2.2.1 u.2.2.2.2.2.2.2.2.2.2.2.2.2.2.2.2.2.2.2.2.2.1 u.2.2.2.2.2.2.2.2.2.2.2.2.2.2.2.2.2.2.2.2.2.2.1 u.2.2.2.2.2.2.2.2.2.2.2.2.2.2.2.2.2.2.2.2.2.2.2.1 u.2.2.2.2.2.2.2.2.2.2.2.2.2.2.2.2.2.2.2.2.2.2.2.2.1 u.2.2.2.2.2.2.2.2.2.2.2.2.2.2.2.2.2.2.2.2.2.2.2.2.2.1 u.2.2.2.2.2.2.2.2.2.2.2.2.2.2.2.2.2.2.2.2.2.2.2.2.2.2.1 u.2.2.2.2.2.2.2.2.2.2.2.2.2.2.2.2.2.2.2.2.2.2.2.2.2.2.2.1 u.2.2.2.2.2.2.2.2.2.2.2.2.2.2.2.2.2.2.2.2.2.2.2.2.2.2.2.2.1 u.2.2.2.2.2.2.2.2.2.2.2.2.2.2.2.2.2.2.2.2.2.2.2.2.2.2.2.2.2.1 u.2.2.2.2.2.2.2.2.2.2.2.2.2.2.2.2.2.2.2.2.2.2.2.2.2.2.2.2.2.2.1 u.2.2.2.2.2.2.2.2.2.2.2.2.2.2.2.2.2.2.2.2.2.2.2.2.2.2.2.2.2.2.2.1 u.2.2.2.2.2.2.2.2.2.2.2.2.2.2.2.2.2.2.2.2.2.2.2.2.2.2.2.2.2.2.2.2.1 u.2.2.2.2.2.2.2.2.2.2.2.2.2.2.2.2.2.2.2.2.2.2.2.2.2.2.2.2.2.2.2.2.2.1 u.2.2.2.2.2.2.2.2.2.2.2.2.2.2.2.2.2.2.2.2.2.2.2.2.2.2.2.2.2.2.2.2.2.2.1 u.2.2.2.2.2.2.2.2.2.2.2.2.2.2.2.2.2.2.2.2.2.2.2.2.2.2.2.2.2.2.2.2.2.2.2.1 u.2.2.2.2.2.2.2.2.2.2.2.2.2.2.2.2.2.2.2.2.2.2.2.2.2.2.2.2.2.2.2.2.2.2.2.2.1 u.2.2.2.2.2.2.2.2.2.2.2.2.2.2.2.2.2.2.2.2.2.2.2.2.2.2.2.2.2.2.2.2.2.2.2.2.2.1 u.2.2.2.2.2.2.2.2.2.2.2.2.2.2.2.2.2.2.2.2.2.2.2.2.2.2.2.2.2.2.2.2.2.2.2.2.2.2 := by
        intro g0
        by_cases k1 : k = 1
        · refine br_t (by rw [k1]; rfl) (xi_v (u := u) (fun i2 => br_f (by decide) (t62 g0 (fun _ => i2))) (fun i2 => br_t rfl (hB hn (fun k' z => ?_))))
          have e := pe_k hk z
          subst e
          exact i2 (z.2.2.2.1 k1)
        · exact br_f (fun z => k1 ((nI_eq (b := 1) (by omega) (by omega)).mp z)) (t62 g0 (fun z => absurd z k1))
      by_cases k0 : k = 0
      · refine br_t (by rw [k0]; rfl) (br_c (fun h3 => hB hn (fun k' z => ?_)) (fun h3 => br_c (fun h4 => t46 (fun _ => ⟨h3, h4⟩)) (fun h4 => hB hn (fun k' z => ?_))))
        · have e := pe_k hk z
          subst e
          exact (z.2.2.1 k0).1 h3
        · have e := pe_k hk z
          subst e
          exact h4 (z.2.2.1 k0).2
      · exact br_f (fun z => k0 ((nI_eq (b := 0) (by omega) (by omega)).mp z)) (t46 (fun z => absurd z k0))
    · rw [z.1] at h2
      exact h2 (nI_le (b := 7) z.2.1 (by omega))
end
section
variable {v : SY} {ne : Nat} {w : Nat → Nat} {v1 v2 v3 : Int32} {post : Int32 → SY → Prop}
theorem ym_133 (hc : yf_expressions v = nI ne) (hn : ne < 50) {k n : Nat} {z0 z1 : Int32} (hz : z1 + z0 = nI n) (h100 : n ≤ 100) (hO : 16 < n → post (-100001) v)
    (hG : n ≤ 16 → post (nI ne) (zy_e v (nI (ne + 1)) (upd (yf_ekind v) ne (nI k)) (upd (yf_ex v) ne v2) (upd (yf_ey v) ne v3) (upd (yf_eweight v) ne (nI n)))) :
    wY_express_133 post (nI k) v2 v3 z0 z1 v.1 v.2.1 v.2.2.1 v.2.2.2.1 v.2.2.2.2.1 v.2.2.2.2.2.1 v.2.2.2.2.2.2.1 v.2.2.2.2.2.2.2.1 v.2.2.2.2.2.2.2.2.1 v.2.2.2.2.2.2.2.2.2.1 v.2.2.2.2.2.2.2.2.2.2.1 v.2.2.2.2.2.2.2.2.2.2.2.1 v.2.2.2.2.2.2.2.2.2.2.2.2.1 v.2.2.2.2.2.2.2.2.2.2.2.2.2.1 v.2.2.2.2.2.2.2.2.2.2.2.2.2.2.1 v.2.2.2.2.2.2.2.2.2.2.2.2.2.2.2.1 v.2.2.2.2.2.2.2.2.2.2.2.2.2.2.2.2.1 v.2.2.2.2.2.2.2.2.2.2.2.2.2.2.2.2.2.1 v.2.2.2.2.2.2.2.2.2.2.2.2.2.2.2.2.2.2.1 v.2.2.2.2.2.2.2.2.2.2.2.2.2.2.2.2.2.2.2.1 v.2.2.2.2.2.2.2.2.2.2.2.2.2.2.2.2.2.2.2.2.1 v.2.2.2.2.2.2.2.2.2.2.2.2.2.2.2.2.2.2.2.2.2.1 v.2.2.2.2.2.2.2.2.2.2.2.2.2.2.2.2.2.2.2.2.2.2.1 v.2.2.2.2.2.2.2.2.2.2.2.2.2.2.2.2.2.2.2.2.2.2.2.1 v.2.2.2.2.2.2.2.2.2.2.2.2.2.2.2.2.2.2.2.2.2.2.2.2.1 v.2.2.2.2.2.2.2.2.2.2.2.2.2.2.2.2.2.2.2.2.2.2.2.2.2.1 v.2.2.2.2.2.2.2.2.2.2.2.2.2.2.2.2.2.2.2.2.2.2.2.2.2.2.1 v.2.2.2.2.2.2.2.2.2.2.2.2.2.2.2.2.2.2.2.2.2.2.2.2.2.2.2.1 v.2.2.2.2.2.2.2.2.2.2.2.2.2.2.2.2.2.2.2.2.2.2.2.2.2.2.2.2.1 v.2.2.2.2.2.2.2.2.2.2.2.2.2.2.2.2.2.2.2.2.2.2.2.2.2.2.2.2.2.1 v.2.2.2.2.2.2.2.2.2.2.2.2.2.2.2.2.2.2.2.2.2.2.2.2.2.2.2.2.2.2.1 v.2.2.2.2.2.2.2.2.2.2.2.2.2.2.2.2.2.2.2.2.2.2.2.2.2.2.2.2.2.2.2.1 v.2.2.2.2.2.2.2.2.2.2.2.2.2.2.2.2.2.2.2.2.2.2.2.2.2.2.2.2.2.2.2.2.1 v.2.2.2.2.2.2.2.2.2.2.2.2.2.2.2.2.2.2.2.2.2.2.2.2.2.2.2.2.2.2.2.2.2 := by
  have iv : vp_in (yf_expressions v) 50 := by rw [hc]; exact vp_in_nI (by omega) (by omega)
  have e1 : yf_expressions v + 1 = nI (ne + 1) := by rw [hc, nI_1]
  refine nm_r hz ?_
  by_cases h : n ≤ 16
  · have a1 : upd (yf_ekind v) (yf_expressions v).toNatClampNeg (nI k) = upd (yf_ekind v) ne (nI k) := by rw [hc, nI_clamp (by omega)]
    have a2 : upd (yf_ex v) (yf_expressions v).toNatClampNeg v2 = upd (yf_ex v) ne v2 := by rw [hc, nI_clamp (by omega)]
    have a3 : upd (yf_ey v) (yf_expressions v).toNatClampNeg v3 = upd (yf_ey v) ne v3 := by rw [hc, nI_clamp (by omega)]
    have a4 : upd (yf_eweight v) (yf_expressions v).toNatClampNeg (nI n) = upd (yf_eweight v) ne (nI n) := by rw [hc, nI_clamp (by omega)]
    rw [← nI_pred ne] at hG
    exact br_t (nI_le (b := 16) h (by omega)) ⟨iv, nm_r a1 ⟨iv, nm_r a2 ⟨iv, nm_r a3 ⟨iv, nm_r a4 (nm_r e1 (hG h))⟩⟩⟩⟩
  · exact br_f (nI_ge (a := 16) (by omega) (by omega)) (hO (by omega))
theorem ym_95 (hc : yf_expressions v = nI ne) (hn : ne < 50) (hw : ∀ e, e < ne → yf_eweight v e = nI (w e) ∧ w e ≤ 16) {k : Nat} (hk : k ≤ 7) (h2 : 2 ≤ k → iv_n v2 ne) (h3 : 2 ≤ k → k ≠ 7 → iv_n v3 ne) (hO : 16 < pe_w w v2 v3 k → post (-100001) v)
    (hG : pe_w w v2 v3 k ≤ 16 → post (nI ne) (zy_e v (nI (ne + 1)) (upd (yf_ekind v) ne (nI k)) (upd (yf_ex v) ne v2) (upd (yf_ey v) ne v3) (upd (yf_eweight v) ne (nI (pe_w w v2 v3 k))))) :
    wY_express_95 post (nI k) v2 v3 v.1 v.2.1 v.2.2.1 v.2.2.2.1 v.2.2.2.2.1 v.2.2.2.2.2.1 v.2.2.2.2.2.2.1 v.2.2.2.2.2.2.2.1 v.2.2.2.2.2.2.2.2.1 v.2.2.2.2.2.2.2.2.2.1 v.2.2.2.2.2.2.2.2.2.2.1 v.2.2.2.2.2.2.2.2.2.2.2.1 v.2.2.2.2.2.2.2.2.2.2.2.2.1 v.2.2.2.2.2.2.2.2.2.2.2.2.2.1 v.2.2.2.2.2.2.2.2.2.2.2.2.2.2.1 v.2.2.2.2.2.2.2.2.2.2.2.2.2.2.2.1 v.2.2.2.2.2.2.2.2.2.2.2.2.2.2.2.2.1 v.2.2.2.2.2.2.2.2.2.2.2.2.2.2.2.2.2.1 v.2.2.2.2.2.2.2.2.2.2.2.2.2.2.2.2.2.2.1 v.2.2.2.2.2.2.2.2.2.2.2.2.2.2.2.2.2.2.2.1 v.2.2.2.2.2.2.2.2.2.2.2.2.2.2.2.2.2.2.2.2.1 v.2.2.2.2.2.2.2.2.2.2.2.2.2.2.2.2.2.2.2.2.2.1 v.2.2.2.2.2.2.2.2.2.2.2.2.2.2.2.2.2.2.2.2.2.2.1 v.2.2.2.2.2.2.2.2.2.2.2.2.2.2.2.2.2.2.2.2.2.2.2.1 v.2.2.2.2.2.2.2.2.2.2.2.2.2.2.2.2.2.2.2.2.2.2.2.2.1 v.2.2.2.2.2.2.2.2.2.2.2.2.2.2.2.2.2.2.2.2.2.2.2.2.2.1 v.2.2.2.2.2.2.2.2.2.2.2.2.2.2.2.2.2.2.2.2.2.2.2.2.2.2.1 v.2.2.2.2.2.2.2.2.2.2.2.2.2.2.2.2.2.2.2.2.2.2.2.2.2.2.2.1 v.2.2.2.2.2.2.2.2.2.2.2.2.2.2.2.2.2.2.2.2.2.2.2.2.2.2.2.2.1 v.2.2.2.2.2.2.2.2.2.2.2.2.2.2.2.2.2.2.2.2.2.2.2.2.2.2.2.2.2.1 v.2.2.2.2.2.2.2.2.2.2.2.2.2.2.2.2.2.2.2.2.2.2.2.2.2.2.2.2.2.2.1 v.2.2.2.2.2.2.2.2.2.2.2.2.2.2.2.2.2.2.2.2.2.2.2.2.2.2.2.2.2.2.2.1 v.2.2.2.2.2.2.2.2.2.2.2.2.2.2.2.2.2.2.2.2.2.2.2.2.2.2.2.2.2.2.2.2.1 v.2.2.2.2.2.2.2.2.2.2.2.2.2.2.2.2.2.2.2.2.2.2.2.2.2.2.2.2.2.2.2.2.2 := by
  by_cases k2 : 2 ≤ k
  · have c2 : ¬ nI k ≤ 1 := nI_ge (a := 1) (by omega) (by omega)
    obtain ⟨a, ha, ea⟩ := h2 k2
    have wa := hw a ha
    have e1 : 1 + yf_eweight v v2.toNatClampNeg = nI (1 + w a) := by rw [ea, nI_clamp (by omega), wa.1]; exact nI_add 1 (w a)
    have iv : vp_in v2 50 := by rw [ea]; exact vp_in_nI (by omega) (by omega)
    refine br_f c2 ⟨iv, br_f c2 ?_⟩
    by_cases k7 : k = 7
    · have ew : pe_w w v2 v3 k = 1 + w a := by unfold pe_w; rw [if_pos k2, if_neg (fun z => z.2 k7), ea, nI_clamp (by omega)]; rfl
      rw [ew] at hO hG
      have e2 : 1 + yf_eweight v v2.toNatClampNeg + 0 = nI (1 + w a) := by rw [e1]; exact nI_add (1 + w a) 0
      exact br_t (by rw [k7]; decide) (ym_133 hc hn e2 (by omega) hO hG)
    · obtain ⟨b, hb, eb⟩ := h3 k2 k7
      have wb := hw b hb
      have ew : pe_w w v2 v3 k = 1 + w a + w b := by unfold pe_w; rw [if_pos k2, if_pos ⟨k2, k7⟩, ea, eb, nI_clamp (by omega), nI_clamp (by omega)]
      rw [ew] at hO hG
      have e2 : 1 + yf_eweight v v2.toNatClampNeg + yf_eweight v v3.toNatClampNeg = nI (1 + w a + w b) := by rw [e1, eb, nI_clamp (by omega), wb.1, nI_add]
      have iv3 : vp_in v3 50 := by rw [eb]; exact vp_in_nI (by omega) (by omega)
      exact br_f (nI_ge (b := 7) (by omega) (by omega)) ⟨iv3, ym_133 hc hn e2 (by omega) hO hG⟩
  · have c2 : nI k ≤ 1 := nI_le (b := 1) (by omega) (by omega)
    have ew : pe_w w v2 v3 k = 1 := by unfold pe_w; rw [if_neg k2, if_neg (fun z => k2 z.1)]
    rw [ew] at hO hG
    exact br_t c2 (br_t c2 (ym_133 (n := 1) hc hn (by decide) (by omega) hO hG))
theorem ym_expr (hc : yf_expressions v = nI ne) (h50 : ne ≤ 50) (hw : ∀ e, e < ne → yf_eweight v e = nI (w e) ∧ w e ≤ 16) (hF : ne = 50 → post (-100001) v) (hB : ne < 50 → (∀ k, ¬ pe_ok ne v1 v2 v3 k) → post (-100000) v)
    (hO : ∀ k, ne < 50 → pe_ok ne v1 v2 v3 k → 16 < pe_w w v2 v3 k → post (-100001) v)
    (hG : ∀ k, ne < 50 → pe_ok ne v1 v2 v3 k → pe_w w v2 v3 k ≤ 16 → post (nI ne) (zy_e v (nI (ne + 1)) (upd (yf_ekind v) ne (nI k)) (upd (yf_ex v) ne v2) (upd (yf_ey v) ne v3) (upd (yf_eweight v) ne (nI (pe_w w v2 v3 k))))) : wpY_express post v v1 v2 v3 := by
  by_cases n5 : ne = 50
  · exact br_t (show yf_expressions v = 50 by rw [hc, n5]; rfl) (hF n5)
  · have hn : ne < 50 := by omega
    refine br_f (show ¬ yf_expressions v = 50 by rw [hc]; exact fun z => n5 ((nI_eq (b := 50) (by omega) (by omega)).mp z)) ?_
    refine yi_rg (v := v) (n := 8) (by omega) rfl (fun iv => br_f (by decide) ?_) (fun iv => br_t rfl (hB hn (fun k z => iv ⟨k, by have := z.2.1; omega, z.1⟩)))
    obtain ⟨k, hk, e⟩ := iv
    subst e
    have t60 : (k = 0 → ¬ v2 < -32768 ∧ v2 ≤ 32767) → (k = 1 → iv_n v2 25) → wY_express_60 post (nI k) v2 v3 v.1 v.2.1 v.2.2.1 v.2.2.2.1 v.2.2.2.2.1 v.2.2.2.2.2.1 v.2.2.2.2.2.2.1 v.2.2.2.2.2.2.2.1 v.2.2.2.2.2.2.2.2.1 v.2.2.2.2.2.2.2.2.2.1 v.2.2.2.2.2.2.2.2.2.2.1 v.2.2.2.2.2.2.2.2.2.2.2.1 v.2.2.2.2.2.2.2.2.2.2.2.2.1 v.2.2.2.2.2.2.2.2.2.2.2.2.2.1 v.2.2.2.2.2.2.2.2.2.2.2.2.2.2.1 v.2.2.2.2.2.2.2.2.2.2.2.2.2.2.2.1 v.2.2.2.2.2.2.2.2.2.2.2.2.2.2.2.2.1 v.2.2.2.2.2.2.2.2.2.2.2.2.2.2.2.2.2.1 v.2.2.2.2.2.2.2.2.2.2.2.2.2.2.2.2.2.2.1 v.2.2.2.2.2.2.2.2.2.2.2.2.2.2.2.2.2.2.2.1 v.2.2.2.2.2.2.2.2.2.2.2.2.2.2.2.2.2.2.2.2.1 v.2.2.2.2.2.2.2.2.2.2.2.2.2.2.2.2.2.2.2.2.2.1 v.2.2.2.2.2.2.2.2.2.2.2.2.2.2.2.2.2.2.2.2.2.2.1 v.2.2.2.2.2.2.2.2.2.2.2.2.2.2.2.2.2.2.2.2.2.2.2.1 v.2.2.2.2.2.2.2.2.2.2.2.2.2.2.2.2.2.2.2.2.2.2.2.2.1 v.2.2.2.2.2.2.2.2.2.2.2.2.2.2.2.2.2.2.2.2.2.2.2.2.2.1 v.2.2.2.2.2.2.2.2.2.2.2.2.2.2.2.2.2.2.2.2.2.2.2.2.2.2.1 v.2.2.2.2.2.2.2.2.2.2.2.2.2.2.2.2.2.2.2.2.2.2.2.2.2.2.2.1 v.2.2.2.2.2.2.2.2.2.2.2.2.2.2.2.2.2.2.2.2.2.2.2.2.2.2.2.2.1 v.2.2.2.2.2.2.2.2.2.2.2.2.2.2.2.2.2.2.2.2.2.2.2.2.2.2.2.2.2.1 v.2.2.2.2.2.2.2.2.2.2.2.2.2.2.2.2.2.2.2.2.2.2.2.2.2.2.2.2.2.2.1 v.2.2.2.2.2.2.2.2.2.2.2.2.2.2.2.2.2.2.2.2.2.2.2.2.2.2.2.2.2.2.2.1 v.2.2.2.2.2.2.2.2.2.2.2.2.2.2.2.2.2.2.2.2.2.2.2.2.2.2.2.2.2.2.2.2.1 v.2.2.2.2.2.2.2.2.2.2.2.2.2.2.2.2.2.2.2.2.2.2.2.2.2.2.2.2.2.2.2.2.2 := by
      intro g0 g1
      by_cases k2 : 2 ≤ k
      · have c2 : ¬ nI k ≤ 1 := nI_ge (a := 1) (by omega) (by omega)
        refine br_f c2 (yi_e (v := v) hc (by omega) (fun i2 => br_f (by decide) (br_f c2 ?_)) (fun i2 => br_t rfl (hB hn (fun k' z => ?_))))
        · by_cases k7 : k = 7
          · have ok : pe_ok ne (nI k) v2 v3 k := ⟨rfl, by omega, g0, g1, fun _ => i2, fun _ z => absurd k7 z⟩
            exact br_t (by rw [k7]; decide) (ym_95 (v := v) hc hn hw (by omega) (fun _ => i2) (fun _ z => absurd k7 z) (hO k hn ok) (hG k hn ok))
          · refine br_f (nI_ge (b := 7) (by omega) (by omega)) (yi_e (v := v) hc (by omega) (fun i3 => br_f (by decide) ?_) (fun i3 => br_t rfl (hB hn (fun k' z => ?_))))
            · have ok : pe_ok ne (nI k) v2 v3 k := ⟨rfl, by omega, g0, g1, fun _ => i2, fun _ _ => i3⟩
              exact ym_95 (v := v) hc hn hw (by omega) (fun _ => i2) (fun _ _ => i3) (hO k hn ok) (hG k hn ok)
            · have e := pe_k hk z
              subst e
              exact i3 (z.2.2.2.2.2 k2 k7)
        · have e := pe_k hk z
          subst e
          exact i2 (z.2.2.2.2.1 k2)
      · have c2 : nI k ≤ 1 := nI_le (b := 1) (by omega) (by omega)
        have ok : pe_ok ne (nI k) v2 v3 k := ⟨rfl, by omega, g0, g1, fun z => absurd z k2, fun z => absurd z k2⟩
        exact br_t c2 (br_t c2 (ym_95 (v := v) hc hn hw (by omega) (fun z => absurd z k2) (fun z => absurd z k2) (hO k hn ok) (hG k hn ok)))
    have t41 : (k = 0 → ¬ v2 < -32768 ∧ v2 ≤ 32767) → wY_express_41 post (nI k) v2 v3 v.1 v.2.1 v.2.2.1 v.2.2.2.1 v.2.2.2.2.1 v.2.2.2.2.2.1 v.2.2.2.2.2.2.1 v.2.2.2.2.2.2.2.1 v.2.2.2.2.2.2.2.2.1 v.2.2.2.2.2.2.2.2.2.1 v.2.2.2.2.2.2.2.2.2.2.1 v.2.2.2.2.2.2.2.2.2.2.2.1 v.2.2.2.2.2.2.2.2.2.2.2.2.1 v.2.2.2.2.2.2.2.2.2.2.2.2.2.1 v.2.2.2.2.2.2.2.2.2.2.2.2.2.2.1 v.2.2.2.2.2.2.2.2.2.2.2.2.2.2.2.1 v.2.2.2.2.2.2.2.2.2.2.2.2.2.2.2.2.1 v.2.2.2.2.2.2.2.2.2.2.2.2.2.2.2.2.2.1 v.2.2.2.2.2.2.2.2.2.2.2.2.2.2.2.2.2.2.1 v.2.2.2.2.2.2.2.2.2.2.2.2.2.2.2.2.2.2.2.1 v.2.2.2.2.2.2.2.2.2.2.2.2.2.2.2.2.2.2.2.2.1 v.2.2.2.2.2.2.2.2.2.2.2.2.2.2.2.2.2.2.2.2.2.1 v.2.2.2.2.2.2.2.2.2.2.2.2.2.2.2.2.2.2.2.2.2.2.1 v.2.2.2.2.2.2.2.2.2.2.2.2.2.2.2.2.2.2.2.2.2.2.2.1 v.2.2.2.2.2.2.2.2.2.2.2.2.2.2.2.2.2.2.2.2.2.2.2.2.1 v.2.2.2.2.2.2.2.2.2.2.2.2.2.2.2.2.2.2.2.2.2.2.2.2.2.1 v.2.2.2.2.2.2.2.2.2.2.2.2.2.2.2.2.2.2.2.2.2.2.2.2.2.2.1 v.2.2.2.2.2.2.2.2.2.2.2.2.2.2.2.2.2.2.2.2.2.2.2.2.2.2.2.1 v.2.2.2.2.2.2.2.2.2.2.2.2.2.2.2.2.2.2.2.2.2.2.2.2.2.2.2.2.1 v.2.2.2.2.2.2.2.2.2.2.2.2.2.2.2.2.2.2.2.2.2.2.2.2.2.2.2.2.2.1 v.2.2.2.2.2.2.2.2.2.2.2.2.2.2.2.2.2.2.2.2.2.2.2.2.2.2.2.2.2.2.1 v.2.2.2.2.2.2.2.2.2.2.2.2.2.2.2.2.2.2.2.2.2.2.2.2.2.2.2.2.2.2.2.1 v.2.2.2.2.2.2.2.2.2.2.2.2.2.2.2.2.2.2.2.2.2.2.2.2.2.2.2.2.2.2.2.2.1 v.2.2.2.2.2.2.2.2.2.2.2.2.2.2.2.2.2.2.2.2.2.2.2.2.2.2.2.2.2.2.2.2.2 := by
      intro g0
      by_cases k1 : k = 1
      · refine br_t (by rw [k1]; rfl) (yi_rg (v := v) (n := 25) (by omega) rfl (fun i2 => br_f (by decide) (t60 g0 (fun _ => i2))) (fun i2 => br_t rfl (hB hn (fun k' z => ?_))))
        have e := pe_k hk z
        subst e
        exact i2 (z.2.2.2.1 k1)
      · exact br_f (fun z => k1 ((nI_eq (b := 1) (by omega) (by omega)).mp z)) (t60 g0 (fun z => absurd z k1))
    by_cases k0 : k = 0
    · have hx : ∀ h : ¬ 32767 < v2, v2 ≤ 32767 := by
        intro h
        rw [Int32.lt_iff_toInt_lt] at h
        rw [Int32.le_iff_toInt_le]
        omega
      refine br_t (by rw [k0]; rfl) (br_c (fun h3 => br_t rfl (hB hn (fun k' z => ?_))) (fun h3 => br_c (fun h4 => br_t rfl (hB hn (fun k' z => ?_))) (fun h4 => br_f (by decide) (t41 (fun _ => ⟨h3, hx h4⟩)))))
      · have e := pe_k hk z
        subst e
        exact (z.2.2.1 k0).1 h3
      · have e := pe_k hk z
        subst e
        have z4 := (z.2.2.1 k0).2
        rw [Int32.lt_iff_toInt_lt] at h4
        rw [Int32.le_iff_toInt_le] at z4
        omega
    · exact br_f (fun z => k0 ((nI_eq (b := 0) (by omega) (by omega)).mp z)) (t41 (fun z => absurd z k0))
end
theorem pe_s {ne k : Nat} {v1 v2 v3 : Int32} (hn : ne ≤ 50) (h : pe_ok ne v1 v2 v3 k) : v2.toInt16.toInt32 = v2 := by
  have sm : ∀ c : Nat, c < 128 → (nI c).toInt16.toInt32 = nI c := by
    intro c hc
    have e := nI_toInt (n := c) (by omega)
    exact lg_i2s_small (by omega) (by omega)
  by_cases k0 : k = 0
  · have c := h.2.2.1 k0
    have c1 := c.1
    have c2 := c.2
    rw [Int32.lt_iff_toInt_lt] at c1
    rw [Int32.le_iff_toInt_le] at c2
    have q1 : (-32768 : Int32).toInt = -32768 := by decide
    have q2 : (32767 : Int32).toInt = 32767 := by decide
    exact lg_i2s_small (by omega) (by omega)
  · by_cases k1 : k = 1
    · obtain ⟨a, ha, ea⟩ := h.2.2.2.1 k1
      rw [ea]; exact sm a (by omega)
    · obtain ⟨a, ha, ea⟩ := h.2.2.2.2.1 (by omega)
      rw [ea]; exact sm a (by omega)
theorem pe_rel {k np ne ns c : Nat} {u : SX} {v : SY} {P : pg_P} {v1 v2 v3 : Int32} (hW : pg_W P np ne ns) (hX : rl_X u P np ne ns) (hY : rl_Y v P np ne ns) (hC : rl_C P np ns u) (hS : rl_S u v) (hn : ne < 50) (hg : pe_ok ne v1 v2 v3 c) (h16 : pe_w (pg_ew P) v2 v3 c ≤ 16) :
    i_Rel k (zx_e u (nI (ne + 1)) (upd (xf_expressionKind u) ne (nI c)) (upd (xf_expressionX u) ne v2.toInt16.toInt32) (upd (xf_expressionY u) ne v3.toInt8.toInt32) (upd (xf_expressionWeight u) ne (nI (pe_w (pg_ew P) v2 v3 c))))
      (zy_e v (nI (ne + 1)) (upd (yf_ekind v) ne (nI c)) (upd (yf_ex v) ne v2) (upd (yf_ey v) ne v3) (upd (yf_eweight v) ne (nI (pe_w (pg_ew P) v2 v3 c)))) := by
  generalize hw : pe_w (pg_ew P) v2 v3 c = n at h16 ⊢
  obtain ⟨P', q0, q1, q2, q3, q4, q5, q6, q7, q8, q9, q10, q11⟩ := pg_mk (P 0) (P 1) (P 2) (upd (P 3) ne (nI c)) (upd (P 4) ne v2) (upd (P 5) ne v3) (upd (P 6) ne (nI n)) (P 7) (P 8) (P 9) (P 10) (P 11)
  have hA : pg_A P P' np ne ns := by
    refine ⟨fun i hi => ?_, fun e he => ?_, fun s hs => ?_⟩
    · rw [q0, q1]; exact ⟨rfl, rfl⟩
    · rw [q3, q4, q5, q6]; exact ⟨pk_un (by omega), pk_un (by omega), pk_un (by omega), pk_un (by omega)⟩
    · rw [q7, q8, q9, q10, q11]; exact ⟨rfl, rfl, rfl, rfl, rfl⟩
  have hx : pg_X P P' ne ns := ⟨q0, q1, q2, hA.2.1, hA.2.2⟩
  have h8 := hg.2.1
  have n3 : P' 3 ne = nI c := by rw [q3]; exact pk_us
  have n4 : P' 4 ne = v2 := by rw [q4]; exact pk_us
  have n5 : P' 5 ne = v3 := by rw [q5]; exact pk_us
  have n6 : P' 6 ne = nI n := by rw [q6]; exact pk_us
  have ek : pg_ek P' ne = c := by unfold pg_ek; rw [n3]; exact nI_clamp (by omega)
  have ew : pg_ew P' ne = n := by unfold pg_ew; rw [n6]; exact nI_clamp (by omega)
  have ex : pg_ex P' ne = v2.toNatClampNeg := by unfold pg_ex; rw [n4]
  have ey : pg_ey P' ne = v3.toNatClampNeg := by unfold pg_ey; rw [n5]
  have es := pe_s (by omega) hg
  obtain ⟨⟨y0, y1, y2, y3, y4, y5, y6, y7, y8, y9, y10, y11⟩, z1, z2, z3⟩ := hY
  refine ⟨P', np, ne + 1, ns, ⟨hW.1, by omega, hW.2.2.1, fun i hi => cw_Wp hA hi (by rw [q2]) (Nat.le_refl _) (hW.2.2.2.1 i hi), fun e he => ?_, fun s hs => cw_Ws hA hs (Nat.le_refl _) (by omega) (hW.2.2.2.2.2 s hs)⟩, ?_, ⟨⟨?_, ?_, ?_, ?_, ?_, ?_, ?_, ?_, ?_, ?_, ?_, ?_⟩, z1, rfl, z3⟩, fun h hp => ?_, hS⟩
  · by_cases z : e = ne
    · subst z
      unfold pg_We
      rw [ek, ew, ex, ey, n3, n4, n5, n6]
      have hwn : n = 1 + (if 2 ≤ c then pg_ew P v2.toNatClampNeg else 0) + (if 2 ≤ c ∧ c ≠ 7 then pg_ew P v3.toNatClampNeg else 0) := hw.symm
      refine ⟨rfl, h8, rfl, by omega, h16, fun _ => es, fun k1 => ?_, fun k2 => ?_⟩
      · obtain ⟨a, ha, ea⟩ := hg.2.2.2.1 k1
        rw [ea, nI_clamp (by omega)]
        exact ⟨rfl, by omega⟩
      · obtain ⟨a, ha, ea⟩ := hg.2.2.2.2.1 k2
        rw [if_pos k2] at hwn
        rw [ea, nI_clamp (by omega)] at hwn ⊢
        rw [cw_ew hA ha]
        refine ⟨rfl, ha, fun k7 => ?_, fun k7 => ?_⟩
        · rw [if_neg (fun z => z.2 k7)] at hwn
          exact hwn
        · obtain ⟨b, hb, eb⟩ := hg.2.2.2.2.2 k2 k7
          rw [if_pos ⟨k2, k7⟩] at hwn
          rw [eb, nI_clamp (by omega)] at hwn ⊢
          rw [cw_ew hA hb]
          exact ⟨rfl, hb, hwn⟩
    · exact cw_We hA (by omega) (hW.2.2.2.2.1 e (by omega))
  · have hq : xq_P (zx_e u (nI (ne + 1)) (upd (xf_expressionKind u) ne (nI c)) (upd (xf_expressionX u) ne v2.toInt16.toInt32) (upd (xf_expressionY u) ne v3.toInt8.toInt32) (upd (xf_expressionWeight u) ne (nI n))) P' np ne ns := by
      refine xq_cg hA hW (xq_of hX) (fun i hi => ⟨rfl, rfl⟩) (fun e he => ⟨?_, ?_, ?_, ?_⟩) (fun s hs => ⟨rfl, rfl, rfl, rfl, rfl⟩)
      · exact pk_un (f := xf_expressionKind u) (k := ne) (j := e) (x := nI c) (by omega)
      · exact pk_un (f := xf_expressionX u) (k := ne) (j := e) (x := v2.toInt16.toInt32) (by omega)
      · exact pk_un (f := xf_expressionY u) (k := ne) (j := e) (x := v3.toInt8.toInt32) (by omega)
      · exact pk_un (f := xf_expressionWeight u) (k := ne) (j := e) (x := nI n) (by omega)
    refine xq_to ⟨hq.1, fun e he => ?_, hq.2.2⟩ hX.1.1 rfl hX.1.2.2.1 (fun i hi => ?_)
    · by_cases z : e = ne
      · subst z
        rw [n3, n4, n5, n6, ek]
        refine ⟨pk_us, ?_, fun k2 k7 => ?_, pk_us⟩
        · exact (pk_us (f := xf_expressionX u) (k := e) (x := v2.toInt16.toInt32)).trans es
        · obtain ⟨b, hb, eb⟩ := hg.2.2.2.2.2 k2 k7
          refine (pk_us (f := xf_expressionY u) (k := e) (x := v3.toInt8.toInt32)).trans ?_
          rw [eb]
          have := nw_b (c := b) (by omega)
          rw [pk_vb] at this
          exact this
      · exact hq.2.1 e (by omega)
    · rw [q2]; exact hX.1.2.2.2.2.2.1 i hi
  · rw [q0]; exact y0
  · rw [q1]; exact y1
  · rw [q2]; exact y2
  · rw [q3, ← y3]
  · rw [q4, ← y4]
  · rw [q5, ← y5]
  · rw [q6, ← y6]
  · rw [q7]; exact y7
  · rw [q8]; exact y8
  · rw [q9]; exact y9
  · rw [q10]; exact y10
  · rw [q11]; exact y11
  · have c := hC h hp
    refine ⟨cg_OK hx hW (fun q hq => (c.2 q hq).2) c.1, fun q hq => ?_⟩
    rw [cg_bo hx, q2]
    exact c.2 q hq
theorem i_vc_express {k : Nat} {u : SX} {v : SY} (I : i_Rel k u v) (hk : k + 5 ≤ 2560) (v1 : Int32) (v2 : Int32) (v3 : Int32) : wpX_express (fun r u' => wpY_express (fun r' v' => r' = r ∧ i_Rel (k + 5) u' v') v v1 v2 v3) u v1 v2 v3 := by
  have I2 := i_up I
  obtain ⟨P, np, ne, ns, hW, hX, hY, hC, hS⟩ := I
  have hc := hX.1.2.1
  have hd := hY.2.2.1
  have h50 := hW.2.1
  have w1 : ∀ e, e < ne → xf_expressionWeight u e = nI (pg_ew P e) ∧ pg_ew P e ≤ 16 := fun e he => ⟨by rw [hX.2.1 e he]; exact (hW.2.2.2.2.1 e he).2.2.1, (hW.2.2.2.2.1 e he).2.2.2.2.1⟩
  have w2 : ∀ e, e < ne → yf_eweight v e = nI (pg_ew P e) ∧ pg_ew P e ≤ 16 := fun e he => ⟨by rw [hY.1.2.2.2.2.2.2.1]; exact (hW.2.2.2.2.1 e he).2.2.1, (hW.2.2.2.2.1 e he).2.2.2.2.1⟩
  have un : ∀ c c', pe_ok ne v1 v2 v3 c → pe_ok ne v1 v2 v3 c' → c' = c := by
    intro c c' h h'
    have e := h.1
    subst e
    exact pe_k (by have := h.2.1; omega) h'
  refine xm_expr hc h50 w1 (fun h => ?_) (fun h hb => ?_) (fun c h hg hl => ?_) (fun c h hg hl => ?_)
  · exact ym_expr hd h50 w2 (fun _ => ⟨rfl, I2⟩) (fun z => by omega) (fun c z => by omega) (fun c z => by omega)
  · exact ym_expr hd h50 w2 (fun z => by omega) (fun _ _ => ⟨rfl, I2⟩) (fun c _ z => absurd z (hb c)) (fun c _ z => absurd z (hb c))
  · refine ym_expr hd h50 w2 (fun z => by omega) (fun _ z => absurd hg (z c)) (fun _ _ _ _ => ⟨rfl, I2⟩) (fun c' _ hg' hl' => ?_)
    have e := un c c' hg hg'
    subst e
    omega
  · refine ym_expr hd h50 w2 (fun z => by omega) (fun _ z => absurd hg (z c)) (fun c' _ hg' hl' => ?_) (fun c' _ hg' hl' => ?_)
    · have e := un c c' hg hg'
      subst e
      omega
    · have e := un c c' hg hg'
      subst e
      exact ⟨hc.symm, pe_rel hW hX hY hC hS h hg hl⟩
end
section
/-! state -/
abbrev zx_s (u : SX) (sc : Int32) (sk : Nat → Int32) (sx : Nat → Int32) (sy : Nat → Int32) (sz : Nat → Int32) (sw : Nat → Int32) : SX := (u.1, u.2.1, sc, u.2.2.2.1, u.2.2.2.2.1, u.2.2.2.2.2.1, u.2.2.2.2.2.2.1, u.2.2.2.2.2.2.2.1, u.2.2.2.2.2.2.2.2.1, u.2.2.2.2.2.2.2.2.2.1, u.2.2.2.2.2.2.2.2.2.2.1, u.2.2.2.2.2.2.2.2.2.2.2.1, u.2.2.2.2.2.2.2.2.2.2.2.2.1, u.2.2.2.2.2.2.2.2.2.2.2.2.2.1, u.2.2.2.2.2.2.2.2.2.2.2.2.2.2.1, u.2.2.2.2.2.2.2.2.2.2.2.2.2.2.2.1, u.2.2.2.2.2.2.2.2.2.2.2.2.2.2.2.2.1, u.2.2.2.2.2.2.2.2.2.2.2.2.2.2.2.2.2.1, u.2.2.2.2.2.2.2.2.2.2.2.2.2.2.2.2.2.2.1, u.2.2.2.2.2.2.2.2.2.2.2.2.2.2.2.2.2.2.2.1, u.2.2.2.2.2.2.2.2.2.2.2.2.2.2.2.2.2.2.2.2.1, u.2.2.2.2.2.2.2.2.2.2.2.2.2.2.2.2.2.2.2.2.2.1, u.2.2.2.2.2.2.2.2.2.2.2.2.2.2.2.2.2.2.2.2.2.2.1, u.2.2.2.2.2.2.2.2.2.2.2.2.2.2.2.2.2.2.2.2.2.2.2.1, u.2.2.2.2.2.2.2.2.2.2.2.2.2.2.2.2.2.2.2.2.2.2.2.2.1, sk, sx, sy, sz, sw, u.2.2.2.2.2.2.2.2.2.2.2.2.2.2.2.2.2.2.2.2.2.2.2.2.2.2.2.2.2.2.1, u.2.2.2.2.2.2.2.2.2.2.2.2.2.2.2.2.2.2.2.2.2.2.2.2.2.2.2.2.2.2.2.1, u.2.2.2.2.2.2.2.2.2.2.2.2.2.2.2.2.2.2.2.2.2.2.2.2.2.2.2.2.2.2.2.2.1, u.2.2.2.2.2.2.2.2.2.2.2.2.2.2.2.2.2.2.2.2.2.2.2.2.2.2.2.2.2.2.2.2.2.1, u.2.2.2.2.2.2.2.2.2.2.2.2.2.2.2.2.2.2.2.2.2.2.2.2.2.2.2.2.2.2.2.2.2.2.1, u.2.2.2.2.2.2.2.2.2.2.2.2.2.2.2.2.2.2.2.2.2.2.2.2.2.2.2.2.2.2.2.2.2.2.2.1, u.2.2.2.2.2.2.2.2.2.2.2.2.2.2.2.2.2.2.2.2.2.2.2.2.2.2.2.2.2.2.2.2.2.2.2.2.1, u.2.2.2.2.2.2.2.2.2.2.2.2.2.2.2.2.2.2.2.2.2.2.2.2.2.2.2.2.2.2.2.2.2.2.2.2.2.1, u.2.2.2.2.2.2.2.2.2.2.2.2.2.2.2.2.2.2.2.2.2.2.2.2.2.2.2.2.2.2.2.2.2.2.2.2.2.2)
abbrev zy_s (u : SY) (sc : Int32) (sk : Nat → Int32) (sx : Nat → Int32) (sy : Nat → Int32) (sz : Nat → Int32) (sw : Nat → Int32) : SY := (u.1, u.2.1, sc, u.2.2.2.1, u.2.2.2.2.1, u.2.2.2.2.2.1, u.2.2.2.2.2.2.1, u.2.2.2.2.2.2.2.1, u.2.2.2.2.2.2.2.2.1, u.2.2.2.2.2.2.2.2.2.1, u.2.2.2.2.2.2.2.2.2.2.1, u.2.2.2.2.2.2.2.2.2.2.2.1, u.2.2.2.2.2.2.2.2.2.2.2.2.1, u.2.2.2.2.2.2.2.2.2.2.2.2.2.1, u.2.2.2.2.2.2.2.2.2.2.2.2.2.2.1, sk, sx, sy, sz, sw, u.2.2.2.2.2.2.2.2.2.2.2.2.2.2.2.2.2.2.2.2.1, u.2.2.2.2.2.2.2.2.2.2.2.2.2.2.2.2.2.2.2.2.2.1, u.2.2.2.2.2.2.2.2.2.2.2.2.2.2.2.2.2.2.2.2.2.2.1, u.2.2.2.2.2.2.2.2.2.2.2.2.2.2.2.2.2.2.2.2.2.2.2.1, u.2.2.2.2.2.2.2.2.2.2.2.2.2.2.2.2.2.2.2.2.2.2.2.2.1, u.2.2.2.2.2.2.2.2.2.2.2.2.2.2.2.2.2.2.2.2.2.2.2.2.2.1, u.2.2.2.2.2.2.2.2.2.2.2.2.2.2.2.2.2.2.2.2.2.2.2.2.2.2.1, u.2.2.2.2.2.2.2.2.2.2.2.2.2.2.2.2.2.2.2.2.2.2.2.2.2.2.2.1, u.2.2.2.2.2.2.2.2.2.2.2.2.2.2.2.2.2.2.2.2.2.2.2.2.2.2.2.2.1, u.2.2.2.2.2.2.2.2.2.2.2.2.2.2.2.2.2.2.2.2.2.2.2.2.2.2.2.2.2.1, u.2.2.2.2.2.2.2.2.2.2.2.2.2.2.2.2.2.2.2.2.2.2.2.2.2.2.2.2.2.2.1, u.2.2.2.2.2.2.2.2.2.2.2.2.2.2.2.2.2.2.2.2.2.2.2.2.2.2.2.2.2.2.2.1, u.2.2.2.2.2.2.2.2.2.2.2.2.2.2.2.2.2.2.2.2.2.2.2.2.2.2.2.2.2.2.2.2.1, u.2.2.2.2.2.2.2.2.2.2.2.2.2.2.2.2.2.2.2.2.2.2.2.2.2.2.2.2.2.2.2.2.2)
def ps_ok (P : pg_P) (np ne ns : Nat) (v1 x y z : Int32) (k : Nat) : Prop :=
  v1 = nI k ∧ k ≤ 6 ∧ (k = 0 → iv_n x 25 ∧ iv_n y ne) ∧ (k = 1 → iv_n x ns ∧ iv_n y ns) ∧ (k = 2 → iv_n x ne ∧ iv_n y ns ∧ (z = -1 ∨ iv_n z ns)) ∧ (k = 3 → iv_n x ne ∧ iv_n y ns) ∧ (k = 4 → iv_n x ne) ∧
  (k = 5 → iv_n x np ∧ (pg_md P x.toNatClampNeg 0 ≠ 0 → iv_n y ne) ∧ (pg_md P x.toNatClampNeg 1 ≠ 0 → iv_n z ne))
def ps_w (P : pg_P) (x y z : Int32) (k : Nat) : Nat :=
  if k = 6 then 1 else if k = 0 then 1 + pg_ew P y.toNatClampNeg else if k = 1 then 1 + pg_sw P x.toNatClampNeg + pg_sw P y.toNatClampNeg
  else if k = 5 then 1 + (if pg_md P x.toNatClampNeg 0 = 0 then 0 else pg_ew P y.toNatClampNeg) + (if pg_md P x.toNatClampNeg 1 = 0 then 0 else pg_ew P z.toNatClampNeg)
  else if k = 4 then 1 + pg_ew P x.toNatClampNeg else if k = 3 then 1 + pg_ew P x.toNatClampNeg + pg_sw P y.toNatClampNeg
  else if z = -1 then 1 + pg_ew P x.toNatClampNeg + pg_sw P y.toNatClampNeg else 1 + pg_ew P x.toNatClampNeg + pg_sw P y.toNatClampNeg + pg_sw P z.toNatClampNeg
theorem ps_k {P : pg_P} {np ne ns k k' : Nat} {x y z : Int32} (hk : k ≤ 6) (h : ps_ok P np ne ns (nI k) x y z k') : k' = k := ((nI_eq (by omega) (by have := h.2.1; omega)).mp h.1).symm
section
variable {u : SX} {v : SY} {P : pg_P} {np ne ns k : Nat} {x y z : Int32} {post : Int32 → Prop}
theorem xu_fit (hX : rl_X u P np ne ns) (hW : pg_W P np ne ns) (hk : k ≤ 6) (h1 : ps_ok P np ne ns (nI k) x y z k → post 1) (h0 : ¬ ps_ok P np ne ns (nI k) x y z k → post 0) : wpX_operandsFit post u (nI k) x y z := by
  have h5 := hW.1
  have h50 := hW.2.1
  have h40 := hW.2.2.1
  have c1 := hX.1.1
  have c2 := hX.1.2.1
  have c3 := hX.1.2.2.1
  by_cases k6 : k = 6
  · refine br_t (by rw [k6]; rfl) (h1 ⟨rfl, hk, fun q => by omega, fun q => by omega, fun q => by omega, fun q => by omega, fun q => by omega, fun q => by omega⟩)
  · refine br_f (xv_kn (c := 6) hk (by omega) k6) ?_
    by_cases k0 : k = 0
    · refine br_t (by rw [k0]; rfl) (xi_v (u := u) (fun i => br_f (by decide) (xi_e (u := u) c2 (by omega) (fun j => br_f (by decide) (h1 ?_)) (fun j => br_t rfl (h0 (fun q => j (q.2.2.1 k0).2))))) (fun i => br_t rfl (h0 (fun q => i (q.2.2.1 k0).1))))
      exact ⟨rfl, hk, fun _ => ⟨i, j⟩, fun q => by omega, fun q => by omega, fun q => by omega, fun q => by omega, fun q => by omega⟩
    · refine br_f (xv_kn (c := 0) hk (by omega) k0) ?_
      by_cases k1 : k = 1
      · refine br_t (by rw [k1]; rfl) (xi_s (u := u) c3 (by omega) (fun i => br_f (by decide) (xi_s (u := u) c3 (by omega) (fun j => br_f (by decide) (h1 ?_)) (fun j => br_t rfl (h0 (fun q => j (q.2.2.2.1 k1).2))))) (fun i => br_t rfl (h0 (fun q => i (q.2.2.2.1 k1).1))))
        exact ⟨rfl, hk, fun q => by omega, fun _ => ⟨i, j⟩, fun q => by omega, fun q => by omega, fun q => by omega, fun q => by omega⟩
      · refine br_f (xv_kn (c := 1) hk (by omega) k1) ?_
        by_cases k5 : k = 5
        · refine br_t (by rw [k5]; rfl) (xi_p (u := u) c1 (by omega) (fun i => br_f (by decide) ?_) (fun i => br_t rfl (h0 (fun q => i (q.2.2.2.2.2.2.2 k5).1))))
          obtain ⟨c, hc, ec⟩ := i
          subst ec
          have m0 := sr_md hW hc 0
          have m1 := sr_md hW hc 1
          have ecl : (nI c).toNatClampNeg = c := nI_clamp (by omega)
          have second : (pg_md P c 0 ≠ 0 → iv_n y ne) → wX_operandsFit_91 post (nI c) z u.1 u.2.1 u.2.2.1 u.2.2.2.1 u.2.2.2.2.1 u.2.2.2.2.2.1 u.2.2.2.2.2.2.1 u.2.2.2.2.2.2.2.1 u.2.2.2.2.2.2.2.2.1 u.2.2.2.2.2.2.2.2.2.1 u.2.2.2.2.2.2.2.2.2.2.1 u.2.2.2.2.2.2.2.2.2.2.2.1 u.2.2.2.2.2.2.2.2.2.2.2.2.1 u.2.2.2.2.2.2.2.2.2.2.2.2.2.1 u.2.2.2.2.2.2.2.2.2.2.2.2.2.2.1 u.2.2.2.2.2.2.2.2.2.2.2.2.2.2.2.1 u.2.2.2.2.2.2.2.2.2.2.2.2.2.2.2.2.1 u.2.2.2.2.2.2.2.2.2.2.2.2.2.2.2.2.2.1 u.2.2.2.2.2.2.2.2.2.2.2.2.2.2.2.2.2.2.1 u.2.2.2.2.2.2.2.2.2.2.2.2.2.2.2.2.2.2.2.1 u.2.2.2.2.2.2.2.2.2.2.2.2.2.2.2.2.2.2.2.2.1 u.2.2.2.2.2.2.2.2.2.2.2.2.2.2.2.2.2.2.2.2.2.1 u.2.2.2.2.2.2.2.2.2.2.2.2.2.2.2.2.2.2.2.2.2.2.1 u.2.2.2.2.2.2.2.2.2.2.2.2.2.2.2.2.2.2.2.2.2.2.2.1 u.2.2.2.2.2.2.2.2.2.2.2.2.2.2.2.2.2.2.2.2.2.2.2.2.1 u.2.2.2.2.2.2.2.2.2.2.2.2.2.2.2.2.2.2.2.2.2.2.2.2.2.1 u.2.2.2.2.2.2.2.2.2.2.2.2.2.2.2.2.2.2.2.2.2.2.2.2.2.2.1 u.2.2.2.2.2.2.2.2.2.2.2.2.2.2.2.2.2.2.2.2.2.2.2.2.2.2.2.1 u.2.2.2.2.2.2.2.2.2.2.2.2.2.2.2.2.2.2.2.2.2.2.2.2.2.2.2.2.1 u.2.2.2.2.2.2.2.2.2.2.2.2.2.2.2.2.2.2.2.2.2.2.2.2.2.2.2.2.2.1 u.2.2.2.2.2.2.2.2.2.2.2.2.2.2.2.2.2.2.2.2.2.2.2.2.2.2.2.2.2.2.1 u.2.2.2.2.2.2.2.2.2.2.2.2.2.2.2.2.2.2.2.2.2.2.2.2.2.2.2.2.2.2.2.1 u.2.2.2.2.2.2.2.2.2.2.2.2.2.2.2.2.2.2.2.2.2.2.2.2.2.2.2.2.2.2.2.2.1 u.2.2.2.2.2.2.2.2.2.2.2.2.2.2.2.2.2.2.2.2.2.2.2.2.2.2.2.2.2.2.2.2.2.1 u.2.2.2.2.2.2.2.2.2.2.2.2.2.2.2.2.2.2.2.2.2.2.2.2.2.2.2.2.2.2.2.2.2.2.1 u.2.2.2.2.2.2.2.2.2.2.2.2.2.2.2.2.2.2.2.2.2.2.2.2.2.2.2.2.2.2.2.2.2.2.2.1 u.2.2.2.2.2.2.2.2.2.2.2.2.2.2.2.2.2.2.2.2.2.2.2.2.2.2.2.2.2.2.2.2.2.2.2.2.1 u.2.2.2.2.2.2.2.2.2.2.2.2.2.2.2.2.2.2.2.2.2.2.2.2.2.2.2.2.2.2.2.2.2.2.2.2.2.1 u.2.2.2.2.2.2.2.2.2.2.2.2.2.2.2.2.2.2.2.2.2.2.2.2.2.2.2.2.2.2.2.2.2.2.2.2.2.2 := by
            intro g
            refine xh_mode (u := u) (k := 1) hX.1 hW hc (by omega) ?_
            by_cases d1 : pg_md P c 1 = 0
            · refine br_t (by rw [d1]; rfl) (h1 ⟨rfl, hk, fun q => by omega, fun q => by omega, fun q => by omega, fun q => by omega, fun q => by omega, fun _ => ?_⟩)
              rw [ecl]
              exact ⟨⟨c, hc, rfl⟩, g, fun q => absurd d1 q⟩
            · refine br_f (nI_ne0 (by omega) (by omega)) (xi_e (u := u) c2 (by omega) (fun j => br_f (by decide) (h1 ⟨rfl, hk, fun q => by omega, fun q => by omega, fun q => by omega, fun q => by omega, fun q => by omega, fun _ => ?_⟩)) (fun j => br_t rfl (h0 (fun q => j ?_))))
              · rw [ecl]
                exact ⟨⟨c, hc, rfl⟩, g, fun _ => j⟩
              · have q5 := q.2.2.2.2.2.2.2 k5
                rw [ecl] at q5
                exact q5.2.2 d1
          refine xh_mode (u := u) (k := 0) hX.1 hW hc (by omega) ?_
          by_cases d0 : pg_md P c 0 = 0
          · exact br_t (by rw [d0]; rfl) (second (fun q => absurd d0 q))
          · refine br_f (nI_ne0 (by omega) (by omega)) (xi_e (u := u) c2 (by omega) (fun j => br_f (by decide) (second (fun _ => j))) (fun j => br_t rfl (h0 (fun q => j ?_))))
            have q5 := q.2.2.2.2.2.2.2 k5
            rw [ecl] at q5
            exact q5.2.1 d0
        · refine br_f (xv_kn (c := 5) hk (by omega) k5) ?_
          refine xi_e (u := u) c2 (by omega) (fun i => br_f (by decide) ?_) (fun i => br_t rfl (h0 (fun q => i ?_)))
          · by_cases k4 : k = 4
            · exact br_t (by rw [k4]; rfl) (h1 ⟨rfl, hk, fun q => by omega, fun q => by omega, fun q => by omega, fun q => by omega, fun _ => i, fun q => by omega⟩)
            · refine br_f (xv_kn (c := 4) hk (by omega) k4) ?_
              refine xi_s (u := u) c3 (by omega) (fun j => br_f (by decide) ?_) (fun j => br_t rfl (h0 (fun q => j ?_)))
              · by_cases k3 : k = 3
                · exact br_t (by rw [k3]; rfl) (h1 ⟨rfl, hk, fun q => by omega, fun q => by omega, fun q => by omega, fun _ => ⟨i, j⟩, fun q => by omega, fun q => by omega⟩)
                · refine br_f (xv_kn (c := 3) hk (by omega) k3) ?_
                  have k2 : k = 2 := by omega
                  refine br_c (fun e => h1 ⟨rfl, hk, fun q => by omega, fun q => by omega, fun _ => ⟨i, j, Or.inl e⟩, fun q => by omega, fun q => by omega, fun q => by omega⟩) (fun e => ?_)
                  refine xi_s (u := u) c3 (by omega) (fun l => br_f (by decide) (h1 ⟨rfl, hk, fun q => by omega, fun q => by omega, fun _ => ⟨i, j, Or.inr l⟩, fun q => by omega, fun q => by omega, fun q => by omega⟩)) (fun l => br_t rfl (h0 (fun q => ?_)))
                  rcases (q.2.2.2.2.1 k2).2.2 with w | w
                  · exact e w
                  · exact l w
              · rcases (show k = 2 ∨ k = 3 by omega) with w | w
                · exact (q.2.2.2.2.1 w).2.1
                · exact (q.2.2.2.2.2.1 w).2
          · rcases (show k = 2 ∨ k = 3 ∨ k = 4 by omega) with w | w | w
            · exact (q.2.2.2.2.1 w).1
            · exact (q.2.2.2.2.2.1 w).1
            · exact q.2.2.2.2.2.2.1 w
theorem yu_fit (hY : rl_Y v P np ne ns) (hW : pg_W P np ne ns) (hk : k ≤ 6) (h1 : ps_ok P np ne ns (nI k) x y z k → post 1) (h0 : ¬ ps_ok P np ne ns (nI k) x y z k → post 0) : wpY_fits post v (nI k) x y z := by
  have h5 := hW.1
  have h50 := hW.2.1
  have h40 := hW.2.2.1
  have c1 : yf_procedures v - 1 = nI np - 1 := by rw [hY.2.1]
  have c2 := hY.2.2.1
  have c3 := hY.2.2.2
  have hm := hY.1.2.1
  by_cases k0 : k = 0
  · refine br_t (by rw [k0]; rfl) (yi_rg (v := v) (n := 25) (by omega) rfl (fun i => br_f (by decide) (yi_e (v := v) c2 (by omega) (fun j => br_f (by decide) (h1 ?_)) (fun j => br_t rfl (h0 (fun q => j (q.2.2.1 k0).2))))) (fun i => br_t rfl (h0 (fun q => i (q.2.2.1 k0).1))))
    exact ⟨rfl, hk, fun _ => ⟨i, j⟩, fun q => by omega, fun q => by omega, fun q => by omega, fun q => by omega, fun q => by omega⟩
  · refine br_f (xv_kn (c := 0) hk (by omega) k0) ?_
    by_cases k1 : k = 1
    · refine br_t (by rw [k1]; rfl) (yi_s (v := v) c3 (by omega) (fun i => br_f (by decide) (yi_s (v := v) c3 (by omega) (fun j => br_f (by decide) (h1 ?_)) (fun j => br_t rfl (h0 (fun q => j (q.2.2.2.1 k1).2))))) (fun i => br_t rfl (h0 (fun q => i (q.2.2.2.1 k1).1))))
      exact ⟨rfl, hk, fun q => by omega, fun _ => ⟨i, j⟩, fun q => by omega, fun q => by omega, fun q => by omega, fun q => by omega⟩
    · refine br_f (xv_kn (c := 1) hk (by omega) k1) ?_
      by_cases k2 : k = 2
      · refine br_t (by rw [k2]; rfl) (yi_e (v := v) c2 (by omega) (fun i => br_f (by decide) (yi_s (v := v) c3 (by omega) (fun j => br_f (by decide) ?_) (fun j => br_t rfl (h0 (fun q => j (q.2.2.2.2.1 k2).2.1))))) (fun i => br_t rfl (h0 (fun q => i (q.2.2.2.2.1 k2).1))))
        refine br_c (fun e => h1 ⟨rfl, hk, fun q => by omega, fun q => by omega, fun _ => ⟨i, j, Or.inl e⟩, fun q => by omega, fun q => by omega, fun q => by omega⟩) (fun e => ?_)
        refine yi_s (v := v) c3 (by omega) (fun l => br_f (by decide) (h1 ⟨rfl, hk, fun q => by omega, fun q => by omega, fun _ => ⟨i, j, Or.inr l⟩, fun q => by omega, fun q => by omega, fun q => by omega⟩)) (fun l => br_t rfl (h0 (fun q => ?_)))
        rcases (q.2.2.2.2.1 k2).2.2 with w | w
        · exact e w
        · exact l w
      · refine br_f (xv_kn (c := 2) hk (by omega) k2) ?_
        by_cases k3 : k = 3
        · refine br_t (by rw [k3]; rfl) (yi_e (v := v) c2 (by omega) (fun i => br_f (by decide) (yi_s (v := v) c3 (by omega) (fun j => br_f (by decide) (h1 ?_)) (fun j => br_t rfl (h0 (fun q => j (q.2.2.2.2.2.1 k3).2))))) (fun i => br_t rfl (h0 (fun q => i (q.2.2.2.2.2.1 k3).1))))
          exact ⟨rfl, hk, fun q => by omega, fun q => by omega, fun q => by omega, fun _ => ⟨i, j⟩, fun q => by omega, fun q => by omega⟩
        · refine br_f (xv_kn (c := 3) hk (by omega) k3) ?_
          by_cases k4 : k = 4
          · exact br_t (by rw [k4]; rfl) (yi_e (v := v) c2 (by omega) (fun i => ⟨narrow_b1, h1 ⟨rfl, hk, fun q => by omega, fun q => by omega, fun q => by omega, fun q => by omega, fun _ => i, fun q => by omega⟩⟩) (fun i => ⟨narrow_b0, h0 (fun q => i (q.2.2.2.2.2.2.1 k4))⟩))
          · refine br_f (xv_kn (c := 4) hk (by omega) k4) ?_
            by_cases k5 : k = 5
            · refine br_t (by rw [k5]; rfl) (yi_rg (v := v) (n := np) (by omega) c1 (fun i => br_f (by decide) ?_) (fun i => br_t rfl (h0 (fun q => i (q.2.2.2.2.2.2.2 k5).1))))
              obtain ⟨c, hc, ec⟩ := i
              subst ec
              have hp := pg_np0 hW hc
              have ecl : (nI c).toNatClampNeg = c := nI_clamp (by omega)
              have second : (pg_md P c 0 ≠ 0 → iv_n y ne) → wY_fits_173 post (nI c) z v.1 v.2.1 v.2.2.1 v.2.2.2.1 v.2.2.2.2.1 v.2.2.2.2.2.1 v.2.2.2.2.2.2.1 v.2.2.2.2.2.2.2.1 v.2.2.2.2.2.2.2.2.1 v.2.2.2.2.2.2.2.2.2.1 v.2.2.2.2.2.2.2.2.2.2.1 v.2.2.2.2.2.2.2.2.2.2.2.1 v.2.2.2.2.2.2.2.2.2.2.2.2.1 v.2.2.2.2.2.2.2.2.2.2.2.2.2.1 v.2.2.2.2.2.2.2.2.2.2.2.2.2.2.1 v.2.2.2.2.2.2.2.2.2.2.2.2.2.2.2.1 v.2.2.2.2.2.2.2.2.2.2.2.2.2.2.2.2.1 v.2.2.2.2.2.2.2.2.2.2.2.2.2.2.2.2.2.1 v.2.2.2.2.2.2.2.2.2.2.2.2.2.2.2.2.2.2.1 v.2.2.2.2.2.2.2.2.2.2.2.2.2.2.2.2.2.2.2.1 v.2.2.2.2.2.2.2.2.2.2.2.2.2.2.2.2.2.2.2.2.1 v.2.2.2.2.2.2.2.2.2.2.2.2.2.2.2.2.2.2.2.2.2.1 v.2.2.2.2.2.2.2.2.2.2.2.2.2.2.2.2.2.2.2.2.2.2.1 v.2.2.2.2.2.2.2.2.2.2.2.2.2.2.2.2.2.2.2.2.2.2.2.1 v.2.2.2.2.2.2.2.2.2.2.2.2.2.2.2.2.2.2.2.2.2.2.2.2.1 v.2.2.2.2.2.2.2.2.2.2.2.2.2.2.2.2.2.2.2.2.2.2.2.2.2.1 v.2.2.2.2.2.2.2.2.2.2.2.2.2.2.2.2.2.2.2.2.2.2.2.2.2.2.1 v.2.2.2.2.2.2.2.2.2.2.2.2.2.2.2.2.2.2.2.2.2.2.2.2.2.2.2.1 v.2.2.2.2.2.2.2.2.2.2.2.2.2.2.2.2.2.2.2.2.2.2.2.2.2.2.2.2.1 v.2.2.2.2.2.2.2.2.2.2.2.2.2.2.2.2.2.2.2.2.2.2.2.2.2.2.2.2.2.1 v.2.2.2.2.2.2.2.2.2.2.2.2.2.2.2.2.2.2.2.2.2.2.2.2.2.2.2.2.2.2.1 v.2.2.2.2.2.2.2.2.2.2.2.2.2.2.2.2.2.2.2.2.2.2.2.2.2.2.2.2.2.2.2.1 v.2.2.2.2.2.2.2.2.2.2.2.2.2.2.2.2.2.2.2.2.2.2.2.2.2.2.2.2.2.2.2.2.1 v.2.2.2.2.2.2.2.2.2.2.2.2.2.2.2.2.2.2.2.2.2.2.2.2.2.2.2.2.2.2.2.2.2 := by
                intro g
                refine yn_par (u := v) hm hW hc ?_
                by_cases d1 : pg_md P c 1 = 0
                · refine br_t (nI_lt (b := 2) (by have := hp.2.2.1 d1; omega) (by omega)) (h1 ⟨rfl, hk, fun q => by omega, fun q => by omega, fun q => by omega, fun q => by omega, fun q => by omega, fun _ => ?_⟩)
                  rw [ecl]
                  exact ⟨⟨c, hc, rfl⟩, g, fun q => absurd d1 q⟩
                · refine br_f (nI_nlt (b := 2) (by have := hp.2.2.2.1 d1; omega) (by omega)) (yi_e (v := v) c2 (by omega) (fun j => br_f (by decide) (h1 ⟨rfl, hk, fun q => by omega, fun q => by omega, fun q => by omega, fun q => by omega, fun q => by omega, fun _ => ?_⟩)) (fun j => br_t rfl (h0 (fun q => j ?_))))
                  · rw [ecl]
                    exact ⟨⟨c, hc, rfl⟩, g, fun _ => j⟩
                  · have q5 := q.2.2.2.2.2.2.2 k5
                    rw [ecl] at q5
                    exact q5.2.2 d1
              refine yn_par (u := v) hm hW hc ?_
              by_cases d0 : pg_md P c 0 = 0
              · exact br_t (nI_lt (b := 1) (by have := hp.1 d0; omega) (by omega)) (second (fun q => absurd d0 q))
              · refine br_f (nI_nlt (b := 1) (by have := hp.2.1 d0; omega) (by omega)) (yi_e (v := v) c2 (by omega) (fun j => br_f (by decide) (second (fun _ => j))) (fun j => br_t rfl (h0 (fun q => j ?_))))
                have q5 := q.2.2.2.2.2.2.2 k5
                rw [ecl] at q5
                exact q5.2.1 d0
            · refine br_f (xv_kn (c := 5) hk (by omega) k5) (br_t ?_ (h1 ⟨rfl, hk, fun q => by omega, fun q => by omega, fun q => by omega, fun q => by omega, fun q => by omega, fun q => by omega⟩))
              rw [show k = 6 by omega]; rfl
theorem yu_bad {v1 : Int32} (h : ∀ k : Nat, k ≤ 6 → v1 ≠ nI k) (h0 : post 0) : wpY_fits post v v1 x y z :=
  br_f (h 0 (by omega)) (br_f (h 1 (by omega)) (br_f (h 2 (by omega)) (br_f (h 3 (by omega)) (br_f (h 4 (by omega)) (br_f (h 5 (by omega)) (br_f (h 6 (by omega)) h0))))))
theorem pu_iv {a N n : Nat} {x : Int32} (hN : n ≤ N) (hN2 : N < 1000) (ha : a < n) (e : x = nI a) : vp_in x N ∧ x.toNatClampNeg = a := by
  rw [e]
  exact ⟨vp_in_nI (by omega) (by omega), nI_clamp (by omega)⟩
theorem xu_wt (hX : rl_X u P np ne ns) (hW : pg_W P np ne ns) (hg : ps_ok P np ne ns (nI k) x y z k) (h : ps_w P x y z k ≤ 100 → post (nI (ps_w P x y z k))) : wpX_weightOf post u (nI k) x y z := by
  have h5 := hW.1
  have h50 := hW.2.1
  have h40 := hW.2.2.1
  have hk := hg.2.1
  have we : ∀ e, e < ne → xf_expressionWeight u e = nI (pg_ew P e) ∧ pg_ew P e ≤ 16 := fun e he => ⟨by rw [hX.2.1 e he]; exact (hW.2.2.2.2.1 e he).2.2.1, (hW.2.2.2.2.1 e he).2.2.2.2.1⟩
  have ws : ∀ s, s < ns → xf_stateWeight u s = nI (pg_sw P s) ∧ pg_sw P s ≤ 16 := fun s hs => ⟨by rw [hX.2.2 s hs]; exact (hW.2.2.2.2.2 s hs).2.2.1, (hW.2.2.2.2.2 s hs).2.2.2.2.1⟩
  unfold ps_w at h
  by_cases k6 : k = 6
  · rw [if_pos k6] at h
    exact br_t (by rw [k6]; rfl) (h (by omega))
  · rw [if_neg k6] at h
    refine br_f (xv_kn (c := 6) hk (by omega) k6) ?_
    by_cases k0 : k = 0
    · rw [if_pos k0] at h
      obtain ⟨b, hb, eb⟩ := (hg.2.2.1 k0).2
      obtain ⟨ib, cb⟩ := pu_iv h50 (by omega) hb eb
      rw [cb] at h
      have e : 1 + xf_expressionWeight u y.toNatClampNeg = nI (1 + pg_ew P b) := by rw [cb, (we b hb).1]; exact nI_add 1 _
      rw [← e] at h
      exact br_t (by rw [k0]; rfl) ⟨ib, h (by have := (we b hb).2; omega)⟩
    · rw [if_neg k0] at h
      refine br_f (xv_kn (c := 0) hk (by omega) k0) ?_
      by_cases k1 : k = 1
      · rw [if_pos k1] at h
        obtain ⟨a, ha, ea⟩ := (hg.2.2.2.1 k1).1
        obtain ⟨b, hb, eb⟩ := (hg.2.2.2.1 k1).2
        obtain ⟨ia, ca⟩ := pu_iv h40 (by omega) ha ea
        obtain ⟨ib, cb⟩ := pu_iv h40 (by omega) hb eb
        rw [ca, cb] at h
        have e : 1 + xf_stateWeight u x.toNatClampNeg + xf_stateWeight u y.toNatClampNeg = nI (1 + pg_sw P a + pg_sw P b) := by rw [ca, cb, (ws a ha).1, (ws b hb).1, ← nI_add, ← nI_add]; rfl
        rw [← e] at h
        exact br_t (by rw [k1]; rfl) ⟨ia, ib, h (by have := (ws a ha).2; have := (ws b hb).2; omega)⟩
      · rw [if_neg k1] at h
        refine br_f (xv_kn (c := 1) hk (by omega) k1) ?_
        by_cases k5 : k = 5
        · rw [if_pos k5] at h
          have g := hg.2.2.2.2.2.2.2 k5
          obtain ⟨c, hc, ec⟩ := g.1
          subst ec
          have ecl : (nI c).toNatClampNeg = c := nI_clamp (by omega)
          rw [ecl] at g h
          have m0 := sr_md hW hc 0
          have m1 := sr_md hW hc 1
          have second : ∀ (n : Nat) (z0 : Int32), n ≤ 16 → z0 = nI n → ((1 + n + if pg_md P c 1 = 0 then 0 else pg_ew P z.toNatClampNeg) ≤ 100 → post (nI (1 + n + if pg_md P c 1 = 0 then 0 else pg_ew P z.toNatClampNeg))) → wX_weightOf_67 post (nI c) z z0 1 u.1 u.2.1 u.2.2.1 u.2.2.2.1 u.2.2.2.2.1 u.2.2.2.2.2.1 u.2.2.2.2.2.2.1 u.2.2.2.2.2.2.2.1 u.2.2.2.2.2.2.2.2.1 u.2.2.2.2.2.2.2.2.2.1 u.2.2.2.2.2.2.2.2.2.2.1 u.2.2.2.2.2.2.2.2.2.2.2.1 u.2.2.2.2.2.2.2.2.2.2.2.2.1 u.2.2.2.2.2.2.2.2.2.2.2.2.2.1 u.2.2.2.2.2.2.2.2.2.2.2.2.2.2.1 u.2.2.2.2.2.2.2.2.2.2.2.2.2.2.2.1 u.2.2.2.2.2.2.2.2.2.2.2.2.2.2.2.2.1 u.2.2.2.2.2.2.2.2.2.2.2.2.2.2.2.2.2.1 u.2.2.2.2.2.2.2.2.2.2.2.2.2.2.2.2.2.2.1 u.2.2.2.2.2.2.2.2.2.2.2.2.2.2.2.2.2.2.2.1 u.2.2.2.2.2.2.2.2.2.2.2.2.2.2.2.2.2.2.2.2.1 u.2.2.2.2.2.2.2.2.2.2.2.2.2.2.2.2.2.2.2.2.2.1 u.2.2.2.2.2.2.2.2.2.2.2.2.2.2.2.2.2.2.2.2.2.2.1 u.2.2.2.2.2.2.2.2.2.2.2.2.2.2.2.2.2.2.2.2.2.2.2.1 u.2.2.2.2.2.2.2.2.2.2.2.2.2.2.2.2.2.2.2.2.2.2.2.2.1 u.2.2.2.2.2.2.2.2.2.2.2.2.2.2.2.2.2.2.2.2.2.2.2.2.2.1 u.2.2.2.2.2.2.2.2.2.2.2.2.2.2.2.2.2.2.2.2.2.2.2.2.2.2.1 u.2.2.2.2.2.2.2.2.2.2.2.2.2.2.2.2.2.2.2.2.2.2.2.2.2.2.2.1 u.2.2.2.2.2.2.2.2.2.2.2.2.2.2.2.2.2.2.2.2.2.2.2.2.2.2.2.2.1 u.2.2.2.2.2.2.2.2.2.2.2.2.2.2.2.2.2.2.2.2.2.2.2.2.2.2.2.2.2.1 u.2.2.2.2.2.2.2.2.2.2.2.2.2.2.2.2.2.2.2.2.2.2.2.2.2.2.2.2.2.2.1 u.2.2.2.2.2.2.2.2.2.2.2.2.2.2.2.2.2.2.2.2.2.2.2.2.2.2.2.2.2.2.2.1 u.2.2.2.2.2.2.2.2.2.2.2.2.2.2.2.2.2.2.2.2.2.2.2.2.2.2.2.2.2.2.2.2.1 u.2.2.2.2.2.2.2.2.2.2.2.2.2.2.2.2.2.2.2.2.2.2.2.2.2.2.2.2.2.2.2.2.2.1 u.2.2.2.2.2.2.2.2.2.2.2.2.2.2.2.2.2.2.2.2.2.2.2.2.2.2.2.2.2.2.2.2.2.2.1 u.2.2.2.2.2.2.2.2.2.2.2.2.2.2.2.2.2.2.2.2.2.2.2.2.2.2.2.2.2.2.2.2.2.2.2.1 u.2.2.2.2.2.2.2.2.2.2.2.2.2.2.2.2.2.2.2.2.2.2.2.2.2.2.2.2.2.2.2.2.2.2.2.2.1 u.2.2.2.2.2.2.2.2.2.2.2.2.2.2.2.2.2.2.2.2.2.2.2.2.2.2.2.2.2.2.2.2.2.2.2.2.2.1 u.2.2.2.2.2.2.2.2.2.2.2.2.2.2.2.2.2.2.2.2.2.2.2.2.2.2.2.2.2.2.2.2.2.2.2.2.2.2 := by
            intro n z0 hn hz h
            subst hz
            refine xh_mode (u := u) (k := 1) hX.1 hW hc (by omega) ?_
            by_cases d1 : pg_md P c 1 = 0
            · rw [if_pos d1] at h
              have e : 1 + nI n + 0 = nI (1 + n + 0) := by rw [← nI_add, ← nI_add]; rfl
              rw [← e] at h
              exact br_t (by rw [d1]; rfl) (h (by omega))
            · rw [if_neg d1] at h
              obtain ⟨b, hb, eb⟩ := g.2.2 d1
              obtain ⟨ib, cb⟩ := pu_iv h50 (by omega) hb eb
              rw [cb] at h
              have e : 1 + nI n + xf_expressionWeight u z.toNatClampNeg = nI (1 + n + pg_ew P b) := by rw [cb, (we b hb).1, ← nI_add, ← nI_add]; rfl
              rw [← e] at h
              exact br_f (nI_ne0 (by omega) (by omega)) ⟨ib, h (by have := (we b hb).2; omega)⟩
          refine br_t (by rw [k5]; rfl) (xh_mode (u := u) (k := 0) hX.1 hW hc (by omega) ?_)
          by_cases d0 : pg_md P c 0 = 0
          · rw [if_pos d0] at h
            exact br_t (by rw [d0]; rfl) (second 0 0 (by omega) rfl h)
          · rw [if_neg d0] at h
            obtain ⟨b, hb, eb⟩ := g.2.1 d0
            obtain ⟨ib, cb⟩ := pu_iv h50 (by omega) hb eb
            rw [cb] at h
            have e : xf_expressionWeight u y.toNatClampNeg = nI (pg_ew P b) := by rw [cb, (we b hb).1]
            exact br_f (nI_ne0 (by omega) (by omega)) ⟨ib, second (pg_ew P b) _ (we b hb).2 e h⟩
        · rw [if_neg k5] at h
          refine br_f (xv_kn (c := 5) hk (by omega) k5) ?_
          have gx : iv_n x ne := by
            rcases (show k = 2 ∨ k = 3 ∨ k = 4 by omega) with w | w | w
            · exact (hg.2.2.2.2.1 w).1
            · exact (hg.2.2.2.2.2.1 w).1
            · exact hg.2.2.2.2.2.2.1 w
          obtain ⟨a, ha, ea⟩ := gx
          obtain ⟨ia, ca⟩ := pu_iv h50 (by omega) ha ea
          rw [ca] at h
          have wa := (we a ha).2
          have e1 : 1 + xf_expressionWeight u x.toNatClampNeg = nI (1 + pg_ew P a) := by rw [ca, (we a ha).1]; exact nI_add 1 _
          refine ⟨ia, nm_r e1 ?_⟩
          by_cases k4 : k = 4
          · rw [if_pos k4] at h
            exact br_t (by rw [k4]; rfl) (h (by omega))
          · rw [if_neg k4] at h
            refine br_f (xv_kn (c := 4) hk (by omega) k4) ?_
            have gy : iv_n y ns := by
              rcases (show k = 2 ∨ k = 3 by omega) with w | w
              · exact (hg.2.2.2.2.1 w).2.1
              · exact (hg.2.2.2.2.2.1 w).2
            obtain ⟨b, hb, eb⟩ := gy
            obtain ⟨ib, cb⟩ := pu_iv h40 (by omega) hb eb
            rw [cb] at h
            have wb := (ws b hb).2
            have e2 : nI (1 + pg_ew P a) + xf_stateWeight u y.toNatClampNeg = nI (1 + pg_ew P a + pg_sw P b) := by rw [cb, (ws b hb).1, nI_add]
            refine ⟨ib, nm_r e2 ?_⟩
            by_cases k3 : k = 3
            · rw [if_pos k3] at h
              exact br_f (by rw [k3]; decide) (h (by omega))
            · rw [if_neg k3] at h
              have k2 : k = 2 := by omega
              refine br_t (by rw [k2]; rfl) ?_
              by_cases zm : z = -1
              · rw [if_pos zm] at h
                exact br_t (by rw [zm]; decide) (h (by omega))
              · rw [if_neg zm] at h
                rcases (hg.2.2.2.2.1 k2).2.2 with w | w
                · exact absurd w zm
                · obtain ⟨d, hd, ed⟩ := w
                  obtain ⟨id, cd⟩ := pu_iv h40 (by omega) hd ed
                  rw [cd] at h
                  have wd := (ws d hd).2
                  have e3 : nI (1 + pg_ew P a + pg_sw P b) + xf_stateWeight u z.toNatClampNeg = nI (1 + pg_ew P a + pg_sw P b + pg_sw P d) := by rw [cd, (ws d hd).1, nI_add]
                  rw [← e3] at h
                  exact br_f (by rw [ed]; exact nI_pos (by omega)) ⟨id, h (by omega)⟩
theorem yu_wt (hY : rl_Y v P np ne ns) (hW : pg_W P np ne ns) (hg : ps_ok P np ne ns (nI k) x y z k) (h : ps_w P x y z k ≤ 100 → post (nI (ps_w P x y z k))) : wpY_weigh post v (nI k) x y z := by
  have h5 := hW.1
  have h50 := hW.2.1
  have h40 := hW.2.2.1
  have hk := hg.2.1
  have hm := hY.1.2.1
  have we : ∀ e, e < ne → yf_eweight v e = nI (pg_ew P e) ∧ pg_ew P e ≤ 16 := fun e he => ⟨by rw [hY.1.2.2.2.2.2.2.1]; exact (hW.2.2.2.2.1 e he).2.2.1, (hW.2.2.2.2.1 e he).2.2.2.2.1⟩
  have ws : ∀ s, s < ns → yf_sweight v s = nI (pg_sw P s) ∧ pg_sw P s ≤ 16 := fun s hs => ⟨by rw [hY.1.2.2.2.2.2.2.2.2.2.2.2]; exact (hW.2.2.2.2.2 s hs).2.2.1, (hW.2.2.2.2.2 s hs).2.2.2.2.1⟩
  unfold ps_w at h
  by_cases k0 : k = 0
  · rw [if_neg (by omega), if_pos k0] at h
    obtain ⟨b, hb, eb⟩ := (hg.2.2.1 k0).2
    obtain ⟨ib, cb⟩ := pu_iv h50 (by omega) hb eb
    rw [cb] at h
    have e : 1 + yf_eweight v y.toNatClampNeg = nI (1 + pg_ew P b) := by rw [cb, (we b hb).1]; exact nI_add 1 _
    rw [← e] at h
    exact br_t (by rw [k0]; rfl) ⟨ib, h (by have := (we b hb).2; omega)⟩
  · refine br_f (xv_kn (c := 0) hk (by omega) k0) ?_
    by_cases k1 : k = 1
    · rw [if_neg (by omega), if_neg k0, if_pos k1] at h
      obtain ⟨a, ha, ea⟩ := (hg.2.2.2.1 k1).1
      obtain ⟨b, hb, eb⟩ := (hg.2.2.2.1 k1).2
      obtain ⟨ia, ca⟩ := pu_iv h40 (by omega) ha ea
      obtain ⟨ib, cb⟩ := pu_iv h40 (by omega) hb eb
      rw [ca, cb] at h
      have e : 1 + yf_sweight v x.toNatClampNeg + yf_sweight v y.toNatClampNeg = nI (1 + pg_sw P a + pg_sw P b) := by rw [ca, cb, (ws a ha).1, (ws b hb).1, ← nI_add, ← nI_add]; rfl
      rw [← e] at h
      exact br_t (by rw [k1]; rfl) ⟨ia, ib, h (by have := (ws a ha).2; have := (ws b hb).2; omega)⟩
    · refine br_f (xv_kn (c := 1) hk (by omega) k1) ?_
      by_cases k2 : k = 2
      · rw [if_neg (by omega), if_neg k0, if_neg k1, if_neg (by omega), if_neg (by omega), if_neg (by omega)] at h
        have g := hg.2.2.2.2.1 k2
        obtain ⟨a, ha, ea⟩ := g.1
        obtain ⟨b, hb, eb⟩ := g.2.1
        obtain ⟨ia, ca⟩ := pu_iv h50 (by omega) ha ea
        obtain ⟨ib, cb⟩ := pu_iv h40 (by omega) hb eb
        rw [ca, cb] at h
        have wa := (we a ha).2
        have wb := (ws b hb).2
        have e2 : 1 + yf_eweight v x.toNatClampNeg + yf_sweight v y.toNatClampNeg = nI (1 + pg_ew P a + pg_sw P b) := by rw [ca, cb, (we a ha).1, (ws b hb).1, ← nI_add, ← nI_add]; rfl
        refine br_t (by rw [k2]; rfl) ⟨ia, ib, ?_⟩
        by_cases zm : z = -1
        · rw [if_pos zm] at h
          have e3 : 1 + yf_eweight v x.toNatClampNeg + yf_sweight v y.toNatClampNeg + 0 = nI (1 + pg_ew P a + pg_sw P b) := by rw [e2]; exact nI_add _ 0
          rw [← e3] at h
          exact br_f (by rw [zm]; decide) (h (by omega))
        · rw [if_neg zm] at h
          rcases g.2.2 with w | w
          · exact absurd w zm
          · obtain ⟨d, hd, ed⟩ := w
            obtain ⟨id, cd⟩ := pu_iv h40 (by omega) hd ed
            rw [cd] at h
            have wd := (ws d hd).2
            have e3 : 1 + yf_eweight v x.toNatClampNeg + yf_sweight v y.toNatClampNeg + yf_sweight v z.toNatClampNeg = nI (1 + pg_ew P a + pg_sw P b + pg_sw P d) := by rw [e2, cd, (ws d hd).1, nI_add]
            rw [← e3] at h
            exact br_t (by rw [ed]; exact nI_pos' (by omega)) ⟨id, h (by omega)⟩
      · refine br_f (xv_kn (c := 2) hk (by omega) k2) ?_
        by_cases k3 : k = 3
        · rw [if_neg (by omega), if_neg k0, if_neg k1, if_neg (by omega), if_neg (by omega), if_pos k3] at h
          have g := hg.2.2.2.2.2.1 k3
          obtain ⟨a, ha, ea⟩ := g.1
          obtain ⟨b, hb, eb⟩ := g.2
          obtain ⟨ia, ca⟩ := pu_iv h50 (by omega) ha ea
          obtain ⟨ib, cb⟩ := pu_iv h40 (by omega) hb eb
          rw [ca, cb] at h
          have wa := (we a ha).2
          have wb := (ws b hb).2
          have e2 : 1 + yf_eweight v x.toNatClampNeg + yf_sweight v y.toNatClampNeg = nI (1 + pg_ew P a + pg_sw P b) := by rw [ca, cb, (we a ha).1, (ws b hb).1, ← nI_add, ← nI_add]; rfl
          rw [← e2] at h
          exact br_t (by rw [k3]; rfl) ⟨ia, ib, h (by omega)⟩
        · refine br_f (xv_kn (c := 3) hk (by omega) k3) ?_
          by_cases k4 : k = 4
          · rw [if_neg (by omega), if_neg k0, if_neg k1, if_neg (by omega), if_pos k4] at h
            obtain ⟨a, ha, ea⟩ := hg.2.2.2.2.2.2.1 k4
            obtain ⟨ia, ca⟩ := pu_iv h50 (by omega) ha ea
            rw [ca] at h
            have wa := (we a ha).2
            have e1 : 1 + yf_eweight v x.toNatClampNeg = nI (1 + pg_ew P a) := by rw [ca, (we a ha).1]; exact nI_add 1 _
            rw [← e1] at h
            exact br_t (by rw [k4]; rfl) ⟨ia, h (by omega)⟩
          · refine br_f (xv_kn (c := 4) hk (by omega) k4) ?_
            by_cases k6 : k = 6
            · rw [if_pos k6] at h
              exact br_t (by rw [k6]; rfl) (h (by omega))
            · refine br_f (xv_kn (c := 6) hk (by omega) k6) ?_
              have k5 : k = 5 := by omega
              rw [if_neg k6, if_neg k0, if_neg k1, if_pos k5] at h
              have g := hg.2.2.2.2.2.2.2 k5
              obtain ⟨c, hc, ec⟩ := g.1
              subst ec
              have ecl : (nI c).toNatClampNeg = c := nI_clamp (by omega)
              rw [ecl] at g h
              have hp := pg_np0 hW hc
              have second : ∀ (n : Nat) (z0 : Int32), n ≤ 16 → z0 = nI n → ((1 + n + if pg_md P c 1 = 0 then 0 else pg_ew P z.toNatClampNeg) ≤ 100 → post (nI (1 + n + if pg_md P c 1 = 0 then 0 else pg_ew P z.toNatClampNeg))) → wY_weigh_134 post (nI c) z z0 1 v.1 v.2.1 v.2.2.1 v.2.2.2.1 v.2.2.2.2.1 v.2.2.2.2.2.1 v.2.2.2.2.2.2.1 v.2.2.2.2.2.2.2.1 v.2.2.2.2.2.2.2.2.1 v.2.2.2.2.2.2.2.2.2.1 v.2.2.2.2.2.2.2.2.2.2.1 v.2.2.2.2.2.2.2.2.2.2.2.1 v.2.2.2.2.2.2.2.2.2.2.2.2.1 v.2.2.2.2.2.2.2.2.2.2.2.2.2.1 v.2.2.2.2.2.2.2.2.2.2.2.2.2.2.1 v.2.2.2.2.2.2.2.2.2.2.2.2.2.2.2.1 v.2.2.2.2.2.2.2.2.2.2.2.2.2.2.2.2.1 v.2.2.2.2.2.2.2.2.2.2.2.2.2.2.2.2.2.1 v.2.2.2.2.2.2.2.2.2.2.2.2.2.2.2.2.2.2.1 v.2.2.2.2.2.2.2.2.2.2.2.2.2.2.2.2.2.2.2.1 v.2.2.2.2.2.2.2.2.2.2.2.2.2.2.2.2.2.2.2.2.1 v.2.2.2.2.2.2.2.2.2.2.2.2.2.2.2.2.2.2.2.2.2.1 v.2.2.2.2.2.2.2.2.2.2.2.2.2.2.2.2.2.2.2.2.2.2.1 v.2.2.2.2.2.2.2.2.2.2.2.2.2.2.2.2.2.2.2.2.2.2.2.1 v.2.2.2.2.2.2.2.2.2.2.2.2.2.2.2.2.2.2.2.2.2.2.2.2.1 v.2.2.2.2.2.2.2.2.2.2.2.2.2.2.2.2.2.2.2.2.2.2.2.2.2.1 v.2.2.2.2.2.2.2.2.2.2.2.2.2.2.2.2.2.2.2.2.2.2.2.2.2.2.1 v.2.2.2.2.2.2.2.2.2.2.2.2.2.2.2.2.2.2.2.2.2.2.2.2.2.2.2.1 v.2.2.2.2.2.2.2.2.2.2.2.2.2.2.2.2.2.2.2.2.2.2.2.2.2.2.2.2.1 v.2.2.2.2.2.2.2.2.2.2.2.2.2.2.2.2.2.2.2.2.2.2.2.2.2.2.2.2.2.1 v.2.2.2.2.2.2.2.2.2.2.2.2.2.2.2.2.2.2.2.2.2.2.2.2.2.2.2.2.2.2.1 v.2.2.2.2.2.2.2.2.2.2.2.2.2.2.2.2.2.2.2.2.2.2.2.2.2.2.2.2.2.2.2.1 v.2.2.2.2.2.2.2.2.2.2.2.2.2.2.2.2.2.2.2.2.2.2.2.2.2.2.2.2.2.2.2.2.1 v.2.2.2.2.2.2.2.2.2.2.2.2.2.2.2.2.2.2.2.2.2.2.2.2.2.2.2.2.2.2.2.2.2 := by
                intro n z0 hn hz h
                subst hz
                refine yn_par (u := v) hm hW hc ?_
                by_cases d1 : pg_md P c 1 = 0
                · rw [if_pos d1] at h
                  have e : 1 + nI n + 0 = nI (1 + n + 0) := by rw [← nI_add, ← nI_add]; rfl
                  rw [← e] at h
                  exact br_t (nI_le (b := 1) (hp.2.2.1 d1) (by omega)) (h (by omega))
                · rw [if_neg d1] at h
                  obtain ⟨b, hb, eb⟩ := g.2.2 d1
                  obtain ⟨ib, cb⟩ := pu_iv h50 (by omega) hb eb
                  rw [cb] at h
                  have e : 1 + nI n + yf_eweight v z.toNatClampNeg = nI (1 + n + pg_ew P b) := by rw [cb, (we b hb).1, ← nI_add, ← nI_add]; rfl
                  rw [← e] at h
                  exact br_f (nI_ge (a := 1) (by have := hp.2.2.2.1 d1; omega) (by omega)) ⟨ib, h (by have := (we b hb).2; omega)⟩
              refine yn_par (u := v) hm hW hc ?_
              by_cases d0 : pg_md P c 0 = 0
              · rw [if_pos d0] at h
                exact br_t (by rw [hp.1 d0]; decide) (second 0 0 (by omega) rfl h)
              · rw [if_neg d0] at h
                obtain ⟨b, hb, eb⟩ := g.2.1 d0
                obtain ⟨ib, cb⟩ := pu_iv h50 (by omega) hb eb
                rw [cb] at h
                have e : yf_eweight v y.toNatClampNeg = nI (pg_ew P b) := by rw [cb, (we b hb).1]
                exact br_f (nI_nle (by have := hp.2.1 d0; omega) (by have := hp.2.2.2.2.1; omega)) ⟨ib, second (pg_ew P b) _ (we b hb).2 e h⟩
end
end
section
/-! state: the walks and the relation -/
theorem xm_state {u : SX} {P : pg_P} {np ne ns : Nat} {v1 x y z : Int32} {post : Int32 → SX → Prop} (hX : rl_X u P np ne ns) (hW : pg_W P np ne ns) (hF : ns = 40 → post (-100001) u) (hB : ns < 40 → (∀ k, ¬ ps_ok P np ne ns v1 x y z k) → post (-100000) u)
    (hO : ∀ k, ns < 40 → ps_ok P np ne ns v1 x y z k → 16 < ps_w P x y z k → post (-100001) u)
    (hG : ∀ k, ns < 40 → ps_ok P np ne ns v1 x y z k → ps_w P x y z k ≤ 16 → post (xf_stateCount u) (zx_s u (nI (ns + 1)) (upd (xf_stateKind u) ns (nI k)) (upd (xf_stateX u) ns x.toInt8.toInt32) (upd (xf_stateY u) ns y.toInt8.toInt32) (upd (xf_stateZ u) ns z.toInt8.toInt32) (upd (xf_stateWeight u) ns (nI (ps_w P x y z k))))) :
    wpX_state post u v1 x y z := by
  have hc := hX.1.2.2.1
  have h40 := hW.2.2.1
  by_cases n5 : ns = 40
  · exact br_f (show ¬ xf_stateCount u < 40 by rw [hc, n5]; decide) (hF n5)
  · have hn : ns < 40 := by omega
    refine br_t (show xf_stateCount u < 40 by rw [hc]; exact nI_lt (b := 40) hn (by omega)) ?_
    refine br_c (fun h => hB hn (fun k z => ?_)) (fun h => br_c (fun h2 => hB hn (fun k z => ?_)) (fun h2 => ?_))
    · rw [z.1] at h
      exact nI_pos (by have := z.2.1; omega) h
    · rw [z.1] at h2
      exact nI_nlt (a := 6) (b := k) z.2.1 (by omega) h2
    · obtain ⟨k, hk, e⟩ := iv_le (n := 6) (by omega) h2 h
      subst e
      refine xu_fit (u := u) hX hW (by omega) (fun ok => br_f (by decide) ?_) (fun ok => br_t rfl (hB hn (fun k' q => ?_)))
      · refine xu_wt (u := u) hX hW ok (fun w100 => ?_)
        have g1 := hO k hn ok
        have g2 := hG k hn ok
        generalize ps_w P x y z k = n at w100 g1 g2 ⊢
        by_cases h16 : n ≤ 16
        · have iv : vp_in (xf_stateCount u) 40 := by rw [hc]; exact vp_in_nI (by omega) (by omega)
          have e1 : xf_stateCount u + 1 = nI (ns + 1) := by rw [hc, nI_1]
          have a1 : upd (xf_stateKind u) (xf_stateCount u).toNatClampNeg (vp_nar .byte (nI k).toInt8.toInt32) = upd (xf_stateKind u) ns (nI k) := by rw [nw_b (by omega), hc, nI_clamp (by omega)]
          have a2 : upd (xf_stateX u) (xf_stateCount u).toNatClampNeg (vp_nar .byte x.toInt8.toInt32) = upd (xf_stateX u) ns x.toInt8.toInt32 := by rw [pk_vb, hc, nI_clamp (by omega)]
          have a3 : upd (xf_stateY u) (xf_stateCount u).toNatClampNeg (vp_nar .byte y.toInt8.toInt32) = upd (xf_stateY u) ns y.toInt8.toInt32 := by rw [pk_vb, hc, nI_clamp (by omega)]
          have a4 : upd (xf_stateZ u) (xf_stateCount u).toNatClampNeg (vp_nar .byte z.toInt8.toInt32) = upd (xf_stateZ u) ns z.toInt8.toInt32 := by rw [pk_vb, hc, nI_clamp (by omega)]
          have a5 : upd (xf_stateWeight u) (xf_stateCount u).toNatClampNeg (vp_nar .byte (nI n).toInt8.toInt32) = upd (xf_stateWeight u) ns (nI n) := by rw [nw_b (by omega), hc, nI_clamp (by omega)]
          exact br_t (nI_le (b := 16) h16 (by omega)) (nm_r e1 ⟨iv, nm_r a1 ⟨iv, nm_r a2 ⟨iv, nm_r a3 ⟨iv, nm_r a4 ⟨iv, nm_r a5 (g2 h16)⟩⟩⟩⟩⟩)
        · exact br_f (nI_ge (a := 16) (by omega) (by omega)) (g1 (by omega))
      · have e := ps_k (by omega) q
        subst e
        exact ok q
theorem ym_state {v : SY} {P : pg_P} {np ne ns : Nat} {v1 x y z : Int32} {post : Int32 → SY → Prop} (hY : rl_Y v P np ne ns) (hW : pg_W P np ne ns) (hF : ns = 40 → post (-100001) v) (hB : ns < 40 → (∀ k, ¬ ps_ok P np ne ns v1 x y z k) → post (-100000) v)
    (hO : ∀ k, ns < 40 → ps_ok P np ne ns v1 x y z k → 16 < ps_w P x y z k → post (-100001) v)
    (hG : ∀ k, ns < 40 → ps_ok P np ne ns v1 x y z k → ps_w P x y z k ≤ 16 → post (nI ns) (zy_s v (nI (ns + 1)) (upd (yf_skind v) ns (nI k)) (upd (yf_sx v) ns x) (upd (yf_sy v) ns y) (upd (yf_sz v) ns z) (upd (yf_sweight v) ns (nI (ps_w P x y z k))))) :
    wpY_state post v v1 x y z := by
  have hc := hY.2.2.2
  have h40 := hW.2.2.1
  by_cases n5 : ns = 40
  · exact br_t (show yf_statements v = 40 by rw [hc, n5]; rfl) (hF n5)
  · have hn : ns < 40 := by omega
    refine br_f (show ¬ yf_statements v = 40 by rw [hc]; exact fun z => n5 ((nI_eq (b := 40) (by omega) (by omega)).mp z)) ?_
    by_cases hv : ∃ k : Nat, k ≤ 6 ∧ v1 = nI k
    · obtain ⟨k, hk, e⟩ := hv
      subst e
      refine yu_fit (v := v) hY hW hk (fun ok => br_f (by decide) ?_) (fun ok => br_t rfl (hB hn (fun k' q => ?_)))
      · refine yu_wt (v := v) hY hW ok (fun w100 => ?_)
        have g1 := hO k hn ok
        have g2 := hG k hn ok
        generalize ps_w P x y z k = n at w100 g1 g2 ⊢
        by_cases h16 : n ≤ 16
        · have iv : vp_in (yf_statements v) 40 := by rw [hc]; exact vp_in_nI (by omega) (by omega)
          have e1 : yf_statements v + 1 = nI (ns + 1) := by rw [hc, nI_1]
          have a1 : upd (yf_skind v) (yf_statements v).toNatClampNeg (nI k) = upd (yf_skind v) ns (nI k) := by rw [hc, nI_clamp (by omega)]
          have a2 : upd (yf_sx v) (yf_statements v).toNatClampNeg x = upd (yf_sx v) ns x := by rw [hc, nI_clamp (by omega)]
          have a3 : upd (yf_sy v) (yf_statements v).toNatClampNeg y = upd (yf_sy v) ns y := by rw [hc, nI_clamp (by omega)]
          have a4 : upd (yf_sz v) (yf_statements v).toNatClampNeg z = upd (yf_sz v) ns z := by rw [hc, nI_clamp (by omega)]
          have a5 : upd (yf_sweight v) (yf_statements v).toNatClampNeg (nI n) = upd (yf_sweight v) ns (nI n) := by rw [hc, nI_clamp (by omega)]
          rw [← nI_pred ns] at g2
          exact br_t (nI_le (b := 16) h16 (by omega)) ⟨iv, nm_r a1 ⟨iv, nm_r a2 ⟨iv, nm_r a3 ⟨iv, nm_r a4 ⟨iv, nm_r a5 (nm_r e1 (g2 h16))⟩⟩⟩⟩⟩
        · exact br_f (nI_ge (a := 16) (by omega) (by omega)) (g1 (by omega))
      · have e := ps_k hk q
        subst e
        exact ok q
    · exact yu_bad (v := v) (fun k hk e => hv ⟨k, hk, e⟩) (br_t rfl (hB hn (fun k q => hv ⟨k, q.2.1, q.1⟩)))
theorem nw_8 {x : Int32} {n : Nat} (hn : n < 128) (h : iv_n x n) : x.toInt8.toInt32 = x ∧ x = nI x.toNatClampNeg ∧ x.toNatClampNeg < n := by
  obtain ⟨a, ha, e⟩ := h
  subst e
  have q := nw_b (c := a) (by omega)
  rw [pk_vb] at q
  rw [nI_clamp (by omega)]
  exact ⟨q, rfl, ha⟩
theorem ps_rel {k np ne ns c : Nat} {u : SX} {v : SY} {P : pg_P} {v1 x y z : Int32} (hW : pg_W P np ne ns) (hX : rl_X u P np ne ns) (hY : rl_Y v P np ne ns) (hC : rl_C P np ns u) (hS : rl_S u v) (hn : ns < 40) (hg : ps_ok P np ne ns v1 x y z c) (h16 : ps_w P x y z c ≤ 16) :
    i_Rel k (zx_s u (nI (ns + 1)) (upd (xf_stateKind u) ns (nI c)) (upd (xf_stateX u) ns x.toInt8.toInt32) (upd (xf_stateY u) ns y.toInt8.toInt32) (upd (xf_stateZ u) ns z.toInt8.toInt32) (upd (xf_stateWeight u) ns (nI (ps_w P x y z c))))
      (zy_s v (nI (ns + 1)) (upd (yf_skind v) ns (nI c)) (upd (yf_sx v) ns x) (upd (yf_sy v) ns y) (upd (yf_sz v) ns z) (upd (yf_sweight v) ns (nI (ps_w P x y z c)))) := by
  have h5 := hW.1
  have h50 := hW.2.1
  have h8 := hg.2.1
  generalize hw : ps_w P x y z c = n at h16 ⊢
  obtain ⟨P', q0, q1, q2, q3, q4, q5, q6, q7, q8, q9, q10, q11⟩ := pg_mk (P 0) (P 1) (P 2) (P 3) (P 4) (P 5) (P 6) (upd (P 7) ns (nI c)) (upd (P 8) ns x) (upd (P 9) ns y) (upd (P 10) ns z) (upd (P 11) ns (nI n))
  have hA : pg_A P P' np ne ns := by
    refine ⟨fun i hi => ?_, fun e he => ?_, fun s hs => ?_⟩
    · rw [q0, q1]; exact ⟨rfl, rfl⟩
    · rw [q3, q4, q5, q6]; exact ⟨rfl, rfl, rfl, rfl⟩
    · rw [q7, q8, q9, q10, q11]; exact ⟨pk_un (by omega), pk_un (by omega), pk_un (by omega), pk_un (by omega), pk_un (by omega)⟩
  have hx : pg_X P P' ne ns := ⟨q0, q1, q2, hA.2.1, hA.2.2⟩
  have n7 : P' 7 ns = nI c := by rw [q7]; exact pk_us
  have n8 : P' 8 ns = x := by rw [q8]; exact pk_us
  have n9 : P' 9 ns = y := by rw [q9]; exact pk_us
  have n10 : P' 10 ns = z := by rw [q10]; exact pk_us
  have n11 : P' 11 ns = nI n := by rw [q11]; exact pk_us
  have ek : pg_sk P' ns = c := by unfold pg_sk; rw [n7]; exact nI_clamp (by omega)
  have ew : pg_sw P' ns = n := by unfold pg_sw; rw [n11]; exact nI_clamp (by omega)
  have ex : pg_sx P' ns = x.toNatClampNeg := by unfold pg_sx; rw [n8]
  have ey : pg_sy P' ns = y.toNatClampNeg := by unfold pg_sy; rw [n9]
  have ez : pg_sz P' ns = z.toNatClampNeg := by unfold pg_sz; rw [n10]
  have hmd : ∀ i k, pg_md P' i k = pg_md P i k := by intro i k; unfold pg_md pg_mo; rw [q1]
  have hew : ∀ i, pg_ew P' i = pg_ew P i := by intro i; unfold pg_ew; rw [q6]
  unfold ps_w at hw
  obtain ⟨⟨y0, y1, y2, y3, y4, y5, y6, y7, y8, y9, y10, y11⟩, z1, z2, z3⟩ := hY
  refine ⟨P', np, ne, ns + 1, ⟨hW.1, hW.2.1, by omega, fun i hi => cw_Wp hA hi (by rw [q2]) (by omega) (hW.2.2.2.1 i hi), fun e he => cw_We hA he (hW.2.2.2.2.1 e he), fun s hs => ?_⟩, ?_, ⟨⟨?_, ?_, ?_, ?_, ?_, ?_, ?_, ?_, ?_, ?_, ?_, ?_⟩, z1, z2, rfl⟩, fun h hp => ?_, hS⟩
  · by_cases zz : s = ns
    · subst zz
      unfold pg_Ws
      rw [ek, ew, ex, ey, ez, n7, n8, n9, n10, n11, hmd, hmd, hew, hew, hew]
      refine ⟨rfl, h8, rfl, ?_, h16, fun k0 => ?_, fun k1 => ?_, fun k2 => ?_, fun k3 => ?_, fun k4 => ?_, fun k5 => ?_⟩
      · rw [← hw]
        by_cases g6 : c = 6
        · rw [if_pos g6]; omega
        · rw [if_neg g6]
          by_cases g0 : c = 0
          · rw [if_pos g0]; omega
          · rw [if_neg g0]
            by_cases g1 : c = 1
            · rw [if_pos g1]; omega
            · rw [if_neg g1]
              by_cases g5 : c = 5
              · rw [if_pos g5]; omega
              · rw [if_neg g5]
                by_cases g4 : c = 4
                · rw [if_pos g4]; omega
                · rw [if_neg g4]
                  by_cases g3 : c = 3
                  · rw [if_pos g3]; omega
                  · rw [if_neg g3]
                    by_cases gz : z = -1
                    · rw [if_pos gz]; omega
                    · rw [if_neg gz]; omega
      · rw [if_neg (by omega), if_pos k0] at hw
        have g := hg.2.2.1 k0
        have a := nw_8 (by omega) g.1
        have b := nw_8 (by omega) g.2
        exact ⟨a.2.1, by omega, b.2.1, b.2.2, hw.symm⟩
      · rw [if_neg (by omega), if_neg (by omega), if_pos k1] at hw
        have g := hg.2.2.2.1 k1
        have a := nw_8 (by omega) g.1
        have b := nw_8 (by omega) g.2
        rw [cw_sw hA a.2.2, cw_sw hA b.2.2]
        exact ⟨a.2.1, a.2.2, b.2.1, b.2.2, hw.symm⟩
      · rw [if_neg (by omega), if_neg (by omega), if_neg (by omega), if_neg (by omega), if_neg (by omega), if_neg (by omega)] at hw
        have g := hg.2.2.2.2.1 k2
        have a := nw_8 (by omega) g.1
        have b := nw_8 (by omega) g.2.1
        rw [cw_sw hA b.2.2]
        refine ⟨a.2.1, a.2.2, b.2.1, b.2.2, ?_⟩
        by_cases zm : z = -1
        · rw [if_pos zm] at hw
          exact Or.inl ⟨zm, hw.symm⟩
        · rw [if_neg zm] at hw
          rcases g.2.2 with w | w
          · exact absurd w zm
          · have d := nw_8 (by omega) w
            rw [cw_sw hA d.2.2]
            exact Or.inr ⟨d.2.1, d.2.2, hw.symm⟩
      · rw [if_neg (by omega), if_neg (by omega), if_neg (by omega), if_neg (by omega), if_neg (by omega), if_pos k3] at hw
        have g := hg.2.2.2.2.2.1 k3
        have a := nw_8 (by omega) g.1
        have b := nw_8 (by omega) g.2
        rw [cw_sw hA b.2.2]
        exact ⟨a.2.1, a.2.2, b.2.1, b.2.2, hw.symm⟩
      · rw [if_neg (by omega), if_neg (by omega), if_neg (by omega), if_neg (by omega), if_pos k4] at hw
        have a := nw_8 (by omega) (hg.2.2.2.2.2.2.1 k4)
        exact ⟨a.2.1, a.2.2, hw.symm⟩
      · rw [if_neg (by omega), if_neg (by omega), if_neg (by omega), if_pos k5] at hw
        have g := hg.2.2.2.2.2.2.2 k5
        have a := nw_8 (by omega) g.1
        refine ⟨a.2.1, a.2.2, fun m => ?_, fun m => ?_, hw.symm⟩
        · have b := nw_8 (by omega) (g.2.1 m)
          exact ⟨b.2.1, b.2.2⟩
        · have b := nw_8 (by omega) (g.2.2 m)
          exact ⟨b.2.1, b.2.2⟩
    · exact cw_Ws hA (by omega) (Nat.le_refl _) (Nat.le_refl _) (hW.2.2.2.2.2 s (by omega))
  · have hq : xq_P (zx_s u (nI (ns + 1)) (upd (xf_stateKind u) ns (nI c)) (upd (xf_stateX u) ns x.toInt8.toInt32) (upd (xf_stateY u) ns y.toInt8.toInt32) (upd (xf_stateZ u) ns z.toInt8.toInt32) (upd (xf_stateWeight u) ns (nI n))) P' np ne ns := by
      refine xq_cg hA hW (xq_of hX) (fun i hi => ⟨rfl, rfl⟩) (fun s hs => ⟨rfl, rfl, rfl, rfl⟩) (fun e he => ⟨?_, ?_, ?_, ?_, ?_⟩)
      · exact pk_un (f := xf_stateKind u) (k := ns) (j := e) (x := nI c) (by omega)
      · exact pk_un (f := xf_stateX u) (k := ns) (j := e) (x := x.toInt8.toInt32) (by omega)
      · exact pk_un (f := xf_stateY u) (k := ns) (j := e) (x := y.toInt8.toInt32) (by omega)
      · exact pk_un (f := xf_stateZ u) (k := ns) (j := e) (x := z.toInt8.toInt32) (by omega)
      · exact pk_un (f := xf_stateWeight u) (k := ns) (j := e) (x := nI n) (by omega)
    refine xq_to ⟨hq.1, hq.2.1, fun s hs => ?_⟩ hX.1.1 hX.1.2.1 rfl (fun i hi => ?_)
    · by_cases zz : s = ns
      · subst zz
        rw [n7, n8, n9, n10, n11, ek, ex, hmd, hmd]
        refine ⟨pk_us, fun k6 => ?_, fun kk => ?_, fun kk => ?_, pk_us⟩
        · refine (pk_us (f := xf_stateX u) (k := s) (x := x.toInt8.toInt32)).trans ?_
          rcases (show c = 0 ∨ c = 1 ∨ c = 2 ∨ c = 3 ∨ c = 4 ∨ c = 5 by omega) with w | w | w | w | w | w
          · exact (nw_8 (by omega) (hg.2.2.1 w).1).1
          · exact (nw_8 (by omega) (hg.2.2.2.1 w).1).1
          · exact (nw_8 (by omega) (hg.2.2.2.2.1 w).1).1
          · exact (nw_8 (by omega) (hg.2.2.2.2.2.1 w).1).1
          · exact (nw_8 (by omega) (hg.2.2.2.2.2.2.1 w)).1
          · exact (nw_8 (by omega) (hg.2.2.2.2.2.2.2 w).1).1
        · refine (pk_us (f := xf_stateY u) (k := s) (x := y.toInt8.toInt32)).trans ?_
          rcases kk with w | w
          · rcases (show c = 0 ∨ c = 1 ∨ c = 2 ∨ c = 3 by omega) with w | w | w | w
            · exact (nw_8 (by omega) (hg.2.2.1 w).2).1
            · exact (nw_8 (by omega) (hg.2.2.2.1 w).2).1
            · exact (nw_8 (by omega) (hg.2.2.2.2.1 w).2.1).1
            · exact (nw_8 (by omega) (hg.2.2.2.2.2.1 w).2).1
          · exact (nw_8 (by omega) ((hg.2.2.2.2.2.2.2 w.1).2.1 w.2)).1
        · refine (pk_us (f := xf_stateZ u) (k := s) (x := z.toInt8.toInt32)).trans ?_
          rcases kk with w | w
          · rcases (hg.2.2.2.2.1 w).2.2 with t | t
            · rw [t]; decide
            · exact (nw_8 (by omega) t).1
          · exact (nw_8 (by omega) ((hg.2.2.2.2.2.2.2 w.1).2.2 w.2)).1
      · exact hq.2.2 s (by omega)
    · rw [q2]; exact hX.1.2.2.2.2.2.1 i hi
  · rw [q0]; exact y0
  · rw [q1]; exact y1
  · rw [q2]; exact y2
  · rw [q3]; exact y3
  · rw [q4]; exact y4
  · rw [q5]; exact y5
  · rw [q6]; exact y6
  · rw [q7, ← y7]
  · rw [q8, ← y8]
  · rw [q9, ← y9]
  · rw [q10, ← y10]
  · rw [q11, ← y11]
  · have cc := hC h hp
    refine ⟨cg_OK hx hW (fun q hq => (cc.2 q hq).2) cc.1, fun q hq => ?_⟩
    rw [cg_bo hx, q2]
    have := (cc.2 q hq).2
    exact ⟨(cc.2 q hq).1, by omega⟩
theorem i_vc_state {k : Nat} {u : SX} {v : SY} (I : i_Rel k u v) (hk : k + 5 ≤ 2560) (v1 : Int32) (v2 : Int32) (v3 : Int32) (v4 : Int32) : wpX_state (fun r u' => wpY_state (fun r' v' => r' = r ∧ i_Rel (k + 5) u' v') v v1 v2 v3 v4) u v1 v2 v3 v4 := by
  have I2 := i_up I
  obtain ⟨P, np, ne, ns, hW, hX, hY, hC, hS⟩ := I
  have hc := hX.1.2.2.1
  have un : ∀ c c', ps_ok P np ne ns v1 v2 v3 v4 c → ps_ok P np ne ns v1 v2 v3 v4 c' → c' = c := by
    intro c c' h h'
    have e := h.1
    subst e
    exact ps_k h.2.1 h'
  refine xm_state hX hW (fun h => ?_) (fun h hb => ?_) (fun c h hg hl => ?_) (fun c h hg hl => ?_)
  · exact ym_state hY hW (fun _ => ⟨rfl, I2⟩) (fun z => by omega) (fun c z => by omega) (fun c z => by omega)
  · exact ym_state hY hW (fun z => by omega) (fun _ _ => ⟨rfl, I2⟩) (fun c _ z => absurd z (hb c)) (fun c _ z => absurd z (hb c))
  · refine ym_state hY hW (fun z => by omega) (fun _ z => absurd hg (z c)) (fun _ _ _ _ => ⟨rfl, I2⟩) (fun c' _ hg' hl' => ?_)
    have e := un c c' hg hg'
    subst e
    omega
  · refine ym_state hY hW (fun z => by omega) (fun _ z => absurd hg (z c)) (fun c' _ hg' hl' => ?_) (fun c' _ hg' hl' => ?_)
    · have e := un c c' hg hg'
      subst e
      omega
    · have e := un c c' hg hg'
      subst e
      exact ⟨hc.symm, ps_rel hW hX hY hC hS h hg hl⟩
end
section
/-! valid and run -/
section
variable {u u1 : SX} {v v1 : SY} {P : pg_P} {np ne ns : Nat}
theorem rl_Yk (h : rl_Y v P np ne ns) (L : Nat → Int32) : rl_Y (zy_k v L) P np ne ns := ⟨⟨h.1.1, h.1.2.1, h.1.2.2.1, h.1.2.2.2.1, h.1.2.2.2.2.1, h.1.2.2.2.2.2.1, h.1.2.2.2.2.2.2.1, h.1.2.2.2.2.2.2.2.1, h.1.2.2.2.2.2.2.2.2.1, h.1.2.2.2.2.2.2.2.2.2.1, h.1.2.2.2.2.2.2.2.2.2.2.1, h.1.2.2.2.2.2.2.2.2.2.2.2⟩, h.2.1, h.2.2.1, h.2.2.2⟩
theorem rl_Sk (h : rl_S u v) (L : Nat → Int32) : rl_S u (zy_k v L) := ⟨h.1, h.2.1, h.2.2.1, h.2.2.2⟩
theorem rl_Xc (h : rl_X u P np ne ns) {a b ce hr sd ed : Int32} {sa sp pt ea ep M : Nat → Int32} : rl_X (zx_c (zx_t u a b) ce hr sd ed sa sp pt ea ep M) P np ne ns := ⟨⟨h.1.1, h.1.2.1, h.1.2.2.1, h.1.2.2.2.1, h.1.2.2.2.2.1, h.1.2.2.2.2.2.1, h.1.2.2.2.2.2.2.1, h.1.2.2.2.2.2.2.2.1, h.1.2.2.2.2.2.2.2.2.1, h.1.2.2.2.2.2.2.2.2.2.1, h.1.2.2.2.2.2.2.2.2.2.2.1, h.1.2.2.2.2.2.2.2.2.2.2.2.1, h.1.2.2.2.2.2.2.2.2.2.2.2.2⟩, h.2.1, h.2.2⟩
theorem rl_Sc (h : rl_S u v) {a b ce hr sd ed : Int32} {sa sp pt ea ep M : Nat → Int32} : rl_S (zx_c (zx_t u a b) ce hr sd ed sa sp pt ea ep M) v := ⟨h.1, h.2.1, h.2.2.1, h.2.2.2⟩
theorem pg_OKc {M0 M : Nat → Int32} (hn : np ≤ 5) (h : pg_OK P np M0) (e : ∀ j, 6 ≤ j → j < 3280 → M j = M0 j) : pg_OK P np M := by
  refine ⟨wl_ext (fun j ha hb => e j (by omega) (by have : pg_s0.length = 12 := rfl; omega)) h.1, wl_ext (fun j ha hb => e j (by omega) (by have : pg_s1.length = 18 := rfl; omega)) h.2.1, fun q hq => ?_⟩
  obtain ⟨a, a1, a2, a3, a4⟩ := h.2.2 q hq
  refine ⟨a, a1, a2, ?_, wl_ext (fun j ha hb => e j (by omega) (by omega)) a4⟩
  rw [ww_r2 (e (32 + 2 * q) (by omega) (by omega)) (e (32 + 2 * q + 1) (by omega) (by omega))]
  exact a3
theorem rl_end {k st na C : Nat} {M R sw O : Nat → Int32} {ia ie il ih ip ir iq l0 l1 l2 na' en' rs' : Int32} {nd' wh' sg' kp' bg' pl' ph' pr' ar' va' og' : Nat → Int32} (hW : pg_W P np ne ns) (hX : rl_X u1 P np ne ns) (hY : rl_Y v1 P np ne ns)
    (hV : ∀ q, q < np → P 2 q = nI (pg_bo P q) ∧ pg_bo P q < ns) (hOK : pg_OK P np (xf_memory u1)) (hM : ra_M (xf_memory u1) M sw 6 st na) :
    i_Rel k (zx_m (zx_f u1 (nI st) (upd (upd (upd (xf_locals u1) 0 l0) 1 l1) 2 l2)) ia ie il ih ip ir iq (nI C) M R O) (zy_l (zy_m v1 na' en' rs' (nI st) (nI C) nd' wh' sg' kp' bg' pl' ph' pr' ar' va' og' O) (upd (upd (upd (yf_last v1) 0 l0) 1 l1) 2 l2)) := by
  refine ⟨P, np, ne, ns, hW, ⟨⟨hX.1.1, hX.1.2.1, hX.1.2.2.1, hX.1.2.2.2.1, hX.1.2.2.2.2.1, hX.1.2.2.2.2.2.1, hX.1.2.2.2.2.2.2.1, hX.1.2.2.2.2.2.2.2.1, hX.1.2.2.2.2.2.2.2.2.1, hX.1.2.2.2.2.2.2.2.2.2.1, hX.1.2.2.2.2.2.2.2.2.2.2.1, hX.1.2.2.2.2.2.2.2.2.2.2.2.1, hX.1.2.2.2.2.2.2.2.2.2.2.2.2⟩, hX.2.1, hX.2.2⟩, ⟨⟨hY.1.1, hY.1.2.1, hY.1.2.2.1, hY.1.2.2.2.1, hY.1.2.2.2.2.1, hY.1.2.2.2.2.2.1, hY.1.2.2.2.2.2.2.1, hY.1.2.2.2.2.2.2.2.1, hY.1.2.2.2.2.2.2.2.2.1, hY.1.2.2.2.2.2.2.2.2.2.1, hY.1.2.2.2.2.2.2.2.2.2.2.1, hY.1.2.2.2.2.2.2.2.2.2.2.2⟩, hY.2.1, hY.2.2.1, hY.2.2.2⟩, fun _ _ => ⟨pg_OKc hW.1 hOK hM.1, hV⟩, rfl, rfl, rfl, fun i hi => ?_⟩
  show upd (upd (upd (xf_locals u1) 0 l0) 1 l1) 2 l2 i = upd (upd (upd (yf_last v1) 0 l0) 1 l1) 2 l2 i
  rcases (show i = 0 ∨ i = 1 ∨ i = 2 by omega) with z | z | z <;> subst z <;> rfl
theorem xrun_go {post : Int32 → SX → Prop} (hv : ∀ K : Int32 → Prop, K 1 → wpX_valid K u) (hc : ¬ xf_changed u = 0) (mc : ∀ Q : SX → Prop, Q u1 → wpX_compile Q u) (h : xg_W post u1) : wpX_run post u := by
  unfold wpX_run
  exact hv _ (br_f (by decide) (br_f hc (mc _ h)))
theorem xrun_old {post : Int32 → SX → Prop} (hv : ∀ K : Int32 → Prop, K 1 → wpX_valid K u) (hc : xf_changed u = 0) (h : xg_W post u) : wpX_run post u := by
  unfold wpX_run
  exact hv _ (br_f (by decide) (br_t hc h))
theorem xrun_bad {post : Int32 → SX → Prop} (hv : ∀ K : Int32 → Prop, K 0 → wpX_valid K u) (h : post (-100002) u) : wpX_run post u := by
  unfold wpX_run
  exact hv _ (br_t rfl h)
theorem rl_main {k : Nat} (hW : pg_W P np ne ns) (hn : 0 < np) (hV : ∀ q, q < np → P 2 q = nI (pg_bo P q) ∧ pg_bo P q < ns ∧ pg_FS P np q (pg_bo P q)) (hyv : ∀ K : Int32 → SY → Prop, K 1 v1 → wpY_valid K v)
    (hX : rl_X u1 P np ne ns) (hY : rl_Y v1 P np ne ns) (hOK : pg_OK P np (xf_memory u1)) (hS : rl_S u1 v1) : xg_W (fun r u' => wpY_run (fun r' v' => r' = r ∧ i_Rel k u' v') v) u1 := by
  obtain ⟨rc, st, C, sw, O', l0, l1, l2, na', en', rs', nd', wh', sg', kp', bg', pl', ph', pr', ar', va', og', mx, my⟩ := jr_all hOK hW hY.1 hV hn hS.2.2.1
  refine mx _ (fun M R ia ie il ip ir iq na hM hR => ?_)
  have hb : yf_bodies v1 0 = nI (pg_bo P 0) := by rw [hY.1.2.2.1]; exact (hV 0 hn).1
  exact yrun_go hyv hb (my _ ⟨rfl, rl_end hW hX hY (fun q hq => ⟨(hV q hq).1, (hV q hq).2.1⟩) hOK hM⟩)
end
theorem i_vc_valid {k : Nat} {u : SX} {v : SY} (I : i_Rel k u v) (hk : k + 5 ≤ 2560) : wpX_valid (fun r => wpY_valid (fun r' v' => r' = r ∧ i_Rel (k + 5) u v') v) u := by
  obtain ⟨P, np, ne, ns, hW, hX, hY, hC, hS⟩ := I
  obtain ⟨L, m⟩ := yv_valid hW hY.1 hY.2.1 hY.2.2.1 hY.2.2.2
  have R : i_Rel (k + 5) u (zy_k v L) := ⟨P, np, ne, ns, hW, hX, rl_Yk hY L, hC, rl_Sk hS L⟩
  exact xv_valid hX.1 hW (fun hn hv => m _ (fun _ _ => ⟨rfl, R⟩) (fun z => absurd ⟨hn, hv⟩ z)) (fun hb => m _ (fun hn hv => absurd ⟨hn, hv⟩ hb) (fun _ => ⟨rfl, R⟩))
theorem i_vc_run {k : Nat} {u : SX} {v : SY} (I : i_Rel k u v) (hk : k + 5 ≤ 2560) : wpX_run (fun r u' => wpY_run (fun r' v' => r' = r ∧ i_Rel (k + 5) u' v') v) u := by
  obtain ⟨P, np, ne, ns, hW, hX, hY, hC, hS⟩ := I
  obtain ⟨L, m⟩ := yv_valid hW hY.1 hY.2.1 hY.2.2.1 hY.2.2.2
  have hY1 := rl_Yk hY L
  have hS1 := rl_Sk hS L
  generalize zy_k v L = v1 at m hY1 hS1
  by_cases hb : 0 < np ∧ pg_V P np ns 0
  · have hV : ∀ q, q < np → P 2 q = nI (pg_bo P q) ∧ pg_bo P q < ns ∧ pg_FS P np q (pg_bo P q) := fun q hq => hb.2 q (Nat.zero_le q) hq
    have hxv : ∀ K : Int32 → Prop, K 1 → wpX_valid K u := fun K h => xv_valid hX.1 hW (fun _ _ => h) (fun z => absurd hb z)
    have hyv : ∀ K : Int32 → SY → Prop, K 1 v1 → wpY_valid K v := fun K h => m K (fun _ _ => h) (fun z => absurd hb z)
    by_cases hc : xf_changed u = 0
    · exact xrun_old hxv hc (rl_main hW hb.1 hV hyv hX hY1 (hC hc hb.1).1 hS1)
    · obtain ⟨c', hr', sd', ed', sa', sp', pt', ea', ep', M', hOK, mc⟩ := cc_compile hX.1 hW hV
      have hX1 := rl_Xc (a := 0) (b := nI 76) (ce := nI c') (hr := hr') (sd := sd') (ed := ed') (sa := sa') (sp := sp') (pt := pt') (ea := ea') (ep := ep') (M := M') hX
      have hS2 := rl_Sc (a := 0) (b := nI 76) (ce := nI c') (hr := hr') (sd := sd') (ed := ed') (sa := sa') (sp := sp') (pt := pt') (ea := ea') (ep := ep') (M := M') hS1
      have hM : xf_memory (zx_c (zx_t u 0 (nI 76)) (nI c') hr' sd' ed' sa' sp' pt' ea' ep' M') = M' := rfl
      rw [← hM] at hOK
      generalize zx_c (zx_t u 0 (nI 76)) (nI c') hr' sd' ed' sa' sp' pt' ea' ep' M' = u1 at hX1 hS2 hOK mc
      exact xrun_go hxv hc mc (rl_main hW hb.1 hV hyv hX1 hY1 hOK hS2)
  · have hxv : ∀ K : Int32 → Prop, K 0 → wpX_valid K u := fun K h => xv_valid hX.1 hW (fun a b => absurd ⟨a, b⟩ hb) (fun _ => h)
    have hyv : ∀ K : Int32 → SY → Prop, K 0 v1 → wpY_valid K v := fun K h => m K (fun a b => absurd ⟨a, b⟩ hb) (fun _ => h)
    exact xrun_bad hxv (yrun_bad hyv ⟨rfl, P, np, ne, ns, hW, hX, hY1, hC, hS1⟩)
end
