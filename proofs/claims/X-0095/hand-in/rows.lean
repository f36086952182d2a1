section
/-! pure rows to paste: stores, nI and lN arithmetic, masks, shifts, narrowing, branches by naturals (pk_le, pk_lt, pk_eq), loops (lp1 .. lp16: the measure of the state; rp1 ..: recursion), negatives. Take what you need -/
theorem pk_us {f : Nat → Int32} {k : Nat} {x : Int32} : upd f k x k = x := if_pos rfl
theorem pk_un {f : Nat → Int32} {k j : Nat} {x : Int32} (h : j ≠ k) : upd f k x j = f j := if_neg h
theorem pk_uLs {f : Nat → Int64} {k : Nat} {x : Int64} : vp_updL f k x k = x := if_pos rfl
theorem pk_uLn {f : Nat → Int64} {k j : Nat} {x : Int64} (h : j ≠ k) : vp_updL f k x j = f j := if_neg h
theorem pk_sub {a b : Nat} (h : b ≤ a) : nI a - nI b = nI (a - b) := by
  obtain ⟨c, rfl⟩ : ∃ c, a = c + b := ⟨a - b, by omega⟩
  rw [← nI_add, Int32.add_sub_cancel, Nat.add_sub_cancel]
theorem pk_m1 (n : Nat) : nI (n + 1) + (-1) = nI n := by
  rw [← nI_1, Int32.add_assoc, show (1 : Int32) + (-1) = 0 from rfl, Int32.add_zero]
theorem pk_mul (a b : Nat) : nI a * nI b = nI (a * b) := (Int32.ofNat_mul a b).symm
theorem pk_div {a d : Nat} (ha : a < 2 ^ 31) (h0 : 0 < d) (hd : d < 2 ^ 31) : nI a / nI d = nI (a / d) := by
  apply Int32.toInt_inj.mp
  rw [lg_idiv_nonneg (by rw [nI_toInt ha]; omega) (by rw [nI_toInt hd]; omega), nI_toInt ha, nI_toInt hd, nI_toInt (Nat.lt_of_le_of_lt (Nat.div_le_self a d) ha)]
  first | rfl | exact (Int.natCast_ediv _ _).symm
theorem pk_rem {a d : Nat} (ha : a < 2 ^ 31) (h0 : 0 < d) (hd : d < 2 ^ 31) : nI a - nI a / nI d * nI d = nI (a % d) := by
  rw [pk_div ha h0 hd, pk_mul, pk_sub (Nat.div_mul_le_self a d)]
  exact congrArg nI (by have := Nat.div_add_mod' a d; omega)
theorem pk_sub_toInt {a b : Nat} (ha : a < 2 ^ 30) (hb : b < 2 ^ 30) : (nI a - nI b).toInt = (a : Int) - b := by
  rw [Int32.toInt_sub, nI_toInt (by omega), nI_toInt (by omega)]
  exact Int.bmod_eq_of_le (by omega) (by omega)
theorem pk_sneg {a b : Nat} (hb : b < 2 ^ 30) (h : a < b) : nI a - nI b < 0 := by
  rw [Int32.lt_iff_toInt_lt, pk_sub_toInt (by omega) hb, show (0 : Int32).toInt = 0 from by decide]
  omega
theorem pk_ix (x : Int32) {n : Nat} (hn : n < 2 ^ 31) : x < 0 ∨ nI n ≤ x ∨ ∃ j : Nat, j < n ∧ x = nI j := by
  by_cases h : x < 0
  · exact Or.inl h
  · obtain ⟨j, hj, rfl⟩ := nI_of h
    by_cases h2 : j < n
    · exact Or.inr (Or.inr ⟨j, h2, rfl⟩)
    · exact Or.inr (Or.inl (nI_le (by omega) hj))
theorem pk_le {x y : Int32} {A B : Prop} (a b : Nat) (f : a ≤ b → A) (g : b < a → B) (hx : x = nI a := by rfl) (hy : y = nI b := by rfl) (ha : a < 2 ^ 31 := by omega) (hb : b < 2 ^ 31 := by omega) : (x ≤ y → A) ∧ (¬ x ≤ y → B) := by
  subst hx hy
  rw [nI_leI ha hb]
  exact ⟨f, fun z => g (by omega)⟩
theorem pk_lt {x y : Int32} {A B : Prop} (a b : Nat) (f : a < b → A) (g : b ≤ a → B) (hx : x = nI a := by rfl) (hy : y = nI b := by rfl) (ha : a < 2 ^ 31 := by omega) (hb : b < 2 ^ 31 := by omega) : (x < y → A) ∧ (¬ x < y → B) := by
  subst hx hy
  rw [nI_ltI ha hb]
  exact ⟨f, fun z => g (by omega)⟩
theorem pk_eq {x y : Int32} {A B : Prop} (a b : Nat) (f : a = b → A) (g : a ≠ b → B) (hx : x = nI a := by rfl) (hy : y = nI b := by rfl) (ha : a < 2 ^ 31 := by omega) (hb : b < 2 ^ 31 := by omega) : (x = y → A) ∧ (¬ x = y → B) := by
  subst hx hy
  rw [nI_eq ha hb]
  exact ⟨f, g⟩
theorem pk_in {x : Int32} (n N : Nat) (h : n < N) (hx : x = nI n := by rfl) (hN : N < 2 ^ 31 := by omega) : vp_in x N := by
  subst hx
  exact vp_in_nI h hN
theorem pk_cl {x : Int32} (n : Nat) (hx : x = nI n := by rfl) (h : n < 2 ^ 31 := by omega) : x.toNatClampNeg = n := by
  subst hx
  exact nI_clamp h
theorem pk_tn {n : Nat} (h : n < 2 ^ 32) : (nI n).toBitVec.toNat = n := Nat.mod_eq_of_lt h
theorem pk_and (x : Int32) {m : Int32} (k : Nat) (hm : m.toBitVec.toNat = 2 ^ k - 1) : x &&& m = nI (x.toBitVec.toNat % 2 ^ k) := by
  apply Int32.toBitVec_inj.mp
  apply BitVec.eq_of_toNat_eq
  rw [Int32.toBitVec_and, BitVec.toNat_and, hm, Nat.and_two_pow_sub_one_eq_mod]
  show _ = (BitVec.ofNat 32 _).toNat
  rw [BitVec.toNat_ofNat]
  exact (Nat.mod_eq_of_lt (Nat.lt_of_le_of_lt (Nat.mod_le _ _) x.toBitVec.isLt)).symm
theorem pk_andN {n : Nat} (h : n < 2 ^ 32) {m : Int32} (k : Nat) (hm : m.toBitVec.toNat = 2 ^ k - 1) : nI n &&& m = nI (n % 2 ^ k) := by
  rw [pk_and _ k hm, pk_tn h]
theorem pk_andE (x : Int32) {m : Int32} (k : Nat) (hm : m.toBitVec.toNat = 2 ^ k - 1) : ∃ j : Nat, j < 2 ^ k ∧ x &&& m = nI j := ⟨_, Nat.mod_lt _ (Nat.two_pow_pos k), pk_and x k hm⟩
theorem pk_andIn (x : Int32) {m : Int32} (k : Nat) (hm : m.toBitVec.toNat = 2 ^ k - 1) (hk : k ≤ 30) : vp_in (x &&& m) (2 ^ k) := by
  obtain ⟨j, hj, e⟩ := pk_andE x k hm
  rw [e]
  exact vp_in_nI hj (Nat.lt_of_le_of_lt (Nat.pow_le_pow_right (by decide) hk) (by decide))
theorem pk_shl (a s : Int32) (k : Nat) (hs : (s.toBitVec.smod 32).toNat = k) : (a <<< s).toBitVec.toNat = a.toBitVec.toNat * 2 ^ k % 2 ^ 32 := by
  show (a.toBitVec <<< (s.toBitVec.smod 32).toNat).toNat = _
  rw [hs, BitVec.toNat_shiftLeft, Nat.shiftLeft_eq]
theorem pk_shlN {n : Nat} (s : Int32) (k : Nat) (hs : (s.toBitVec.smod 32).toNat = k) (h : n * 2 ^ k < 2 ^ 32) : nI n <<< s = nI (n * 2 ^ k) := by
  apply Int32.toBitVec_inj.mp
  apply BitVec.eq_of_toNat_eq
  have hn : n < 2 ^ 32 := Nat.lt_of_le_of_lt (Nat.le_mul_of_pos_right n (Nat.two_pow_pos k)) h
  rw [pk_shl _ _ k hs, pk_tn hn, pk_tn h, Nat.mod_eq_of_lt h]
theorem pk_shr (a s : Int32) (k : Nat) (hs : (s.toBitVec.smod 32).toNat = k) : (a >>> s).toInt = a.toInt >>> k := by
  show (a.toBitVec.sshiftRight (s.toBitVec.smod 32).toNat).toInt = _
  rw [hs, BitVec.toInt_sshiftRight]
  rfl
theorem pk_shrN {n : Nat} (h : n < 2 ^ 31) (s : Int32) (k : Nat) (hs : (s.toBitVec.smod 32).toNat = k) : nI n >>> s = nI (n / 2 ^ k) := by
  apply Int32.toInt_inj.mp
  have h2 : n / 2 ^ k ≤ n := Nat.div_le_self _ _
  rw [pk_shr _ _ k hs, nI_toInt h, nI_toInt (by omega), Int.shiftRight_eq_div_pow]
  rfl
theorem pk_ushr (x s : Int32) (k : Nat) (hs : ((s.toUInt32 &&& Int32.toUInt32 31).toBitVec % 32).toNat = k) : (x.toUInt32 >>> (s.toUInt32 &&& Int32.toUInt32 31)).toInt32.toBitVec.toNat = x.toBitVec.toNat / 2 ^ k := by
  have e : (x.toUInt32 >>> (s.toUInt32 &&& Int32.toUInt32 31)).toInt32.toBitVec = x.toBitVec >>> k := by
    rw [← hs]
    exact UInt32.toBitVec_shiftRight _ _
  rw [e, BitVec.toNat_ushiftRight, Nat.shiftRight_eq_div_pow]
theorem pk_ushrN {n : Nat} (hn : n < 2 ^ 32) (s : Int32) (k : Nat) (hs : ((s.toUInt32 &&& Int32.toUInt32 31).toBitVec % 32).toNat = k) : ((nI n).toUInt32 >>> (s.toUInt32 &&& Int32.toUInt32 31)).toInt32 = nI (n / 2 ^ k) := by
  apply Int32.toBitVec_inj.mp
  apply BitVec.eq_of_toNat_eq
  rw [pk_ushr _ s k hs, pk_tn hn, pk_tn (Nat.lt_of_le_of_lt (Nat.div_le_self _ _) hn)]
theorem pk_nb (z : Int32) : narrow .byte (.int z.toInt8.toInt32) = .int z.toInt8.toInt32 := congrArg Value.int (by simp)
theorem pk_ns (z : Int32) : narrow .short (.int z.toInt16.toInt32) = .int z.toInt16.toInt32 := congrArg Value.int (by simp)
theorem pk_fb (r : Int32) : fits .byte (.int r.toInt8.toInt32) = true := by
  have ⟨a, b⟩ := lg_i2b_range r
  have h1 : (-128 : Int32).toInt = -128 := by decide
  have h2 : (127 : Int32).toInt = 127 := by decide
  simp only [fits, Bool.and_eq_true, decide_eq_true_eq, Int32.le_iff_toInt_le, h1, h2]
  omega
theorem pk_fs (r : Int32) : fits .short (.int r.toInt16.toInt32) = true := by
  have ⟨a, b⟩ := lg_i2s_range r
  have h1 : (-32768 : Int32).toInt = -32768 := by decide
  have h2 : (32767 : Int32).toInt = 32767 := by decide
  simp only [fits, Bool.and_eq_true, decide_eq_true_eq, Int32.le_iff_toInt_le, h1, h2]
  omega
theorem pk_charN {q : Nat} (hq : q < 65536) : narrow .char (.int (nI q)) = .int (nI q) ∧ fits .char (.int (nI q)) = true := by
  constructor
  · have e : (nI q).toUInt32.toUInt16.toUInt32.toInt32 = nI q := by
      apply Int32.toBitVec_inj.mp
      apply BitVec.eq_of_toNat_eq
      show (nI q).toUInt32.toUInt16.toUInt32.toNat = q % 2 ^ 32
      rw [UInt16.toNat_toUInt32, UInt32.toNat_toUInt16, show (nI q).toUInt32.toNat = q % 2 ^ 32 from rfl]
      omega
    exact congrArg Value.int e
  · have a : (0 : Int32) ≤ nI q := nI_pos' (by omega)
    have b : nI q ≤ 65535 := nI_le (b := 65535) (by omega) (by decide)
    show (decide ((0 : Int32) ≤ nI q) && decide (nI q ≤ 65535)) = true
    rw [decide_eq_true a, decide_eq_true b]
    rfl
theorem pk_char (x : Int32) : (x.toUInt32 % 65536).toInt32 = nI (x.toBitVec.toNat % 65536) := by
  apply Int32.toBitVec_inj.mp
  apply BitVec.eq_of_toNat_eq
  rw [pk_tn (by omega)]
  show (x.toUInt32 % 65536).toNat = _
  rw [UInt32.toNat_mod]
  rfl
theorem pk_nc (x : Int32) : narrow .char (.int (x.toUInt32 % 65536).toInt32) = .int (x.toUInt32 % 65536).toInt32 := by
  rw [pk_char]
  exact (pk_charN (Nat.mod_lt _ (by decide))).1
theorem pk_fc (x : Int32) : fits .char (.int (x.toUInt32 % 65536).toInt32) = true := by
  rw [pk_char]
  exact (pk_charN (Nat.mod_lt _ (by decide))).2
theorem pk_vb (z : Int32) : vp_nar .byte z.toInt8.toInt32 = z.toInt8.toInt32 := by rw [vp_nar_byte]; simp
theorem pk_vs (z : Int32) : vp_nar .short z.toInt16.toInt32 = z.toInt16.toInt32 := by rw [vp_nar_short]; simp
theorem pk_vc (z : Int32) : vp_nar .char (z.toUInt32 % 65536).toInt32 = (z.toUInt32 % 65536).toInt32 := Value.int.inj (pk_nc z)
theorem pk_lT {n : Nat} (h : n < 2 ^ 63) : (lN n).toInt = (n : Int) := lg_ofNat_toInt h
theorem pk_lLT {a b : Nat} (ha : a < 2 ^ 63) (hb : b < 2 ^ 63) : lN a < lN b ↔ a < b := by
  rw [Int64.lt_iff_toInt_lt, pk_lT ha, pk_lT hb]; omega
theorem pk_lLE {a b : Nat} (ha : a < 2 ^ 63) (hb : b < 2 ^ 63) : lN a ≤ lN b ↔ a ≤ b := by
  rw [Int64.le_iff_toInt_le, pk_lT ha, pk_lT hb]; omega
theorem pk_lEQ {a b : Nat} (ha : a < 2 ^ 63) (hb : b < 2 ^ 63) : lN a = lN b ↔ a = b := by
  rw [← Int64.toInt_inj, pk_lT ha, pk_lT hb]; omega
theorem pk_lOf {x : Int64} (h : ¬ x < 0) : ∃ k : Nat, k < 2 ^ 63 ∧ x = lN k := by
  rw [Int64.lt_iff_toInt_lt] at h
  have h0 : (0 : Int64).toInt = 0 := by decide
  have hx := Int64.toInt_lt x
  refine ⟨x.toInt.toNat, by omega, Int64.toInt_inj.mp ?_⟩
  rw [pk_lT (by omega)]
  omega
theorem pk_lDiv {a b : Nat} (ha : a < 2 ^ 63) (h0 : 0 < b) (hb : b < 2 ^ 63) : lN a / lN b = lN (a / b) := by
  apply Int64.toInt_inj.mp
  rw [lg_ldiv_nonneg (by rw [pk_lT ha]; omega) (by rw [pk_lT hb]; omega), pk_lT ha, pk_lT hb, pk_lT (Nat.lt_of_le_of_lt (Nat.div_le_self a b) ha)]
  rfl
theorem pk_lRem {a b : Nat} (ha : a < 2 ^ 63) (h0 : 0 < b) (hb : b < 2 ^ 63) : lN a - lN a / lN b * lN b = lN (a % b) := by
  rw [pk_lDiv ha h0 hb, lN_mul, lN_sub (Nat.div_mul_le_self a b)]
  exact congrArg lN (by have := Nat.div_add_mod' a b; omega)
theorem pk_loop {σ : Type} (W : Nat → Nat → σ → Prop) (I : Nat → σ → Prop) (e i0 : Nat) (s : σ) (hi : i0 ≤ e) (h0 : I i0 s) (hx : ∀ n s, I e s → W (n + 1) e s)
    (hs : ∀ n i s, i < e → I i s → (∀ s', I (i + 1) s' → W n (i + 1) s') → W (n + 1) i s) : ∃ n, W n i0 s :=
  ⟨e + 1, loop_i W I e hx hs (e + 1) i0 s hi (by omega) h0⟩
theorem pk_loopD {σ : Type} (W : Nat → Nat → σ → Prop) (I : Nat → σ → Prop) (hx : ∀ n s, I 0 s → W (n + 1) 0 s)
    (hs : ∀ n i s, I (i + 1) s → (∀ s', I i s' → W n i s') → W (n + 1) (i + 1) s) : ∀ (e : Nat) (s : σ), I e s → W (e + 1) e s := by
  intro e
  induction e with
  | zero => exact fun s h => hx 0 s h
  | succ e ih => exact fun s h => hs (e + 1) e s h (fun s' h' => ih s' h')
theorem lp1 {A1 : Type} (W : Nat → A1 → Prop) (I : A1 → Prop) (μ : A1 → Nat) (hs : ∀ (n : Nat) (a1 : A1), I a1 → (∀ (b1 : A1), I b1 → μ b1 < μ a1 → W n b1) → W (n + 1) a1) (a1 : A1) (h : I a1) : ∃ n, W n a1 :=
  loop_m (σ := A1) (fun n s => W n s) (fun s => I s) (fun s => μ s) (fun n s hI hk => hs n s hI (fun b1 h9 hm => hk b1 h9 hm)) a1 h
theorem lp2 {A1 A2 : Type} (W : Nat → A1 → A2 → Prop) (I : A1 → A2 → Prop) (μ : A1 → A2 → Nat) (hs : ∀ (n : Nat) (a1 : A1) (a2 : A2), I a1 a2 → (∀ (b1 : A1) (b2 : A2), I b1 b2 → μ b1 b2 < μ a1 a2 → W n b1 b2) → W (n + 1) a1 a2) (a1 : A1) (a2 : A2) (h : I a1 a2) : ∃ n, W n a1 a2 :=
  loop_m (σ := A1 × A2) (fun n s => W n s.1 s.2) (fun s => I s.1 s.2) (fun s => μ s.1 s.2) (fun n s hI hk => hs n s.1 s.2 hI (fun b1 b2 h9 hm => hk (b1, b2) h9 hm)) (a1, a2) h
theorem lp3 {A1 A2 A3 : Type} (W : Nat → A1 → A2 → A3 → Prop) (I : A1 → A2 → A3 → Prop) (μ : A1 → A2 → A3 → Nat) (hs : ∀ (n : Nat) (a1 : A1) (a2 : A2) (a3 : A3), I a1 a2 a3 → (∀ (b1 : A1) (b2 : A2) (b3 : A3), I b1 b2 b3 → μ b1 b2 b3 < μ a1 a2 a3 → W n b1 b2 b3) → W (n + 1) a1 a2 a3) (a1 : A1) (a2 : A2) (a3 : A3) (h : I a1 a2 a3) : ∃ n, W n a1 a2 a3 :=
  loop_m (σ := A1 × A2 × A3) (fun n s => W n s.1 s.2.1 s.2.2) (fun s => I s.1 s.2.1 s.2.2) (fun s => μ s.1 s.2.1 s.2.2) (fun n s hI hk => hs n s.1 s.2.1 s.2.2 hI (fun b1 b2 b3 h9 hm => hk (b1, b2, b3) h9 hm)) (a1, a2, a3) h
theorem lp4 {A1 A2 A3 A4 : Type} (W : Nat → A1 → A2 → A3 → A4 → Prop) (I : A1 → A2 → A3 → A4 → Prop) (μ : A1 → A2 → A3 → A4 → Nat) (hs : ∀ (n : Nat) (a1 : A1) (a2 : A2) (a3 : A3) (a4 : A4), I a1 a2 a3 a4 → (∀ (b1 : A1) (b2 : A2) (b3 : A3) (b4 : A4), I b1 b2 b3 b4 → μ b1 b2 b3 b4 < μ a1 a2 a3 a4 → W n b1 b2 b3 b4) → W (n + 1) a1 a2 a3 a4) (a1 : A1) (a2 : A2) (a3 : A3) (a4 : A4) (h : I a1 a2 a3 a4) : ∃ n, W n a1 a2 a3 a4 :=
  loop_m (σ := A1 × A2 × A3 × A4) (fun n s => W n s.1 s.2.1 s.2.2.1 s.2.2.2) (fun s => I s.1 s.2.1 s.2.2.1 s.2.2.2) (fun s => μ s.1 s.2.1 s.2.2.1 s.2.2.2) (fun n s hI hk => hs n s.1 s.2.1 s.2.2.1 s.2.2.2 hI (fun b1 b2 b3 b4 h9 hm => hk (b1, b2, b3, b4) h9 hm)) (a1, a2, a3, a4) h
theorem lp5 {A1 A2 A3 A4 A5 : Type} (W : Nat → A1 → A2 → A3 → A4 → A5 → Prop) (I : A1 → A2 → A3 → A4 → A5 → Prop) (μ : A1 → A2 → A3 → A4 → A5 → Nat) (hs : ∀ (n : Nat) (a1 : A1) (a2 : A2) (a3 : A3) (a4 : A4) (a5 : A5), I a1 a2 a3 a4 a5 → (∀ (b1 : A1) (b2 : A2) (b3 : A3) (b4 : A4) (b5 : A5), I b1 b2 b3 b4 b5 → μ b1 b2 b3 b4 b5 < μ a1 a2 a3 a4 a5 → W n b1 b2 b3 b4 b5) → W (n + 1) a1 a2 a3 a4 a5) (a1 : A1) (a2 : A2) (a3 : A3) (a4 : A4) (a5 : A5) (h : I a1 a2 a3 a4 a5) : ∃ n, W n a1 a2 a3 a4 a5 :=
  loop_m (σ := A1 × A2 × A3 × A4 × A5) (fun n s => W n s.1 s.2.1 s.2.2.1 s.2.2.2.1 s.2.2.2.2) (fun s => I s.1 s.2.1 s.2.2.1 s.2.2.2.1 s.2.2.2.2) (fun s => μ s.1 s.2.1 s.2.2.1 s.2.2.2.1 s.2.2.2.2) (fun n s hI hk => hs n s.1 s.2.1 s.2.2.1 s.2.2.2.1 s.2.2.2.2 hI (fun b1 b2 b3 b4 b5 h9 hm => hk (b1, b2, b3, b4, b5) h9 hm)) (a1, a2, a3, a4, a5) h
theorem lp6 {A1 A2 A3 A4 A5 A6 : Type} (W : Nat → A1 → A2 → A3 → A4 → A5 → A6 → Prop) (I : A1 → A2 → A3 → A4 → A5 → A6 → Prop) (μ : A1 → A2 → A3 → A4 → A5 → A6 → Nat) (hs : ∀ (n : Nat) (a1 : A1) (a2 : A2) (a3 : A3) (a4 : A4) (a5 : A5) (a6 : A6), I a1 a2 a3 a4 a5 a6 → (∀ (b1 : A1) (b2 : A2) (b3 : A3) (b4 : A4) (b5 : A5) (b6 : A6), I b1 b2 b3 b4 b5 b6 → μ b1 b2 b3 b4 b5 b6 < μ a1 a2 a3 a4 a5 a6 → W n b1 b2 b3 b4 b5 b6) → W (n + 1) a1 a2 a3 a4 a5 a6) (a1 : A1) (a2 : A2) (a3 : A3) (a4 : A4) (a5 : A5) (a6 : A6) (h : I a1 a2 a3 a4 a5 a6) : ∃ n, W n a1 a2 a3 a4 a5 a6 :=
  loop_m (σ := A1 × A2 × A3 × A4 × A5 × A6) (fun n s => W n s.1 s.2.1 s.2.2.1 s.2.2.2.1 s.2.2.2.2.1 s.2.2.2.2.2) (fun s => I s.1 s.2.1 s.2.2.1 s.2.2.2.1 s.2.2.2.2.1 s.2.2.2.2.2) (fun s => μ s.1 s.2.1 s.2.2.1 s.2.2.2.1 s.2.2.2.2.1 s.2.2.2.2.2) (fun n s hI hk => hs n s.1 s.2.1 s.2.2.1 s.2.2.2.1 s.2.2.2.2.1 s.2.2.2.2.2 hI (fun b1 b2 b3 b4 b5 b6 h9 hm => hk (b1, b2, b3, b4, b5, b6) h9 hm)) (a1, a2, a3, a4, a5, a6) h
theorem lp7 {A1 A2 A3 A4 A5 A6 A7 : Type} (W : Nat → A1 → A2 → A3 → A4 → A5 → A6 → A7 → Prop) (I : A1 → A2 → A3 → A4 → A5 → A6 → A7 → Prop) (μ : A1 → A2 → A3 → A4 → A5 → A6 → A7 → Nat) (hs : ∀ (n : Nat) (a1 : A1) (a2 : A2) (a3 : A3) (a4 : A4) (a5 : A5) (a6 : A6) (a7 : A7), I a1 a2 a3 a4 a5 a6 a7 → (∀ (b1 : A1) (b2 : A2) (b3 : A3) (b4 : A4) (b5 : A5) (b6 : A6) (b7 : A7), I b1 b2 b3 b4 b5 b6 b7 → μ b1 b2 b3 b4 b5 b6 b7 < μ a1 a2 a3 a4 a5 a6 a7 → W n b1 b2 b3 b4 b5 b6 b7) → W (n + 1) a1 a2 a3 a4 a5 a6 a7) (a1 : A1) (a2 : A2) (a3 : A3) (a4 : A4) (a5 : A5) (a6 : A6) (a7 : A7) (h : I a1 a2 a3 a4 a5 a6 a7) : ∃ n, W n a1 a2 a3 a4 a5 a6 a7 :=
  loop_m (σ := A1 × A2 × A3 × A4 × A5 × A6 × A7) (fun n s => W n s.1 s.2.1 s.2.2.1 s.2.2.2.1 s.2.2.2.2.1 s.2.2.2.2.2.1 s.2.2.2.2.2.2) (fun s => I s.1 s.2.1 s.2.2.1 s.2.2.2.1 s.2.2.2.2.1 s.2.2.2.2.2.1 s.2.2.2.2.2.2) (fun s => μ s.1 s.2.1 s.2.2.1 s.2.2.2.1 s.2.2.2.2.1 s.2.2.2.2.2.1 s.2.2.2.2.2.2) (fun n s hI hk => hs n s.1 s.2.1 s.2.2.1 s.2.2.2.1 s.2.2.2.2.1 s.2.2.2.2.2.1 s.2.2.2.2.2.2 hI (fun b1 b2 b3 b4 b5 b6 b7 h9 hm => hk (b1, b2, b3, b4, b5, b6, b7) h9 hm)) (a1, a2, a3, a4, a5, a6, a7) h
theorem lp8 {A1 A2 A3 A4 A5 A6 A7 A8 : Type} (W : Nat → A1 → A2 → A3 → A4 → A5 → A6 → A7 → A8 → Prop) (I : A1 → A2 → A3 → A4 → A5 → A6 → A7 → A8 → Prop) (μ : A1 → A2 → A3 → A4 → A5 → A6 → A7 → A8 → Nat) (hs : ∀ (n : Nat) (a1 : A1) (a2 : A2) (a3 : A3) (a4 : A4) (a5 : A5) (a6 : A6) (a7 : A7) (a8 : A8), I a1 a2 a3 a4 a5 a6 a7 a8 → (∀ (b1 : A1) (b2 : A2) (b3 : A3) (b4 : A4) (b5 : A5) (b6 : A6) (b7 : A7) (b8 : A8), I b1 b2 b3 b4 b5 b6 b7 b8 → μ b1 b2 b3 b4 b5 b6 b7 b8 < μ a1 a2 a3 a4 a5 a6 a7 a8 → W n b1 b2 b3 b4 b5 b6 b7 b8) → W (n + 1) a1 a2 a3 a4 a5 a6 a7 a8) (a1 : A1) (a2 : A2) (a3 : A3) (a4 : A4) (a5 : A5) (a6 : A6) (a7 : A7) (a8 : A8) (h : I a1 a2 a3 a4 a5 a6 a7 a8) : ∃ n, W n a1 a2 a3 a4 a5 a6 a7 a8 :=
  loop_m (σ := A1 × A2 × A3 × A4 × A5 × A6 × A7 × A8) (fun n s => W n s.1 s.2.1 s.2.2.1 s.2.2.2.1 s.2.2.2.2.1 s.2.2.2.2.2.1 s.2.2.2.2.2.2.1 s.2.2.2.2.2.2.2) (fun s => I s.1 s.2.1 s.2.2.1 s.2.2.2.1 s.2.2.2.2.1 s.2.2.2.2.2.1 s.2.2.2.2.2.2.1 s.2.2.2.2.2.2.2) (fun s => μ s.1 s.2.1 s.2.2.1 s.2.2.2.1 s.2.2.2.2.1 s.2.2.2.2.2.1 s.2.2.2.2.2.2.1 s.2.2.2.2.2.2.2) (fun n s hI hk => hs n s.1 s.2.1 s.2.2.1 s.2.2.2.1 s.2.2.2.2.1 s.2.2.2.2.2.1 s.2.2.2.2.2.2.1 s.2.2.2.2.2.2.2 hI (fun b1 b2 b3 b4 b5 b6 b7 b8 h9 hm => hk (b1, b2, b3, b4, b5, b6, b7, b8) h9 hm)) (a1, a2, a3, a4, a5, a6, a7, a8) h
theorem lp9 {A1 A2 A3 A4 A5 A6 A7 A8 A9 : Type} (W : Nat → A1 → A2 → A3 → A4 → A5 → A6 → A7 → A8 → A9 → Prop) (I : A1 → A2 → A3 → A4 → A5 → A6 → A7 → A8 → A9 → Prop) (μ : A1 → A2 → A3 → A4 → A5 → A6 → A7 → A8 → A9 → Nat) (hs : ∀ (n : Nat) (a1 : A1) (a2 : A2) (a3 : A3) (a4 : A4) (a5 : A5) (a6 : A6) (a7 : A7) (a8 : A8) (a9 : A9), I a1 a2 a3 a4 a5 a6 a7 a8 a9 → (∀ (b1 : A1) (b2 : A2) (b3 : A3) (b4 : A4) (b5 : A5) (b6 : A6) (b7 : A7) (b8 : A8) (b9 : A9), I b1 b2 b3 b4 b5 b6 b7 b8 b9 → μ b1 b2 b3 b4 b5 b6 b7 b8 b9 < μ a1 a2 a3 a4 a5 a6 a7 a8 a9 → W n b1 b2 b3 b4 b5 b6 b7 b8 b9) → W (n + 1) a1 a2 a3 a4 a5 a6 a7 a8 a9) (a1 : A1) (a2 : A2) (a3 : A3) (a4 : A4) (a5 : A5) (a6 : A6) (a7 : A7) (a8 : A8) (a9 : A9) (h : I a1 a2 a3 a4 a5 a6 a7 a8 a9) : ∃ n, W n a1 a2 a3 a4 a5 a6 a7 a8 a9 :=
  loop_m (σ := A1 × A2 × A3 × A4 × A5 × A6 × A7 × A8 × A9) (fun n s => W n s.1 s.2.1 s.2.2.1 s.2.2.2.1 s.2.2.2.2.1 s.2.2.2.2.2.1 s.2.2.2.2.2.2.1 s.2.2.2.2.2.2.2.1 s.2.2.2.2.2.2.2.2) (fun s => I s.1 s.2.1 s.2.2.1 s.2.2.2.1 s.2.2.2.2.1 s.2.2.2.2.2.1 s.2.2.2.2.2.2.1 s.2.2.2.2.2.2.2.1 s.2.2.2.2.2.2.2.2) (fun s => μ s.1 s.2.1 s.2.2.1 s.2.2.2.1 s.2.2.2.2.1 s.2.2.2.2.2.1 s.2.2.2.2.2.2.1 s.2.2.2.2.2.2.2.1 s.2.2.2.2.2.2.2.2) (fun n s hI hk => hs n s.1 s.2.1 s.2.2.1 s.2.2.2.1 s.2.2.2.2.1 s.2.2.2.2.2.1 s.2.2.2.2.2.2.1 s.2.2.2.2.2.2.2.1 s.2.2.2.2.2.2.2.2 hI (fun b1 b2 b3 b4 b5 b6 b7 b8 b9 h9 hm => hk (b1, b2, b3, b4, b5, b6, b7, b8, b9) h9 hm)) (a1, a2, a3, a4, a5, a6, a7, a8, a9) h
theorem lp10 {A1 A2 A3 A4 A5 A6 A7 A8 A9 A10 : Type} (W : Nat → A1 → A2 → A3 → A4 → A5 → A6 → A7 → A8 → A9 → A10 → Prop) (I : A1 → A2 → A3 → A4 → A5 → A6 → A7 → A8 → A9 → A10 → Prop) (μ : A1 → A2 → A3 → A4 → A5 → A6 → A7 → A8 → A9 → A10 → Nat) (hs : ∀ (n : Nat) (a1 : A1) (a2 : A2) (a3 : A3) (a4 : A4) (a5 : A5) (a6 : A6) (a7 : A7) (a8 : A8) (a9 : A9) (a10 : A10), I a1 a2 a3 a4 a5 a6 a7 a8 a9 a10 → (∀ (b1 : A1) (b2 : A2) (b3 : A3) (b4 : A4) (b5 : A5) (b6 : A6) (b7 : A7) (b8 : A8) (b9 : A9) (b10 : A10), I b1 b2 b3 b4 b5 b6 b7 b8 b9 b10 → μ b1 b2 b3 b4 b5 b6 b7 b8 b9 b10 < μ a1 a2 a3 a4 a5 a6 a7 a8 a9 a10 → W n b1 b2 b3 b4 b5 b6 b7 b8 b9 b10) → W (n + 1) a1 a2 a3 a4 a5 a6 a7 a8 a9 a10) (a1 : A1) (a2 : A2) (a3 : A3) (a4 : A4) (a5 : A5) (a6 : A6) (a7 : A7) (a8 : A8) (a9 : A9) (a10 : A10) (h : I a1 a2 a3 a4 a5 a6 a7 a8 a9 a10) : ∃ n, W n a1 a2 a3 a4 a5 a6 a7 a8 a9 a10 :=
  loop_m (σ := A1 × A2 × A3 × A4 × A5 × A6 × A7 × A8 × A9 × A10) (fun n s => W n s.1 s.2.1 s.2.2.1 s.2.2.2.1 s.2.2.2.2.1 s.2.2.2.2.2.1 s.2.2.2.2.2.2.1 s.2.2.2.2.2.2.2.1 s.2.2.2.2.2.2.2.2.1 s.2.2.2.2.2.2.2.2.2) (fun s => I s.1 s.2.1 s.2.2.1 s.2.2.2.1 s.2.2.2.2.1 s.2.2.2.2.2.1 s.2.2.2.2.2.2.1 s.2.2.2.2.2.2.2.1 s.2.2.2.2.2.2.2.2.1 s.2.2.2.2.2.2.2.2.2) (fun s => μ s.1 s.2.1 s.2.2.1 s.2.2.2.1 s.2.2.2.2.1 s.2.2.2.2.2.1 s.2.2.2.2.2.2.1 s.2.2.2.2.2.2.2.1 s.2.2.2.2.2.2.2.2.1 s.2.2.2.2.2.2.2.2.2) (fun n s hI hk => hs n s.1 s.2.1 s.2.2.1 s.2.2.2.1 s.2.2.2.2.1 s.2.2.2.2.2.1 s.2.2.2.2.2.2.1 s.2.2.2.2.2.2.2.1 s.2.2.2.2.2.2.2.2.1 s.2.2.2.2.2.2.2.2.2 hI (fun b1 b2 b3 b4 b5 b6 b7 b8 b9 b10 h9 hm => hk (b1, b2, b3, b4, b5, b6, b7, b8, b9, b10) h9 hm)) (a1, a2, a3, a4, a5, a6, a7, a8, a9, a10) h
theorem lp11 {A1 A2 A3 A4 A5 A6 A7 A8 A9 A10 A11 : Type} (W : Nat → A1 → A2 → A3 → A4 → A5 → A6 → A7 → A8 → A9 → A10 → A11 → Prop) (I : A1 → A2 → A3 → A4 → A5 → A6 → A7 → A8 → A9 → A10 → A11 → Prop) (μ : A1 → A2 → A3 → A4 → A5 → A6 → A7 → A8 → A9 → A10 → A11 → Nat) (hs : ∀ (n : Nat) (a1 : A1) (a2 : A2) (a3 : A3) (a4 : A4) (a5 : A5) (a6 : A6) (a7 : A7) (a8 : A8) (a9 : A9) (a10 : A10) (a11 : A11), I a1 a2 a3 a4 a5 a6 a7 a8 a9 a10 a11 → (∀ (b1 : A1) (b2 : A2) (b3 : A3) (b4 : A4) (b5 : A5) (b6 : A6) (b7 : A7) (b8 : A8) (b9 : A9) (b10 : A10) (b11 : A11), I b1 b2 b3 b4 b5 b6 b7 b8 b9 b10 b11 → μ b1 b2 b3 b4 b5 b6 b7 b8 b9 b10 b11 < μ a1 a2 a3 a4 a5 a6 a7 a8 a9 a10 a11 → W n b1 b2 b3 b4 b5 b6 b7 b8 b9 b10 b11) → W (n + 1) a1 a2 a3 a4 a5 a6 a7 a8 a9 a10 a11) (a1 : A1) (a2 : A2) (a3 : A3) (a4 : A4) (a5 : A5) (a6 : A6) (a7 : A7) (a8 : A8) (a9 : A9) (a10 : A10) (a11 : A11) (h : I a1 a2 a3 a4 a5 a6 a7 a8 a9 a10 a11) : ∃ n, W n a1 a2 a3 a4 a5 a6 a7 a8 a9 a10 a11 :=
  loop_m (σ := A1 × A2 × A3 × A4 × A5 × A6 × A7 × A8 × A9 × A10 × A11) (fun n s => W n s.1 s.2.1 s.2.2.1 s.2.2.2.1 s.2.2.2.2.1 s.2.2.2.2.2.1 s.2.2.2.2.2.2.1 s.2.2.2.2.2.2.2.1 s.2.2.2.2.2.2.2.2.1 s.2.2.2.2.2.2.2.2.2.1 s.2.2.2.2.2.2.2.2.2.2) (fun s => I s.1 s.2.1 s.2.2.1 s.2.2.2.1 s.2.2.2.2.1 s.2.2.2.2.2.1 s.2.2.2.2.2.2.1 s.2.2.2.2.2.2.2.1 s.2.2.2.2.2.2.2.2.1 s.2.2.2.2.2.2.2.2.2.1 s.2.2.2.2.2.2.2.2.2.2) (fun s => μ s.1 s.2.1 s.2.2.1 s.2.2.2.1 s.2.2.2.2.1 s.2.2.2.2.2.1 s.2.2.2.2.2.2.1 s.2.2.2.2.2.2.2.1 s.2.2.2.2.2.2.2.2.1 s.2.2.2.2.2.2.2.2.2.1 s.2.2.2.2.2.2.2.2.2.2) (fun n s hI hk => hs n s.1 s.2.1 s.2.2.1 s.2.2.2.1 s.2.2.2.2.1 s.2.2.2.2.2.1 s.2.2.2.2.2.2.1 s.2.2.2.2.2.2.2.1 s.2.2.2.2.2.2.2.2.1 s.2.2.2.2.2.2.2.2.2.1 s.2.2.2.2.2.2.2.2.2.2 hI (fun b1 b2 b3 b4 b5 b6 b7 b8 b9 b10 b11 h9 hm => hk (b1, b2, b3, b4, b5, b6, b7, b8, b9, b10, b11) h9 hm)) (a1, a2, a3, a4, a5, a6, a7, a8, a9, a10, a11) h
theorem lp12 {A1 A2 A3 A4 A5 A6 A7 A8 A9 A10 A11 A12 : Type} (W : Nat → A1 → A2 → A3 → A4 → A5 → A6 → A7 → A8 → A9 → A10 → A11 → A12 → Prop) (I : A1 → A2 → A3 → A4 → A5 → A6 → A7 → A8 → A9 → A10 → A11 → A12 → Prop) (μ : A1 → A2 → A3 → A4 → A5 → A6 → A7 → A8 → A9 → A10 → A11 → A12 → Nat) (hs : ∀ (n : Nat) (a1 : A1) (a2 : A2) (a3 : A3) (a4 : A4) (a5 : A5) (a6 : A6) (a7 : A7) (a8 : A8) (a9 : A9) (a10 : A10) (a11 : A11) (a12 : A12), I a1 a2 a3 a4 a5 a6 a7 a8 a9 a10 a11 a12 → (∀ (b1 : A1) (b2 : A2) (b3 : A3) (b4 : A4) (b5 : A5) (b6 : A6) (b7 : A7) (b8 : A8) (b9 : A9) (b10 : A10) (b11 : A11) (b12 : A12), I b1 b2 b3 b4 b5 b6 b7 b8 b9 b10 b11 b12 → μ b1 b2 b3 b4 b5 b6 b7 b8 b9 b10 b11 b12 < μ a1 a2 a3 a4 a5 a6 a7 a8 a9 a10 a11 a12 → W n b1 b2 b3 b4 b5 b6 b7 b8 b9 b10 b11 b12) → W (n + 1) a1 a2 a3 a4 a5 a6 a7 a8 a9 a10 a11 a12) (a1 : A1) (a2 : A2) (a3 : A3) (a4 : A4) (a5 : A5) (a6 : A6) (a7 : A7) (a8 : A8) (a9 : A9) (a10 : A10) (a11 : A11) (a12 : A12) (h : I a1 a2 a3 a4 a5 a6 a7 a8 a9 a10 a11 a12) : ∃ n, W n a1 a2 a3 a4 a5 a6 a7 a8 a9 a10 a11 a12 :=
  loop_m (σ := A1 × A2 × A3 × A4 × A5 × A6 × A7 × A8 × A9 × A10 × A11 × A12) (fun n s => W n s.1 s.2.1 s.2.2.1 s.2.2.2.1 s.2.2.2.2.1 s.2.2.2.2.2.1 s.2.2.2.2.2.2.1 s.2.2.2.2.2.2.2.1 s.2.2.2.2.2.2.2.2.1 s.2.2.2.2.2.2.2.2.2.1 s.2.2.2.2.2.2.2.2.2.2.1 s.2.2.2.2.2.2.2.2.2.2.2) (fun s => I s.1 s.2.1 s.2.2.1 s.2.2.2.1 s.2.2.2.2.1 s.2.2.2.2.2.1 s.2.2.2.2.2.2.1 s.2.2.2.2.2.2.2.1 s.2.2.2.2.2.2.2.2.1 s.2.2.2.2.2.2.2.2.2.1 s.2.2.2.2.2.2.2.2.2.2.1 s.2.2.2.2.2.2.2.2.2.2.2) (fun s => μ s.1 s.2.1 s.2.2.1 s.2.2.2.1 s.2.2.2.2.1 s.2.2.2.2.2.1 s.2.2.2.2.2.2.1 s.2.2.2.2.2.2.2.1 s.2.2.2.2.2.2.2.2.1 s.2.2.2.2.2.2.2.2.2.1 s.2.2.2.2.2.2.2.2.2.2.1 s.2.2.2.2.2.2.2.2.2.2.2) (fun n s hI hk => hs n s.1 s.2.1 s.2.2.1 s.2.2.2.1 s.2.2.2.2.1 s.2.2.2.2.2.1 s.2.2.2.2.2.2.1 s.2.2.2.2.2.2.2.1 s.2.2.2.2.2.2.2.2.1 s.2.2.2.2.2.2.2.2.2.1 s.2.2.2.2.2.2.2.2.2.2.1 s.2.2.2.2.2.2.2.2.2.2.2 hI (fun b1 b2 b3 b4 b5 b6 b7 b8 b9 b10 b11 b12 h9 hm => hk (b1, b2, b3, b4, b5, b6, b7, b8, b9, b10, b11, b12) h9 hm)) (a1, a2, a3, a4, a5, a6, a7, a8, a9, a10, a11, a12) h
theorem lp13 {A1 A2 A3 A4 A5 A6 A7 A8 A9 A10 A11 A12 A13 : Type} (W : Nat → A1 → A2 → A3 → A4 → A5 → A6 → A7 → A8 → A9 → A10 → A11 → A12 → A13 → Prop) (I : A1 → A2 → A3 → A4 → A5 → A6 → A7 → A8 → A9 → A10 → A11 → A12 → A13 → Prop) (μ : A1 → A2 → A3 → A4 → A5 → A6 → A7 → A8 → A9 → A10 → A11 → A12 → A13 → Nat) (hs : ∀ (n : Nat) (a1 : A1) (a2 : A2) (a3 : A3) (a4 : A4) (a5 : A5) (a6 : A6) (a7 : A7) (a8 : A8) (a9 : A9) (a10 : A10) (a11 : A11) (a12 : A12) (a13 : A13), I a1 a2 a3 a4 a5 a6 a7 a8 a9 a10 a11 a12 a13 → (∀ (b1 : A1) (b2 : A2) (b3 : A3) (b4 : A4) (b5 : A5) (b6 : A6) (b7 : A7) (b8 : A8) (b9 : A9) (b10 : A10) (b11 : A11) (b12 : A12) (b13 : A13), I b1 b2 b3 b4 b5 b6 b7 b8 b9 b10 b11 b12 b13 → μ b1 b2 b3 b4 b5 b6 b7 b8 b9 b10 b11 b12 b13 < μ a1 a2 a3 a4 a5 a6 a7 a8 a9 a10 a11 a12 a13 → W n b1 b2 b3 b4 b5 b6 b7 b8 b9 b10 b11 b12 b13) → W (n + 1) a1 a2 a3 a4 a5 a6 a7 a8 a9 a10 a11 a12 a13) (a1 : A1) (a2 : A2) (a3 : A3) (a4 : A4) (a5 : A5) (a6 : A6) (a7 : A7) (a8 : A8) (a9 : A9) (a10 : A10) (a11 : A11) (a12 : A12) (a13 : A13) (h : I a1 a2 a3 a4 a5 a6 a7 a8 a9 a10 a11 a12 a13) : ∃ n, W n a1 a2 a3 a4 a5 a6 a7 a8 a9 a10 a11 a12 a13 :=
  loop_m (σ := A1 × A2 × A3 × A4 × A5 × A6 × A7 × A8 × A9 × A10 × A11 × A12 × A13) (fun n s => W n s.1 s.2.1 s.2.2.1 s.2.2.2.1 s.2.2.2.2.1 s.2.2.2.2.2.1 s.2.2.2.2.2.2.1 s.2.2.2.2.2.2.2.1 s.2.2.2.2.2.2.2.2.1 s.2.2.2.2.2.2.2.2.2.1 s.2.2.2.2.2.2.2.2.2.2.1 s.2.2.2.2.2.2.2.2.2.2.2.1 s.2.2.2.2.2.2.2.2.2.2.2.2) (fun s => I s.1 s.2.1 s.2.2.1 s.2.2.2.1 s.2.2.2.2.1 s.2.2.2.2.2.1 s.2.2.2.2.2.2.1 s.2.2.2.2.2.2.2.1 s.2.2.2.2.2.2.2.2.1 s.2.2.2.2.2.2.2.2.2.1 s.2.2.2.2.2.2.2.2.2.2.1 s.2.2.2.2.2.2.2.2.2.2.2.1 s.2.2.2.2.2.2.2.2.2.2.2.2) (fun s => μ s.1 s.2.1 s.2.2.1 s.2.2.2.1 s.2.2.2.2.1 s.2.2.2.2.2.1 s.2.2.2.2.2.2.1 s.2.2.2.2.2.2.2.1 s.2.2.2.2.2.2.2.2.1 s.2.2.2.2.2.2.2.2.2.1 s.2.2.2.2.2.2.2.2.2.2.1 s.2.2.2.2.2.2.2.2.2.2.2.1 s.2.2.2.2.2.2.2.2.2.2.2.2) (fun n s hI hk => hs n s.1 s.2.1 s.2.2.1 s.2.2.2.1 s.2.2.2.2.1 s.2.2.2.2.2.1 s.2.2.2.2.2.2.1 s.2.2.2.2.2.2.2.1 s.2.2.2.2.2.2.2.2.1 s.2.2.2.2.2.2.2.2.2.1 s.2.2.2.2.2.2.2.2.2.2.1 s.2.2.2.2.2.2.2.2.2.2.2.1 s.2.2.2.2.2.2.2.2.2.2.2.2 hI (fun b1 b2 b3 b4 b5 b6 b7 b8 b9 b10 b11 b12 b13 h9 hm => hk (b1, b2, b3, b4, b5, b6, b7, b8, b9, b10, b11, b12, b13) h9 hm)) (a1, a2, a3, a4, a5, a6, a7, a8, a9, a10, a11, a12, a13) h
theorem lp14 {A1 A2 A3 A4 A5 A6 A7 A8 A9 A10 A11 A12 A13 A14 : Type} (W : Nat → A1 → A2 → A3 → A4 → A5 → A6 → A7 → A8 → A9 → A10 → A11 → A12 → A13 → A14 → Prop) (I : A1 → A2 → A3 → A4 → A5 → A6 → A7 → A8 → A9 → A10 → A11 → A12 → A13 → A14 → Prop) (μ : A1 → A2 → A3 → A4 → A5 → A6 → A7 → A8 → A9 → A10 → A11 → A12 → A13 → A14 → Nat) (hs : ∀ (n : Nat) (a1 : A1) (a2 : A2) (a3 : A3) (a4 : A4) (a5 : A5) (a6 : A6) (a7 : A7) (a8 : A8) (a9 : A9) (a10 : A10) (a11 : A11) (a12 : A12) (a13 : A13) (a14 : A14), I a1 a2 a3 a4 a5 a6 a7 a8 a9 a10 a11 a12 a13 a14 → (∀ (b1 : A1) (b2 : A2) (b3 : A3) (b4 : A4) (b5 : A5) (b6 : A6) (b7 : A7) (b8 : A8) (b9 : A9) (b10 : A10) (b11 : A11) (b12 : A12) (b13 : A13) (b14 : A14), I b1 b2 b3 b4 b5 b6 b7 b8 b9 b10 b11 b12 b13 b14 → μ b1 b2 b3 b4 b5 b6 b7 b8 b9 b10 b11 b12 b13 b14 < μ a1 a2 a3 a4 a5 a6 a7 a8 a9 a10 a11 a12 a13 a14 → W n b1 b2 b3 b4 b5 b6 b7 b8 b9 b10 b11 b12 b13 b14) → W (n + 1) a1 a2 a3 a4 a5 a6 a7 a8 a9 a10 a11 a12 a13 a14) (a1 : A1) (a2 : A2) (a3 : A3) (a4 : A4) (a5 : A5) (a6 : A6) (a7 : A7) (a8 : A8) (a9 : A9) (a10 : A10) (a11 : A11) (a12 : A12) (a13 : A13) (a14 : A14) (h : I a1 a2 a3 a4 a5 a6 a7 a8 a9 a10 a11 a12 a13 a14) : ∃ n, W n a1 a2 a3 a4 a5 a6 a7 a8 a9 a10 a11 a12 a13 a14 :=
  loop_m (σ := A1 × A2 × A3 × A4 × A5 × A6 × A7 × A8 × A9 × A10 × A11 × A12 × A13 × A14) (fun n s => W n s.1 s.2.1 s.2.2.1 s.2.2.2.1 s.2.2.2.2.1 s.2.2.2.2.2.1 s.2.2.2.2.2.2.1 s.2.2.2.2.2.2.2.1 s.2.2.2.2.2.2.2.2.1 s.2.2.2.2.2.2.2.2.2.1 s.2.2.2.2.2.2.2.2.2.2.1 s.2.2.2.2.2.2.2.2.2.2.2.1 s.2.2.2.2.2.2.2.2.2.2.2.2.1 s.2.2.2.2.2.2.2.2.2.2.2.2.2) (fun s => I s.1 s.2.1 s.2.2.1 s.2.2.2.1 s.2.2.2.2.1 s.2.2.2.2.2.1 s.2.2.2.2.2.2.1 s.2.2.2.2.2.2.2.1 s.2.2.2.2.2.2.2.2.1 s.2.2.2.2.2.2.2.2.2.1 s.2.2.2.2.2.2.2.2.2.2.1 s.2.2.2.2.2.2.2.2.2.2.2.1 s.2.2.2.2.2.2.2.2.2.2.2.2.1 s.2.2.2.2.2.2.2.2.2.2.2.2.2) (fun s => μ s.1 s.2.1 s.2.2.1 s.2.2.2.1 s.2.2.2.2.1 s.2.2.2.2.2.1 s.2.2.2.2.2.2.1 s.2.2.2.2.2.2.2.1 s.2.2.2.2.2.2.2.2.1 s.2.2.2.2.2.2.2.2.2.1 s.2.2.2.2.2.2.2.2.2.2.1 s.2.2.2.2.2.2.2.2.2.2.2.1 s.2.2.2.2.2.2.2.2.2.2.2.2.1 s.2.2.2.2.2.2.2.2.2.2.2.2.2) (fun n s hI hk => hs n s.1 s.2.1 s.2.2.1 s.2.2.2.1 s.2.2.2.2.1 s.2.2.2.2.2.1 s.2.2.2.2.2.2.1 s.2.2.2.2.2.2.2.1 s.2.2.2.2.2.2.2.2.1 s.2.2.2.2.2.2.2.2.2.1 s.2.2.2.2.2.2.2.2.2.2.1 s.2.2.2.2.2.2.2.2.2.2.2.1 s.2.2.2.2.2.2.2.2.2.2.2.2.1 s.2.2.2.2.2.2.2.2.2.2.2.2.2 hI (fun b1 b2 b3 b4 b5 b6 b7 b8 b9 b10 b11 b12 b13 b14 h9 hm => hk (b1, b2, b3, b4, b5, b6, b7, b8, b9, b10, b11, b12, b13, b14) h9 hm)) (a1, a2, a3, a4, a5, a6, a7, a8, a9, a10, a11, a12, a13, a14) h
theorem lp15 {A1 A2 A3 A4 A5 A6 A7 A8 A9 A10 A11 A12 A13 A14 A15 : Type} (W : Nat → A1 → A2 → A3 → A4 → A5 → A6 → A7 → A8 → A9 → A10 → A11 → A12 → A13 → A14 → A15 → Prop) (I : A1 → A2 → A3 → A4 → A5 → A6 → A7 → A8 → A9 → A10 → A11 → A12 → A13 → A14 → A15 → Prop) (μ : A1 → A2 → A3 → A4 → A5 → A6 → A7 → A8 → A9 → A10 → A11 → A12 → A13 → A14 → A15 → Nat) (hs : ∀ (n : Nat) (a1 : A1) (a2 : A2) (a3 : A3) (a4 : A4) (a5 : A5) (a6 : A6) (a7 : A7) (a8 : A8) (a9 : A9) (a10 : A10) (a11 : A11) (a12 : A12) (a13 : A13) (a14 : A14) (a15 : A15), I a1 a2 a3 a4 a5 a6 a7 a8 a9 a10 a11 a12 a13 a14 a15 → (∀ (b1 : A1) (b2 : A2) (b3 : A3) (b4 : A4) (b5 : A5) (b6 : A6) (b7 : A7) (b8 : A8) (b9 : A9) (b10 : A10) (b11 : A11) (b12 : A12) (b13 : A13) (b14 : A14) (b15 : A15), I b1 b2 b3 b4 b5 b6 b7 b8 b9 b10 b11 b12 b13 b14 b15 → μ b1 b2 b3 b4 b5 b6 b7 b8 b9 b10 b11 b12 b13 b14 b15 < μ a1 a2 a3 a4 a5 a6 a7 a8 a9 a10 a11 a12 a13 a14 a15 → W n b1 b2 b3 b4 b5 b6 b7 b8 b9 b10 b11 b12 b13 b14 b15) → W (n + 1) a1 a2 a3 a4 a5 a6 a7 a8 a9 a10 a11 a12 a13 a14 a15) (a1 : A1) (a2 : A2) (a3 : A3) (a4 : A4) (a5 : A5) (a6 : A6) (a7 : A7) (a8 : A8) (a9 : A9) (a10 : A10) (a11 : A11) (a12 : A12) (a13 : A13) (a14 : A14) (a15 : A15) (h : I a1 a2 a3 a4 a5 a6 a7 a8 a9 a10 a11 a12 a13 a14 a15) : ∃ n, W n a1 a2 a3 a4 a5 a6 a7 a8 a9 a10 a11 a12 a13 a14 a15 :=
  loop_m (σ := A1 × A2 × A3 × A4 × A5 × A6 × A7 × A8 × A9 × A10 × A11 × A12 × A13 × A14 × A15) (fun n s => W n s.1 s.2.1 s.2.2.1 s.2.2.2.1 s.2.2.2.2.1 s.2.2.2.2.2.1 s.2.2.2.2.2.2.1 s.2.2.2.2.2.2.2.1 s.2.2.2.2.2.2.2.2.1 s.2.2.2.2.2.2.2.2.2.1 s.2.2.2.2.2.2.2.2.2.2.1 s.2.2.2.2.2.2.2.2.2.2.2.1 s.2.2.2.2.2.2.2.2.2.2.2.2.1 s.2.2.2.2.2.2.2.2.2.2.2.2.2.1 s.2.2.2.2.2.2.2.2.2.2.2.2.2.2) (fun s => I s.1 s.2.1 s.2.2.1 s.2.2.2.1 s.2.2.2.2.1 s.2.2.2.2.2.1 s.2.2.2.2.2.2.1 s.2.2.2.2.2.2.2.1 s.2.2.2.2.2.2.2.2.1 s.2.2.2.2.2.2.2.2.2.1 s.2.2.2.2.2.2.2.2.2.2.1 s.2.2.2.2.2.2.2.2.2.2.2.1 s.2.2.2.2.2.2.2.2.2.2.2.2.1 s.2.2.2.2.2.2.2.2.2.2.2.2.2.1 s.2.2.2.2.2.2.2.2.2.2.2.2.2.2) (fun s => μ s.1 s.2.1 s.2.2.1 s.2.2.2.1 s.2.2.2.2.1 s.2.2.2.2.2.1 s.2.2.2.2.2.2.1 s.2.2.2.2.2.2.2.1 s.2.2.2.2.2.2.2.2.1 s.2.2.2.2.2.2.2.2.2.1 s.2.2.2.2.2.2.2.2.2.2.1 s.2.2.2.2.2.2.2.2.2.2.2.1 s.2.2.2.2.2.2.2.2.2.2.2.2.1 s.2.2.2.2.2.2.2.2.2.2.2.2.2.1 s.2.2.2.2.2.2.2.2.2.2.2.2.2.2) (fun n s hI hk => hs n s.1 s.2.1 s.2.2.1 s.2.2.2.1 s.2.2.2.2.1 s.2.2.2.2.2.1 s.2.2.2.2.2.2.1 s.2.2.2.2.2.2.2.1 s.2.2.2.2.2.2.2.2.1 s.2.2.2.2.2.2.2.2.2.1 s.2.2.2.2.2.2.2.2.2.2.1 s.2.2.2.2.2.2.2.2.2.2.2.1 s.2.2.2.2.2.2.2.2.2.2.2.2.1 s.2.2.2.2.2.2.2.2.2.2.2.2.2.1 s.2.2.2.2.2.2.2.2.2.2.2.2.2.2 hI (fun b1 b2 b3 b4 b5 b6 b7 b8 b9 b10 b11 b12 b13 b14 b15 h9 hm => hk (b1, b2, b3, b4, b5, b6, b7, b8, b9, b10, b11, b12, b13, b14, b15) h9 hm)) (a1, a2, a3, a4, a5, a6, a7, a8, a9, a10, a11, a12, a13, a14, a15) h
theorem lp16 {A1 A2 A3 A4 A5 A6 A7 A8 A9 A10 A11 A12 A13 A14 A15 A16 : Type} (W : Nat → A1 → A2 → A3 → A4 → A5 → A6 → A7 → A8 → A9 → A10 → A11 → A12 → A13 → A14 → A15 → A16 → Prop) (I : A1 → A2 → A3 → A4 → A5 → A6 → A7 → A8 → A9 → A10 → A11 → A12 → A13 → A14 → A15 → A16 → Prop) (μ : A1 → A2 → A3 → A4 → A5 → A6 → A7 → A8 → A9 → A10 → A11 → A12 → A13 → A14 → A15 → A16 → Nat) (hs : ∀ (n : Nat) (a1 : A1) (a2 : A2) (a3 : A3) (a4 : A4) (a5 : A5) (a6 : A6) (a7 : A7) (a8 : A8) (a9 : A9) (a10 : A10) (a11 : A11) (a12 : A12) (a13 : A13) (a14 : A14) (a15 : A15) (a16 : A16), I a1 a2 a3 a4 a5 a6 a7 a8 a9 a10 a11 a12 a13 a14 a15 a16 → (∀ (b1 : A1) (b2 : A2) (b3 : A3) (b4 : A4) (b5 : A5) (b6 : A6) (b7 : A7) (b8 : A8) (b9 : A9) (b10 : A10) (b11 : A11) (b12 : A12) (b13 : A13) (b14 : A14) (b15 : A15) (b16 : A16), I b1 b2 b3 b4 b5 b6 b7 b8 b9 b10 b11 b12 b13 b14 b15 b16 → μ b1 b2 b3 b4 b5 b6 b7 b8 b9 b10 b11 b12 b13 b14 b15 b16 < μ a1 a2 a3 a4 a5 a6 a7 a8 a9 a10 a11 a12 a13 a14 a15 a16 → W n b1 b2 b3 b4 b5 b6 b7 b8 b9 b10 b11 b12 b13 b14 b15 b16) → W (n + 1) a1 a2 a3 a4 a5 a6 a7 a8 a9 a10 a11 a12 a13 a14 a15 a16) (a1 : A1) (a2 : A2) (a3 : A3) (a4 : A4) (a5 : A5) (a6 : A6) (a7 : A7) (a8 : A8) (a9 : A9) (a10 : A10) (a11 : A11) (a12 : A12) (a13 : A13) (a14 : A14) (a15 : A15) (a16 : A16) (h : I a1 a2 a3 a4 a5 a6 a7 a8 a9 a10 a11 a12 a13 a14 a15 a16) : ∃ n, W n a1 a2 a3 a4 a5 a6 a7 a8 a9 a10 a11 a12 a13 a14 a15 a16 :=
  loop_m (σ := A1 × A2 × A3 × A4 × A5 × A6 × A7 × A8 × A9 × A10 × A11 × A12 × A13 × A14 × A15 × A16) (fun n s => W n s.1 s.2.1 s.2.2.1 s.2.2.2.1 s.2.2.2.2.1 s.2.2.2.2.2.1 s.2.2.2.2.2.2.1 s.2.2.2.2.2.2.2.1 s.2.2.2.2.2.2.2.2.1 s.2.2.2.2.2.2.2.2.2.1 s.2.2.2.2.2.2.2.2.2.2.1 s.2.2.2.2.2.2.2.2.2.2.2.1 s.2.2.2.2.2.2.2.2.2.2.2.2.1 s.2.2.2.2.2.2.2.2.2.2.2.2.2.1 s.2.2.2.2.2.2.2.2.2.2.2.2.2.2.1 s.2.2.2.2.2.2.2.2.2.2.2.2.2.2.2) (fun s => I s.1 s.2.1 s.2.2.1 s.2.2.2.1 s.2.2.2.2.1 s.2.2.2.2.2.1 s.2.2.2.2.2.2.1 s.2.2.2.2.2.2.2.1 s.2.2.2.2.2.2.2.2.1 s.2.2.2.2.2.2.2.2.2.1 s.2.2.2.2.2.2.2.2.2.2.1 s.2.2.2.2.2.2.2.2.2.2.2.1 s.2.2.2.2.2.2.2.2.2.2.2.2.1 s.2.2.2.2.2.2.2.2.2.2.2.2.2.1 s.2.2.2.2.2.2.2.2.2.2.2.2.2.2.1 s.2.2.2.2.2.2.2.2.2.2.2.2.2.2.2) (fun s => μ s.1 s.2.1 s.2.2.1 s.2.2.2.1 s.2.2.2.2.1 s.2.2.2.2.2.1 s.2.2.2.2.2.2.1 s.2.2.2.2.2.2.2.1 s.2.2.2.2.2.2.2.2.1 s.2.2.2.2.2.2.2.2.2.1 s.2.2.2.2.2.2.2.2.2.2.1 s.2.2.2.2.2.2.2.2.2.2.2.1 s.2.2.2.2.2.2.2.2.2.2.2.2.1 s.2.2.2.2.2.2.2.2.2.2.2.2.2.1 s.2.2.2.2.2.2.2.2.2.2.2.2.2.2.1 s.2.2.2.2.2.2.2.2.2.2.2.2.2.2.2) (fun n s hI hk => hs n s.1 s.2.1 s.2.2.1 s.2.2.2.1 s.2.2.2.2.1 s.2.2.2.2.2.1 s.2.2.2.2.2.2.1 s.2.2.2.2.2.2.2.1 s.2.2.2.2.2.2.2.2.1 s.2.2.2.2.2.2.2.2.2.1 s.2.2.2.2.2.2.2.2.2.2.1 s.2.2.2.2.2.2.2.2.2.2.2.1 s.2.2.2.2.2.2.2.2.2.2.2.2.1 s.2.2.2.2.2.2.2.2.2.2.2.2.2.1 s.2.2.2.2.2.2.2.2.2.2.2.2.2.2.1 s.2.2.2.2.2.2.2.2.2.2.2.2.2.2.2 hI (fun b1 b2 b3 b4 b5 b6 b7 b8 b9 b10 b11 b12 b13 b14 b15 b16 h9 hm => hk (b1, b2, b3, b4, b5, b6, b7, b8, b9, b10, b11, b12, b13, b14, b15, b16) h9 hm)) (a1, a2, a3, a4, a5, a6, a7, a8, a9, a10, a11, a12, a13, a14, a15, a16) h
theorem pk_least (P : Nat → Prop) (h : ∃ k, P k) : ∃ k, P k ∧ ∀ j, j < k → ¬ P j := by
  obtain ⟨k, hk⟩ := h
  induction k using Nat.strongRecOn with
  | ind k ih =>
    by_cases e : ∃ j, j < k ∧ P j
    · obtain ⟨j, hj, pj⟩ := e
      exact ih j hj pj
    · exact ⟨k, hk, fun j hj pj => e ⟨j, hj, pj⟩⟩
theorem rp1 {ρ A1 : Type} (W : Nat → (ρ → Prop) → A1 → Prop) (ok : A1 → Prop) (μ : A1 → Nat) (val : A1 → ρ)
    (hs : ∀ (d : Nat) (post : ρ → Prop) (a1 : A1), ok a1 → post (val a1) → (∀ (post' : ρ → Prop) (b1 : A1), ok b1 → μ b1 < μ a1 → post' (val b1) → W d post' b1) → W (d + 1) post a1) :
    ∀ (d : Nat) (post : ρ → Prop) (a1 : A1), ok a1 → μ a1 < d → post (val a1) → W d post a1 := by
  intro d
  induction d with
  | zero => intro post a1 _ h; omega
  | succ d ih =>
    intro post a1 ho hm hp
    exact hs d post a1 ho hp (fun post' b1 ho' hm' hp' => ih post' b1 ho' (by omega) hp')
theorem rp2 {ρ A1 A2 : Type} (W : Nat → (ρ → Prop) → A1 → A2 → Prop) (ok : A1 → A2 → Prop) (μ : A1 → A2 → Nat) (val : A1 → A2 → ρ)
    (hs : ∀ (d : Nat) (post : ρ → Prop) (a1 : A1) (a2 : A2), ok a1 a2 → post (val a1 a2) → (∀ (post' : ρ → Prop) (b1 : A1) (b2 : A2), ok b1 b2 → μ b1 b2 < μ a1 a2 → post' (val b1 b2) → W d post' b1 b2) → W (d + 1) post a1 a2) :
    ∀ (d : Nat) (post : ρ → Prop) (a1 : A1) (a2 : A2), ok a1 a2 → μ a1 a2 < d → post (val a1 a2) → W d post a1 a2 := by
  intro d
  induction d with
  | zero => intro post a1 a2 _ h; omega
  | succ d ih =>
    intro post a1 a2 ho hm hp
    exact hs d post a1 a2 ho hp (fun post' b1 b2 ho' hm' hp' => ih post' b1 b2 ho' (by omega) hp')
theorem rp3 {ρ A1 A2 A3 : Type} (W : Nat → (ρ → Prop) → A1 → A2 → A3 → Prop) (ok : A1 → A2 → A3 → Prop) (μ : A1 → A2 → A3 → Nat) (val : A1 → A2 → A3 → ρ)
    (hs : ∀ (d : Nat) (post : ρ → Prop) (a1 : A1) (a2 : A2) (a3 : A3), ok a1 a2 a3 → post (val a1 a2 a3) → (∀ (post' : ρ → Prop) (b1 : A1) (b2 : A2) (b3 : A3), ok b1 b2 b3 → μ b1 b2 b3 < μ a1 a2 a3 → post' (val b1 b2 b3) → W d post' b1 b2 b3) → W (d + 1) post a1 a2 a3) :
    ∀ (d : Nat) (post : ρ → Prop) (a1 : A1) (a2 : A2) (a3 : A3), ok a1 a2 a3 → μ a1 a2 a3 < d → post (val a1 a2 a3) → W d post a1 a2 a3 := by
  intro d
  induction d with
  | zero => intro post a1 a2 a3 _ h; omega
  | succ d ih =>
    intro post a1 a2 a3 ho hm hp
    exact hs d post a1 a2 a3 ho hp (fun post' b1 b2 b3 ho' hm' hp' => ih post' b1 b2 b3 ho' (by omega) hp')
theorem rp4 {ρ A1 A2 A3 A4 : Type} (W : Nat → (ρ → Prop) → A1 → A2 → A3 → A4 → Prop) (ok : A1 → A2 → A3 → A4 → Prop) (μ : A1 → A2 → A3 → A4 → Nat) (val : A1 → A2 → A3 → A4 → ρ)
    (hs : ∀ (d : Nat) (post : ρ → Prop) (a1 : A1) (a2 : A2) (a3 : A3) (a4 : A4), ok a1 a2 a3 a4 → post (val a1 a2 a3 a4) → (∀ (post' : ρ → Prop) (b1 : A1) (b2 : A2) (b3 : A3) (b4 : A4), ok b1 b2 b3 b4 → μ b1 b2 b3 b4 < μ a1 a2 a3 a4 → post' (val b1 b2 b3 b4) → W d post' b1 b2 b3 b4) → W (d + 1) post a1 a2 a3 a4) :
    ∀ (d : Nat) (post : ρ → Prop) (a1 : A1) (a2 : A2) (a3 : A3) (a4 : A4), ok a1 a2 a3 a4 → μ a1 a2 a3 a4 < d → post (val a1 a2 a3 a4) → W d post a1 a2 a3 a4 := by
  intro d
  induction d with
  | zero => intro post a1 a2 a3 a4 _ h; omega
  | succ d ih =>
    intro post a1 a2 a3 a4 ho hm hp
    exact hs d post a1 a2 a3 a4 ho hp (fun post' b1 b2 b3 b4 ho' hm' hp' => ih post' b1 b2 b3 b4 ho' (by omega) hp')
theorem rp5 {ρ A1 A2 A3 A4 A5 : Type} (W : Nat → (ρ → Prop) → A1 → A2 → A3 → A4 → A5 → Prop) (ok : A1 → A2 → A3 → A4 → A5 → Prop) (μ : A1 → A2 → A3 → A4 → A5 → Nat) (val : A1 → A2 → A3 → A4 → A5 → ρ)
    (hs : ∀ (d : Nat) (post : ρ → Prop) (a1 : A1) (a2 : A2) (a3 : A3) (a4 : A4) (a5 : A5), ok a1 a2 a3 a4 a5 → post (val a1 a2 a3 a4 a5) → (∀ (post' : ρ → Prop) (b1 : A1) (b2 : A2) (b3 : A3) (b4 : A4) (b5 : A5), ok b1 b2 b3 b4 b5 → μ b1 b2 b3 b4 b5 < μ a1 a2 a3 a4 a5 → post' (val b1 b2 b3 b4 b5) → W d post' b1 b2 b3 b4 b5) → W (d + 1) post a1 a2 a3 a4 a5) :
    ∀ (d : Nat) (post : ρ → Prop) (a1 : A1) (a2 : A2) (a3 : A3) (a4 : A4) (a5 : A5), ok a1 a2 a3 a4 a5 → μ a1 a2 a3 a4 a5 < d → post (val a1 a2 a3 a4 a5) → W d post a1 a2 a3 a4 a5 := by
  intro d
  induction d with
  | zero => intro post a1 a2 a3 a4 a5 _ h; omega
  | succ d ih =>
    intro post a1 a2 a3 a4 a5 ho hm hp
    exact hs d post a1 a2 a3 a4 a5 ho hp (fun post' b1 b2 b3 b4 b5 ho' hm' hp' => ih post' b1 b2 b3 b4 b5 ho' (by omega) hp')
theorem rp6 {ρ A1 A2 A3 A4 A5 A6 : Type} (W : Nat → (ρ → Prop) → A1 → A2 → A3 → A4 → A5 → A6 → Prop) (ok : A1 → A2 → A3 → A4 → A5 → A6 → Prop) (μ : A1 → A2 → A3 → A4 → A5 → A6 → Nat) (val : A1 → A2 → A3 → A4 → A5 → A6 → ρ)
    (hs : ∀ (d : Nat) (post : ρ → Prop) (a1 : A1) (a2 : A2) (a3 : A3) (a4 : A4) (a5 : A5) (a6 : A6), ok a1 a2 a3 a4 a5 a6 → post (val a1 a2 a3 a4 a5 a6) → (∀ (post' : ρ → Prop) (b1 : A1) (b2 : A2) (b3 : A3) (b4 : A4) (b5 : A5) (b6 : A6), ok b1 b2 b3 b4 b5 b6 → μ b1 b2 b3 b4 b5 b6 < μ a1 a2 a3 a4 a5 a6 → post' (val b1 b2 b3 b4 b5 b6) → W d post' b1 b2 b3 b4 b5 b6) → W (d + 1) post a1 a2 a3 a4 a5 a6) :
    ∀ (d : Nat) (post : ρ → Prop) (a1 : A1) (a2 : A2) (a3 : A3) (a4 : A4) (a5 : A5) (a6 : A6), ok a1 a2 a3 a4 a5 a6 → μ a1 a2 a3 a4 a5 a6 < d → post (val a1 a2 a3 a4 a5 a6) → W d post a1 a2 a3 a4 a5 a6 := by
  intro d
  induction d with
  | zero => intro post a1 a2 a3 a4 a5 a6 _ h; omega
  | succ d ih =>
    intro post a1 a2 a3 a4 a5 a6 ho hm hp
    exact hs d post a1 a2 a3 a4 a5 a6 ho hp (fun post' b1 b2 b3 b4 b5 b6 ho' hm' hp' => ih post' b1 b2 b3 b4 b5 b6 ho' (by omega) hp')
theorem rec_p {σ ρ : Type} (W : Nat → (ρ → Prop) → σ → Prop) (ok : σ → Prop) (μ : σ → Nat) (val : σ → ρ)
    (hs : ∀ d s post, ok s → post (val s) → (∀ s' post', ok s' → μ s' < μ s → post' (val s') → W d post' s') → W (d + 1) post s) :
    ∀ d s post, ok s → μ s < d → post (val s) → W d post s := by
  intro d
  induction d with
  | zero => intro s post _ h; omega
  | succ d ih =>
    intro s post ho hm hp
    exact hs d s post ho hp (fun s' post' ho' hm' hp' => ih s' post' ho' (by omega) hp')
theorem rec_q {σ ρ : Type} (W : Nat → (ρ → Prop) → σ → Prop) (ok : σ → Prop) (μ : σ → Nat) (Q : σ → ρ → Prop)
    (hs : ∀ d s post, ok s → (∀ r, Q s r → post r) → (∀ s' post', ok s' → μ s' < μ s → (∀ r, Q s' r → post' r) → W d post' s') → W (d + 1) post s) :
    ∀ d s post, ok s → μ s < d → (∀ r, Q s r → post r) → W d post s := by
  intro d
  induction d with
  | zero => intro s post _ h; omega
  | succ d ih =>
    intro s post ho hm hp
    exact hs d s post ho hp (fun s' post' ho' hm' hp' => ih s' post' ho' (by omega) hp')
def bx_sum (f : Nat → Int32) : Nat → Int32
  | 0 => 0
  | n + 1 => bx_sum f n + f n
theorem ek_u {A : Prop} {B : Nat → Prop} {k N : Nat} (hk : k < N) (h : B k) : (some k = none → A) ∧ (∀ y : Nat, some k = some y → (y < N ∧ B y)) :=
  ⟨fun z => absurd z (Option.some_ne_none k), fun _ e => (by cases e; exact ⟨hk, h⟩)⟩
theorem ek_nu {A : Prop} {B : Nat → Prop} (h : A) : ((none : Option Nat) = none → A) ∧ (∀ y : Nat, (none : Option Nat) = some y → B y) :=
  ⟨fun _ => h, fun _ e => (by cases e)⟩
theorem ek_if {c d A B : Prop} (e : c ↔ d) (f : d → A) (g : ¬ d → B) : (c → A) ∧ (¬ c → B) :=
  ⟨fun z => f (e.mp z), fun z => g (fun y => z (e.mpr y))⟩
theorem ek_v {α : Sort _} {P : α → Prop} {a b : α} (e : a = b) (h : P b) : P a := e ▸ h
theorem co_some {x : Option Nat} {A : Prop} {B : Nat → Prop} (i : Nat) (h : B i) (hx : x = some i := by rfl) : (x = none → A) ∧ (∀ y : Nat, x = some y → B y) := by
  subst hx
  exact ⟨fun e => (nomatch e), fun y e => Option.some.inj e ▸ h⟩
theorem co_none {x : Option Nat} {A : Prop} {B : Nat → Prop} (h : A) (hx : x = none := by rfl) : (x = none → A) ∧ (∀ y : Nat, x = some y → B y) := by
  subst hx
  exact ⟨fun _ => h, fun y e => (nomatch e)⟩
theorem co_any {x : Option Nat} {A : Prop} {B : Nat → Prop} (hn : x = none → A) (hs : ∀ i : Nat, x = some i → B i) : (x = none → A) ∧ (∀ y : Nat, x = some y → B y) := ⟨hn, hs⟩
theorem co_2 {P : Nat → Prop} (h0 : P 0) (h1 : P 1) {i : Nat} (hi : i < 2) : P i :=
  match i, hi with
  | 0, _ => h0
  | 1, _ => h1
theorem co_3 {P : Nat → Prop} (h0 : P 0) (h1 : P 1) (h2 : P 2) {i : Nat} (hi : i < 3) : P i :=
  match i, hi with
  | 0, _ => h0
  | 1, _ => h1
  | 2, _ => h2
theorem co_4 {P : Nat → Prop} (h0 : P 0) (h1 : P 1) (h2 : P 2) (h3 : P 3) {i : Nat} (hi : i < 4) : P i :=
  match i, hi with
  | 0, _ => h0
  | 1, _ => h1
  | 2, _ => h2
  | 3, _ => h3
theorem co_dec {N : Nat} {P : Nat → Prop} [DecidablePred P] (h : (List.range N).all (fun i => decide (P i)) = true) {i : Nat} (hi : i < N) : P i := by
  have := List.all_eq_true.mp h i (List.mem_range.mpr hi)
  exact of_decide_eq_true this
theorem co_tab {α : Type} {l : List α} {d : α} {P : α → Prop} (h : ∀ a, a ∈ l → P a) {i : Nat} (hi : i < l.length) : P (l.getD i d) := by
  rw [List.getD_eq_getElem?_getD, List.getElem?_eq_getElem hi]
  exact h _ (List.getElem_mem hi)
theorem pk_mu {x : Int32} {L : Nat} (h0 : ¬ x < 0) (h : ¬ nI L ≤ x) (hL : L < 2 ^ 31) : ∃ j : Nat, j < L ∧ x = nI j ∧ x + 1 = nI (j + 1) ∧ x.toNatClampNeg = j ∧ L - (x + 1).toNatClampNeg < L - x.toNatClampNeg := by
  obtain ⟨j, hj, rfl⟩ := nI_of h0
  have hl : j < L := Nat.not_le.mp fun q => h (nI_le q hj)
  refine ⟨j, hl, rfl, nI_1 j, nI_clamp hj, ?_⟩
  rw [nI_1, nI_clamp (by omega), nI_clamp hj]
  omega
theorem op_s {α : Type} {r : Option α} {A : Prop} {B : α → Prop} {y : α} (h : r = some y) (b : B y) : (r = none → A) ∧ ∀ z, r = some z → B z :=
  ⟨fun e => (by rw [h] at e; cases e), fun z e => (by rw [h] at e; cases e; exact b)⟩
def l_holds {α : Type} (a : Nat → Option Nat) (LP : List Nat) (p : Nat → α) (c : Nat) (b : Nat → α) : Prop :=
  ∀ j, j < c → ∃ y, a j = some y ∧ y ∈ LP ∧ p y = b j
theorem l_holds_0 {α : Type} {a : Nat → Option Nat} {LP : List Nat} {p b : Nat → α} : l_holds a LP p 0 b := fun j h => absurd h (Nat.not_lt_zero j)
theorem l_in_new (LP : List Nat) (q : Nat) : q ∈ LP ++ [q] := List.mem_append.mpr (Or.inr (List.mem_singleton.mpr rfl))
def l_sum (b : Nat → Int32) : Nat → Int32
  | 0 => 0
  | k + 1 => l_sum b k + b k
theorem sb_shr0 (x : Int32) : x >>> ((0 : Int32) &&& 31) = x := by
  rw [show ((0 : Int32) &&& 31) = 0 by decide]
  simp
theorem sb_shl0 (x : Int32) : x <<< ((0 : Int32) &&& 31) = x := by
  rw [show ((0 : Int32) &&& 31) = 0 by decide]
  simp
theorem sb_cl0 : (0 : Int32).toNatClampNeg = 0 := by decide
theorem sb_m1 {p : Nat} (h : 0 < p) : nI p + (-1) = nI (p - 1) := by
  obtain ⟨q, rfl⟩ : ∃ q, p = q + 1 := ⟨p - 1, by omega⟩
  exact pk_m1 q
def sb_b (c : Nat) : Int32 := (nI c).toInt8.toInt32
theorem sb_byte : ∀ c, c < 256 → sb_b c &&& 255 = nI c ∧ ((nI c).toUInt32 % 65536).toInt32 = nI c ∧ nI c ≤ 255 := by decide +kernel
def sb_Fit (a : Nat → Int32) : Prop := ∀ j, fits .byte (.int (a j)) = true
def sb_Lat (t : Nat → Nat) (n : Nat) (a : Nat → Int32) : Prop := ∀ j, j < n → t j < 256 ∧ a j = sb_b (t j)
theorem sb_fitB (c : Nat) : fits .byte (.int (sb_b c)) = true := pk_fb _
theorem sb_fit0 : sb_Fit (fun _ => 0) := fun _ => by
  show fits .byte (.int 0) = true
  decide
theorem sb_fitU {a : Nat → Int32} {k : Nat} {x : Int32} (h : sb_Fit a) (hx : fits .byte (.int x) = true) : sb_Fit (upd a k x) := by
  intro j
  by_cases e : j = k
  · subst e
    rw [pk_us]
    exact hx
  · rw [pk_un e]
    exact h j
def sb_cat (t : Nat → Nat) (n : Nat) (s : Nat → Nat) : Nat → Nat := fun j => if j < n then t j else s (j - n)
theorem sb_cat_lo {t s : Nat → Nat} {n j : Nat} (h : j < n) : sb_cat t n s j = t j := if_pos h
theorem sb_cat_hi {t s : Nat → Nat} {n j : Nat} : sb_cat t n s (n + j) = s j := by
  show (if n + j < n then t (n + j) else s (n + j - n)) = s j
  rw [if_neg (by omega), Nat.add_sub_cancel_left]
theorem sb_latPut {t s : Nat → Nat} {n w : Nat} {a a' : Nat → Int32} (h : sb_Lat t n a) (hk : ∀ j, j < n → a' j = a j) (hs : ∀ i, i < w → s i < 256 ∧ a' (n + i) = sb_b (s i)) : sb_Lat (sb_cat t n s) (n + w) a' := by
  intro j hj
  by_cases e : j < n
  · rw [sb_cat_lo e, hk j e]
    exact h j e
  · obtain ⟨i, rfl⟩ : ∃ i, j = n + i := ⟨j - n, by omega⟩
    rw [sb_cat_hi]
    exact hs i (by omega)
theorem sb_latKeep {t : Nat → Nat} {n : Nat} {a a' : Nat → Int32} (h : sb_Lat t n a) (hk : ∀ j, j < n → a' j = a j) : sb_Lat t n a' := fun j hj => by
  rw [hk j hj]
  exact h j hj
def sb_cap (q m : Nat) : Nat := if q ≤ m then m else if 2 * m + 2 < q then q else 2 * m + 2
def sb_Room (q m mc ms : Nat) : Prop := q ≤ m ∨ (1 ≤ mc ∧ sb_cap q m ≤ ms ∧ sb_cap q m ≤ 65536)
theorem sb_cap_ge (q m : Nat) : q ≤ sb_cap q m := by
  unfold sb_cap
  split
  · omega
  · split <;> omega
theorem sb_cap_gem (q m : Nat) : m ≤ sb_cap q m := by
  unfold sb_cap
  split
  · omega
  · split <;> omega
theorem sb_cap_le {q m mc ms : Nat} (hm : m ≤ 65536) (hr : sb_Room q m mc ms) : sb_cap q m ≤ 65536 := by
  rcases hr with h | h
  · rw [sb_cap, if_pos h]
    exact hm
  · exact h.2.2
theorem sb_at {P : Int32 → Prop} {x y : Int32} (e : x = y) (h : P y) : P x := e ▸ h
def sb_dg (w : Nat) : Nat := if w < 10 then 1 else if w < 100 then 2 else if w < 1000 then 3 else if w < 10000 then 4 else if w < 100000 then 5 else if w < 1000000 then 6 else if w < 10000000 then 7 else if w < 100000000 then 8 else if w < 1000000000 then 9 else 10
def sb_dec (v : Nat) : Nat → Nat := fun i => 48 + v / 10 ^ (sb_dg v - 1 - i) % 10
theorem sb_dg_in (w : Nat) : 1 ≤ sb_dg w ∧ sb_dg w ≤ 10 := by
  unfold sb_dg
  constructor <;> (repeat' split) <;> omega
theorem sb_dg100 {w : Nat} (h : 100 ≤ w) (hw : w < 2 ^ 31) : sb_dg w = sb_dg (w / 100) + 2 := by
  rw [sb_dg, sb_dg, if_neg (show ¬ w < 10 by omega), if_neg (show ¬ w < 100 by omega)]
  by_cases h3 : w < 1000
  · rw [if_pos h3, if_pos (show w / 100 < 10 by omega)]
  rw [if_neg h3, if_neg (show ¬ w / 100 < 10 by omega)]
  by_cases h4 : w < 10000
  · rw [if_pos h4, if_pos (show w / 100 < 100 by omega)]
  rw [if_neg h4, if_neg (show ¬ w / 100 < 100 by omega)]
  by_cases h5 : w < 100000
  · rw [if_pos h5, if_pos (show w / 100 < 1000 by omega)]
  rw [if_neg h5, if_neg (show ¬ w / 100 < 1000 by omega)]
  by_cases h6 : w < 1000000
  · rw [if_pos h6, if_pos (show w / 100 < 10000 by omega)]
  rw [if_neg h6, if_neg (show ¬ w / 100 < 10000 by omega)]
  by_cases h7 : w < 10000000
  · rw [if_pos h7, if_pos (show w / 100 < 100000 by omega)]
  rw [if_neg h7, if_neg (show ¬ w / 100 < 100000 by omega)]
  by_cases h8 : w < 100000000
  · rw [if_pos h8, if_pos (show w / 100 < 1000000 by omega)]
  rw [if_neg h8, if_neg (show ¬ w / 100 < 1000000 by omega)]
  by_cases h9 : w < 1000000000
  · rw [if_pos h9, if_pos (show w / 100 < 10000000 by omega)]
  rw [if_neg h9, if_neg (show ¬ w / 100 < 10000000 by omega)]
  rw [if_pos (show w / 100 < 100000000 by omega)]
theorem sb_negT {w : Nat} (h : w < 2 ^ 31) : (-nI w).toInt = -(w : Int) := by
  rw [Int32.toInt_neg, nI_toInt h]
  exact Int.bmod_eq_of_le (by omega) (by omega)
theorem sb_nle {a b : Nat} (ha : a < 2 ^ 31) (hb : b < 2 ^ 31) : -nI a ≤ -nI b ↔ b ≤ a := by
  rw [Int32.le_iff_toInt_le, sb_negT ha, sb_negT hb]
  omega
theorem sb_nlt {a b : Nat} (ha : a < 2 ^ 31) (hb : b < 2 ^ 31) : -nI a < -nI b ↔ b < a := by
  rw [Int32.lt_iff_toInt_lt, sb_negT ha, sb_negT hb]
  omega
theorem sb_cmp {A B : Prop} {x : Int32} (v c : Nat) (f : c ≤ v → A) (g : v < c → B) (hv : v < 2 ^ 31) (hx : x = -nI c := by rfl) (hc : c < 2 ^ 31 := by omega) : (-nI v ≤ x → A) ∧ (¬ -nI v ≤ x → B) := by
  subst hx
  rw [sb_nle hv hc]
  exact ⟨f, fun z => g (by omega)⟩
theorem sb_ndiv {w : Nat} (hw : w < 2 ^ 31) : (-nI w) / 100 = -nI (w / 100) := by
  apply Int32.toInt_inj.mp
  have h100 : (100 : Int32).toInt = 100 := by decide
  rw [Int32.toInt_div, sb_negT hw, h100, sb_negT (by omega), Int.neg_tdiv, Int.tdiv_eq_ediv_of_nonneg (by omega), Int.bmod_eq_of_le (by omega) (by omega)]
  omega
theorem sb_nrem {w : Nat} (hw : w < 2 ^ 31) : (-nI (w / 100)) * 100 - (-nI w) = nI (w % 100) := by
  have h := pk_rem (a := w) (d := 100) hw (by decide) (by decide)
  rw [pk_div hw (by decide) (by decide)] at h
  rw [← h]
  show (-nI (w / 100)) * nI 100 - (-nI w) = nI w - nI (w / 100) * nI 100
  rw [Int32.neg_mul, Int32.sub_neg, Int32.add_comm, ← Int32.sub_eq_add_neg]
end
section
/-! rows on bits, shifts and unsigned numbers, to paste: each family out of a closed proof of our own, whole with what it rests on; each by itself clean at Lean in its own claim (generation 39, form 5). Take a family whole -/
/-! ===== Int32 by its bits: bt x i ===== -/
def bt (x : Int32) (i : Nat) : Bool := x.toBitVec.getLsbD i
theorem b_ext {x y : Int32} (h : ∀ i, i < 32 → bt x i = bt y i) : x = y := Int32.toBitVec_inj.mp (BitVec.eq_of_getLsbD_eq (fun i hi => h i hi))
theorem b_or (x y : Int32) (i : Nat) : bt (x ||| y) i = (bt x i || bt y i) := by unfold bt; rw [Int32.toBitVec_or, BitVec.getLsbD_or]
theorem b_and (x y : Int32) (i : Nat) : bt (x &&& y) i = (bt x i && bt y i) := by unfold bt; rw [Int32.toBitVec_and, BitVec.getLsbD_and]
theorem b_xor (x y : Int32) (i : Nat) : bt (x ^^^ y) i = (bt x i ^^ bt y i) := by unfold bt; rw [Int32.toBitVec_xor, BitVec.getLsbD_xor]
theorem b_big {x : Int32} {i : Nat} (h : 32 ≤ i) : bt x i = false := BitVec.getLsbD_of_ge _ _ h
theorem b_255 (i : Nat) : bt 255 i = decide (i < 8) := by
  rcases Nat.lt_or_ge i 32 with h | h
  · exact (by decide +kernel : ∀ i, i < 32 → bt 255 i = decide (i < 8)) i h
  · rw [b_big h, decide_eq_false (by omega)]
theorem b_65535 (i : Nat) : bt 65535 i = decide (i < 16) := by
  rcases Nat.lt_or_ge i 32 with h | h
  · exact (by decide +kernel : ∀ i, i < 32 → bt 65535 i = decide (i < 16)) i h
  · rw [b_big h, decide_eq_false (by omega)]
theorem b_m1 : ∀ i, i < 32 → bt (-1) i = true := by decide +kernel
theorem b_0 (i : Nat) : bt 0 i = false := BitVec.getLsbD_zero
theorem s_l : ∀ n, n < 32 → ((nI n &&& 31).toBitVec.smod 32).toNat = n := by decide +kernel
theorem s_u : ∀ n, n < 32 → (((nI n).toUInt32 &&& Int32.toUInt32 31).toBitVec % 32).toNat = n := by decide +kernel
theorem b_shl (n : Nat) (hn : n < 32) (x : Int32) {i : Nat} (hi : i < 32) : bt (x <<< (nI n &&& 31)) i = (decide (n ≤ i) && bt x (i - n)) := by
  unfold bt
  rw [Int32.toBitVec_shiftLeft]
  show (x.toBitVec <<< ((nI n &&& 31).toBitVec.smod 32).toNat).getLsbD i = _
  rw [s_l n hn, BitVec.getLsbD_shiftLeft]
  rcases Nat.lt_or_ge i n with h | h
  · simp [h, Nat.not_le.mpr h]
  · simp [hi, h, Nat.not_lt.mpr h]
theorem b_ushr (n : Nat) (hn : n < 32) (x : Int32) (i : Nat) : bt ((x.toUInt32 >>> ((nI n).toUInt32 &&& Int32.toUInt32 31)).toInt32) i = bt x (n + i) := by
  show (x.toUInt32 >>> ((nI n).toUInt32 &&& Int32.toUInt32 31)).toBitVec.getLsbD i = x.toUInt32.toBitVec.getLsbD (n + i)
  rw [UInt32.toBitVec_shiftRight]
  show (x.toUInt32.toBitVec >>> (((nI n).toUInt32 &&& Int32.toUInt32 31).toBitVec % 32).toNat).getLsbD i = _
  rw [s_u n hn, BitVec.getLsbD_ushiftRight]
theorem b_sshr (n : Nat) (hn : n < 32) (x : Int32) {i : Nat} (hi : i < 32) : bt (x >>> (nI n &&& 31)) i = if n + i < 32 then bt x (n + i) else bt x 31 := by
  unfold bt
  rw [Int32.toBitVec_shiftRight]
  show (x.toBitVec.sshiftRight ((nI n &&& 31).toBitVec.smod 32).toNat).getLsbD i = _
  rw [s_l n hn, BitVec.getLsbD_sshiftRight, BitVec.msb_eq_getLsbD_last]
  simp [hi]
theorem b_shl8 (x : Int32) {i : Nat} (hi : i < 32) : bt (x <<< ((8 : Int32) &&& 31)) i = (decide (8 ≤ i) && bt x (i - 8)) := b_shl 8 (by omega) x hi
theorem b_shl16 (x : Int32) {i : Nat} (hi : i < 32) : bt (x <<< ((16 : Int32) &&& 31)) i = (decide (16 ≤ i) && bt x (i - 16)) := b_shl 16 (by omega) x hi
theorem b_shl24 (x : Int32) {i : Nat} (hi : i < 32) : bt (x <<< ((24 : Int32) &&& 31)) i = (decide (24 ≤ i) && bt x (i - 24)) := b_shl 24 (by omega) x hi
theorem b_sshr8 (x : Int32) {i : Nat} (hi : i < 32) : bt (x >>> ((8 : Int32) &&& 31)) i = if 8 + i < 32 then bt x (8 + i) else bt x 31 := b_sshr 8 (by omega) x hi
/-! ===== nI under and, xor, >>>, one bit, 65535 ===== -/
theorem nx_and (a b : Nat) : nI a &&& nI b = nI (a &&& b) := by
  apply Int32.toBitVec_inj.1
  show BitVec.ofNat 32 a &&& BitVec.ofNat 32 b = BitVec.ofNat 32 (a &&& b)
  apply BitVec.eq_of_getLsbD_eq
  intro i hi
  simp [hi]
theorem nx_xor (a b : Nat) : nI a ^^^ nI b = nI (a ^^^ b) := by
  apply Int32.toBitVec_inj.1
  show BitVec.ofNat 32 a ^^^ BitVec.ofNat 32 b = BitVec.ofNat 32 (a ^^^ b)
  apply BitVec.eq_of_getLsbD_eq
  intro i hi
  simp [hi]
theorem nx_cnt : ∀ j : Fin 32, (UInt32.ofNat j.val &&& Int32.toUInt32 31).toNat % 32 = j.val := by decide +kernel
theorem nx_ush {k j : Nat} (hk : k < 65536) (hj : j < 32) : ((nI k).toUInt32 >>> ((nI j).toUInt32 &&& Int32.toUInt32 31)).toInt32 = nI (k >>> j) := by
  have hs : k >>> j ≤ k := by
    rw [Nat.shiftRight_eq_div_pow]
    exact Nat.div_le_self _ _
  have e2 : UInt32.ofNat k >>> (UInt32.ofNat j &&& Int32.toUInt32 31) = UInt32.ofNat (k >>> j) := by
    apply UInt32.toNat_inj.1
    have h1 : (UInt32.ofNat k).toNat = k := Nat.mod_eq_of_lt (by omega)
    have h2 : (UInt32.ofNat (k >>> j)).toNat = k >>> j := Nat.mod_eq_of_lt (by omega)
    rw [UInt32.toNat_shiftRight, nx_cnt ⟨j, hj⟩, h1, h2]
  show (UInt32.ofNat k >>> (UInt32.ofNat j &&& Int32.toUInt32 31)).toInt32 = _
  rw [e2]
  rfl
theorem nx_bit {k j : Nat} (hk : k < 65536) (hj : j < 16) : (((nI k).toUInt32 >>> ((nI j).toUInt32 &&& Int32.toUInt32 31)).toInt32 &&& 1) = 0 ↔ k.testBit j = false := by
  rw [nx_ush hk (by omega)]
  show nI (k >>> j) &&& nI 1 = 0 ↔ _
  rw [nx_and, Nat.and_one_is_mod, ← nI_0, nI_eq (by omega) (by omega), Nat.testBit_eq_decide_div_mod_eq, Nat.shiftRight_eq_div_pow, decide_eq_false_iff_not]
  generalize k / 2 ^ j = z
  omega
theorem nx_mod (k : Nat) : nI k &&& 65535 = nI (k % 65536) := by
  show nI k &&& nI 65535 = _
  rw [nx_and, show (65535 : Nat) = 2 ^ 16 - 1 from rfl, Nat.and_two_pow_sub_one_eq_mod]
theorem nx_m16 {k : Nat} (h : k < 65536) : nI k &&& 65535 = nI k := by rw [nx_mod, Nat.mod_eq_of_lt h]
theorem nx_mask (x : Int32) : ∃ k, k < 65536 ∧ x &&& 65535 = nI k := by
  have e : x = nI x.toBitVec.toNat := by
    apply Int32.toBitVec_inj.1
    show x.toBitVec = BitVec.ofNat 32 x.toBitVec.toNat
    simp
  refine ⟨x.toBitVec.toNat % 65536, Nat.mod_lt _ (by omega), ?_⟩
  rw [← nx_mod, ← e]
/-! ===== Int32 as a set of bits: test, set ===== -/
def nf_M (m : Int32) : Nat := 4294967296 - m.toBitVec.toNat
theorem nf_sh : ∀ l, l < 32 → ((1 : Int32) <<< (nI l &&& 31)).toBitVec = BitVec.twoPow 32 l := by decide +kernel
theorem nf_sl : ∀ l, l < 32 → (((nI l).toUInt32 &&& Int32.toUInt32 31).toBitVec % 32).toNat = l := by decide +kernel
theorem nf_tp : ∀ l, l < 32 → BitVec.twoPow 32 l ≠ 0#32 := by decide +kernel
theorem nf_bit (m : Int32) (l : Nat) (hl : l < 32) : ((m.toUInt32 >>> ((nI l).toUInt32 &&& Int32.toUInt32 31)).toInt32 &&& 1) = 0 ↔ (m &&& ((1 : Int32) <<< (nI l &&& 31))) = 0 := by
  have e : ((m.toUInt32 >>> ((nI l).toUInt32 &&& Int32.toUInt32 31)).toInt32).toBitVec = m.toBitVec >>> l := by
    show m.toBitVec >>> (((nI l).toUInt32 &&& Int32.toUInt32 31).toBitVec % 32) = m.toBitVec >>> l
    rw [BitVec.ushiftRight_eq', nf_sl l hl]
  rw [← Int32.toBitVec_inj, ← Int32.toBitVec_inj, Int32.toBitVec_and, Int32.toBitVec_and, nf_sh l hl, e, BitVec.and_twoPow]
  show (m.toBitVec >>> l &&& 1#32) = 0#32 ↔ _ = 0#32
  rw [BitVec.and_one_eq_setWidth_ofBool_getLsbD, BitVec.getLsbD_ushiftRight, Nat.add_zero]
  cases hb : m.toBitVec.getLsbD l
  · exact ⟨fun _ => by simp, fun _ => by decide⟩
  · exact ⟨fun z => absurd z (by decide), fun z => absurd ((if_pos rfl).symm.trans z) (nf_tp l hl)⟩
theorem nf_gr (m k : Int32) (h : m &&& k = 0) (hk : k ≠ 0) : nf_M (m ||| k) < nf_M m := by
  have hm := m.toBitVec.isLt
  have hm' := (m ||| k).toBitVec.isLt
  have h1 : m.toBitVec.toNat ≤ (m ||| k).toBitVec.toNat := by
    rw [Int32.toBitVec_or, BitVec.toNat_or]
    exact Nat.left_le_or
  have h2 : m.toBitVec.toNat ≠ (m ||| k).toBitVec.toNat := by
    intro e
    have e2 : m = m ||| k := Int32.toBitVec_inj.mp (BitVec.eq_of_toNat_eq e)
    apply hk
    apply Int32.toBitVec_inj.mp
    show k.toBitVec = 0#32
    apply BitVec.eq_of_getLsbD_eq
    intro i hi
    have a : m.toBitVec.getLsbD i = (m.toBitVec.getLsbD i || k.toBitVec.getLsbD i) := by rw [← BitVec.getLsbD_or, ← Int32.toBitVec_or, ← e2]
    have b : (m.toBitVec.getLsbD i && k.toBitVec.getLsbD i) = false := by
      rw [← BitVec.getLsbD_and, ← Int32.toBitVec_and, h]
      exact BitVec.getLsbD_zero
    rw [BitVec.getLsbD_zero]
    revert a b
    cases m.toBitVec.getLsbD i <;> cases k.toBitVec.getLsbD i <;> simp
  unfold nf_M
  omega
/-! ===== a byte read unsigned ===== -/
theorem bp_b (x : Int32) : x.toInt8.toInt32 &&& 255 = x &&& 255 := by
  apply Int32.toBitVec_inj.mp
  rw [Int32.toBitVec_and, Int32.toBitVec_and, Int8.toBitVec_toInt32, Int32.toBitVec_toInt8]
  apply BitVec.eq_of_getLsbD_eq
  intro i hi
  rw [BitVec.getLsbD_and, BitVec.getLsbD_and]
  have hm : ∀ i < 32, 8 ≤ i → (255 : Int32).toBitVec.getLsbD i = false := by decide
  rcases Nat.lt_or_ge i 8 with z | z
  · rw [BitVec.getLsbD_signExtend, BitVec.getLsbD_signExtend, if_pos z, if_pos hi]
    simp only [z, hi, decide_true, Bool.true_and]
  · rw [hm i hi z]; simp
/-! ===== the char cast and 65535 ===== -/
theorem em_w (v : Int32) : ∃ w : Nat, w < 65536 ∧ (v.toUInt32 % 65536).toInt32 = nI w ∧ v &&& 65535 = nI w := by
  have hr := lw_u16_r v
  have h0 : (0 : Int32).toInt = 0 := by decide
  obtain ⟨w, h1, h2⟩ := nI_of (x := lw_u16 v) (by rw [Int32.lt_iff_toInt_lt]; omega)
  have h3 : (v.toUInt32 % 65536).toInt32 = nI w := h2
  rw [h2, nI_toInt h1] at hr
  exact ⟨w, by omega, h3, by rw [← lg_i2c_mask, ← lg_i2c_nf, h3]⟩
/-! ===== Int64 as a set of bits: test, set, clear ===== -/
theorem ts_nf {x : Bool} (h : ¬ x = false) : x = true := by cases x <;> first | rfl | exact absurd rfl h
theorem ts_nt {x : Bool} (h : ¬ x = true) : x = false := by cases x <;> first | rfl | exact absurd rfl h
theorem ts_bit {w : Int64} {s : UInt64} {j : Nat} (hj : j < 64) (hs : s.toNat = j) : ((w.toUInt64 >>> s).toInt64 &&& 1) = 0 ↔ w.toBitVec.getLsbD j = false := by
  have e : (w.toUInt64 >>> s).toInt64.toBitVec = w.toBitVec >>> j := by
    apply BitVec.eq_of_toNat_eq
    show (w.toUInt64 >>> s).toNat = _
    rw [UInt64.toNat_shiftRight, hs, Nat.mod_eq_of_lt hj, BitVec.toNat_ushiftRight]
    rfl
  rw [← Int64.toBitVec_inj, Int64.toBitVec_and, e]
  show w.toBitVec >>> j &&& 1#64 = 0#64 ↔ _
  constructor
  · intro h
    have t := congrArg (fun x => x.getLsbD 0) h
    simpa using t
  · intro h
    apply BitVec.eq_of_getLsbD_eq
    intro i hi
    cases i with
    | zero => simp [h]
    | succ i => simp
theorem ts_or {w m : Int64} {j : Nat} (hj : j < 64) (hm : m.toBitVec = BitVec.twoPow 64 j) : (w ||| m) = w ↔ w.toBitVec.getLsbD j = true := by
  rw [← Int64.toBitVec_inj, Int64.toBitVec_or, hm]
  constructor
  · intro h
    have t := congrArg (fun x => x.getLsbD j) h
    simp only [BitVec.getLsbD_or, BitVec.getLsbD_twoPow] at t
    simpa [hj] using t.symm
  · intro h
    apply BitVec.eq_of_getLsbD_eq
    intro i hi
    rw [BitVec.getLsbD_or, BitVec.getLsbD_twoPow]
    by_cases e : j = i
    · subst e; rw [h, Bool.true_or]
    · simp [e]
theorem ts_and {w m : Int64} {j : Nat} (hj : j < 64) (hm : m.toBitVec = BitVec.twoPow 64 j) : (w &&& (m ^^^ (-1))) = w ↔ w.toBitVec.getLsbD j = false := by
  have ha : (-1 : Int64).toBitVec = BitVec.allOnes 64 := by decide
  rw [← Int64.toBitVec_inj, Int64.toBitVec_and, Int64.toBitVec_xor, hm, ha]
  constructor
  · intro h
    have t := congrArg (fun x => x.getLsbD j) h
    simp only [BitVec.getLsbD_and, BitVec.getLsbD_xor, BitVec.getLsbD_twoPow, BitVec.getLsbD_allOnes] at t
    simpa [hj] using t.symm
  · intro h
    apply BitVec.eq_of_getLsbD_eq
    intro i hi
    rw [BitVec.getLsbD_and, BitVec.getLsbD_xor, BitVec.getLsbD_twoPow, BitVec.getLsbD_allOnes]
    by_cases e : j = i
    · subst e; rw [h, Bool.false_and]
    · simp [e, hi]
/-! ===== lN n to 2^64: shifts, and, or, masks, one bit ===== -/
theorem wb_tb (n : Nat) : (lN n).toBitVec = BitVec.ofNat 64 n := rfl
theorem wb_inj {a b : Int64} (h : a.toBitVec = b.toBitVec) : a = b := Int64.toBitVec_inj.mp h
theorem wb_tn {n : Nat} (h : n < 2 ^ 64) : (lN n).toBitVec.toNat = n := by rw [wb_tb, BitVec.toNat_ofNat, Nat.mod_eq_of_lt h]
theorem wb_of (x : Int64) : ∃ n, n < 2 ^ 64 ∧ x = lN n := ⟨x.toBitVec.toNat, x.toBitVec.isLt, wb_inj (by rw [wb_tb]; simp)⟩
theorem wb_of32 (x : Int32) : ∃ n, n < 2 ^ 32 ∧ x = nI n := ⟨x.toBitVec.toNat, x.toBitVec.isLt, Int32.toBitVec_inj.mp (by show _ = BitVec.ofNat 32 _; simp)⟩
theorem wb_c : ∀ k, k < 64 → ((nI k).toInt64 &&& 63) = lN k := by decide +kernel
theorem wb_cu : ∀ k, k < 64 → ((nI k).toInt64.toUInt64 &&& Int64.toUInt64 63) = UInt64.ofNat k := by decide +kernel
theorem wb_sm : ∀ k, k < 64 → (BitVec.ofNat 64 k).smod 64 = BitVec.ofNat 64 k := by decide +kernel
theorem wb_pw {a b : Nat} (h : a ≤ b) : 2 ^ b = 2 ^ a * 2 ^ (b - a) := by rw [← Nat.pow_add]; congr 1; omega
theorem wb_lt2 {a b : Nat} (h : a < b) : 2 ^ a < 2 ^ b := Nat.pow_lt_pow_right (by decide) h
theorem wb_mod (n : Nat) : lN n = lN (n % 2 ^ 64) := wb_inj (by rw [wb_tb, wb_tb]; apply BitVec.eq_of_toNat_eq; rw [BitVec.toNat_ofNat, BitVec.toNat_ofNat, Nat.mod_mod])
theorem wb_shr {n k : Nat} (hn : n < 2 ^ 64) (hk : k < 64) : ((lN n).toUInt64 >>> ((nI k).toInt64.toUInt64 &&& Int64.toUInt64 63)).toInt64 = lN (n / 2 ^ k) := by
  rw [wb_cu k hk]
  apply wb_inj
  apply BitVec.eq_of_toNat_eq
  show ((lN n).toUInt64 >>> UInt64.ofNat k).toNat = (BitVec.ofNat 64 _).toNat
  have h1 : (UInt64.ofNat k).toNat = k := by
    show (BitVec.ofNat 64 k).toNat = k
    rw [BitVec.toNat_ofNat, Nat.mod_eq_of_lt (by omega)]
  have h2 : (lN n).toUInt64.toNat = n := wb_tn hn
  rw [UInt64.toNat_shiftRight, h1, h2, Nat.mod_eq_of_lt hk, Nat.shiftRight_eq_div_pow, BitVec.toNat_ofNat, Nat.mod_eq_of_lt (Nat.lt_of_le_of_lt (Nat.div_le_self _ _) hn)]
theorem wb_shl (n : Nat) {k : Nat} (hk : k < 64) : lN n <<< ((nI k).toInt64 &&& 63) = lN (n * 2 ^ k) := by
  rw [wb_c k hk]
  apply wb_inj
  rw [Int64.toBitVec_shiftLeft, wb_tb, wb_tb, wb_tb, wb_sm k hk]
  apply BitVec.eq_of_toNat_eq
  rw [BitVec.shiftLeft_eq', BitVec.toNat_shiftLeft, BitVec.toNat_ofNat, BitVec.toNat_ofNat, BitVec.toNat_ofNat, Nat.mod_eq_of_lt (show k < 2 ^ 64 by omega), Nat.shiftLeft_eq, Nat.mul_mod, Nat.mod_mod, ← Nat.mul_mod]
theorem wb_and {a b : Nat} (ha : a < 2 ^ 64) (hb : b < 2 ^ 64) : lN a &&& lN b = lN (a &&& b) := by
  apply wb_inj
  rw [Int64.toBitVec_and, wb_tb, wb_tb, wb_tb]
  apply BitVec.eq_of_toNat_eq
  rw [BitVec.toNat_and, BitVec.toNat_ofNat, BitVec.toNat_ofNat, BitVec.toNat_ofNat, Nat.mod_eq_of_lt ha, Nat.mod_eq_of_lt hb, Nat.mod_eq_of_lt (Nat.and_lt_two_pow _ hb)]
theorem wb_or {a b : Nat} (ha : a < 2 ^ 64) (hb : b < 2 ^ 64) : lN a ||| lN b = lN (a ||| b) := by
  apply wb_inj
  rw [Int64.toBitVec_or, wb_tb, wb_tb, wb_tb]
  apply BitVec.eq_of_toNat_eq
  rw [BitVec.toNat_or, BitVec.toNat_ofNat, BitVec.toNat_ofNat, BitVec.toNat_ofNat, Nat.mod_eq_of_lt ha, Nat.mod_eq_of_lt hb, Nat.mod_eq_of_lt (Nat.or_lt_two_pow ha hb)]
theorem wb_mask {n k : Nat} (hn : n < 2 ^ 64) (hk : k < 64) : lN n &&& lN (2 ^ k - 1) = lN (n % 2 ^ k) := by
  rw [wb_and hn (by have := wb_lt2 hk; omega), Nat.and_two_pow_sub_one_eq_mod]
theorem wb_a1 {n : Nat} (hn : n < 2 ^ 64) : lN n &&& 1 = lN (n % 2) := wb_mask (k := 1) hn (by decide)
theorem wb_bit {n k : Nat} (hn : n < 2 ^ 64) (hk : k < 64) : ((lN n).toUInt64 >>> ((nI k).toInt64.toUInt64 &&& Int64.toUInt64 63)).toInt64 &&& 1 = lN (n / 2 ^ k % 2) := by
  rw [wb_shr hn hk, wb_a1 (Nat.lt_of_le_of_lt (Nat.div_le_self _ _) hn)]
theorem wb_xor {q k : Nat} (hk : k < 63) (h : 2 ^ k ≤ q) (h2 : q < 2 ^ (k + 1)) : lN q ^^^ lN (2 ^ k) = lN (q - 2 ^ k) := by
  obtain ⟨r, rfl⟩ : ∃ r, q = 2 ^ k + r := ⟨q - 2 ^ k, by omega⟩
  have hr : r < 2 ^ k := by rw [Nat.pow_succ] at h2; omega
  have hx : (2 ^ k + r) ^^^ 2 ^ k = r := by
    apply Nat.eq_of_testBit_eq
    intro i
    rw [Nat.testBit_xor, Nat.testBit_two_pow]
    rcases Nat.lt_trichotomy i k with h | h | h
    · rw [Nat.testBit_two_pow_add_gt h]
      simp [show ¬ k = i by omega]
    · subst h
      rw [Nat.testBit_two_pow_add_eq]
      simp
    · have a1 : 2 ^ (k + 1) ≤ 2 ^ i := Nat.pow_le_pow_right (by decide) h
      rw [Nat.testBit_lt_two_pow (show 2 ^ k + r < 2 ^ i by omega), Nat.testBit_lt_two_pow (show r < 2 ^ i by omega)]
      simp [show ¬ k = i by omega]
  have b1 := wb_lt2 (show k + 1 < 64 by omega)
  have b2 := wb_lt2 (show k < 64 by omega)
  apply wb_inj
  rw [Int64.toBitVec_xor, wb_tb, wb_tb, wb_tb]
  apply BitVec.eq_of_toNat_eq
  rw [BitVec.toNat_xor, BitVec.toNat_ofNat, BitVec.toNat_ofNat, BitVec.toNat_ofNat, Nat.mod_eq_of_lt (by omega : 2 ^ k + r < 2 ^ 64), Nat.mod_eq_of_lt b2, hx, Nat.add_sub_cancel_left, Nat.mod_eq_of_lt (by omega)]
/-! ===== lN: masks, 'or' of parts that don't overlap is a sum ===== -/
theorem u_tn {n : Nat} (h : n < 2 ^ 64) : (UInt64.ofNat n).toNat = n := Nat.mod_eq_of_lt h
theorem g_and {a b c : Nat} (ha : a < 2 ^ 64) (hb : b < 2 ^ 64) (hc : a &&& b = c) : lN a &&& lN b = lN c := by
  subst hc
  have h : UInt64.ofNat a &&& UInt64.ofNat b = UInt64.ofNat (a &&& b) := UInt64.toNat_inj.mp (by rw [UInt64.toNat_and, u_tn ha, u_tn hb, u_tn (Nat.and_lt_two_pow a hb)])
  have h2 := congrArg UInt64.toInt64 h
  exact h2
theorem g_and1 {a : Nat} (ha : a < 2 ^ 64) : lN a &&& 1 = lN (a % 2) := g_and (b := 1) ha (by decide) (Nat.and_two_pow_sub_one_eq_mod a 1)
theorem g_mask {a s p : Nat} (hp : 2 ^ s = p) (hs : s < 64) (ha : a < 2 ^ 64) : lN a &&& lN (p - 1) = lN (a % p) := by
  subst hp
  have := Nat.pow_lt_pow_right (show 1 < 2 by decide) hs
  exact g_and ha (by omega) (Nat.and_two_pow_sub_one_eq_mod a s)
theorem g_or {k p a b : Nat} (hp : 2 ^ k = p) (ha : a < p) (h : b * p + a < 2 ^ 64) : lN (b * p) ||| lN a = lN (b * p + a) := by
  subst hp
  have h1 : b * 2 ^ k ||| a = b * 2 ^ k + a := by rw [← Nat.shiftLeft_eq, Nat.shiftLeft_add_eq_or_of_lt ha]
  have h3 : UInt64.ofNat (b * 2 ^ k) ||| UInt64.ofNat a = UInt64.ofNat (b * 2 ^ k + a) := UInt64.toNat_inj.mp (by rw [UInt64.toNat_or, u_tn (by omega), u_tn (by omega), u_tn h, h1])
  have h2 := congrArg UInt64.toInt64 h3
  exact h2
theorem g_or' {k p a b : Nat} (hp : 2 ^ k = p) (ha : a < p) (h : a + b * p < 2 ^ 64) : lN a ||| lN (b * p) = lN (a + b * p) := by
  rw [Int64.or_comm, g_or hp ha (by omega), Nat.add_comm]
theorem g_ushr {a k p : Nat} {y : UInt64} (hy : y = UInt64.ofNat k) (hk : k < 64) (hp : 2 ^ k = p) (ha : a < 2 ^ 64) : ((lN a).toUInt64 >>> y).toInt64 = lN (a / p) := by
  subst hy hp
  have h : UInt64.ofNat a >>> UInt64.ofNat k = UInt64.ofNat (a / 2 ^ k) := UInt64.toNat_inj.mp (by rw [UInt64.toNat_shiftRight, u_tn ha, u_tn (by omega), u_tn (Nat.lt_of_le_of_lt (Nat.div_le_self _ _) ha), Nat.mod_eq_of_lt hk, Nat.shiftRight_eq_div_pow])
  have h2 := congrArg UInt64.toInt64 h
  exact h2
theorem g_shl {a k p : Nat} {y : Int64} (hy : y.toBitVec.smod 64 = BitVec.ofNat 64 k) (hk : k < 64) (hp : 2 ^ k = p) (ha : a < 2 ^ 64) : lN a <<< y = lN (a * p) := by
  subst hp
  apply Int64.toBitVec_inj.mp
  rw [Int64.toBitVec_shiftLeft, hy]
  apply BitVec.eq_of_toNat_eq
  have hb : (lN a).toBitVec.toNat = a := Nat.mod_eq_of_lt ha
  have hk' : (BitVec.ofNat 64 k).toNat = k := Nat.mod_eq_of_lt (by omega)
  have h : ((lN a).toBitVec <<< BitVec.ofNat 64 k).toNat = (a * 2 ^ k) % 2 ^ 64 := by simp only [BitVec.shiftLeft_eq', BitVec.toNat_shiftLeft, hb, hk', Nat.shiftLeft_eq]
  exact h
/-! ===== lN to 2^62 under >> and >>> ===== -/
theorem pf_lI {a : Nat} (h : a < 2 ^ 63) : (lN a).toInt = (a : Int) := lg_ofNat_toInt h
theorem pf_shr {a d : Nat} {D : Int64} (hD : (D.toBitVec.smod 64).toNat = d) (h : a < 2 ^ 62) : lN a >>> D = lN (a / 2 ^ d) := by
  have hd : a / 2 ^ d ≤ a := Nat.div_le_self _ _
  apply Int64.toInt_inj.mp
  have e : (lN a >>> D).toInt = (lN a).toInt >>> d := by
    rw [← hD]
    exact BitVec.toInt_sshiftRight ..
  rw [e, Int.shiftRight_eq_div_pow, pf_lI (by omega), pf_lI (by omega)]
  rfl
theorem pf_ushr {a d : Nat} {D : UInt64} (hD : D.toNat % 64 = d) (h : a < 2 ^ 62) : ((lN a).toUInt64 >>> D).toInt64 = lN (a / 2 ^ d) := by
  have hd : a / 2 ^ d ≤ a := Nat.div_le_self _ _
  have e : (lN a).toUInt64 >>> D = UInt64.ofNat (a / 2 ^ d) := UInt64.toNat_inj.mp (by
    rw [UInt64.toNat_shiftRight, hD, Nat.shiftRight_eq_div_pow, UInt64.toNat_ofNat']
    show (UInt64.ofNat a).toNat / 2 ^ d = _
    rw [UInt64.toNat_ofNat', Nat.mod_eq_of_lt (by omega), Nat.mod_eq_of_lt (by omega)])
  rw [e]
  rfl
theorem pf_andw (x : Int64) : ∃ m, m < 2 ^ 32 ∧ x &&& 4294967295 = lN m := ⟨x.toBitVec.toNat % 2 ^ 32, Nat.mod_lt _ (by decide), Int64.toBitVec_inj.mp (BitVec.eq_of_toNat_eq (by
  show (x.toBitVec &&& 4294967295#64).toNat = (BitVec.ofNat 64 (x.toBitVec.toNat % 2 ^ 32)).toNat
  rw [BitVec.toNat_and, show (4294967295#64).toNat = 2 ^ 32 - 1 from by decide, Nat.and_two_pow_sub_one_eq_mod, BitVec.toNat_ofNat]
  omega))⟩
/-! ===== Int64 as an unsigned number: uN x ===== -/
def uN (x : Int64) : Nat := x.toUInt64.toNat
theorem uN_lt (x : Int64) : uN x < 18446744073709551616 := x.toUInt64.toNat_lt
theorem uN_inj {x y : Int64} (h : uN x = uN y) : x = y := congrArg UInt64.toInt64 (UInt64.toNat_inj.mp h)
theorem uN_add (x y : Int64) : uN (x + y) = (uN x + uN y) % 18446744073709551616 := by
  show (x.toUInt64 + y.toUInt64).toNat = _
  exact UInt64.toNat_add _ _
theorem uN_mul (x y : Int64) : uN (x * y) = (uN x * uN y) % 18446744073709551616 := by
  show (x.toUInt64 * y.toUInt64).toNat = _
  exact UInt64.toNat_mul _ _
theorem uN_shl (x : Int64) : uN (x <<< ((1 : Int32).toInt64 &&& 63)) = (2 * uN x) % 18446744073709551616 := by
  have h : (((1 : Int32).toInt64 &&& 63).toBitVec.smod 64).toNat = 1 := by decide
  show (x.toBitVec <<< (((1 : Int32).toInt64 &&& 63).toBitVec.smod 64).toNat).toNat = _
  rw [h, BitVec.toNat_shiftLeft, Nat.shiftLeft_eq, Nat.mul_comm]
  rfl
theorem uN_shr (x : Int64) (s : UInt64) : uN (x.toUInt64 >>> s).toInt64 = uN x / 2 ^ (s.toNat % 64) := by
  show (x.toUInt64 >>> s).toNat = _
  rw [UInt64.toNat_shiftRight, Nat.shiftRight_eq_div_pow]
  rfl
theorem uN_s32 (x : Int64) : uN (x.toUInt64 >>> ((32 : Int32).toInt64.toUInt64 &&& Int64.toUInt64 63)).toInt64 = uN x / 4294967296 := by
  have h : ((32 : Int32).toInt64.toUInt64 &&& Int64.toUInt64 63).toNat % 64 = 32 := by decide
  rw [uN_shr, h]
theorem uN_s63 (x : Int64) : uN (x.toUInt64 >>> ((63 : Int32).toInt64.toUInt64 &&& Int64.toUInt64 63)).toInt64 = uN x / 9223372036854775808 := by
  have h : ((63 : Int32).toInt64.toUInt64 &&& Int64.toUInt64 63).toNat % 64 = 63 := by decide
  rw [uN_shr, h]
theorem uN_lo (x : Int64) : uN (x &&& 4294967295) = uN x % 4294967296 := by
  show (x.toUInt64 &&& Int64.toUInt64 4294967295).toNat = _
  rw [UInt64.toNat_and]
  exact Nat.and_two_pow_sub_one_eq_mod _ 32
theorem uN_bit (x : Int64) : (x &&& 1) = 0 ↔ uN x % 2 = 0 := by
  have h : uN (x &&& 1) = uN x % 2 := by
    show (x.toUInt64 &&& Int64.toUInt64 1).toNat = _
    rw [UInt64.toNat_and]
    exact Nat.and_two_pow_sub_one_eq_mod _ 1
  rw [← h]
  exact ⟨fun z => by rw [z]; rfl, fun z => uN_inj (z.trans rfl)⟩
theorem uN_or {x y : Int64} (hy : uN y < 2) : uN ((x <<< ((1 : Int32).toInt64 &&& 63)) ||| y) = (2 * uN x) % 18446744073709551616 + uN y := by
  have h1 : uN ((x <<< ((1 : Int32).toInt64 &&& 63)) ||| y) = uN (x <<< ((1 : Int32).toInt64 &&& 63)) ||| uN y := UInt64.toNat_or _ _
  have h2 : (2 * uN x) % 18446744073709551616 = 2 ^ 1 * (uN x % 9223372036854775808) := by omega
  rw [h1, uN_shl, h2]
  exact (Nat.two_pow_add_eq_or_of_lt (i := 1) hy _).symm
theorem nat_xor {a : Nat} (h : a < 18446744073709551616) : a ^^^ 2 ^ 63 = (a + 9223372036854775808) % 18446744073709551616 := by
  have h1 : (a ^^^ 2 ^ 63) % 2 ^ 63 = a % 2 ^ 63 := by rw [Nat.xor_mod_two_pow, Nat.mod_self, Nat.xor_zero]
  have h2 : (a ^^^ 2 ^ 63) / 2 ^ 63 = (a / 2 ^ 63) ^^^ 1 := by rw [Nat.xor_div_two_pow, Nat.div_self (Nat.two_pow_pos 63)]
  have h3 : a / 2 ^ 63 = 0 ∨ a / 2 ^ 63 = 1 := by omega
  generalize a ^^^ 2 ^ 63 = t at h1 h2
  rcases h3 with h3 | h3
  · rw [h3] at h2
    have h2 : t / 2 ^ 63 = 1 := h2
    omega
  · rw [h3] at h2
    have h2 : t / 2 ^ 63 = 0 := h2
    omega
theorem uN_xor (x : Int64) : uN (x ^^^ (-9223372036854775808)) = (uN x + 9223372036854775808) % 18446744073709551616 := by
  rw [← nat_xor (uN_lt x)]
  exact UInt64.toNat_xor _ _
theorem uN_int (x : Int64) : x.toInt = if 2 * uN x < 18446744073709551616 then (uN x : Int) else (uN x : Int) - 18446744073709551616 := BitVec.toInt_eq_toNat_cond _
theorem uN_le (x y : Int64) : (x ^^^ (-9223372036854775808)) ≤ (y ^^^ (-9223372036854775808)) ↔ uN x ≤ uN y := by
  have hx := uN_lt x
  have hy := uN_lt y
  rw [Int64.le_iff_toInt_le, uN_int, uN_int, uN_xor, uN_xor]
  omega
theorem uN_sk (x : Int64) {k : Nat} (hk : k < 64) : uN (x.toUInt64 >>> ((nI k).toInt64.toUInt64 &&& Int64.toUInt64 63)).toInt64 = uN x / 2 ^ k := by
  have h : ((nI k).toInt64.toUInt64 &&& Int64.toUInt64 63).toNat % 64 = k := by
    rw [nI_l (by omega), UInt64.toNat_and]
    have e : (lN k).toUInt64.toNat = k % 2 ^ 64 := rfl
    have e2 : (Int64.toUInt64 63).toNat = 2 ^ 6 - 1 := by decide
    rw [e, e2, Nat.and_two_pow_sub_one_eq_mod]
    omega
  rw [uN_shr, h]
/-! ===== unsigned comparison by xor with the least ===== -/
theorem lN_bv (n : Nat) : (lN n).toBitVec = BitVec.ofNat 64 n := rfl
theorem lN_nat {n : Nat} (h : n < 2 ^ 64) : (lN n).toBitVec.toNat = n := by rw [lN_bv, BitVec.toNat_ofNat]; exact Nat.mod_eq_of_lt h
theorem lN_xor (a b : Nat) : lN a ^^^ lN b = lN (a ^^^ b) := by
  apply Int64.toBitVec_inj.mp; rw [Int64.toBitVec_xor, lN_bv, lN_bv, lN_bv]; apply BitVec.eq_of_getLsbD_eq; intro i hi; simp [BitVec.getLsbD_ofNat, Nat.testBit_xor, hi]
theorem lN_ti {m : Nat} (h : m < 2 ^ 64) : (lN m).toInt = if m < 2 ^ 63 then (m : Int) else (m : Int) - 2 ^ 64 := by
  have c := BitVec.toInt_eq_toNat_cond (lN m).toBitVec
  rw [lN_nat h] at c
  show (lN m).toBitVec.toInt = _
  rw [c]
  split <;> split <;> omega
theorem xor63 {x : Nat} (h : x < 2 ^ 63) : x ^^^ 2 ^ 63 = 2 ^ 63 + x := by
  apply Nat.eq_of_testBit_eq
  intro i
  rw [Nat.testBit_xor, Nat.testBit_two_pow]
  rcases Nat.lt_trichotomy i 63 with z | z | z
  · rw [Nat.testBit_two_pow_add_gt z, decide_eq_false (by omega)]; simp
  · subst z; rw [Nat.testBit_two_pow_add_eq]; simp
  · have hp : 2 ^ 64 ≤ 2 ^ i := Nat.pow_le_pow_right (by decide) z
    rw [Nat.testBit_lt_two_pow (show x < 2 ^ i by omega), Nat.testBit_lt_two_pow (show 2 ^ 63 + x < 2 ^ i by omega), decide_eq_false (by omega)]; rfl
theorem xorS {a : Nat} (h : a < 2 ^ 64) : (lN a ^^^ (-9223372036854775808)).toInt = (a : Int) - 2 ^ 63 := by
  rw [show (-9223372036854775808 : Int64) = lN (2 ^ 63) from by decide +kernel, lN_xor]
  rcases Nat.lt_or_ge a (2 ^ 63) with z | z
  · rw [xor63 z, lN_ti (by omega), if_neg (by omega)]; omega
  · obtain ⟨x, rfl⟩ : ∃ x, a = 2 ^ 63 + x := ⟨a - 2 ^ 63, by omega⟩
    rw [← xor63 (by omega), Nat.xor_assoc, Nat.xor_self, Nat.xor_zero, lN_ti (by omega), if_pos (by omega), xor63 (by omega)]; omega
theorem ultL {a b : Nat} (ha : a < 2 ^ 64) (hb : b < 2 ^ 64) : ((lN b ^^^ (-9223372036854775808)) ≤ (lN a ^^^ (-9223372036854775808))) ↔ b ≤ a := by
  rw [Int64.le_iff_toInt_le, xorS ha, xorS hb]; omega
/-! ===== Int64 masks of n low bits ===== -/
theorem cr_bits (W U M : BitVec 64) : ((W &&& U) &&& (U &&& (M ^^^ BitVec.allOnes 64))) = 0#64 ↔ (W &&& U) &&& M = W &&& U := by
  constructor
  · intro h
    apply BitVec.eq_of_getLsbD_eq
    intro i hi
    have e := congrArg (fun x => BitVec.getLsbD x i) h
    simp only [BitVec.getLsbD_and, BitVec.getLsbD_xor, BitVec.getLsbD_allOnes, BitVec.getLsbD_zero, hi, decide_true] at e ⊢
    revert e
    cases W.getLsbD i <;> cases U.getLsbD i <;> cases M.getLsbD i <;> decide
  · intro h
    apply BitVec.eq_of_getLsbD_eq
    intro i hi
    have e := congrArg (fun x => BitVec.getLsbD x i) h
    simp only [BitVec.getLsbD_and, BitVec.getLsbD_xor, BitVec.getLsbD_allOnes, BitVec.getLsbD_zero, hi, decide_true] at e ⊢
    revert e
    cases W.getLsbD i <;> cases U.getLsbD i <;> cases M.getLsbD i <;> decide
theorem cr_mask (w U m : Int64) (n : Nat) (hm : m.toBitVec.toNat = 2 ^ n - 1) : ((w &&& U) &&& (U &&& (m ^^^ (-1)))) = 0 ↔ (w &&& U).toBitVec.toNat < 2 ^ n := by
  have e0 : (-1 : Int64).toBitVec = BitVec.allOnes 64 := by decide
  have z0 : (0 : Int64).toBitVec = 0#64 := by decide
  rw [← Int64.toBitVec_inj, z0, Int64.toBitVec_and, Int64.toBitVec_and, Int64.toBitVec_and, Int64.toBitVec_xor, e0, cr_bits]
  generalize w.toBitVec &&& U.toBitVec = T
  rw [← BitVec.toNat_inj, BitVec.toNat_and, hm, Nat.and_two_pow_sub_one_eq_mod]
  constructor
  · intro h
    have t := Nat.mod_lt T.toNat (Nat.two_pow_pos n)
    rw [h] at t
    exact t
  · exact Nat.mod_eq_of_lt
theorem cr_shr (t : Int64) (x : UInt64) (n : Nat) (hx : x.toNat % 64 = n) : (t.toUInt64 >>> x).toInt64 = 0 ↔ t.toBitVec.toNat < 2 ^ n := by
  rw [← Int64.toBitVec_inj, ← BitVec.toNat_inj]
  show (t.toUInt64 >>> x).toNat = 0 ↔ t.toUInt64.toNat < 2 ^ n
  rw [UInt64.toNat_shiftRight, hx, Nat.shiftRight_eq_div_pow]
  constructor
  · intro h
    have d : t.toUInt64.toNat / 2 ^ n < 1 := by
      rw [h]
      decide
    have e := (Nat.div_lt_iff_lt_mul (Nat.two_pow_pos n)).mp d
    rw [Nat.one_mul] at e
    exact e
  · exact Nat.div_eq_of_lt
theorem cr_amt (s : Int64) : ∃ n, n < 64 ∧ s &&& 63 = lN n ∧ (s.toUInt64 &&& Int64.toUInt64 63).toNat % 64 = n := by
  have e : (s.toUInt64 &&& Int64.toUInt64 63).toNat = s.toUInt64.toNat % 2 ^ 6 := by
    rw [UInt64.toNat_and, show (Int64.toUInt64 63).toNat = 2 ^ 6 - 1 from by decide, Nat.and_two_pow_sub_one_eq_mod]
  refine ⟨s.toUInt64.toNat % 2 ^ 6, by omega, ?_, by omega⟩
  rw [← Int64.toBitVec_inj, ← BitVec.toNat_inj]
  show (s.toUInt64 &&& Int64.toUInt64 63).toNat = (BitVec.ofNat 64 (s.toUInt64.toNat % 2 ^ 6)).toNat
  rw [e, BitVec.toNat_ofNat]
  omega
end
section
/-! words: their fields and properties; truth values -/
noncomputable def dm_b (P : Prop) : Int32 := @ite Int32 P (Classical.propDecidable P) 1 0
theorem dm_b1 {P : Prop} (h : P) : dm_b P = 1 := by unfold dm_b; rw [if_pos h]
theorem dm_b0 {P : Prop} (h : ¬ P) : dm_b P = 0 := by unfold dm_b; rw [if_neg h]
theorem dm_10 : ¬ (1 : Int32) = 0 := by decide
theorem dm_bi {P : Prop} : dm_b P = 0 ↔ ¬ P := by
  by_cases h : P
  · rw [dm_b1 h]; exact ⟨fun q => absurd q dm_10, fun q => absurd h q⟩
  · rw [dm_b0 h]; exact ⟨fun _ => h, fun _ => rfl⟩
theorem dm_be {P Q : Prop} (h : P ↔ Q) : dm_b P = dm_b Q := by rw [propext h]
theorem dm_bc {P A B : Prop} (f : ¬ P → A) (g : P → B) : (dm_b P = 0 → A) ∧ (¬ dm_b P = 0 → B) :=
  ⟨fun h => f (dm_bi.mp h), fun h => g (Classical.byContradiction fun n => h (dm_bi.mpr n))⟩
theorem dm_bt {P A B : Prop} (h : P) (b : B) : (dm_b P = 0 → A) ∧ (¬ dm_b P = 0 → B) := dm_bc (fun n => absurd h n) (fun _ => b)
theorem dm_bf {P A B : Prop} (h : ¬ P) (a : A) : (dm_b P = 0 → A) ∧ (¬ dm_b P = 0 → B) := dm_bc (fun _ => a) (fun n => absurd n h)
theorem dm_bn (P : Prop) : narrow .boolean (.int (dm_b P)) = .int (dm_b P) := by
  by_cases h : P
  · rw [dm_b1 h]; rfl
  · rw [dm_b0 h]; rfl
theorem dm_bfit (P : Prop) : fits .boolean (.int (dm_b P)) = true := by
  by_cases h : P
  · rw [dm_b1 h]; rfl
  · rw [dm_b0 h]; rfl
theorem dm_vb0 : vp_nar .boolean 0 = 0 := by decide
theorem dm_vb1 : vp_nar .boolean 1 = 1 := by decide
theorem dm_vb (P : Prop) : vp_nar .boolean (dm_b P) = dm_b P := by
  by_cases h : P
  · rw [dm_b1 h]; exact dm_vb1
  · rw [dm_b0 h]; exact dm_vb0
theorem dm_p1 {P : Prop} {post : Int32 → Prop} (hp : post (dm_b P)) (h : P) : post 1 := dm_b1 h ▸ hp
theorem dm_p0 {P : Prop} {post : Int32 → Prop} (hp : post (dm_b P)) (h : ¬ P) : post 0 := dm_b0 h ▸ hp
noncomputable def dm_if {α : Type} (P : Prop) (x y : α) : α := @ite α P (Classical.propDecidable P) x y
theorem dm_it {α : Type} {P : Prop} {x y : α} (h : P) : dm_if P x y = x := by unfold dm_if; rw [if_pos h]
theorem dm_in {α : Type} {P : Prop} {x y : α} (h : ¬ P) : dm_if P x y = y := by unfold dm_if; rw [if_neg h]

def dm_op (w : Int32) : Int32 := (w.toUInt32 >>> ((26 : Int32).toUInt32 &&& Int32.toUInt32 31)).toInt32
def dm_fn (w : Int32) : Int32 := w &&& 63
def dm_rs (w : Int32) : Int32 := ((w.toUInt32 >>> ((21 : Int32).toUInt32 &&& Int32.toUInt32 31)).toInt32) &&& 31
def dm_rt (w : Int32) : Int32 := ((w.toUInt32 >>> ((16 : Int32).toUInt32 &&& Int32.toUInt32 31)).toInt32) &&& 31
def dm_rd (w : Int32) : Int32 := ((w.toUInt32 >>> ((11 : Int32).toUInt32 &&& Int32.toUInt32 31)).toInt32) &&& 31
def dm_sh (w : Int32) : Int32 := ((w.toUInt32 >>> ((6 : Int32).toUInt32 &&& Int32.toUInt32 31)).toInt32) &&& 31
def dm_se (w : Int32) : Int32 := (w <<< ((16 : Int32) &&& 31)) >>> ((16 : Int32) &&& 31)
def dm_ze (w : Int32) : Int32 := w &&& 65535
def dm_rsN (w : Int32) : Nat := (dm_rs w).toNatClampNeg
def dm_rtN (w : Int32) : Nat := (dm_rt w).toNatClampNeg
def dm_rdN (w : Int32) : Nat := (dm_rd w).toNatClampNeg
theorem dm_31 (x : Int32) : (x &&& 31).toNatClampNeg < 32 ∧ x &&& 31 = nI (x &&& 31).toNatClampNeg := by
  obtain ⟨j, hj, e⟩ := pk_andE x (m := 31) 5 (by decide)
  rw [e, nI_clamp (by omega)]
  exact ⟨by omega, rfl⟩
theorem dm_rsL (w : Int32) : dm_rsN w < 32 := (dm_31 _).1
theorem dm_rtL (w : Int32) : dm_rtN w < 32 := (dm_31 _).1
theorem dm_rdL (w : Int32) : dm_rdN w < 32 := (dm_31 _).1
theorem dm_rsE (w : Int32) : dm_rs w = nI (dm_rsN w) := (dm_31 _).2
theorem dm_rtE (w : Int32) : dm_rt w = nI (dm_rtN w) := (dm_31 _).2
theorem dm_rdE (w : Int32) : dm_rd w = nI (dm_rdN w) := (dm_31 _).2
/-- the reference's spelling of the same fields -/
theorem dm_fld (n : Nat) (hn : n + 5 ≤ 31) (x : Int32) : (x >>> (nI n &&& 31)) &&& 31 = ((x.toUInt32 >>> ((nI n).toUInt32 &&& Int32.toUInt32 31)).toInt32) &&& 31 := by
  apply b_ext
  intro i hi
  rw [b_and, b_and, b_ushr n (by omega), b_sshr n (by omega) x hi]
  by_cases h : i < 5
  · rw [if_pos (by omega)]
  · have : bt 31 i = false := by
      revert h; revert hi; revert i
      decide +kernel
    rw [this, Bool.and_false, Bool.and_false]
theorem dm_rsY (w : Int32) : (w >>> ((21 : Int32) &&& 31)) &&& 31 = dm_rs w := dm_fld 21 (by omega) w
theorem dm_rtY (w : Int32) : (w >>> ((16 : Int32) &&& 31)) &&& 31 = dm_rt w := dm_fld 16 (by omega) w
theorem dm_rdY (w : Int32) : (w >>> ((11 : Int32) &&& 31)) &&& 31 = dm_rd w := dm_fld 11 (by omega) w
theorem dm_shY (w : Int32) : (w >>> ((6 : Int32) &&& 31)) &&& 31 = dm_sh w := dm_fld 6 (by omega) w
theorem dm_b16 (w : Int32) {i : Nat} (hi : i < 32) : bt (w.toInt16.toInt32) i = if i < 16 then bt w i else bt w 15 := by
  unfold bt
  rw [Int16.toBitVec_toInt32, Int32.toBitVec_toInt16, BitVec.getLsbD_signExtend]
  by_cases h : i < 16
  · rw [if_pos h, if_pos h, BitVec.getLsbD_signExtend, if_pos (by omega)]
    simp [h, hi]
  · rw [if_neg h, if_neg h]
    simp [BitVec.msb_eq_getLsbD_last, BitVec.getLsbD_signExtend, BitVec.getElem_signExtend, hi]
theorem dm_seY (w : Int32) : w.toInt16.toInt32 = dm_se w := by
  apply b_ext
  intro i hi
  rw [dm_b16 w hi]
  unfold dm_se
  rw [show ((16 : Int32) &&& 31) = (nI 16 &&& 31) from rfl, b_sshr 16 (by omega) _ hi]
  by_cases h : i < 16
  · rw [if_pos h, if_pos (by omega), b_shl 16 (by omega) w (by omega)]
    simp [Nat.add_sub_cancel_left]
  · rw [if_neg h, if_neg (by omega), b_shl 16 (by omega) w (by omega)]
    simp
theorem dm_lui (w : Int32) : (w &&& 65535) <<< ((16 : Int32) &&& 31) = w <<< ((16 : Int32) &&& 31) := by
  apply b_ext
  intro i hi
  rw [b_shl16 _ hi, b_shl16 _ hi, b_and, b_65535]
  by_cases h : 16 ≤ i
  · rw [decide_eq_true (show i - 16 < 16 by omega), Bool.and_true]
  · rw [decide_eq_false h, Bool.false_and, Bool.false_and]

def dm_HT (w : Int32) : Prop := ¬ dm_op w < 1 ∧ ¬ 8 ≤ dm_op w
def dm_JM (w : Int32) : Prop := dm_op w = 2 ∨ dm_op w = 3
def dm_FN (w f : Int32) : Prop := dm_op w = 0 ∧ dm_fn w = f
def dm_HS (w : Int32) : Prop := dm_HT w ∨ dm_FN w 8
def dm_PL (w : Int32) : Prop := ¬ dm_HS w ∧ ¬ dm_FN w 13
def dm_LD (w : Int32) : Prop := dm_op w = 35
def dm_LK (w : Int32) : Prop := dm_op w = 3 ∨ (dm_op w = 1 ∧ dm_rt w = 17)
noncomputable def dm_tg (w i : Int32) : Int32 := dm_if (dm_JM w) (w &&& 67108863) ((i + 1) + dm_se w)
noncomputable def dm_ds (w : Int32) : Int32 := dm_if (dm_op w = 0) (dm_if (dm_PL w) (dm_rd w) 0) (dm_if (8 ≤ dm_op w) (dm_if (dm_op w = 43) 0 (dm_rt w)) (dm_if (dm_LK w) 31 0))
def dm_RS (w : Int32) : Prop := (dm_op w = 0 ∧ ¬ dm_fn w = 0 ∧ ¬ dm_fn w = 2 ∧ ¬ dm_fn w = 13) ∨ (¬ dm_op w = 0 ∧ ¬ dm_op w = 2 ∧ ¬ dm_op w = 3 ∧ ¬ dm_op w = 15)
def dm_RT (w : Int32) : Prop := dm_op w = 4 ∨ dm_op w = 5 ∨ dm_op w = 43 ∨ (dm_op w = 0 ∧ dm_PL w)
def dm_TC (w r : Int32) : Prop := ¬ r = 0 ∧ (dm_ds w = r ∨ (dm_rs w = r ∧ dm_RS w) ∨ (dm_rt w = r ∧ dm_RT w))
def dm_GA (dc w : Int32) : Prop := (dm_se w &&& 3) = 0 ∧ ¬ dm_se w < 0 ∧ ¬ (4 * dc) ≤ dm_se w
def dm_MT (dc w : Int32) : Prop := (32 ≤ dm_op w ∧ (¬ dm_rs w = 0 ∨ ¬ dm_GA dc w)) ∨ (¬ 32 ≤ dm_op w ∧ (dm_op w = 8 ∨ dm_FN w 32))
def dm_QT (dc w : Int32) : Prop := dm_PL w ∧ ¬ 32 ≤ dm_op w ∧ ¬ dm_MT dc w
def dm_AF (x : Int32) : Prop := x = 0 ∨ x = 2 ∨ x = 8 ∨ x = 13 ∨ x = 32 ∨ x = 33 ∨ x = 35 ∨ x = 36 ∨ x = 37 ∨ x = 38 ∨ x = 42 ∨ x = 43
def dm_AO (x : Int32) : Prop := x = 2 ∨ x = 3 ∨ x = 4 ∨ x = 5 ∨ x = 8 ∨ x = 9 ∨ x = 10 ∨ x = 12 ∨ x = 13 ∨ x = 15 ∨ x = 35 ∨ x = 43
def dm_A1 (w : Int32) : Prop := dm_rt w = 0 ∨ dm_rt w = 1 ∨ (dm_rt w = 17 ∧ ¬ dm_rs w = 31)
def dm_AC (w : Int32) : Prop := (dm_op w = 0 ∧ dm_AF (dm_fn w)) ∨ (dm_op w = 1 ∧ dm_A1 w) ∨ dm_AO (dm_op w)
theorem dm_tgJ {w i : Int32} (h : dm_JM w) : dm_tg w i = w &&& 67108863 := dm_it h
theorem dm_tgN {w i : Int32} (h : ¬ dm_JM w) : dm_tg w i = (i + 1) + dm_se w := dm_in h
theorem dm_plS {w : Int32} (h : dm_PL w) : ¬ dm_HS w := h.1
theorem dm_JMHT {w : Int32} (h : dm_JM w) : dm_HT w := by
  rcases h with h | h
  · exact ⟨by rw [h]; decide, by rw [h]; decide⟩
  · exact ⟨by rw [h]; decide, by rw [h]; decide⟩
theorem dm_LKHT {w : Int32} (h : dm_LK w) : dm_HT w := by
  rcases h with h | ⟨h, _⟩
  · exact ⟨by rw [h]; decide, by rw [h]; decide⟩
  · exact ⟨by rw [h]; decide, by rw [h]; decide⟩
theorem dm_TC0 {w : Int32} : ¬ dm_TC w 0 := fun h => h.1 rfl
/-- where an accepted word stands -/
theorem dm_ht5 {w : Int32} (a : dm_AC w) : dm_HT w ↔ (¬ dm_op w < 1 ∧ ¬ 5 < dm_op w) := by
  unfold dm_HT
  rcases a with ⟨h, _⟩ | ⟨h, _⟩ | h | h | h | h | h | h | h | h | h | h | h | h <;> rw [h] <;> decide
end
section
/-! the component's methods that only read: each answers its property -/
theorem dm_cv {post : Int32 → Prop} {a b : Int32} (e : a = b) (hp : post a) : post b := e ▸ hp
section XR
variable {f_maxWords f_dataCount f_size f_ready f_codeSize f_shadow f_resReg f_resValue f_resTrap f_resFault f_resNext f_resTaken f_npc f_slotOf f_slotTo f_flightReg f_flightValue : Int32} {a_words a_leader a_moved a_early a_home a_code a_jump a_blockAt a_copied a_cells a_traces a_pcs a_states a_faults a_dones a_entryCounts : Nat → Int32}
variable {post : Int32 → Prop} {i : Nat}
theorem xr_clamp {v lo hi : Int32} (hp : post (if lo ≤ v then (if v ≤ hi then v else hi) else lo)) : wpX_clamp post (f_maxWords, f_dataCount, f_size, f_ready, f_codeSize, f_shadow, f_resReg, f_resValue, f_resTrap, f_resFault, f_resNext, f_resTaken, f_npc, f_slotOf, f_slotTo, f_flightReg, f_flightValue, a_words, a_leader, a_moved, a_early, a_home, a_code, a_jump, a_blockAt, a_copied, a_cells, a_traces, a_pcs, a_states, a_faults, a_dones, a_entryCounts) v lo hi := by
  unfold wpX_clamp
  refine br_c (fun h => br_c (fun h2 => ?_) (fun h2 => ?_)) (fun h => ?_)
  · rw [if_pos h, if_pos h2] at hp; exact hp
  · rw [if_pos h, if_neg h2] at hp; exact hp
  · rw [if_neg h] at hp; exact hp
theorem xr_isFunction {f : Int32} (hi : i < 32) (hp : post (dm_b (dm_FN (a_words i) f))) : wpX_isFunction post (f_maxWords, f_dataCount, f_size, f_ready, f_codeSize, f_shadow, f_resReg, f_resValue, f_resTrap, f_resFault, f_resNext, f_resTaken, f_npc, f_slotOf, f_slotTo, f_flightReg, f_flightValue, a_words, a_leader, a_moved, a_early, a_home, a_code, a_jump, a_blockAt, a_copied, a_cells, a_traces, a_pcs, a_states, a_faults, a_dones, a_entryCounts) (nI i) f := by
  have c : (nI i).toNatClampNeg = i := nI_clamp (by omega)
  have v : vp_in (nI i) 32 := vp_in_nI hi (by omega)
  unfold wpX_isFunction
  rw [c]
  exact And.intro v (br_c (fun h => And.intro v (br_c (fun h2 => dm_p1 hp ⟨h, h2⟩) (fun h2 => dm_p0 hp (fun q => h2 q.2)))) (fun h => dm_p0 hp (fun q => h q.1)))
theorem xr_isJump (hi : i < 32) (hp : post (dm_b (dm_JM (a_words i)))) : wpX_isJump post (f_maxWords, f_dataCount, f_size, f_ready, f_codeSize, f_shadow, f_resReg, f_resValue, f_resTrap, f_resFault, f_resNext, f_resTaken, f_npc, f_slotOf, f_slotTo, f_flightReg, f_flightValue, a_words, a_leader, a_moved, a_early, a_home, a_code, a_jump, a_blockAt, a_copied, a_cells, a_traces, a_pcs, a_states, a_faults, a_dones, a_entryCounts) (nI i) := by
  have c : (nI i).toNatClampNeg = i := nI_clamp (by omega)
  have v : vp_in (nI i) 32 := vp_in_nI hi (by omega)
  unfold wpX_isJump
  rw [c]
  exact And.intro v (nm_e (br_c (fun h => dm_p1 hp (Or.inl h)) (fun h => br_c (fun h2 => dm_p1 hp (Or.inr h2)) (fun h2 => dm_p0 hp (fun q => q.elim h h2)))))
theorem xr_target (hi : i < 32) (hp : post (dm_tg (a_words i) (nI i))) : wpX_target post (f_maxWords, f_dataCount, f_size, f_ready, f_codeSize, f_shadow, f_resReg, f_resValue, f_resTrap, f_resFault, f_resNext, f_resTaken, f_npc, f_slotOf, f_slotTo, f_flightReg, f_flightValue, a_words, a_leader, a_moved, a_early, a_home, a_code, a_jump, a_blockAt, a_copied, a_cells, a_traces, a_pcs, a_states, a_faults, a_dones, a_entryCounts) (nI i) := by
  have c : (nI i).toNatClampNeg = i := nI_clamp (by omega)
  have v : vp_in (nI i) 32 := vp_in_nI hi (by omega)
  unfold wpX_target
  rw [c]
  exact And.intro v (nm_e (xr_isJump hi (dm_bc (fun h => dm_tgN h ▸ hp) (fun h => dm_tgJ (i := nI i) h ▸ hp))))
theorem xr_hasTarget (hi : i < 32) (hp : post (dm_b (dm_HT (a_words i)))) : wpX_hasTarget post (f_maxWords, f_dataCount, f_size, f_ready, f_codeSize, f_shadow, f_resReg, f_resValue, f_resTrap, f_resFault, f_resNext, f_resTaken, f_npc, f_slotOf, f_slotTo, f_flightReg, f_flightValue, a_words, a_leader, a_moved, a_early, a_home, a_code, a_jump, a_blockAt, a_copied, a_cells, a_traces, a_pcs, a_states, a_faults, a_dones, a_entryCounts) (nI i) := by
  have c : (nI i).toNatClampNeg = i := nI_clamp (by omega)
  have v : vp_in (nI i) 32 := vp_in_nI hi (by omega)
  unfold wpX_hasTarget
  rw [c]
  exact And.intro v (nm_e (br_c (fun h => dm_p0 hp (fun q => q.1 h)) (fun h => br_c (fun h2 => dm_p0 hp (fun q => q.2 h2)) (fun h2 => dm_p1 hp ⟨h, h2⟩))))
theorem xr_hasSlot (hi : i < 32) (hp : post (dm_b (dm_HS (a_words i)))) : wpX_hasSlot post (f_maxWords, f_dataCount, f_size, f_ready, f_codeSize, f_shadow, f_resReg, f_resValue, f_resTrap, f_resFault, f_resNext, f_resTaken, f_npc, f_slotOf, f_slotTo, f_flightReg, f_flightValue, a_words, a_leader, a_moved, a_early, a_home, a_code, a_jump, a_blockAt, a_copied, a_cells, a_traces, a_pcs, a_states, a_faults, a_dones, a_entryCounts) (nI i) := by
  unfold wpX_hasSlot
  exact xr_hasTarget hi (dm_bc (fun h => xr_isFunction hi (dm_bc (fun h2 => dm_p0 hp (fun q => q.elim h h2)) (fun h2 => dm_p1 hp (Or.inr h2)))) (fun h => dm_p1 hp (Or.inl h)))
theorem xr_isPlain (hi : i < 32) (hp : post (dm_b (dm_PL (a_words i)))) : wpX_isPlain post (f_maxWords, f_dataCount, f_size, f_ready, f_codeSize, f_shadow, f_resReg, f_resValue, f_resTrap, f_resFault, f_resNext, f_resTaken, f_npc, f_slotOf, f_slotTo, f_flightReg, f_flightValue, a_words, a_leader, a_moved, a_early, a_home, a_code, a_jump, a_blockAt, a_copied, a_cells, a_traces, a_pcs, a_states, a_faults, a_dones, a_entryCounts) (nI i) := by
  unfold wpX_isPlain
  exact xr_hasSlot hi (dm_bc (fun h => xr_isFunction hi (dm_bc (fun h2 => dm_p1 hp ⟨h, h2⟩) (fun h2 => dm_p0 hp (fun q => q.2 h2)))) (fun h => dm_p0 hp (fun q => q.1 h)))
theorem xr_isLoad (hi : i < 32) (hp : post (dm_b (dm_LD (a_words i)))) : wpX_isLoad post (f_maxWords, f_dataCount, f_size, f_ready, f_codeSize, f_shadow, f_resReg, f_resValue, f_resTrap, f_resFault, f_resNext, f_resTaken, f_npc, f_slotOf, f_slotTo, f_flightReg, f_flightValue, a_words, a_leader, a_moved, a_early, a_home, a_code, a_jump, a_blockAt, a_copied, a_cells, a_traces, a_pcs, a_states, a_faults, a_dones, a_entryCounts) (nI i) := by
  have c : (nI i).toNatClampNeg = i := nI_clamp (by omega)
  have v : vp_in (nI i) 32 := vp_in_nI hi (by omega)
  unfold wpX_isLoad
  rw [c]
  exact And.intro v (br_c (fun h => dm_p1 hp h) (fun h => dm_p0 hp h))
theorem xr_links (hi : i < 32) (hp : post (dm_b (dm_LK (a_words i)))) : wpX_links post (f_maxWords, f_dataCount, f_size, f_ready, f_codeSize, f_shadow, f_resReg, f_resValue, f_resTrap, f_resFault, f_resNext, f_resTaken, f_npc, f_slotOf, f_slotTo, f_flightReg, f_flightValue, a_words, a_leader, a_moved, a_early, a_home, a_code, a_jump, a_blockAt, a_copied, a_cells, a_traces, a_pcs, a_states, a_faults, a_dones, a_entryCounts) (nI i) := by
  have c : (nI i).toNatClampNeg = i := nI_clamp (by omega)
  have v : vp_in (nI i) 32 := vp_in_nI hi (by omega)
  unfold wpX_links
  rw [c]
  refine And.intro v (nm_e (br_c (fun h => dm_p1 hp (Or.inl h)) (fun h => br_c (fun h2 => And.intro v (br_c (fun h3 => dm_p1 hp (Or.inr ⟨h2, h3⟩)) (fun h3 => dm_p0 hp ?_))) (fun h2 => dm_p0 hp ?_))))
  · exact fun q => q.elim h (fun z => h3 z.2)
  · exact fun q => q.elim h (fun z => h2 z.1)
theorem dm_dsP {w : Int32} (h : dm_op w = 0) (h2 : dm_PL w) : dm_ds w = dm_rd w := by unfold dm_ds; rw [dm_it h, dm_it h2]
theorem dm_dsQ {w : Int32} (h : dm_op w = 0) (h2 : ¬ dm_PL w) : dm_ds w = 0 := by unfold dm_ds; rw [dm_it h, dm_in h2]
theorem dm_dsS {w : Int32} (h : ¬ dm_op w = 0) (h8 : 8 ≤ dm_op w) (h2 : dm_op w = 43) : dm_ds w = 0 := by unfold dm_ds; rw [dm_in h, dm_it h8, dm_it h2]
theorem dm_dsI {w : Int32} (h : ¬ dm_op w = 0) (h8 : 8 ≤ dm_op w) (h2 : ¬ dm_op w = 43) : dm_ds w = dm_rt w := by unfold dm_ds; rw [dm_in h, dm_it h8, dm_in h2]
theorem dm_dsL {w : Int32} (h : ¬ dm_op w = 0) (h8 : ¬ 8 ≤ dm_op w) (h2 : dm_LK w) : dm_ds w = 31 := by unfold dm_ds; rw [dm_in h, dm_in h8, dm_it h2]
theorem dm_dsB {w : Int32} (h : ¬ dm_op w = 0) (h8 : ¬ 8 ≤ dm_op w) (h2 : ¬ dm_LK w) : dm_ds w = 0 := by unfold dm_ds; rw [dm_in h, dm_in h8, dm_in h2]
theorem xr_dest (hi : i < 32) (hp : post (dm_ds (a_words i))) : wpX_dest post (f_maxWords, f_dataCount, f_size, f_ready, f_codeSize, f_shadow, f_resReg, f_resValue, f_resTrap, f_resFault, f_resNext, f_resTaken, f_npc, f_slotOf, f_slotTo, f_flightReg, f_flightValue, a_words, a_leader, a_moved, a_early, a_home, a_code, a_jump, a_blockAt, a_copied, a_cells, a_traces, a_pcs, a_states, a_faults, a_dones, a_entryCounts) (nI i) := by
  have c : (nI i).toNatClampNeg = i := nI_clamp (by omega)
  have v : vp_in (nI i) 32 := vp_in_nI hi (by omega)
  unfold wpX_dest
  rw [c]
  exact And.intro v (nm_e (nm_e (br_c (fun h => xr_isPlain hi (dm_bc (fun h2 => dm_cv (dm_dsQ h h2) hp) (fun h2 => dm_cv (dm_dsP h h2) hp))) (fun h => br_c (fun h8 => br_c (fun h2 => dm_cv (dm_dsS h h8 h2) hp) (fun h2 => dm_cv (dm_dsI h h8 h2) hp)) (fun h8 => xr_links hi (dm_bc (fun h2 => dm_cv (dm_dsB h h8 h2) hp) (fun h2 => dm_cv (dm_dsL h h8 h2) hp)))))))
theorem xr_readsRs (hi : i < 32) (hp : post (dm_b (dm_RS (a_words i)))) : wpX_readsRs post (f_maxWords, f_dataCount, f_size, f_ready, f_codeSize, f_shadow, f_resReg, f_resValue, f_resTrap, f_resFault, f_resNext, f_resTaken, f_npc, f_slotOf, f_slotTo, f_flightReg, f_flightValue, a_words, a_leader, a_moved, a_early, a_home, a_code, a_jump, a_blockAt, a_copied, a_cells, a_traces, a_pcs, a_states, a_faults, a_dones, a_entryCounts) (nI i) := by
  have c : (nI i).toNatClampNeg = i := nI_clamp (by omega)
  have v : vp_in (nI i) 32 := vp_in_nI hi (by omega)
  unfold wpX_readsRs
  rw [c]
  refine And.intro v (nm_e (And.intro v (nm_e (br_c (fun h => br_c (fun h2 => dm_p0 hp ?_) (fun h2 => br_c (fun h3 => dm_p0 hp ?_) (fun h3 => br_c (fun h4 => dm_p0 hp ?_) (fun h4 => dm_p1 hp ?_)))) (fun h => br_c (fun h2 => dm_p0 hp ?_) (fun h2 => br_c (fun h3 => dm_p0 hp ?_) (fun h3 => br_c (fun h4 => dm_p0 hp ?_) (fun h4 => dm_p1 hp ?_))))))))
  · exact fun q => q.elim (fun z => z.2.1 h2) (fun z => z.1 h)
  · exact fun q => q.elim (fun z => z.2.2.1 h3) (fun z => z.1 h)
  · exact fun q => q.elim (fun z => z.2.2.2 h4) (fun z => z.1 h)
  · exact Or.inl ⟨h, h2, h3, h4⟩
  · exact fun q => q.elim (fun z => h z.1) (fun z => z.2.1 h2)
  · exact fun q => q.elim (fun z => h z.1) (fun z => z.2.2.1 h3)
  · exact fun q => q.elim (fun z => h z.1) (fun z => z.2.2.2 h4)
  · exact Or.inr ⟨h, h2, h3, h4⟩
theorem xr_readsRt (hi : i < 32) (hp : post (dm_b (dm_RT (a_words i)))) : wpX_readsRt post (f_maxWords, f_dataCount, f_size, f_ready, f_codeSize, f_shadow, f_resReg, f_resValue, f_resTrap, f_resFault, f_resNext, f_resTaken, f_npc, f_slotOf, f_slotTo, f_flightReg, f_flightValue, a_words, a_leader, a_moved, a_early, a_home, a_code, a_jump, a_blockAt, a_copied, a_cells, a_traces, a_pcs, a_states, a_faults, a_dones, a_entryCounts) (nI i) := by
  have c : (nI i).toNatClampNeg = i := nI_clamp (by omega)
  have v : vp_in (nI i) 32 := vp_in_nI hi (by omega)
  unfold wpX_readsRt
  rw [c]
  refine And.intro v (nm_e (br_c (fun h => dm_p1 hp (Or.inl h)) (fun h => br_c (fun h2 => dm_p1 hp (Or.inr (Or.inl h2))) (fun h2 => br_c (fun h3 => dm_p1 hp (Or.inr (Or.inr (Or.inl h3)))) (fun h3 => br_c (fun h4 => xr_isPlain hi (dm_bc (fun h5 => dm_p0 hp ?_) (fun h5 => dm_p1 hp (Or.inr (Or.inr (Or.inr ⟨h4, h5⟩)))))) (fun h4 => dm_p0 hp ?_))))))
  · exact fun q => q.elim h (fun q => q.elim h2 (fun q => q.elim h3 (fun z => h5 z.2)))
  · exact fun q => q.elim h (fun q => q.elim h2 (fun q => q.elim h3 (fun z => h4 z.1)))
theorem xr_touches45 {r : Int32} (hi : i < 32) (h0 : ¬ r = 0) (h1 : ¬ dm_ds (a_words i) = r) (h2 : ¬ (dm_rs (a_words i) = r ∧ dm_RS (a_words i))) (hp : post (dm_b (dm_TC (a_words i) r))) : wX_touches_45 post (nI i) r (a_words i) f_maxWords f_dataCount f_size f_ready f_codeSize f_shadow f_resReg f_resValue f_resTrap f_resFault f_resNext f_resTaken f_npc f_slotOf f_slotTo f_flightReg f_flightValue a_words a_leader a_moved a_early a_home a_code a_jump a_blockAt a_copied a_cells a_traces a_pcs a_states a_faults a_dones a_entryCounts := by
  unfold wX_touches_45
  refine br_c (fun h => xr_readsRt hi (dm_bc (fun h3 => dm_p0 hp ?_) (fun h3 => dm_p1 hp ⟨h0, Or.inr (Or.inr ⟨h, h3⟩)⟩))) (fun h => dm_p0 hp ?_)
  · exact fun q => q.2.elim h1 (fun q => q.elim h2 (fun z => h3 z.2))
  · exact fun q => q.2.elim h1 (fun q => q.elim h2 (fun z => h z.1))
theorem xr_touches {r : Int32} (hi : i < 32) (hp : post (dm_b (dm_TC (a_words i) r))) : wpX_touches post (f_maxWords, f_dataCount, f_size, f_ready, f_codeSize, f_shadow, f_resReg, f_resValue, f_resTrap, f_resFault, f_resNext, f_resTaken, f_npc, f_slotOf, f_slotTo, f_flightReg, f_flightValue, a_words, a_leader, a_moved, a_early, a_home, a_code, a_jump, a_blockAt, a_copied, a_cells, a_traces, a_pcs, a_states, a_faults, a_dones, a_entryCounts) (nI i) r := by
  have c : (nI i).toNatClampNeg = i := nI_clamp (by omega)
  have v : vp_in (nI i) 32 := vp_in_nI hi (by omega)
  unfold wpX_touches
  rw [c]
  refine br_c (fun h => dm_p0 hp (fun q => q.1 h)) (fun h => And.intro v (nm_e (xr_dest hi (br_c (fun h1 => dm_p1 hp ⟨h, Or.inl h1⟩) (fun h1 => br_c (fun h2 => xr_readsRs hi (dm_bc (fun h3 => xr_touches45 hi h h1 (fun z => h3 z.2) hp) (fun h3 => dm_p1 hp ⟨h, Or.inr (Or.inl ⟨h2, h3⟩)⟩))) (fun h2 => xr_touches45 hi h h1 (fun z => h2 z.1) hp))))))
theorem xr_mayTrap77 {w z0 : Int32} (hp : (¬ dm_rs w = 0 ∨ z0 = 0 → post 1)) (hq : dm_rs w = 0 → ¬ z0 = 0 → post 0) : wX_mayTrap_77 post w z0 f_maxWords f_dataCount f_size f_ready f_codeSize f_shadow f_resReg f_resValue f_resTrap f_resFault f_resNext f_resTaken f_npc f_slotOf f_slotTo f_flightReg f_flightValue a_words a_leader a_moved a_early a_home a_code a_jump a_blockAt a_copied a_cells a_traces a_pcs a_states a_faults a_dones a_entryCounts := by
  unfold wX_mayTrap_77
  exact br_c (fun h => br_c (fun h2 => hp (Or.inr h2)) (fun h2 => hq h h2)) (fun h => hp (Or.inl h))
theorem xr_mayTrap (hi : i < 32) (hp : post (dm_b (dm_MT f_dataCount (a_words i)))) : wpX_mayTrap post (f_maxWords, f_dataCount, f_size, f_ready, f_codeSize, f_shadow, f_resReg, f_resValue, f_resTrap, f_resFault, f_resNext, f_resTaken, f_npc, f_slotOf, f_slotTo, f_flightReg, f_flightValue, a_words, a_leader, a_moved, a_early, a_home, a_code, a_jump, a_blockAt, a_copied, a_cells, a_traces, a_pcs, a_states, a_faults, a_dones, a_entryCounts) (nI i) := by
  have c : (nI i).toNatClampNeg = i := nI_clamp (by omega)
  have v : vp_in (nI i) 32 := vp_in_nI hi (by omega)
  unfold wpX_mayTrap
  rw [c]
  refine And.intro v (nm_e (nm_e (br_c (fun h => nm_e (br_c (fun h1 => br_c (fun h2 => ?_) (fun h2 => br_c (fun h3 => ?_) (fun h3 => ?_))) (fun h1 => ?_))) (fun h => br_c (fun h1 => dm_p1 hp (Or.inr ⟨h, Or.inl h1⟩)) (fun h1 => xr_isFunction hi (dm_bc (fun h2 => dm_p0 hp ?_) (fun h2 => dm_p1 hp (Or.inr ⟨h, Or.inr h2⟩))))))))
  · exact xr_mayTrap77 (fun _ => dm_p1 hp (Or.inl ⟨h, Or.inr (fun g => g.2.1 h2)⟩)) (fun _ n => absurd rfl n)
  · exact xr_mayTrap77 (fun _ => dm_p1 hp (Or.inl ⟨h, Or.inr (fun g => g.2.2 h3)⟩)) (fun _ n => absurd rfl n)
  · exact xr_mayTrap77 (fun q => dm_p1 hp (Or.inl ⟨h, Or.inl (q.elim id (fun z => absurd z dm_10))⟩)) (fun e _ => dm_p0 hp (fun q => q.elim (fun z => z.2.elim (fun n => n e) (fun n => n ⟨h1, h2, h3⟩)) (fun z => z.1 h)))
  · exact xr_mayTrap77 (fun _ => dm_p1 hp (Or.inl ⟨h, Or.inr (fun g => h1 g.1)⟩)) (fun _ n => absurd rfl n)
  · exact fun q => q.elim (fun z => h z.1) (fun z => z.2.elim h1 h2)
theorem xr_isQuiet (hi : i < 32) (hp : post (dm_b (dm_QT f_dataCount (a_words i)))) : wpX_isQuiet post (f_maxWords, f_dataCount, f_size, f_ready, f_codeSize, f_shadow, f_resReg, f_resValue, f_resTrap, f_resFault, f_resNext, f_resTaken, f_npc, f_slotOf, f_slotTo, f_flightReg, f_flightValue, a_words, a_leader, a_moved, a_early, a_home, a_code, a_jump, a_blockAt, a_copied, a_cells, a_traces, a_pcs, a_states, a_faults, a_dones, a_entryCounts) (nI i) := by
  have c : (nI i).toNatClampNeg = i := nI_clamp (by omega)
  have v : vp_in (nI i) 32 := vp_in_nI hi (by omega)
  unfold wpX_isQuiet
  rw [c]
  exact xr_isPlain hi (dm_bc (fun h => dm_p0 hp (fun q => h q.1)) (fun h => And.intro v (br_c (fun h2 => dm_p0 hp (fun q => q.2.1 h2)) (fun h2 => xr_mayTrap hi (dm_bc (fun h3 => dm_p1 hp ⟨h, h2, h3⟩) (fun h3 => dm_p0 hp (fun q => q.2.2 h3)))))))
end XR
end
section
/-! what a filled slot and a swap are known to fulfil -/
noncomputable def dm_tN (W : Nat → Int32) (i : Nat) : Nat := (dm_tg (W i) (nI i)).toNatClampNeg
def dm_HI (W : Nat → Int32) (n t : Nat) (d : Int32) : Prop := t < n ∧ ¬ dm_TC (W t) d ∧ (t + 1 < n → ¬ dm_TC (W (t + 1)) d)
def dm_TI (W : Nat → Int32) (n : Nat) : Prop := ∀ i, i < n → dm_HT (W i) → dm_tN W i < n ∧ dm_tg (W i) (nI i) = nI (dm_tN W i)
/-- word k may go into the slot of the branch behind it -/
def dm_CF (W L : Nat → Int32) (n : Nat) (dc : Int32) (k : Nat) : Prop :=
  dm_HT (W (k + 1)) ∧ L (k + 1) = 0 ∧ ¬ dm_TC (W (k + 1)) (dm_ds (W k)) ∧
  (dm_LK (W (k + 1)) → ¬ dm_MT dc (W k) ∧ ¬ dm_TC (W k) 31) ∧
  (dm_LD (W k) → dm_HI W n (dm_tN W (k + 1)) (dm_ds (W k)) ∧ (¬ dm_JM (W (k + 1)) → dm_HI W n (k + 2) (dm_ds (W k))))
/-- words i and i + 1 may change places -/
def dm_CS (W L MV : Nat → Int32) (n : Nat) (dc sh : Int32) (i : Nat) : Prop :=
  i + 1 < n ∧ L i = 0 ∧ L (i + 1) = 0 ∧ MV (i + 1) = 0 ∧ dm_QT dc (W i) ∧ dm_QT dc (W (i + 1)) ∧ ¬ dm_TC (W (i + 1)) sh ∧
  ¬ dm_TC (W (i + 1)) (dm_ds (W i)) ∧ ¬ dm_TC (W i) (dm_ds (W (i + 1)))
section XC
variable {f_maxWords f_dataCount f_size f_ready f_codeSize f_shadow f_resReg f_resValue f_resTrap f_resFault f_resNext f_resTaken f_npc f_slotOf f_slotTo f_flightReg f_flightValue : Int32} {a_words a_leader a_moved a_early a_home a_code a_jump a_blockAt a_copied a_cells a_traces a_pcs a_states a_faults a_dones a_entryCounts : Nat → Int32}
variable {post : Int32 → Prop} {i n : Nat}
theorem xr_headIgnores {d : Int32} (hn : n ≤ 32) (hs : f_size = nI n) (hi : i ≤ 32) (h1 : dm_HI a_words n i d → post 1) (h0 : post 0) : wpX_headIgnores post (f_maxWords, f_dataCount, f_size, f_ready, f_codeSize, f_shadow, f_resReg, f_resValue, f_resTrap, f_resFault, f_resNext, f_resTaken, f_npc, f_slotOf, f_slotTo, f_flightReg, f_flightValue, a_words, a_leader, a_moved, a_early, a_home, a_code, a_jump, a_blockAt, a_copied, a_cells, a_traces, a_pcs, a_states, a_faults, a_dones, a_entryCounts) (nI i) d := by
  subst hs
  unfold wpX_headIgnores
  rw [nI_1]
  exact pk_le n i (fun _ => h0) (fun h => xr_touches (by omega) (dm_bc (fun h2 => pk_le n (i + 1) (fun h3 => h1 ⟨h, h2, fun q => by omega⟩) (fun h3 => xr_touches (by omega) (dm_bc (fun h4 => h1 ⟨h, h2, fun _ => h4⟩) (fun _ => h0)))) (fun _ => h0)))
theorem xr_landsSafely {d : Int32} (hn : n ≤ 32) (hs : f_size = nI n) (hi : i < n) (ht : dm_HT (a_words i)) (ti : dm_TI a_words n) (h1 : dm_HI a_words n (dm_tN a_words i) d → (¬ dm_JM (a_words i) → dm_HI a_words n (i + 1) d) → post 1) (h0 : post 0) : wpX_landsSafely post (f_maxWords, f_dataCount, f_size, f_ready, f_codeSize, f_shadow, f_resReg, f_resValue, f_resTrap, f_resFault, f_resNext, f_resTaken, f_npc, f_slotOf, f_slotTo, f_flightReg, f_flightValue, a_words, a_leader, a_moved, a_early, a_home, a_code, a_jump, a_blockAt, a_copied, a_cells, a_traces, a_pcs, a_states, a_faults, a_dones, a_entryCounts) (nI i) d := by
  unfold wpX_landsSafely
  have t := ti i hi ht
  refine xr_target (by omega) ?_
  rw [t.2]
  refine xr_headIgnores hn hs (by omega) (fun a => ?_) ?_
  · refine br_f dm_10 (xr_isJump (by omega) (dm_bc (fun j => ?_) (fun j => h1 a (fun q => absurd j q))))
    rw [nI_1]
    exact xr_headIgnores hn hs (by omega) (fun b => br_f dm_10 (h1 a (fun _ => b))) (br_t rfl h0)
  · exact br_t rfl h0
theorem xr_canFill87 {k : Nat} (hi : k + 1 < 32) (h1 : post 1) (h0 : post 0) : wX_canFillSlot_87 post (nI (k + 1)) (nI k) f_maxWords f_dataCount f_size f_ready f_codeSize f_shadow f_resReg f_resValue f_resTrap f_resFault f_resNext f_resTaken f_npc f_slotOf f_slotTo f_flightReg f_flightValue a_words a_leader a_moved a_early a_home a_code a_jump a_blockAt a_copied a_cells a_traces a_pcs a_states a_faults a_dones a_entryCounts := by
  unfold wX_canFillSlot_87
  refine br_c (fun _ => h1) (fun hk => ?_)
  have h : 0 < k := Nat.pos_of_ne_zero (fun e => hk (by rw [e]; rfl))
  obtain ⟨m, rfl⟩ : ∃ m, k = m + 1 := ⟨k - 1, by omega⟩
  rw [nI_pred]
  exact xr_isLoad (by omega) (dm_bc (fun _ => h1) (fun _ => xr_dest (by omega) (xr_touches hi (dm_bc (fun _ => h1) (fun _ => h0)))))
theorem xr_canFill68 {k : Nat} (hn : n ≤ 32) (hs : f_size = nI n) (hi : k + 1 < n) (ht : dm_HT (a_words (k + 1))) (ti : dm_TI a_words n) (h1 : (dm_LD (a_words k) → dm_HI a_words n (dm_tN a_words (k + 1)) (dm_ds (a_words k)) ∧ (¬ dm_JM (a_words (k + 1)) → dm_HI a_words n (k + 2) (dm_ds (a_words k)))) → post 1) (h0 : post 0) : wX_canFillSlot_68 post (nI (k + 1)) (nI k) (dm_ds (a_words k)) f_maxWords f_dataCount f_size f_ready f_codeSize f_shadow f_resReg f_resValue f_resTrap f_resFault f_resNext f_resTaken f_npc f_slotOf f_slotTo f_flightReg f_flightValue a_words a_leader a_moved a_early a_home a_code a_jump a_blockAt a_copied a_cells a_traces a_pcs a_states a_faults a_dones a_entryCounts := by
  unfold wX_canFillSlot_68
  refine xr_isLoad (by omega) (dm_bc (fun l => xr_canFill87 (by omega) (h1 (fun q => absurd q l)) h0) (fun l => ?_))
  exact xr_landsSafely hn hs hi ht ti (fun a b => br_f dm_10 (xr_canFill87 (by omega) (h1 (fun _ => ⟨a, b⟩)) h0)) (br_t rfl h0)
theorem xr_canFill {k : Nat} (hn : n ≤ 32) (hs : f_size = nI n) (hi : k + 1 < n) (ti : dm_TI a_words n) (h1 : dm_CF a_words a_leader n f_dataCount k → post 1) (h0 : post 0) : wpX_canFillSlot post (f_maxWords, f_dataCount, f_size, f_ready, f_codeSize, f_shadow, f_resReg, f_resValue, f_resTrap, f_resFault, f_resNext, f_resTaken, f_npc, f_slotOf, f_slotTo, f_flightReg, f_flightValue, a_words, a_leader, a_moved, a_early, a_home, a_code, a_jump, a_blockAt, a_copied, a_cells, a_traces, a_pcs, a_states, a_faults, a_dones, a_entryCounts) (nI (k + 1)) := by
  have c : (nI (k + 1)).toNatClampNeg = k + 1 := nI_clamp (by omega)
  have v : vp_in (nI (k + 1)) 32 := vp_in_nI (by omega) (by omega)
  unfold wpX_canFillSlot
  rw [c, nI_pred]
  refine xr_hasTarget (by omega) (dm_bc (fun _ => h0) (fun ht => And.intro v (br_c (fun hl => nm_e (xr_dest (by omega) (xr_touches (by omega) (dm_bc (fun htc => xr_links (by omega) (dm_bc (fun hk => ?_) (fun hk => xr_mayTrap (by omega) (dm_bc (fun hm => xr_touches (by omega) (dm_bc (fun h31 => ?_) (fun _ => h0))) (fun _ => h0))))) (fun _ => h0))))) (fun _ => h0))))
  · exact xr_canFill68 hn hs hi ht ti (fun a => h1 ⟨ht, hl, htc, fun q => absurd q hk, a⟩) h0
  · exact xr_canFill68 hn hs hi ht ti (fun a => h1 ⟨ht, hl, htc, fun _ => ⟨hm, h31⟩, a⟩) h0
theorem xr_canSwap (hn : n ≤ 32) (hs : f_size = nI n) (hi : i < n) (h1 : dm_CS a_words a_leader a_moved n f_dataCount f_shadow i → post 1) (h0 : post 0) : wpX_canSwap post (f_maxWords, f_dataCount, f_size, f_ready, f_codeSize, f_shadow, f_resReg, f_resValue, f_resTrap, f_resFault, f_resNext, f_resTaken, f_npc, f_slotOf, f_slotTo, f_flightReg, f_flightValue, a_words, a_leader, a_moved, a_early, a_home, a_code, a_jump, a_blockAt, a_copied, a_cells, a_traces, a_pcs, a_states, a_faults, a_dones, a_entryCounts) (nI i) (nI (i + 1)) := by
  subst hs
  have c : (nI i).toNatClampNeg = i := nI_clamp (by omega)
  have c1 : (nI (i + 1)).toNatClampNeg = i + 1 := nI_clamp (by omega)
  unfold wpX_canSwap
  rw [c, c1]
  refine pk_le n (i + 1) (fun _ => h0) (fun h => ?_)
  have v : vp_in (nI i) 32 := vp_in_nI (by omega) (by omega)
  have v1 : vp_in (nI (i + 1)) 32 := vp_in_nI (by omega) (by omega)
  have i0 : i < 32 := by omega
  have i1 : i + 1 < 32 := by omega
  refine And.intro v (br_c (fun l => ?_) (fun _ => h0))
  refine And.intro v1 (br_c (fun l1 => ?_) (fun _ => h0))
  refine And.intro v1 (br_c (fun m1 => ?_) (fun _ => h0))
  refine xr_isQuiet i0 (dm_bc (fun _ => h0) (fun q => ?_))
  refine xr_isQuiet i1 (dm_bc (fun _ => h0) (fun q1 => ?_))
  refine xr_touches i1 (dm_bc (fun ts => ?_) (fun _ => h0))
  refine xr_dest i0 (xr_dest i1 (xr_touches i1 (dm_bc (fun t1 => ?_) (fun _ => h0))))
  exact xr_touches i0 (dm_bc (fun t2 => h1 ⟨h, l, l1, m1, q, q1, ts, t1, t2⟩) (fun _ => h0))
end XC
end
section
/-! one word evaluated: reg, value, trap, fault, next, taken -/
def dm_rv (w a b : Int32) : Int32 :=
  if dm_fn w = 0 then b <<< (dm_sh w &&& 31) else if dm_fn w = 2 then (b.toUInt32 >>> ((dm_sh w).toUInt32 &&& Int32.toUInt32 31)).toInt32
  else if dm_fn w = 33 then a + b else if dm_fn w = 35 then a - b else if dm_fn w = 36 then a &&& b else if dm_fn w = 37 then a ||| b
  else if dm_fn w = 38 then a ^^^ b else if dm_fn w = 42 then (if b ≤ a then 0 else 1)
  else (if (b ^^^ (-2147483648)) ≤ (a ^^^ (-2147483648)) then 0 else 1)
def dm_ov (a b : Int32) : Int32 := if 0 ≤ ((a ^^^ (a + b)) &&& (b ^^^ (a + b))) then 0 else 2
def dm_iv (w a : Int32) : Int32 :=
  if dm_op w = 8 then a + dm_se w else if dm_op w = 9 then a + dm_se w else if dm_op w = 10 then (if dm_se w ≤ a then 0 else 1)
  else if dm_op w = 12 then a &&& dm_ze w else if dm_op w = 13 then a ||| dm_ze w else w <<< ((16 : Int32) &&& 31)
/-- the condition of a branch -/
def dm_CD (w a b : Int32) : Prop := (dm_op w = 1 ∧ ((dm_rt w = 0 ∧ a < 0) ∨ (¬ dm_rt w = 0 ∧ ¬ a < 0))) ∨ dm_op w = 2 ∨ dm_op w = 3 ∨ (dm_op w = 4 ∧ a = b) ∨ (dm_op w = 5 ∧ ¬ a = b)
noncomputable def dm_EVs (ok : Int32 → Prop) (w a b i : Int32) : Nat × Int32 × Int32 × Int32 × Int32 × Int32 :=
  dm_if (dm_fn w = 8) (dm_if ((a &&& 3) = 0 ∧ ok (a >>> ((2 : Int32) &&& 31))) (0, 0, 0, 0, a >>> ((2 : Int32) &&& 31), 1) (0, 0, 5, a, i + 1, 0))
  (dm_if (dm_fn w = 13) (0, 0, 1, 0, i + 1, 0) (dm_if (dm_fn w = 32) (dm_rdN w, a + b, dm_ov a b, 0, i + 1, 0) (dm_rdN w, dm_rv w a b, 0, 0, i + 1, 0)))
noncomputable def dm_EVb (w a b i : Int32) : Nat × Int32 × Int32 × Int32 × Int32 × Int32 :=
  (dm_if (dm_LK w) 31 0, dm_if (dm_LK w) (4 * (i + 1)) 0, 0, 0, dm_if (dm_CD w a b) (dm_tg w i) (i + 1), dm_b (dm_CD w a b))
noncomputable def dm_EVi (w a i : Int32) : Nat × Int32 × Int32 × Int32 × Int32 × Int32 :=
  (dm_rtN w, dm_iv w a, dm_if (dm_op w = 8) (dm_ov a (dm_se w)) 0, 0, i + 1, 0)
noncomputable def dm_EVm (dc : Int32) (M : Int32 → Int32) (w a b i : Int32) : Nat × Int32 × Int32 × Int32 × Int32 × Int32 :=
  dm_if (((a + dm_se w) &&& 3) = 0)
    (dm_if (¬ (a + dm_se w) < 0 ∧ (a + dm_se w) < 4 * dc)
      (dm_if (dm_op w = 35) (dm_rtN w, M ((a + dm_se w) >>> ((2 : Int32) &&& 31)), 0, 0, i + 1, 0)
        (32 + ((a + dm_se w) >>> ((2 : Int32) &&& 31)).toNatClampNeg, b, 0, 0, i + 1, 0))
      (0, 0, 4, a + dm_se w, i + 1, 0))
    (0, 0, 3, a + dm_se w, i + 1, 0)
noncomputable def dm_EV (ok : Int32 → Prop) (dc : Int32) (M : Int32 → Int32) (w a b i : Int32) : Nat × Int32 × Int32 × Int32 × Int32 × Int32 :=
  dm_if (dm_op w = 0) (dm_EVs ok w a b i) (dm_if (8 ≤ dm_op w) (dm_if (32 ≤ dm_op w) (dm_EVm dc M w a b i) (dm_EVi w a i)) (dm_EVb w a b i))
def dm_ok (L : Nat → Int32) (sz : Int32) (e : Int32) : Prop := ¬ e < 0 ∧ ¬ sz ≤ e ∧ ¬ L e.toNatClampNeg = 0
/-- the memory cell at y of side s -/
def dm_M (C : Nat → Int32) (s : Nat) (y : Int32) : Int32 := C (((nI s * 64) + 32) + y).toNatClampNeg
noncomputable def dm_E (W L C : Nat → Int32) (sz dc : Int32) (s i : Nat) : Nat × Int32 × Int32 × Int32 × Int32 × Int32 :=
  dm_EV (dm_ok L sz) dc (dm_M C s) (W i) (C (s * 64 + dm_rsN (W i))) (C (s * 64 + dm_rtN (W i))) (nI i)
theorem dm_s64 (s r : Nat) : (nI s * 64) + nI r = nI (s * 64 + r) := by
  rw [show (64 : Int32) = nI 64 from rfl, pk_mul, nI_add]
theorem dm_adr {ad dc : Int32} {d : Nat} (hd : d ≤ 32) (hdc : dc = nI d) (h0 : ¬ ad < 0) (h1 : ad < 4 * dc) : ∃ y : Nat, y < d ∧ ad >>> ((2 : Int32) &&& 31) = nI y := by
  obtain ⟨j, hj, rfl⟩ := nI_of h0
  subst hdc
  rw [show (4 : Int32) = nI 4 from rfl, pk_mul, nI_ltI hj (by omega)] at h1
  exact ⟨j / 2 ^ 2, by omega, pk_shrN hj _ 2 (by decide)⟩
section XE
variable {f_maxWords f_dataCount f_size f_ready f_codeSize f_shadow f_resReg f_resValue f_resTrap f_resFault f_resNext f_resTaken f_npc f_slotOf f_slotTo f_flightReg f_flightValue : Int32} {a_words a_leader a_moved a_early a_home a_code a_jump a_blockAt a_copied a_cells a_traces a_pcs a_states a_faults a_dones a_entryCounts : Nat → Int32}
variable {post : SX → Prop} {i s : Nat}
theorem xe_addChecked {a b : Int32} (h0 : f_resTrap = 0) (hp : post (f_maxWords, f_dataCount, f_size, f_ready, f_codeSize, f_shadow, f_resReg, a + b, dm_ov a b, f_resFault, f_resNext, f_resTaken, f_npc, f_slotOf, f_slotTo, f_flightReg, f_flightValue, a_words, a_leader, a_moved, a_early, a_home, a_code, a_jump, a_blockAt, a_copied, a_cells, a_traces, a_pcs, a_states, a_faults, a_dones, a_entryCounts)) : wpX_addChecked post (f_maxWords, f_dataCount, f_size, f_ready, f_codeSize, f_shadow, f_resReg, f_resValue, f_resTrap, f_resFault, f_resNext, f_resTaken, f_npc, f_slotOf, f_slotTo, f_flightReg, f_flightValue, a_words, a_leader, a_moved, a_early, a_home, a_code, a_jump, a_blockAt, a_copied, a_cells, a_traces, a_pcs, a_states, a_faults, a_dones, a_entryCounts) a b := by
  unfold wpX_addChecked
  refine nm_e (br_c (fun h => ?_) (fun h => ?_))
  · rw [show dm_ov a b = f_resTrap from (if_pos h).trans h0.symm] at hp; exact hp
  · rw [show dm_ov a b = 2 from if_neg h] at hp; exact hp
theorem xe_regVal {post : Int32 → Prop} {w a b : Int32} (hp : post (dm_rv w a b)) : wpX_registerValue post (f_maxWords, f_dataCount, f_size, f_ready, f_codeSize, f_shadow, f_resReg, f_resValue, f_resTrap, f_resFault, f_resNext, f_resTaken, f_npc, f_slotOf, f_slotTo, f_flightReg, f_flightValue, a_words, a_leader, a_moved, a_early, a_home, a_code, a_jump, a_blockAt, a_copied, a_cells, a_traces, a_pcs, a_states, a_faults, a_dones, a_entryCounts) w a b := by
  unfold wpX_registerValue
  unfold dm_rv at hp
  refine nm_e (nm_e ?_)
  refine br_c (fun h => ?_) (fun h => ?_)
  · rw [if_pos (show dm_fn w = 0 from h)] at hp; exact hp
  rw [if_neg (show ¬ dm_fn w = 0 from h)] at hp
  refine br_c (fun h => ?_) (fun h => ?_)
  · rw [if_pos (show dm_fn w = 2 from h)] at hp; exact hp
  rw [if_neg (show ¬ dm_fn w = 2 from h)] at hp
  refine br_c (fun h => ?_) (fun h => ?_)
  · rw [if_pos (show dm_fn w = 33 from h)] at hp; exact hp
  rw [if_neg (show ¬ dm_fn w = 33 from h)] at hp
  refine br_c (fun h => ?_) (fun h => ?_)
  · rw [if_pos (show dm_fn w = 35 from h)] at hp; exact hp
  rw [if_neg (show ¬ dm_fn w = 35 from h)] at hp
  refine br_c (fun h => ?_) (fun h => ?_)
  · rw [if_pos (show dm_fn w = 36 from h)] at hp; exact hp
  rw [if_neg (show ¬ dm_fn w = 36 from h)] at hp
  refine br_c (fun h => ?_) (fun h => ?_)
  · rw [if_pos (show dm_fn w = 37 from h)] at hp; exact hp
  rw [if_neg (show ¬ dm_fn w = 37 from h)] at hp
  refine br_c (fun h => ?_) (fun h => ?_)
  · rw [if_pos (show dm_fn w = 38 from h)] at hp; exact hp
  rw [if_neg (show ¬ dm_fn w = 38 from h)] at hp
  refine br_c (fun h => ?_) (fun h => ?_)
  · rw [if_pos (show dm_fn w = 42 from h)] at hp
    refine br_c (fun h => ?_) (fun h => ?_)
    · rw [if_pos h] at hp; exact hp
    · rw [if_neg h] at hp; exact hp
  rw [if_neg (show ¬ dm_fn w = 42 from h)] at hp
  refine br_c (fun h => ?_) (fun h => ?_)
  · rw [if_pos h] at hp; exact hp
  · rw [if_neg h] at hp; exact hp
/-- a state with an evaluation's outcome laid in -/
theorem xe_special {w a b ix : Int32} (hp : ∀ e : Nat × Int32 × Int32 × Int32 × Int32 × Int32, e = dm_EVs (dm_ok a_leader f_size) w a b ix → post (f_maxWords, f_dataCount, f_size, f_ready, f_codeSize, f_shadow, nI e.1, e.2.1, e.2.2.1, e.2.2.2.1, e.2.2.2.2.1, e.2.2.2.2.2, f_npc, f_slotOf, f_slotTo, f_flightReg, f_flightValue, a_words, a_leader, a_moved, a_early, a_home, a_code, a_jump, a_blockAt, a_copied, a_cells, a_traces, a_pcs, a_states, a_faults, a_dones, a_entryCounts)) (hsz : ¬ nI 32 < f_size) : wpX_evalSpecial post (f_maxWords, f_dataCount, f_size, f_ready, f_codeSize, f_shadow, 0, 0, 0, 0, ix + 1, 0, f_npc, f_slotOf, f_slotTo, f_flightReg, f_flightValue, a_words, a_leader, a_moved, a_early, a_home, a_code, a_jump, a_blockAt, a_copied, a_cells, a_traces, a_pcs, a_states, a_faults, a_dones, a_entryCounts) w a b := by
  unfold wpX_evalSpecial
  refine nm_r (e' := dm_fn w) rfl (br_c (fun h8 => ?_) (fun h8 => br_c (fun h13 => ?_) (fun h13 => ?_)))
  · have h8 : dm_fn w = 8 := h8
    unfold wpX_evalJumpRegister
    have bad : ¬ ((a &&& 3) = 0 ∧ dm_ok a_leader f_size (a >>> ((2 : Int32) &&& 31))) → dm_EVs (dm_ok a_leader f_size) w a b ix = (0, 0, 5, a, ix + 1, 0) := fun n => by
      unfold dm_EVs; rw [dm_it h8, dm_in n]
    refine nm_e (br_c (fun h3 => br_c (fun hn => ?_) (fun hn => br_c (fun hs => ?_) (fun hs => ?_))) (fun h3 => ?_))
    · exact hp _ (bad (fun q => q.2.1 hn)).symm
    · exact hp _ (bad (fun q => q.2.2.1 hs)).symm
    · have hv : vp_in (a >>> ((2 : Int32) &&& 31)) 32 := by
        rw [vp_in_iff]
        have e1 : (0 : Int32).toInt = 0 := by decide
        have e2 : (nI 32).toInt = 32 := by decide
        rw [Int32.lt_iff_toInt_lt, e1] at hn
        rw [Int32.le_iff_toInt_le] at hs
        rw [Int32.lt_iff_toInt_lt, e2] at hsz
        omega
      refine And.intro hv (br_c (fun hl => ?_) (fun hl => ?_))
      · exact hp _ (bad (fun q => q.2.2.2 hl)).symm
      · refine hp (0, 0, 0, 0, a >>> ((2 : Int32) &&& 31), 1) ?_
        unfold dm_EVs; rw [dm_it h8, dm_it ⟨h3, hn, hs, hl⟩]
    · exact hp _ (bad (fun q => h3 q.1)).symm
  · refine hp (0, 0, 1, 0, ix + 1, 0) ?_
    unfold dm_EVs; rw [dm_in h8, dm_it h13]
  · refine nm_r (dm_rdE w) (br_c (fun h32 => ?_) (fun h32 => ?_))
    · refine xe_addChecked rfl (hp (dm_rdN w, a + b, dm_ov a b, 0, ix + 1, 0) ?_)
      unfold dm_EVs; rw [dm_in h8, dm_in h13, dm_it h32]
    · refine xe_regVal (hp (dm_rdN w, dm_rv w a b, 0, 0, ix + 1, 0) ?_)
      unfold dm_EVs; rw [dm_in h8, dm_in h13, dm_in h32]
theorem xe_cond {post : Int32 → Prop} {w a b : Int32} (ac : dm_AC w) (ht : dm_HT w) (hp : post (dm_b (dm_CD w a b))) : wpX_condition post (f_maxWords, f_dataCount, f_size, f_ready, f_codeSize, f_shadow, f_resReg, f_resValue, f_resTrap, f_resFault, f_resNext, f_resTaken, f_npc, f_slotOf, f_slotTo, f_flightReg, f_flightValue, a_words, a_leader, a_moved, a_early, a_home, a_code, a_jump, a_blockAt, a_copied, a_cells, a_traces, a_pcs, a_states, a_faults, a_dones, a_entryCounts) w a b := by
  unfold wpX_condition
  have h5 := (dm_ht5 ac).mp ht
  refine nm_r (e' := dm_op w) rfl (br_f h5.1 (br_f h5.2 ?_))
  refine br_c (fun h1 => br_c (fun hr => br_c (fun h => ?_) (fun h => ?_)) (fun hr => br_c (fun h => ?_) (fun h => ?_))) (fun h1 => ?_)
  · have h1 : dm_op w = 1 := h1
    have h : ¬ a < 0 := Int32.not_lt.mpr h
    refine dm_p0 hp (fun q => ?_)
    unfold dm_CD at q
    rw [h1] at q
    rcases q with ⟨_, ⟨_, q⟩ | ⟨q, _⟩⟩ | q | q | q | q
    · exact h q
    · exact q hr
    · exact absurd q (by decide)
    · exact absurd q (by decide)
    · exact absurd q.1 (by decide)
    · exact absurd q.1 (by decide)
  · exact dm_p1 hp (Or.inl ⟨h1, Or.inl ⟨hr, Int32.not_le.mp h⟩⟩)
  · have h1 : dm_op w = 1 := h1
    refine dm_p0 hp (fun q => ?_)
    unfold dm_CD at q
    rw [h1] at q
    rcases q with ⟨_, ⟨q, _⟩ | ⟨_, q⟩⟩ | q | q | q | q
    · exact hr q
    · exact q h
    · exact absurd q (by decide)
    · exact absurd q (by decide)
    · exact absurd q.1 (by decide)
    · exact absurd q.1 (by decide)
  · exact dm_p1 hp (Or.inl ⟨h1, Or.inr ⟨hr, h⟩⟩)
  refine br_c (fun h2 => dm_p1 hp (Or.inr (Or.inl h2))) (fun h2 => br_c (fun h3 => dm_p1 hp (Or.inr (Or.inr (Or.inl h3)))) (fun h3 => ?_))
  refine br_c (fun h4 => br_c (fun h => dm_p1 hp (Or.inr (Or.inr (Or.inr (Or.inl ⟨h4, h⟩))))) (fun h => dm_p0 hp (fun q => ?_))) (fun h4 => ?_)
  · have h4 : dm_op w = 4 := h4
    unfold dm_CD at q
    rw [h4] at q
    rcases q with ⟨q, _⟩ | q | q | q | q
    · exact absurd q (by decide)
    · exact absurd q (by decide)
    · exact absurd q (by decide)
    · exact h q.2
    · exact absurd q.1 (by decide)
  refine br_c (fun h5 => br_c (fun h => dm_p0 hp (fun q => ?_)) (fun h => dm_p1 hp (Or.inr (Or.inr (Or.inr (Or.inr ⟨h5, h⟩)))))) (fun h5 => trivial)
  · have h5 : dm_op w = 5 := h5
    unfold dm_CD at q
    rw [h5] at q
    rcases q with ⟨q, _⟩ | q | q | q | q
    · exact absurd q (by decide)
    · exact absurd q (by decide)
    · exact absurd q (by decide)
    · exact absurd q.1 (by decide)
    · exact q.2 h
theorem xe_branch32 (hi : i < 32) (h0 : f_resReg = 0) (hv : f_resValue = 0) (hp : post (f_maxWords, f_dataCount, f_size, f_ready, f_codeSize, f_shadow, nI (dm_if (dm_LK (a_words i)) 31 0), dm_if (dm_LK (a_words i)) (4 * (nI i + 1)) 0, f_resTrap, f_resFault, f_resNext, f_resTaken, f_npc, f_slotOf, f_slotTo, f_flightReg, f_flightValue, a_words, a_leader, a_moved, a_early, a_home, a_code, a_jump, a_blockAt, a_copied, a_cells, a_traces, a_pcs, a_states, a_faults, a_dones, a_entryCounts)) : wX_evalBranch_32 post (nI i) f_maxWords f_dataCount f_size f_ready f_codeSize f_shadow f_resReg f_resValue f_resTrap f_resFault f_resNext f_resTaken f_npc f_slotOf f_slotTo f_flightReg f_flightValue a_words a_leader a_moved a_early a_home a_code a_jump a_blockAt a_copied a_cells a_traces a_pcs a_states a_faults a_dones a_entryCounts := by
  unfold wX_evalBranch_32
  refine xr_links hi (dm_bc (fun h => ?_) (fun h => nm_e ?_))
  · rw [dm_in h, dm_in h] at hp
    subst h0 hv
    exact hp
  · rw [dm_it h, dm_it h] at hp
    exact hp
theorem xe_branch {a b : Int32} (hi : i < 32) (ac : dm_AC (a_words i)) (ht : dm_HT (a_words i)) (hp : ∀ e : Nat × Int32 × Int32 × Int32 × Int32 × Int32, e = dm_EVb (a_words i) a b (nI i) → post (f_maxWords, f_dataCount, f_size, f_ready, f_codeSize, f_shadow, nI e.1, e.2.1, e.2.2.1, e.2.2.2.1, e.2.2.2.2.1, e.2.2.2.2.2, f_npc, f_slotOf, f_slotTo, f_flightReg, f_flightValue, a_words, a_leader, a_moved, a_early, a_home, a_code, a_jump, a_blockAt, a_copied, a_cells, a_traces, a_pcs, a_states, a_faults, a_dones, a_entryCounts)) : wpX_evalBranch post (f_maxWords, f_dataCount, f_size, f_ready, f_codeSize, f_shadow, 0, 0, 0, 0, nI i + 1, 0, f_npc, f_slotOf, f_slotTo, f_flightReg, f_flightValue, a_words, a_leader, a_moved, a_early, a_home, a_code, a_jump, a_blockAt, a_copied, a_cells, a_traces, a_pcs, a_states, a_faults, a_dones, a_entryCounts) (nI i) a b := by
  have c : (nI i).toNatClampNeg = i := nI_clamp (by omega)
  unfold wpX_evalBranch
  rw [c]
  have hq := hp _ rfl
  unfold dm_EVb at hq
  dsimp only at hq
  refine And.intro (vp_in_nI hi (by omega)) (xe_cond ac ht (And.intro (dm_bn _) (And.intro (dm_bfit _) (dm_bc (fun h => ?_) (fun h => ?_)))))
  · rw [dm_in (P := dm_CD _ _ _) h] at hq
    exact xe_branch32 hi rfl rfl hq
  · rw [dm_it (P := dm_CD _ _ _) h] at hq
    exact xr_target hi (xe_branch32 hi rfl rfl hq)
end XE
end
section
section XE2
variable {f_maxWords f_dataCount f_size f_ready f_codeSize f_shadow f_resReg f_resValue f_resTrap f_resFault f_resNext f_resTaken f_npc f_slotOf f_slotTo f_flightReg f_flightValue : Int32} {a_words a_leader a_moved a_early a_home a_code a_jump a_blockAt a_copied a_cells a_traces a_pcs a_states a_faults a_dones a_entryCounts : Nat → Int32}
variable {post : SX → Prop} {i s d : Nat}
theorem xe_imm {w a ix : Int32} (ac : dm_AC w) (h8 : 8 ≤ dm_op w) (h32 : ¬ 32 ≤ dm_op w) (hp : ∀ e : Nat × Int32 × Int32 × Int32 × Int32 × Int32, e = dm_EVi w a ix → post (f_maxWords, f_dataCount, f_size, f_ready, f_codeSize, f_shadow, nI e.1, e.2.1, e.2.2.1, e.2.2.2.1, e.2.2.2.2.1, e.2.2.2.2.2, f_npc, f_slotOf, f_slotTo, f_flightReg, f_flightValue, a_words, a_leader, a_moved, a_early, a_home, a_code, a_jump, a_blockAt, a_copied, a_cells, a_traces, a_pcs, a_states, a_faults, a_dones, a_entryCounts)) : wpX_evalImmediate post (f_maxWords, f_dataCount, f_size, f_ready, f_codeSize, f_shadow, 0, 0, 0, 0, ix + 1, 0, f_npc, f_slotOf, f_slotTo, f_flightReg, f_flightValue, a_words, a_leader, a_moved, a_early, a_home, a_code, a_jump, a_blockAt, a_copied, a_cells, a_traces, a_pcs, a_states, a_faults, a_dones, a_entryCounts) w a := by
  have hq := hp _ rfl
  unfold dm_EVi at hq
  unfold dm_iv at hq
  dsimp only at hq
  unfold wpX_evalImmediate
  refine nm_e (nm_e (nm_r (dm_rtE w) (nm_e ?_)))
  refine br_f (fun h => absurd h8 (Int32.not_le.mpr h)) ?_
  have e8 : ∀ x : Int32, ¬ dm_op w = 8 → dm_if (dm_op w = 8) x 0 = 0 := fun x h => dm_in h
  refine br_c (fun h => nm_e ?_) (fun h => br_c (fun h => ?_) (fun h => br_c (fun h => nm_e ?_) (fun h => br_c (fun h => br_c (fun hh => ?_) (fun hh => ?_)) (fun h => br_c (fun h => nm_e ?_) (fun h => br_c (fun h => nm_e ?_) (fun h => br_c (fun h => nm_e ?_) (fun _ => trivial)))))))
  · have h : ¬ dm_op w ≤ 13 := Int32.not_le.mpr h
    rw [dm_in (P := dm_op w = 8) (fun q => h (by rw [q]; decide)), if_neg (fun q => h (by rw [q]; decide)), if_neg (fun q => h (by rw [q]; decide)), if_neg (fun q => h (by rw [q]; decide)), if_neg (fun q => h (by rw [q]; decide)), if_neg (fun q => h (by rw [q]; decide))] at hq
    exact hq
  · have h : dm_op w = 8 := h
    rw [dm_it (P := dm_op w = 8) h, if_pos h] at hq
    exact xe_addChecked rfl hq
  · have h : dm_op w = 9 := h
    rw [dm_in (P := dm_op w = 8) (by rw [h]; decide), if_neg (by rw [h]; decide), if_pos h] at hq
    exact hq
  · have h : dm_op w = 10 := h
    rw [dm_in (P := dm_op w = 8) (by rw [h]; decide), if_neg (by rw [h]; decide), if_neg (by rw [h]; decide), if_pos h, if_pos (show dm_se w ≤ a from hh)] at hq
    exact hq
  · have h : dm_op w = 10 := h
    rw [dm_in (P := dm_op w = 8) (by rw [h]; decide), if_neg (by rw [h]; decide), if_neg (by rw [h]; decide), if_pos h, if_neg (show ¬ dm_se w ≤ a from hh)] at hq
    exact hq
  · have h : dm_op w = 11 := h
    rw [dm_in (P := dm_op w = 8) (by rw [h]; decide), if_neg (by rw [h]; decide), if_neg (by rw [h]; decide), if_neg (by rw [h]; decide), if_neg (by rw [h]; decide), if_neg (by rw [h]; decide)] at hq
    exact hq
  · have h : dm_op w = 12 := h
    rw [dm_in (P := dm_op w = 8) (by rw [h]; decide), if_neg (by rw [h]; decide), if_neg (by rw [h]; decide), if_neg (by rw [h]; decide), if_pos h] at hq
    exact hq
  · have h : dm_op w = 13 := h
    rw [dm_in (P := dm_op w = 8) (by rw [h]; decide), if_neg (by rw [h]; decide), if_neg (by rw [h]; decide), if_neg (by rw [h]; decide), if_neg (by rw [h]; decide), if_pos h] at hq
    exact hq
theorem xe_mem {w a b ix : Int32} (hs : s < 2) (hd : d ≤ 32) (hdc : f_dataCount = nI d) (hp : ∀ e : Nat × Int32 × Int32 × Int32 × Int32 × Int32, e = dm_EVm f_dataCount (dm_M a_cells s) w a b ix → post (f_maxWords, f_dataCount, f_size, f_ready, f_codeSize, f_shadow, nI e.1, e.2.1, e.2.2.1, e.2.2.2.1, e.2.2.2.2.1, e.2.2.2.2.2, f_npc, f_slotOf, f_slotTo, f_flightReg, f_flightValue, a_words, a_leader, a_moved, a_early, a_home, a_code, a_jump, a_blockAt, a_copied, a_cells, a_traces, a_pcs, a_states, a_faults, a_dones, a_entryCounts)) : wpX_evalMemory post (f_maxWords, f_dataCount, f_size, f_ready, f_codeSize, f_shadow, 0, 0, 0, 0, ix + 1, 0, f_npc, f_slotOf, f_slotTo, f_flightReg, f_flightValue, a_words, a_leader, a_moved, a_early, a_home, a_code, a_jump, a_blockAt, a_copied, a_cells, a_traces, a_pcs, a_states, a_faults, a_dones, a_entryCounts) (nI s) w a b := by
  have hq := hp _ rfl
  unfold dm_EVm at hq
  unfold wpX_evalMemory
  refine nm_e (br_c (fun h3 => br_c (fun hn => ?_) (fun hn => br_c (fun hl => ?_) (fun hl => ?_))) (fun h3 => ?_))
  · have h3 : ((a + dm_se w) &&& 3) = 0 := h3
    have hn : (a + dm_se w) < 0 := hn
    rw [dm_it h3, dm_in (fun q => q.1 hn)] at hq
    exact hq
  · have h3 : ((a + dm_se w) &&& 3) = 0 := h3
    have hn : ¬ (a + dm_se w) < 0 := hn
    have hl : (a + dm_se w) < 4 * f_dataCount := hl
    rw [dm_it h3, dm_it (P := _ ∧ _) ⟨hn, hl⟩] at hq
    obtain ⟨y, hy, ey⟩ := dm_adr hd hdc hn hl
    refine br_c (fun h => ?_) (fun h => ?_)
    · rw [dm_it (show dm_op w = 35 from h)] at hq
      refine nm_r (dm_rtE w) (And.intro ?_ (nm_e hq))
      show vp_in (((nI s * 64) + 32) + (a + dm_se w) >>> ((2 : Int32) &&& 31)) 128
      rw [ey, show (32 : Int32) = nI 32 from rfl, dm_s64, nI_add]
      exact vp_in_nI (by omega) (by omega)
    · rw [dm_in (show ¬ dm_op w = 35 from h)] at hq
      refine nm_r (e' := nI (32 + ((a + dm_se w) >>> ((2 : Int32) &&& 31)).toNatClampNeg)) ?_ hq
      show 32 + (a + dm_se w) >>> ((2 : Int32) &&& 31) = _
      rw [ey, nI_clamp (by omega), show (32 : Int32) = nI 32 from rfl, nI_add]
  · have h3 : ((a + dm_se w) &&& 3) = 0 := h3
    have hl : ¬ (a + dm_se w) < 4 * f_dataCount := hl
    rw [dm_it h3, dm_in (fun q => hl q.2)] at hq
    exact hq
  · have h3 : ¬ ((a + dm_se w) &&& 3) = 0 := h3
    rw [dm_in h3] at hq
    exact hq
/-- no word (a no-operation) -/
theorem xe_nop {p0 : Int32} (hp : post (f_maxWords, f_dataCount, f_size, f_ready, f_codeSize, f_shadow, 0, 0, 0, 0, 0, 0, f_npc, f_slotOf, f_slotTo, f_flightReg, f_flightValue, a_words, a_leader, a_moved, a_early, a_home, a_code, a_jump, a_blockAt, a_copied, a_cells, a_traces, a_pcs, a_states, a_faults, a_dones, a_entryCounts)) : wpX_evaluate post (f_maxWords, f_dataCount, f_size, f_ready, f_codeSize, f_shadow, f_resReg, f_resValue, f_resTrap, f_resFault, f_resNext, f_resTaken, f_npc, f_slotOf, f_slotTo, f_flightReg, f_flightValue, a_words, a_leader, a_moved, a_early, a_home, a_code, a_jump, a_blockAt, a_copied, a_cells, a_traces, a_pcs, a_states, a_faults, a_dones, a_entryCounts) p0 (-1) := by
  unfold wpX_evaluate
  exact nm_r (e' := 0) (by decide) (br_f (by decide) hp)
theorem xe_evaluate (hi : i < 32) (hs : s < 2) (hd : d ≤ 32) (hdc : f_dataCount = nI d) (hsz : ¬ nI 32 < f_size) (ac : dm_AC (a_words i)) (hp : ∀ e : Nat × Int32 × Int32 × Int32 × Int32 × Int32, e = dm_E a_words a_leader a_cells f_size f_dataCount s i → post (f_maxWords, f_dataCount, f_size, f_ready, f_codeSize, f_shadow, nI e.1, e.2.1, e.2.2.1, e.2.2.2.1, e.2.2.2.2.1, e.2.2.2.2.2, f_npc, f_slotOf, f_slotTo, f_flightReg, f_flightValue, a_words, a_leader, a_moved, a_early, a_home, a_code, a_jump, a_blockAt, a_copied, a_cells, a_traces, a_pcs, a_states, a_faults, a_dones, a_entryCounts)) : wpX_evaluate post (f_maxWords, f_dataCount, f_size, f_ready, f_codeSize, f_shadow, f_resReg, f_resValue, f_resTrap, f_resFault, f_resNext, f_resTaken, f_npc, f_slotOf, f_slotTo, f_flightReg, f_flightValue, a_words, a_leader, a_moved, a_early, a_home, a_code, a_jump, a_blockAt, a_copied, a_cells, a_traces, a_pcs, a_states, a_faults, a_dones, a_entryCounts) (nI s) (nI i) := by
  have c : (nI i).toNatClampNeg = i := nI_clamp (by omega)
  have hr := dm_rsL (a_words i)
  have ht := dm_rtL (a_words i)
  have i1 : (nI s * 64) + dm_rs (a_words i) = nI (s * 64 + dm_rsN (a_words i)) := by rw [dm_rsE, dm_s64]
  have i2 : (nI s * 64) + dm_rt (a_words i) = nI (s * 64 + dm_rtN (a_words i)) := by rw [dm_rtE, dm_s64]
  unfold wpX_evaluate
  rw [c]
  refine nm_e (br_t (nI_pos' (by omega)) (And.intro (vp_in_nI hi (by omega)) (nm_e (nm_e (And.intro ?_ (nm_r (e' := a_cells (s * 64 + dm_rsN (a_words i))) ?_ (And.intro ?_ (nm_r (e' := a_cells (s * 64 + dm_rtN (a_words i))) ?_ ?_))))))))
  · show vp_in ((nI s * 64) + dm_rs (a_words i)) 128
    rw [i1]; exact vp_in_nI (by omega) (by omega)
  · show a_cells ((nI s * 64) + dm_rs (a_words i)).toNatClampNeg = _
    rw [i1, nI_clamp (by omega)]
  · show vp_in ((nI s * 64) + dm_rt (a_words i)) 128
    rw [i2]; exact vp_in_nI (by omega) (by omega)
  · show a_cells ((nI s * 64) + dm_rt (a_words i)).toNatClampNeg = _
    rw [i2, nI_clamp (by omega)]
  refine br_c (fun h => ?_) (fun h => br_c (fun h8 => br_c (fun h32 => ?_) (fun h32 => ?_)) (fun h8 => ?_))
  · have h : dm_op (a_words i) = 0 := h
    refine xe_special (fun e he => hp e (he.trans ?_)) hsz
    unfold dm_E dm_EV; rw [dm_it h]
  · have h : ¬ dm_op (a_words i) = 0 := h
    have h8 : 8 ≤ dm_op (a_words i) := h8
    have h32 : 32 ≤ dm_op (a_words i) := h32
    refine xe_mem hs hd hdc (fun e he => hp e (he.trans ?_))
    unfold dm_E dm_EV; rw [dm_in h, dm_it h8, dm_it h32]
  · have h : ¬ dm_op (a_words i) = 0 := h
    have h8 : 8 ≤ dm_op (a_words i) := h8
    have h32 : ¬ 32 ≤ dm_op (a_words i) := h32
    refine xe_imm ac h8 h32 (fun e he => hp e (he.trans ?_))
    unfold dm_E dm_EV; rw [dm_in h, dm_it h8, dm_in h32]
  · have h : ¬ dm_op (a_words i) = 0 := h
    have h8 : ¬ 8 ≤ dm_op (a_words i) := h8
    refine xe_branch hi ac ⟨?_, h8⟩ (fun e he => hp e (he.trans ?_))
    · rcases ac with ⟨q, _⟩ | ⟨q, _⟩ | q
      · exact absurd q h
      · rw [q]; decide
      · rcases q with q | q | q | q | q | q | q | q | q | q | q | q <;> rw [q] <;> decide
    · unfold dm_E dm_EV; rw [dm_in h, dm_in h8]
end XE2
end
section
/-! the reference's arithmetic and its methods that only read -/
theorem dm_neg (x : Int32) : x < 0 ↔ bt x 31 = true := by
  have e : (0 : Int32).toInt = 0 := by decide
  have m : bt x 31 = x.toBitVec.msb := (BitVec.msb_eq_getLsbD_last x.toBitVec).symm
  rw [Int32.lt_iff_toInt_lt, e, m, BitVec.msb_eq_toInt, decide_eq_true_iff]
  exact Iff.rfl
theorem dm_ovB (a b r : Int32) : 0 ≤ ((a ^^^ r) &&& (b ^^^ r)) ↔ ¬ ((¬ (a < 0 ↔ r < 0)) ∧ ¬ (b < 0 ↔ r < 0)) := by
  rw [← Int32.not_lt, dm_neg, b_and, b_xor, b_xor, dm_neg a, dm_neg b, dm_neg r]
  cases bt a 31 <;> cases bt b 31 <;> cases bt r 31 <;> decide
theorem dm_ovf (a b : Int32) : (a.toInt64 + b.toInt64) = (a + b).toInt64 ↔ 0 ≤ ((a ^^^ (a + b)) &&& (b ^^^ (a + b))) := by
  have e : (0 : Int32).toInt = 0 := by decide
  have ha := a.le_toInt
  have ha' := a.toInt_lt
  have hb := b.le_toInt
  have hb' := b.toInt_lt
  have hr := (a + b).le_toInt
  have hr' := (a + b).toInt_lt
  rw [dm_ovB, ← Int64.toInt_inj, Int64.toInt_add, Int32.toInt_toInt64, Int32.toInt_toInt64, Int32.toInt_toInt64, Int.bmod_eq_of_le (by omega) (by omega), Int32.lt_iff_toInt_lt, Int32.lt_iff_toInt_lt, Int32.lt_iff_toInt_lt, e]
  have q : (a + b).toInt = a.toInt + b.toInt ∨ (a + b).toInt = a.toInt + b.toInt - 4294967296 ∨ (a + b).toInt = a.toInt + b.toInt + 4294967296 := by
    rw [Int32.toInt_add]
    by_cases h1 : a.toInt + b.toInt < -2147483648
    · right; right
      rw [← Int.add_bmod_right, Int.bmod_eq_of_le (by omega) (by omega)]; rfl
    · by_cases h2 : 2147483648 ≤ a.toInt + b.toInt
      · right; left
        rw [← Int.sub_bmod_right, Int.bmod_eq_of_le (by omega) (by omega)]; rfl
      · left
        rw [Int.bmod_eq_of_le (by omega) (by omega)]
  omega
theorem dm_nx {a : Nat} (h : a < 4294967296) : a ^^^ 2 ^ 31 = (a + 2147483648) % 4294967296 := by
  have h1 : (a ^^^ 2 ^ 31) % 2 ^ 31 = a % 2 ^ 31 := by rw [Nat.xor_mod_two_pow, Nat.mod_self, Nat.xor_zero]
  have h2 : (a ^^^ 2 ^ 31) / 2 ^ 31 = (a / 2 ^ 31) ^^^ 1 := by rw [Nat.xor_div_two_pow, Nat.div_self (Nat.two_pow_pos 31)]
  have h3 : a / 2 ^ 31 = 0 ∨ a / 2 ^ 31 = 1 := by omega
  generalize a ^^^ 2 ^ 31 = t at h1 h2
  rcases h3 with h3 | h3
  · rw [h3] at h2
    have h2 : t / 2 ^ 31 = 1 := h2
    omega
  · rw [h3] at h2
    have h2 : t / 2 ^ 31 = 0 := h2
    omega
theorem dm_xs (x : Int32) : (x ^^^ (-2147483648)).toInt = (x.toBitVec.toNat : Int) - 2147483648 := by
  have hx : x.toBitVec.toNat < 4294967296 := x.toBitVec.isLt
  have e : (x ^^^ (-2147483648)).toBitVec.toNat = (x.toBitVec.toNat + 2147483648) % 4294967296 := by
    rw [← dm_nx hx, Int32.toBitVec_xor, BitVec.toNat_xor]; rfl
  have t : (x ^^^ (-2147483648)).toInt = if 2 * (x ^^^ (-2147483648)).toBitVec.toNat < 4294967296 then ((x ^^^ (-2147483648)).toBitVec.toNat : Int) else ((x ^^^ (-2147483648)).toBitVec.toNat : Int) - 4294967296 := BitVec.toInt_eq_toNat_cond _
  rw [t, e]
  omega
theorem dm_lo (x : Int32) : (x.toInt64 &&& 4294967295) = lN x.toBitVec.toNat := by
  apply uN_inj
  have hx : x.toBitVec.toNat < 4294967296 := x.toBitVec.isLt
  rw [uN_lo]
  have e2 : uN (lN x.toBitVec.toNat) = x.toBitVec.toNat := by
    show (lN x.toBitVec.toNat).toBitVec.toNat = _
    exact lN_nat (by omega)
  have e1 : (uN x.toInt64 : Int) = x.toInt % 18446744073709551616 := by
    have h := uN_int x.toInt64
    have hl := uN_lt x.toInt64
    rw [Int32.toInt_toInt64] at h
    have := x.le_toInt
    have := x.toInt_lt
    split at h <;> omega
  have e3 : x.toInt = if 2 * x.toBitVec.toNat < 4294967296 then (x.toBitVec.toNat : Int) else (x.toBitVec.toNat : Int) - 4294967296 := BitVec.toInt_eq_toNat_cond _
  rw [e2]
  split at e3 <;> omega
theorem dm_ult (a b : Int32) : (b.toInt64 &&& 4294967295) ≤ (a.toInt64 &&& 4294967295) ↔ (b ^^^ (-2147483648)) ≤ (a ^^^ (-2147483648)) := by
  have ha : a.toBitVec.toNat < 4294967296 := a.toBitVec.isLt
  have hb : b.toBitVec.toNat < 4294967296 := b.toBitVec.isLt
  rw [dm_lo, dm_lo, pk_lLE (by omega) (by omega), Int32.le_iff_toInt_le, dm_xs, dm_xs]
  omega
/-- e is an entry of a block -/
def dm_IL (W : Nat → Int32) (n e : Nat) : Prop := e < n ∧ (e = 0 ∨ ∃ i, i < n ∧ ((dm_HT (W i) ∧ dm_tg (W i) (nI i) = nI e) ∨ (¬ dm_PL (W i) ∧ i + 1 = e)))
def dm_LR (W L : Nat → Int32) (n : Nat) : Prop := ∀ e, e < n → (L e = 0 ↔ ¬ dm_IL W n e)
def dm_Acc (W : Nat → Int32) (n : Nat) : Prop := ∀ i, i < n → dm_AC (W i)
theorem dm_notPL {w : Int32} : ¬ dm_PL w ↔ dm_HT w ∨ dm_FN w 8 ∨ dm_FN w 13 := by
  unfold dm_PL dm_HS
  constructor
  · intro h
    refine Classical.byContradiction fun n => h ⟨fun q => n ?_, fun q => n (Or.inr (Or.inr q))⟩
    rcases q with q | q
    · exact Or.inl q
    · exact Or.inr (Or.inl q)
  · rintro (h | h | h) q
    · exact q.1 (Or.inl h)
    · exact q.1 (Or.inr h)
    · exact q.2 h
theorem dm_op0 : dm_op 0 < 1 := by decide
section YR
variable {f_p f_d f_size f_ready : Int32} {a_words a_cells a_items a_pcs a_stats a_faults a_dones a_ents : Nat → Int32}
variable {post : Int32 → Prop} {i n : Nat}
theorem yr_source (hn : n ≤ 32) (hs : f_size = nI n) (hi : i < n) (hp : post (a_words i)) : wpY_source post (f_p, f_d, f_size, f_ready, a_words, a_cells, a_items, a_pcs, a_stats, a_faults, a_dones, a_ents) (nI i) := by
  subst hs
  have c : (nI i).toNatClampNeg = i := nI_clamp (by omega)
  unfold wpY_source
  rw [c]
  exact br_f (nI_pos (by omega)) (br_t (nI_lt hi (by omega)) (And.intro (vp_in_nI (by omega) (by omega)) hp))
theorem yr_sourceO (hn : n ≤ 32) (hs : f_size = nI n) (hi : n ≤ i) (hi2 : i < 2 ^ 31) (hp : post 0) : wpY_source post (f_p, f_d, f_size, f_ready, a_words, a_cells, a_items, a_pcs, a_stats, a_faults, a_dones, a_ents) (nI i) := by
  subst hs
  unfold wpY_source
  exact br_f (nI_pos (by omega)) (br_f (nI_nlt hi hi2) hp)
theorem yr_hasTarget (hn : n ≤ 32) (hs : f_size = nI n) (ac : dm_Acc a_words n) (hi : i < 2 ^ 31) (hp : post (dm_b (i < n ∧ dm_HT (a_words i)))) : wpY_hasTarget post (f_p, f_d, f_size, f_ready, a_words, a_cells, a_items, a_pcs, a_stats, a_faults, a_dones, a_ents) (nI i) := by
  unfold wpY_hasTarget
  by_cases h : i < n
  · have h5 := dm_ht5 (ac i h)
    refine yr_source hn hs h (nm_e (br_c (fun a => dm_p0 hp (fun q => q.2.1 a)) (fun a => br_c (fun b => dm_p0 hp (fun q => (h5.mp q.2).2 b)) (fun b => dm_p1 hp ⟨h, h5.mpr ⟨a, b⟩⟩))))
  · exact yr_sourceO hn hs (by omega) hi (nm_e (br_t dm_op0 (dm_p0 hp (fun q => h q.1))))
theorem yr_target (hn : n ≤ 32) (hs : f_size = nI n) (hi : i < n) (hp : post (dm_tg (a_words i) (nI i))) : wpY_target post (f_p, f_d, f_size, f_ready, a_words, a_cells, a_items, a_pcs, a_stats, a_faults, a_dones, a_ents) (nI i) := by
  unfold wpY_target
  refine yr_source hn hs hi (nm_e (br_c (fun h => ?_) (fun h => br_c (fun h2 => ?_) (fun h2 => ?_))))
  · rw [dm_tgJ (Or.inl h)] at hp; exact hp
  · rw [dm_tgJ (Or.inr h2)] at hp; exact hp
  · rw [dm_tgN (fun q => q.elim h h2)] at hp
    rw [dm_seY]; exact hp
theorem yr_isJB (hn : n ≤ 32) (hs : f_size = nI n) (hi : i < 2 ^ 31) (hp : post (dm_b (i < n ∧ (dm_FN (a_words i) 8 ∨ dm_FN (a_words i) 13)))) : wpY_isJrOrBreak post (f_p, f_d, f_size, f_ready, a_words, a_cells, a_items, a_pcs, a_stats, a_faults, a_dones, a_ents) (nI i) := by
  unfold wpY_isJrOrBreak
  by_cases h : i < n
  · refine yr_source hn hs h (nm_e (br_f (nI_pos hi) (br_f (hs ▸ nI_ge h (by omega)) (br_c (fun h0 => br_c (fun h8 => dm_p1 hp ⟨h, Or.inl ⟨h0, h8⟩⟩) (fun h8 => br_c (fun h13 => dm_p1 hp ⟨h, Or.inr ⟨h0, h13⟩⟩) (fun h13 => dm_p0 hp ?_))) (fun h0 => dm_p0 hp ?_)))))
    · exact fun q => q.2.elim (fun z => h8 z.2) (fun z => h13 z.2)
    · exact fun q => q.2.elim (fun z => h0 z.1) (fun z => h0 z.1)
  · exact yr_sourceO hn hs (by omega) hi (nm_e (br_f (nI_pos hi) (br_t (hs ▸ nI_le (by omega) hi) (dm_p0 hp (fun q => h q.1)))))
theorem yr_entry22 {e : Nat} (hn : n ≤ 32) (hs : f_size = nI n) (ac : dm_Acc a_words n) (he : e < n) (h0 : 0 < e) (hp : post (dm_b (dm_IL a_words n e))) : ∀ m i : Nat, 33 ≤ m + i → i ≤ 32 → (∀ j, j < i → j < n → ¬ ((dm_HT (a_words j) ∧ dm_tg (a_words j) (nI j) = nI e) ∨ (¬ dm_PL (a_words j) ∧ j + 1 = e))) → wY_isEntry_22 post (nI e) f_p f_d f_size f_ready a_words a_cells a_items a_pcs a_stats a_faults a_dones a_ents m (nI i) := by
  intro m
  induction m with
  | zero => intro i h1 h2 _; omega
  | succ m ih =>
    intro i h1 h2 hno
    rw [wY_isEntry_22]
    refine pk_le 32 i (fun h => dm_p0 hp ?_) (fun h => ?_)
    · rintro ⟨_, q | ⟨j, hj, q⟩⟩
      · omega
      · exact hno j (by omega) hj q
    have tail : ¬ (i < n ∧ dm_HT (a_words i) ∧ (dm_tg (a_words i) (nI i) = nI e ∨ i + 1 = e)) → wY_isEntry_56 post (wY_isEntry_22 post (nI e) f_p f_d f_size f_ready a_words a_cells a_items a_pcs a_stats a_faults a_dones a_ents m) (nI e) (nI i) f_p f_d f_size f_ready a_words a_cells a_items a_pcs a_stats a_faults a_dones a_ents := by
      intro nt
      unfold wY_isEntry_56
      rw [nI_1]
      refine pk_eq (i + 1) e (fun h3 => yr_isJB hn hs (by omega) (dm_bc (fun h4 => ?_) (fun h4 => dm_p1 hp ?_))) (fun h3 => ?_)
      · refine nm_e (ih (i + 1) (by omega) (by omega) (fun j hj hjn q => ?_))
        by_cases z : j < i
        · exact hno j z hjn q
        · obtain rfl : j = i := by omega
          rcases q with q | q
          · exact nt ⟨hjn, q.1, Or.inl q.2⟩
          · rcases dm_notPL.mp q.1 with q1 | q1
            · exact nt ⟨hjn, q1, Or.inr q.2⟩
            · exact h4 ⟨hjn, q1⟩
      · exact ⟨he, Or.inr ⟨i, h4.1, Or.inr ⟨dm_notPL.mpr (Or.inr h4.2), h3⟩⟩⟩
      · refine nm_e (ih (i + 1) (by omega) (by omega) (fun j hj hjn q => ?_))
        by_cases z : j < i
        · exact hno j z hjn q
        · obtain rfl : j = i := by omega
          rcases q with q | q
          · exact nt ⟨hjn, q.1, Or.inl q.2⟩
          · exact h3 q.2
    refine yr_hasTarget hn hs ac (by omega) (dm_bc (fun h3 => tail (fun q => h3 ⟨q.1, q.2.1⟩)) (fun h3 => yr_target hn hs h3.1 (br_c (fun h4 => dm_p1 hp ?_) (fun h4 => ?_))))
    · exact ⟨he, Or.inr ⟨i, h3.1, Or.inl ⟨h3.2, h4⟩⟩⟩
    · rw [nI_1]
      refine pk_eq (i + 1) e (fun h5 => dm_p1 hp ?_) (fun h5 => tail (fun q => q.2.2.elim h4 h5))
      exact ⟨he, Or.inr ⟨i, h3.1, Or.inr ⟨dm_notPL.mpr (Or.inl h3.2), h5⟩⟩⟩
theorem yr_isEntry {L : Nat → Int32} {x : Int32} (hn : n ≤ 32) (hs : f_size = nI n) (ac : dm_Acc a_words n) (hL : dm_LR a_words L n) (hp : post (dm_b (dm_ok L f_size x))) : wpY_isEntry post (f_p, f_d, f_size, f_ready, a_words, a_cells, a_items, a_pcs, a_stats, a_faults, a_dones, a_ents) x := by
  unfold wpY_isEntry
  refine br_c (fun h => dm_p0 hp (fun q => q.1 h)) (fun h => br_c (fun h2 => ?_) (fun h2 => dm_p0 hp (fun q => q.2.1 (Int32.not_lt.mp h2))))
  obtain ⟨e, he, rfl⟩ := nI_of h
  rw [hs, nI_ltI he (by omega)] at h2
  have k : dm_ok L f_size (nI e) ↔ dm_IL a_words n e := by
    unfold dm_ok
    rw [nI_clamp he, hs, hL e h2]
    exact ⟨fun q => Classical.byContradiction q.2.2, fun q => ⟨h, nI_ge h2 (by omega), fun z => z q⟩⟩
  rw [dm_be k] at hp
  refine br_c (fun h0 => dm_p1 hp ⟨h2, Or.inl ?_⟩) (fun h0 => ⟨33, yr_entry22 hn hs ac h2 ?_ hp 33 0 (by omega) (by omega) (fun j hj => by omega)⟩)
  · exact (nI_eq he (by omega)).mp h0
  · exact Nat.pos_of_ne_zero (fun z => h0 (by rw [z]; rfl))
end YR
end
section
/-! the reference's single step against the pure evaluation -/
def dm_wr (C : Nat → Int32) (s t : Nat) (v : Int32) : Nat → Int32 := if t = 0 then C else upd C (s * 64 + t) v
def dm_tr (T : Nat → Int32) (e : Int32) (s : Nat) (x : Int32) : Nat → Int32 := if e < 0 then T else if 32 ≤ e then T else upd T (s * 32 + e.toNatClampNeg) x
theorem dm_32i {s : Nat} {e : Int32} (h0 : ¬ e < 0) (h1 : ¬ 32 ≤ e) (hs : s < 2) : (nI s * 32 + e).toNatClampNeg = s * 32 + e.toNatClampNeg ∧ vp_in (nI s * 32 + e) 64 := by
  obtain ⟨j, hj, rfl⟩ := nI_of h0
  have : j < 32 := by
    rw [← show nI 32 = 32 from rfl, nI_leI (by omega) hj] at h1; omega
  rw [show (32 : Int32) = nI 32 from rfl, pk_mul, nI_add, nI_clamp hj, nI_clamp (by omega)]
  exact ⟨rfl, vp_in_nI (by omega) (by omega)⟩
theorem dm_c32 (s : Nat) : (32 : Int32) * nI s = nI s * 32 := Int32.mul_comm _ _
theorem dm_c64 (s : Nat) : (64 : Int32) * nI s = nI s * 64 := Int32.mul_comm _ _
section YO
variable {f_p f_d f_size f_ready : Int32} {a_words a_cells a_items a_pcs a_stats a_faults a_dones a_ents : Nat → Int32}
variable {post : SY → Prop} {L : Nat → Int32} {s t i n d : Nat} {v stop why next : Int32}
/-- what a step with the outcome (reg, value, trap, fault, next) owes -/
def yo_P (post : SY → Prop) (L : Nat → Int32) (s t : Nat) (v stop why next : Int32) : Int32 → Int32 → Int32 → Int32 → (Nat → Int32) → (Nat → Int32) → (Nat → Int32) → (Nat → Int32) → (Nat → Int32) → (Nat → Int32) → (Nat → Int32) → (Nat → Int32) → Prop := fun f_p f_d f_size f_ready a_words a_cells a_items a_pcs a_stats a_faults a_dones a_ents =>
  (¬ stop = 0 → post (f_p, f_d, f_size, f_ready, a_words, a_cells, a_items, a_pcs, upd a_stats s stop, upd a_faults s why, a_dones, a_ents)) ∧
  (stop = 0 → (dm_ok L f_size next → post (f_p, f_d, f_size, f_ready, a_words, dm_wr a_cells s t v, dm_tr a_items (a_ents s) s next, upd a_pcs s next, a_stats, a_faults, upd a_dones s (a_dones s + 1), upd a_ents s (a_ents s + 1)))
    ∧ (¬ dm_ok L f_size next → post (f_p, f_d, f_size, f_ready, a_words, dm_wr a_cells s t v, a_items, upd a_pcs s next, a_stats, a_faults, upd a_dones s (a_dones s + 1), a_ents)))
theorem yo_trap {t' : Nat} {v' next' : Int32} (h : ¬ stop = 0) (q : yo_P post L s t v stop why next f_p f_d f_size f_ready a_words a_cells a_items a_pcs a_stats a_faults a_dones a_ents) : yo_P post L s t' v' stop why next' f_p f_d f_size f_ready a_words a_cells a_items a_pcs a_stats a_faults a_dones a_ents := ⟨q.1, fun z => absurd z h⟩
theorem yo_763 (hs : s < 2) (hn : n ≤ 32) (hz : f_size = nI n) (ac : dm_Acc a_words n) (hL : dm_LR a_words L n)
    (h1 : dm_ok L f_size next → post (f_p, f_d, f_size, f_ready, a_words, a_cells, dm_tr a_items (a_ents s) s next, upd a_pcs s next, a_stats, a_faults, upd a_dones s (a_dones s + 1), upd a_ents s (a_ents s + 1)))
    (h0 : ¬ dm_ok L f_size next → post (f_p, f_d, f_size, f_ready, a_words, a_cells, a_items, upd a_pcs s next, a_stats, a_faults, upd a_dones s (a_dones s + 1), a_ents)) : wY_one_763 post (nI s) next f_p f_d f_size f_ready a_words a_cells a_items a_pcs a_stats a_faults a_dones a_ents := by
  have c : (nI s).toNatClampNeg = s := nI_clamp (by omega)
  have v : vp_in (nI s) 2 := vp_in_nI hs (by omega)
  unfold wY_one_763
  rw [c]
  refine And.intro v (nm_e (And.intro v (And.intro v (nm_e (yr_isEntry hn hz ac hL (dm_bc (fun h => h0 h) (fun h => And.intro v (nm_e (br_c (fun a => ?_) (fun a => br_c (fun b => ?_) (fun b => And.intro ?_ (nm_r (e' := upd a_items (s * 32 + (a_ents s).toNatClampNeg) next) ?_ ?_))))))))))))
  · unfold wY_one_824
    rw [c]
    have q := h1 h
    rw [show dm_tr a_items (a_ents s) s next = a_items from if_pos a] at q
    exact And.intro v (And.intro v (nm_e q))
  · unfold wY_one_824
    rw [c]
    have q := h1 h
    rw [show dm_tr a_items (a_ents s) s next = a_items from (if_neg a).trans (if_pos b)] at q
    exact And.intro v (And.intro v (nm_e q))
  · rw [dm_c32]; exact (dm_32i a b hs).2
  · rw [dm_c32, (dm_32i a b hs).1]
  · unfold wY_one_824
    rw [c]
    have q := h1 h
    rw [show dm_tr a_items (a_ents s) s next = upd a_items (s * 32 + (a_ents s).toNatClampNeg) next from (if_neg a).trans (if_neg b)] at q
    exact And.intro v (And.intro v (nm_e q))
theorem yo_725 {t' : Int32} (hs : s < 2) (hn : n ≤ 32) (hz : f_size = nI n) (ac : dm_Acc a_words n) (hL : dm_LR a_words L n) (ht : t < 64) (et : t' = nI t)
    (hq : yo_P post L s t v stop why next f_p f_d f_size f_ready a_words a_cells a_items a_pcs a_stats a_faults a_dones a_ents) : wY_one_725 post (nI s) (64 * nI s) next t' v stop why f_p f_d f_size f_ready a_words a_cells a_items a_pcs a_stats a_faults a_dones a_ents := by
  have c : (nI s).toNatClampNeg = s := nI_clamp (by omega)
  have vv : vp_in (nI s) 2 := vp_in_nI hs (by omega)
  subst et
  unfold wY_one_725
  rw [c]
  refine br_c (fun h => br_c (fun h0 => ?_) (fun h0 => And.intro ?_ (nm_r (e' := upd a_cells (s * 64 + t) v) ?_ ?_))) (fun h => And.intro vv (nm_e (And.intro vv (nm_e (hq.1 h)))))
  · have t0 : t = 0 := by
      rw [show (0 : Int32) = nI 0 from rfl, nI_leI (by omega) (by omega)] at h0; omega
    have q := hq.2 h
    rw [show dm_wr a_cells s t v = a_cells from if_pos t0] at q
    exact yo_763 hs hn hz ac hL q.1 q.2
  · rw [dm_c64, dm_s64]; exact vp_in_nI (by omega) (by omega)
  · rw [dm_c64, dm_s64, nI_clamp (by omega)]
  · have t0 : ¬ t = 0 := by
      rw [show (0 : Int32) = nI 0 from rfl, nI_leI (by omega) (by omega)] at h0; omega
    have q := hq.2 h
    rw [show dm_wr a_cells s t v = upd a_cells (s * 64 + t) v from if_neg t0] at q
    exact yo_763 hs hn hz ac hL q.1 q.2
theorem yo_469 {w : Int32} (hs : s < 2) (hn : n ≤ 32) (hz : f_size = nI n) (ac : dm_Acc a_words n) (hL : dm_LR a_words L n)
    (q : yo_P post L s (dm_if (dm_LK w) 31 0) (dm_if (dm_LK w) (4 * (nI i + 1)) 0) 0 0 next f_p f_d f_size f_ready a_words a_cells a_items a_pcs a_stats a_faults a_dones a_ents) : wY_one_469 post (nI s) (64 * nI s) (nI i) (dm_op w) (dm_rt w) next 0 0 0 0 f_p f_d f_size f_ready a_words a_cells a_items a_pcs a_stats a_faults a_dones a_ents := by
  have yes : dm_LK w → wY_one_488 post (nI s) (64 * nI s) (nI i) next 0 0 f_p f_d f_size f_ready a_words a_cells a_items a_pcs a_stats a_faults a_dones a_ents := fun h => by
    rw [dm_it h, dm_it h] at q
    unfold wY_one_488
    refine nm_e ?_
    unfold wY_one_500
    exact yo_725 (t := 31) hs hn hz ac hL (by omega) rfl q
  have no : ¬ dm_LK w → wY_one_500 post (nI s) (64 * nI s) next 0 0 0 0 f_p f_d f_size f_ready a_words a_cells a_items a_pcs a_stats a_faults a_dones a_ents := fun h => by
    rw [dm_in h, dm_in h] at q
    unfold wY_one_500
    exact yo_725 (t := 0) hs hn hz ac hL (by omega) rfl q
  unfold wY_one_469
  exact br_c (fun h => yes (Or.inl h)) (fun h => br_c (fun h1 => br_c (fun h2 => yes (Or.inr ⟨h1, h2⟩)) (fun h2 => no (fun z => z.elim h (fun z => h2 z.2)))) (fun h1 => no (fun z => z.elim h (fun z => h1 z.1))))
theorem yo_449 {w : Int32} (hs : s < 2) (hn : n ≤ 32) (hz : f_size = nI n) (ac : dm_Acc a_words n) (hL : dm_LR a_words L n) (hi : i < n) (hw : a_words i = w)
    (q : yo_P post L s (dm_if (dm_LK w) 31 0) (dm_if (dm_LK w) (4 * (nI i + 1)) 0) 0 0 (dm_tg w (nI i)) f_p f_d f_size f_ready a_words a_cells a_items a_pcs a_stats a_faults a_dones a_ents) : wY_one_449 post (nI s) (64 * nI s) (nI i) (dm_op w) (dm_rt w) (nI i + 1) 0 0 0 0 f_p f_d f_size f_ready a_words a_cells a_items a_pcs a_stats a_faults a_dones a_ents := by
  unfold wY_one_449 wY_one_454
  subst hw
  exact br_f (by decide) (yr_target hn hz hi (yo_469 hs hn hz ac hL q))
theorem yo_453 {w : Int32} (hs : s < 2) (hn : n ≤ 32) (hz : f_size = nI n) (ac : dm_Acc a_words n) (hL : dm_LR a_words L n)
    (q : yo_P post L s (dm_if (dm_LK w) 31 0) (dm_if (dm_LK w) (4 * (nI i + 1)) 0) 0 0 (nI i + 1) f_p f_d f_size f_ready a_words a_cells a_items a_pcs a_stats a_faults a_dones a_ents) : wY_one_453 post (nI s) (64 * nI s) (nI i) (dm_op w) (dm_rt w) (nI i + 1) 0 0 0 0 f_p f_d f_size f_ready a_words a_cells a_items a_pcs a_stats a_faults a_dones a_ents := by
  unfold wY_one_453 wY_one_454
  exact br_t rfl (yo_469 hs hn hz ac hL q)
theorem yo_404 {w a b : Int32} (T : dm_CD w a b → wY_one_449 post (nI s) (64 * nI s) (nI i) (dm_op w) (dm_rt w) (nI i + 1) 0 0 0 0 f_p f_d f_size f_ready a_words a_cells a_items a_pcs a_stats a_faults a_dones a_ents)
    (N : ¬ dm_CD w a b → wY_one_453 post (nI s) (64 * nI s) (nI i) (dm_op w) (dm_rt w) (nI i + 1) 0 0 0 0 f_p f_d f_size f_ready a_words a_cells a_items a_pcs a_stats a_faults a_dones a_ents) (h2 : ¬ dm_op w = 2) (h3 : ¬ dm_op w = 3) (h4 : ¬ (dm_op w = 4 ∧ a = b)) :
    wY_one_404 post (nI s) (64 * nI s) (nI i) (dm_op w) (dm_rt w) a b (nI i + 1) 0 0 0 0 f_p f_d f_size f_ready a_words a_cells a_items a_pcs a_stats a_faults a_dones a_ents := by
  have g433 : ¬ (dm_op w = 1 ∧ dm_rt w = 0 ∧ a < 0) → ¬ (dm_op w = 5 ∧ ¬ a = b) → wY_one_433 post (nI s) (64 * nI s) (nI i) (dm_op w) (dm_rt w) a (nI i + 1) 0 0 0 0 f_p f_d f_size f_ready a_words a_cells a_items a_pcs a_stats a_faults a_dones a_ents := by
    intro k k5
    have all : ¬ (dm_op w = 1 ∧ ¬ dm_rt w = 0 ∧ ¬ a < 0) → ¬ dm_CD w a b := by
      rintro z (⟨q1, ⟨q2, q3⟩ | ⟨q2, q3⟩⟩ | q | q | q | q)
      · exact k ⟨q1, q2, q3⟩
      · exact z ⟨q1, q2, q3⟩
      · exact h2 q
      · exact h3 q
      · exact h4 q
      · exact k5 q
    unfold wY_one_433
    exact br_c (fun h1 => br_c (fun hr => N (all (fun z => z.2.1 hr))) (fun hr => br_c (fun ha => N (all (fun z => z.2.2 ha))) (fun ha => T (Or.inl ⟨h1, Or.inr ⟨hr, ha⟩⟩)))) (fun h1 => N (all (fun z => h1 z.1)))
  have g417 : ¬ (dm_op w = 5 ∧ ¬ a = b) → wY_one_417 post (nI s) (64 * nI s) (nI i) (dm_op w) (dm_rt w) a (nI i + 1) 0 0 0 0 f_p f_d f_size f_ready a_words a_cells a_items a_pcs a_stats a_faults a_dones a_ents := by
    intro k5
    unfold wY_one_417
    exact br_c (fun h1 => br_c (fun hr => br_c (fun ha => T (Or.inl ⟨h1, Or.inl ⟨hr, ha⟩⟩)) (fun ha => g433 (fun z => ha z.2.2) k5)) (fun hr => g433 (fun z => hr z.2.1) k5)) (fun h1 => g433 (fun z => h1 z.1) k5)
  unfold wY_one_404
  exact br_c (fun h5 => br_c (fun he => g417 (fun z => z.2 he)) (fun he => T (Or.inr (Or.inr (Or.inr (Or.inr ⟨h5, he⟩)))))) (fun h5 => g417 (fun z => h5 z.1))
theorem yo_662 {w a v0 sp : Int32} (hs : s < 2) (hn : n ≤ 32) (hz : f_size = nI n) (ac : dm_Acc a_words n) (hL : dm_LR a_words L n) (ert : dm_rt w = nI t) (ht : t < 64)
    (ho : dm_op w = 8 ∨ dm_op w = 9 ∨ dm_op w = 10 ∨ dm_op w = 12 ∨ dm_op w = 13 ∨ dm_op w = 15) (hv : dm_op w = 8 ∨ dm_op w = 9 → v0 = a + dm_se w)
    (q : yo_P post L s t (dm_iv w a) sp 0 (nI i + 1) f_p f_d f_size f_ready a_words a_cells a_items a_pcs a_stats a_faults a_dones a_ents) : wY_one_662 post (nI s) (64 * nI s) (dm_op w) (dm_se w) (dm_ze w) a (nI i + 1) (dm_rt w) v0 sp 0 f_p f_d f_size f_ready a_words a_cells a_items a_pcs a_stats a_faults a_dones a_ents := by
  have g711 : ¬ dm_op w = 15 → ∀ v, v = dm_iv w a → wY_one_711 post (nI s) (64 * nI s) (dm_op w) (dm_ze w) (nI i + 1) (dm_rt w) v sp 0 f_p f_d f_size f_ready a_words a_cells a_items a_pcs a_stats a_faults a_dones a_ents := by
    intro h v e
    subst e
    unfold wY_one_711
    exact br_f h (yo_725 hs hn hz ac hL ht ert q)
  have g697 : ¬ dm_op w = 15 → ¬ dm_op w = 13 → ∀ v, v = dm_iv w a → wY_one_697 post (nI s) (64 * nI s) (dm_op w) (dm_ze w) a (nI i + 1) (dm_rt w) v sp 0 f_p f_d f_size f_ready a_words a_cells a_items a_pcs a_stats a_faults a_dones a_ents := by
    intro h h1 v e
    unfold wY_one_697
    exact br_f h1 (g711 h v e)
  have g683 : ¬ dm_op w = 15 → ¬ dm_op w = 13 → ¬ dm_op w = 12 → ∀ v, v = dm_iv w a → wY_one_683 post (nI s) (64 * nI s) (dm_op w) (dm_ze w) a (nI i + 1) (dm_rt w) v sp 0 f_p f_d f_size f_ready a_words a_cells a_items a_pcs a_stats a_faults a_dones a_ents := by
    intro h h1 h2 v e
    unfold wY_one_683
    exact br_f h2 (g697 h h1 v e)
  unfold wY_one_662
  rcases ho with h | h | h | h | h | h
  · refine br_f (by rw [h]; decide) (g683 (by rw [h]; decide) (by rw [h]; decide) (by rw [h]; decide) v0 ?_)
    rw [hv (Or.inl h)]; unfold dm_iv; rw [if_pos h]
  · refine br_f (by rw [h]; decide) (g683 (by rw [h]; decide) (by rw [h]; decide) (by rw [h]; decide) v0 ?_)
    rw [hv (Or.inr h)]; unfold dm_iv; rw [if_neg (by rw [h]; decide), if_pos h]
  · have e : dm_iv w a = if dm_se w ≤ a then 0 else 1 := by unfold dm_iv; rw [if_neg (by rw [h]; decide), if_neg (by rw [h]; decide), if_pos h]
    refine br_t h (br_c (fun z => ?_) (fun z => ?_))
    · unfold wY_one_681
      exact g683 (by rw [h]; decide) (by rw [h]; decide) (by rw [h]; decide) 0 (by rw [e, if_pos z])
    · unfold wY_one_681
      exact g683 (by rw [h]; decide) (by rw [h]; decide) (by rw [h]; decide) 1 (by rw [e, if_neg z])
  · have e : dm_iv w a = a &&& dm_ze w := by unfold dm_iv; rw [if_neg (by rw [h]; decide), if_neg (by rw [h]; decide), if_neg (by rw [h]; decide), if_pos h]
    refine br_f (by rw [h]; decide) ?_
    unfold wY_one_683
    exact br_t h (nm_e (g697 (by rw [h]; decide) (by rw [h]; decide) _ e.symm))
  · have e : dm_iv w a = a ||| dm_ze w := by unfold dm_iv; rw [if_neg (by rw [h]; decide), if_neg (by rw [h]; decide), if_neg (by rw [h]; decide), if_neg (by rw [h]; decide), if_pos h]
    refine br_f (by rw [h]; decide) ?_
    unfold wY_one_683
    refine br_f (by rw [h]; decide) ?_
    unfold wY_one_697
    exact br_t h (nm_e (g711 (by rw [h]; decide) _ e.symm))
  · have e : dm_iv w a = dm_ze w <<< ((16 : Int32) &&& 31) := by
      unfold dm_iv dm_ze
      rw [if_neg (by rw [h]; decide), if_neg (by rw [h]; decide), if_neg (by rw [h]; decide), if_neg (by rw [h]; decide), if_neg (by rw [h]; decide), dm_lui]
    refine br_f (by rw [h]; decide) ?_
    unfold wY_one_683
    refine br_f (by rw [h]; decide) ?_
    unfold wY_one_697
    refine br_f (by rw [h]; decide) ?_
    unfold wY_one_711
    rw [e] at q
    exact br_t h (nm_e (yo_725 hs hn hz ac hL ht ert q))
theorem yo_638 {w a v0 : Int32} (hs : s < 2) (hn : n ≤ 32) (hz : f_size = nI n) (ac : dm_Acc a_words n) (hL : dm_LR a_words L n) (ert : dm_rt w = nI t) (ht : t < 64)
    (ho : dm_op w = 8 ∨ dm_op w = 9 ∨ dm_op w = 10 ∨ dm_op w = 12 ∨ dm_op w = 13 ∨ dm_op w = 15) (hv : dm_op w = 8 ∨ dm_op w = 9 → v0 = a + dm_se w)
    (q : yo_P post L s t (dm_iv w a) (dm_if (dm_op w = 8) (dm_ov a (dm_se w)) 0) 0 (nI i + 1) f_p f_d f_size f_ready a_words a_cells a_items a_pcs a_stats a_faults a_dones a_ents) : wY_one_638 post (nI s) (64 * nI s) (dm_op w) (dm_se w) (dm_ze w) a (nI i + 1) (dm_rt w) v0 0 0 f_p f_d f_size f_ready a_words a_cells a_items a_pcs a_stats a_faults a_dones a_ents := by
  unfold wY_one_638
  refine br_c (fun h => br_c (fun z => yo_662 hs hn hz ac hL ert ht ho hv ?_) (fun z => yo_662 hs hn hz ac hL ert ht ho hv ?_)) (fun h => yo_662 hs hn hz ac hL ert ht ho hv ?_)
  · rw [hv (Or.inl h)] at z
    rw [dm_it h, show dm_ov a (dm_se w) = 0 from if_pos ((dm_ovf a _).mp z)] at q
    exact q
  · rw [hv (Or.inl h)] at z
    rw [dm_it h, show dm_ov a (dm_se w) = 2 from if_neg (fun y => z ((dm_ovf a _).mpr y))] at q
    exact q
  · rw [dm_in h] at q
    exact q
theorem yo_631 {w a : Int32} (hs : s < 2) (hn : n ≤ 32) (hz : f_size = nI n) (ac : dm_Acc a_words n) (hL : dm_LR a_words L n) (ert : dm_rt w = nI t) (ht : t < 64)
    (ho : dm_op w = 8 ∨ dm_op w = 9 ∨ dm_op w = 10 ∨ dm_op w = 12 ∨ dm_op w = 13 ∨ dm_op w = 15)
    (q : yo_P post L s t (dm_iv w a) (dm_if (dm_op w = 8) (dm_ov a (dm_se w)) 0) 0 (nI i + 1) f_p f_d f_size f_ready a_words a_cells a_items a_pcs a_stats a_faults a_dones a_ents) : wY_one_631 post (nI s) (64 * nI s) (dm_op w) (dm_se w) (dm_ze w) a (nI i + 1) (dm_rt w) 0 0 f_p f_d f_size f_ready a_words a_cells a_items a_pcs a_stats a_faults a_dones a_ents := by
  unfold wY_one_631
  exact nm_e (yo_638 hs hn hz ac hL ert ht ho (fun _ => rfl) q)
theorem yo_517 {w a b : Int32} (hs : s < 2) (hn : n ≤ 32) (hz : f_size = nI n) (ac : dm_Acc a_words n) (hL : dm_LR a_words L n) (hd : d ≤ 32) (hdc : f_d = nI d) (ert : dm_rt w = nI (dm_rtN w)) (ht : dm_rtN w < 64)
    (q : ∀ (t : Nat) (v stop why next k : Int32), dm_EVm f_d (dm_M a_cells s) w a b (nI i) = (t, v, stop, why, next, k) → yo_P post L s t v stop why next f_p f_d f_size f_ready a_words a_cells a_items a_pcs a_stats a_faults a_dones a_ents) :
    wY_one_517 post (nI s) (64 * nI s) (dm_op w) (dm_rt w) (dm_se w) a b (nI i + 1) 0 0 0 0 f_p f_d f_size f_ready a_words a_cells a_items a_pcs a_stats a_faults a_dones a_ents := by
  unfold wY_one_517
  refine nm_e (br_c (fun h3 => br_c (fun hg => ?_) (fun hg => br_c (fun hl => ?_) (fun hl => ?_))) (fun h3 => ?_))
  · unfold wY_one_557 wY_one_610
    exact yo_725 (t := 0) hs hn hz ac hL (by omega) rfl (q 0 0 4 (a + dm_se w) (nI i + 1) 0 (by unfold dm_EVm; rw [dm_it h3, dm_in (fun z => z.1 hg)]))
  · obtain ⟨y, hy, ey⟩ := dm_adr hd hdc hg hl
    have ex : ((64 * nI s) + 32) + (a + dm_se w) >>> ((2 : Int32) &&& 31) = ((nI s * 64) + 32) + (a + dm_se w) >>> ((2 : Int32) &&& 31) := by rw [dm_c64]
    refine br_c (fun h => And.intro ?_ (nm_r (e' := dm_M a_cells s ((a + dm_se w) >>> ((2 : Int32) &&& 31))) ?_ ?_)) (fun h => nm_r (e' := nI (32 + ((a + dm_se w) >>> ((2 : Int32) &&& 31)).toNatClampNeg)) ?_ ?_)
    · rw [ex, ey, show (32 : Int32) = nI 32 from rfl, dm_s64, nI_add]
      exact vp_in_nI (by omega) (by omega)
    · rw [ex]; rfl
    · unfold wY_one_610
      exact yo_725 hs hn hz ac hL ht ert (q _ _ _ _ _ _ (by unfold dm_EVm; rw [dm_it h3, dm_it (P := _ ∧ _) ⟨hg, hl⟩, dm_it h]))
    · rw [ey, nI_clamp (by omega), show (32 : Int32) = nI 32 from rfl, nI_add]
    · unfold wY_one_610
      refine yo_725 hs hn hz ac hL ?_ rfl (q _ _ _ _ _ _ (by unfold dm_EVm; rw [dm_it h3, dm_it (P := _ ∧ _) ⟨hg, hl⟩, dm_in h]))
      rw [ey, nI_clamp (by omega)]; omega
  · unfold wY_one_557 wY_one_610
    exact yo_725 (t := 0) hs hn hz ac hL (by omega) rfl (q 0 0 4 (a + dm_se w) (nI i + 1) 0 (by unfold dm_EVm; rw [dm_it h3, dm_in (fun z => hl z.2)]))
  · unfold wY_one_610
    exact yo_725 (t := 0) hs hn hz ac hL (by omega) rfl (q 0 0 3 (a + dm_se w) (nI i + 1) 0 (by unfold dm_EVm; rw [dm_in h3]))
theorem yo_9 (hs : s < 2) (hn : n ≤ 32) (hz : f_size = nI n) (ac : dm_Acc a_words n) (hL : dm_LR a_words L n) (hd : d ≤ 32) (hdc : f_d = nI d) (hi : i < n) (hpc : a_pcs s = nI i)
    (hp : ∀ (t : Nat) (v stop why next k : Int32), dm_E a_words L a_cells f_size f_d s i = (t, v, stop, why, next, k) → yo_P post L s t v stop why next f_p f_d f_size f_ready a_words a_cells a_items a_pcs a_stats a_faults a_dones a_ents) : wY_one_9 post (nI s) f_p f_d f_size f_ready a_words a_cells a_items a_pcs a_stats a_faults a_dones a_ents := by
  have c : (nI s).toNatClampNeg = s := nI_clamp (by omega)
  have vv : vp_in (nI s) 2 := vp_in_nI hs (by omega)
  have hr := dm_rsL (a_words i)
  have ht := dm_rtL (a_words i)
  have hrd := dm_rdL (a_words i)
  have erd := dm_rdE (a_words i)
  have ert := dm_rtE (a_words i)
  have i1 : (64 * nI s) + dm_rs (a_words i) = nI (s * 64 + dm_rsN (a_words i)) := by rw [dm_rsE, dm_c64, dm_s64]
  have i2 : (64 * nI s) + dm_rt (a_words i) = nI (s * 64 + dm_rtN (a_words i)) := by rw [dm_rtE, dm_c64, dm_s64]
  have aci := ac i hi
  have fin := fun {t : Nat} {t' v stop why next : Int32} (h : t < 64) (e : t' = nI t) (q : yo_P post L s t v stop why next f_p f_d f_size f_ready a_words a_cells a_items a_pcs a_stats a_faults a_dones a_ents) => yo_725 (t := t) (t' := t') hs hn hz ac hL h e q
  have hE : dm_E a_words L a_cells f_size f_d s i = dm_EV (dm_ok L f_size) f_d (dm_M a_cells s) (a_words i) (a_cells (s * 64 + dm_rsN (a_words i))) (a_cells (s * 64 + dm_rtN (a_words i))) (nI i) := rfl
  unfold wY_one_9
  rw [c]
  refine nm_e (And.intro vv (nm_r hpc (yr_source hn hz hi ?_)))
  rw [dm_rsY, dm_rtY, dm_rdY, dm_shY, dm_seY]
  refine nm_r (e' := dm_op (a_words i)) rfl (nm_e (nm_e (nm_e (nm_r (e' := dm_fn (a_words i)) rfl (nm_r (e' := dm_ze (a_words i)) rfl (And.intro ?_ (nm_r (e' := a_cells (s * 64 + dm_rsN (a_words i))) ?_ (And.intro ?_ (nm_r (e' := a_cells (s * 64 + dm_rtN (a_words i))) ?_ (nm_e ?_))))))))))
  · rw [i1]; exact vp_in_nI (by omega) (by omega)
  · rw [i1, nI_clamp (by omega)]
  · rw [i2]; exact vp_in_nI (by omega) (by omega)
  · rw [i2, nI_clamp (by omega)]
  generalize a_cells (s * 64 + dm_rsN (a_words i)) = a at hE ⊢
  generalize a_cells (s * 64 + dm_rtN (a_words i)) = b at hE ⊢
  generalize hw : a_words i = w at hE aci erd ert hrd ht ⊢
  by_cases h0 : dm_op w = 0
  · have hf : dm_AF (dm_fn w) := by
      rcases aci with ⟨_, h⟩ | ⟨h, _⟩ | h
      · exact h
      · exact absurd (h0.symm.trans h) (by decide)
      · unfold dm_AO at h; rw [h0] at h; exact absurd h (by decide)
    refine br_t h0 ?_
    have hE0 : dm_E a_words L a_cells f_size f_d s i = dm_EVs (dm_ok L f_size) w a b (nI i) := by rw [hE]; unfold dm_EV; rw [dm_it h0]
    rcases hf with hf | hf | hf | hf | hf | hf | hf | hf | hf | hf | hf | hf
    · rw [hf]
      refine br_t rfl (nm_e ?_)
      unfold wY_one_154
      refine br_f (by decide) ?_
      unfold wY_one_167
      refine br_f (by decide) ?_
      unfold wY_one_206
      refine br_f (by decide) ?_
      unfold wY_one_216
      refine br_f (by decide) (br_f (by decide) ?_)
      unfold wY_one_237
      refine br_f (by decide) ?_
      unfold wY_one_261
      refine br_f (by decide) ?_
      unfold wY_one_275
      refine br_f (by decide) ?_
      unfold wY_one_289
      refine br_f (by decide) ?_
      unfold wY_one_303
      refine br_f (by decide) ?_
      unfold wY_one_317
      refine br_f (by decide) ?_
      unfold wY_one_338
      refine br_f (by decide) ?_
      refine fin (by omega) erd (hp (dm_rdN w) (b <<< (dm_sh w &&& 31)) 0 0 (nI i + 1) 0 ?_)
      have hv : dm_rv w a b = b <<< (dm_sh w &&& 31) := by unfold dm_rv; rw [if_pos hf]
      rw [hE0]; unfold dm_EVs; rw [dm_in (by rw [hf]; decide), dm_in (by rw [hf]; decide), dm_in (by rw [hf]; decide), hv]
    · rw [hf]
      refine br_f (by decide) ?_
      unfold wY_one_154
      refine br_t rfl (nm_e ?_)
      unfold wY_one_167
      refine br_f (by decide) ?_
      unfold wY_one_206
      refine br_f (by decide) ?_
      unfold wY_one_216
      refine br_f (by decide) (br_f (by decide) ?_)
      unfold wY_one_237
      refine br_f (by decide) ?_
      unfold wY_one_261
      refine br_f (by decide) ?_
      unfold wY_one_275
      refine br_f (by decide) ?_
      unfold wY_one_289
      refine br_f (by decide) ?_
      unfold wY_one_303
      refine br_f (by decide) ?_
      unfold wY_one_317
      refine br_f (by decide) ?_
      unfold wY_one_338
      refine br_f (by decide) ?_
      refine fin (by omega) erd (hp (dm_rdN w) ((b.toUInt32 >>> ((dm_sh w).toUInt32 &&& Int32.toUInt32 31)).toInt32) 0 0 (nI i + 1) 0 ?_)
      have hv : dm_rv w a b = (b.toUInt32 >>> ((dm_sh w).toUInt32 &&& Int32.toUInt32 31)).toInt32 := by unfold dm_rv; rw [if_neg (by rw [hf]; decide), if_pos hf]
      rw [hE0]; unfold dm_EVs; rw [dm_in (by rw [hf]; decide), dm_in (by rw [hf]; decide), dm_in (by rw [hf]; decide), hv]
    · rw [hf]
      refine br_f (by decide) ?_
      unfold wY_one_154; refine br_f (by decide) ?_
      unfold wY_one_167; refine br_t rfl (nm_e ?_)
      have bad : ¬ ((a &&& 3) = 0 ∧ dm_ok L f_size (a >>> ((2 : Int32) &&& 31))) → wY_one_199 post (nI s) (64 * nI s) 8 a b (a >>> ((2 : Int32) &&& 31)) 0 0 f_p f_d f_size f_ready a_words a_cells a_items a_pcs a_stats a_faults a_dones a_ents := by
        intro hb
        unfold wY_one_199
        unfold wY_one_206; refine br_f (by decide) ?_
        unfold wY_one_216; refine br_f (by decide) (br_f (by decide) ?_)
        unfold wY_one_237; refine br_f (by decide) ?_
        unfold wY_one_261; refine br_f (by decide) ?_
        unfold wY_one_275; refine br_f (by decide) ?_
        unfold wY_one_289; refine br_f (by decide) ?_
        unfold wY_one_303; refine br_f (by decide) ?_
        unfold wY_one_317; refine br_f (by decide) ?_
        unfold wY_one_338; refine br_f (by decide) ?_
        refine fin (t := 0) (by omega) rfl (yo_trap (by decide) (hp 0 0 5 a (nI i + 1) 0 ?_))
        rw [hE0]; unfold dm_EVs; rw [dm_it hf, dm_in hb]
      refine br_c (fun h3 => yr_isEntry hn hz ac hL (dm_bc (fun hk => bad (fun q => hk q.2)) (fun hk => ?_))) (fun h3 => bad (fun q => h3 q.1))
      unfold wY_one_206; refine br_f (by decide) ?_
      unfold wY_one_216; refine br_f (by decide) (br_f (by decide) ?_)
      unfold wY_one_237; refine br_f (by decide) ?_
      unfold wY_one_261; refine br_f (by decide) ?_
      unfold wY_one_275; refine br_f (by decide) ?_
      unfold wY_one_289; refine br_f (by decide) ?_
      unfold wY_one_303; refine br_f (by decide) ?_
      unfold wY_one_317; refine br_f (by decide) ?_
      unfold wY_one_338; refine br_f (by decide) ?_
      refine fin (t := 0) (by omega) rfl (hp 0 0 0 0 (a >>> ((2 : Int32) &&& 31)) 1 ?_)
      rw [hE0]; unfold dm_EVs; rw [dm_it hf, dm_it ⟨h3, hk⟩]
    · rw [hf]
      refine br_f (by decide) ?_
      unfold wY_one_154
      refine br_f (by decide) ?_
      unfold wY_one_167
      refine br_f (by decide) ?_
      unfold wY_one_206
      refine br_t rfl ?_
      unfold wY_one_216
      refine br_f (by decide) (br_f (by decide) ?_)
      unfold wY_one_237
      refine br_f (by decide) ?_
      unfold wY_one_261
      refine br_f (by decide) ?_
      unfold wY_one_275
      refine br_f (by decide) ?_
      unfold wY_one_289
      refine br_f (by decide) ?_
      unfold wY_one_303
      refine br_f (by decide) ?_
      unfold wY_one_317
      refine br_f (by decide) ?_
      unfold wY_one_338
      refine br_f (by decide) ?_
      refine fin (by omega) erd (yo_trap (by decide) (hp 0 0 1 0 (nI i + 1) 0 ?_))
      rw [hE0]; unfold dm_EVs; rw [dm_in (by rw [hf]; decide), dm_it hf]
    · rw [hf]
      refine br_f (by decide) ?_
      unfold wY_one_154
      refine br_f (by decide) ?_
      unfold wY_one_167
      refine br_f (by decide) ?_
      unfold wY_one_206
      refine br_f (by decide) ?_
      unfold wY_one_216
      refine br_t rfl ?_
      unfold wY_one_230; refine nm_e ?_
      unfold wY_one_237
      have key : ∀ sp : Int32, (sp = dm_ov a b) → wY_one_261 post (nI s) (64 * nI s) 32 a b (nI i + 1) (dm_rd w) (a + b) sp 0 f_p f_d f_size f_ready a_words a_cells a_items a_pcs a_stats a_faults a_dones a_ents := by
        intro sp esp
        unfold wY_one_261; refine br_f (by decide) ?_
        unfold wY_one_275; refine br_f (by decide) ?_
        unfold wY_one_289; refine br_f (by decide) ?_
        unfold wY_one_303; refine br_f (by decide) ?_
        unfold wY_one_317; refine br_f (by decide) ?_
        unfold wY_one_338; refine br_f (by decide) ?_
        refine fin (by omega) erd (hp (dm_rdN w) (a + b) sp 0 (nI i + 1) 0 ?_)
        rw [hE0, esp]; unfold dm_EVs; rw [dm_in (by rw [hf]; decide), dm_in (by rw [hf]; decide), dm_it hf]
      refine br_t rfl (br_c (fun h => key 0 ?_) (fun h => key 2 ?_))
      · unfold dm_ov; rw [if_pos ((dm_ovf a b).mp h)]
      · unfold dm_ov; rw [if_neg (fun q => h ((dm_ovf a b).mpr q))]
    · rw [hf]
      refine br_f (by decide) ?_
      unfold wY_one_154
      refine br_f (by decide) ?_
      unfold wY_one_167
      refine br_f (by decide) ?_
      unfold wY_one_206
      refine br_f (by decide) ?_
      unfold wY_one_216
      refine br_f (by decide) (br_t rfl ?_)
      unfold wY_one_230; refine nm_e ?_
      unfold wY_one_237
      refine br_f (by decide) ?_
      unfold wY_one_261
      refine br_f (by decide) ?_
      unfold wY_one_275
      refine br_f (by decide) ?_
      unfold wY_one_289
      refine br_f (by decide) ?_
      unfold wY_one_303
      refine br_f (by decide) ?_
      unfold wY_one_317
      refine br_f (by decide) ?_
      unfold wY_one_338
      refine br_f (by decide) ?_
      refine fin (by omega) erd (hp (dm_rdN w) (a + b) 0 0 (nI i + 1) 0 ?_)
      have hv : dm_rv w a b = a + b := by unfold dm_rv; rw [if_neg (by rw [hf]; decide), if_neg (by rw [hf]; decide), if_pos hf]
      rw [hE0]; unfold dm_EVs; rw [dm_in (by rw [hf]; decide), dm_in (by rw [hf]; decide), dm_in (by rw [hf]; decide), hv]
    · rw [hf]
      refine br_f (by decide) ?_
      unfold wY_one_154
      refine br_f (by decide) ?_
      unfold wY_one_167
      refine br_f (by decide) ?_
      unfold wY_one_206
      refine br_f (by decide) ?_
      unfold wY_one_216
      refine br_f (by decide) (br_f (by decide) ?_)
      unfold wY_one_237
      refine br_f (by decide) ?_
      unfold wY_one_261
      refine br_t rfl (nm_e ?_)
      unfold wY_one_275
      refine br_f (by decide) ?_
      unfold wY_one_289
      refine br_f (by decide) ?_
      unfold wY_one_303
      refine br_f (by decide) ?_
      unfold wY_one_317
      refine br_f (by decide) ?_
      unfold wY_one_338
      refine br_f (by decide) ?_
      refine fin (by omega) erd (hp (dm_rdN w) (a - b) 0 0 (nI i + 1) 0 ?_)
      have hv : dm_rv w a b = a - b := by unfold dm_rv; rw [if_neg (by rw [hf]; decide), if_neg (by rw [hf]; decide), if_neg (by rw [hf]; decide), if_pos hf]
      rw [hE0]; unfold dm_EVs; rw [dm_in (by rw [hf]; decide), dm_in (by rw [hf]; decide), dm_in (by rw [hf]; decide), hv]
    · rw [hf]
      refine br_f (by decide) ?_
      unfold wY_one_154
      refine br_f (by decide) ?_
      unfold wY_one_167
      refine br_f (by decide) ?_
      unfold wY_one_206
      refine br_f (by decide) ?_
      unfold wY_one_216
      refine br_f (by decide) (br_f (by decide) ?_)
      unfold wY_one_237
      refine br_f (by decide) ?_
      unfold wY_one_261
      refine br_f (by decide) ?_
      unfold wY_one_275
      refine br_t rfl (nm_e ?_)
      unfold wY_one_289
      refine br_f (by decide) ?_
      unfold wY_one_303
      refine br_f (by decide) ?_
      unfold wY_one_317
      refine br_f (by decide) ?_
      unfold wY_one_338
      refine br_f (by decide) ?_
      refine fin (by omega) erd (hp (dm_rdN w) (a &&& b) 0 0 (nI i + 1) 0 ?_)
      have hv : dm_rv w a b = a &&& b := by unfold dm_rv; rw [if_neg (by rw [hf]; decide), if_neg (by rw [hf]; decide), if_neg (by rw [hf]; decide), if_neg (by rw [hf]; decide), if_pos hf]
      rw [hE0]; unfold dm_EVs; rw [dm_in (by rw [hf]; decide), dm_in (by rw [hf]; decide), dm_in (by rw [hf]; decide), hv]
    · rw [hf]
      refine br_f (by decide) ?_
      unfold wY_one_154
      refine br_f (by decide) ?_
      unfold wY_one_167
      refine br_f (by decide) ?_
      unfold wY_one_206
      refine br_f (by decide) ?_
      unfold wY_one_216
      refine br_f (by decide) (br_f (by decide) ?_)
      unfold wY_one_237
      refine br_f (by decide) ?_
      unfold wY_one_261
      refine br_f (by decide) ?_
      unfold wY_one_275
      refine br_f (by decide) ?_
      unfold wY_one_289
      refine br_t rfl (nm_e ?_)
      unfold wY_one_303
      refine br_f (by decide) ?_
      unfold wY_one_317
      refine br_f (by decide) ?_
      unfold wY_one_338
      refine br_f (by decide) ?_
      refine fin (by omega) erd (hp (dm_rdN w) (a ||| b) 0 0 (nI i + 1) 0 ?_)
      have hv : dm_rv w a b = a ||| b := by unfold dm_rv; rw [if_neg (by rw [hf]; decide), if_neg (by rw [hf]; decide), if_neg (by rw [hf]; decide), if_neg (by rw [hf]; decide), if_neg (by rw [hf]; decide), if_pos hf]
      rw [hE0]; unfold dm_EVs; rw [dm_in (by rw [hf]; decide), dm_in (by rw [hf]; decide), dm_in (by rw [hf]; decide), hv]
    · rw [hf]
      refine br_f (by decide) ?_
      unfold wY_one_154
      refine br_f (by decide) ?_
      unfold wY_one_167
      refine br_f (by decide) ?_
      unfold wY_one_206
      refine br_f (by decide) ?_
      unfold wY_one_216
      refine br_f (by decide) (br_f (by decide) ?_)
      unfold wY_one_237
      refine br_f (by decide) ?_
      unfold wY_one_261
      refine br_f (by decide) ?_
      unfold wY_one_275
      refine br_f (by decide) ?_
      unfold wY_one_289
      refine br_f (by decide) ?_
      unfold wY_one_303
      refine br_t rfl (nm_e ?_)
      unfold wY_one_317
      refine br_f (by decide) ?_
      unfold wY_one_338
      refine br_f (by decide) ?_
      refine fin (by omega) erd (hp (dm_rdN w) (a ^^^ b) 0 0 (nI i + 1) 0 ?_)
      have hv : dm_rv w a b = a ^^^ b := by unfold dm_rv; rw [if_neg (by rw [hf]; decide), if_neg (by rw [hf]; decide), if_neg (by rw [hf]; decide), if_neg (by rw [hf]; decide), if_neg (by rw [hf]; decide), if_neg (by rw [hf]; decide), if_pos hf]
      rw [hE0]; unfold dm_EVs; rw [dm_in (by rw [hf]; decide), dm_in (by rw [hf]; decide), dm_in (by rw [hf]; decide), hv]
    · rw [hf]
      refine br_f (by decide) ?_
      unfold wY_one_154
      refine br_f (by decide) ?_
      unfold wY_one_167
      refine br_f (by decide) ?_
      unfold wY_one_206
      refine br_f (by decide) ?_
      unfold wY_one_216
      refine br_f (by decide) (br_f (by decide) ?_)
      unfold wY_one_237
      refine br_f (by decide) ?_
      unfold wY_one_261
      refine br_f (by decide) ?_
      unfold wY_one_275
      refine br_f (by decide) ?_
      unfold wY_one_289
      refine br_f (by decide) ?_
      unfold wY_one_303
      refine br_f (by decide) ?_
      unfold wY_one_317
      have key : ∀ z : Int32, (z = dm_rv w a b) → wY_one_336 post (nI s) (64 * nI s) 42 a b (nI i + 1) (dm_rd w) 0 0 z f_p f_d f_size f_ready a_words a_cells a_items a_pcs a_stats a_faults a_dones a_ents := by
        intro z ez
        unfold wY_one_336 wY_one_338; refine br_f (by decide) ?_
        refine fin (by omega) erd (hp (dm_rdN w) z 0 0 (nI i + 1) 0 ?_)
        rw [hE0, ez]; unfold dm_EVs; rw [dm_in (by rw [hf]; decide), dm_in (by rw [hf]; decide), dm_in (by rw [hf]; decide)]
      refine br_t rfl (br_c (fun h => key 0 ?_) (fun h => key 1 ?_))
      · unfold dm_rv; rw [if_neg (by rw [hf]; decide), if_neg (by rw [hf]; decide), if_neg (by rw [hf]; decide), if_neg (by rw [hf]; decide), if_neg (by rw [hf]; decide), if_neg (by rw [hf]; decide), if_neg (by rw [hf]; decide), if_pos hf, if_pos h]
      · unfold dm_rv; rw [if_neg (by rw [hf]; decide), if_neg (by rw [hf]; decide), if_neg (by rw [hf]; decide), if_neg (by rw [hf]; decide), if_neg (by rw [hf]; decide), if_neg (by rw [hf]; decide), if_neg (by rw [hf]; decide), if_pos hf, if_neg h]
    · rw [hf]
      refine br_f (by decide) ?_
      unfold wY_one_154
      refine br_f (by decide) ?_
      unfold wY_one_167
      refine br_f (by decide) ?_
      unfold wY_one_206
      refine br_f (by decide) ?_
      unfold wY_one_216
      refine br_f (by decide) (br_f (by decide) ?_)
      unfold wY_one_237
      refine br_f (by decide) ?_
      unfold wY_one_261
      refine br_f (by decide) ?_
      unfold wY_one_275
      refine br_f (by decide) ?_
      unfold wY_one_289
      refine br_f (by decide) ?_
      unfold wY_one_303
      refine br_f (by decide) ?_
      unfold wY_one_317
      refine br_f (by decide) ?_
      unfold wY_one_338
      have key : ∀ z : Int32, (z = dm_rv w a b) → wY_one_368 post (nI s) (64 * nI s) (nI i + 1) (dm_rd w) 0 0 z f_p f_d f_size f_ready a_words a_cells a_items a_pcs a_stats a_faults a_dones a_ents := by
        intro z ez
        unfold wY_one_368
        refine fin (by omega) erd (hp (dm_rdN w) z 0 0 (nI i + 1) 0 ?_)
        rw [hE0, ez]; unfold dm_EVs; rw [dm_in (by rw [hf]; decide), dm_in (by rw [hf]; decide), dm_in (by rw [hf]; decide)]
      refine br_t rfl (br_c (fun h => key 0 ?_) (fun h => key 1 ?_))
      · unfold dm_rv; rw [if_neg (by rw [hf]; decide), if_neg (by rw [hf]; decide), if_neg (by rw [hf]; decide), if_neg (by rw [hf]; decide), if_neg (by rw [hf]; decide), if_neg (by rw [hf]; decide), if_neg (by rw [hf]; decide), if_neg (by rw [hf]; decide), if_pos ((dm_ult a b).mp h)]
      · unfold dm_rv; rw [if_neg (by rw [hf]; decide), if_neg (by rw [hf]; decide), if_neg (by rw [hf]; decide), if_neg (by rw [hf]; decide), if_neg (by rw [hf]; decide), if_neg (by rw [hf]; decide), if_neg (by rw [hf]; decide), if_neg (by rw [hf]; decide), if_neg (fun q => h ((dm_ult a b).mpr q))]
  by_cases ht : dm_HT w
  · have h5 := ((dm_ht5 aci).mp ht).2
    have q := hp _ _ _ _ _ _ (show dm_E a_words L a_cells f_size f_d s i = (dm_if (dm_LK w) 31 0, dm_if (dm_LK w) (4 * (nI i + 1)) 0, 0, 0, dm_if (dm_CD w a b) (dm_tg w (nI i)) (nI i + 1), dm_b (dm_CD w a b)) by rw [hE]; unfold dm_EV; rw [dm_in h0, dm_in ht.2]; rfl)
    have T : dm_CD w a b → wY_one_449 post (nI s) (64 * nI s) (nI i) (dm_op w) (dm_rt w) (nI i + 1) 0 0 0 0 f_p f_d f_size f_ready a_words a_cells a_items a_pcs a_stats a_faults a_dones a_ents := fun h => yo_449 hs hn hz ac hL hi hw (by rw [dm_it h] at q; exact q)
    have N : ¬ dm_CD w a b → wY_one_453 post (nI s) (64 * nI s) (nI i) (dm_op w) (dm_rt w) (nI i + 1) 0 0 0 0 f_p f_d f_size f_ready a_words a_cells a_items a_pcs a_stats a_faults a_dones a_ents := fun h => yo_453 hs hn hz ac hL (by rw [dm_in h] at q; exact q)
    refine br_f h0 (br_f h5 (br_c (fun h2 => T (Or.inr (Or.inl h2))) (fun h2 => br_c (fun h3 => T (Or.inr (Or.inr (Or.inl h3)))) (fun h3 => br_c (fun h4 => br_c (fun he => T (Or.inr (Or.inr (Or.inr (Or.inl ⟨h4, he⟩))))) (fun he => yo_404 T N h2 h3 (fun z => he z.2))) (fun h4 => yo_404 T N h2 h3 (fun z => h4 z.1))))))
  rcases aci with ⟨h, _⟩ | ⟨h, _⟩ | hf
  · exact absurd h h0
  · exact absurd ⟨by rw [h]; decide, by rw [h]; decide⟩ ht
  rcases hf with hf | hf | hf | hf | hf | hf | hf | hf | hf | hf | hf | hf
  · exact absurd ⟨by rw [hf]; decide, by rw [hf]; decide⟩ ht
  · exact absurd ⟨by rw [hf]; decide, by rw [hf]; decide⟩ ht
  · exact absurd ⟨by rw [hf]; decide, by rw [hf]; decide⟩ ht
  · exact absurd ⟨by rw [hf]; decide, by rw [hf]; decide⟩ ht
  · have q := hp _ _ _ _ _ _ (show dm_E a_words L a_cells f_size f_d s i = (dm_rtN w, dm_iv w a, dm_if (dm_op w = 8) (dm_ov a (dm_se w)) 0, 0, nI i + 1, 0) by rw [hE]; unfold dm_EV; rw [dm_in h0, dm_it (by rw [hf]; decide), dm_in (by rw [hf]; decide)]; rfl)
    exact br_f h0 (br_t (by rw [hf]; decide) (br_f (by rw [hf]; decide) (br_f (by rw [hf]; decide) (br_t hf (yo_631 hs hn hz ac hL ert (by omega) (Or.inl hf) q)))))
  · have q := hp _ _ _ _ _ _ (show dm_E a_words L a_cells f_size f_d s i = (dm_rtN w, dm_iv w a, dm_if (dm_op w = 8) (dm_ov a (dm_se w)) 0, 0, nI i + 1, 0) by rw [hE]; unfold dm_EV; rw [dm_in h0, dm_it (by rw [hf]; decide), dm_in (by rw [hf]; decide)]; rfl)
    exact br_f h0 (br_t (by rw [hf]; decide) (br_f (by rw [hf]; decide) (br_f (by rw [hf]; decide) (br_f (by rw [hf]; decide) (br_t hf (yo_631 hs hn hz ac hL ert (by omega) (Or.inr (Or.inl hf)) q))))))
  · have q := hp _ _ _ _ _ _ (show dm_E a_words L a_cells f_size f_d s i = (dm_rtN w, dm_iv w a, dm_if (dm_op w = 8) (dm_ov a (dm_se w)) 0, 0, nI i + 1, 0) by rw [hE]; unfold dm_EV; rw [dm_in h0, dm_it (by rw [hf]; decide), dm_in (by rw [hf]; decide)]; rfl)
    exact br_f h0 (br_t (by rw [hf]; decide) (br_f (by rw [hf]; decide) (br_f (by rw [hf]; decide) (br_f (by rw [hf]; decide) (br_f (by rw [hf]; decide) (yo_638 hs hn hz ac hL ert (by omega) (Or.inr (Or.inr (Or.inl hf))) (fun z => z.elim (fun z => absurd (hf.symm.trans z) (by decide)) (fun z => absurd (hf.symm.trans z) (by decide))) q))))))
  · have q := hp _ _ _ _ _ _ (show dm_E a_words L a_cells f_size f_d s i = (dm_rtN w, dm_iv w a, dm_if (dm_op w = 8) (dm_ov a (dm_se w)) 0, 0, nI i + 1, 0) by rw [hE]; unfold dm_EV; rw [dm_in h0, dm_it (by rw [hf]; decide), dm_in (by rw [hf]; decide)]; rfl)
    exact br_f h0 (br_t (by rw [hf]; decide) (br_f (by rw [hf]; decide) (br_f (by rw [hf]; decide) (br_f (by rw [hf]; decide) (br_f (by rw [hf]; decide) (yo_638 hs hn hz ac hL ert (by omega) (Or.inr (Or.inr (Or.inr (Or.inl hf)))) (fun z => z.elim (fun z => absurd (hf.symm.trans z) (by decide)) (fun z => absurd (hf.symm.trans z) (by decide))) q))))))
  · have q := hp _ _ _ _ _ _ (show dm_E a_words L a_cells f_size f_d s i = (dm_rtN w, dm_iv w a, dm_if (dm_op w = 8) (dm_ov a (dm_se w)) 0, 0, nI i + 1, 0) by rw [hE]; unfold dm_EV; rw [dm_in h0, dm_it (by rw [hf]; decide), dm_in (by rw [hf]; decide)]; rfl)
    exact br_f h0 (br_t (by rw [hf]; decide) (br_f (by rw [hf]; decide) (br_f (by rw [hf]; decide) (br_f (by rw [hf]; decide) (br_f (by rw [hf]; decide) (yo_638 hs hn hz ac hL ert (by omega) (Or.inr (Or.inr (Or.inr (Or.inr (Or.inl hf))))) (fun z => z.elim (fun z => absurd (hf.symm.trans z) (by decide)) (fun z => absurd (hf.symm.trans z) (by decide))) q))))))
  · have q := hp _ _ _ _ _ _ (show dm_E a_words L a_cells f_size f_d s i = (dm_rtN w, dm_iv w a, dm_if (dm_op w = 8) (dm_ov a (dm_se w)) 0, 0, nI i + 1, 0) by rw [hE]; unfold dm_EV; rw [dm_in h0, dm_it (by rw [hf]; decide), dm_in (by rw [hf]; decide)]; rfl)
    exact br_f h0 (br_t (by rw [hf]; decide) (br_f (by rw [hf]; decide) (br_f (by rw [hf]; decide) (br_f (by rw [hf]; decide) (br_f (by rw [hf]; decide) (yo_638 hs hn hz ac hL ert (by omega) (Or.inr (Or.inr (Or.inr (Or.inr (Or.inr (hf)))))) (fun z => z.elim (fun z => absurd (hf.symm.trans z) (by decide)) (fun z => absurd (hf.symm.trans z) (by decide))) q))))))
  · have q : ∀ (t : Nat) (v stop why next k : Int32), dm_EVm f_d (dm_M a_cells s) w a b (nI i) = (t, v, stop, why, next, k) → yo_P post L s t v stop why next f_p f_d f_size f_ready a_words a_cells a_items a_pcs a_stats a_faults a_dones a_ents := fun t v stop why next k e => hp t v stop why next k (by rw [hE]; unfold dm_EV; rw [dm_in h0, dm_it (by rw [hf]; decide), dm_it (by rw [hf]; decide)]; exact e)
    exact br_f h0 (br_t (by rw [hf]; decide) (br_t hf (yo_517 hs hn hz ac hL hd hdc ert (by omega) q)))
  · have q : ∀ (t : Nat) (v stop why next k : Int32), dm_EVm f_d (dm_M a_cells s) w a b (nI i) = (t, v, stop, why, next, k) → yo_P post L s t v stop why next f_p f_d f_size f_ready a_words a_cells a_items a_pcs a_stats a_faults a_dones a_ents := fun t v stop why next k e => hp t v stop why next k (by rw [hE]; unfold dm_EV; rw [dm_in h0, dm_it (by rw [hf]; decide), dm_it (by rw [hf]; decide)]; exact e)
    exact br_f h0 (br_t (by rw [hf]; decide) (br_f (by rw [hf]; decide) (br_t hf (yo_517 hs hn hz ac hL hd hdc ert (by omega) q))))
theorem yo_one (hs : s < 2) (hn : n ≤ 32) (hz : f_size = nI n) (ac : dm_Acc a_words n) (hL : dm_LR a_words L n) (hd : d ≤ 32) (hdc : f_d = nI d) (hi : i < n) (hpc : a_pcs s = nI i)
    (hp : ∀ (t : Nat) (v stop why next k : Int32), dm_E a_words L a_cells f_size f_d s i = (t, v, stop, why, next, k) → yo_P post L s t v stop why next f_p f_d f_size f_ready a_words a_cells a_items a_pcs a_stats a_faults a_dones a_ents) : wpY_one post (f_p, f_d, f_size, f_ready, a_words, a_cells, a_items, a_pcs, a_stats, a_faults, a_dones, a_ents) (nI s) := by
  unfold wpY_one
  rcases (show s = 0 ∨ s = 1 by omega) with rfl | rfl
  · exact br_t rfl (yo_9 hs hn hz ac hL hd hdc hi hpc hp)
  · exact br_f (by decide) (yo_9 hs hn hz ac hL hd hdc hi hpc hp)
end YO
end
section
/-! the component's and the reference's small storing methods -/
theorem dm_uu {f : Nat → Int32} {k : Nat} {x y : Int32} : upd (upd f k x) k y = upd f k y := by
  funext j
  unfold upd
  by_cases h : j = k
  · rw [if_pos h, if_pos h]
  · rw [if_neg h, if_neg h, if_neg h]
def dm_z (C : Nat → Int32) (m : Nat) : Nat → Int32 := fun j => if j < m then 0 else C j
theorem dm_z0 (C : Nat → Int32) : dm_z C 0 = C := by
  funext j; unfold dm_z; rw [if_neg (by omega)]
theorem dm_zs (C : Nat → Int32) (m : Nat) : upd (dm_z C m) m 0 = dm_z C (m + 1) := by
  funext j
  unfold upd dm_z
  by_cases h : j = m
  · rw [if_pos h, if_pos (by omega)]
  · rw [if_neg h]
    by_cases h2 : j < m
    · rw [if_pos h2, if_pos (by omega)]
    · rw [if_neg h2, if_neg (by omega)]
section XS
variable {f_maxWords f_dataCount f_size f_ready f_codeSize f_shadow f_resReg f_resValue f_resTrap f_resFault f_resNext f_resTaken f_npc f_slotOf f_slotTo f_flightReg f_flightValue : Int32} {a_words a_leader a_moved a_early a_home a_code a_jump a_blockAt a_copied a_cells a_traces a_pcs a_states a_faults a_dones a_entryCounts : Nat → Int32}
variable {post : SX → Prop} {s j n : Nat}
theorem xs_write {v : Int32} (hs : s < 2) (hj : j < 64) (hp : post (f_maxWords, f_dataCount, f_size, f_ready, f_codeSize, f_shadow, f_resReg, f_resValue, f_resTrap, f_resFault, f_resNext, f_resTaken, f_npc, f_slotOf, f_slotTo, f_flightReg, f_flightValue, a_words, a_leader, a_moved, a_early, a_home, a_code, a_jump, a_blockAt, a_copied, dm_wr a_cells s j v, a_traces, a_pcs, a_states, a_faults, a_dones, a_entryCounts)) : wpX_write post (f_maxWords, f_dataCount, f_size, f_ready, f_codeSize, f_shadow, f_resReg, f_resValue, f_resTrap, f_resFault, f_resNext, f_resTaken, f_npc, f_slotOf, f_slotTo, f_flightReg, f_flightValue, a_words, a_leader, a_moved, a_early, a_home, a_code, a_jump, a_blockAt, a_copied, a_cells, a_traces, a_pcs, a_states, a_faults, a_dones, a_entryCounts) (nI s) (nI j) v := by
  unfold wpX_write
  unfold dm_wr at hp
  refine br_c (fun h => ?_) (fun h => ?_)
  · have e : j = 0 := (nI_eq (by omega) (by omega)).mp h
    rw [if_pos e] at hp
    exact hp
  · have e : ¬ j = 0 := fun q => h (by rw [q]; rfl)
    rw [if_neg e] at hp
    rw [dm_s64, nI_clamp (by omega)]
    exact And.intro (vp_in_nI (by omega) (by omega)) (nm_e hp)
theorem xs_resume (hs : s < 2) (hp : post (f_maxWords, f_dataCount, f_size, f_ready, f_codeSize, f_shadow, f_resReg, f_resValue, f_resTrap, f_resFault, f_resNext, f_resTaken, f_npc, f_slotOf, f_slotTo, f_flightReg, f_flightValue, a_words, a_leader, a_moved, a_early, a_home, a_code, a_jump, a_blockAt, a_copied, a_cells, a_traces, a_pcs, upd a_states s 0, upd a_faults s 0, a_dones, a_entryCounts)) : wpX_resume post (f_maxWords, f_dataCount, f_size, f_ready, f_codeSize, f_shadow, f_resReg, f_resValue, f_resTrap, f_resFault, f_resNext, f_resTaken, f_npc, f_slotOf, f_slotTo, f_flightReg, f_flightValue, a_words, a_leader, a_moved, a_early, a_home, a_code, a_jump, a_blockAt, a_copied, a_cells, a_traces, a_pcs, a_states, a_faults, a_dones, a_entryCounts) (nI s) := by
  have c : (nI s).toNatClampNeg = s := nI_clamp (by omega)
  have v : vp_in (nI s) 2 := vp_in_nI hs (by omega)
  unfold wpX_resume
  rw [c]
  exact And.intro v (nm_e (And.intro v (nm_e hp)))
theorem xs_enter29 {x : Int32} (hs : s < 2) (hp : post (f_maxWords, f_dataCount, f_size, f_ready, f_codeSize, f_shadow, f_resReg, f_resValue, f_resTrap, f_resFault, f_resNext, f_resTaken, f_npc, f_slotOf, f_slotTo, f_flightReg, f_flightValue, a_words, a_leader, a_moved, a_early, a_home, a_code, a_jump, a_blockAt, a_copied, a_cells, a_traces, upd a_pcs s x, a_states, a_faults, a_dones, upd a_entryCounts s (a_entryCounts s + 1))) : wX_enter_29 post (nI s) x (a_entryCounts s) f_maxWords f_dataCount f_size f_ready f_codeSize f_shadow f_resReg f_resValue f_resTrap f_resFault f_resNext f_resTaken f_npc f_slotOf f_slotTo f_flightReg f_flightValue a_words a_leader a_moved a_early a_home a_code a_jump a_blockAt a_copied a_cells a_traces a_pcs a_states a_faults a_dones a_entryCounts := by
  have c : (nI s).toNatClampNeg = s := nI_clamp (by omega)
  have v : vp_in (nI s) 2 := vp_in_nI hs (by omega)
  unfold wX_enter_29
  rw [c]
  exact And.intro v (nm_e (And.intro v (nm_e hp)))
theorem xs_enter {x : Int32} (hs : s < 2) (hp : post (f_maxWords, f_dataCount, f_size, f_ready, f_codeSize, f_shadow, f_resReg, f_resValue, f_resTrap, f_resFault, f_resNext, f_resTaken, f_npc, f_slotOf, f_slotTo, f_flightReg, f_flightValue, a_words, a_leader, a_moved, a_early, a_home, a_code, a_jump, a_blockAt, a_copied, a_cells, dm_tr a_traces (a_entryCounts s) s x, upd a_pcs s x, a_states, a_faults, a_dones, upd a_entryCounts s (a_entryCounts s + 1))) : wpX_enter post (f_maxWords, f_dataCount, f_size, f_ready, f_codeSize, f_shadow, f_resReg, f_resValue, f_resTrap, f_resFault, f_resNext, f_resTaken, f_npc, f_slotOf, f_slotTo, f_flightReg, f_flightValue, a_words, a_leader, a_moved, a_early, a_home, a_code, a_jump, a_blockAt, a_copied, a_cells, a_traces, a_pcs, a_states, a_faults, a_dones, a_entryCounts) (nI s) x := by
  have c : (nI s).toNatClampNeg = s := nI_clamp (by omega)
  have v : vp_in (nI s) 2 := vp_in_nI hs (by omega)
  unfold wpX_enter
  rw [c]
  refine And.intro v (nm_e (br_c (fun h => ?_) (fun h => br_c (fun h2 => ?_) (fun h2 => ?_))))
  · rw [show dm_tr a_traces (a_entryCounts s) s x = a_traces from if_pos h] at hp
    exact xs_enter29 hs hp
  · rw [show dm_tr a_traces (a_entryCounts s) s x = a_traces from (if_neg h).trans (if_pos h2)] at hp
    exact xs_enter29 hs hp
  · rw [show dm_tr a_traces (a_entryCounts s) s x = upd a_traces (s * 32 + (a_entryCounts s).toNatClampNeg) x from (if_neg h).trans (if_neg h2)] at hp
    rw [(dm_32i h h2 hs).1]
    exact And.intro (dm_32i h h2 hs).2 (nm_e (xs_enter29 hs hp))
theorem xs_stop {x : Int32} (hs : s < 2) (hp : post (f_maxWords, f_dataCount, f_size, f_ready, f_codeSize, f_shadow, f_resReg, f_resValue, f_resTrap, f_resFault, f_resNext, f_resTaken, f_npc, f_slotOf, f_slotTo, f_flightReg, f_flightValue, a_words, a_leader, a_moved, a_early, a_home, a_code, a_jump, a_blockAt, a_copied, a_cells, a_traces, upd a_pcs s x, upd a_states s f_resTrap, upd a_faults s f_resFault, a_dones, a_entryCounts)) : wpX_stop post (f_maxWords, f_dataCount, f_size, f_ready, f_codeSize, f_shadow, f_resReg, f_resValue, f_resTrap, f_resFault, f_resNext, f_resTaken, f_npc, f_slotOf, f_slotTo, f_flightReg, f_flightValue, a_words, a_leader, a_moved, a_early, a_home, a_code, a_jump, a_blockAt, a_copied, a_cells, a_traces, a_pcs, a_states, a_faults, a_dones, a_entryCounts) (nI s) x := by
  have c : (nI s).toNatClampNeg = s := nI_clamp (by omega)
  have v : vp_in (nI s) 2 := vp_in_nI hs (by omega)
  unfold wpX_stop
  rw [c]
  exact And.intro v (nm_e (And.intro v (nm_e (And.intro v (nm_e hp)))))
theorem dm_tr0 {T : Nat → Int32} {x : Int32} : dm_tr T 0 s x = upd T (s * 32) x := by
  unfold dm_tr
  rw [if_neg (by decide), if_neg (by decide)]
  rfl
theorem xs_st1 (hs : s < 2) (hp : wX_startState_24 post n (nI (s + 1)) f_maxWords f_dataCount f_size f_ready f_codeSize f_shadow f_resReg f_resValue f_resTrap f_resFault f_resNext f_resTaken f_npc f_slotOf f_slotTo f_flightReg f_flightValue a_words a_leader a_moved a_early a_home a_code a_jump a_blockAt a_copied a_cells (upd a_traces (s * 32) 0) (upd a_pcs s 0) (upd a_states s 0) (upd a_faults s 0) (upd a_dones s 0) (upd a_entryCounts s 1)) : wX_startState_24 post (n + 1) (nI s) f_maxWords f_dataCount f_size f_ready f_codeSize f_shadow f_resReg f_resValue f_resTrap f_resFault f_resNext f_resTaken f_npc f_slotOf f_slotTo f_flightReg f_flightValue a_words a_leader a_moved a_early a_home a_code a_jump a_blockAt a_copied a_cells a_traces a_pcs a_states a_faults a_dones a_entryCounts := by
  have c : (nI s).toNatClampNeg = s := nI_clamp (by omega)
  have v : vp_in (nI s) 2 := vp_in_nI hs (by omega)
  rw [wX_startState_24]
  refine br_f (nI_ge (b := 2) hs (by omega)) (xs_resume hs ?_)
  show vp_in (nI s) 2 ∧ _
  rw [c]
  refine And.intro v (nm_e (And.intro v (nm_e (xs_enter hs (nm_r (nI_1 s) ?_)))))
  rw [pk_us, dm_uu, dm_tr0]
  exact hp
theorem xs_start24 (hp : post (f_maxWords, f_dataCount, f_size, f_ready, f_codeSize, f_shadow, f_resReg, f_resValue, f_resTrap, f_resFault, f_resNext, f_resTaken, f_npc, f_slotOf, f_slotTo, f_flightReg, f_flightValue, a_words, a_leader, a_moved, a_early, a_home, a_code, a_jump, a_blockAt, a_copied, a_cells, upd (upd a_traces 0 0) 32 0, upd (upd a_pcs 0 0) 1 0, upd (upd a_states 0 0) 1 0, upd (upd a_faults 0 0) 1 0, upd (upd a_dones 0 0) 1 0, upd (upd a_entryCounts 0 1) 1 1)) : wX_startState_24 post 3 0 f_maxWords f_dataCount f_size f_ready f_codeSize f_shadow f_resReg f_resValue f_resTrap f_resFault f_resNext f_resTaken f_npc f_slotOf f_slotTo f_flightReg f_flightValue a_words a_leader a_moved a_early a_home a_code a_jump a_blockAt a_copied a_cells a_traces a_pcs a_states a_faults a_dones a_entryCounts := by
  refine xs_st1 (s := 0) (by omega) (xs_st1 (s := 1) (by omega) ?_)
  rw [wX_startState_24]
  exact br_t (by decide) hp
theorem xs_start2 (hp : wX_startState_24 post 3 0 f_maxWords f_dataCount f_size f_ready f_codeSize f_shadow f_resReg f_resValue f_resTrap f_resFault f_resNext f_resTaken f_npc f_slotOf f_slotTo f_flightReg f_flightValue a_words a_leader a_moved a_early a_home a_code a_jump a_blockAt a_copied (dm_z a_cells 128) a_traces a_pcs a_states a_faults a_dones a_entryCounts) : ∀ m i : Nat, 128 < m + i → i ≤ 128 → wX_startState_2 post f_maxWords f_dataCount f_size f_ready f_codeSize f_shadow f_resReg f_resValue f_resTrap f_resFault f_resNext f_resTaken f_npc f_slotOf f_slotTo f_flightReg f_flightValue m (nI i) a_words a_leader a_moved a_early a_home a_code a_jump a_blockAt a_copied (dm_z a_cells i) a_traces a_pcs a_states a_faults a_dones a_entryCounts := by
  intro m
  induction m with
  | zero => intro i h1 h2; omega
  | succ m ih =>
    intro i h1 h2
    rw [wX_startState_2]
    refine pk_le 128 i (fun h => ⟨3, ?_⟩) (fun h => ?_)
    · obtain rfl : i = 128 := by omega
      exact hp
    · refine And.intro (vp_in_nI h (by omega)) (nm_r (e' := dm_z a_cells (i + 1)) ?_ (nm_r (nI_1 i) (ih (i + 1) (by omega) (by omega))))
      rw [nI_clamp (by omega), dm_zs]
theorem xs_start (hp : post (f_maxWords, f_dataCount, f_size, f_ready, f_codeSize, f_shadow, f_resReg, f_resValue, f_resTrap, f_resFault, f_resNext, f_resTaken, f_npc, f_slotOf, f_slotTo, f_flightReg, f_flightValue, a_words, a_leader, a_moved, a_early, a_home, a_code, a_jump, a_blockAt, a_copied, dm_z a_cells 128, upd (upd a_traces 0 0) 32 0, upd (upd a_pcs 0 0) 1 0, upd (upd a_states 0 0) 1 0, upd (upd a_faults 0 0) 1 0, upd (upd a_dones 0 0) 1 0, upd (upd a_entryCounts 0 1) 1 1)) : wpX_startState post (f_maxWords, f_dataCount, f_size, f_ready, f_codeSize, f_shadow, f_resReg, f_resValue, f_resTrap, f_resFault, f_resNext, f_resTaken, f_npc, f_slotOf, f_slotTo, f_flightReg, f_flightValue, a_words, a_leader, a_moved, a_early, a_home, a_code, a_jump, a_blockAt, a_copied, a_cells, a_traces, a_pcs, a_states, a_faults, a_dones, a_entryCounts) := by
  unfold wpX_startState
  refine ⟨129, ?_⟩
  have h := xs_start2 (xs_start24 hp) 129 0 (by omega) (by omega)
  rw [dm_z0] at h
  exact h
end XS
section YS
variable {f_p f_d f_size f_ready : Int32} {a_words a_cells a_items a_pcs a_stats a_faults a_dones a_ents : Nat → Int32}
variable {post : SY → Prop} {s n : Nat}
theorem ys_st1 (hs : s < 2) (hp : wY_start_45 post f_p f_d f_size f_ready n (nI (s + 1)) a_words a_cells a_items (upd a_pcs s 0) (upd a_stats s 0) (upd a_faults s 0) (upd a_dones s 0) (upd a_ents s 1)) : wY_start_45 post f_p f_d f_size f_ready (n + 1) (nI s) a_words a_cells a_items a_pcs a_stats a_faults a_dones a_ents := by
  have c : (nI s).toNatClampNeg = s := nI_clamp (by omega)
  have v : vp_in (nI s) 2 := vp_in_nI hs (by omega)
  rw [wY_start_45]
  dsimp only
  rw [c]
  exact br_f (nI_ge (b := 2) hs (by omega)) (And.intro v (nm_e (And.intro v (nm_e (And.intro v (nm_e (And.intro v (nm_e (And.intro v (nm_e (nm_r (nI_1 s) hp)))))))))))
theorem ys_start45 (hp : post (f_p, f_d, f_size, f_ready, a_words, a_cells, a_items, upd (upd a_pcs 0 0) 1 0, upd (upd a_stats 0 0) 1 0, upd (upd a_faults 0 0) 1 0, upd (upd a_dones 0 0) 1 0, upd (upd a_ents 0 1) 1 1)) : wY_start_45 post f_p f_d f_size f_ready 3 0 a_words a_cells a_items a_pcs a_stats a_faults a_dones a_ents := by
  refine ys_st1 (s := 0) (by omega) (ys_st1 (s := 1) (by omega) ?_)
  rw [wY_start_45]
  exact br_t (by decide) hp
theorem ys_start24 (hp : wY_start_45 post f_p f_d f_size f_ready 3 0 a_words a_cells (dm_z a_items 64) a_pcs a_stats a_faults a_dones a_ents) : ∀ m i : Nat, 64 < m + i → i ≤ 64 → wY_start_24 post f_p f_d f_size f_ready m (nI i) a_words a_cells (dm_z a_items i) a_pcs a_stats a_faults a_dones a_ents := by
  intro m
  induction m with
  | zero => intro i h1 h2; omega
  | succ m ih =>
    intro i h1 h2
    rw [wY_start_24]
    refine pk_le 64 i (fun h => ⟨3, ?_⟩) (fun h => ?_)
    · obtain rfl : i = 64 := by omega
      exact hp
    · refine And.intro (vp_in_nI h (by omega)) (nm_r (e' := dm_z a_items (i + 1)) ?_ (nm_r (nI_1 i) (ih (i + 1) (by omega) (by omega))))
      rw [nI_clamp (by omega), dm_zs]
theorem ys_start2 (hp : wY_start_24 post f_p f_d f_size f_ready 65 0 a_words (dm_z a_cells 128) a_items a_pcs a_stats a_faults a_dones a_ents) : ∀ m i : Nat, 128 < m + i → i ≤ 128 → wY_start_2 post f_p f_d f_size f_ready m (nI i) a_words (dm_z a_cells i) a_items a_pcs a_stats a_faults a_dones a_ents := by
  intro m
  induction m with
  | zero => intro i h1 h2; omega
  | succ m ih =>
    intro i h1 h2
    rw [wY_start_2]
    refine pk_le 128 i (fun h => ⟨65, ?_⟩) (fun h => ?_)
    · obtain rfl : i = 128 := by omega
      exact hp
    · refine And.intro (vp_in_nI h (by omega)) (nm_r (e' := dm_z a_cells (i + 1)) ?_ (nm_r (nI_1 i) (ih (i + 1) (by omega) (by omega))))
      rw [nI_clamp (by omega), dm_zs]
theorem ys_start (hp : post (f_p, f_d, f_size, f_ready, a_words, dm_z a_cells 128, dm_z a_items 64, upd (upd a_pcs 0 0) 1 0, upd (upd a_stats 0 0) 1 0, upd (upd a_faults 0 0) 1 0, upd (upd a_dones 0 0) 1 0, upd (upd a_ents 0 1) 1 1)) : wpY_start post (f_p, f_d, f_size, f_ready, a_words, a_cells, a_items, a_pcs, a_stats, a_faults, a_dones, a_ents) := by
  unfold wpY_start
  refine ⟨129, ?_⟩
  have h24 := ys_start24 (a_cells := dm_z a_cells 128) (ys_start45 hp) 65 0 (by omega) (by omega)
  rw [dm_z0] at h24
  have h := ys_start2 h24 129 0 (by omega) (by omega)
  rw [dm_z0] at h
  exact h
end YS
end
section
/-! what the pure evaluation reads and writes -/
theorem ev_nHT0 {w : Int32} (h : dm_op w = 0) : ¬ dm_HT w := fun q => q.1 (by rw [h]; decide)
theorem ev_pl0 {w : Int32} (h : dm_op w = 0) (h8 : ¬ dm_fn w = 8) (h13 : ¬ dm_fn w = 13) : dm_PL w := ⟨fun q => q.elim (ev_nHT0 h) (fun z => h8 z.2), fun z => h13 z.2⟩
theorem ev_pl8 {w : Int32} (h : 8 ≤ dm_op w) : dm_PL w := by
  have n0 : ¬ dm_op w = 0 := fun q => absurd h (by rw [q]; decide)
  exact ⟨fun q => q.elim (fun z => z.2 h) (fun z => n0 z.1), fun z => n0 z.1⟩
theorem ev_cdb {w a b b' : Int32} (h4 : ¬ dm_op w = 4) (h5 : ¬ dm_op w = 5) : dm_CD w a b ↔ dm_CD w a b' := by
  unfold dm_CD
  constructor
  · rintro (q | q | q | q | q)
    · exact Or.inl q
    · exact Or.inr (Or.inl q)
    · exact Or.inr (Or.inr (Or.inl q))
    · exact absurd q.1 h4
    · exact absurd q.1 h5
  · rintro (q | q | q | q | q)
    · exact Or.inl q
    · exact Or.inr (Or.inl q)
    · exact Or.inr (Or.inr (Or.inl q))
    · exact absurd q.1 h4
    · exact absurd q.1 h5
theorem ac_mem {w : Int32} (ac : dm_AC w) (h : 32 ≤ dm_op w) : dm_op w = 35 ∨ dm_op w = 43 := by
  rcases ac with ⟨q, _⟩ | ⟨q, _⟩ | q
  · exact absurd h (by rw [q]; decide)
  · exact absurd h (by rw [q]; decide)
  · rcases q with q | q | q | q | q | q | q | q | q | q | q | q
    all_goals first | exact Or.inl q | exact Or.inr q | exact absurd h (by rw [q]; decide)
theorem ac_ht {w : Int32} (ac : dm_AC w) (h0 : ¬ dm_op w = 0) (h8 : ¬ 8 ≤ dm_op w) : dm_HT w := by
  refine ⟨?_, h8⟩
  rcases ac with ⟨q, _⟩ | ⟨q, _⟩ | q
  · exact absurd q h0
  · rw [q]; decide
  · rcases q with q | q | q | q | q | q | q | q | q | q | q | q <;> rw [q] <;> decide
section EV
variable {ok : Int32 → Prop} {dc w a a' b b' i : Int32} {M M' : Int32 → Int32} {d : Nat}
theorem ev_a (ac : dm_AC w) (h : ¬ dm_RS w) : dm_EV ok dc M w a b i = dm_EV ok dc M w a' b i := by
  unfold dm_EV
  by_cases h0 : dm_op w = 0
  · rw [dm_it h0, dm_it h0]
    unfold dm_EVs
    by_cases f0 : dm_fn w = 0
    · have e : ∀ x, dm_rv w x b = b <<< (dm_sh w &&& 31) := fun x => by unfold dm_rv; rw [if_pos f0]
      have n8 : ¬ dm_fn w = 8 := by rw [f0]; decide
      have n13 : ¬ dm_fn w = 13 := by rw [f0]; decide
      have n32 : ¬ dm_fn w = 32 := by rw [f0]; decide
      rw [dm_in n8, dm_in n13, dm_in n32, dm_in n8, dm_in n13, dm_in n32, e, e]
    · by_cases f2 : dm_fn w = 2
      · have e : ∀ x, dm_rv w x b = (b.toUInt32 >>> ((dm_sh w).toUInt32 &&& Int32.toUInt32 31)).toInt32 := fun x => by unfold dm_rv; rw [if_neg f0, if_pos f2]
        have n8 : ¬ dm_fn w = 8 := by rw [f2]; decide
        have n13 : ¬ dm_fn w = 13 := by rw [f2]; decide
        have n32 : ¬ dm_fn w = 32 := by rw [f2]; decide
        rw [dm_in n8, dm_in n13, dm_in n32, dm_in n8, dm_in n13, dm_in n32, e, e]
      · have f13 : dm_fn w = 13 := Classical.byContradiction fun f13 => h (Or.inl ⟨h0, f0, f2, f13⟩)
        have n8 : ¬ dm_fn w = 8 := by rw [f13]; decide
        rw [dm_in n8, dm_it f13, dm_in n8, dm_it f13]
  · have k : dm_op w = 2 ∨ dm_op w = 3 ∨ dm_op w = 15 := by
      refine Classical.byContradiction fun q => h (Or.inr ⟨h0, fun z => q (Or.inl z), fun z => q (Or.inr (Or.inl z)), fun z => q (Or.inr (Or.inr z))⟩)
    rcases k with k | k | k
    · have e : ∀ x, dm_EVb w x b i = dm_EVb w a' b i := fun x => by
        have c : dm_CD w x b ↔ dm_CD w a' b := ⟨fun _ => Or.inr (Or.inl k), fun _ => Or.inr (Or.inl k)⟩
        unfold dm_EVb; rw [propext c]
      rw [dm_in h0, dm_in h0, dm_in (P := 8 ≤ dm_op w) (by rw [k]; decide), dm_in (P := 8 ≤ dm_op w) (by rw [k]; decide), e]
    · have e : ∀ x, dm_EVb w x b i = dm_EVb w a' b i := fun x => by
        have c : dm_CD w x b ↔ dm_CD w a' b := ⟨fun _ => Or.inr (Or.inr (Or.inl k)), fun _ => Or.inr (Or.inr (Or.inl k))⟩
        unfold dm_EVb; rw [propext c]
      rw [dm_in h0, dm_in h0, dm_in (P := 8 ≤ dm_op w) (by rw [k]; decide), dm_in (P := 8 ≤ dm_op w) (by rw [k]; decide), e]
    · have e : ∀ x, dm_EVi w x i = dm_EVi w a' i := fun x => by
        have iv : ∀ y, dm_iv w y = w <<< ((16 : Int32) &&& 31) := fun y => by
          unfold dm_iv
          rw [if_neg (by rw [k]; decide), if_neg (by rw [k]; decide), if_neg (by rw [k]; decide), if_neg (by rw [k]; decide), if_neg (by rw [k]; decide)]
        unfold dm_EVi
        rw [dm_in (P := dm_op w = 8) (by rw [k]; decide), dm_in (P := dm_op w = 8) (by rw [k]; decide), iv, iv]
      rw [dm_in h0, dm_in h0, dm_it (P := 8 ≤ dm_op w) (by rw [k]; decide), dm_it (P := 8 ≤ dm_op w) (by rw [k]; decide), dm_in (P := 32 ≤ dm_op w) (by rw [k]; decide), dm_in (P := 32 ≤ dm_op w) (by rw [k]; decide), e]
theorem ev_b (ac : dm_AC w) (h : ¬ dm_RT w) : dm_EV ok dc M w a b i = dm_EV ok dc M w a b' i := by
  have h4 : ¬ dm_op w = 4 := fun q => h (Or.inl q)
  have h5 : ¬ dm_op w = 5 := fun q => h (Or.inr (Or.inl q))
  have h43 : ¬ dm_op w = 43 := fun q => h (Or.inr (Or.inr (Or.inl q)))
  unfold dm_EV
  by_cases h0 : dm_op w = 0
  · rw [dm_it h0, dm_it h0]
    unfold dm_EVs
    by_cases f8 : dm_fn w = 8
    · rw [dm_it f8, dm_it f8]
    · by_cases f13 : dm_fn w = 13
      · rw [dm_in f8, dm_it f13, dm_in f8, dm_it f13]
      · exact absurd (Or.inr (Or.inr (Or.inr ⟨h0, ev_pl0 h0 f8 f13⟩))) h
  · rw [dm_in h0, dm_in h0]
    by_cases h8 : 8 ≤ dm_op w
    · rw [dm_it h8, dm_it h8]
      by_cases h32 : 32 ≤ dm_op w
      · rw [dm_it h32, dm_it h32]
        have k : dm_op w = 35 := (ac_mem ac h32).elim id (fun q => absurd q h43)
        unfold dm_EVm
        rw [dm_it (P := dm_op w = 35) k, dm_it (P := dm_op w = 35) k]
      · rw [dm_in h32, dm_in h32]
    · rw [dm_in h8, dm_in h8]
      unfold dm_EVb
      rw [propext (ev_cdb (a := a) (b := b) (b' := b') h4 h5)]
theorem ev_M (h : ¬ dm_LD w) : dm_EV ok dc M w a b i = dm_EV ok dc M' w a b i := by
  unfold dm_EV dm_EVm
  rw [dm_in (P := dm_op w = 35) h, dm_in (P := dm_op w = 35) h]
theorem ev_M2 (hd : d ≤ 32) (hdc : dc = nI d) (hM : ∀ k, k < 32 → M (nI k) = M' (nI k)) : dm_EV ok dc M w a b i = dm_EV ok dc M' w a b i := by
  have e : dm_EVm dc M w a b i = dm_EVm dc M' w a b i := by
    unfold dm_EVm
    by_cases g : ¬ (a + dm_se w) < 0 ∧ (a + dm_se w) < 4 * dc
    · obtain ⟨y, hy, ey⟩ := dm_adr hd hdc g.1 g.2
      rw [ey, hM y (by omega)]
    · rw [dm_in g, dm_in g]
  unfold dm_EV
  rw [e]
theorem ev_frame (ac : dm_AC w) (hd : d ≤ 32) (hdc : dc = nI d) (ha : dm_RS w → a = a') (hb : dm_RT w → b = b') (hM : dm_LD w → ∀ k, k < 32 → M (nI k) = M' (nI k)) : dm_EV ok dc M w a b i = dm_EV ok dc M' w a' b' i := by
  have e1 : dm_EV ok dc M w a b i = dm_EV ok dc M w a' b i := by
    by_cases h : dm_RS w
    · rw [ha h]
    · exact ev_a ac h
  have e2 : dm_EV ok dc M w a' b i = dm_EV ok dc M w a' b' i := by
    by_cases h : dm_RT w
    · rw [hb h]
    · exact ev_b ac h
  have e3 : dm_EV ok dc M w a' b' i = dm_EV ok dc M' w a' b' i := by
    by_cases h : dm_LD w
    · exact ev_M2 hd hdc (hM h)
    · exact ev_M h
  exact e1.trans (e2.trans e3)
/-- a plain word: where it writes, and that it goes on -/
theorem ev_plain (ac : dm_AC w) (pl : dm_PL w) (hd : d ≤ 32) (hdc : dc = nI d) : ∃ (t : Nat) (v tp f : Int32), dm_EV ok dc M w a b i = (t, v, tp, f, i + 1, 0) ∧ t < 64 ∧ (t < 32 → ¬ t = 0 → dm_ds w = nI t) ∧ (32 ≤ t → dm_op w = 43) := by
  unfold dm_EV
  by_cases h0 : dm_op w = 0
  · have n8 : ¬ dm_fn w = 8 := fun q => pl.1 (Or.inr ⟨h0, q⟩)
    have n13 : ¬ dm_fn w = 13 := fun q => pl.2 ⟨h0, q⟩
    have l := dm_rdL w
    have ds : dm_ds w = nI (dm_rdN w) := (dm_dsP h0 pl).trans (dm_rdE w)
    rw [dm_it h0]
    unfold dm_EVs
    rw [dm_in n8, dm_in n13]
    by_cases h32 : dm_fn w = 32
    · rw [dm_it h32]
      exact ⟨_, _, _, _, rfl, by omega, fun _ _ => ds, fun q => by omega⟩
    · rw [dm_in h32]
      exact ⟨_, _, _, _, rfl, by omega, fun _ _ => ds, fun q => by omega⟩
  · rw [dm_in h0]
    have l := dm_rtL w
    by_cases h8 : 8 ≤ dm_op w
    · rw [dm_it h8]
      by_cases h32 : 32 ≤ dm_op w
      · rw [dm_it h32]
        unfold dm_EVm
        by_cases g3 : ((a + dm_se w) &&& 3) = 0
        · rw [dm_it g3]
          by_cases g : ¬ (a + dm_se w) < 0 ∧ (a + dm_se w) < 4 * dc
          · rw [dm_it g]
            by_cases k : dm_op w = 35
            · rw [dm_it k]
              exact ⟨_, _, _, _, rfl, by omega, fun _ _ => (dm_dsI h0 h8 (by rw [k]; decide)).trans (dm_rtE w), fun q => by omega⟩
            · rw [dm_in k]
              obtain ⟨y, hy, ey⟩ := dm_adr hd hdc g.1 g.2
              refine ⟨_, _, _, _, rfl, ?_, fun q => by omega, fun _ => (ac_mem ac h32).elim (fun q => absurd q k) id⟩
              rw [ey, nI_clamp (by omega)]; omega
          · rw [dm_in g]
            exact ⟨_, _, _, _, rfl, by omega, fun _ q => absurd rfl q, fun q => by omega⟩
        · rw [dm_in g3]
          exact ⟨_, _, _, _, rfl, by omega, fun _ q => absurd rfl q, fun q => by omega⟩
      · rw [dm_in h32]
        have n43 : ¬ dm_op w = 43 := fun q => h32 (by rw [q]; decide)
        exact ⟨_, _, _, _, rfl, by omega, fun _ _ => (dm_dsI h0 h8 n43).trans (dm_rtE w), fun q => by omega⟩
    · exact absurd (Or.inl (ac_ht ac h0 h8)) pl.1
/-- a word that may not trap does not -/
theorem ev_noTrap (ac : dm_AC w) (pl : dm_PL w) (hm : ¬ dm_MT dc w) (ha : dm_rs w = 0 → a = 0) : (dm_EV ok dc M w a b i).2.2.1 = 0 := by
  unfold dm_EV
  by_cases h0 : dm_op w = 0
  · have n8 : ¬ dm_fn w = 8 := fun q => pl.1 (Or.inr ⟨h0, q⟩)
    have n13 : ¬ dm_fn w = 13 := fun q => pl.2 ⟨h0, q⟩
    have n32 : ¬ dm_fn w = 32 := fun q => hm (Or.inr ⟨by rw [h0]; decide, Or.inr ⟨h0, q⟩⟩)
    rw [dm_it h0]
    unfold dm_EVs
    rw [dm_in n8, dm_in n13, dm_in n32]
  · rw [dm_in h0]
    by_cases h8 : 8 ≤ dm_op w
    · rw [dm_it h8]
      by_cases h32 : 32 ≤ dm_op w
      · rw [dm_it h32]
        have rs0 : dm_rs w = 0 := Classical.byContradiction fun q => hm (Or.inl ⟨h32, Or.inl q⟩)
        have ga : dm_GA dc w := Classical.byContradiction fun q => hm (Or.inl ⟨h32, Or.inr q⟩)
        have e : a + dm_se w = dm_se w := by rw [ha rs0, Int32.zero_add]
        unfold dm_EVm
        rw [e, dm_it ga.1, dm_it (P := _ ∧ _) ⟨ga.2.1, Int32.not_le.mp ga.2.2⟩]
        by_cases k : dm_op w = 35
        · rw [dm_it k]
        · rw [dm_in k]
      · rw [dm_in h32]
        unfold dm_EVi
        exact dm_in (fun q => hm (Or.inr ⟨h32, Or.inl q⟩))
    · exact absurd (Or.inl (ac_ht ac h0 h8)) pl.1
theorem ev_ht (ht : dm_HT w) : dm_EV ok dc M w a b i = dm_EVb w a b i := by
  unfold dm_EV
  rw [dm_in (P := dm_op w = 0) (fun q => ev_nHT0 q ht), dm_in ht.2]
theorem ev_jr (h : dm_FN w 8) : dm_EV ok dc M w a b i = dm_if ((a &&& 3) = 0 ∧ ok (a >>> ((2 : Int32) &&& 31))) (0, 0, 0, 0, a >>> ((2 : Int32) &&& 31), 1) (0, 0, 5, a, i + 1, 0) := by
  unfold dm_EV
  rw [dm_it (P := dm_op w = 0) h.1]
  unfold dm_EVs
  rw [dm_it (P := dm_fn w = 8) h.2]
theorem ev_bk (h : dm_FN w 13) : dm_EV ok dc M w a b i = (0, 0, 1, 0, i + 1, 0) := by
  unfold dm_EV
  rw [dm_it (P := dm_op w = 0) h.1]
  unfold dm_EVs
  rw [dm_in (P := dm_fn w = 8) (by rw [h.2]; decide), dm_it (P := dm_fn w = 13) h.2]
end EV
section EC
variable {W L C : Nat → Int32} {sz dc : Int32} {n d i r x y : Nat} {v u : Int32}
theorem wr_0 : dm_wr C 1 0 v = C := if_pos rfl
theorem wr_at {s j : Nat} (hj : j ≠ s * 64 + r) : dm_wr C s r v j = C j := by
  unfold dm_wr
  by_cases h : r = 0
  · rw [if_pos h]
  · rw [if_neg h, pk_un hj]
theorem wr_cell0 (h : C 64 = 0) : dm_wr C 1 r v 64 = 0 := by
  unfold dm_wr
  by_cases z : r = 0
  · rw [if_pos z]; exact h
  · rw [if_neg z, pk_un (by omega)]; exact h
theorem wr_low {j : Nat} (hj : j < 64) : dm_wr C 1 r v j = C j := wr_at (by omega)
theorem wr_comm (h : x ≠ y ∨ x = 0 ∨ y = 0) : dm_wr (dm_wr C 1 x v) 1 y u = dm_wr (dm_wr C 1 y u) 1 x v := by
  unfold dm_wr
  by_cases hx : x = 0
  · rw [if_pos hx, if_pos hx]
  · by_cases hy : y = 0
    · rw [if_neg hx, if_pos hy, if_pos hy, if_neg hx]
    · rw [if_neg hx, if_neg hy, if_neg hy, if_neg hx]
      have hxy : x ≠ y := by omega
      funext j
      unfold upd
      by_cases j1 : j = 1 * 64 + y
      · rw [if_pos j1, if_neg (by omega), if_pos j1]
      · rw [if_neg j1]
        by_cases j2 : j = 1 * 64 + x
        · rw [if_pos j2, if_pos j2]
        · rw [if_neg j2, if_neg j2, if_neg j1]
theorem wr_idem : dm_wr (dm_wr C 1 x v) 1 x v = dm_wr C 1 x v := by
  unfold dm_wr
  by_cases hx : x = 0
  · rw [if_pos hx]
  · rw [if_neg hx, if_neg hx, dm_uu]
/-- the frame: a store elsewhere doesn't change what word i gives -/
theorem E_wrR (ac : dm_AC (W i)) (hd : d ≤ 32) (hdc : dc = nI d) (hr : r < 64) (h1 : r < 32 → ¬ ((dm_rs (W i) = nI r ∧ dm_RS (W i)) ∨ (dm_rt (W i) = nI r ∧ dm_RT (W i)))) (h2 : 32 ≤ r → ¬ dm_LD (W i)) : dm_E W L (dm_wr C 1 r v) sz dc 1 i = dm_E W L C sz dc 1 i := by
  have ne : ∀ k, k < 32 → ¬ nI k = nI r → dm_wr C 1 r v (1 * 64 + k) = C (1 * 64 + k) := fun k hk q => wr_at (by intro z; exact q (congrArg nI (by omega)))
  unfold dm_E
  refine ev_frame ac hd hdc (fun q => ne _ (dm_rsL _) (fun z => ?_)) (fun q => ne _ (dm_rtL _) (fun z => ?_)) (fun q k hk => ?_)
  · by_cases r32 : r < 32
    · exact h1 r32 (Or.inl ⟨(dm_rsE _).trans z, q⟩)
    · have := (nI_eq (by have := dm_rsL (W i); omega) (by omega)).mp z
      have := dm_rsL (W i); omega
  · by_cases r32 : r < 32
    · exact h1 r32 (Or.inr ⟨(dm_rtE _).trans z, q⟩)
    · have := (nI_eq (by have := dm_rtL (W i); omega) (by omega)).mp z
      have := dm_rtL (W i); omega
  · by_cases r32 : r < 32
    · unfold dm_M
      rw [show (32 : Int32) = nI 32 from rfl, dm_s64, nI_add, nI_clamp (by omega)]
      exact wr_at (by omega)
    · exact absurd q (h2 (by omega))
theorem E_wr (ac : dm_AC (W i)) (hd : d ≤ 32) (hdc : dc = nI d) (hr : r < 64) (h1 : r < 32 → ¬ dm_TC (W i) (nI r)) (h2 : 32 ≤ r → ¬ dm_LD (W i)) : dm_E W L (dm_wr C 1 r v) sz dc 1 i = dm_E W L C sz dc 1 i := by
  by_cases r0 : r = 0
  · subst r0; rw [wr_0]
  have nr : ¬ nI r = 0 := nI_ne0 (by omega) (by omega)
  exact E_wrR ac hd hdc hr (fun h z => h1 h ⟨nr, Or.inr z⟩) h2
end EC
end
section
/-! the delayed machine's single step, by cases, over a general post -/
section XN
variable {f_maxWords f_dataCount f_size f_ready f_codeSize f_shadow f_resReg f_resValue f_resTrap f_resFault f_resNext f_resTaken f_npc f_slotOf f_slotTo f_flightReg f_flightValue : Int32} {a_words a_leader a_moved a_early a_home a_code a_jump a_blockAt a_copied a_cells a_traces a_pcs a_states a_faults a_dones a_entryCounts : Nat → Int32}
variable {post : SX → Prop} {i p q r t n d : Nat} {goal x v tp ft nx kk : Int32}
/-- arrival at the native address p: a block that begins there is entered -/
def xn_AR (post : SX → Prop) (p : Nat) : Int32 → Int32 → Int32 → Int32 → Int32 → Int32 → Int32 → Int32 → Int32 → Int32 → Int32 → Int32 → Int32 → Int32 → Int32 → Int32 → Int32 → (Nat → Int32) → (Nat → Int32) → (Nat → Int32) → (Nat → Int32) → (Nat → Int32) → (Nat → Int32) → (Nat → Int32) → (Nat → Int32) → (Nat → Int32) → (Nat → Int32) → (Nat → Int32) → (Nat → Int32) → (Nat → Int32) → (Nat → Int32) → (Nat → Int32) → (Nat → Int32) → Prop := fun f_maxWords f_dataCount f_size f_ready f_codeSize f_shadow f_resReg f_resValue f_resTrap f_resFault f_resNext f_resTaken f_npc f_slotOf f_slotTo f_flightReg f_flightValue a_words a_leader a_moved a_early a_home a_code a_jump a_blockAt a_copied a_cells a_traces a_pcs a_states a_faults a_dones a_entryCounts =>
  (a_blockAt p < 0 → post (f_maxWords, f_dataCount, f_size, f_ready, f_codeSize, f_shadow, f_resReg, f_resValue, f_resTrap, f_resFault, f_resNext, f_resTaken, f_npc, f_slotOf, f_slotTo, f_flightReg, f_flightValue, a_words, a_leader, a_moved, a_early, a_home, a_code, a_jump, a_blockAt, a_copied, a_cells, a_traces, a_pcs, a_states, a_faults, a_dones, a_entryCounts)) ∧ (¬ a_blockAt p < 0 → post (f_maxWords, f_dataCount, f_size, f_ready, f_codeSize, f_shadow, f_resReg, f_resValue, f_resTrap, f_resFault, f_resNext, f_resTaken, f_npc, f_slotOf, f_slotTo, f_flightReg, f_flightValue, a_words, a_leader, a_moved, a_early, a_home, a_code, a_jump, a_blockAt, a_copied, a_cells, dm_tr a_traces (a_entryCounts 1) 1 (a_blockAt p), upd a_pcs 1 (a_blockAt p), a_states, a_faults, a_dones, upd a_entryCounts 1 (a_entryCounts 1 + 1)))
theorem xn_drain (hr : r < 64) (hf : f_flightReg = nI r) (hp : post (f_maxWords, f_dataCount, f_size, f_ready, f_codeSize, f_shadow, f_resReg, f_resValue, f_resTrap, f_resFault, f_resNext, f_resTaken, f_npc, f_slotOf, f_slotTo, 0, f_flightValue, a_words, a_leader, a_moved, a_early, a_home, a_code, a_jump, a_blockAt, a_copied, dm_wr a_cells 1 r f_flightValue, a_traces, a_pcs, a_states, a_faults, a_dones, a_entryCounts)) : wpX_drain post (f_maxWords, f_dataCount, f_size, f_ready, f_codeSize, f_shadow, f_resReg, f_resValue, f_resTrap, f_resFault, f_resNext, f_resTaken, f_npc, f_slotOf, f_slotTo, f_flightReg, f_flightValue, a_words, a_leader, a_moved, a_early, a_home, a_code, a_jump, a_blockAt, a_copied, a_cells, a_traces, a_pcs, a_states, a_faults, a_dones, a_entryCounts) := by
  subst hf
  unfold wpX_drain
  exact xs_write (s := 1) (by omega) hr hp
theorem xn_67 (hp : p < 128) (hn : f_npc = nI p) (h : xn_AR post p f_maxWords f_dataCount f_size f_ready f_codeSize f_shadow f_resReg f_resValue f_resTrap f_resFault f_resNext f_resTaken f_npc f_slotOf f_slotTo f_flightReg f_flightValue a_words a_leader a_moved a_early a_home a_code a_jump a_blockAt a_copied a_cells a_traces a_pcs a_states a_faults a_dones a_entryCounts) : wX_finishPlain_67 post f_maxWords f_dataCount f_size f_ready f_codeSize f_shadow f_resReg f_resValue f_resTrap f_resFault f_resNext f_resTaken f_npc f_slotOf f_slotTo f_flightReg f_flightValue a_words a_leader a_moved a_early a_home a_code a_jump a_blockAt a_copied a_cells a_traces a_pcs a_states a_faults a_dones a_entryCounts := by
  have c : f_npc.toNatClampNeg = p := by rw [hn, nI_clamp (by omega)]
  have vv : vp_in f_npc 128 := by rw [hn]; exact vp_in_nI hp (by omega)
  unfold wX_finishPlain_67
  rw [c]
  exact And.intro vv (br_c (fun z => h.1 z) (fun z => And.intro vv (xs_enter (s := 1) (by omega) (h.2 z))))
theorem xn_9a (hp : p + 1 < 128) (hn : f_npc = nI p) (hs : f_slotOf < 0) (h : xn_AR post (p + 1) f_maxWords f_dataCount f_size f_ready f_codeSize f_shadow f_resReg f_resValue f_resTrap f_resFault f_resNext f_resTaken (nI (p + 1)) f_slotOf f_slotTo f_flightReg f_flightValue a_words a_leader a_moved a_early a_home a_code a_jump a_blockAt a_copied a_cells a_traces a_pcs a_states a_faults a_dones a_entryCounts) : wX_finishPlain_9 post x f_maxWords f_dataCount f_size f_ready f_codeSize f_shadow f_resReg f_resValue f_resTrap f_resFault f_resNext f_resTaken f_npc f_slotOf f_slotTo f_flightReg f_flightValue a_words a_leader a_moved a_early a_home a_code a_jump a_blockAt a_copied a_cells a_traces a_pcs a_states a_faults a_dones a_entryCounts := by
  subst hn
  unfold wX_finishPlain_9
  exact nm_r (nI_1 p) (br_t hs (xn_67 hp rfl h))
theorem xn_9b (hq : q < 128) (hs : f_slotOf = nI q) (hc : a_copied q = 0) (hp : p < 128) (hst : f_slotTo = nI p) (h : xn_AR post p f_maxWords f_dataCount f_size f_ready f_codeSize f_shadow f_resReg f_resValue f_resTrap f_resFault f_resNext f_resTaken (nI p) (-1) f_slotTo f_flightReg f_flightValue a_words a_leader a_moved a_early a_home a_code a_jump a_blockAt a_copied a_cells a_traces a_pcs a_states a_faults (upd a_dones 1 (a_dones 1 + 1)) a_entryCounts) : wX_finishPlain_9 post x f_maxWords f_dataCount f_size f_ready f_codeSize f_shadow f_resReg f_resValue f_resTrap f_resFault f_resNext f_resTaken f_npc f_slotOf f_slotTo f_flightReg f_flightValue a_words a_leader a_moved a_early a_home a_code a_jump a_blockAt a_copied a_cells a_traces a_pcs a_states a_faults a_dones a_entryCounts := by
  subst hs hst
  unfold wX_finishPlain_9
  refine nm_e (br_f (nI_pos (by omega)) (nm_e (And.intro (vp_in_nI hq (by omega)) (br_t ?_ ?_))))
  · rw [nI_clamp (by omega)]; exact hc
  · unfold wX_finishPlain_54
    exact xn_67 hp rfl h
theorem xn_9c (hq : q < 128) (hs : f_slotOf = nI q) (hc : ¬ a_copied q = 0) (hp : p < 128) (hst : f_slotTo = nI p) (h : xn_AR post p f_maxWords f_dataCount f_size f_ready f_codeSize f_shadow f_resReg f_resValue f_resTrap f_resFault f_resNext f_resTaken (nI p) (-1) f_slotTo f_flightReg f_flightValue a_words a_leader a_moved a_early a_home a_code a_jump a_blockAt a_copied a_cells (dm_tr a_traces (a_entryCounts 1) 1 x) (upd a_pcs 1 x) a_states a_faults (upd a_dones 1 (a_dones 1 + 1)) (upd a_entryCounts 1 (a_entryCounts 1 + 1))) : wX_finishPlain_9 post x f_maxWords f_dataCount f_size f_ready f_codeSize f_shadow f_resReg f_resValue f_resTrap f_resFault f_resNext f_resTaken f_npc f_slotOf f_slotTo f_flightReg f_flightValue a_words a_leader a_moved a_early a_home a_code a_jump a_blockAt a_copied a_cells a_traces a_pcs a_states a_faults a_dones a_entryCounts := by
  subst hs hst
  unfold wX_finishPlain_9
  refine nm_e (br_f (nI_pos (by omega)) (nm_e (And.intro (vp_in_nI hq (by omega)) (br_f ?_ (xs_enter (s := 1) (by omega) ?_)))))
  · rw [nI_clamp (by omega)]; exact hc
  · show wX_finishPlain_54 post _ _ _ _ _ _ _ _ _ _ _ _ _ _ _ _ _ _ _ _ _ _ _ _ _ _ _ _ _ _ _ _ _
    unfold wX_finishPlain_54
    exact xn_67 hp rfl h
theorem xn_complete (hi : i < 32) (ht : t < 64) (hr : f_resReg = nI t) (h1 : dm_LD (a_words i) → post (f_maxWords, f_dataCount, f_size, f_ready, f_codeSize, f_shadow, f_resReg, f_resValue, f_resTrap, f_resFault, f_resNext, f_resTaken, f_npc, f_slotOf, f_slotTo, nI t, f_resValue, a_words, a_leader, a_moved, a_early, a_home, a_code, a_jump, a_blockAt, a_copied, a_cells, a_traces, a_pcs, a_states, a_faults, upd a_dones 1 (a_dones 1 + 1), a_entryCounts)) (h0 : ¬ dm_LD (a_words i) → post (f_maxWords, f_dataCount, f_size, f_ready, f_codeSize, f_shadow, f_resReg, f_resValue, f_resTrap, f_resFault, f_resNext, f_resTaken, f_npc, f_slotOf, f_slotTo, f_flightReg, f_flightValue, a_words, a_leader, a_moved, a_early, a_home, a_code, a_jump, a_blockAt, a_copied, dm_wr a_cells 1 t f_resValue, a_traces, a_pcs, a_states, a_faults, upd a_dones 1 (a_dones 1 + 1), a_entryCounts)) : wpX_complete post (f_maxWords, f_dataCount, f_size, f_ready, f_codeSize, f_shadow, f_resReg, f_resValue, f_resTrap, f_resFault, f_resNext, f_resTaken, f_npc, f_slotOf, f_slotTo, f_flightReg, f_flightValue, a_words, a_leader, a_moved, a_early, a_home, a_code, a_jump, a_blockAt, a_copied, a_cells, a_traces, a_pcs, a_states, a_faults, a_dones, a_entryCounts) (nI i) := by
  subst hr
  unfold wpX_complete
  exact nm_e (xr_isLoad hi (dm_bc (fun h => xs_write (s := 1) (by omega) ht (h0 h)) (fun h => h1 h)))
/-- a no-operation outside a slot -/
theorem xn_nopA (hp : p + 1 < 128) (hn : f_npc = nI p) (hc : a_code p = -1) (hs : f_slotOf < 0) (hr : r < 64) (hf : f_flightReg = nI r)
    (h : xn_AR post (p + 1) f_maxWords f_dataCount f_size f_ready f_codeSize f_shadow 0 0 0 0 0 0 (nI (p + 1)) f_slotOf f_slotTo 0 f_flightValue a_words a_leader a_moved a_early a_home a_code a_jump a_blockAt a_copied (dm_wr a_cells 1 r f_flightValue) a_traces a_pcs a_states a_faults a_dones a_entryCounts) : wpX_nativeStep post (f_maxWords, f_dataCount, f_size, f_ready, f_codeSize, f_shadow, f_resReg, f_resValue, f_resTrap, f_resFault, f_resNext, f_resTaken, f_npc, f_slotOf, f_slotTo, f_flightReg, f_flightValue, a_words, a_leader, a_moved, a_early, a_home, a_code, a_jump, a_blockAt, a_copied, a_cells, a_traces, a_pcs, a_states, a_faults, a_dones, a_entryCounts) goal := by
  have c : f_npc.toNatClampNeg = p := by rw [hn, nI_clamp (by omega)]
  have hcc := hc
  rw [← c] at hcc
  unfold wpX_nativeStep
  refine And.intro (by rw [hn]; exact vp_in_nI (by omega) (by omega)) (nm_r hcc (xe_nop (xn_drain hr hf (br_t rfl (br_t (by decide) ?_)))))
  unfold wX_nativeStep_56 wpX_finishPlain
  exact br_t (by decide) (xn_9a hp hn hs h)
/-- a no-operation in a slot -/
theorem xn_nopS (hp : p < 128) (hn : f_npc = nI p) (hc : a_code p = -1) (hq : q < 128) (hs : f_slotOf = nI q) (hcp : a_copied q = 0) (ht : t < 128) (hst : f_slotTo = nI t) (hr : r < 64) (hf : f_flightReg = nI r)
    (h : xn_AR post t f_maxWords f_dataCount f_size f_ready f_codeSize f_shadow 0 0 0 0 0 0 (nI t) (-1) f_slotTo 0 f_flightValue a_words a_leader a_moved a_early a_home a_code a_jump a_blockAt a_copied (dm_wr a_cells 1 r f_flightValue) a_traces a_pcs a_states a_faults (upd a_dones 1 (a_dones 1 + 1)) a_entryCounts) : wpX_nativeStep post (f_maxWords, f_dataCount, f_size, f_ready, f_codeSize, f_shadow, f_resReg, f_resValue, f_resTrap, f_resFault, f_resNext, f_resTaken, f_npc, f_slotOf, f_slotTo, f_flightReg, f_flightValue, a_words, a_leader, a_moved, a_early, a_home, a_code, a_jump, a_blockAt, a_copied, a_cells, a_traces, a_pcs, a_states, a_faults, a_dones, a_entryCounts) goal := by
  have c : f_npc.toNatClampNeg = p := by rw [hn, nI_clamp (by omega)]
  have hcc := hc
  rw [← c] at hcc
  unfold wpX_nativeStep
  refine And.intro (by rw [hn]; exact vp_in_nI (by omega) (by omega)) (nm_r hcc (xe_nop (xn_drain hr hf (br_t rfl (br_t (by decide) ?_)))))
  unfold wX_nativeStep_56 wpX_finishPlain
  exact br_t (by decide) (xn_9b hq hs hcp ht hst h)
/-- the common head: word i stands at npc; its outcome is E -/
theorem xn_head (hp : p < 128) (hn : f_npc = nI p) (hi : i < 32) (hc : a_code p = nI i) (hd : d ≤ 32) (hdc : f_dataCount = nI d) (hsz : ¬ nI 32 < f_size) (ac : dm_AC (a_words i)) (hr : r < 64) (hf : f_flightReg = nI r)
    (hE : dm_E a_words a_leader a_cells f_size f_dataCount 1 i = (t, v, tp, ft, nx, kk))
    (htr : ¬ tp = 0 → wpX_nativeStop post (f_maxWords, f_dataCount, f_size, f_ready, f_codeSize, f_shadow, nI t, v, tp, ft, nx, kk, f_npc, f_slotOf, f_slotTo, 0, f_flightValue, a_words, a_leader, a_moved, a_early, a_home, a_code, a_jump, a_blockAt, a_copied, dm_wr a_cells 1 r f_flightValue, a_traces, a_pcs, a_states, a_faults, a_dones, a_entryCounts) (nI i))
    (hbr : tp = 0 → dm_HS (a_words i) → wpX_beginBranch post (f_maxWords, f_dataCount, f_size, f_ready, f_codeSize, f_shadow, nI t, v, 0, ft, nx, kk, f_npc, f_slotOf, f_slotTo, 0, f_flightValue, a_words, a_leader, a_moved, a_early, a_home, a_code, a_jump, a_blockAt, a_copied, dm_wr a_cells 1 r f_flightValue, a_traces, a_pcs, a_states, a_faults, a_dones, a_entryCounts) (nI i) goal)
    (hpl : tp = 0 → ¬ dm_HS (a_words i) → wpX_finishPlain post (f_maxWords, f_dataCount, f_size, f_ready, f_codeSize, f_shadow, nI t, v, 0, ft, nx, kk, f_npc, f_slotOf, f_slotTo, 0, f_flightValue, a_words, a_leader, a_moved, a_early, a_home, a_code, a_jump, a_blockAt, a_copied, dm_wr a_cells 1 r f_flightValue, a_traces, a_pcs, a_states, a_faults, a_dones, a_entryCounts) (nI i)) : wpX_nativeStep post (f_maxWords, f_dataCount, f_size, f_ready, f_codeSize, f_shadow, f_resReg, f_resValue, f_resTrap, f_resFault, f_resNext, f_resTaken, f_npc, f_slotOf, f_slotTo, f_flightReg, f_flightValue, a_words, a_leader, a_moved, a_early, a_home, a_code, a_jump, a_blockAt, a_copied, a_cells, a_traces, a_pcs, a_states, a_faults, a_dones, a_entryCounts) goal := by
  have c : f_npc.toNatClampNeg = p := by rw [hn, nI_clamp (by omega)]
  have hcc := hc
  rw [← c] at hcc
  unfold wpX_nativeStep
  refine And.intro (by rw [hn]; exact vp_in_nI (by omega) (by omega)) (nm_r hcc (xe_evaluate (s := 1) hi (by omega) hd hdc hsz ac (fun e he => ?_)))
  rw [hE] at he
  subst he
  refine xn_drain hr hf (br_c (fun z => ?_) (fun z => htr z))
  have z : tp = 0 := z
  subst z
  exact br_f (nI_pos (by omega)) (xr_hasSlot hi (dm_bc (fun q => hpl rfl q) (fun q => hbr rfl q)))
end XN
end
section
section XN2
variable {f_maxWords f_dataCount f_size f_ready f_codeSize f_shadow f_resReg f_resValue f_resTrap f_resFault f_resNext f_resTaken f_npc f_slotOf f_slotTo f_flightReg f_flightValue : Int32} {a_words a_leader a_moved a_early a_home a_code a_jump a_blockAt a_copied a_cells a_traces a_pcs a_states a_faults a_dones a_entryCounts : Nat → Int32}
variable {post : SX → Prop} {i j p q r t n d : Nat} {goal x v tp ft nx kk z : Int32}
theorem xn_stopA (hs : f_slotOf < 0) (h : post (f_maxWords, f_dataCount, f_size, f_ready, f_codeSize, f_shadow, f_resReg, f_resValue, f_resTrap, f_resFault, f_resNext, f_resTaken, f_npc, f_slotOf, f_slotTo, f_flightReg, f_flightValue, a_words, a_leader, a_moved, a_early, a_home, a_code, a_jump, a_blockAt, a_copied, a_cells, a_traces, upd a_pcs 1 x, upd a_states 1 f_resTrap, upd a_faults 1 f_resFault, a_dones, a_entryCounts)) : wpX_nativeStop post (f_maxWords, f_dataCount, f_size, f_ready, f_codeSize, f_shadow, f_resReg, f_resValue, f_resTrap, f_resFault, f_resNext, f_resTaken, f_npc, f_slotOf, f_slotTo, f_flightReg, f_flightValue, a_words, a_leader, a_moved, a_early, a_home, a_code, a_jump, a_blockAt, a_copied, a_cells, a_traces, a_pcs, a_states, a_faults, a_dones, a_entryCounts) x := by
  unfold wpX_nativeStop
  refine br_t hs ?_
  unfold wX_nativeStop_35
  exact xs_stop (s := 1) (by omega) h
theorem xn_stopB (hq : q < 128) (hs : f_slotOf = nI q) (hc : a_copied q = 0) (h : post (f_maxWords, f_dataCount, f_size, f_ready, f_codeSize, f_shadow, f_resReg, f_resValue, f_resTrap, f_resFault, f_resNext, f_resTaken, f_npc, f_slotOf, f_slotTo, f_flightReg, f_flightValue, a_words, a_leader, a_moved, a_early, a_home, a_code, a_jump, a_blockAt, a_copied, a_cells, a_traces, upd a_pcs 1 x, upd a_states 1 f_resTrap, upd a_faults 1 f_resFault, a_dones, a_entryCounts)) : wpX_nativeStop post (f_maxWords, f_dataCount, f_size, f_ready, f_codeSize, f_shadow, f_resReg, f_resValue, f_resTrap, f_resFault, f_resNext, f_resTaken, f_npc, f_slotOf, f_slotTo, f_flightReg, f_flightValue, a_words, a_leader, a_moved, a_early, a_home, a_code, a_jump, a_blockAt, a_copied, a_cells, a_traces, a_pcs, a_states, a_faults, a_dones, a_entryCounts) x := by
  subst hs
  unfold wpX_nativeStop
  refine br_f (nI_pos (by omega)) (And.intro (vp_in_nI hq (by omega)) (br_t ?_ ?_))
  · rw [nI_clamp (by omega)]; exact hc
  · unfold wX_nativeStop_35
    exact xs_stop (s := 1) (by omega) h
theorem xn_stopC (hq : q < 128) (hs : f_slotOf = nI q) (hc : ¬ a_copied q = 0) (h : post (f_maxWords, f_dataCount, f_size, f_ready, f_codeSize, f_shadow, f_resReg, f_resValue, f_resTrap, f_resFault, f_resNext, f_resTaken, f_npc, f_slotOf, f_slotTo, f_flightReg, f_flightValue, a_words, a_leader, a_moved, a_early, a_home, a_code, a_jump, a_blockAt, a_copied, a_cells, dm_tr a_traces (a_entryCounts 1) 1 x, upd a_pcs 1 x, upd a_states 1 f_resTrap, upd a_faults 1 f_resFault, upd a_dones 1 (a_dones 1 + 1), upd a_entryCounts 1 (a_entryCounts 1 + 1))) : wpX_nativeStop post (f_maxWords, f_dataCount, f_size, f_ready, f_codeSize, f_shadow, f_resReg, f_resValue, f_resTrap, f_resFault, f_resNext, f_resTaken, f_npc, f_slotOf, f_slotTo, f_flightReg, f_flightValue, a_words, a_leader, a_moved, a_early, a_home, a_code, a_jump, a_blockAt, a_copied, a_cells, a_traces, a_pcs, a_states, a_faults, a_dones, a_entryCounts) x := by
  subst hs
  unfold wpX_nativeStop
  refine br_f (nI_pos (by omega)) (And.intro (vp_in_nI hq (by omega)) (br_f ?_ (nm_e (xs_enter (s := 1) (by omega) ?_))))
  · rw [nI_clamp (by omega)]; exact hc
  · show wX_nativeStop_35 post _ _ _ _ _ _ _ _ _ _ _ _ _ _ _ _ _ _ _ _ _ _ _ _ _ _ _ _ _ _ _ _ _ _
    unfold wX_nativeStop_35
    refine xs_stop (s := 1) (by omega) ?_
    rw [dm_uu]
    exact h
theorem xn_b71 (hp : p + 1 < 128) (hn : f_npc = nI p) (hs : f_slotOf = nI p) (h0 : ¬ (¬ a_copied p = 0 ∧ a_entryCounts 1 + 1 = goal) → post (f_maxWords, f_dataCount, f_size, f_ready, f_codeSize, f_shadow, f_resReg, f_resValue, f_resTrap, f_resFault, f_resNext, f_resTaken, nI (p + 1), f_slotOf, f_slotTo, f_flightReg, f_flightValue, a_words, a_leader, a_moved, a_early, a_home, a_code, a_jump, a_blockAt, a_copied, a_cells, a_traces, a_pcs, a_states, a_faults, a_dones, a_entryCounts))
    (h1 : ¬ a_copied p = 0 → a_entryCounts 1 + 1 = goal → post (f_maxWords, f_dataCount, f_size, f_ready, f_codeSize, f_shadow, f_resReg, f_resValue, f_resTrap, f_resFault, f_resNext, f_resTaken, nI (p + 1), (-1), f_slotTo, f_flightReg, f_flightValue, a_words, a_leader, a_moved, a_early, a_home, a_code, a_jump, a_blockAt, a_copied, a_cells, dm_tr a_traces (a_entryCounts 1) 1 f_resNext, upd a_pcs 1 f_resNext, a_states, a_faults, upd a_dones 1 (a_dones 1 + 1), upd a_entryCounts 1 (a_entryCounts 1 + 1))) : wX_beginBranch_71 post goal f_maxWords f_dataCount f_size f_ready f_codeSize f_shadow f_resReg f_resValue f_resTrap f_resFault f_resNext f_resTaken f_npc f_slotOf f_slotTo f_flightReg f_flightValue a_words a_leader a_moved a_early a_home a_code a_jump a_blockAt a_copied a_cells a_traces a_pcs a_states a_faults a_dones a_entryCounts := by
  subst hn
  unfold wX_beginBranch_71
  have c : f_slotOf.toNatClampNeg = p := by rw [hs, nI_clamp (by omega)]
  rw [c]
  refine nm_r (nI_1 p) (And.intro (by rw [hs]; exact vp_in_nI (by omega) (by omega)) (br_c (fun z => h0 (fun q => q.1 z)) (fun z => br_c (fun g => nm_e (xs_enter (s := 1) (by omega) (h1 z g))) (fun g => h0 (fun q => g q.2)))))
theorem xn_begin (hp : p + 1 < 128) (hn : f_npc = nI p) (hi : i < 32) (ht : t < 64) (hr : f_resReg = nI t)
    (z0 : f_resTaken = 0 → z = nI (p + 2)) (z1 : ¬ f_resTaken = 0 → dm_HT (a_words i) → z = a_jump p) (z2 : ¬ f_resTaken = 0 → ¬ dm_HT (a_words i) → j < 32 ∧ f_resNext = nI j ∧ z = a_home j)
    (h0 : ¬ (¬ a_copied p = 0 ∧ a_entryCounts 1 + 1 = goal) → post (f_maxWords, f_dataCount, f_size, f_ready, f_codeSize, f_shadow, f_resReg, f_resValue, f_resTrap, f_resFault, f_resNext, f_resTaken, nI (p + 1), nI p, z, f_flightReg, f_flightValue, a_words, a_leader, a_moved, a_early, a_home, a_code, a_jump, a_blockAt, a_copied, dm_wr a_cells 1 t f_resValue, a_traces, a_pcs, a_states, a_faults, a_dones, a_entryCounts))
    (h1 : ¬ a_copied p = 0 → a_entryCounts 1 + 1 = goal → post (f_maxWords, f_dataCount, f_size, f_ready, f_codeSize, f_shadow, f_resReg, f_resValue, f_resTrap, f_resFault, f_resNext, f_resTaken, nI (p + 1), (-1), z, f_flightReg, f_flightValue, a_words, a_leader, a_moved, a_early, a_home, a_code, a_jump, a_blockAt, a_copied, dm_wr a_cells 1 t f_resValue, dm_tr a_traces (a_entryCounts 1) 1 f_resNext, upd a_pcs 1 f_resNext, a_states, a_faults, upd a_dones 1 (a_dones 1 + 1), upd a_entryCounts 1 (a_entryCounts 1 + 1))) : wpX_beginBranch post (f_maxWords, f_dataCount, f_size, f_ready, f_codeSize, f_shadow, f_resReg, f_resValue, f_resTrap, f_resFault, f_resNext, f_resTaken, f_npc, f_slotOf, f_slotTo, f_flightReg, f_flightValue, a_words, a_leader, a_moved, a_early, a_home, a_code, a_jump, a_blockAt, a_copied, a_cells, a_traces, a_pcs, a_states, a_faults, a_dones, a_entryCounts) (nI i) goal := by
  subst hn hr
  unfold wpX_beginBranch
  refine xs_write (s := 1) (by omega) ht (nm_r (e' := nI (p + 2)) (nI_add p 2) (br_c (fun k => ?_) (fun k => xr_hasTarget hi (dm_bc (fun g => And.intro ?_ ?_) (fun g => And.intro (vp_in_nI (by omega) (by omega)) ?_)))))
  · have e := z0 k
    subst e
    exact xn_b71 hp rfl rfl h0 h1
  · obtain ⟨a, b, _⟩ := z2 k g
    show vp_in f_resNext 32
    rw [b]; exact vp_in_nI a (by omega)
  · obtain ⟨a, b, e⟩ := z2 k g
    subst e
    show wX_beginBranch_68 post goal (a_home f_resNext.toNatClampNeg) _ _ _ _ _ _ _ _ _ _ _ _ _ _ _ _ _ _ _ _ _ _ _ _ _ _ _ _ _ _ _ _ _
    unfold wX_beginBranch_68
    rw [show f_resNext.toNatClampNeg = j by rw [b, nI_clamp (by omega)]]
    exact xn_b71 hp rfl rfl h0 h1
  · have e := z1 k g
    subst e
    show wX_beginBranch_68 post goal (a_jump (nI p).toNatClampNeg) _ _ _ _ _ _ _ _ _ _ _ _ _ _ _ _ _ _ _ _ _ _ _ _ _ _ _ _ _ _ _ _ _
    unfold wX_beginBranch_68
    rw [show (nI p).toNatClampNeg = p from nI_clamp (by omega)]
    exact xn_b71 hp rfl rfl h0 h1
/-- what completing word i leaves in the cells and in flight -/
def xn_CM (w : Int32) (C : Nat → Int32) (t : Nat) (v fv : Int32) (C' : Nat → Int32) (r' : Nat) (fv' : Int32) : Prop := (dm_LD w ∧ C' = C ∧ r' = t ∧ fv' = v) ∨ (¬ dm_LD w ∧ C' = dm_wr C 1 t v ∧ r' = 0 ∧ fv' = fv)
theorem xn_finA (hp : p + 1 < 128) (hn : f_npc = nI p) (hs : f_slotOf < 0) (hi : i < 32) (ht : t < 64) (hr : f_resReg = nI t) (hf : f_flightReg = 0)
    (h : ∀ (C' : Nat → Int32) (r' : Nat) (fv' : Int32), xn_CM (a_words i) a_cells t f_resValue f_flightValue C' r' fv' → xn_AR post (p + 1) f_maxWords f_dataCount f_size f_ready f_codeSize f_shadow f_resReg f_resValue f_resTrap f_resFault f_resNext f_resTaken (nI (p + 1)) f_slotOf f_slotTo (nI r') fv' a_words a_leader a_moved a_early a_home a_code a_jump a_blockAt a_copied C' a_traces a_pcs a_states a_faults (upd a_dones 1 (a_dones 1 + 1)) a_entryCounts) : wpX_finishPlain post (f_maxWords, f_dataCount, f_size, f_ready, f_codeSize, f_shadow, f_resReg, f_resValue, f_resTrap, f_resFault, f_resNext, f_resTaken, f_npc, f_slotOf, f_slotTo, f_flightReg, f_flightValue, a_words, a_leader, a_moved, a_early, a_home, a_code, a_jump, a_blockAt, a_copied, a_cells, a_traces, a_pcs, a_states, a_faults, a_dones, a_entryCounts) (nI i) := by
  subst hf
  unfold wpX_finishPlain
  refine br_f (nI_pos (by omega)) (xn_complete hi ht hr (fun l => ?_) (fun l => ?_))
  · exact xn_9a hp hn hs (h a_cells t f_resValue (Or.inl ⟨l, rfl, rfl, rfl⟩))
  · exact xn_9a hp hn hs (h (dm_wr a_cells 1 t f_resValue) 0 f_flightValue (Or.inr ⟨l, rfl, rfl, rfl⟩))
theorem xn_finB (hq : q < 128) (hs : f_slotOf = nI q) (hc : a_copied q = 0) (hp : p < 128) (hst : f_slotTo = nI p) (hi : i < 32) (ht : t < 64) (hr : f_resReg = nI t) (hf : f_flightReg = 0)
    (h : ∀ (C' : Nat → Int32) (r' : Nat) (fv' : Int32), xn_CM (a_words i) a_cells t f_resValue f_flightValue C' r' fv' → xn_AR post p f_maxWords f_dataCount f_size f_ready f_codeSize f_shadow f_resReg f_resValue f_resTrap f_resFault f_resNext f_resTaken (nI p) (-1) f_slotTo (nI r') fv' a_words a_leader a_moved a_early a_home a_code a_jump a_blockAt a_copied C' a_traces a_pcs a_states a_faults (upd a_dones 1 (a_dones 1 + 1 + 1)) a_entryCounts) : wpX_finishPlain post (f_maxWords, f_dataCount, f_size, f_ready, f_codeSize, f_shadow, f_resReg, f_resValue, f_resTrap, f_resFault, f_resNext, f_resTaken, f_npc, f_slotOf, f_slotTo, f_flightReg, f_flightValue, a_words, a_leader, a_moved, a_early, a_home, a_code, a_jump, a_blockAt, a_copied, a_cells, a_traces, a_pcs, a_states, a_faults, a_dones, a_entryCounts) (nI i) := by
  subst hf
  unfold wpX_finishPlain
  refine br_f (nI_pos (by omega)) (xn_complete hi ht hr (fun l => ?_) (fun l => ?_))
  · refine xn_9b hq hs hc hp hst ?_
    rw [pk_us, dm_uu]
    exact h a_cells t f_resValue (Or.inl ⟨l, rfl, rfl, rfl⟩)
  · refine xn_9b hq hs hc hp hst ?_
    rw [pk_us, dm_uu]
    exact h (dm_wr a_cells 1 t f_resValue) 0 f_flightValue (Or.inr ⟨l, rfl, rfl, rfl⟩)
theorem xn_finC (hq : q < 128) (hs : f_slotOf = nI q) (hc : ¬ a_copied q = 0) (hp : p < 128) (hst : f_slotTo = nI p) (hi : i < 32) (ht : t < 64) (hr : f_resReg = nI t) (hf : f_flightReg = 0)
    (h : ∀ (C' : Nat → Int32) (r' : Nat) (fv' : Int32), xn_CM (a_words i) a_cells t f_resValue f_flightValue C' r' fv' → xn_AR post p f_maxWords f_dataCount f_size f_ready f_codeSize f_shadow f_resReg f_resValue f_resTrap f_resFault f_resNext f_resTaken (nI p) (-1) f_slotTo (nI r') fv' a_words a_leader a_moved a_early a_home a_code a_jump a_blockAt a_copied C' (dm_tr a_traces (a_entryCounts 1) 1 (nI i)) (upd a_pcs 1 (nI i)) a_states a_faults (upd a_dones 1 (a_dones 1 + 1 + 1)) (upd a_entryCounts 1 (a_entryCounts 1 + 1))) : wpX_finishPlain post (f_maxWords, f_dataCount, f_size, f_ready, f_codeSize, f_shadow, f_resReg, f_resValue, f_resTrap, f_resFault, f_resNext, f_resTaken, f_npc, f_slotOf, f_slotTo, f_flightReg, f_flightValue, a_words, a_leader, a_moved, a_early, a_home, a_code, a_jump, a_blockAt, a_copied, a_cells, a_traces, a_pcs, a_states, a_faults, a_dones, a_entryCounts) (nI i) := by
  subst hf
  unfold wpX_finishPlain
  refine br_f (nI_pos (by omega)) (xn_complete hi ht hr (fun l => ?_) (fun l => ?_))
  · refine xn_9c hq hs hc hp hst ?_
    rw [pk_us, dm_uu]
    exact h a_cells t f_resValue (Or.inl ⟨l, rfl, rfl, rfl⟩)
  · refine xn_9c hq hs hc hp hst ?_
    rw [pk_us, dm_uu]
    exact h (dm_wr a_cells 1 t f_resValue) 0 f_flightValue (Or.inr ⟨l, rfl, rfl, rfl⟩)
end XN2
end
section
/-! what the tables fulfil, word by word, and the facts about single words that a run uses -/
def dm_h (H : Nat → Int32) (i : Nat) : Nat := (H i).toNatClampNeg
/-- words j + 1, j stand at q, q + 1: changed places -/
def tb_SW (W L H CO : Nat → Int32) (n : Nat) (dc : Int32) (S : Nat → Prop) (q j : Nat) : Prop :=
  CO q = nI (j + 1) ∧ CO (q + 1) = nI j ∧ dm_QT dc (W j) ∧ dm_QT dc (W (j + 1)) ∧ ¬ dm_TC (W (j + 1)) (dm_ds (W j)) ∧ ¬ dm_TC (W j) (dm_ds (W (j + 1))) ∧
  L j = 0 ∧ L (j + 1) = 0 ∧ j + 2 < n ∧ dm_h H (j + 2) = q + 2 ∧ S (j + 2)
/-- behind word j - 1 the address q comes next -/
def tb_NX (W L H CO : Nat → Int32) (n : Nat) (dc : Int32) (S : Nat → Prop) (q j : Nat) : Prop :=
  (dm_h H j = q ∧ S j) ∨ (CO q = -1 ∧ dm_h H j = q + 1 ∧ S j) ∨ tb_SW W L H CO n dc S q j
def tb_SF (W CO : Nat → Int32) (n q : Nat) (r : Int32) : Prop := ∀ c, c < n → CO q = nI c → ¬ dm_TC (W c) r
def tb_K1 (W L H CO : Nat → Int32) (n : Nat) (dc : Int32) (S : Nat → Prop) (i : Nat) : Prop :=
  dm_PL (W i) ∧ CO (dm_h H i) = nI i ∧ i + 1 < n ∧ tb_NX W L H CO n dc S (dm_h H i + 1) (i + 1) ∧ (dm_LD (W i) → tb_SF W CO n (dm_h H i + 1) (dm_ds (W i)))
def tb_K2 (W H CO JU CP : Nat → Int32) (n : Nat) (i : Nat) : Prop :=
  dm_HS (W i) ∧ CO (dm_h H i) = nI i ∧
  ((CO (dm_h H i + 1) = -1 ∧ CP (dm_h H i) = 0 ∧ (dm_HT (W i) → JU (dm_h H i) = nI (dm_h H (dm_tN W i)))) ∨
    (dm_JM (W i) ∧ ¬ CP (dm_h H i) = 0 ∧ CO (dm_h H i + 1) = nI (dm_tN W i) ∧ CO (dm_h H (dm_tN W i)) = nI (dm_tN W i) ∧ dm_PL (W (dm_tN W i)) ∧ JU (dm_h H i) = nI (dm_h H (dm_tN W i) + 1))) ∧
  (dm_HT (W i) → ¬ dm_JM (W i) → i + 1 < n ∧ dm_h H (i + 1) = dm_h H i + 2)
def tb_K3 (W L H CO JU CP : Nat → Int32) (n : Nat) (dc : Int32) (i : Nat) : Prop :=
  dm_CF W L n dc i ∧ dm_PL (W i) ∧ i + 1 < n ∧ CO (dm_h H i) = nI (i + 1) ∧ CO (dm_h H i + 1) = nI i ∧ CP (dm_h H i) = 0 ∧ JU (dm_h H i) = nI (dm_h H (dm_tN W (i + 1))) ∧
  (¬ dm_JM (W (i + 1)) → i + 2 < n ∧ dm_h H (i + 2) = dm_h H i + 2)
def tb_K4 (W H CO : Nat → Int32) (i : Nat) : Prop := dm_FN (W i) 13 ∧ CO (dm_h H i) = nI i
def dm_TB (W L H CO JU BA CP : Nat → Int32) (n : Nat) (dc : Int32) (S : Nat → Prop) : Prop :=
  (∀ i, i < n → H i = nI (dm_h H i) ∧ dm_h H i ≤ 95) ∧
  (∀ i, S i → i < n ∧ (tb_K1 W L H CO n dc S i ∨ tb_K2 W H CO JU CP n i ∨ tb_K3 W L H CO JU CP n dc i ∨ tb_K4 W H CO i)) ∧
  (∀ i, i < n → ¬ L i = 0 → S i ∧ BA (dm_h H i) = nI i) ∧
  (∀ q, q < 128 → BA q < 0 ∨ ∃ j, j < n ∧ ¬ L j = 0 ∧ dm_h H j = q ∧ BA q = nI j) ∧
  (∀ i j, S i → S j → dm_h H i = dm_h H j → i = j)
theorem tb_SF0 {W CO : Nat → Int32} {n q : Nat} : tb_SF W CO n q 0 := fun _ _ _ => dm_TC0
theorem dm_inj {a b : Nat} (ha : a < 2 ^ 31) (hb : b < 2 ^ 31) (h : nI a = nI b) : a = b := (nI_eq ha hb).mp h
theorem dm_nIm1 {a : Nat} (ha : a < 2 ^ 31) : ¬ nI a = -1 := fun e => nI_pos ha (by rw [e]; decide)
theorem dm_hsbk {w : Int32} (h : dm_HS w) (b : dm_FN w 13) : False := by
  rcases h with h | h
  · exact ev_nHT0 b.1 h
  · exact absurd (h.2.symm.trans b.2) (by decide)
section TBL
variable {W L H CO JU BA CP : Nat → Int32} {n : Nat} {dc : Int32} {S : Nat → Prop} {j q : Nat}
theorem tb_at (T : dm_TB W L H CO JU BA CP n dc S) (hj : S j) : CO (dm_h H j) = nI j ∨ (CO (dm_h H j) = nI (j + 1) ∧ j + 1 < n ∧ dm_HT (W (j + 1)) ∧ dm_PL (W j)) := by
  rcases (T.2.1 j hj).2 with k | k | k | k
  · exact Or.inl k.2.1
  · exact Or.inl k.2.1
  · exact Or.inr ⟨k.2.2.2.1, k.2.2.1, k.1.1, k.2.1⟩
  · exact Or.inl k.2
/-- no block begins at an address that holds a no-operation, or a word of a changed pair -/
theorem tb_ba1 (hn : n ≤ 32) (T : dm_TB W L H CO JU BA CP n dc S) (hq : q < 128) (h : CO q = -1) : BA q < 0 := by
  rcases T.2.2.2.1 q hq with z | ⟨j, hj, hl, e, _⟩
  · exact z
  · exfalso
    have hs := (T.2.2.1 j hj hl).1
    have := tb_at T hs
    rw [e, h] at this
    rcases this with z | z
    · exact dm_nIm1 (by omega) z.symm
    · exact dm_nIm1 (by omega) z.1.symm
theorem tb_ba2 (hn : n ≤ 32) (T : dm_TB W L H CO JU BA CP n dc S) (hq : q < 128) (w : tb_SW W L H CO n dc S q j) : BA q < 0 := by
  obtain ⟨c0, c1, q0, q1, _, _, l0, l1, jn, _⟩ := w
  rcases T.2.2.2.1 q hq with z | ⟨j', hj, hl, e, _⟩
  · exact z
  · exfalso
    have hs := (T.2.2.1 j' hj hl).1
    have := tb_at T hs
    rw [e, c0] at this
    rcases this with z | z
    · have := dm_inj (by omega) (by omega) z
      subst this; exact hl l1
    · have := dm_inj (by omega) (by omega) z.1
      have : j' = j := by omega
      subst this; exact hl l0
theorem tb_ba3 (hn : n ≤ 32) (T : dm_TB W L H CO JU BA CP n dc S) (hq : q + 1 < 128) (w : tb_SW W L H CO n dc S q j) : BA (q + 1) < 0 := by
  obtain ⟨c0, c1, q0, q1, _, _, l0, l1, jn, _⟩ := w
  rcases T.2.2.2.1 (q + 1) hq with z | ⟨j', hj, hl, e, _⟩
  · exact z
  · exfalso
    have hs := (T.2.2.1 j' hj hl).1
    have := tb_at T hs
    rw [e, c1] at this
    rcases this with z | z
    · have := dm_inj (by omega) (by omega) z
      subst this; exact hl l0
    · have e2 := dm_inj (by omega) (by omega) z.1
      rw [← e2] at z
      exact q0.1.1 (Or.inl z.2.2.1)
theorem tb_ba4 (T : dm_TB W L H CO JU BA CP n dc S) (hj : S j) (hb : dm_h H j < 128) (h : ¬ BA (dm_h H j) < 0) : ¬ L j = 0 ∧ BA (dm_h H j) = nI j := by
  rcases T.2.2.2.1 _ hb with z | ⟨j', hj', hl, e, eb⟩
  · exact absurd z h
  · have := T.2.2.2.2 j' j (T.2.2.1 j' hj' hl).1 hj e
    subst this; exact ⟨hl, eb⟩
end TBL
section PF
variable {W L C : Nat → Int32} {n d i : Nat}
theorem pf_plain (hn : n ≤ 32) (hd : d ≤ 32) (ac : dm_Acc W n) (hi : i < n) (pl : dm_PL (W i)) : ∃ (t : Nat) (v tp f : Int32), dm_E W L C (nI n) (nI d) 1 i = (t, v, tp, f, nI (i + 1), 0) ∧ t < 64 ∧ (t < 32 → ¬ t = 0 → dm_ds (W i) = nI t) ∧ (32 ≤ t → dm_op (W i) = 43) := by
  unfold dm_E
  rw [← nI_1]
  exact ev_plain (ac i hi) pl hd rfl
theorem pf_lead (hL : dm_LR W L n) {j : Nat} (h : dm_IL W n j) : ¬ L j = 0 := fun z => (hL j h.1).mp z h
theorem pf_ht (hn : n ≤ 32) (ac : dm_Acc W n) (ti : dm_TI W n) (hL : dm_LR W L n) (hi : i < n) (ht : dm_HT (W i)) (hx : ¬ dm_JM (W i) → i + 1 < n) : ∃ (j : Nat) (k : Int32), dm_E W L C (nI n) (nI d) 1 i = (dm_if (dm_LK (W i)) 31 0, dm_if (dm_LK (W i)) (4 * (nI i + 1)) 0, 0, 0, nI j, k) ∧ j < n ∧ ¬ L j = 0 ∧ ((¬ k = 0 ∧ j = dm_tN W i) ∨ (k = 0 ∧ j = i + 1 ∧ ¬ dm_JM (W i))) := by
  unfold dm_E
  rw [ev_ht ht]
  unfold dm_EVb
  have t := ti i hi ht
  by_cases c : dm_CD (W i) (C (1 * 64 + dm_rsN (W i))) (C (1 * 64 + dm_rtN (W i)))
  · rw [dm_it c, dm_b1 c, t.2]
    exact ⟨dm_tN W i, 1, rfl, t.1, pf_lead hL ⟨t.1, Or.inr ⟨i, hi, Or.inl ⟨ht, t.2⟩⟩⟩, Or.inl ⟨dm_10, rfl⟩⟩
  · have nj : ¬ dm_JM (W i) := fun q => c (q.elim (fun z => Or.inr (Or.inl z)) (fun z => Or.inr (Or.inr (Or.inl z))))
    rw [dm_in c, dm_b0 c, nI_1]
    exact ⟨i + 1, 0, rfl, hx nj, pf_lead hL ⟨hx nj, Or.inr ⟨i, hi, Or.inr ⟨dm_notPL.mpr (Or.inl ht), rfl⟩⟩⟩, Or.inr ⟨rfl, rfl, nj⟩⟩
theorem pf_jr (hn : n ≤ 32) (hi : i < n) (h : dm_FN (W i) 8) : (∃ j, dm_E W L C (nI n) (nI d) 1 i = (0, 0, 0, 0, nI j, 1) ∧ j < n ∧ ¬ L j = 0) ∨ (∃ a, dm_E W L C (nI n) (nI d) 1 i = (0, 0, 5, a, nI (i + 1), 0)) := by
  unfold dm_E
  rw [ev_jr h]
  by_cases c : (C (1 * 64 + dm_rsN (W i)) &&& 3) = 0 ∧ dm_ok L (nI n) (C (1 * 64 + dm_rsN (W i)) >>> ((2 : Int32) &&& 31))
  · rw [dm_it c]
    obtain ⟨_, h0, h1, h2⟩ := c
    obtain ⟨j, hj, e⟩ := nI_of h0
    rw [e] at h1 h2 ⊢
    rw [nI_leI (by omega) hj] at h1
    rw [nI_clamp hj] at h2
    exact Or.inl ⟨j, rfl, by omega, h2⟩
  · rw [dm_in c]
    exact Or.inr ⟨_, by rw [nI_1]⟩
theorem pf_noTrap (ac : dm_Acc W n) (hi : i < n) (pl : dm_PL (W i)) (hm : ¬ dm_MT (nI d) (W i)) (h0 : C 64 = 0) : (dm_E W L C (nI n) (nI d) 1 i).2.2.1 = 0 := by
  unfold dm_E
  refine ev_noTrap (ac i hi) pl hm (fun z => ?_)
  have : dm_rsN (W i) = 0 := by unfold dm_rsN; rw [z]; rfl
  rw [this]; exact h0
/-- a branch that links doesn't read the link register -/
theorem pf_lk {w : Int32} (ac : dm_AC w) (h : dm_LK w) : ¬ ((dm_rs w = nI 31 ∧ dm_RS w) ∨ (dm_rt w = nI 31 ∧ dm_RT w)) := by
  have nrt : ¬ dm_RT w := by
    have h0 := fun q => ev_nHT0 (w := w) q (dm_LKHT h)
    rintro (q | q | q | q)
    · rcases h with h | h
      · exact absurd (h.symm.trans q) (by decide)
      · exact absurd (h.1.symm.trans q) (by decide)
    · rcases h with h | h
      · exact absurd (h.symm.trans q) (by decide)
      · exact absurd (h.1.symm.trans q) (by decide)
    · rcases h with h | h
      · exact absurd (h.symm.trans q) (by decide)
      · exact absurd (h.1.symm.trans q) (by decide)
    · exact h0 q.1
  rintro (⟨a, b⟩ | ⟨_, b⟩)
  · rcases h with h | ⟨h, h17⟩
    · rcases b with b | b
      · exact absurd (h.symm.trans b.1) (by decide)
      · exact b.2.2.1 h
    · rcases ac with ⟨q, _⟩ | ⟨_, q⟩ | q
      · exact absurd (h.symm.trans q) (by decide)
      · rcases q with q | q | q
        · exact absurd (h17.symm.trans q) (by decide)
        · exact absurd (h17.symm.trans q) (by decide)
        · exact q.2 a
      · unfold dm_AO at q
        rw [h] at q
        exact absurd q (by decide)
  · exact nrt b
end PF
end
section
/-! the native run simulated: modes -/
def sm_MA (W L H CO : Nat → Int32) (n d : Nat) (S : Nat → Prop) (C : Nat → Int32) (i : Nat) (D npc so fR fv : Int32) (CX : Nat → Int32) (D' : Int32) (p : Nat) : Prop :=
  so = -1 ∧ npc = nI p ∧ dm_h H i = p ∧ S i ∧ D' = D ∧ ∃ r, r < 32 ∧ fR = nI r ∧
    ((dm_wr CX 1 r fv = C ∧ tb_SF W CO n p (nI r)) ∨
      (r = 0 ∧ ∃ (b t : Nat) (v f nx k : Int32), b < n ∧ CO p = nI b ∧ dm_HS (W b) ∧ dm_E W L C (nI n) (nI d) 1 b = (t, v, 0, f, nx, k) ∧ CX = dm_wr C 1 t v))
def sm_MB (W L H CO : Nat → Int32) (n d : Nat) (S : Nat → Prop) (C : Nat → Int32) (i : Nat) (D npc so fR fv : Int32) (CX : Nat → Int32) (D' : Int32) (p : Nat) : Prop :=
  so = -1 ∧ npc = nI p ∧ CO p = -1 ∧ S (i + 1) ∧ dm_h H (i + 1) = p + 1 ∧ i < n ∧ D' = D + 1 ∧ ∃ (t : Nat) (v f : Int32), dm_E W L C (nI n) (nI d) 1 i = (t, v, 0, f, nI (i + 1), 0) ∧
    ∃ r, r < 32 ∧ fR = nI r ∧ dm_wr CX 1 r fv = dm_wr C 1 t v
def sm_MC (W L H CO : Nat → Int32) (n d : Nat) (S : Nat → Prop) (C : Nat → Int32) (i : Nat) (D npc so fR fv : Int32) (CX : Nat → Int32) (D' : Int32) (p : Nat) : Prop :=
  so = -1 ∧ npc = nI p ∧ tb_SW W L H CO n (nI d) S p i ∧ D' = D ∧ ∃ r, r < 32 ∧ fR = nI r ∧ dm_wr CX 1 r fv = C ∧ tb_SF W CO n p (nI r)
def sm_MD (W L H CO : Nat → Int32) (n d : Nat) (S : Nat → Prop) (C : Nat → Int32) (i : Nat) (D npc so fR : Int32) (CX : Nat → Int32) (D' : Int32) (p : Nat) : Prop :=
  so = -1 ∧ npc = nI p ∧ ∃ q, p = q + 1 ∧ tb_SW W L H CO n (nI d) S q i ∧ D' = D + 1 ∧ fR = 0 ∧ ∃ (t : Nat) (v f : Int32), dm_E W L C (nI n) (nI d) 1 (i + 1) = (t, v, 0, f, nI (i + 2), 0) ∧ CX = dm_wr C 1 t v
def sm_MS (W L H CO JU CP : Nat → Int32) (n d : Nat) (S : Nat → Prop) (gl : Nat) (C : Nat → Int32) (i : Nat) (D npc so st fR : Int32) (CX : Nat → Int32) (D' : Int32) (e p : Nat) : Prop :=
  so = nI (dm_h H i) ∧ npc = nI p ∧ p = dm_h H i + 1 ∧ S i ∧ D' = D ∧ fR = 0 ∧ ¬ (¬ CP (dm_h H i) = 0 ∧ e + 1 = gl) ∧
    ∃ (b t j : Nat) (v f k : Int32), b < n ∧ CO (dm_h H i) = nI b ∧ dm_HS (W b) ∧ dm_E W L C (nI n) (nI d) 1 b = (t, v, 0, f, nI j, k) ∧ CX = dm_wr C 1 t v ∧ j < n ∧ ¬ L j = 0 ∧
      (k = 0 → st = nI (dm_h H i + 2)) ∧ (¬ k = 0 → dm_HT (W b) → st = JU (dm_h H i)) ∧ (¬ k = 0 → ¬ dm_HT (W b) → st = H j)
def sm_run (W L H CO JU CP : Nat → Int32) (n d : Nat) (S : Nat → Prop) (G : (Nat → Int32) → (Nat → Int32) → Nat → Int32 → Nat → Prop) (gl : Nat) (npc so st fR fv : Int32) (CX T : Nat → Int32) (D' : Int32) (e p : Nat) : Prop :=
  ∃ (C : Nat → Int32) (i : Nat) (D : Int32), e < gl ∧ G C T i D e ∧
    (sm_MA W L H CO n d S C i D npc so fR fv CX D' p ∨ sm_MB W L H CO n d S C i D npc so fR fv CX D' p ∨ sm_MC W L H CO n d S C i D npc so fR fv CX D' p ∨
      sm_MD W L H CO n d S C i D npc so fR CX D' p ∨ sm_MS W L H CO JU CP n d S gl C i D npc so st fR CX D' e p)
/-- what stands after a step: running, at the goal, or trapped -/
def sm_I (W L H CO JU CP : Nat → Int32) (n d : Nat) (S : Nat → Prop) (G : (Nat → Int32) → (Nat → Int32) → Nat → Int32 → Nat → Prop) (gl : Nat) (P0 D0 N0 ST FA : Nat → Int32) (e0 p0 : Nat)
    (npc so st fR fv : Int32) (CX T PC SS FF DD NN : Nat → Int32) : Prop :=
  (∃ (e p : Nat) (x D' : Int32), SS = upd ST 1 0 ∧ FF = FA ∧ PC = upd P0 1 x ∧ DD = upd D0 1 D' ∧ NN = upd N0 1 (nI e) ∧ sm_run W L H CO JU CP n d S G gl npc so st fR fv CX T D' e p ∧ ((e = e0 ∧ p = p0 + 1) ∨ e0 < e)) ∨
  (∃ (i r : Nat) (D : Int32), SS = upd ST 1 0 ∧ FF = FA ∧ PC = upd P0 1 (nI i) ∧ DD = upd D0 1 D ∧ NN = upd N0 1 (nI gl) ∧ r < 32 ∧ fR = nI r ∧ S i ∧ G (dm_wr CX 1 r fv) T i D gl) ∨
  (∃ (i e t : Nat) (D v tp f nx k : Int32), ¬ tp = 0 ∧ SS = upd ST 1 tp ∧ FF = upd FA 1 f ∧ PC = upd P0 1 (nI i) ∧ DD = upd D0 1 D ∧ NN = upd N0 1 (nI e) ∧ fR = 0 ∧ S i ∧ e < gl ∧ G CX T i D e ∧ dm_E W L CX (nI n) (nI d) 1 i = (t, v, tp, f, nx, k))
/-- what is known of program, tables, and of the predicate G ('the reference can go on from here') -/
def sm_F (W L H CO JU BA CP : Nat → Int32) (n d : Nat) (S : Nat → Prop) (G : (Nat → Int32) → (Nat → Int32) → Nat → Int32 → Nat → Prop) (gl : Nat) : Prop :=
  n ≤ 32 ∧ d ≤ 32 ∧ dm_Acc W n ∧ dm_TI W n ∧ dm_LR W L n ∧ dm_TB W L H CO JU BA CP n (nI d) S ∧ gl < 2 ^ 30 ∧
  (∀ C T i D e, G C T i D e → C 64 = 0) ∧
  (∀ (C T : Nat → Int32) (i : Nat) (D : Int32) (e t : Nat) (v f : Int32) (j : Nat) (k : Int32), G C T i D e → i < n → e < gl → dm_E W L C (nI n) (nI d) 1 i = (t, v, 0, f, nI j, k) → j < n → ¬ L j = 0 → G (dm_wr C 1 t v) (dm_tr T (nI e) 1 (nI j)) j (D + 1) (e + 1)) ∧
  (∀ (C T : Nat → Int32) (i : Nat) (D : Int32) (e t : Nat) (v f k : Int32), G C T i D e → i < n → e < gl → dm_E W L C (nI n) (nI d) 1 i = (t, v, 0, f, nI (i + 1), k) → i + 1 < n → L (i + 1) = 0 → G (dm_wr C 1 t v) T (i + 1) (D + 1) e)
theorem dm_u1 {f : Nat → Int32} {k : Nat} {x y : Int32} : upd (upd f k x) k (upd f k x k + y) = upd f k (x + y) := by rw [pk_us, dm_uu]
section SM
variable {f_maxWords f_dataCount f_size f_ready f_codeSize f_shadow f_resReg f_resValue f_resTrap f_resFault f_resNext f_resTaken f_npc f_slotOf f_slotTo f_flightReg f_flightValue : Int32} {a_words a_leader a_moved a_early a_home a_code a_jump a_blockAt a_copied a_cells a_traces a_pcs a_states a_faults a_dones a_entryCounts : Nat → Int32}
variable {post : SX → Prop} {n d gl e0 p0 e p i j r t : Nat} {S : Nat → Prop} {G : (Nat → Int32) → (Nat → Int32) → Nat → Int32 → Nat → Prop} {P0 D0 N0 ST FA C C2 : Nat → Int32} {D D2 D' x v f tp fv : Int32}
theorem sm_hb (F : sm_F a_words a_leader a_home a_code a_jump a_blockAt a_copied n d S G gl) (hj : S j) : dm_h a_home j ≤ 95 := (F.2.2.2.2.2.1.1 j (F.2.2.2.2.2.1.2.1 j hj).1).2
/-- arrival at the home of j -/
theorem sm_arr (F : sm_F a_words a_leader a_home a_code a_jump a_blockAt a_copied n d S G gl) (k : ∀ (g1 g2 g3 g4 g5 g6 gn gs gt gr gv : Int32) (gC gT gP gS gF gD gE : Nat → Int32), sm_I a_words a_leader a_home a_code a_jump a_copied n d S G gl P0 D0 N0 ST FA e0 p0 gn gs gt gr gv gC gT gP gS gF gD gE → post (f_maxWords, nI d, nI n, f_ready, f_codeSize, f_shadow, g1, g2, g3, g4, g5, g6, gn, gs, gt, gr, gv, a_words, a_leader, a_moved, a_early, a_home, a_code, a_jump, a_blockAt, a_copied, gC, gT, gP, gS, gF, gD, gE)) (hp : dm_h a_home j = p) (hj : S j) (he : e < gl)
    (hG : (¬ a_leader j = 0 → G C2 (dm_tr a_traces (nI e) 1 (nI j)) j D2 (e + 1)) ∧ (a_leader j = 0 → G C2 a_traces j D2 e)) (hr : r < 32) (hf : f_flightReg = nI r) (hw : dm_wr a_cells 1 r f_flightValue = C2) (sf : tb_SF a_words a_code n p (nI r))
    (hn : f_npc = nI p) (hs : f_slotOf = -1) (hD : a_dones = upd D0 1 D2) (hN : a_entryCounts = upd N0 1 (nI e)) (hP : a_pcs = upd P0 1 x) (hS : a_states = upd ST 1 0) (hF : a_faults = FA)
    (hb : (e = e0 ∧ p = p0 + 1) ∨ e0 < e ∨ (e0 ≤ e ∧ ¬ a_leader j = 0)) : xn_AR post p f_maxWords (nI d) (nI n) f_ready f_codeSize f_shadow f_resReg f_resValue f_resTrap f_resFault f_resNext f_resTaken f_npc f_slotOf f_slotTo f_flightReg f_flightValue a_words a_leader a_moved a_early a_home a_code a_jump a_blockAt a_copied a_cells a_traces a_pcs a_states a_faults a_dones a_entryCounts := by
  have T := F.2.2.2.2.2.1
  have hj95 := sm_hb F hj
  have hjn := (T.2.1 j hj).1
  subst hp
  refine And.intro (fun z => ?_) (fun z => ?_)
  · have l : a_leader j = 0 := Classical.byContradiction fun q => by
      rw [(T.2.2.1 j hjn q).2] at z
      exact nI_pos (by have := F.1; omega) z
    refine k _ _ _ _ _ _ _ _ _ _ _ _ _ _ _ _ _ _ (Or.inl ⟨e, dm_h a_home j, x, D2, hS, hF, hP, hD, hN, ⟨C2, j, D2, he, hG.2 l, Or.inl ⟨hs, hn, rfl, hj, rfl, r, hr, hf, Or.inl ⟨hw, sf⟩⟩⟩, ?_⟩)
    rcases hb with h | h | h
    · exact Or.inl h
    · exact Or.inr h
    · exact absurd l h.2
  · obtain ⟨l, eb⟩ := tb_ba4 T hj (by omega) z
    have g1 := hG.1 l
    have hlt : e0 < e + 1 := by rcases hb with h | h | h <;> omega
    refine k _ _ _ _ _ _ _ _ _ _ _ _ _ _ _ _ _ _ ?_
    rw [eb, hN, hP, pk_us, dm_uu, dm_uu, nI_1]
    by_cases g : e + 1 = gl
    · rw [g] at g1 ⊢
      refine Or.inr (Or.inl ⟨j, r, D2, hS, hF, rfl, hD, rfl, hr, hf, hj, ?_⟩)
      rw [hw]; exact g1
    · exact Or.inl ⟨e + 1, dm_h a_home j, nI j, D2, hS, hF, rfl, hD, rfl, ⟨C2, j, D2, by omega, g1, Or.inl ⟨hs, hn, rfl, hj, rfl, r, hr, hf, Or.inl ⟨hw, sf⟩⟩⟩, Or.inr hlt⟩
/-- a plain word i is completed; the address q comes next -/
theorem sm_nx (F : sm_F a_words a_leader a_home a_code a_jump a_blockAt a_copied n d S G gl) (k : ∀ (g1 g2 g3 g4 g5 g6 gn gs gt gr gv : Int32) (gC gT gP gS gF gD gE : Nat → Int32), sm_I a_words a_leader a_home a_code a_jump a_copied n d S G gl P0 D0 N0 ST FA e0 p0 gn gs gt gr gv gC gT gP gS gF gD gE → post (f_maxWords, nI d, nI n, f_ready, f_codeSize, f_shadow, g1, g2, g3, g4, g5, g6, gn, gs, gt, gr, gv, a_words, a_leader, a_moved, a_early, a_home, a_code, a_jump, a_blockAt, a_copied, gC, gT, gP, gS, gF, gD, gE)) (hp : p < 100) (he : e < gl) (hG : G C a_traces i D e) (hi : i + 1 < n) (hE : dm_E a_words a_leader C (nI n) (nI d) 1 i = (t, v, 0, f, nI (i + 1), 0))
    (t1 : t < 32 → ¬ t = 0 → dm_ds (a_words i) = nI t) (t2 : 32 ≤ t → dm_op (a_words i) = 43) (nx : tb_NX a_words a_leader a_home a_code n (nI d) S p (i + 1)) (ld : dm_LD (a_words i) → tb_SF a_words a_code n p (dm_ds (a_words i)))
    (cm : xn_CM (a_words i) C t v fv a_cells r f_flightValue) (hf : f_flightReg = nI r)
    (hn : f_npc = nI p) (hs : f_slotOf = -1) (hD : a_dones = upd D0 1 (D + 1)) (hN : a_entryCounts = upd N0 1 (nI e)) (hP : a_pcs = upd P0 1 x) (hS : a_states = upd ST 1 0) (hF : a_faults = FA)
    (hb : (e = e0 ∧ p = p0 + 1) ∨ e0 < e) : xn_AR post p f_maxWords (nI d) (nI n) f_ready f_codeSize f_shadow f_resReg f_resValue f_resTrap f_resFault f_resNext f_resTaken f_npc f_slotOf f_slotTo f_flightReg f_flightValue a_words a_leader a_moved a_early a_home a_code a_jump a_blockAt a_copied a_cells a_traces a_pcs a_states a_faults a_dones a_entryCounts := by
  have n32 := F.1
  have T := F.2.2.2.2.2.1
  have g1 := F.2.2.2.2.2.2.2.2.1 C a_traces i D e t v f (i + 1) 0 hG (by omega) he hE hi
  have g2 := fun l => F.2.2.2.2.2.2.2.2.2 C a_traces i D e t v f 0 hG (by omega) he hE hi l
  have hw : dm_wr a_cells 1 r f_flightValue = dm_wr C 1 t v := by
    rcases cm with ⟨_, a, b, c⟩ | ⟨_, a, b, c⟩
    · rw [a, b, c]
    · rw [a, b, wr_0]
  have hr : r < 32 ∧ tb_SF a_words a_code n p (nI r) := by
    rcases cm with ⟨l, a, b, c⟩ | ⟨_, a, b, c⟩
    · have t32 : t < 32 := by
        refine Nat.lt_of_not_le fun q => ?_
        exact absurd ((t2 q).symm.trans l) (by decide)
      rw [b]
      refine ⟨t32, ?_⟩
      by_cases t0 : t = 0
      · rw [t0]; exact tb_SF0
      · rw [← t1 t32 t0]; exact ld l
    · rw [b]; exact ⟨by omega, tb_SF0⟩
  rcases nx with ⟨a, b⟩ | ⟨a, b, c⟩ | sw
  · exact sm_arr F k a b he ⟨g1, g2⟩ hr.1 hf hw hr.2 hn hs hD hN hP hS hF (hb.elim Or.inl (fun z => Or.inr (Or.inl z)))
  · have ba := tb_ba1 n32 T (by omega) a
    refine And.intro (fun _ => ?_) (fun z => absurd ba z)
    exact k _ _ _ _ _ _ _ _ _ _ _ _ _ _ _ _ _ _ (Or.inl ⟨e, p, x, D + 1, hS, hF, hP, hD, hN, ⟨C, i, D, he, hG, Or.inr (Or.inl ⟨hs, hn, a, c, b, by omega, rfl, t, v, f, hE, r, hr.1, hf, hw⟩)⟩, hb⟩)
  · have ba := tb_ba2 n32 T (by omega) sw
    refine And.intro (fun _ => ?_) (fun z => absurd ba z)
    have l : a_leader (i + 1) = 0 := sw.2.2.2.2.2.2.1
    exact k _ _ _ _ _ _ _ _ _ _ _ _ _ _ _ _ _ _ (Or.inl ⟨e, p, x, D + 1, hS, hF, hP, hD, hN, ⟨dm_wr C 1 t v, i + 1, D + 1, he, g2 l, Or.inr (Or.inr (Or.inl ⟨hs, hn, sw, rfl, r, hr.1, hf, hw, hr.2⟩))⟩, hb⟩)
end SM
end
section
/-! one native step from each mode -/
section SS
variable {f_maxWords f_dataCount f_size f_ready f_codeSize f_shadow f_resReg f_resValue f_resTrap f_resFault f_resNext f_resTaken f_npc f_slotOf f_slotTo f_flightReg f_flightValue : Int32} {a_words a_leader a_moved a_early a_home a_code a_jump a_blockAt a_copied a_cells a_traces a_pcs a_states a_faults a_dones a_entryCounts : Nat → Int32}
variable {post : SX → Prop} {n d gl e0 p0 e p i j r t b : Nat} {S : Nat → Prop} {G : (Nat → Int32) → (Nat → Int32) → Nat → Int32 → Nat → Prop} {P0 D0 N0 ST FA C C2 : Nat → Int32} {D D2 D' x v f tp fv nx kk : Int32}
theorem sm_sz (hn : n ≤ 32) : ¬ nI 32 < nI n := nI_nlt (a := 32) hn (by omega)
theorem sm_lt (F : sm_F a_words a_leader a_home a_code a_jump a_blockAt a_copied n d S G gl) (hi : S i) : i < n := (F.2.2.2.2.2.1.2.1 i hi).1
/-- the operands of a word that doesn't touch the load in flight -/
theorem sm_fr (F : sm_F a_words a_leader a_home a_code a_jump a_blockAt a_copied n d S G gl) (hi : i < n) (hr : r < 32) (hw : dm_wr a_cells 1 r f_flightValue = C) (sf : tb_SF a_words a_code n p (nI r)) (hc : a_code p = nI i) : dm_E a_words a_leader a_cells (nI n) (nI d) 1 i = dm_E a_words a_leader C (nI n) (nI d) 1 i := by
  rw [← hw]
  exact (E_wr (F.2.2.1 i hi) F.2.1 rfl (by omega) (fun _ => sf i hi hc) (fun q => by omega)).symm
/-- mode A at a plain word -/
theorem sm_A1 (F : sm_F a_words a_leader a_home a_code a_jump a_blockAt a_copied n d S G gl) (k : ∀ (g1 g2 g3 g4 g5 g6 gn gs gt gr gv : Int32) (gC gT gP gS gF gD gE : Nat → Int32), sm_I a_words a_leader a_home a_code a_jump a_copied n d S G gl P0 D0 N0 ST FA e0 p0 gn gs gt gr gv gC gT gP gS gF gD gE → post (f_maxWords, nI d, nI n, f_ready, f_codeSize, f_shadow, g1, g2, g3, g4, g5, g6, gn, gs, gt, gr, gv, a_words, a_leader, a_moved, a_early, a_home, a_code, a_jump, a_blockAt, a_copied, gC, gT, gP, gS, gF, gD, gE)) (he : e < gl) (ee : e = e0) (ep : p = p0) (hG : G C a_traces i D e) (hS : S i) (K : tb_K1 a_words a_leader a_home a_code n (nI d) S i) (hp : dm_h a_home i = p)
    (hr : r < 32) (hf : f_flightReg = nI r) (hw : dm_wr a_cells 1 r f_flightValue = C) (sf : tb_SF a_words a_code n p (nI r))
    (hn : f_npc = nI p) (hs : f_slotOf = -1) (hD : a_dones = upd D0 1 D) (hN : a_entryCounts = upd N0 1 (nI e)) (hP : a_pcs = upd P0 1 x) (hT : a_states = upd ST 1 0) (hF : a_faults = FA) : wpX_nativeStep post (f_maxWords, nI d, nI n, f_ready, f_codeSize, f_shadow, f_resReg, f_resValue, f_resTrap, f_resFault, f_resNext, f_resTaken, f_npc, f_slotOf, f_slotTo, f_flightReg, f_flightValue, a_words, a_leader, a_moved, a_early, a_home, a_code, a_jump, a_blockAt, a_copied, a_cells, a_traces, a_pcs, a_states, a_faults, a_dones, a_entryCounts) (nI gl) := by
  have n32 := F.1
  have hi := sm_lt F hS
  have hb := sm_hb F hS
  have hs0 : f_slotOf < 0 := by rw [hs]; decide
  obtain ⟨pl, hc, i1, nx, ld⟩ := K
  rw [hp] at hc nx ld hb
  obtain ⟨t, v, tp, f, hE, t64, t1, t2⟩ := pf_plain (L := a_leader) (C := C) n32 F.2.1 F.2.2.1 hi pl
  have hE' := (sm_fr F hi hr hw sf hc).trans hE
  refine xn_head (p := p) (r := r) (by omega) hn (by omega) hc F.2.1 rfl (sm_sz n32) (F.2.2.1 i hi) (by omega) hf hE' (fun z => ?_) (fun _ q => absurd q pl.1) (fun z _ => ?_)
  · refine xn_stopA hs0 (k _ _ _ _ _ _ _ _ _ _ _ _ _ _ _ _ _ _ (Or.inr (Or.inr ⟨i, e, t, D, v, tp, f, nI (i + 1), 0, z, ?_, ?_, ?_, hD, hN, rfl, hS, he, ?_, ?_⟩)))
    · rw [hT, dm_uu]
    · rw [hF]
    · rw [hP, dm_uu]
    · rw [hw]; exact hG
    · rw [hw]; exact hE
  · subst z
    refine xn_finA (p := p) (t := t) (by omega) hn hs0 (by omega) t64 rfl rfl (fun C' r' fv' cm => ?_)
    rw [hw] at cm
    refine sm_nx F k (by omega) he hG i1 hE t1 t2 nx ld cm rfl rfl hs ?_ hN hP hT hF (Or.inl ⟨ee, by omega⟩)
    rw [hD, dm_u1]
/-- mode A at a BREAK -/
theorem sm_A4 (F : sm_F a_words a_leader a_home a_code a_jump a_blockAt a_copied n d S G gl) (k : ∀ (g1 g2 g3 g4 g5 g6 gn gs gt gr gv : Int32) (gC gT gP gS gF gD gE : Nat → Int32), sm_I a_words a_leader a_home a_code a_jump a_copied n d S G gl P0 D0 N0 ST FA e0 p0 gn gs gt gr gv gC gT gP gS gF gD gE → post (f_maxWords, nI d, nI n, f_ready, f_codeSize, f_shadow, g1, g2, g3, g4, g5, g6, gn, gs, gt, gr, gv, a_words, a_leader, a_moved, a_early, a_home, a_code, a_jump, a_blockAt, a_copied, gC, gT, gP, gS, gF, gD, gE)) (he : e < gl) (hG : G C a_traces i D e) (hS : S i) (K : tb_K4 a_words a_home a_code i) (hp : dm_h a_home i = p)
    (hr : r < 32) (hf : f_flightReg = nI r) (hw : dm_wr a_cells 1 r f_flightValue = C) (sf : tb_SF a_words a_code n p (nI r))
    (hn : f_npc = nI p) (hs : f_slotOf = -1) (hD : a_dones = upd D0 1 D) (hN : a_entryCounts = upd N0 1 (nI e)) (hP : a_pcs = upd P0 1 x) (hT : a_states = upd ST 1 0) (hF : a_faults = FA) : wpX_nativeStep post (f_maxWords, nI d, nI n, f_ready, f_codeSize, f_shadow, f_resReg, f_resValue, f_resTrap, f_resFault, f_resNext, f_resTaken, f_npc, f_slotOf, f_slotTo, f_flightReg, f_flightValue, a_words, a_leader, a_moved, a_early, a_home, a_code, a_jump, a_blockAt, a_copied, a_cells, a_traces, a_pcs, a_states, a_faults, a_dones, a_entryCounts) (nI gl) := by
  have n32 := F.1
  have hi := sm_lt F hS
  have hb := sm_hb F hS
  have hs0 : f_slotOf < 0 := by rw [hs]; decide
  obtain ⟨bk, hc⟩ := K
  rw [hp] at hc hb
  have hE : dm_E a_words a_leader C (nI n) (nI d) 1 i = (0, 0, 1, 0, nI i + 1, 0) := ev_bk bk
  have hE' := (sm_fr F hi hr hw sf hc).trans hE
  refine xn_head (p := p) (r := r) (by omega) hn (by omega) hc F.2.1 rfl (sm_sz n32) (F.2.2.1 i hi) (by omega) hf hE' (fun z => ?_) (fun z _ => absurd z (by decide)) (fun z _ => absurd z (by decide))
  refine xn_stopA hs0 (k _ _ _ _ _ _ _ _ _ _ _ _ _ _ _ _ _ _ (Or.inr (Or.inr ⟨i, e, 0, D, 0, 1, 0, nI i + 1, 0, z, ?_, ?_, ?_, hD, hN, rfl, hS, he, ?_, ?_⟩)))
  · rw [hT, dm_uu]
  · rw [hF]
  · rw [hP, dm_uu]
  · rw [hw]; exact hG
  · rw [hw]; exact hE
/-- a branch is begun (from mode A, or again after an interrupt) -/
theorem sm_br (F : sm_F a_words a_leader a_home a_code a_jump a_blockAt a_copied n d S G gl) (k : ∀ (g1 g2 g3 g4 g5 g6 gn gs gt gr gv : Int32) (gC gT gP gS gF gD gE : Nat → Int32), sm_I a_words a_leader a_home a_code a_jump a_copied n d S G gl P0 D0 N0 ST FA e0 p0 gn gs gt gr gv gC gT gP gS gF gD gE → post (f_maxWords, nI d, nI n, f_ready, f_codeSize, f_shadow, g1, g2, g3, g4, g5, g6, gn, gs, gt, gr, gv, a_words, a_leader, a_moved, a_early, a_home, a_code, a_jump, a_blockAt, a_copied, gC, gT, gP, gS, gF, gD, gE)) (he : e < gl) (ee : e = e0) (ep : p = p0) (hG : G C a_traces i D e) (hS : S i) (hp : dm_h a_home i = p) (hbn : b < n) (hc : a_code p = nI b) (hs2 : dm_HS (a_words b))
    (hE : dm_E a_words a_leader C (nI n) (nI d) 1 b = (t, v, tp, f, nx, kk)) (t64 : t < 64) (hE' : dm_E a_words a_leader a_cells (nI n) (nI d) 1 b = (t, v, tp, f, nx, kk))
    (htp : ¬ tp = 0 → b = i ∧ dm_wr a_cells 1 r f_flightValue = C)
    (hok : tp = 0 → ∃ j, nx = nI j ∧ j < n ∧ ¬ a_leader j = 0 ∧ (¬ a_copied p = 0 → b = i))
    (hr : r < 32) (hf : f_flightReg = nI r) (hw : dm_wr (dm_wr a_cells 1 r f_flightValue) 1 t v = dm_wr C 1 t v)
    (hn : f_npc = nI p) (hs : f_slotOf = -1) (hD : a_dones = upd D0 1 D) (hN : a_entryCounts = upd N0 1 (nI e)) (hP : a_pcs = upd P0 1 x) (hT : a_states = upd ST 1 0) (hF : a_faults = FA) : wpX_nativeStep post (f_maxWords, nI d, nI n, f_ready, f_codeSize, f_shadow, f_resReg, f_resValue, f_resTrap, f_resFault, f_resNext, f_resTaken, f_npc, f_slotOf, f_slotTo, f_flightReg, f_flightValue, a_words, a_leader, a_moved, a_early, a_home, a_code, a_jump, a_blockAt, a_copied, a_cells, a_traces, a_pcs, a_states, a_faults, a_dones, a_entryCounts) (nI gl) := by
  have n32 := F.1
  have hi := sm_lt F hS
  have hb := sm_hb F hS
  have hs0 : f_slotOf < 0 := by rw [hs]; decide
  rw [hp] at hb
  refine xn_head (p := p) (r := r) (by omega) hn (by omega) hc F.2.1 rfl (sm_sz n32) (F.2.2.1 b hbn) (by omega) hf hE' (fun z => ?_) (fun z _ => ?_) (fun _ q => absurd hs2 q)
  · obtain ⟨rfl, hw0⟩ := htp z
    refine xn_stopA hs0 (k _ _ _ _ _ _ _ _ _ _ _ _ _ _ _ _ _ _ (Or.inr (Or.inr ⟨b, e, t, D, v, tp, f, nx, kk, z, ?_, ?_, ?_, hD, hN, rfl, hS, he, ?_, ?_⟩)))
    · rw [hT, dm_uu]
    · rw [hF]
    · rw [hP, dm_uu]
    · rw [hw0]; exact hG
    · rw [hw0]; exact hE
  · subst z
    obtain ⟨j, rfl, hj, hl, hbi⟩ := hok rfl
    have eN : a_entryCounts 1 + 1 = nI gl ↔ e + 1 = gl := by
      rw [hN, pk_us, nI_1]
      have := F.2.2.2.2.2.2.1
      exact nI_eq (by omega) (by omega)
    have go : ∀ z : Int32, (kk = 0 → z = nI (p + 2)) → (¬ kk = 0 → dm_HT (a_words b) → z = a_jump p) → (¬ kk = 0 → ¬ dm_HT (a_words b) → j < 32 ∧ nI j = nI j ∧ z = a_home j) → wpX_beginBranch post (f_maxWords, nI d, nI n, f_ready, f_codeSize, f_shadow, nI t, v, 0, f, nI j, kk, f_npc, f_slotOf, f_slotTo, 0, f_flightValue, a_words, a_leader, a_moved, a_early, a_home, a_code, a_jump, a_blockAt, a_copied, dm_wr a_cells 1 r f_flightValue, a_traces, a_pcs, a_states, a_faults, a_dones, a_entryCounts) (nI b) (nI gl) := by
      intro z z0 z1 z2
      refine xn_begin (p := p) (t := t) (j := j) (z := z) (by omega) hn (by omega) t64 rfl z0 z1 z2 (fun q => ?_) (fun q1 q2 => ?_)
      · refine k _ _ _ _ _ _ _ _ _ _ _ _ _ _ _ _ _ _ (Or.inl ⟨e, p + 1, x, D, hT, hF, hP, hD, hN, ⟨C, i, D, he, hG, Or.inr (Or.inr (Or.inr (Or.inr ?_)))⟩, Or.inl ⟨ee, by omega⟩⟩)
        refine ⟨by rw [hp], rfl, by rw [hp], hS, rfl, rfl, ?_, b, t, j, v, f, kk, hbn, ?_, hs2, hE, hw, hj, hl, ?_, ?_, ?_⟩
        · rw [hp]; exact fun y => q ⟨y.1, eN.mpr y.2⟩
        · rw [hp]; exact hc
        · rw [hp]; exact z0
        · rw [hp]; exact z1
        · exact fun a b => (z2 a b).2.2
      · have e1 := eN.mp q2
        have bi := hbi q1
        subst bi
        have g1 := F.2.2.2.2.2.2.2.2.1 C a_traces b D e t v f j kk hG hi he hE hj hl
        have sj := (F.2.2.2.2.2.1.2.2.1 j hj hl).1
        refine k _ _ _ _ _ _ _ _ _ _ _ _ _ _ _ _ _ _ (Or.inr (Or.inl ⟨j, 0, D + 1, hT, hF, ?_, ?_, ?_, by omega, rfl, sj, ?_⟩))
        · rw [hP, dm_uu]
        · rw [hD, dm_u1]
        · rw [hN, dm_u1, nI_1, e1]
        · rw [wr_0, hw, hN, pk_us, ← e1]
          exact g1
    by_cases k0 : kk = 0
    · exact go (nI (p + 2)) (fun _ => rfl) (fun q => absurd k0 q) (fun q => absurd k0 q)
    · by_cases ht : dm_HT (a_words b)
      · exact go (a_jump p) (fun q => absurd q k0) (fun _ _ => rfl) (fun _ q => absurd ht q)
      · exact go (a_home j) (fun q => absurd q k0) (fun _ q => absurd q ht) (fun _ _ => ⟨by omega, rfl, rfl⟩)
end SS
end
section
section PF2
variable {W L C : Nat → Int32} {n d b : Nat}
/-- a word with a slot: its outcome, and that it doesn't read what it writes -/
theorem pf_hs (hn : n ≤ 32) (hd : d ≤ 32) (ac : dm_Acc W n) (ti : dm_TI W n) (hL : dm_LR W L n) (hb : b < n) (h : dm_HS (W b)) (hx : dm_HT (W b) → ¬ dm_JM (W b) → b + 1 < n) :
    ∃ (t : Nat) (v tp f nx kk : Int32), dm_E W L C (nI n) (nI d) 1 b = (t, v, tp, f, nx, kk) ∧ t < 64 ∧ (∀ (C' : Nat → Int32) (v' : Int32), dm_E W L (dm_wr C' 1 t v') (nI n) (nI d) 1 b = dm_E W L C' (nI n) (nI d) 1 b) ∧
      (tp = 0 → ∃ j, nx = nI j ∧ j < n ∧ ¬ L j = 0) ∧ (¬ tp = 0 → ¬ dm_HT (W b)) := by
  by_cases ht : dm_HT (W b)
  · obtain ⟨j, k, e, hj, hl, _⟩ := pf_ht (C := C) (d := d) hn ac ti hL hb ht (hx ht)
    refine ⟨_, _, _, _, _, _, e, ?_, fun C' v' => ?_, fun _ => ⟨j, rfl, hj, hl⟩, fun q => absurd rfl q⟩
    · by_cases lk : dm_LK (W b)
      · rw [dm_it lk]; omega
      · rw [dm_in lk]; omega
    · by_cases lk : dm_LK (W b)
      · rw [dm_it lk]
        exact E_wrR (ac b hb) hd rfl (by omega) (fun _ => pf_lk (ac b hb) lk) (fun q => by omega)
      · rw [dm_in lk, wr_0]
  · have jr : dm_FN (W b) 8 := h.elim (fun q => absurd q ht) id
    rcases pf_jr (L := L) (C := C) (d := d) hn hb jr with ⟨j, e, hj, hl⟩ | ⟨a, e⟩
    · exact ⟨_, _, _, _, _, _, e, by omega, fun C' v' => by rw [wr_0], fun _ => ⟨j, rfl, hj, hl⟩, fun q => absurd rfl q⟩
    · exact ⟨_, _, _, _, _, _, e, by omega, fun C' v' => by rw [wr_0], fun q => absurd q (by decide), fun _ => ht⟩
end PF2
section SS2
variable {f_maxWords f_dataCount f_size f_ready f_codeSize f_shadow f_resReg f_resValue f_resTrap f_resFault f_resNext f_resTaken f_npc f_slotOf f_slotTo f_flightReg f_flightValue : Int32} {a_words a_leader a_moved a_early a_home a_code a_jump a_blockAt a_copied a_cells a_traces a_pcs a_states a_faults a_dones a_entryCounts : Nat → Int32}
variable {post : SX → Prop} {n d gl e0 p0 e p i j r t b : Nat} {S : Nat → Prop} {G : (Nat → Int32) → (Nat → Int32) → Nat → Int32 → Nat → Prop} {P0 D0 N0 ST FA C C2 : Nat → Int32} {D D2 D' x v f tp fv nx kk : Int32}
theorem sm_A (F : sm_F a_words a_leader a_home a_code a_jump a_blockAt a_copied n d S G gl) (k : ∀ (g1 g2 g3 g4 g5 g6 gn gs gt gr gv : Int32) (gC gT gP gS gF gD gE : Nat → Int32), sm_I a_words a_leader a_home a_code a_jump a_copied n d S G gl P0 D0 N0 ST FA e0 p0 gn gs gt gr gv gC gT gP gS gF gD gE → post (f_maxWords, nI d, nI n, f_ready, f_codeSize, f_shadow, g1, g2, g3, g4, g5, g6, gn, gs, gt, gr, gv, a_words, a_leader, a_moved, a_early, a_home, a_code, a_jump, a_blockAt, a_copied, gC, gT, gP, gS, gF, gD, gE)) (he : e < gl) (ee : e = e0) (ep : p = p0) (hG : G C a_traces i D e) (M : sm_MA a_words a_leader a_home a_code n d S C i D f_npc f_slotOf f_flightReg f_flightValue a_cells D' p)
    (hD : a_dones = upd D0 1 D') (hN : a_entryCounts = upd N0 1 (nI e)) (hP : a_pcs = upd P0 1 x) (hT : a_states = upd ST 1 0) (hF : a_faults = FA) : wpX_nativeStep post (f_maxWords, nI d, nI n, f_ready, f_codeSize, f_shadow, f_resReg, f_resValue, f_resTrap, f_resFault, f_resNext, f_resTaken, f_npc, f_slotOf, f_slotTo, f_flightReg, f_flightValue, a_words, a_leader, a_moved, a_early, a_home, a_code, a_jump, a_blockAt, a_copied, a_cells, a_traces, a_pcs, a_states, a_faults, a_dones, a_entryCounts) (nI gl) := by
  obtain ⟨hs, hn, hp, hS, eD, r, hr, hf, cs⟩ := M
  subst eD
  have n32 := F.1
  have hi := sm_lt F hS
  rcases (F.2.2.2.2.2.1.2.1 i hS).2 with K | K | K | K
  · have K' := K
    obtain ⟨pl, hc, _⟩ := K'
    rw [hp] at hc
    rcases cs with ⟨hw, sf⟩ | ⟨_, b, t, v, f, nx, kk, hbn, cb, hsb, _⟩
    · exact sm_A1 F k he ee ep hG hS K hp hr hf hw sf hn hs hD hN hP hT hF
    · have := dm_inj (by omega) (by omega) (cb.symm.trans hc)
      subst this
      exact absurd hsb pl.1
  · obtain ⟨hs2, hc, sl, fall⟩ := K
    obtain ⟨t, v, tp, f, nx, kk, hE, t64, idm, nxt, ntr⟩ := pf_hs (C := C) (d := d) n32 F.2.1 F.2.2.1 F.2.2.2.1 F.2.2.2.2.1 hi hs2 (fun a b => (fall a b).1)
    rw [hp] at hc
    have hok : tp = 0 → ∃ j, nx = nI j ∧ j < n ∧ ¬ a_leader j = 0 ∧ (¬ a_copied p = 0 → i = i) := fun q => by
      obtain ⟨j, a, b, c⟩ := nxt q
      exact ⟨j, a, b, c, fun _ => rfl⟩
    rcases cs with ⟨hw, sf⟩ | ⟨r0, b, t', v', f', nx', kk', hbn, cb, hsb, hE2, hcx⟩
    · exact sm_br F k he ee ep hG hS hp hi hc hs2 hE t64 ((sm_fr F hi hr hw sf hc).trans hE) (fun _ => ⟨rfl, hw⟩) hok hr hf (by rw [hw]) hn hs hD hN hP hT hF
    · have := dm_inj (by omega) (by omega) (cb.symm.trans hc)
      subst this
      rw [hE] at hE2
      injection hE2 with e1 hE2
      injection hE2 with e2 hE2
      injection hE2 with e3 hE2
      subst e1 e2 e3 r0
      refine sm_br F k he ee ep hG hS hp hi hc hs2 hE t64 ?_ (fun q => absurd rfl q) hok hr hf ?_ hn hs hD hN hP hT hF
      · rw [hcx, idm]; exact hE
      · rw [wr_0, hcx, wr_idem]
  · obtain ⟨cf, pl, i1, hc, sl, cp, ju, fall⟩ := K
    have hs2 : dm_HS (a_words (i + 1)) := Or.inl cf.1
    obtain ⟨t, v, tp, f, nx, kk, hE, t64, idm, nxt, ntr⟩ := pf_hs (C := C) (d := d) n32 F.2.1 F.2.2.1 F.2.2.2.1 F.2.2.2.2.1 i1 hs2 (fun a b => (fall b).1)
    rw [hp] at hc cp
    have hok : tp = 0 → ∃ j, nx = nI j ∧ j < n ∧ ¬ a_leader j = 0 ∧ (¬ a_copied p = 0 → i + 1 = i) := fun q => by
      obtain ⟨j, a, b, c⟩ := nxt q
      exact ⟨j, a, b, c, fun q => absurd cp q⟩
    rcases cs with ⟨hw, sf⟩ | ⟨r0, b, t', v', f', nx', kk', hbn, cb, hsb, hE2, hcx⟩
    · exact sm_br F k he ee ep hG hS hp i1 hc hs2 hE t64 ((sm_fr F i1 hr hw sf hc).trans hE) (fun q => absurd cf.1 (ntr q)) hok hr hf (by rw [hw]) hn hs hD hN hP hT hF
    · have := dm_inj (by omega) (by omega) (cb.symm.trans hc)
      subst this
      rw [hE] at hE2
      injection hE2 with e1 hE2
      injection hE2 with e2 hE2
      injection hE2 with e3 hE2
      subst e1 e2 e3 r0
      refine sm_br F k he ee ep hG hS hp i1 hc hs2 hE t64 ?_ (fun q => absurd rfl q) hok hr hf ?_ hn hs hD hN hP hT hF
      · rw [hcx, idm]; exact hE
      · rw [wr_0, hcx, wr_idem]
  · have K' := K
    obtain ⟨bk, hc⟩ := K'
    rw [hp] at hc
    rcases cs with ⟨hw, sf⟩ | ⟨_, b, t, v, f, nx, kk, hbn, cb, hsb, _⟩
    · exact sm_A4 F k he hG hS K hp hr hf hw sf hn hs hD hN hP hT hF
    · have := dm_inj (by omega) (by omega) (cb.symm.trans hc)
      subst this
      exact absurd bk (fun z => dm_hsbk hsb z)
theorem sm_B (F : sm_F a_words a_leader a_home a_code a_jump a_blockAt a_copied n d S G gl) (k : ∀ (g1 g2 g3 g4 g5 g6 gn gs gt gr gv : Int32) (gC gT gP gS gF gD gE : Nat → Int32), sm_I a_words a_leader a_home a_code a_jump a_copied n d S G gl P0 D0 N0 ST FA e0 p0 gn gs gt gr gv gC gT gP gS gF gD gE → post (f_maxWords, nI d, nI n, f_ready, f_codeSize, f_shadow, g1, g2, g3, g4, g5, g6, gn, gs, gt, gr, gv, a_words, a_leader, a_moved, a_early, a_home, a_code, a_jump, a_blockAt, a_copied, gC, gT, gP, gS, gF, gD, gE)) (he : e < gl) (ee : e = e0) (ep : p = p0) (hG : G C a_traces i D e) (M : sm_MB a_words a_leader a_home a_code n d S C i D f_npc f_slotOf f_flightReg f_flightValue a_cells D' p)
    (hD : a_dones = upd D0 1 D') (hN : a_entryCounts = upd N0 1 (nI e)) (hP : a_pcs = upd P0 1 x) (hT : a_states = upd ST 1 0) (hF : a_faults = FA) : wpX_nativeStep post (f_maxWords, nI d, nI n, f_ready, f_codeSize, f_shadow, f_resReg, f_resValue, f_resTrap, f_resFault, f_resNext, f_resTaken, f_npc, f_slotOf, f_slotTo, f_flightReg, f_flightValue, a_words, a_leader, a_moved, a_early, a_home, a_code, a_jump, a_blockAt, a_copied, a_cells, a_traces, a_pcs, a_states, a_faults, a_dones, a_entryCounts) (nI gl) := by
  obtain ⟨hs, hn, hc, hS, hp, hi, eD, t, v, f, hE, r, hr, hf, hw⟩ := M
  subst eD
  have i1 := sm_lt F hS
  have hb := sm_hb F hS
  have g1 := F.2.2.2.2.2.2.2.2.1 C a_traces i D e t v f (i + 1) 0 hG (by omega) he hE i1
  have g2 := fun l => F.2.2.2.2.2.2.2.2.2 C a_traces i D e t v f 0 hG (by omega) he hE i1 l
  refine xn_nopA (p := p) (r := r) (by omega) hn hc (by rw [hs]; decide) (by omega) hf ?_
  exact sm_arr F k (r := 0) hp hS he ⟨g1, g2⟩ (by omega) rfl ((wr_0).trans hw) tb_SF0 rfl hs hD hN hP hT hF (Or.inl ⟨ee, by omega⟩)
theorem sm_C (F : sm_F a_words a_leader a_home a_code a_jump a_blockAt a_copied n d S G gl) (k : ∀ (g1 g2 g3 g4 g5 g6 gn gs gt gr gv : Int32) (gC gT gP gS gF gD gE : Nat → Int32), sm_I a_words a_leader a_home a_code a_jump a_copied n d S G gl P0 D0 N0 ST FA e0 p0 gn gs gt gr gv gC gT gP gS gF gD gE → post (f_maxWords, nI d, nI n, f_ready, f_codeSize, f_shadow, g1, g2, g3, g4, g5, g6, gn, gs, gt, gr, gv, a_words, a_leader, a_moved, a_early, a_home, a_code, a_jump, a_blockAt, a_copied, gC, gT, gP, gS, gF, gD, gE)) (he : e < gl) (ee : e = e0) (ep : p = p0) (hG : G C a_traces i D e) (M : sm_MC a_words a_leader a_home a_code n d S C i D f_npc f_slotOf f_flightReg f_flightValue a_cells D' p)
    (hD : a_dones = upd D0 1 D') (hN : a_entryCounts = upd N0 1 (nI e)) (hP : a_pcs = upd P0 1 x) (hT : a_states = upd ST 1 0) (hF : a_faults = FA) : wpX_nativeStep post (f_maxWords, nI d, nI n, f_ready, f_codeSize, f_shadow, f_resReg, f_resValue, f_resTrap, f_resFault, f_resNext, f_resTaken, f_npc, f_slotOf, f_slotTo, f_flightReg, f_flightValue, a_words, a_leader, a_moved, a_early, a_home, a_code, a_jump, a_blockAt, a_copied, a_cells, a_traces, a_pcs, a_states, a_faults, a_dones, a_entryCounts) (nI gl) := by
  obtain ⟨hs, hn, sw, eD, r, hr, hf, hw, sf⟩ := M
  subst eD
  have n32 := F.1
  have hs0 : f_slotOf < 0 := by rw [hs]; decide
  have sw' := sw
  obtain ⟨c0, c1, q0, q1, tc1, tc0, l0, l1, i2, h2, s2⟩ := sw'
  have hb := sm_hb F s2
  obtain ⟨t, v, tp, f, hE, t64, t1, t2⟩ := pf_plain (L := a_leader) (C := C) n32 F.2.1 F.2.2.1 (show i + 1 < n by omega) q1.1
  have hE' := (sm_fr F (by omega) hr hw sf c0).trans hE
  have nt := pf_noTrap (L := a_leader) (C := C) F.2.2.1 (show i + 1 < n by omega) q1.1 q1.2.2 (F.2.2.2.2.2.2.2.1 _ _ _ _ _ hG)
  rw [hE] at nt
  have nt : tp = 0 := nt
  subst nt
  refine xn_head (p := p) (r := r) (by omega) hn (show i + 1 < 32 by omega) c0 F.2.1 rfl (sm_sz n32) (F.2.2.1 _ (by omega)) (by omega) hf hE' (fun z => absurd rfl z) (fun _ q => absurd q q1.1.1) (fun z _ => ?_)
  refine xn_finA (p := p) (t := t) (by omega) hn hs0 (by omega) t64 rfl rfl (fun C' r' fv' cm => ?_)
  rw [hw] at cm
  have ba := tb_ba3 n32 F.2.2.2.2.2.1 (by omega) sw
  refine And.intro (fun _ => ?_) (fun z => absurd ba z)
  rcases cm with ⟨l, _⟩ | ⟨_, a, b, c⟩
  · exact absurd (show 32 ≤ dm_op (a_words (i + 1)) by rw [show dm_op (a_words (i + 1)) = 35 from l]; decide) q1.2.1
  subst a b c
  refine k _ _ _ _ _ _ _ _ _ _ _ _ _ _ _ _ _ _ (Or.inl ⟨e, p + 1, x, D' + 1, hT, hF, hP, ?_, hN, ⟨C, i, D', he, hG, Or.inr (Or.inr (Or.inr (Or.inl ⟨hs, rfl, p, rfl, sw, rfl, rfl, t, v, f, hE, rfl⟩)))⟩, Or.inl ⟨ee, by omega⟩⟩)
  rw [hD, dm_u1]
theorem sm_D (F : sm_F a_words a_leader a_home a_code a_jump a_blockAt a_copied n d S G gl) (k : ∀ (g1 g2 g3 g4 g5 g6 gn gs gt gr gv : Int32) (gC gT gP gS gF gD gE : Nat → Int32), sm_I a_words a_leader a_home a_code a_jump a_copied n d S G gl P0 D0 N0 ST FA e0 p0 gn gs gt gr gv gC gT gP gS gF gD gE → post (f_maxWords, nI d, nI n, f_ready, f_codeSize, f_shadow, g1, g2, g3, g4, g5, g6, gn, gs, gt, gr, gv, a_words, a_leader, a_moved, a_early, a_home, a_code, a_jump, a_blockAt, a_copied, gC, gT, gP, gS, gF, gD, gE)) (he : e < gl) (ee : e = e0) (ep : p = p0) (hG : G C a_traces i D e) (M : sm_MD a_words a_leader a_home a_code n d S C i D f_npc f_slotOf f_flightReg a_cells D' p)
    (hD : a_dones = upd D0 1 D') (hN : a_entryCounts = upd N0 1 (nI e)) (hP : a_pcs = upd P0 1 x) (hT : a_states = upd ST 1 0) (hF : a_faults = FA) : wpX_nativeStep post (f_maxWords, nI d, nI n, f_ready, f_codeSize, f_shadow, f_resReg, f_resValue, f_resTrap, f_resFault, f_resNext, f_resTaken, f_npc, f_slotOf, f_slotTo, f_flightReg, f_flightValue, a_words, a_leader, a_moved, a_early, a_home, a_code, a_jump, a_blockAt, a_copied, a_cells, a_traces, a_pcs, a_states, a_faults, a_dones, a_entryCounts) (nI gl) := by
  obtain ⟨hs, hn, q, epq, sw, eD, hf, t, v, f, hE1, hcx⟩ := M
  subst eD
  have n32 := F.1
  have hs0 : f_slotOf < 0 := by rw [hs]; decide
  obtain ⟨c0, c1, q0, q1, tc1, tc0, l0, l1, i2, h2, s2⟩ := sw
  have hb := sm_hb F s2
  obtain ⟨t0, v0, tp0, f0, hE0, t64, t01, t02⟩ := pf_plain (L := a_leader) (C := C) n32 F.2.1 F.2.2.1 (show i < n by omega) q0.1
  obtain ⟨t', v', tp', f', hE1', t64', t11, t12⟩ := pf_plain (L := a_leader) (C := C) n32 F.2.1 F.2.2.1 (show i + 1 < n by omega) q1.1
  rw [hE1] at hE1'
  injection hE1' with e1 hE1'
  injection hE1' with e2 hE1'
  subst e1 e2
  have nt := pf_noTrap (L := a_leader) (C := C) F.2.2.1 (show i < n by omega) q0.1 q0.2.2 (F.2.2.2.2.2.2.2.1 _ _ _ _ _ hG)
  rw [hE0] at nt
  have nt : tp0 = 0 := nt
  subst nt
  have no43 : ∀ {w : Int32}, dm_QT (nI d) w → ¬ dm_op w = 43 := fun q z => q.2.1 (by rw [z]; decide)
  have lt0 : t0 < 32 := Nat.lt_of_not_le fun z => no43 q0 (t02 z)
  have lt1 : t < 32 := Nat.lt_of_not_le fun z => no43 q1 (t12 z)
  have hE0' : dm_E a_words a_leader a_cells (nI n) (nI d) 1 i = (t0, v0, 0, f0, nI (i + 1), 0) := by
    rw [hcx, ← hE0]
    refine E_wr (F.2.2.1 i (by omega)) F.2.1 rfl (by omega) (fun _ => ?_) (fun z => by omega)
    by_cases z : t = 0
    · rw [z]; exact dm_TC0
    · rw [← t11 lt1 z]; exact tc0
  have hE1c : dm_E a_words a_leader (dm_wr C 1 t0 v0) (nI n) (nI d) 1 (i + 1) = (t, v, 0, f, nI (i + 2), 0) := by
    rw [← hE1]
    refine E_wr (F.2.2.1 (i + 1) (by omega)) F.2.1 rfl (by omega) (fun _ => ?_) (fun z => by omega)
    by_cases z : t0 = 0
    · rw [z]; exact dm_TC0
    · rw [← t01 lt0 z]; exact tc1
  have ne : t0 ≠ t ∨ t0 = 0 ∨ t = 0 := by
    by_cases z : t0 = 0
    · exact Or.inr (Or.inl z)
    · by_cases y : t = 0
      · exact Or.inr (Or.inr y)
      · refine Or.inl fun q => tc1 ⟨?_, Or.inl ?_⟩
        · rw [t01 lt0 z]; exact nI_ne0 (by omega) (by omega)
        · rw [t11 lt1 y, t01 lt0 z, q]
  have ga := F.2.2.2.2.2.2.2.2.2 C a_traces i D e t0 v0 f0 0 hG (by omega) he hE0 (by omega) l1
  have g1 := F.2.2.2.2.2.2.2.2.1 _ a_traces (i + 1) _ e t v f (i + 2) 0 ga (by omega) he hE1c i2
  have g2 := fun l => F.2.2.2.2.2.2.2.2.2 _ a_traces (i + 1) _ e t v f 0 ga (by omega) he hE1c i2 l
  subst epq
  refine xn_head (p := q + 1) (r := 0) (by omega) hn (show i < 32 by omega) c1 F.2.1 rfl (sm_sz n32) (F.2.2.1 _ (by omega)) (by omega) hf hE0' (fun z => absurd rfl z) (fun _ q => absurd q q0.1.1) (fun z _ => ?_)
  refine xn_finA (p := q + 1) (t := t0) (by omega) hn hs0 (by omega) t64 rfl rfl (fun C' r' fv' cm => ?_)
  rcases cm with ⟨l, _⟩ | ⟨_, a, b, c⟩
  · exact absurd (show 32 ≤ dm_op (a_words i) by rw [show dm_op (a_words i) = 35 from l]; decide) q0.2.1
  subst a b c
  refine sm_arr F k (r := 0) h2 s2 he ⟨g1, g2⟩ (by omega) rfl ?_ tb_SF0 rfl hs ?_ hN hP hT hF (Or.inl ⟨ee, by omega⟩)
  · rw [wr_0, wr_0, hcx]
    exact (wr_comm ne).symm
  · rw [hD, dm_u1]
end SS2
end
section
/-! a step in a slot -/
section PF3
variable {W L C : Nat → Int32} {n d b t j : Nat} {v f k : Int32}
/-- where a branch goes on -/
theorem pf_to (hn : n ≤ 32) (ac : dm_Acc W n) (ti : dm_TI W n) (hL : dm_LR W L n) (hb : b < n) (hj : j < n) (h : dm_HS (W b)) (hx : dm_HT (W b) → ¬ dm_JM (W b) → b + 1 < n) (hE : dm_E W L C (nI n) (nI d) 1 b = (t, v, 0, f, nI j, k)) :
    (dm_HT (W b) ∧ t = dm_if (dm_LK (W b)) 31 0 ∧ ((¬ k = 0 ∧ j = dm_tN W b) ∨ (k = 0 ∧ j = b + 1 ∧ ¬ dm_JM (W b)))) ∨ (¬ dm_HT (W b) ∧ t = 0 ∧ ¬ k = 0) := by
  by_cases ht : dm_HT (W b)
  · obtain ⟨j', k', e, hj', hl, cs⟩ := pf_ht (C := C) (d := d) hn ac ti hL hb ht (hx ht)
    rw [hE] at e
    simp only [Prod.mk.injEq] at e
    obtain ⟨et, _, _, _, ej, ek⟩ := e
    have := dm_inj (by omega) (by omega) ej
    subst this ek
    exact Or.inl ⟨ht, et, cs⟩
  · have jr : dm_FN (W b) 8 := h.elim (fun q => absurd q ht) id
    rcases pf_jr (L := L) (C := C) (d := d) hn hb jr with ⟨j', e, _, _⟩ | ⟨a, e⟩
    · rw [hE] at e
      simp only [Prod.mk.injEq] at e
      obtain ⟨et, _, _, _, _, ek⟩ := e
      exact Or.inr ⟨ht, et, by rw [ek]; decide⟩
    · rw [hE] at e
      simp only [Prod.mk.injEq] at e
      exact absurd e.2.2.1 (by decide)
end PF3
section SS3
variable {f_maxWords f_dataCount f_size f_ready f_codeSize f_shadow f_resReg f_resValue f_resTrap f_resFault f_resNext f_resTaken f_npc f_slotOf f_slotTo f_flightReg f_flightValue : Int32} {a_words a_leader a_moved a_early a_home a_code a_jump a_blockAt a_copied a_cells a_traces a_pcs a_states a_faults a_dones a_entryCounts : Nat → Int32}
variable {post : SX → Prop} {n d gl e0 p0 e p i j r t b : Nat} {S : Nat → Prop} {G : (Nat → Int32) → (Nat → Int32) → Nat → Int32 → Nat → Prop} {P0 D0 N0 ST FA C C2 : Nat → Int32} {D D2 D' x v f tp fv nx kk : Int32}
/-- the slot holds a no-operation -/
theorem sm_S1 (F : sm_F a_words a_leader a_home a_code a_jump a_blockAt a_copied n d S G gl) (k : ∀ (g1 g2 g3 g4 g5 g6 gn gs gt gr gv : Int32) (gC gT gP gS gF gD gE : Nat → Int32), sm_I a_words a_leader a_home a_code a_jump a_copied n d S G gl P0 D0 N0 ST FA e0 p0 gn gs gt gr gv gC gT gP gS gF gD gE → post (f_maxWords, nI d, nI n, f_ready, f_codeSize, f_shadow, g1, g2, g3, g4, g5, g6, gn, gs, gt, gr, gv, a_words, a_leader, a_moved, a_early, a_home, a_code, a_jump, a_blockAt, a_copied, gC, gT, gP, gS, gF, gD, gE)) (he : e < gl) (ee : e = e0) (hG : G C a_traces i D e) (hS : S i) (hsp : f_slotOf = nI (dm_h a_home i)) (hn : f_npc = nI (dm_h a_home i + 1)) (hf : f_flightReg = 0)
    (hE : dm_E a_words a_leader C (nI n) (nI d) 1 i = (t, v, 0, f, nI j, kk)) (hcx : a_cells = dm_wr C 1 t v) (hj : j < n) (hl : ¬ a_leader j = 0)
    (hc : a_code (dm_h a_home i + 1) = -1) (hcp : a_copied (dm_h a_home i) = 0) (st : f_slotTo = nI (dm_h a_home j))
    (hD : a_dones = upd D0 1 D) (hN : a_entryCounts = upd N0 1 (nI e)) (hP : a_pcs = upd P0 1 x) (hT : a_states = upd ST 1 0) (hF : a_faults = FA) : wpX_nativeStep post (f_maxWords, nI d, nI n, f_ready, f_codeSize, f_shadow, f_resReg, f_resValue, f_resTrap, f_resFault, f_resNext, f_resTaken, f_npc, f_slotOf, f_slotTo, f_flightReg, f_flightValue, a_words, a_leader, a_moved, a_early, a_home, a_code, a_jump, a_blockAt, a_copied, a_cells, a_traces, a_pcs, a_states, a_faults, a_dones, a_entryCounts) (nI gl) := by
  have hi := sm_lt F hS
  have hb := sm_hb F hS
  have sj := (F.2.2.2.2.2.1.2.2.1 j hj hl).1
  have hbj := sm_hb F sj
  have g1 := F.2.2.2.2.2.2.2.2.1 C a_traces i D e t v f j kk hG (by omega) he hE hj
  refine xn_nopS (p := dm_h a_home i + 1) (q := dm_h a_home i) (t := dm_h a_home j) (r := 0) (by omega) hn hc (by omega) hsp hcp (by omega) st (by omega) hf ?_
  refine sm_arr F k (r := 0) rfl sj he ⟨g1, fun l => absurd l hl⟩ (by omega) rfl ?_ tb_SF0 rfl rfl ?_ hN hP hT hF (Or.inr (Or.inr ⟨by omega, hl⟩))
  · rw [wr_0, wr_0, hcx]
  · rw [hD, dm_u1]
/-- the slot holds a copy of the target's first word -/
theorem sm_S2 (F : sm_F a_words a_leader a_home a_code a_jump a_blockAt a_copied n d S G gl) (k : ∀ (g1 g2 g3 g4 g5 g6 gn gs gt gr gv : Int32) (gC gT gP gS gF gD gE : Nat → Int32), sm_I a_words a_leader a_home a_code a_jump a_copied n d S G gl P0 D0 N0 ST FA e0 p0 gn gs gt gr gv gC gT gP gS gF gD gE → post (f_maxWords, nI d, nI n, f_ready, f_codeSize, f_shadow, g1, g2, g3, g4, g5, g6, gn, gs, gt, gr, gv, a_words, a_leader, a_moved, a_early, a_home, a_code, a_jump, a_blockAt, a_copied, gC, gT, gP, gS, gF, gD, gE)) (he : e + 1 < gl) (ee : e = e0) (hG : G C a_traces i D e) (hS : S i) (hsp : f_slotOf = nI (dm_h a_home i)) (hn : f_npc = nI (dm_h a_home i + 1)) (hf : f_flightReg = 0)
    (hE : dm_E a_words a_leader C (nI n) (nI d) 1 i = (t, v, 0, f, nI j, kk)) (hcx : a_cells = dm_wr C 1 t v) (hj : j < n) (hl : ¬ a_leader j = 0)
    (hc : a_code (dm_h a_home i + 1) = nI j) (hcp : ¬ a_copied (dm_h a_home i) = 0) (hcj : a_code (dm_h a_home j) = nI j) (plj : dm_PL (a_words j)) (st : f_slotTo = nI (dm_h a_home j + 1))
    (hD : a_dones = upd D0 1 D) (hN : a_entryCounts = upd N0 1 (nI e)) (hP : a_pcs = upd P0 1 x) (hT : a_states = upd ST 1 0) (hF : a_faults = FA) : wpX_nativeStep post (f_maxWords, nI d, nI n, f_ready, f_codeSize, f_shadow, f_resReg, f_resValue, f_resTrap, f_resFault, f_resNext, f_resTaken, f_npc, f_slotOf, f_slotTo, f_flightReg, f_flightValue, a_words, a_leader, a_moved, a_early, a_home, a_code, a_jump, a_blockAt, a_copied, a_cells, a_traces, a_pcs, a_states, a_faults, a_dones, a_entryCounts) (nI gl) := by
  have n32 := F.1
  have hi := sm_lt F hS
  have hb := sm_hb F hS
  have sj := (F.2.2.2.2.2.1.2.2.1 j hj hl).1
  have hbj := sm_hb F sj
  have g1 := F.2.2.2.2.2.2.2.2.1 C a_traces i D e t v f j kk hG (by omega) (by omega) hE hj hl
  have K : tb_K1 a_words a_leader a_home a_code n (nI d) S j := by
    rcases (F.2.2.2.2.2.1.2.1 j sj).2 with K | K | K | K
    · exact K
    · exact absurd K.1 plj.1
    · have := dm_inj (by omega) (by omega) (K.2.2.2.1.symm.trans hcj)
      omega
    · exact absurd K.1 plj.2
  obtain ⟨pl, _, j1, nxj, ld⟩ := K
  obtain ⟨t', v', tp', f', hE', t64, t1, t2⟩ := pf_plain (L := a_leader) (C := a_cells) n32 F.2.1 F.2.2.1 hj pl
  have eN : a_entryCounts 1 = nI e := by rw [hN, pk_us]
  rw [← hcx] at g1
  refine xn_head (p := dm_h a_home i + 1) (r := 0) (by omega) hn (by omega) hc F.2.1 rfl (sm_sz n32) (F.2.2.1 j hj) (by omega) hf hE' (fun z => ?_) (fun _ q => absurd q pl.1) (fun z _ => ?_)
  · refine xn_stopC (q := dm_h a_home i) (by omega) hsp hcp (k _ _ _ _ _ _ _ _ _ _ _ _ _ _ _ _ _ _ (Or.inr (Or.inr ⟨j, e + 1, t', D + 1, v', tp', f', nI (j + 1), 0, z, ?_, ?_, ?_, ?_, ?_, rfl, sj, he, ?_, ?_⟩)))
    · rw [hT, dm_uu]
    · rw [hF]
    · rw [hP, dm_uu]
    · rw [hD, dm_u1]
    · rw [hN, dm_u1, nI_1]
    · rw [wr_0, eN]; exact g1
    · rw [wr_0]; exact hE'
  · subst z
    refine xn_finC (q := dm_h a_home i) (p := dm_h a_home j + 1) (t := t') (by omega) hsp hcp (by omega) st (by omega) t64 rfl rfl (fun C' r' fv' cm => ?_)
    rw [wr_0] at cm
    refine sm_nx F k (x := nI j) (e := e + 1) (D := D + 1) (C := a_cells) (by omega) he ?_ j1 hE' t1 t2 nxj ld cm rfl rfl rfl ?_ ?_ ?_ hT hF (Or.inr (by omega))
    · rw [eN]; exact g1
    · rw [hD, pk_us, dm_uu]
    · rw [hN, dm_u1, nI_1]
    · rw [hP, dm_uu]
/-- the slot holds the word ahead of the branch -/
theorem sm_S3 (F : sm_F a_words a_leader a_home a_code a_jump a_blockAt a_copied n d S G gl) (k : ∀ (g1 g2 g3 g4 g5 g6 gn gs gt gr gv : Int32) (gC gT gP gS gF gD gE : Nat → Int32), sm_I a_words a_leader a_home a_code a_jump a_copied n d S G gl P0 D0 N0 ST FA e0 p0 gn gs gt gr gv gC gT gP gS gF gD gE → post (f_maxWords, nI d, nI n, f_ready, f_codeSize, f_shadow, g1, g2, g3, g4, g5, g6, gn, gs, gt, gr, gv, a_words, a_leader, a_moved, a_early, a_home, a_code, a_jump, a_blockAt, a_copied, gC, gT, gP, gS, gF, gD, gE)) (he : e < gl) (ee : e = e0) (hG : G C a_traces i D e) (hS : S i) (hsp : f_slotOf = nI (dm_h a_home i)) (hn : f_npc = nI (dm_h a_home i + 1)) (hf : f_flightReg = 0)
    (hE : dm_E a_words a_leader C (nI n) (nI d) 1 (i + 1) = (t, v, 0, f, nI j, kk)) (et : t = dm_if (dm_LK (a_words (i + 1))) 31 0) (hcx : a_cells = dm_wr C 1 t v) (hj : j < n) (hl : ¬ a_leader j = 0)
    (cf : dm_CF a_words a_leader n (nI d) i) (pl : dm_PL (a_words i)) (i1 : i + 1 < n) (hc : a_code (dm_h a_home i + 1) = nI i) (hcp : a_copied (dm_h a_home i) = 0) (st : f_slotTo = nI (dm_h a_home j))
    (hland : dm_LD (a_words i) → dm_HI a_words n j (dm_ds (a_words i)))
    (hD : a_dones = upd D0 1 D) (hN : a_entryCounts = upd N0 1 (nI e)) (hP : a_pcs = upd P0 1 x) (hT : a_states = upd ST 1 0) (hF : a_faults = FA) : wpX_nativeStep post (f_maxWords, nI d, nI n, f_ready, f_codeSize, f_shadow, f_resReg, f_resValue, f_resTrap, f_resFault, f_resNext, f_resTaken, f_npc, f_slotOf, f_slotTo, f_flightReg, f_flightValue, a_words, a_leader, a_moved, a_early, a_home, a_code, a_jump, a_blockAt, a_copied, a_cells, a_traces, a_pcs, a_states, a_faults, a_dones, a_entryCounts) (nI gl) := by
  have n32 := F.1
  have hi := sm_lt F hS
  have hb := sm_hb F hS
  have sj := (F.2.2.2.2.2.1.2.2.1 j hj hl).1
  have hbj := sm_hb F sj
  obtain ⟨ht, l1, tc, lk, _⟩ := cf
  obtain ⟨t0, v0, tp0, f0, hE0, t64, t01, t02⟩ := pf_plain (L := a_leader) (C := C) n32 F.2.1 F.2.2.1 hi pl
  have hE0' : dm_E a_words a_leader a_cells (nI n) (nI d) 1 i = (t0, v0, tp0, f0, nI (i + 1), 0) := by
    rw [hcx, ← hE0]
    by_cases L : dm_LK (a_words (i + 1))
    · rw [dm_it L] at et
      subst et
      exact E_wr (F.2.2.1 i hi) F.2.1 rfl (by omega) (fun _ => (lk L).2) (fun z => by omega)
    · rw [dm_in L] at et
      subst et
      rw [wr_0]
  have tb64 : t < 32 := by
    by_cases L : dm_LK (a_words (i + 1))
    · rw [dm_it L] at et; omega
    · rw [dm_in L] at et; omega
  have nLD : ¬ dm_LD (a_words (i + 1)) := fun q => ht.2 (by rw [show dm_op (a_words (i + 1)) = 35 from q]; decide)
  refine xn_head (p := dm_h a_home i + 1) (r := 0) (by omega) hn (by omega) hc F.2.1 rfl (sm_sz n32) (F.2.2.1 i hi) (by omega) hf hE0' (fun z => ?_) (fun _ q => absurd q pl.1) (fun z _ => ?_)
  · have nL : ¬ dm_LK (a_words (i + 1)) := fun L => by
      have nt := pf_noTrap (L := a_leader) (C := C) F.2.2.1 hi pl (lk L).1 (F.2.2.2.2.2.2.2.1 _ _ _ _ _ hG)
      rw [hE0] at nt
      exact z nt
    rw [dm_in nL] at et
    subst et
    rw [wr_0] at hcx
    refine xn_stopB (q := dm_h a_home i) (by omega) hsp hcp (k _ _ _ _ _ _ _ _ _ _ _ _ _ _ _ _ _ _ (Or.inr (Or.inr ⟨i, e, t0, D, v0, tp0, f0, nI (i + 1), 0, z, ?_, ?_, ?_, hD, hN, rfl, hS, he, ?_, ?_⟩)))
    · rw [hT, dm_uu]
    · rw [hF]
    · rw [hP, dm_uu]
    · rw [wr_0, hcx]; exact hG
    · rw [wr_0]; exact hE0'
  · subst z
    have hE1c : dm_E a_words a_leader (dm_wr C 1 t0 v0) (nI n) (nI d) 1 (i + 1) = (t, v, 0, f, nI j, kk) := by
      rw [← hE]
      refine E_wr (F.2.2.1 (i + 1) i1) F.2.1 rfl t64 (fun q => ?_) (fun _ => nLD)
      by_cases z : t0 = 0
      · rw [z]; exact dm_TC0
      · rw [← t01 q z]; exact tc
    have ga := F.2.2.2.2.2.2.2.2.2 C a_traces i D e t0 v0 f0 0 hG hi he hE0 i1 l1
    have g1 := F.2.2.2.2.2.2.2.2.1 _ a_traces (i + 1) _ e t v f j kk ga i1 he hE1c hj
    have ne : t0 ≠ t ∨ t0 = 0 ∨ t = 0 := by
      by_cases z : t0 = 0
      · exact Or.inr (Or.inl z)
      · by_cases L : dm_LK (a_words (i + 1))
        · rw [dm_it L] at et
          refine Or.inl fun q => (lk L).2 ⟨by decide, Or.inl ?_⟩
          rw [t01 (by omega) z, q, et]; rfl
        · rw [dm_in L] at et
          exact Or.inr (Or.inr et)
    refine xn_finB (q := dm_h a_home i) (p := dm_h a_home j) (t := t0) (by omega) hsp hcp (by omega) st (by omega) t64 rfl rfl (fun C' r' fv' cm => ?_)
    rw [wr_0] at cm
    have hw : dm_wr C' 1 r' fv' = dm_wr (dm_wr C 1 t0 v0) 1 t v := by
      rw [wr_comm ne, ← hcx]
      rcases cm with ⟨_, a, b, c⟩ | ⟨_, a, b, c⟩
      · rw [a, b, c]
      · rw [a, b, wr_0]
    have hr : r' < 32 ∧ tb_SF a_words a_code n (dm_h a_home j) (nI r') := by
      rcases cm with ⟨l, a, b, c⟩ | ⟨_, a, b, c⟩
      · have t32 : t0 < 32 := by
          refine Nat.lt_of_not_le fun q => ?_
          exact absurd ((t02 q).symm.trans l) (by decide)
        rw [b]
        refine ⟨t32, ?_⟩
        by_cases t0' : t0 = 0
        · rw [t0']; exact tb_SF0
        · rw [← t01 t32 t0']
          obtain ⟨_, h1, h2⟩ := hland l
          intro c hcn hco
          rcases tb_at F.2.2.2.2.2.1 sj with y | y
          · have := dm_inj (by omega) (by omega) (hco.symm.trans y)
            subst this; exact h1
          · have := dm_inj (by omega) (by omega) (hco.symm.trans y.1)
            subst this; exact h2 y.2.1
      · rw [b]; exact ⟨by omega, tb_SF0⟩
    refine sm_arr F k (r := r') rfl sj he ⟨g1, fun l => absurd l hl⟩ hr.1 rfl hw hr.2 rfl rfl ?_ hN hP hT hF (Or.inr (Or.inr ⟨by omega, hl⟩))
    rw [hD, pk_us, dm_uu]
theorem sm_S (F : sm_F a_words a_leader a_home a_code a_jump a_blockAt a_copied n d S G gl) (k : ∀ (g1 g2 g3 g4 g5 g6 gn gs gt gr gv : Int32) (gC gT gP gS gF gD gE : Nat → Int32), sm_I a_words a_leader a_home a_code a_jump a_copied n d S G gl P0 D0 N0 ST FA e0 p0 gn gs gt gr gv gC gT gP gS gF gD gE → post (f_maxWords, nI d, nI n, f_ready, f_codeSize, f_shadow, g1, g2, g3, g4, g5, g6, gn, gs, gt, gr, gv, a_words, a_leader, a_moved, a_early, a_home, a_code, a_jump, a_blockAt, a_copied, gC, gT, gP, gS, gF, gD, gE)) (he : e < gl) (ee : e = e0) (hG : G C a_traces i D e) (M : sm_MS a_words a_leader a_home a_code a_jump a_copied n d S gl C i D f_npc f_slotOf f_slotTo f_flightReg a_cells D' e p)
    (hD : a_dones = upd D0 1 D') (hN : a_entryCounts = upd N0 1 (nI e)) (hP : a_pcs = upd P0 1 x) (hT : a_states = upd ST 1 0) (hF : a_faults = FA) : wpX_nativeStep post (f_maxWords, nI d, nI n, f_ready, f_codeSize, f_shadow, f_resReg, f_resValue, f_resTrap, f_resFault, f_resNext, f_resTaken, f_npc, f_slotOf, f_slotTo, f_flightReg, f_flightValue, a_words, a_leader, a_moved, a_early, a_home, a_code, a_jump, a_blockAt, a_copied, a_cells, a_traces, a_pcs, a_states, a_faults, a_dones, a_entryCounts) (nI gl) := by
  obtain ⟨hs, hn, hp, hS, eD, hf, ncp, b, t, j, v, f, kk, hbn, cb, hsb, hE, hcx, hj, hl, st0, st1, st2⟩ := M
  subst eD hp
  have n32 := F.1
  have hi := sm_lt F hS
  have hh : ∀ a, a < n → a_home a = nI (dm_h a_home a) := fun a ha => (F.2.2.2.2.2.1.1 a ha).1
  rcases (F.2.2.2.2.2.1.2.1 i hS).2 with K | K | K | K
  · have := dm_inj (by omega) (by omega) (cb.symm.trans K.2.1)
    subst this
    exact absurd hsb K.1.1
  · obtain ⟨_, hc, sl, fall⟩ := K
    have := dm_inj (by omega) (by omega) (cb.symm.trans hc)
    subst this
    have to := pf_to (d := d) n32 F.2.2.1 F.2.2.2.1 F.2.2.2.2.1 hi hj hsb (fun a b => (fall a b).1) hE
    rcases sl with ⟨c1, cp, ju⟩ | ⟨jm, cp, c1, c2, pt, ju⟩
    · have st : f_slotTo = nI (dm_h a_home j) := by
        rcases to with ⟨ht, _, ⟨k1, ej⟩ | ⟨k0, ej, nj⟩⟩ | ⟨nt, _, k1⟩
        · rw [st1 k1 ht, ju ht, ej]
        · rw [st0 k0, ej, (fall ht nj).2]
        · rw [st2 k1 nt, hh j hj]
      exact sm_S1 F k he ee hG hS hs hn hf hE hcx hj hl c1 cp st hD hN hP hT hF
    · rcases to with ⟨ht, _, ⟨k1, ej⟩ | ⟨k0, ej, nj⟩⟩ | ⟨nt, _, k1⟩
      · have st := st1 k1 ht
        rw [← ej] at c1 c2 pt ju
        rw [ju] at st
        exact sm_S2 F k (by have q : ¬ (e + 1 = gl) := fun q => ncp ⟨cp, q⟩; omega) ee hG hS hs hn hf hE hcx hj hl c1 cp c2 pt st hD hN hP hT hF
      · exact absurd jm nj
      · exact absurd (dm_JMHT jm) nt
  · obtain ⟨cf, pl, i1, hc, sl, cp, ju, fall⟩ := K
    have := dm_inj (by omega) (by omega) (cb.symm.trans hc)
    subst this
    have to := pf_to (d := d) n32 F.2.2.1 F.2.2.2.1 F.2.2.2.2.1 i1 hj hsb (fun a b => (fall b).1) hE
    rcases to with ⟨ht, et, ⟨k1, ej⟩ | ⟨k0, ej, nj⟩⟩ | ⟨nt, _, k1⟩
    · refine sm_S3 F k he ee hG hS hs hn hf hE et hcx hj hl cf pl i1 sl cp ?_ (fun q => ?_) hD hN hP hT hF
      · rw [st1 k1 ht, ju, ej]
      · rw [ej]; exact (cf.2.2.2.2 q).1
    · refine sm_S3 F k he ee hG hS hs hn hf hE et hcx hj hl cf pl i1 sl cp ?_ (fun q => ?_) hD hN hP hT hF
      · rw [st0 k0, ej, (fall nj).2]
      · rw [ej]; exact (cf.2.2.2.2 q).2 nj
    · exact absurd cf.1 nt
  · have := dm_inj (by omega) (by omega) (cb.symm.trans K.2)
    subst this
    exact absurd K.1 (fun z => dm_hsbk hsb z)
end SS3
end
section
/-! the run: interrupt, loop -/
section IN
variable {W L H CO JU CP CX T : Nat → Int32} {n d gl e p : Nat} {S : Nat → Prop} {G : (Nat → Int32) → (Nat → Int32) → Nat → Int32 → Nat → Prop} {npc so st fR fv D' : Int32}
theorem sm_int (hb : ∀ i, S i → dm_h H i ≤ 95) (R : sm_run W L H CO JU CP n d S G gl npc so st fR fv CX T D' e p) : ∃ r, r < 32 ∧ fR = nI r ∧
    ((so < 0 ∧ sm_run W L H CO JU CP n d S G gl npc so st 0 fv (dm_wr CX 1 r fv) T D' e p) ∨
      (¬ so < 0 ∧ ∃ p', p = p' + 1 ∧ sm_run W L H CO JU CP n d S G gl so (-1) st 0 fv (dm_wr CX 1 r fv) T D' e p')) := by
  have m1 : (-1 : Int32) < 0 := by decide
  obtain ⟨C, i, D, he, hG, M | M | M | M | M⟩ := R
  · obtain ⟨hs, hn, hp, hS, eD, r, hr, hf, cs⟩ := M
    refine ⟨r, hr, hf, Or.inl ⟨by rw [hs]; exact m1, C, i, D, he, hG, Or.inl ⟨hs, hn, hp, hS, eD, 0, by omega, rfl, ?_⟩⟩⟩
    rcases cs with ⟨hw, sf⟩ | ⟨r0, z⟩
    · exact Or.inl ⟨wr_0.trans hw, tb_SF0⟩
    · subst r0; rw [wr_0]; exact Or.inr ⟨rfl, z⟩
  · obtain ⟨hs, hn, hc, hS, hp, hi, eD, t, v, f, hE, r, hr, hf, hw⟩ := M
    exact ⟨r, hr, hf, Or.inl ⟨by rw [hs]; exact m1, C, i, D, he, hG, Or.inr (Or.inl ⟨hs, hn, hc, hS, hp, hi, eD, t, v, f, hE, 0, by omega, rfl, wr_0.trans hw⟩)⟩⟩
  · obtain ⟨hs, hn, sw, eD, r, hr, hf, hw, sf⟩ := M
    exact ⟨r, hr, hf, Or.inl ⟨by rw [hs]; exact m1, C, i, D, he, hG, Or.inr (Or.inr (Or.inl ⟨hs, hn, sw, eD, 0, by omega, rfl, wr_0.trans hw, tb_SF0⟩))⟩⟩
  · obtain ⟨hs, hn, q, epq, sw, eD, hf, t, v, f, hE1, hcx⟩ := M
    refine ⟨0, by omega, hf, Or.inl ⟨by rw [hs]; exact m1, C, i, D, he, hG, Or.inr (Or.inr (Or.inr (Or.inl ⟨hs, hn, q, epq, sw, eD, rfl, t, v, f, hE1, wr_0.trans hcx⟩)))⟩⟩
  · obtain ⟨hs, hn, hp, hS, eD, hf, ncp, b, t, j, v, f, kk, hbn, cb, hsb, hE, hcx, hj, hl, st0, st1, st2⟩ := M
    have h95 := hb i hS
    refine ⟨0, by omega, hf, Or.inr ⟨by rw [hs]; exact nI_pos (by omega), dm_h H i, hp, C, i, D, he, hG, Or.inl ⟨rfl, hs, rfl, hS, eD, 0, by omega, rfl, Or.inr ⟨rfl, b, t, v, f, nI j, kk, hbn, cb, hsb, hE, wr_0.trans hcx⟩⟩⟩⟩
/-- addresses reached are below 97 -/
theorem sm_pb (hb : ∀ i, S i → dm_h H i ≤ 95) (R : sm_run W L H CO JU CP n d S G gl npc so st fR fv CX T D' e p) : p ≤ 96 ∧ e < gl ∧ ∃ r, r < 32 ∧ fR = nI r := by
  obtain ⟨C, i, D, he, hG, M | M | M | M | M⟩ := R
  · obtain ⟨hs, hn, hp, hS, eD, r, hr, hf, cs⟩ := M
    have := hb i hS
    exact ⟨by omega, he, r, hr, hf⟩
  · obtain ⟨hs, hn, hc, hS, hp, hi, eD, t, v, f, hE, r, hr, hf, hw⟩ := M
    have := hb _ hS
    exact ⟨by omega, he, r, hr, hf⟩
  · obtain ⟨hs, hn, sw, eD, r, hr, hf, hw, sf⟩ := M
    have := hb _ sw.2.2.2.2.2.2.2.2.2.2
    have := sw.2.2.2.2.2.2.2.2.2.1
    exact ⟨by omega, he, r, hr, hf⟩
  · obtain ⟨hs, hn, q, epq, sw, eD, hf, _⟩ := M
    have := hb _ sw.2.2.2.2.2.2.2.2.2.2
    have := sw.2.2.2.2.2.2.2.2.2.1
    exact ⟨by omega, he, 0, by omega, hf⟩
  · obtain ⟨hs, hn, hp, hS, eD, hf, _⟩ := M
    have := hb i hS
    exact ⟨by omega, he, 0, by omega, hf⟩
end IN
def sm_bd (gl : Nat) (ia : Int32) (x3 e p : Nat) : Prop := x3 + 98 * (gl - e) ≤ 3136 + p ∨ (x3 + 98 * (gl - e) ≤ 3137 + p ∧ ∀ y, x3 ≤ y → y < 4096 → ¬ nI y + 1 = ia)
section LO
variable {f_maxWords f_dataCount f_size f_ready f_codeSize f_shadow f_resReg f_resValue f_resTrap f_resFault f_resNext f_resTaken f_npc f_slotOf f_slotTo f_flightReg f_flightValue : Int32} {a_words a_leader a_moved a_early a_home a_code a_jump a_blockAt a_copied a_cells a_traces a_pcs a_states a_faults a_dones a_entryCounts : Nat → Int32}
variable {post : SX → Prop} {n d gl e0 p0 e p i j r t b : Nat} {S : Nat → Prop} {G : (Nat → Int32) → (Nat → Int32) → Nat → Int32 → Nat → Prop} {P0 D0 N0 ST FA C C2 : Nat → Int32} {D D2 D' x v f tp fv nx kk ia : Int32}
theorem xn_int (hr : r < 64) (hf : f_flightReg = nI r) (h0 : f_slotOf < 0 → post (f_maxWords, f_dataCount, f_size, f_ready, f_codeSize, f_shadow, f_resReg, f_resValue, f_resTrap, f_resFault, f_resNext, f_resTaken, f_npc, f_slotOf, f_slotTo, 0, f_flightValue, a_words, a_leader, a_moved, a_early, a_home, a_code, a_jump, a_blockAt, a_copied, dm_wr a_cells 1 r f_flightValue, a_traces, a_pcs, a_states, a_faults, a_dones, a_entryCounts)) (h1 : ¬ f_slotOf < 0 → post (f_maxWords, f_dataCount, f_size, f_ready, f_codeSize, f_shadow, f_resReg, f_resValue, f_resTrap, f_resFault, f_resNext, f_resTaken, f_slotOf, (-1), f_slotTo, 0, f_flightValue, a_words, a_leader, a_moved, a_early, a_home, a_code, a_jump, a_blockAt, a_copied, dm_wr a_cells 1 r f_flightValue, a_traces, a_pcs, a_states, a_faults, a_dones, a_entryCounts)) : wpX_interrupt post (f_maxWords, f_dataCount, f_size, f_ready, f_codeSize, f_shadow, f_resReg, f_resValue, f_resTrap, f_resFault, f_resNext, f_resTaken, f_npc, f_slotOf, f_slotTo, f_flightReg, f_flightValue, a_words, a_leader, a_moved, a_early, a_home, a_code, a_jump, a_blockAt, a_copied, a_cells, a_traces, a_pcs, a_states, a_faults, a_dones, a_entryCounts) := by
  unfold wpX_interrupt
  exact xn_drain hr hf (br_c h0 h1)
/-- one step from any mode -/
theorem sm_all (F : sm_F a_words a_leader a_home a_code a_jump a_blockAt a_copied n d S G gl) (k : ∀ (g1 g2 g3 g4 g5 g6 gn gs gt gr gv : Int32) (gC gT gP gS gF gD gE : Nat → Int32), sm_I a_words a_leader a_home a_code a_jump a_copied n d S G gl P0 D0 N0 ST FA e0 p0 gn gs gt gr gv gC gT gP gS gF gD gE → post (f_maxWords, nI d, nI n, f_ready, f_codeSize, f_shadow, g1, g2, g3, g4, g5, g6, gn, gs, gt, gr, gv, a_words, a_leader, a_moved, a_early, a_home, a_code, a_jump, a_blockAt, a_copied, gC, gT, gP, gS, gF, gD, gE)) (ee : e = e0) (ep : p = p0) (R : sm_run a_words a_leader a_home a_code a_jump a_copied n d S G gl f_npc f_slotOf f_slotTo f_flightReg f_flightValue a_cells a_traces D' e p)
    (hD : a_dones = upd D0 1 D') (hN : a_entryCounts = upd N0 1 (nI e)) (hP : a_pcs = upd P0 1 x) (hT : a_states = upd ST 1 0) (hF : a_faults = FA) : wpX_nativeStep post (f_maxWords, nI d, nI n, f_ready, f_codeSize, f_shadow, f_resReg, f_resValue, f_resTrap, f_resFault, f_resNext, f_resTaken, f_npc, f_slotOf, f_slotTo, f_flightReg, f_flightValue, a_words, a_leader, a_moved, a_early, a_home, a_code, a_jump, a_blockAt, a_copied, a_cells, a_traces, a_pcs, a_states, a_faults, a_dones, a_entryCounts) (nI gl) := by
  obtain ⟨C, i, D, he, hG, M | M | M | M | M⟩ := R
  · exact sm_A F k he ee ep hG M hD hN hP hT hF
  · exact sm_B F k he ee ep hG M hD hN hP hT hF
  · exact sm_C F k he ee ep hG M hD hN hP hT hF
  · exact sm_D F k he ee ep hG M hD hN hP hT hF
  · exact sm_S F k he ee hG M hD hN hP hT hF
theorem sm_ex {m x3 : Nat} (hr : r < 64) (hf : f_flightReg = nI r) (hx : ¬ a_states 1 = 0 ∨ a_entryCounts 1 = nI gl) (h : post (f_maxWords, nI d, nI n, f_ready, f_codeSize, f_shadow, f_resReg, f_resValue, f_resTrap, f_resFault, f_resNext, f_resTaken, f_npc, f_slotOf, f_slotTo, 0, f_flightValue, a_words, a_leader, a_moved, a_early, a_home, a_code, a_jump, a_blockAt, a_copied, dm_wr a_cells 1 r f_flightValue, a_traces, a_pcs, a_states, a_faults, a_dones, a_entryCounts)) : wX_runNative_27 post (nI gl) ia (m + 1) (nI x3) f_maxWords (nI d) (nI n) f_ready f_codeSize f_shadow f_resReg f_resValue f_resTrap f_resFault f_resNext f_resTaken f_npc f_slotOf f_slotTo f_flightReg f_flightValue a_words a_leader a_moved a_early a_home a_code a_jump a_blockAt a_copied a_cells a_traces a_pcs a_states a_faults a_dones a_entryCounts := by
  have g : wX_runNative_75 post f_maxWords (nI d) (nI n) f_ready f_codeSize f_shadow f_resReg f_resValue f_resTrap f_resFault f_resNext f_resTaken f_npc f_slotOf f_slotTo f_flightReg f_flightValue a_words a_leader a_moved a_early a_home a_code a_jump a_blockAt a_copied a_cells a_traces a_pcs a_states a_faults a_dones a_entryCounts := by
    unfold wX_runNative_75
    exact xn_drain hr hf h
  rw [wX_runNative_27]
  refine br_c (fun _ => g) (fun _ => br_c (fun s => br_c (fun _ => g) (fun q => ?_)) (fun _ => g))
  rcases hx with z | z
  · exact absurd s z
  · exact absurd z q
theorem sm_loop (F : sm_F a_words a_leader a_home a_code a_jump a_blockAt a_copied n d S G gl)
    (hfin : ∀ (g1 g2 g3 g4 g5 g6 gn gs gt gv : Int32) (gC gT : Nat → Int32) (i : Nat) (D : Int32), S i → G gC gT i D gl → post (f_maxWords, nI d, nI n, f_ready, f_codeSize, f_shadow, g1, g2, g3, g4, g5, g6, gn, gs, gt, 0, gv, a_words, a_leader, a_moved, a_early, a_home, a_code, a_jump, a_blockAt, a_copied, gC, gT, upd P0 1 (nI i), upd ST 1 0, FA, upd D0 1 D, upd N0 1 (nI gl)))
    (htrp : ∀ (g1 g2 g3 g4 g5 g6 gn gs gt gv : Int32) (gC gT : Nat → Int32) (i e t : Nat) (D v tp f nx k : Int32), S i → e < gl → G gC gT i D e → ¬ tp = 0 → dm_E a_words a_leader gC (nI n) (nI d) 1 i = (t, v, tp, f, nx, k) → post (f_maxWords, nI d, nI n, f_ready, f_codeSize, f_shadow, g1, g2, g3, g4, g5, g6, gn, gs, gt, 0, gv, a_words, a_leader, a_moved, a_early, a_home, a_code, a_jump, a_blockAt, a_copied, gC, gT, upd P0 1 (nI i), upd ST 1 tp, upd FA 1 f, upd D0 1 D, upd N0 1 (nI e))) :
    ∀ (m x3 : Nat), 4097 ≤ m + x3 → ∀ (g1 g2 g3 g4 g5 g6 gn gs gt gr gv : Int32) (gC gT gP gS gF gD gE : Nat → Int32) (e p : Nat) (x D' : Int32), gS = upd ST 1 0 → gF = FA → gP = upd P0 1 x → gD = upd D0 1 D' → gE = upd N0 1 (nI e) →
      sm_run a_words a_leader a_home a_code a_jump a_copied n d S G gl gn gs gt gr gv gC gT D' e p → sm_bd gl ia x3 e p →
      wX_runNative_27 post (nI gl) ia m (nI x3) f_maxWords (nI d) (nI n) f_ready f_codeSize f_shadow g1 g2 g3 g4 g5 g6 gn gs gt gr gv a_words a_leader a_moved a_early a_home a_code a_jump a_blockAt a_copied gC gT gP gS gF gD gE := by
  intro m
  induction m with
  | zero =>
    intro x3 h1 g1 g2 g3 g4 g5 g6 gn gs gt gr gv gC gT gP gS gF gD gE e p x D' hT hF hP hD hN R bd
    obtain ⟨a, b, _⟩ := sm_pb (fun i hi => sm_hb F hi) R
    rcases bd with z | z <;> omega
  | succ m ih =>
    intro x3 h1 g1 g2 g3 g4 g5 g6 gn gs gt gr gv gC gT gP gS gF gD gE e p x D' hT hF hP hD hN R bd
    obtain ⟨hp, he, r, hr, hf⟩ := sm_pb (fun i hi => sm_hb F hi) R
    have hx3 : x3 < 4000 := by rcases bd with z | z <;> omega
    obtain ⟨m', rfl⟩ : ∃ m', m = m' + 1 := ⟨m - 1, by omega⟩
    have gl30 := F.2.2.2.2.2.2.1
    have key : ∀ (gn gs gt gr gv : Int32) (gC : Nat → Int32) (p1 : Nat), sm_run a_words a_leader a_home a_code a_jump a_copied n d S G gl gn gs gt gr gv gC gT D' e p1 → sm_bd gl ia (x3 + 1) e (p1 + 1) → (∀ e' p', e < e' → e' < gl → p' ≤ 96 → sm_bd gl ia (x3 + 1) e' p') →
        wX_runNative_64 post (wX_runNative_27 post (nI gl) ia (m' + 1)) (nI gl) ia (nI x3) f_maxWords (nI d) (nI n) f_ready f_codeSize f_shadow g1 g2 g3 g4 g5 g6 gn gs gt gr gv a_words a_leader a_moved a_early a_home a_code a_jump a_blockAt a_copied gC gT gP gS gF gD gE := by
      intro gn gs gt gr gv gC p1 R1 b1 b2
      unfold wX_runNative_64
      refine sm_all (e0 := e) (p0 := p1) F ?_ rfl rfl R1 hD hN hP hT hF
      intro q1 q2 q3 q4 q5 q6 qn qs qt qr qv qC qT qP qS qF qD qE I
      refine nm_r (nI_1 x3) ?_
      rcases I with ⟨e', p', x', D'', aS, aF, aP, aD, aN, R', bb⟩ | ⟨i, r', D, aS, aF, aP, aD, aN, hr', hf', hS, g⟩ | ⟨i, e', t, D, v, tp, f, nx, kk, ntp, aS, aF, aP, aD, aN, hf', hS, he', g, hE⟩
      · obtain ⟨hp', he', _⟩ := sm_pb (fun i hi => sm_hb F hi) R'
        refine ih (x3 + 1) (by omega) _ _ _ _ _ _ _ _ _ _ _ _ _ _ _ _ _ _ e' p' x' D'' aS aF aP aD aN R' ?_
        rcases bb with ⟨ea, pa⟩ | ea
        · rw [ea, pa]; exact b1
        · exact b2 e' p' ea he' hp'
      · subst aS aF aP aD aN
        refine sm_ex (r := r') (by omega) hf' (Or.inr pk_us) ?_
        exact hfin _ _ _ _ _ _ _ _ _ _ _ _ i D hS g
      · subst aS aF aP aD aN
        refine sm_ex (r := 0) (by omega) hf' (Or.inl (by rw [pk_us]; exact ntp)) ?_
        rw [wr_0]
        exact htrp _ _ _ _ _ _ _ _ _ _ _ _ i e' t D v tp f nx kk hS he' g ntp hE
    rw [wX_runNative_27]
    refine br_f (nI_ge (a := x3) (b := 4096) (by omega) (by omega)) (br_t (by rw [hT, pk_us]) (br_f ?_ ?_))
    · rw [hN, pk_us]
      exact fun z => absurd (dm_inj (by omega) (by omega) z) (by omega)
    refine br_c (fun z => ?_) (fun z => ?_)
    · have only : ∀ y, x3 + 1 ≤ y → y < 4096 → ¬ nI y + 1 = ia := fun y hy hy2 q => by
        rw [← z, nI_1, nI_1] at q
        have := dm_inj (by omega) (by omega) q
        omega
      have bd0 : x3 + 98 * (gl - e) ≤ 3136 + p := by
        rcases bd with q | q
        · exact q
        · exact absurd z (q.2 x3 (by omega) (by omega))
      have b2 : ∀ e' p', e < e' → e' < gl → p' ≤ 96 → sm_bd gl ia (x3 + 1) e' p' := fun e' p' h1 h2 h3 => Or.inl (by omega)
      obtain ⟨r', hr', hf', cs⟩ := sm_int (fun i hi => sm_hb F hi) R
      refine xn_int (r := r') (by omega) hf' (fun so => ?_) (fun so => ?_)
      · rcases cs with ⟨_, R'⟩ | ⟨q, _⟩
        · exact key _ _ _ _ _ _ p R' (Or.inl (by omega)) b2
        · exact absurd so q
      · rcases cs with ⟨q, _⟩ | ⟨_, p', ep', R'⟩
        · exact absurd q so
        · exact key _ _ _ _ _ _ p' R' (Or.inr ⟨by omega, only⟩) b2
    · refine key _ _ _ _ _ _ p R ?_ (fun e' p' h1 h2 h3 => ?_)
      · rcases bd with q | q
        · exact Or.inl (by omega)
        · exact Or.inr ⟨by omega, fun y hy hy2 => q.2 y (by omega) hy2⟩
      · rcases bd with q | q
        · exact Or.inl (by omega)
        · exact Or.inl (by omega)
end LO
end
section
/-! compile, first part: checks, leaders, slots -/
def dm_GE (W : Nat → Int32) (n : Nat) : Prop := dm_op (W (n - 1)) = 2 ∨ dm_FN (W (n - 1)) 8 ∨ dm_FN (W (n - 1)) 13
def dm_TT (W : Nat → Int32) (n : Nat) : Prop := ∀ i, i < n → dm_HT (W i) → ¬ dm_tg (W i) (nI i) < 0 ∧ dm_tg (W i) (nI i) < nI n
theorem dm_TTI {W : Nat → Int32} {n : Nat} (hn : n ≤ 32) (h : dm_TT W n) : dm_TI W n := by
  intro i hi ht
  obtain ⟨a, b⟩ := h i hi ht
  obtain ⟨j, hj, e⟩ := nI_of a
  unfold dm_tN
  rw [e] at b ⊢
  rw [nI_ltI hj (by omega)] at b
  rw [nI_clamp hj]
  exact ⟨b, rfl⟩
theorem ge_pl {W : Nat → Int32} {n j : Nat} (ge : dm_GE W n) (hj : j < n) (pl : dm_PL (W j)) : j + 1 < n := by
  refine Nat.lt_of_not_le fun q => ?_
  have e : j = n - 1 := by omega
  subst e
  rcases ge with g | g | g
  · exact pl.1 (Or.inl (dm_JMHT (Or.inl g)))
  · exact pl.1 (Or.inr g)
  · exact pl.2 g
theorem ge_ht {W : Nat → Int32} {n j : Nat} (ge : dm_GE W n) (hj : j < n) (ht : dm_HT (W j)) (nj : ¬ dm_JM (W j)) : j + 1 < n := by
  refine Nat.lt_of_not_le fun q => ?_
  have e : j = n - 1 := by omega
  subst e
  rcases ge with g | g | g
  · exact nj (Or.inl g)
  · exact ev_nHT0 g.1 ht
  · exact ev_nHT0 g.1 ht
section XK
variable {f_maxWords f_dataCount f_size f_ready f_codeSize f_shadow f_resReg f_resValue f_resTrap f_resFault f_resNext f_resTaken f_npc f_slotOf f_slotTo f_flightReg f_flightValue : Int32} {a_words a_leader a_moved a_early a_home a_code a_jump a_blockAt a_copied a_cells a_traces a_pcs a_states a_faults a_dones a_entryCounts : Nat → Int32}
variable {post : Int32 → Prop} {i n : Nat}
theorem xk_goodEnd (hn : n ≤ 32) (h0 : 0 < n) (hs : f_size = nI n) (hp : post (dm_b (dm_GE a_words n))) : wpX_goodEnd post (f_maxWords, f_dataCount, f_size, f_ready, f_codeSize, f_shadow, f_resReg, f_resValue, f_resTrap, f_resFault, f_resNext, f_resTaken, f_npc, f_slotOf, f_slotTo, f_flightReg, f_flightValue, a_words, a_leader, a_moved, a_early, a_home, a_code, a_jump, a_blockAt, a_copied, a_cells, a_traces, a_pcs, a_states, a_faults, a_dones, a_entryCounts) := by
  have e : f_size - 1 = nI (n - 1) := by
    obtain ⟨m, rfl⟩ : ∃ m, n = m + 1 := ⟨n - 1, by omega⟩
    rw [hs, nI_pred]; rfl
  have c : (nI (n - 1)).toNatClampNeg = n - 1 := nI_clamp (by omega)
  unfold wpX_goodEnd
  refine nm_r e (And.intro (vp_in_nI (by omega) (by omega)) ?_)
  rw [c]
  refine br_c (fun h => dm_p1 hp (Or.inl h)) (fun h => xr_isFunction (by omega) (dm_bc (fun h2 => xr_isFunction (by omega) (dm_bc (fun h3 => dm_p0 hp ?_) (fun h3 => dm_p1 hp (Or.inr (Or.inr h3))))) (fun h2 => dm_p1 hp (Or.inr (Or.inl h2)))))
  exact fun q => q.elim h (fun q => q.elim h2 h3)
theorem xk_targets (hn : n ≤ 32) (hs : f_size = nI n) (hp : post (dm_b (dm_TT a_words n))) : ∀ m i : Nat, n < m + i → i ≤ n → (∀ j, j < i → dm_HT (a_words j) → ¬ dm_tg (a_words j) (nI j) < 0 ∧ dm_tg (a_words j) (nI j) < nI n) → wX_targetsInside_2 post f_maxWords f_dataCount f_size f_ready f_codeSize f_shadow f_resReg f_resValue f_resTrap f_resFault f_resNext f_resTaken f_npc f_slotOf f_slotTo f_flightReg f_flightValue a_words a_leader a_moved a_early a_home a_code a_jump a_blockAt a_copied a_cells a_traces a_pcs a_states a_faults a_dones a_entryCounts m (nI i) := by
  subst hs
  intro m
  induction m with
  | zero => intro i h1 h2 _; omega
  | succ m ih =>
    intro i h1 h2 hj
    rw [wX_targetsInside_2]
    refine pk_le n i (fun h => dm_p1 hp (fun j a b => hj j (by omega) b)) (fun h => ?_)
    refine xr_target (by omega) (xr_hasTarget (by omega) (dm_bc (fun ht => ?_) (fun ht => br_c (fun a => ?_) (fun a => br_c (fun b => ?_) (fun b => ?_)))))
    · refine nm_r (nI_1 i) (ih (i + 1) (by omega) (by omega) (fun j a b => ?_))
      by_cases q : j < i
      · exact hj j q b
      · obtain rfl : j = i := by omega
        exact absurd b ht
    · exact dm_p0 hp (fun q => (q i h ht).1 a)
    · refine nm_r (nI_1 i) (ih (i + 1) (by omega) (by omega) (fun j a' b' => ?_))
      by_cases q : j < i
      · exact hj j q b'
      · obtain rfl : j = i := by omega
        exact ⟨a, b⟩
    · exact dm_p0 hp (fun q => b (q i h ht).2)
end XK
/-- the leaders that words below i make -/
def ml_P (W : Nat → Int32) (i e : Nat) : Prop := e = 0 ∨ ∃ j, j < i ∧ ((dm_HT (W j) ∧ dm_tg (W j) (nI j) = nI e) ∨ (¬ dm_PL (W j) ∧ j + 1 = e))
def ml_R (L : Nat → Int32) (n : Nat) (P : Nat → Prop) : Prop := ∀ e, e < n → (L e = 0 ↔ ¬ P e)
theorem ml_upd {L : Nat → Int32} {n t : Nat} {P : Nat → Prop} (h : ml_R L n P) : ml_R (upd L t 1) n (fun e => P e ∨ t = e) := by
  intro e he
  by_cases q : e = t
  · subst q
    rw [pk_us]
    exact ⟨fun z => absurd z dm_10, fun z => absurd (Or.inr rfl) z⟩
  · rw [pk_un q, h e he]
    exact ⟨fun z y => y.elim z (fun w => q w.symm), fun z y => z (Or.inl y)⟩
theorem ml_iff {L : Nat → Int32} {n : Nat} {P Q : Nat → Prop} (h : ml_R L n P) (hq : ∀ e, e < n → (P e ↔ Q e)) : ml_R L n Q := by
  intro e he
  rw [h e he, hq e he]
theorem ml_s {W : Nat → Int32} {i e : Nat} : ml_P W (i + 1) e ↔ (ml_P W i e ∨ (dm_HT (W i) ∧ dm_tg (W i) (nI i) = nI e)) ∨ (¬ dm_PL (W i) ∧ i + 1 = e) := by
  constructor
  · rintro (h | ⟨j, hj, h⟩)
    · exact Or.inl (Or.inl (Or.inl h))
    · by_cases q : j < i
      · exact Or.inl (Or.inl (Or.inr ⟨j, q, h⟩))
      · obtain rfl : j = i := by omega
        exact h.elim (fun z => Or.inl (Or.inr z)) Or.inr
  · rintro ((h | h) | h)
    · exact h.elim Or.inl (fun ⟨j, a, b⟩ => Or.inr ⟨j, by omega, b⟩)
    · exact Or.inr ⟨i, by omega, Or.inl h⟩
    · exact Or.inr ⟨i, by omega, Or.inr h⟩
section XK2
variable {f_maxWords f_dataCount f_size f_ready f_codeSize f_shadow f_resReg f_resValue f_resTrap f_resFault f_resNext f_resTaken f_npc f_slotOf f_slotTo f_flightReg f_flightValue : Int32} {a_words a_leader a_moved a_early a_home a_code a_jump a_blockAt a_copied a_cells a_traces a_pcs a_states a_faults a_dones a_entryCounts : Nat → Int32}
variable {post : SX → Prop} {i n : Nat}
theorem xk_ml31 (hn : n ≤ 32) (hs : f_size = nI n) (ti : dm_TI a_words n) (hp : ∀ L : Nat → Int32, dm_LR a_words L n → post (f_maxWords, f_dataCount, f_size, f_ready, f_codeSize, f_shadow, f_resReg, f_resValue, f_resTrap, f_resFault, f_resNext, f_resTaken, f_npc, f_slotOf, f_slotTo, f_flightReg, f_flightValue, a_words, L, a_moved, a_early, a_home, a_code, a_jump, a_blockAt, a_copied, a_cells, a_traces, a_pcs, a_states, a_faults, a_dones, a_entryCounts)) : ∀ (m i : Nat) (L : Nat → Int32), n < m + i → i ≤ n → ml_R L n (ml_P a_words i) → wX_markLeaders_31 post f_maxWords f_dataCount f_size f_ready f_codeSize f_shadow f_resReg f_resValue f_resTrap f_resFault f_resNext f_resTaken f_npc f_slotOf f_slotTo f_flightReg f_flightValue m (nI i) a_words L a_moved a_early a_home a_code a_jump a_blockAt a_copied a_cells a_traces a_pcs a_states a_faults a_dones a_entryCounts := by
  subst hs
  intro m
  induction m with
  | zero => intro i L h1 h2 _; omega
  | succ m ih =>
    intro i L h1 h2 hL
    rw [wX_markLeaders_31]
    refine pk_le n i (fun h => hp L (fun e he => ?_)) (fun h => ?_)
    · rw [hL e he]
      have : ml_P a_words i e ↔ dm_IL a_words n e := by
        constructor
        · rintro (q | ⟨j, a, b⟩)
          · exact ⟨he, Or.inl q⟩
          · exact ⟨he, Or.inr ⟨j, by omega, b⟩⟩
        · rintro ⟨_, q | ⟨j, a, b⟩⟩
          · exact Or.inl q
          · exact Or.inr ⟨j, by omega, b⟩
      rw [this]
    have tail : ∀ L1 : Nat → Int32, ml_R L1 n (fun e => ml_P a_words i e ∨ (dm_HT (a_words i) ∧ dm_tg (a_words i) (nI i) = nI e)) → wX_markLeaders_58 post (wX_markLeaders_31 post f_maxWords f_dataCount (nI n) f_ready f_codeSize f_shadow f_resReg f_resValue f_resTrap f_resFault f_resNext f_resTaken f_npc f_slotOf f_slotTo f_flightReg f_flightValue m) (nI i) f_maxWords f_dataCount (nI n) f_ready f_codeSize f_shadow f_resReg f_resValue f_resTrap f_resFault f_resNext f_resTaken f_npc f_slotOf f_slotTo f_flightReg f_flightValue a_words L1 a_moved a_early a_home a_code a_jump a_blockAt a_copied a_cells a_traces a_pcs a_states a_faults a_dones a_entryCounts := by
      intro L1 h1'
      unfold wX_markLeaders_58
      rw [nI_1]
      refine xr_isPlain (by omega) (dm_bc (fun np => pk_le n (i + 1) (fun q => nm_e (ih (i + 1) L1 (by omega) (by omega) ?_)) (fun q => And.intro (vp_in_nI (by omega) (by omega)) (nm_r (e' := upd L1 (i + 1) 1) ?_ (nm_e (ih (i + 1) _ (by omega) (by omega) ?_))))) (fun pl => nm_e (ih (i + 1) L1 (by omega) (by omega) ?_)))
      · refine ml_iff h1' (fun e he => ?_)
        rw [ml_s]
        exact ⟨Or.inl, fun z => z.elim id (fun y => by omega)⟩
      · rw [nI_clamp (by omega), dm_vb1]
      · refine ml_iff (ml_upd h1') (fun e he => ?_)
        rw [ml_s]
        exact ⟨fun z => z.elim Or.inl (fun y => Or.inr ⟨np, y⟩), fun z => z.elim Or.inl (fun y => Or.inr y.2)⟩
      · refine ml_iff h1' (fun e he => ?_)
        rw [ml_s]
        exact ⟨Or.inl, fun z => z.elim id (fun y => absurd pl y.1)⟩
    refine xr_hasTarget (by omega) (dm_bc (fun nt => tail L ?_) (fun ht => xr_target (by omega) ?_))
    · refine ml_iff hL (fun e he => ?_)
      exact ⟨Or.inl, fun z => z.elim id (fun y => absurd y.1 nt)⟩
    · obtain ⟨t1, t2⟩ := ti i h ht
      rw [t2]
      refine And.intro (vp_in_nI (by omega) (by omega)) (nm_r (e' := upd L (dm_tN a_words i) 1) ?_ (tail _ ?_))
      · rw [nI_clamp (by omega), dm_vb1]
      · refine ml_iff (ml_upd hL) (fun e he => ?_)
        rw [t2]
        exact ⟨fun z => z.elim Or.inl (fun y => Or.inr ⟨ht, congrArg nI y⟩), fun z => z.elim Or.inl (fun y => Or.inr (dm_inj (by omega) (by omega) y.2))⟩
theorem xk_ml2 (hn : n ≤ 32) (hs : f_size = nI n) (ti : dm_TI a_words n) (hp : ∀ L : Nat → Int32, dm_LR a_words L n → post (f_maxWords, f_dataCount, f_size, f_ready, f_codeSize, f_shadow, f_resReg, f_resValue, f_resTrap, f_resFault, f_resNext, f_resTaken, f_npc, f_slotOf, f_slotTo, f_flightReg, f_flightValue, a_words, L, a_moved, a_early, a_home, a_code, a_jump, a_blockAt, a_copied, a_cells, a_traces, a_pcs, a_states, a_faults, a_dones, a_entryCounts)) : ∀ (m i : Nat) (L : Nat → Int32), 32 < m + i → i ≤ 32 → (∀ e, e < i → (L e = 0 ↔ ¬ e = 0)) → wX_markLeaders_2 post f_maxWords f_dataCount f_size f_ready f_codeSize f_shadow f_resReg f_resValue f_resTrap f_resFault f_resNext f_resTaken f_npc f_slotOf f_slotTo f_flightReg f_flightValue m (nI i) a_words L a_moved a_early a_home a_code a_jump a_blockAt a_copied a_cells a_traces a_pcs a_states a_faults a_dones a_entryCounts := by
  intro m
  induction m with
  | zero => intro i L h1 h2 _; omega
  | succ m ih =>
    intro i L h1 h2 hL
    rw [wX_markLeaders_2]
    refine pk_le 32 i (fun h => ⟨n + 1, ?_⟩) (fun h => ?_)
    · refine xk_ml31 hn hs ti hp (n + 1) 0 L (by omega) (by omega) (fun e he => ?_)
      rw [hL e (by omega)]
      have : ml_P a_words 0 e ↔ e = 0 := ⟨fun z => z.elim id (fun ⟨j, a, _⟩ => by omega), Or.inl⟩
      rw [this]
    · refine pk_eq i 0 (fun q => And.intro (vp_in_nI h (by omega)) (nm_r (e' := upd L i 1) ?_ (nm_r (nI_1 i) (ih (i + 1) _ (by omega) (by omega) (fun e he => ?_))))) (fun q => And.intro (vp_in_nI h (by omega)) (nm_r (e' := upd L i 0) ?_ (nm_r (nI_1 i) (ih (i + 1) _ (by omega) (by omega) (fun e he => ?_)))))
      · rw [nI_clamp (by omega), dm_vb1]
      · obtain rfl : e = i := by omega
        rw [pk_us]
        exact ⟨fun z => absurd z dm_10, fun z => absurd q z⟩
      · rw [nI_clamp (by omega), dm_vb0]
      · by_cases z : e = i
        · subst z
          rw [pk_us]
          exact ⟨fun _ => q, fun _ => rfl⟩
        · rw [pk_un z]
          exact hL e (by omega)
theorem xk_markLeaders (hn : n ≤ 32) (hs : f_size = nI n) (ti : dm_TI a_words n) (hp : ∀ L : Nat → Int32, dm_LR a_words L n → post (f_maxWords, f_dataCount, f_size, f_ready, f_codeSize, f_shadow, f_resReg, f_resValue, f_resTrap, f_resFault, f_resNext, f_resTaken, f_npc, f_slotOf, f_slotTo, f_flightReg, f_flightValue, a_words, L, a_moved, a_early, a_home, a_code, a_jump, a_blockAt, a_copied, a_cells, a_traces, a_pcs, a_states, a_faults, a_dones, a_entryCounts)) : wpX_markLeaders post (f_maxWords, f_dataCount, f_size, f_ready, f_codeSize, f_shadow, f_resReg, f_resValue, f_resTrap, f_resFault, f_resNext, f_resTaken, f_npc, f_slotOf, f_slotTo, f_flightReg, f_flightValue, a_words, a_leader, a_moved, a_early, a_home, a_code, a_jump, a_blockAt, a_copied, a_cells, a_traces, a_pcs, a_states, a_faults, a_dones, a_entryCounts) := by
  unfold wpX_markLeaders
  exact ⟨33, xk_ml2 hn hs ti hp 33 0 a_leader (by omega) (by omega) (fun e he => by omega)⟩
/-- what is known of the words that go into slots -/
def dm_MV (W L MV : Nat → Int32) (n : Nat) (dc : Int32) : Prop := ∀ k, k < 32 → ¬ MV k = 0 → k + 1 < n ∧ dm_CF W L n dc k
theorem xk_cs30 (hn : n ≤ 32) (hs : f_size = nI n) (ti : dm_TI a_words n) (hp : ∀ MV : Nat → Int32, dm_MV a_words a_leader MV n f_dataCount → post (f_maxWords, f_dataCount, f_size, f_ready, f_codeSize, f_shadow, f_resReg, f_resValue, f_resTrap, f_resFault, f_resNext, f_resTaken, f_npc, f_slotOf, f_slotTo, f_flightReg, f_flightValue, a_words, a_leader, MV, a_early, a_home, a_code, a_jump, a_blockAt, a_copied, a_cells, a_traces, a_pcs, a_states, a_faults, a_dones, a_entryCounts)) : ∀ (m i : Nat) (MV : Nat → Int32), n < m + i → 1 ≤ i → i ≤ n → dm_MV a_words a_leader MV n f_dataCount → wX_chooseSlots_30 post f_maxWords f_dataCount f_size f_ready f_codeSize f_shadow f_resReg f_resValue f_resTrap f_resFault f_resNext f_resTaken f_npc f_slotOf f_slotTo f_flightReg f_flightValue m (nI i) a_words a_leader MV a_early a_home a_code a_jump a_blockAt a_copied a_cells a_traces a_pcs a_states a_faults a_dones a_entryCounts := by
  subst hs
  intro m
  induction m with
  | zero => intro i MV h1 h2 h3 hM; omega
  | succ m ih =>
    intro i MV h1 h2 h3 hM
    rw [wX_chooseSlots_30]
    refine pk_le n i (fun h => hp MV hM) (fun h => ?_)
    obtain ⟨k, rfl⟩ : ∃ k, i = k + 1 := ⟨i - 1, by omega⟩
    rw [nI_pred]
    have c : (nI k).toNatClampNeg = k := nI_clamp (by omega)
    refine xr_canFill hn rfl h ti (fun cf => ?_) ?_
    · refine And.intro (vp_in_nI (by omega) (by omega)) (nm_r (e' := upd MV k 1) ?_ (nm_r (nI_1 (k + 1)) (ih (k + 2) _ (by omega) (by omega) (by omega) (fun j hj q => ?_))))
      · rw [c, dm_vb1]
      · by_cases z : j = k
        · subst z; exact ⟨h, cf⟩
        · rw [pk_un z] at q; exact hM j hj q
    · refine And.intro (vp_in_nI (by omega) (by omega)) (nm_r (e' := upd MV k 0) ?_ (nm_r (nI_1 (k + 1)) (ih (k + 2) _ (by omega) (by omega) (by omega) (fun j hj q => ?_))))
      · rw [c, dm_vb0]
      · by_cases z : j = k
        · subst z; rw [pk_us] at q; exact absurd rfl q
        · rw [pk_un z] at q; exact hM j hj q
theorem xk_cs2 (hn : n ≤ 32) (h0 : 0 < n) (hs : f_size = nI n) (ti : dm_TI a_words n) (hp : ∀ MV EA : Nat → Int32, dm_MV a_words a_leader MV n f_dataCount → (∀ k, k < 32 → EA k = 0) → post (f_maxWords, f_dataCount, f_size, f_ready, f_codeSize, f_shadow, f_resReg, f_resValue, f_resTrap, f_resFault, f_resNext, f_resTaken, f_npc, f_slotOf, f_slotTo, f_flightReg, f_flightValue, a_words, a_leader, MV, EA, a_home, a_code, a_jump, a_blockAt, a_copied, a_cells, a_traces, a_pcs, a_states, a_faults, a_dones, a_entryCounts)) : ∀ (m i : Nat) (MV EA : Nat → Int32), 32 < m + i → i ≤ 32 → (∀ k, k < i → MV k = 0 ∧ EA k = 0) → wX_chooseSlots_2 post f_maxWords f_dataCount f_size f_ready f_codeSize f_shadow f_resReg f_resValue f_resTrap f_resFault f_resNext f_resTaken f_npc f_slotOf f_slotTo f_flightReg f_flightValue m (nI i) a_words a_leader MV EA a_home a_code a_jump a_blockAt a_copied a_cells a_traces a_pcs a_states a_faults a_dones a_entryCounts := by
  intro m
  induction m with
  | zero => intro i MV EA h1 h2 _; omega
  | succ m ih =>
    intro i MV EA h1 h2 hz
    rw [wX_chooseSlots_2]
    have c : (nI i).toNatClampNeg = i := nI_clamp (by omega)
    refine pk_le 32 i (fun h => ⟨n, ?_⟩) (fun h => ?_)
    · obtain rfl : i = 32 := by omega
      refine xk_cs30 (a_early := EA) hn hs ti (fun MV' h' => hp MV' EA h' (fun k hk => (hz k hk).2)) n 1 MV (by omega) (by omega) (by omega) (fun k hk q => absurd (hz k hk).1 q)
    · refine And.intro (vp_in_nI h (by omega)) (nm_r (e' := upd MV i 0) ?_ (And.intro (vp_in_nI h (by omega)) (nm_r (e' := upd EA i 0) ?_ (nm_r (nI_1 i) (ih (i + 1) _ _ (by omega) (by omega) (fun k hk => ?_))))))
      · rw [c, dm_vb0]
      · rw [c, dm_vb0]
      · by_cases z : k = i
        · subst z; rw [pk_us, pk_us]; exact ⟨rfl, rfl⟩
        · rw [pk_un z, pk_un z]; exact hz k (by omega)
theorem xk_chooseSlots (hn : n ≤ 32) (h0 : 0 < n) (hs : f_size = nI n) (ti : dm_TI a_words n) (hp : ∀ MV EA : Nat → Int32, dm_MV a_words a_leader MV n f_dataCount → (∀ k, k < 32 → EA k = 0) → post (f_maxWords, f_dataCount, f_size, f_ready, f_codeSize, f_shadow, f_resReg, f_resValue, f_resTrap, f_resFault, f_resNext, f_resTaken, f_npc, f_slotOf, f_slotTo, f_flightReg, f_flightValue, a_words, a_leader, MV, EA, a_home, a_code, a_jump, a_blockAt, a_copied, a_cells, a_traces, a_pcs, a_states, a_faults, a_dones, a_entryCounts)) : wpX_chooseSlots post (f_maxWords, f_dataCount, f_size, f_ready, f_codeSize, f_shadow, f_resReg, f_resValue, f_resTrap, f_resFault, f_resNext, f_resTaken, f_npc, f_slotOf, f_slotTo, f_flightReg, f_flightValue, a_words, a_leader, a_moved, a_early, a_home, a_code, a_jump, a_blockAt, a_copied, a_cells, a_traces, a_pcs, a_states, a_faults, a_dones, a_entryCounts) := by
  unfold wpX_chooseSlots
  exact ⟨33, xk_cs2 hn h0 hs ti hp 33 0 a_moved a_early (by omega) (by omega) (fun e he => by omega)⟩
end XK2
end
section
/-! the layout, pure: what stands placed while the words below m are laid out -/
def ly_S (E MV : Nat → Int32) (n j : Nat) : Prop := j < n ∧ E j = 0 ∧ (j + 1 < n → E (j + 1) = 0) ∧ ¬ ∃ k, j = k + 1 ∧ ¬ MV k = 0
/-- q is the home of j, or will be: j is next and q the next address, nothing in shadow -/
def ly_P0 (E MV H : Nat → Int32) (n m cs : Nat) (sh : Int32) (q j : Nat) : Prop := (j < m ∧ dm_h H j = q ∧ ly_S E MV n j) ∨ (j = m ∧ q = cs ∧ sh = 0)
def ly_SW (W L E MV H CO : Nat → Int32) (n : Nat) (dc : Int32) (m cs : Nat) (sh : Int32) (q j : Nat) : Prop :=
  CO q = nI (j + 1) ∧ CO (q + 1) = nI j ∧ dm_QT dc (W j) ∧ dm_QT dc (W (j + 1)) ∧ ¬ dm_TC (W (j + 1)) (dm_ds (W j)) ∧ ¬ dm_TC (W j) (dm_ds (W (j + 1))) ∧
  L j = 0 ∧ L (j + 1) = 0 ∧ q + 1 < cs ∧ j + 1 < m ∧ (j + 2 < n → ly_P0 E MV H n m cs sh (q + 2) (j + 2))
/-- what comes behind a plain word, at q -/
def ly_NX (W L E MV H CO : Nat → Int32) (n : Nat) (dc : Int32) (m cs : Nat) (sh : Int32) (q j : Nat) : Prop :=
  (j < m ∧ dm_h H j = q ∧ ly_S E MV n j) ∨ (j = m ∧ q = cs) ∨ (j < m ∧ CO q = -1 ∧ dm_h H j = q + 1 ∧ ly_S E MV n j) ∨ ly_SW W L E MV H CO n dc m cs sh q j
def ly_KP (W L E MV H CO : Nat → Int32) (n : Nat) (dc : Int32) (m cs : Nat) (sh : Int32) (j : Nat) : Prop :=
  (dm_PL (W j) ∧ CO (dm_h H j) = nI j ∧ ly_NX W L E MV H CO n dc m cs sh (dm_h H j + 1) (j + 1) ∧ (dm_LD (W j) → (j + 1 < m → tb_SF W CO n (dm_h H j + 1) (dm_ds (W j))) ∧ (j + 1 = m → sh = dm_ds (W j)))) ∨
  (dm_HS (W j) ∧ CO (dm_h H j) = nI j ∧ CO (dm_h H j + 1) = -1 ∧ dm_h H j + 1 < cs ∧ (j + 1 < n → ly_P0 E MV H n m cs sh (dm_h H j + 2) (j + 1))) ∨
  (¬ MV j = 0 ∧ dm_PL (W j) ∧ CO (dm_h H j) = nI (j + 1) ∧ CO (dm_h H j + 1) = nI j ∧ dm_h H j + 1 < cs ∧ j + 1 < m ∧ H (j + 1) = H j ∧ (j + 2 < n → ly_P0 E MV H n m cs sh (dm_h H j + 2) (j + 2))) ∨
  (dm_FN (W j) 13 ∧ CO (dm_h H j) = nI j)
def ly_LI (W L MV : Nat → Int32) (n : Nat) (dc : Int32) (E H CO : Nat → Int32) (cs : Nat) (sh : Int32) (m : Nat) : Prop :=
  m ≤ n ∧ (∀ j, j < m → H j = nI (dm_h H j) ∧ dm_h H j < cs) ∧ (∀ q, cs ≤ q → q < 128 → CO q = -1) ∧
  (∀ j, j < n → ¬ E j = 0 → ∃ k, j = k + 1 ∧ j < m ∧ L k = 0 ∧ L (k + 1) = 0 ∧ MV (k + 1) = 0 ∧ dm_QT dc (W k) ∧ dm_QT dc (W (k + 1))) ∧
  (∀ j, j < m → ly_S E MV n j → ly_KP W L E MV H CO n dc m cs sh j)
section LY
variable {W L MV E E' H H' CO CO' : Nat → Int32} {n m m' cs cs' c : Nat} {dc sh sh' : Int32}
theorem ly_hEq {j : Nat} (h : H' j = H j) : dm_h H' j = dm_h H j := by unfold dm_h; rw [h]
/-- the part laid out so far keeps its form when the next word, m, is placed -/
theorem ly_ext (hn : n ≤ 32) (I : ly_LI W L MV n dc E H CO cs sh m) (hm : m < m') (hcs : cs < cs') (hC : ∀ q, q < cs → CO' q = CO q) (hH : ∀ j, j < m → H' j = H j)
    (hE : ∀ j, j ≤ m → E' j = E j)
    (r0 : sh = 0 → dm_h H' m = cs ∧ ly_S E' MV n m)
    (r1 : (dm_h H' m = cs ∧ ly_S E' MV n m) ∨ (CO' cs = -1 ∧ dm_h H' m = cs + 1 ∧ ly_S E' MV n m) ∨ ly_SW W L E' MV H' CO' n dc m' cs' sh' cs m)
    (r2 : tb_SF W CO' n cs sh) : ∀ j, j < m → ly_S E' MV n j → ly_KP W L E' MV H' CO' n dc m' cs' sh' j := by
  obtain ⟨mn, iH, iC, iE, iK⟩ := I
  have sS : ∀ j, j < m → (ly_S E' MV n j ↔ ly_S E MV n j) := by
    intro j hj
    unfold ly_S
    rw [hE j (by omega), hE (j + 1) (by omega)]
  have hh : ∀ j, j < m → dm_h H' j = dm_h H j := fun j hj => ly_hEq (hH j hj)
  have p0 : ∀ q j, ly_P0 E MV H n m cs sh q j → ly_P0 E' MV H' n m' cs' sh' q j := by
    intro q j h
    rcases h with ⟨a, b, s⟩ | ⟨a, b, s⟩
    · exact Or.inl ⟨by omega, by rw [hh j a]; exact b, (sS j a).mpr s⟩
    · subst a b
      exact Or.inl ⟨hm, (r0 s).1, (r0 s).2⟩
  have sw : ∀ q j, ly_SW W L E MV H CO n dc m cs sh q j → ly_SW W L E' MV H' CO' n dc m' cs' sh' q j := by
    rintro q j ⟨a1, a2, a3, a4, a5, a6, a7, a8, a9, a10, a11⟩
    exact ⟨by rw [hC q (by omega)]; exact a1, by rw [hC (q + 1) a9]; exact a2, a3, a4, a5, a6, a7, a8, by omega, by omega, fun z => p0 _ _ (a11 z)⟩
  intro j hj hS
  have hjc := (iH j hj).2
  rcases iK j hj ((sS j hj).mp hS) with ⟨pl, co, nx, ld⟩ | ⟨hs, co, c1, hb, fl⟩ | ⟨mv, pl, co, c1, hb, jm, hh1, fl⟩ | ⟨bk, co⟩
  · refine Or.inl ⟨pl, ?_, ?_, fun l => ⟨fun z => ?_, fun z => by omega⟩⟩
    · rw [hh j hj, hC _ hjc]; exact co
    · rw [hh j hj]
      rcases nx with ⟨a, b, s⟩ | ⟨a, b⟩ | ⟨a, b, b2, s⟩ | w
      · exact Or.inl ⟨by omega, by rw [hh _ a]; exact b, (sS _ a).mpr s⟩
      · rw [a, b]
        rcases r1 with ⟨x, y⟩ | ⟨x, y, z⟩ | x
        · exact Or.inl ⟨hm, x, y⟩
        · exact Or.inr (Or.inr (Or.inl ⟨hm, x, y, z⟩))
        · exact Or.inr (Or.inr (Or.inr x))
      · have hb := (iH (j + 1) a).2
        exact Or.inr (Or.inr (Or.inl ⟨by omega, by rw [hC _ (by omega)]; exact b, by rw [hh _ a]; exact b2, (sS _ a).mpr s⟩))
      · exact Or.inr (Or.inr (Or.inr (sw _ _ w)))
    · rw [hh j hj]
      by_cases q : j + 1 < m
      · have f := (ld l).1 q
        have hb : dm_h H j + 1 < cs := by
          rcases nx with ⟨a, b, s⟩ | ⟨a, b⟩ | ⟨a, b, b2, s⟩ | w
          · have := (iH (j + 1) a).2; omega
          · omega
          · have := (iH (j + 1) a).2; omega
          · have := w.2.2.2.2.2.2.2.2.1; omega
        intro c' h1 h2
        rw [hC _ hb] at h2
        exact f c' h1 h2
      · have q : j + 1 = m := by omega
        have e := (ld l).2 q
        rcases nx with ⟨a, b, s⟩ | ⟨a, b⟩ | ⟨a, b, b2, s⟩ | w
        · omega
        · rw [b, ← e]; exact r2
        · omega
        · have := w.2.2.2.2.2.2.2.2.2.1; omega
  · refine Or.inr (Or.inl ⟨hs, ?_, ?_, ?_, fun z => ?_⟩)
    · rw [hh j hj, hC _ hjc]; exact co
    · rw [hh j hj, hC _ hb]; exact c1
    · rw [hh j hj]; omega
    · rw [hh j hj]; exact p0 _ _ (fl z)
  · refine Or.inr (Or.inr (Or.inl ⟨mv, pl, ?_, ?_, ?_, by omega, ?_, fun z => ?_⟩))
    · rw [hh j hj, hC _ hjc]; exact co
    · rw [hh j hj, hC _ hb]; exact c1
    · rw [hh j hj]; omega
    · rw [hH j hj, hH (j + 1) jm]; exact hh1
    · rw [hh j hj]; exact p0 _ _ (fl z)
  · refine Or.inr (Or.inr (Or.inr ⟨bk, ?_⟩))
    rw [hh j hj, hC _ hjc]; exact co
/-- the facts that don't change while words are placed -/
def ly_Ctx (W L MV : Nat → Int32) (n : Nat) (dc : Int32) : Prop := n ≤ 32 ∧ dm_LR W L n ∧ dm_GE W n ∧ dm_MV W L MV n dc
theorem ly_npl {j : Nat} (X : ly_Ctx W L MV n dc) (hj : j + 1 < n) (h : L (j + 1) = 0) : dm_PL (W j) := by
  refine Classical.byContradiction fun q => ?_
  exact (X.2.1 (j + 1) hj).mp h ⟨hj, Or.inr ⟨j, by omega, Or.inr ⟨q, rfl⟩⟩⟩
/-- a word in its own place: at cs, or behind a no-operation -/
theorem ly_N1 (X : ly_Ctx W L MV n dc) (I : ly_LI W L MV n dc E H CO cs sh m) (hmn : m < n) (hmv : ¬ ∃ k, m = k + 1 ∧ ¬ MV k = 0)
    (hc : (c = cs ∧ ¬ dm_TC (W m) sh) ∨ (c = cs + 1 ∧ CO' cs = -1 ∧ ¬ sh = 0)) (hcc : CO' c = nI m) (hC : ∀ q, q < cs → CO' q = CO q) (hH : ∀ j, j < m → H' j = H j) (hHm : H' m = nI c)
    (hcs' : c < cs') (hc128 : cs' ≤ 128) (hbey : ∀ q, cs' ≤ q → q < 128 → CO' q = -1)
    (hk : (dm_PL (W m) ∧ cs' = c + 1 ∧ (dm_LD (W m) → sh' = dm_ds (W m))) ∨ (dm_HS (W m) ∧ cs' = c + 2 ∧ CO' (c + 1) = -1 ∧ sh' = 0) ∨ dm_FN (W m) 13) : ly_LI W L MV n dc E H' CO' cs' sh' (m + 1) := by
  have n32 := X.1
  have I' := I
  obtain ⟨mn, iH, iC, iE, iK⟩ := I'
  have hcm : dm_h H' m = c := by unfold dm_h; rw [hHm, nI_clamp (by omega)]
  have e0 : ∀ j, m ≤ j → j < n → E j = 0 := fun j h1 h2 => Classical.byContradiction fun q => by
    obtain ⟨k, _, h, _⟩ := iE j h2 q
    omega
  have sm : ly_S E MV n m := ⟨hmn, e0 m (by omega) hmn, fun z => e0 (m + 1) (by omega) z, hmv⟩
  have ccs : cs ≤ c := by rcases hc with h | h <;> omega
  refine ⟨by omega, ?_, hbey, ?_, ?_⟩
  · intro j hj
    by_cases q : j < m
    · rw [ly_hEq (hH j q), hH j q]
      exact ⟨(iH j q).1, by have := (iH j q).2; omega⟩
    · obtain rfl : j = m := by omega
      rw [hcm]; exact ⟨hHm, by omega⟩
  · intro j h1 h2
    obtain ⟨k, a, b, z⟩ := iE j h1 h2
    exact ⟨k, a, by omega, z⟩
  · intro j hj hS
    by_cases q : j < m
    · refine ly_ext (sh' := sh') n32 I (Nat.lt_succ_self m) (by omega) hC hH (fun _ _ => rfl) (fun z => ?_) ?_ ?_ j q hS
      · rcases hc with h | h
        · exact ⟨by rw [hcm]; exact h.1, sm⟩
        · exact absurd z h.2.2
      · rcases hc with h | h
        · exact Or.inl ⟨by rw [hcm]; exact h.1, sm⟩
        · exact Or.inr (Or.inl ⟨h.2.1, by rw [hcm]; exact h.1, sm⟩)
      · intro c' h1 h2
        rcases hc with h | h
        · rw [← h.1, hcc] at h2
          have := dm_inj (by omega) (by omega) h2
          subst this; exact h.2
        · rw [h.2.1] at h2
          exact absurd h2.symm (dm_nIm1 (by omega))
    · obtain rfl : j = m := by omega
      rcases hk with ⟨pl, e, ld⟩ | ⟨hs, e, c1, s0⟩ | bk
      · refine Or.inl ⟨pl, by rw [hcm]; exact hcc, Or.inr (Or.inl ⟨rfl, by rw [hcm, e]⟩), fun l => ⟨fun z => by omega, fun _ => ld l⟩⟩
      · exact Or.inr (Or.inl ⟨hs, by rw [hcm]; exact hcc, by rw [hcm]; exact c1, by rw [hcm]; omega, fun _ => Or.inr ⟨rfl, by rw [hcm, e], s0⟩⟩)
      · exact Or.inr (Or.inr (Or.inr ⟨bk, by rw [hcm]; exact hcc⟩))
/-- words m and m + 1 change places -/
theorem ly_N2 (X : ly_Ctx W L MV n dc) (I : ly_LI W L MV n dc E H CO cs sh m) (cS : dm_CS W L MV n dc sh m) (hsh : ¬ sh = 0)
    (hc0 : CO' cs = nI (m + 1)) (hc1 : CO' (cs + 1) = nI m) (hC : ∀ q, q < cs → CO' q = CO q) (hbey : ∀ q, cs + 2 ≤ q → q < 128 → CO' q = -1) (hb : cs + 2 ≤ 128)
    (hH : ∀ j, j < m → H' j = H j) (hHm : H' m = nI (cs + 1)) (hHm1 : H' (m + 1) = nI cs) (hE : ∀ j, j ≤ m → E' j = E j) (hE1 : ¬ E' (m + 1) = 0) (hE2 : ∀ j, m + 1 < j → E' j = E j) (s0 : sh' = 0) : ly_LI W L MV n dc E' H' CO' (cs + 2) sh' (m + 2) := by
  have n32 := X.1
  have I' := I
  obtain ⟨mn, iH, iC, iE, iK⟩ := I'
  obtain ⟨i1, l0, l1, mv1, q0, q1, ts, t1, t2⟩ := cS
  have hcm : dm_h H' m = cs + 1 := by unfold dm_h; rw [hHm, nI_clamp (by omega)]
  have hcm1 : dm_h H' (m + 1) = cs := by unfold dm_h; rw [hHm1, nI_clamp (by omega)]
  have i2 : m + 2 < n := ge_pl X.2.2.1 (by omega) q1.1
  refine ⟨by omega, ?_, hbey, ?_, ?_⟩
  · intro j hj
    by_cases q : j < m
    · rw [ly_hEq (hH j q), hH j q]
      exact ⟨(iH j q).1, by have := (iH j q).2; omega⟩
    · rcases (show j = m ∨ j = m + 1 by omega) with rfl | rfl
      · rw [hcm]; exact ⟨hHm, by omega⟩
      · rw [hcm1]; exact ⟨hHm1, by omega⟩
  · intro j h1 h2
    by_cases q : j = m + 1
    · subst q
      exact ⟨m, rfl, by omega, l0, l1, mv1, q0, q1⟩
    · have : E' j = E j := by
        by_cases z : j ≤ m
        · exact hE j z
        · exact hE2 j (by omega)
      rw [this] at h2
      obtain ⟨k, a, b, z⟩ := iE j h1 h2
      exact ⟨k, a, by omega, z⟩
  · intro j hj hS
    have q : j < m := by
      refine Nat.lt_of_not_le fun z => ?_
      rcases (show j = m ∨ j = m + 1 by omega) with rfl | rfl
      · exact hE1 (hS.2.2.1 i1)
      · exact hE1 hS.2.1
    refine ly_ext (sh' := sh') n32 I (show m < m + 2 by omega) (by omega) hC hH hE (fun z => absurd z hsh) (Or.inr (Or.inr ?_)) ?_ j q hS
    · exact ⟨hc0, hc1, q0, q1, t1, t2, l0, l1, by omega, by omega, fun _ => Or.inr ⟨rfl, rfl, s0⟩⟩
    · intro c' h1 h2
      rw [hc0] at h2
      have := dm_inj (by omega) (by omega) h2
      subst this; exact ts
/-- word m goes into the slot of the branch m + 1 -/
theorem ly_V (X : ly_Ctx W L MV n dc) (I : ly_LI W L MV n dc E H CO cs sh m) (hmv : ¬ MV m = 0) (hm32 : m < 32)
    (hc : (c = cs ∧ ¬ dm_TC (W (m + 1)) sh) ∨ (c = cs + 1 ∧ CO' cs = -1 ∧ ¬ sh = 0)) (hc0 : CO' c = nI (m + 1)) (hc1 : CO' (c + 1) = nI m) (hC : ∀ q, q < cs → CO' q = CO q) (hbey : ∀ q, c + 2 ≤ q → q < 128 → CO' q = -1) (hb : c + 2 ≤ 128)
    (hH : ∀ j, j < m → H' j = H j) (hHm : H' m = nI c) (hHm1 : H' (m + 1) = nI c) (s0 : sh' = 0) : ly_LI W L MV n dc E H' CO' (c + 2) sh' (m + 2) := by
  have n32 := X.1
  have I' := I
  obtain ⟨mn, iH, iC, iE, iK⟩ := I'
  obtain ⟨i1, cf⟩ := X.2.2.2 m hm32 hmv
  have pl := ly_npl X i1 cf.2.1
  have hcm : dm_h H' m = c := by unfold dm_h; rw [hHm, nI_clamp (by omega)]
  have hcm1 : dm_h H' (m + 1) = c := by unfold dm_h; rw [hHm1, nI_clamp (by omega)]
  have e0 : ∀ j, m ≤ j → j < n → E j = 0 := fun j h1 h2 => Classical.byContradiction fun q => by
    obtain ⟨k, _, h, _⟩ := iE j h2 q
    omega
  have nk : ¬ ∃ k, m = k + 1 ∧ ¬ MV k = 0 := by
    rintro ⟨k, rfl, q⟩
    exact pl.1 (Or.inl (X.2.2.2 k (by omega) q).2.1)
  have sm : ly_S E MV n m := ⟨by omega, e0 m (by omega) (by omega), fun z => e0 (m + 1) (by omega) z, nk⟩
  have ccs : cs ≤ c := by rcases hc with h | h <;> omega
  refine ⟨by omega, ?_, hbey, ?_, ?_⟩
  · intro j hj
    by_cases q : j < m
    · rw [ly_hEq (hH j q), hH j q]
      exact ⟨(iH j q).1, by have := (iH j q).2; omega⟩
    · rcases (show j = m ∨ j = m + 1 by omega) with rfl | rfl
      · rw [hcm]; exact ⟨hHm, by omega⟩
      · rw [hcm1]; exact ⟨hHm1, by omega⟩
  · intro j h1 h2
    obtain ⟨k, a, b, z⟩ := iE j h1 h2
    exact ⟨k, a, by omega, z⟩
  · intro j hj hS
    by_cases q : j < m
    · refine ly_ext (sh' := sh') n32 I (show m < m + 2 by omega) (show cs < c + 2 by omega) hC hH (fun _ _ => rfl) (fun z => ?_) ?_ ?_ j q hS
      · rcases hc with h | h
        · exact ⟨by rw [hcm]; exact h.1, sm⟩
        · exact absurd z h.2.2
      · rcases hc with h | h
        · exact Or.inl ⟨by rw [hcm]; exact h.1, sm⟩
        · exact Or.inr (Or.inl ⟨h.2.1, by rw [hcm]; exact h.1, sm⟩)
      · intro c' h1 h2
        rcases hc with h | h
        · rw [← h.1, hc0] at h2
          have := dm_inj (by omega) (by omega) h2
          subst this; exact h.2
        · rw [h.2.1] at h2
          exact absurd h2.symm (dm_nIm1 (by omega))
    · have q : j = m := by
        refine Classical.byContradiction fun z => ?_
        have : j = m + 1 := by omega
        subst this
        exact hS.2.2.2 ⟨m, rfl, hmv⟩
      subst q
      exact Or.inr (Or.inr (Or.inl ⟨hmv, pl, by rw [hcm]; exact hc0, by rw [hcm]; exact hc1, by rw [hcm]; omega, by omega, by rw [hHm, hHm1], fun _ => Or.inr ⟨rfl, by rw [hcm], s0⟩⟩))
end LY
end
section
/-! the component's layOut -/
section XL
variable {f_maxWords f_dataCount f_size f_ready f_codeSize f_shadow f_resReg f_resValue f_resTrap f_resFault f_resNext f_resTaken f_npc f_slotOf f_slotTo f_flightReg f_flightValue : Int32} {a_words a_leader a_moved a_early a_home a_code a_jump a_blockAt a_copied a_cells a_traces a_pcs a_states a_faults a_dones a_entryCounts : Nat → Int32}
variable {post : SX → Prop} {i k n c cs m : Nat}
theorem xl_place (hi : i < 32) (hc : c < 128) (hs : f_codeSize = nI c) (hp : post (f_maxWords, f_dataCount, f_size, f_ready, nI (c + 1), dm_if (dm_LD (a_words i)) (dm_ds (a_words i)) 0, f_resReg, f_resValue, f_resTrap, f_resFault, f_resNext, f_resTaken, f_npc, f_slotOf, f_slotTo, f_flightReg, f_flightValue, a_words, a_leader, a_moved, a_early, a_home, upd a_code c (nI i), a_jump, a_blockAt, a_copied, a_cells, a_traces, a_pcs, a_states, a_faults, a_dones, a_entryCounts)) : wpX_place post (f_maxWords, f_dataCount, f_size, f_ready, f_codeSize, f_shadow, f_resReg, f_resValue, f_resTrap, f_resFault, f_resNext, f_resTaken, f_npc, f_slotOf, f_slotTo, f_flightReg, f_flightValue, a_words, a_leader, a_moved, a_early, a_home, a_code, a_jump, a_blockAt, a_copied, a_cells, a_traces, a_pcs, a_states, a_faults, a_dones, a_entryCounts) (nI i) := by
  subst hs
  unfold wpX_place
  refine And.intro (vp_in_nI hc (by omega)) (nm_r (e' := upd a_code c (nI i)) ?_ (nm_r (nI_1 c) (br_f (nI_pos (by omega)) (xr_isLoad hi (dm_bc (fun l => ?_) (fun l => xr_dest hi ?_))))))
  · rw [nI_clamp (by omega)]
  · rw [dm_in l] at hp; exact hp
  · rw [dm_it l] at hp; exact hp
theorem xl_placeN (hc : c < 128) (hs : f_codeSize = nI c) (hp : post (f_maxWords, f_dataCount, f_size, f_ready, nI (c + 1), 0, f_resReg, f_resValue, f_resTrap, f_resFault, f_resNext, f_resTaken, f_npc, f_slotOf, f_slotTo, f_flightReg, f_flightValue, a_words, a_leader, a_moved, a_early, a_home, upd a_code c (-1), a_jump, a_blockAt, a_copied, a_cells, a_traces, a_pcs, a_states, a_faults, a_dones, a_entryCounts)) : wpX_place post (f_maxWords, f_dataCount, f_size, f_ready, f_codeSize, f_shadow, f_resReg, f_resValue, f_resTrap, f_resFault, f_resNext, f_resTaken, f_npc, f_slotOf, f_slotTo, f_flightReg, f_flightValue, a_words, a_leader, a_moved, a_early, a_home, a_code, a_jump, a_blockAt, a_copied, a_cells, a_traces, a_pcs, a_states, a_faults, a_dones, a_entryCounts) (-1) := by
  subst hs
  unfold wpX_place
  refine And.intro (vp_in_nI hc (by omega)) (nm_r (e' := upd a_code c (-1)) ?_ (nm_r (nI_1 c) (br_t (by decide) hp)))
  rw [nI_clamp (by omega)]
theorem xl_fill (hn : n ≤ 32) (hz : f_size = nI n) (hi : i < n) (hc : c < 128) (hs : f_codeSize = nI c) (h0 : post (f_maxWords, f_dataCount, f_size, f_ready, nI (c + 1), 0, f_resReg, f_resValue, f_resTrap, f_resFault, f_resNext, f_resTaken, f_npc, f_slotOf, f_slotTo, f_flightReg, f_flightValue, a_words, a_leader, a_moved, a_early, a_home, upd a_code c (-1), a_jump, a_blockAt, a_copied, a_cells, a_traces, a_pcs, a_states, a_faults, a_dones, a_entryCounts))
    (h1 : dm_CS a_words a_leader a_moved n f_dataCount f_shadow i → post (f_maxWords, f_dataCount, f_size, f_ready, nI (c + 1), dm_if (dm_LD (a_words (i + 1))) (dm_ds (a_words (i + 1))) 0, f_resReg, f_resValue, f_resTrap, f_resFault, f_resNext, f_resTaken, f_npc, f_slotOf, f_slotTo, f_flightReg, f_flightValue, a_words, a_leader, a_moved, upd a_early (i + 1) 1, upd a_home (i + 1) (nI c), upd a_code c (nI (i + 1)), a_jump, a_blockAt, a_copied, a_cells, a_traces, a_pcs, a_states, a_faults, a_dones, a_entryCounts)) : wpX_fillShadow post (f_maxWords, f_dataCount, f_size, f_ready, f_codeSize, f_shadow, f_resReg, f_resValue, f_resTrap, f_resFault, f_resNext, f_resTaken, f_npc, f_slotOf, f_slotTo, f_flightReg, f_flightValue, a_words, a_leader, a_moved, a_early, a_home, a_code, a_jump, a_blockAt, a_copied, a_cells, a_traces, a_pcs, a_states, a_faults, a_dones, a_entryCounts) (nI i) := by
  unfold wpX_fillShadow
  refine nm_r (nI_1 i) (xr_canSwap hn hz hi (fun cS => br_f dm_10 ?_) (br_t rfl (xl_placeN hc hs h0)))
  have i1 := cS.1
  have cc : (nI (i + 1)).toNatClampNeg = i + 1 := nI_clamp (by omega)
  refine And.intro (vp_in_nI (by omega) (by omega)) (nm_r (e' := upd a_early (i + 1) 1) (by rw [cc, dm_vb1]) (And.intro (vp_in_nI (by omega) (by omega)) (nm_r (e' := upd a_home (i + 1) (nI c)) (by rw [cc, hs]) (xl_place (by omega) hc hs (h1 cS)))))
theorem xl_17 (hi : i < 32) (hc : c + 1 < 128) (hs : f_codeSize = nI c)
    (h0 : ¬ dm_HS (a_words i) → post (f_maxWords, f_dataCount, f_size, f_ready, nI (c + 1), dm_if (dm_LD (a_words i)) (dm_ds (a_words i)) 0, f_resReg, f_resValue, f_resTrap, f_resFault, f_resNext, f_resTaken, f_npc, f_slotOf, f_slotTo, f_flightReg, f_flightValue, a_words, a_leader, a_moved, a_early, upd a_home i (nI c), upd a_code c (nI i), a_jump, a_blockAt, a_copied, a_cells, a_traces, a_pcs, a_states, a_faults, a_dones, a_entryCounts))
    (h1 : dm_HS (a_words i) → (¬ ∃ k, i = k + 1 ∧ ¬ a_moved k = 0) → post (f_maxWords, f_dataCount, f_size, f_ready, nI (c + 2), 0, f_resReg, f_resValue, f_resTrap, f_resFault, f_resNext, f_resTaken, f_npc, f_slotOf, f_slotTo, f_flightReg, f_flightValue, a_words, a_leader, a_moved, a_early, upd a_home i (nI c), upd (upd a_code c (nI i)) (c + 1) (-1), a_jump, a_blockAt, a_copied, a_cells, a_traces, a_pcs, a_states, a_faults, a_dones, a_entryCounts))
    (h2 : dm_HS (a_words i) → ∀ k, i = k + 1 → ¬ a_moved k = 0 → post (f_maxWords, f_dataCount, f_size, f_ready, nI (c + 2), 0, f_resReg, f_resValue, f_resTrap, f_resFault, f_resNext, f_resTaken, f_npc, f_slotOf, f_slotTo, f_flightReg, f_flightValue, a_words, a_leader, a_moved, a_early, upd (upd a_home i (nI c)) k (nI c), upd (upd a_code c (nI i)) (c + 1) (nI k), a_jump, a_blockAt, a_copied, a_cells, a_traces, a_pcs, a_states, a_faults, a_dones, a_entryCounts)) : wX_emit_17 post (nI i) f_maxWords f_dataCount f_size f_ready f_codeSize f_shadow f_resReg f_resValue f_resTrap f_resFault f_resNext f_resTaken f_npc f_slotOf f_slotTo f_flightReg f_flightValue a_words a_leader a_moved a_early a_home a_code a_jump a_blockAt a_copied a_cells a_traces a_pcs a_states a_faults a_dones a_entryCounts := by
  have cc : (nI i).toNatClampNeg = i := nI_clamp (by omega)
  unfold wX_emit_17
  refine And.intro (vp_in_nI hi (by omega)) (nm_r (e' := upd a_home i (nI c)) (by rw [cc, hs]) (xl_place hi (by omega) hs (xr_hasSlot hi (dm_bc (fun q => h0 q) (fun q => ?_)))))
  refine br_c (fun z => ?_) (fun z => ?_)
  · have i0 : i = 0 := by
      rw [show (0 : Int32) = nI 0 from rfl, nI_leI (by omega) (by omega)] at z; omega
    unfold wX_emit_80
    exact xl_placeN hc rfl (h1 q (fun ⟨k, e, _⟩ => by omega))
  · obtain ⟨k, rfl⟩ : ∃ k, i = k + 1 := ⟨i - 1, by
      rw [show (0 : Int32) = nI 0 from rfl, nI_leI (by omega) (by omega)] at z; omega⟩
    have ck : (nI (k + 1) - 1).toNatClampNeg = k := by rw [nI_pred, nI_clamp (by omega)]
    have vk : vp_in (nI (k + 1) - 1) 32 := by rw [nI_pred]; exact vp_in_nI (by omega) (by omega)
    refine And.intro vk (br_c (fun w => ?_) (fun w => ?_))
    · rw [ck] at w
      unfold wX_emit_80
      refine xl_placeN hc rfl (h1 q ?_)
      rintro ⟨k', e, y⟩
      obtain rfl : k = k' := by omega
      exact y w
    · rw [ck] at w
      refine And.intro (vp_in_nI hi (by omega)) (And.intro vk (nm_r (e' := upd (upd a_home (k + 1) (nI c)) k (nI c)) (by rw [ck, cc, pk_us]) ?_))
      rw [nI_pred]
      exact xl_place (by omega) hc rfl (h2 q k rfl w)
/-- before word i is placed: nothing, a no-operation, or the word behind it -/
theorem xl_emit (hn : n ≤ 32) (hz : f_size = nI n) (hi : i < n) (hc : c < 128) (hs : f_codeSize = nI c)
    (h0 : ¬ dm_TC (a_words i) f_shadow → wX_emit_17 post (nI i) f_maxWords f_dataCount f_size f_ready f_codeSize f_shadow f_resReg f_resValue f_resTrap f_resFault f_resNext f_resTaken f_npc f_slotOf f_slotTo f_flightReg f_flightValue a_words a_leader a_moved a_early a_home a_code a_jump a_blockAt a_copied a_cells a_traces a_pcs a_states a_faults a_dones a_entryCounts)
    (h1 : dm_TC (a_words i) f_shadow → wX_emit_17 post (nI i) f_maxWords f_dataCount f_size f_ready (nI (c + 1)) 0 f_resReg f_resValue f_resTrap f_resFault f_resNext f_resTaken f_npc f_slotOf f_slotTo f_flightReg f_flightValue a_words a_leader a_moved a_early a_home (upd a_code c (-1)) a_jump a_blockAt a_copied a_cells a_traces a_pcs a_states a_faults a_dones a_entryCounts)
    (h2 : dm_TC (a_words i) f_shadow → dm_CS a_words a_leader a_moved n f_dataCount f_shadow i → wX_emit_17 post (nI i) f_maxWords f_dataCount f_size f_ready (nI (c + 1)) (dm_if (dm_LD (a_words (i + 1))) (dm_ds (a_words (i + 1))) 0) f_resReg f_resValue f_resTrap f_resFault f_resNext f_resTaken f_npc f_slotOf f_slotTo f_flightReg f_flightValue a_words a_leader a_moved (upd a_early (i + 1) 1) (upd a_home (i + 1) (nI c)) (upd a_code c (nI (i + 1))) a_jump a_blockAt a_copied a_cells a_traces a_pcs a_states a_faults a_dones a_entryCounts) : wpX_emit post (f_maxWords, f_dataCount, f_size, f_ready, f_codeSize, f_shadow, f_resReg, f_resValue, f_resTrap, f_resFault, f_resNext, f_resTaken, f_npc, f_slotOf, f_slotTo, f_flightReg, f_flightValue, a_words, a_leader, a_moved, a_early, a_home, a_code, a_jump, a_blockAt, a_copied, a_cells, a_traces, a_pcs, a_states, a_faults, a_dones, a_entryCounts) (nI i) := by
  unfold wpX_emit
  exact xr_touches (by omega) (dm_bc (fun q => h0 q) (fun q => xl_fill hn hz hi hc hs (h1 q) (h2 q)))
end XL
theorem ly_beyond {CO : Nat → Int32} {cs c : Nat} {x : Int32} (h : ∀ q, cs ≤ q → q < 128 → CO q = -1) (hc : cs ≤ c) : ∀ q, c + 1 ≤ q → q < 128 → upd CO c x q = -1 := fun q a b => by rw [pk_un (by omega)]; exact h q (by omega) b
def ly_rel (E MV : Nat → Int32) (n i m : Nat) : Prop := (m = i ∧ ¬ ∃ k, i = k + 1 ∧ ¬ MV k = 0) ∨ (m = i + 1 ∧ ¬ E i = 0 ∧ i < n) ∨ (m + 1 = i ∧ ¬ MV m = 0)
section XL2
variable {f_maxWords f_dataCount f_size f_ready f_codeSize f_shadow f_resReg f_resValue f_resTrap f_resFault f_resNext f_resTaken f_npc f_slotOf f_slotTo f_flightReg f_flightValue : Int32} {a_words a_leader a_moved a_early a_home a_code a_jump a_blockAt a_copied a_cells a_traces a_pcs a_states a_faults a_dones a_entryCounts : Nat → Int32}
variable {post : SX → Prop} {i k n c cs m : Nat} {sh : Int32} {E H CO : Nat → Int32}
/-- one word laid out: case of a word in its own turn -/
theorem xl_stepN (X : ly_Ctx a_words a_leader a_moved n f_dataCount) (hz : f_size = nI n) (I : ly_LI a_words a_leader a_moved n f_dataCount E H CO cs sh i) (hi : i < n) (hcs : cs ≤ 3 * i) (nk : ¬ ∃ k, i = k + 1 ∧ ¬ a_moved k = 0)
    (k : ∀ (cs' m' : Nat) (sh' : Int32) (E' H' CO' : Nat → Int32), cs' ≤ 3 * (i + 1) → ly_LI a_words a_leader a_moved n f_dataCount E' H' CO' cs' sh' m' → ((m' = i + 1) ∨ (m' = i + 2 ∧ ¬ E' (i + 1) = 0 ∧ i + 1 < n)) → post (f_maxWords, f_dataCount, f_size, f_ready, nI cs', sh', f_resReg, f_resValue, f_resTrap, f_resFault, f_resNext, f_resTaken, f_npc, f_slotOf, f_slotTo, f_flightReg, f_flightValue, a_words, a_leader, a_moved, E', H', CO', a_jump, a_blockAt, a_copied, a_cells, a_traces, a_pcs, a_states, a_faults, a_dones, a_entryCounts)) : wpX_emit post (f_maxWords, f_dataCount, f_size, f_ready, nI cs, sh, f_resReg, f_resValue, f_resTrap, f_resFault, f_resNext, f_resTaken, f_npc, f_slotOf, f_slotTo, f_flightReg, f_flightValue, a_words, a_leader, a_moved, E, H, CO, a_jump, a_blockAt, a_copied, a_cells, a_traces, a_pcs, a_states, a_faults, a_dones, a_entryCounts) (nI i) := by
  have n32 := X.1
  have iC := I.2.2.1
  -- the word at c, after the stage before it
  have put : ∀ (c : Nat) (CO1 : Nat → Int32) (sh1 : Int32), ((c = cs ∧ ¬ dm_TC (a_words i) sh) ∨ (c = cs + 1 ∧ CO1 cs = -1 ∧ ¬ sh = 0)) → (∀ q, q < cs → CO1 q = CO q) → (∀ q, c ≤ q → q < 128 → CO1 q = -1) → wX_emit_17 post (nI i) f_maxWords f_dataCount f_size f_ready (nI c) sh1 f_resReg f_resValue f_resTrap f_resFault f_resNext f_resTaken f_npc f_slotOf f_slotTo f_flightReg f_flightValue a_words a_leader a_moved E H CO1 a_jump a_blockAt a_copied a_cells a_traces a_pcs a_states a_faults a_dones a_entryCounts := by
    intro c CO1 sh1 hc hC hb
    have cb : cs ≤ c ∧ c ≤ cs + 1 := by rcases hc with h | h <;> omega
    refine xl_17 (c := c) (by omega) (by omega) rfl (fun ns => ?_) (fun hs _ => ?_) (fun hs kk e mv => absurd ⟨kk, e, mv⟩ nk)
    · refine k (c + 1) (i + 1) _ E _ _ (by omega) ?_ (Or.inl rfl)
      refine ly_N1 (c := c) X I hi nk ?_ pk_us (fun q hq => ?_) (fun j hj => pk_un (by omega)) pk_us (by omega) (by omega) (ly_beyond hb (Nat.le_refl c)) ?_
      · rcases hc with h | h
        · exact Or.inl h
        · exact Or.inr ⟨h.1, by rw [pk_un (by omega)]; exact h.2.1, h.2.2⟩
      · rw [pk_un (by omega)]; exact hC q hq
      · by_cases bk : dm_FN (a_words i) 13
        · exact Or.inr (Or.inr bk)
        · exact Or.inl ⟨⟨ns, bk⟩, rfl, fun l => dm_it l⟩
    · refine k (c + 2) (i + 1) _ E _ _ (by omega) ?_ (Or.inl rfl)
      refine ly_N1 (c := c) X I hi nk ?_ ?_ (fun q hq => ?_) (fun j hj => pk_un (by omega)) pk_us (by omega) (by omega) (ly_beyond (ly_beyond hb (Nat.le_refl c)) (Nat.le_refl _)) (Or.inr (Or.inl ⟨hs, rfl, pk_us, rfl⟩))
      · rcases hc with h | h
        · exact Or.inl h
        · exact Or.inr ⟨h.1, by rw [pk_un (by omega), pk_un (by omega)]; exact h.2.1, h.2.2⟩
      · rw [pk_un (by omega), pk_us]
      · rw [pk_un (by omega), pk_un (by omega)]; exact hC q hq
  refine xl_emit (c := cs) n32 hz hi (by omega) rfl (fun q => ?_) (fun q => ?_) (fun q cS => ?_)
  · exact put cs CO sh (Or.inl ⟨rfl, q⟩) (fun _ _ => rfl) (fun p a b => iC p a b)
  · exact put (cs + 1) _ 0 (Or.inr ⟨rfl, pk_us, q.1⟩) (fun p a => pk_un (by omega)) (fun p a b => by rw [pk_un (by omega)]; exact iC p (by omega) b)
  · have q0 := cS.2.2.2.2.1
    refine xl_17 (c := cs + 1) (by omega) (by omega) rfl (fun ns => ?_) (fun hs => absurd hs q0.1.1) (fun hs => absurd hs q0.1.1)
    refine k (cs + 2) (i + 2) _ _ _ _ (by omega) ?_ (Or.inr ⟨rfl, ?_, cS.1⟩)
    · refine ly_N2 X I cS q.1 ?_ pk_us (fun p a => ?_) (ly_beyond (ly_beyond iC (Nat.le_refl cs)) (Nat.le_refl _)) (by omega) (fun j hj => ?_) pk_us ?_ (fun j hj => pk_un (by omega)) ?_ (fun j hj => pk_un (by omega)) ?_
      · rw [pk_un (by omega), pk_us]
      · rw [pk_un (by omega), pk_un (by omega)]
      · rw [pk_un (by omega), pk_un (by omega)]
      · rw [pk_un (by omega), pk_us]
      · rw [pk_us]; exact dm_10
      · exact dm_in (fun l => q0.2.1 (by rw [show dm_op (a_words i) = 35 from l]; decide))
    · rw [pk_us]; exact dm_10
/-- a branch whose slot takes the word ahead of it -/
theorem xl_stepV (X : ly_Ctx a_words a_leader a_moved n f_dataCount) (hz : f_size = nI n) (I : ly_LI a_words a_leader a_moved n f_dataCount E H CO cs sh m) (hi : m + 1 < n) (hcs : cs ≤ 3 * (m + 1)) (hmv : ¬ a_moved m = 0)
    (k : ∀ (cs' m' : Nat) (sh' : Int32) (E' H' CO' : Nat → Int32), cs' ≤ 3 * (m + 2) → ly_LI a_words a_leader a_moved n f_dataCount E' H' CO' cs' sh' m' → m' = m + 2 → post (f_maxWords, f_dataCount, f_size, f_ready, nI cs', sh', f_resReg, f_resValue, f_resTrap, f_resFault, f_resNext, f_resTaken, f_npc, f_slotOf, f_slotTo, f_flightReg, f_flightValue, a_words, a_leader, a_moved, E', H', CO', a_jump, a_blockAt, a_copied, a_cells, a_traces, a_pcs, a_states, a_faults, a_dones, a_entryCounts)) : wpX_emit post (f_maxWords, f_dataCount, f_size, f_ready, nI cs, sh, f_resReg, f_resValue, f_resTrap, f_resFault, f_resNext, f_resTaken, f_npc, f_slotOf, f_slotTo, f_flightReg, f_flightValue, a_words, a_leader, a_moved, E, H, CO, a_jump, a_blockAt, a_copied, a_cells, a_traces, a_pcs, a_states, a_faults, a_dones, a_entryCounts) (nI (m + 1)) := by
  have n32 := X.1
  have iC := I.2.2.1
  have cf := (X.2.2.2 m (by omega) hmv).2
  have hs : dm_HS (a_words (m + 1)) := Or.inl cf.1
  have put : ∀ (c : Nat) (CO1 : Nat → Int32) (sh1 : Int32), ((c = cs ∧ ¬ dm_TC (a_words (m + 1)) sh) ∨ (c = cs + 1 ∧ CO1 cs = -1 ∧ ¬ sh = 0)) → (∀ q, q < cs → CO1 q = CO q) → (∀ q, c ≤ q → q < 128 → CO1 q = -1) → wX_emit_17 post (nI (m + 1)) f_maxWords f_dataCount f_size f_ready (nI c) sh1 f_resReg f_resValue f_resTrap f_resFault f_resNext f_resTaken f_npc f_slotOf f_slotTo f_flightReg f_flightValue a_words a_leader a_moved E H CO1 a_jump a_blockAt a_copied a_cells a_traces a_pcs a_states a_faults a_dones a_entryCounts := by
    intro c CO1 sh1 hc hC hb
    have cb : cs ≤ c ∧ c ≤ cs + 1 := by rcases hc with h | h <;> omega
    refine xl_17 (c := c) (by omega) (by omega) rfl (fun ns => absurd hs ns) (fun _ nk => absurd ⟨m, rfl, hmv⟩ nk) (fun _ kk e mv => ?_)
    obtain rfl : m = kk := by omega
    refine k (c + 2) (m + 2) _ E _ _ (by omega) ?_ rfl
    refine ly_V (c := c) X I hmv (by omega) ?_ ?_ pk_us (fun q hq => ?_) (ly_beyond (ly_beyond hb (Nat.le_refl c)) (Nat.le_refl _)) (by omega) (fun j hj => ?_) pk_us ?_ rfl
    · rcases hc with h | h
      · exact Or.inl h
      · exact Or.inr ⟨h.1, by rw [pk_un (by omega), pk_un (by omega)]; exact h.2.1, h.2.2⟩
    · rw [pk_un (by omega), pk_us]
    · rw [pk_un (by omega), pk_un (by omega)]; exact hC q hq
    · rw [pk_un (by omega), pk_un (by omega)]
    · rw [pk_un (by omega), pk_us]
  refine xl_emit (c := cs) n32 hz hi (by omega) rfl (fun q => ?_) (fun q => ?_) (fun q cS => absurd hs cS.2.2.2.2.1.1.1)
  · exact put cs CO sh (Or.inl ⟨rfl, q⟩) (fun _ _ => rfl) (fun p a b => iC p a b)
  · exact put (cs + 1) _ 0 (Or.inr ⟨rfl, pk_us, q.1⟩) (fun p a => pk_un (by omega)) (fun p a b => by rw [pk_un (by omega)]; exact iC p (by omega) b)
theorem xl_55 (X : ly_Ctx a_words a_leader a_moved n f_dataCount) (hz : f_size = nI n)
    (hp : ∀ (cs : Nat) (sh : Int32) (E H CO : Nat → Int32), cs ≤ 96 → ly_LI a_words a_leader a_moved n f_dataCount E H CO cs sh n → post (f_maxWords, f_dataCount, f_size, f_ready, nI cs, sh, f_resReg, f_resValue, f_resTrap, f_resFault, f_resNext, f_resTaken, f_npc, f_slotOf, f_slotTo, f_flightReg, f_flightValue, a_words, a_leader, a_moved, E, H, CO, a_jump, a_blockAt, a_copied, a_cells, a_traces, a_pcs, a_states, a_faults, a_dones, a_entryCounts)) :
    ∀ (mm i m cs : Nat) (sh : Int32) (E H CO : Nat → Int32), n < mm + i → i ≤ n → cs ≤ 3 * i → ly_LI a_words a_leader a_moved n f_dataCount E H CO cs sh m → ly_rel E a_moved n i m → wX_layOut_55 post mm (nI i) f_maxWords f_dataCount f_size f_ready (nI cs) sh f_resReg f_resValue f_resTrap f_resFault f_resNext f_resTaken f_npc f_slotOf f_slotTo f_flightReg f_flightValue a_words a_leader a_moved E H CO a_jump a_blockAt a_copied a_cells a_traces a_pcs a_states a_faults a_dones a_entryCounts := by
  have n32 := X.1
  intro mm
  induction mm with
  | zero => intro i m cs sh E H CO h1 h2; omega
  | succ mm ih =>
    intro i m cs sh E H CO h1 h2 hcs I rel
    have iE := I.2.2.2.1
    have c : (nI i).toNatClampNeg = i := nI_clamp (by omega)
    rw [wX_layOut_55]
    by_cases hin : i < n
    · have v : vp_in (nI i) 32 := vp_in_nI (by omega) (by omega)
      refine br_f (by rw [hz]; exact nI_ge hin (by omega)) (And.intro v ?_)
      dsimp only
      rw [c]
      rcases rel with ⟨rfl, nk⟩ | ⟨rfl, e1, _⟩ | ⟨rfl, mv⟩
      · refine br_c (fun mv0 => And.intro v (br_t ?_ ?_)) (fun mv => nm_r (nI_1 m) (ih (m + 1) m cs sh E H CO (by omega) (by omega) (by omega) I (Or.inr (Or.inr ⟨rfl, mv⟩))))
        · exact Classical.byContradiction fun q => by
            obtain ⟨k, _, h, _⟩ := iE m hin q
            omega
        · refine xl_stepN X hz I hin hcs nk (fun cs' m' sh' E' H' CO' hc' I' hm' => nm_r (nI_1 m) (ih (m + 1) m' cs' sh' E' H' CO' (by omega) (by omega) hc' I' ?_))
          rcases hm' with rfl | ⟨rfl, e, h⟩
          · exact Or.inl ⟨rfl, fun ⟨k, e, q⟩ => by obtain rfl : m = k := by omega
                                                   exact q mv0⟩
          · exact Or.inr (Or.inl ⟨rfl, e, h⟩)
      · obtain ⟨k, e, _, _, _, mv0, _⟩ := iE i hin e1
        subst e
        refine br_t mv0 (And.intro v (br_f e1 (nm_r (nI_1 _) (ih (k + 2) _ cs sh E H CO (by omega) (by omega) (by omega) I (Or.inl ⟨rfl, ?_⟩)))))
        rintro ⟨k', e, q⟩
        obtain rfl : k + 1 = k' := by omega
        exact q mv0
      · have hm32 : m < 32 := by omega
        obtain ⟨i1, cf⟩ := X.2.2.2 m hm32 mv
        have mv0 : a_moved (m + 1) = 0 := Classical.byContradiction fun q => by
          obtain ⟨i2, cf2⟩ := X.2.2.2 (m + 1) (by omega) q
          exact (ly_npl X i2 cf2.2.1).1 (Or.inl cf.1)
        refine br_t mv0 (And.intro v (br_t ?_ ?_))
        · exact Classical.byContradiction fun q => by
            obtain ⟨k, _, h, _⟩ := iE (m + 1) hin q
            omega
        · refine xl_stepV X hz I hin hcs mv (fun cs' m' sh' E' H' CO' hc' I' hm' => nm_r (nI_1 (m + 1)) (ih (m + 2) m' cs' sh' E' H' CO' (by omega) (by omega) hc' I' ?_))
          subst hm'
          exact Or.inl ⟨rfl, fun ⟨k, e, q⟩ => by obtain rfl : m + 1 = k := by omega
                                                 exact q mv0⟩
    · obtain rfl : i = n := by omega
      refine br_t (by rw [hz]; exact nI_le (by omega) (by omega)) ?_
      have : m = i := by
        rcases rel with h | h | ⟨h, mv⟩
        · exact h.1
        · omega
        · have := (X.2.2.2 m (by omega) mv).1; omega
      subst this
      exact hp cs sh E H CO (by omega) I
theorem xl_2 (X : ly_Ctx a_words a_leader a_moved n f_dataCount) (hz : f_size = nI n) (hE : ∀ k, k < 32 → a_early k = 0)
    (hp : ∀ (cs : Nat) (sh : Int32) (E H CO JU BA CP : Nat → Int32), cs ≤ 96 → ly_LI a_words a_leader a_moved n f_dataCount E H CO cs sh n → (∀ q, q < 128 → BA q = -1 ∧ CP q = 0) → post (f_maxWords, f_dataCount, f_size, f_ready, nI cs, sh, f_resReg, f_resValue, f_resTrap, f_resFault, f_resNext, f_resTaken, f_npc, f_slotOf, f_slotTo, f_flightReg, f_flightValue, a_words, a_leader, a_moved, E, H, CO, JU, BA, CP, a_cells, a_traces, a_pcs, a_states, a_faults, a_dones, a_entryCounts)) :
    ∀ (mm i : Nat) (CO JU BA CP : Nat → Int32), 128 < mm + i → i ≤ 128 → (∀ q, q < i → CO q = -1 ∧ BA q = -1 ∧ CP q = 0) → wX_layOut_2 post f_maxWords f_dataCount f_size f_ready f_codeSize f_shadow f_resReg f_resValue f_resTrap f_resFault f_resNext f_resTaken f_npc f_slotOf f_slotTo f_flightReg f_flightValue mm (nI i) a_words a_leader a_moved a_early a_home CO JU BA CP a_cells a_traces a_pcs a_states a_faults a_dones a_entryCounts := by
  have n32 := X.1
  intro mm
  induction mm with
  | zero => intro i CO JU BA CP h1 h2; omega
  | succ mm ih =>
    intro i CO JU BA CP h1 h2 h
    have c : (nI i).toNatClampNeg = i := nI_clamp (by omega)
    rw [wX_layOut_2]
    refine pk_le 128 i (fun hi => ⟨n + 1, ?_⟩) (fun hi => ?_)
    · obtain rfl : i = 128 := by omega
      refine xl_55 (a_jump := JU) (a_blockAt := BA) (a_copied := CP) X hz (fun cs sh E H CO' hc I => hp cs sh E H CO' JU BA CP hc I (fun q hq => (h q hq).2)) (n + 1) 0 0 0 0 a_early a_home CO (by omega) (by omega) (by omega) ?_ (Or.inl ⟨rfl, fun ⟨k, e, _⟩ => by omega⟩)
      exact ⟨by omega, fun j hj => by omega, fun q _ hq => (h q hq).1, fun j hj q => absurd (hE j (by omega)) q, fun j hj => by omega⟩
    · have v : vp_in (nI i) 128 := vp_in_nI hi (by omega)
      refine And.intro v (nm_r (e' := upd CO i (-1)) (by rw [c]) (And.intro v (nm_r (e' := upd JU i 0) (by rw [c]) (And.intro v (nm_r (e' := upd BA i (-1)) (by rw [c]) (And.intro v (nm_r (e' := upd CP i 0) (by rw [c, dm_vb0]) (nm_r (nI_1 i) (ih (i + 1) _ _ _ _ (by omega) (by omega) (fun q hq => ?_))))))))))
      by_cases z : q = i
      · subst z; rw [pk_us, pk_us, pk_us]; exact ⟨rfl, rfl, rfl⟩
      · rw [pk_un z, pk_un z, pk_un z]; exact h q (by omega)
theorem xl_layOut (X : ly_Ctx a_words a_leader a_moved n f_dataCount) (hz : f_size = nI n) (hE : ∀ k, k < 32 → a_early k = 0)
    (hp : ∀ (cs : Nat) (sh : Int32) (E H CO JU BA CP : Nat → Int32), cs ≤ 96 → ly_LI a_words a_leader a_moved n f_dataCount E H CO cs sh n → (∀ q, q < 128 → BA q = -1 ∧ CP q = 0) → post (f_maxWords, f_dataCount, f_size, f_ready, nI cs, sh, f_resReg, f_resValue, f_resTrap, f_resFault, f_resNext, f_resTaken, f_npc, f_slotOf, f_slotTo, f_flightReg, f_flightValue, a_words, a_leader, a_moved, E, H, CO, JU, BA, CP, a_cells, a_traces, a_pcs, a_states, a_faults, a_dones, a_entryCounts)) : wpX_layOut post (f_maxWords, f_dataCount, f_size, f_ready, f_codeSize, f_shadow, f_resReg, f_resValue, f_resTrap, f_resFault, f_resNext, f_resTaken, f_npc, f_slotOf, f_slotTo, f_flightReg, f_flightValue, a_words, a_leader, a_moved, a_early, a_home, a_code, a_jump, a_blockAt, a_copied, a_cells, a_traces, a_pcs, a_states, a_faults, a_dones, a_entryCounts) := by
  unfold wpX_layOut
  exact ⟨129, xl_2 X hz hE hp 129 0 a_code a_jump a_blockAt a_copied (by omega) (by omega) (fun q hq => by omega)⟩
end XL2
end
section
/-! linking: the tables complete -/
section LS
variable {W L MV E H CO : Nat → Int32} {n cs : Nat} {dc sh : Int32}
theorem ls_lead (X : ly_Ctx W L MV n dc) (I : ly_LI W L MV n dc E H CO cs sh n) {j : Nat} (hj : j < n) (hl : ¬ L j = 0) : ly_S E MV n j := by
  have n32 := X.1
  refine ⟨hj, Classical.byContradiction fun q => ?_, fun h => Classical.byContradiction fun q => ?_, fun ⟨k, e, q⟩ => ?_⟩
  · obtain ⟨k, e, _, _, l1, _⟩ := I.2.2.2.1 j hj q
    subst e; exact hl l1
  · obtain ⟨k, e, _, l0, _⟩ := I.2.2.2.1 (j + 1) h q
    obtain rfl : j = k := by omega
    exact hl l0
  · subst e
    exact hl (X.2.2.2 k (by omega) q).2.2.1
/-- the kinds, before linking -/
def ls_K (W L MV E H CO : Nat → Int32) (n : Nat) (dc : Int32) (j : Nat) : Prop :=
  tb_K1 W L H CO n dc (ly_S E MV n) j ∨
  (dm_HS (W j) ∧ CO (dm_h H j) = nI j ∧ CO (dm_h H j + 1) = -1 ∧ (dm_HT (W j) → ¬ dm_JM (W j) → j + 1 < n ∧ dm_h H (j + 1) = dm_h H j + 2)) ∨
  (¬ MV j = 0 ∧ dm_CF W L n dc j ∧ dm_PL (W j) ∧ j + 1 < n ∧ CO (dm_h H j) = nI (j + 1) ∧ CO (dm_h H j + 1) = nI j ∧ H (j + 1) = H j ∧ (¬ dm_JM (W (j + 1)) → j + 2 < n ∧ dm_h H (j + 2) = dm_h H j + 2)) ∨
  tb_K4 W H CO j
theorem ls_kind (X : ly_Ctx W L MV n dc) (I : ly_LI W L MV n dc E H CO cs sh n) {j : Nat} (hS : ly_S E MV n j) : ls_K W L MV E H CO n dc j := by
  have n32 := X.1
  have hj := hS.1
  have p0 : ∀ q j, j < n → ly_P0 E MV H n n cs sh q j → dm_h H j = q := by
    intro q j hj h
    rcases h with h | h
    · exact h.2.1
    · omega
  have p1 : ∀ q j, j < n → ly_P0 E MV H n n cs sh q j → ly_S E MV n j := by
    intro q j hj h
    rcases h with h | h
    · exact h.2.2
    · omega
  rcases I.2.2.2.2 j hj hS with ⟨pl, co, nx, ld⟩ | ⟨hs, co, c1, hb, fl⟩ | ⟨mv, pl, co, c1, hb, jm, hh1, fl⟩ | ⟨bk, co⟩
  · have j1 := ge_pl X.2.2.1 hj pl
    refine Or.inl ⟨pl, co, j1, ?_, fun l => (ld l).1 j1⟩
    rcases nx with ⟨a, b, s⟩ | ⟨a, b⟩ | ⟨a, b, b2, s⟩ | w
    · exact Or.inl ⟨b, s⟩
    · omega
    · exact Or.inr (Or.inl ⟨b, b2, s⟩)
    · obtain ⟨a1, a2, a3, a4, a5, a6, a7, a8, a9, a10, a11⟩ := w
      have j3 := ge_pl X.2.2.1 a10 a4.1
      exact Or.inr (Or.inr ⟨a1, a2, a3, a4, a5, a6, a7, a8, j3, p0 _ _ j3 (a11 j3), p1 _ _ j3 (a11 j3)⟩)
  · refine Or.inr (Or.inl ⟨hs, co, c1, fun a b => ?_⟩)
    have j1 := ge_ht X.2.2.1 hj a b
    exact ⟨j1, p0 _ _ j1 (fl j1)⟩
  · obtain ⟨i1, cf⟩ := X.2.2.2 j (by omega) mv
    refine Or.inr (Or.inr (Or.inl ⟨mv, cf, pl, i1, co, c1, hh1, fun b => ?_⟩))
    have j2 := ge_ht X.2.2.1 i1 cf.1 b
    exact ⟨j2, p0 _ _ j2 (fl j2)⟩
  · exact Or.inr (Or.inr (Or.inr ⟨bk, co⟩))
theorem ls_at {j : Nat} (K : ls_K W L MV E H CO n dc j) : CO (dm_h H j) = nI j ∨ (CO (dm_h H j) = nI (j + 1) ∧ ¬ MV j = 0) := by
  rcases K with K | K | K | K
  · exact Or.inl K.2.1
  · exact Or.inl K.2.1
  · exact Or.inr ⟨K.2.2.2.2.1, K.1⟩
  · exact Or.inl K.2
theorem ls_inj (X : ly_Ctx W L MV n dc) (I : ly_LI W L MV n dc E H CO cs sh n) {i j : Nat} (hi : ly_S E MV n i) (hj : ly_S E MV n j) (h : dm_h H i = dm_h H j) : i = j := by
  have n32 := X.1
  have a := hi.1
  have b := hj.1
  rcases ls_at (ls_kind X I hi) with u | u <;> rcases ls_at (ls_kind X I hj) with v | v
  · rw [h] at u; exact dm_inj (by omega) (by omega) (u.symm.trans v)
  · rw [h] at u
    have := dm_inj (by omega) (by omega) (u.symm.trans v.1)
    exact absurd ⟨j, this, v.2⟩ hi.2.2.2
  · rw [h] at u
    have := dm_inj (by omega) (by omega) (u.1.symm.trans v)
    exact absurd ⟨i, this.symm, u.2⟩ hj.2.2.2
  · rw [h] at u
    have := dm_inj (by omega) (by omega) (u.1.symm.trans v.1)
    omega
/-- a branch stands for itself, or behind the word in its slot -/
theorem ls_br (X : ly_Ctx W L MV n dc) (I : ly_LI W L MV n dc E H CO cs sh n) {i : Nat} (hi : i < n) (ht : dm_HT (W i)) : ly_S E MV n i ∨ ∃ j, i = j + 1 ∧ ly_S E MV n j ∧ ¬ MV j = 0 := by
  have n32 := X.1
  have npl : ¬ dm_PL (W i) := fun q => q.1 (Or.inl ht)
  have e0 : E i = 0 := Classical.byContradiction fun q => by
    obtain ⟨k, e, _, _, _, _, _, q1⟩ := I.2.2.2.1 i hi q
    subst e; exact npl q1.1
  have e1 : i + 1 < n → E (i + 1) = 0 := fun h => Classical.byContradiction fun q => by
    obtain ⟨k, e, _, _, _, _, q0, _⟩ := I.2.2.2.1 (i + 1) h q
    obtain rfl : i = k := by omega
    exact npl q0.1
  by_cases m : ∃ k, i = k + 1 ∧ ¬ MV k = 0
  · obtain ⟨k, rfl, mv⟩ := m
    obtain ⟨i1, cf⟩ := X.2.2.2 k (by omega) mv
    have pl := ly_npl X i1 cf.2.1
    refine Or.inr ⟨k, rfl, ⟨by omega, Classical.byContradiction fun q => ?_, fun _ => e0, fun ⟨k', e, q⟩ => ?_⟩, mv⟩
    · obtain ⟨k', e, _, _, _, m0, _⟩ := I.2.2.2.1 k (by omega) q
      subst e; exact mv m0
    · subst e
      exact pl.1 (Or.inl (X.2.2.2 k' (by omega) q).2.1)
  · exact Or.inl ⟨hi, e0, e1, m⟩
end LS
/-- the slot of a linked branch b -/
def lk_F (W H CO JU CP : Nat → Int32) (b : Nat) : Prop :=
  (CO (dm_h H b + 1) = -1 ∧ CP (dm_h H b) = 0 ∧ (dm_HT (W b) → JU (dm_h H b) = nI (dm_h H (dm_tN W b)))) ∨
    (dm_JM (W b) ∧ ¬ CP (dm_h H b) = 0 ∧ CO (dm_h H b + 1) = nI (dm_tN W b) ∧ CO (dm_h H (dm_tN W b)) = nI (dm_tN W b) ∧ dm_PL (W (dm_tN W b)) ∧ JU (dm_h H b) = nI (dm_h H (dm_tN W b) + 1))
def lk_I (W L MV E H C0 : Nat → Int32) (n : Nat) (CO JU BA CP : Nat → Int32) (i : Nat) : Prop :=
  (∀ q, q < 128 → BA q = -1 ∨ ∃ j, j < i ∧ j < n ∧ ¬ L j = 0 ∧ dm_h H j = q ∧ BA q = nI j) ∧ (∀ j, j < i → j < n → ¬ L j = 0 → BA (dm_h H j) = nI j) ∧
  (∀ q, (¬ ∃ b, ly_S E MV n b ∧ dm_HS (W b) ∧ dm_h H b + 1 = q) → CO q = C0 q) ∧
  (∀ b, ly_S E MV n b → dm_HS (W b) → (b < i → lk_F W H CO JU CP b) ∧ (i ≤ b → CO (dm_h H b + 1) = -1 ∧ CP (dm_h H b) = 0)) ∧
  (∀ j, ly_S E MV n j → ¬ MV j = 0 → CP (dm_h H j) = 0 ∧ (j + 1 < i → JU (dm_h H j) = nI (dm_h H (dm_tN W (j + 1)))))
section LK
variable {W L MV E H C0 CO JU BA CP : Nat → Int32} {n cs i : Nat} {dc sh : Int32}
/-- addresses of words aren't slots -/
theorem lk_nos (X : ly_Ctx W L MV n dc) (I : ly_LI W L MV n dc E H C0 cs sh n) {j : Nat} (hj : ly_S E MV n j) : ¬ ∃ b, ly_S E MV n b ∧ dm_HS (W b) ∧ dm_h H b + 1 = dm_h H j := by
  rintro ⟨b, sb, hs, e⟩
  have n32 := X.1
  have hjn := hj.1
  have hbn := sb.1
  have : C0 (dm_h H b + 1) = -1 := by
    rcases ls_kind X I sb with K | K | K | K
    · exact absurd hs K.1.1
    · exact K.2.2.1
    · exact absurd hs K.2.2.1.1
    · exact absurd K.1 (fun z => dm_hsbk hs z)
  rw [e] at this
  rcases ls_at (ls_kind X I hj) with u | u
  · exact dm_nIm1 (by omega) (u.symm.trans this)
  · exact dm_nIm1 (by omega) (u.1.symm.trans this)
/-- the leader's entry -/
theorem lk_ba (X : ly_Ctx W L MV n dc) (I : ly_LI W L MV n dc E H C0 cs sh n) (hi : i < n) (J : lk_I W L MV E H C0 n CO JU BA CP i) (hl : ¬ L i = 0) :
    (∀ q, q < 128 → upd BA (dm_h H i) (nI i) q = -1 ∨ ∃ j, j < i + 1 ∧ j < n ∧ ¬ L j = 0 ∧ dm_h H j = q ∧ upd BA (dm_h H i) (nI i) q = nI j) ∧ (∀ j, j < i + 1 → j < n → ¬ L j = 0 → upd BA (dm_h H i) (nI i) (dm_h H j) = nI j) := by
  have si := ls_lead X I hi hl
  constructor
  · intro q hq
    by_cases z : q = dm_h H i
    · subst z
      exact Or.inr ⟨i, by omega, hi, hl, rfl, pk_us⟩
    · rw [pk_un z]
      rcases J.1 q hq with h | ⟨j, a, b⟩
      · exact Or.inl h
      · exact Or.inr ⟨j, by omega, b⟩
  · intro j hj hjn hl'
    by_cases z : j = i
    · subst z; exact pk_us
    · rw [pk_un (fun e => z (ls_inj X I (ls_lead X I hjn hl') si e))]
      exact J.2.1 j (by omega) hjn hl'
/-- linking done: the tables -/
theorem lk_TB (X : ly_Ctx W L MV n dc) (hcs : cs ≤ 96) (I : ly_LI W L MV n dc E H C0 cs sh n) (J : lk_I W L MV E H C0 n CO JU BA CP n) : dm_TB W L H CO JU BA CP n dc (ly_S E MV n) := by
  have n32 := X.1
  have nos := fun {j : Nat} (h : ly_S E MV n j) => J.2.2.1 _ (lk_nos X I h)
  refine ⟨fun i hi => ⟨(I.2.1 i hi).1, by have := (I.2.1 i hi).2; omega⟩, fun i hS => ⟨hS.1, ?_⟩, fun i hi hl => ⟨ls_lead X I hi hl, J.2.1 i hi hi hl⟩, fun q hq => ?_, fun i j a b e => ls_inj X I a b e⟩
  · have slot : ¬ dm_HS (W i) → CO (dm_h H i + 1) = C0 (dm_h H i + 1) := fun ns => J.2.2.1 _ (fun ⟨b, sb, hs, e⟩ => by
      have := ls_inj X I sb hS (by omega)
      subst this; exact ns hs)
    rcases ls_kind X I hS with K | K | K | K
    · obtain ⟨pl, co, i1, nx, ld⟩ := K
      have s1 := slot pl.1
      refine Or.inl ⟨pl, by rw [nos hS]; exact co, i1, ?_, fun l => ?_⟩
      · rcases nx with a | ⟨a, b, c⟩ | w
        · exact Or.inl a
        · exact Or.inr (Or.inl ⟨by rw [s1]; exact a, b, c⟩)
        · obtain ⟨a1, a2, a3, a4, a5, a6, a7, a8, a9, a10, a11⟩ := w
          refine Or.inr (Or.inr ⟨by rw [s1]; exact a1, ?_, a3, a4, a5, a6, a7, a8, a9, a10, a11⟩)
          rw [J.2.2.1 _ ?_]
          · exact a2
          · rintro ⟨b, sb, hs, e⟩
            have e0 : dm_h H b = dm_h H i + 1 := by omega
            have co : C0 (dm_h H b) = nI (i + 1 + 1) := by rw [e0]; exact a1
            rcases ls_at (ls_kind X I sb) with u | u
            · have := dm_inj (by have := sb.1; omega) (by omega) (u.symm.trans co)
              subst this; exact a4.1.1 hs
            · have := dm_inj (by have := sb.1; omega) (by omega) (u.1.symm.trans co)
              obtain rfl : b = i + 1 := by omega
              exact a3.1.1 hs
      · intro c h1 h2
        rw [s1] at h2
        exact ld l c h1 h2
    · obtain ⟨hs, co, c1, fl⟩ := K
      exact Or.inr (Or.inl ⟨hs, by rw [nos hS]; exact co, (J.2.2.2.1 i hS hs).1 hS.1, fl⟩)
    · obtain ⟨mv, cf, pl, i1, co, c1, hh, fl⟩ := K
      obtain ⟨cp, ju⟩ := J.2.2.2.2 i hS mv
      exact Or.inr (Or.inr (Or.inl ⟨cf, pl, i1, by rw [nos hS]; exact co, by rw [slot pl.1]; exact c1, cp, ju i1, fl⟩))
    · obtain ⟨bk, co⟩ := K
      exact Or.inr (Or.inr (Or.inr ⟨bk, by rw [nos hS]; exact co⟩))
  · rcases J.1 q hq with h | ⟨j, _, b⟩
    · exact Or.inl (by rw [h]; decide)
    · exact Or.inr ⟨j, b⟩
end LK
end
section
/-! linking: the steps, and the component's linkAll -/
section LP
variable {W L MV E H C0 CO JU BA BA' CP : Nat → Int32} {n cs i : Nat} {dc sh : Int32}
def lk_B (L H BA : Nat → Int32) (n i : Nat) : Prop := (∀ q, q < 128 → BA q = -1 ∨ ∃ j, j < i ∧ j < n ∧ ¬ L j = 0 ∧ dm_h H j = q ∧ BA q = nI j) ∧ (∀ j, j < i → j < n → ¬ L j = 0 → BA (dm_h H j) = nI j)
theorem lk_s0 (hB : lk_B L H BA' n (i + 1)) (J : lk_I W L MV E H C0 n CO JU BA CP i) (X : ly_Ctx W L MV n dc) (I : ly_LI W L MV n dc E H C0 cs sh n) (nt : ¬ dm_HT (W i)) : lk_I W L MV E H C0 n CO JU BA' CP (i + 1) := by
  have n32 := X.1
  refine ⟨hB.1, hB.2, J.2.2.1, fun b sb hs => ?_, fun j sj mv => ?_⟩
  · obtain ⟨a, c⟩ := J.2.2.2.1 b sb hs
    refine ⟨fun h => ?_, fun h => c (by omega)⟩
    by_cases z : b < i
    · exact a z
    · obtain rfl : b = i := by omega
      have c := c (Nat.le_refl b)
      exact Or.inl ⟨c.1, c.2, fun q => absurd q nt⟩
  · obtain ⟨a, c⟩ := J.2.2.2.2 j sj mv
    refine ⟨a, fun h => ?_⟩
    by_cases z : j + 1 < i
    · exact c z
    · obtain rfl : i = j + 1 := by omega
      exact absurd (X.2.2.2 j (by have := sj.1; omega) mv).2.1 nt
theorem lk_sN (hB : lk_B L H BA' n (i + 1)) (J : lk_I W L MV E H C0 n CO JU BA CP i) (X : ly_Ctx W L MV n dc) (I : ly_LI W L MV n dc E H C0 cs sh n) (hi : i < n) (ht : dm_HT (W i)) : lk_I W L MV E H C0 n CO (upd JU (dm_h H i) (nI (dm_h H (dm_tN W i)))) BA' CP (i + 1) := by
  have n32 := X.1
  rcases ls_br X I hi ht with si | ⟨j0, rfl, sj0, mv0⟩
  · refine ⟨hB.1, hB.2, J.2.2.1, fun b sb hs => ?_, fun j sj mv => ?_⟩
    · obtain ⟨a, c⟩ := J.2.2.2.1 b sb hs
      refine ⟨fun h => ?_, fun h => c (by omega)⟩
      by_cases z : b < i
      · have ne : dm_h H b ≠ dm_h H i := fun e => by have := ls_inj X I sb si e; omega
        have f := a z
        unfold lk_F at f ⊢
        rw [pk_un ne]; exact f
      · obtain rfl : b = i := by omega
        have c := c (Nat.le_refl b)
        exact Or.inl ⟨c.1, c.2, fun _ => pk_us⟩
    · obtain ⟨a, c⟩ := J.2.2.2.2 j sj mv
      have pj : dm_PL (W j) := by
        obtain ⟨i1, cf⟩ := X.2.2.2 j (by have := sj.1; omega) mv
        exact ly_npl X i1 cf.2.1
      have ne : dm_h H j ≠ dm_h H i := fun e => by
        have := ls_inj X I sj si e
        subst this; exact pj.1 (Or.inl ht)
      refine ⟨a, fun h => ?_⟩
      rw [pk_un ne]
      by_cases z : j + 1 < i
      · exact c z
      · obtain rfl : i = j + 1 := by omega
        exact absurd ⟨j, rfl, mv⟩ si.2.2.2
  · have K : H (j0 + 1) = H j0 ∧ dm_PL (W j0) := by
      rcases ls_kind X I sj0 with K | K | K | K
      · exfalso
        rcases I.2.2.2.2 j0 sj0.1 sj0 with Z | Z | Z | Z
        · obtain ⟨pl, co, nx, _⟩ := Z
          rcases nx with ⟨_, _, s⟩ | ⟨a, _⟩ | ⟨_, _, _, s⟩ | w
          · exact s.2.2.2 ⟨j0, rfl, mv0⟩
          · omega
          · exact s.2.2.2 ⟨j0, rfl, mv0⟩
          · exact w.2.2.1.1.1 (Or.inl ht)
        · exact Z.1.elim (fun q => K.1.1 (Or.inl q)) (fun q => K.1.1 (Or.inr q))
        · have := dm_inj (by have := sj0.1; omega) (by have := sj0.1; omega) (Z.2.2.1.symm.trans K.2.1)
          omega
        · exact K.1.2 Z.1
      · exfalso
        obtain ⟨i1, cf⟩ := X.2.2.2 j0 (by have := sj0.1; omega) mv0
        exact (ly_npl X i1 cf.2.1).1 K.1
      · exact ⟨K.2.2.2.2.2.2.1, K.2.2.1⟩
      · exfalso
        obtain ⟨i1, cf⟩ := X.2.2.2 j0 (by have := sj0.1; omega) mv0
        exact (ly_npl X i1 cf.2.1).2 K.1
    have he : dm_h H (j0 + 1) = dm_h H j0 := ly_hEq (H := H) (H' := fun x => H (x + 1)) K.1
    rw [he]
    refine ⟨hB.1, hB.2, J.2.2.1, fun b sb hs => ?_, fun j sj mv => ?_⟩
    · obtain ⟨a, c⟩ := J.2.2.2.1 b sb hs
      have ne : dm_h H b ≠ dm_h H j0 := fun e => by
        have := ls_inj X I sb sj0 e
        subst this; exact K.2.1 hs
      refine ⟨fun h => ?_, fun h => c (by omega)⟩
      have z : b < j0 + 1 := by
        refine Nat.lt_of_not_le fun q => ?_
        obtain rfl : b = j0 + 1 := by omega
        exact sb.2.2.2 ⟨j0, rfl, mv0⟩
      have f := a z
      unfold lk_F at f ⊢
      rw [pk_un ne]; exact f
    · obtain ⟨a, c⟩ := J.2.2.2.2 j sj mv
      refine ⟨a, fun h => ?_⟩
      by_cases z : j = j0
      · subst z; exact pk_us
      · rw [pk_un (fun e => z (ls_inj X I sj sj0 e))]
        exact c (by omega)
theorem lk_sC (hB : lk_B L H BA' n (i + 1)) (J : lk_I W L MV E H C0 n CO JU BA CP i) (X : ly_Ctx W L MV n dc) (I : ly_LI W L MV n dc E H C0 cs sh n) (ti : dm_TI W n) (hi : i < n) (jm : dm_JM (W i)) (hneg : ¬ 0 ≤ CO (dm_h H i + 1)) (hc : CO (dm_h H (dm_tN W i)) = nI (dm_tN W i)) (pt : dm_PL (W (dm_tN W i))) :
    lk_I W L MV E H C0 n (upd CO (dm_h H i + 1) (nI (dm_tN W i))) (upd JU (dm_h H i) (nI (dm_h H (dm_tN W i) + 1))) BA' (upd CP (dm_h H i) 1) (i + 1) := by
  have n32 := X.1
  have ht := dm_JMHT jm
  have lead : ∀ b, b < n → dm_HT (W b) → ly_S E MV n (dm_tN W b) := fun b hb hb2 => by
    have t := ti b hb hb2
    exact ls_lead X I t.1 (pf_lead X.2.1 ⟨t.1, Or.inr ⟨b, hb, Or.inl ⟨hb2, t.2⟩⟩⟩)
  rcases ls_br X I hi ht with si | ⟨j0, rfl, sj0, mv0⟩
  · have hsi : dm_HS (W i) := Or.inl ht
    have nh : ∀ b, b < n → dm_HT (W b) → dm_h H (dm_tN W b) ≠ dm_h H i + 1 := fun b hb hb2 e => lk_nos X I (lead b hb hb2) ⟨i, si, hsi, e.symm⟩
    refine ⟨hB.1, hB.2, fun q nq => ?_, fun b sb hs => ?_, fun j sj mv => ?_⟩
    · rw [pk_un (fun e => nq ⟨i, si, hsi, e.symm⟩)]
      exact J.2.2.1 q nq
    · obtain ⟨a, c⟩ := J.2.2.2.1 b sb hs
      refine ⟨fun h => ?_, fun h => ?_⟩
      · by_cases z : b < i
        · have ne : dm_h H b ≠ dm_h H i := fun e => by have := ls_inj X I sb si e; omega
          have f := a z
          unfold lk_F at f ⊢
          rw [pk_un ne, pk_un ne, pk_un (show dm_h H b + 1 ≠ dm_h H i + 1 by omega)]
          rcases f with f | ⟨f1, f2, f3, f4, f5⟩
          · exact Or.inl f
          · refine Or.inr ⟨f1, f2, f3, ?_, f5⟩
            rw [pk_un (nh b sb.1 (dm_JMHT f1))]; exact f4
        · obtain rfl : b = i := by omega
          refine Or.inr ⟨jm, by rw [pk_us]; exact dm_10, pk_us, ?_, pt, pk_us⟩
          rw [pk_un (nh b hi ht)]; exact hc
      · have c := c (by omega)
        have ne : dm_h H b ≠ dm_h H i := fun e => by have := ls_inj X I sb si e; omega
        rw [pk_un ne, pk_un (show dm_h H b + 1 ≠ dm_h H i + 1 by omega)]
        exact c
    · obtain ⟨a, c⟩ := J.2.2.2.2 j sj mv
      have pj : dm_PL (W j) := by
        obtain ⟨i1, cf⟩ := X.2.2.2 j (by have := sj.1; omega) mv
        exact ly_npl X i1 cf.2.1
      have ne : dm_h H j ≠ dm_h H i := fun e => by
        have := ls_inj X I sj si e
        subst this; exact pj.1 (Or.inl ht)
      rw [pk_un ne, pk_un ne]
      refine ⟨a, fun h => ?_⟩
      by_cases z : j + 1 < i
      · exact c z
      · obtain rfl : i = j + 1 := by omega
        exact absurd ⟨j, rfl, mv⟩ si.2.2.2
  · exfalso
    obtain ⟨i1, cf⟩ := X.2.2.2 j0 (by have := sj0.1; omega) mv0
    have pl := ly_npl X i1 cf.2.1
    have K : H (j0 + 1) = H j0 ∧ C0 (dm_h H j0 + 1) = nI j0 := by
      rcases I.2.2.2.2 j0 sj0.1 sj0 with Z | Z | Z | Z
      · exfalso
        obtain ⟨pl, co, nx, _⟩ := Z
        rcases nx with ⟨_, _, s⟩ | ⟨a, _⟩ | ⟨_, _, _, s⟩ | w
        · exact s.2.2.2 ⟨j0, rfl, mv0⟩
        · omega
        · exact s.2.2.2 ⟨j0, rfl, mv0⟩
        · exact w.2.2.1.1.1 (Or.inl ht)
      · exact absurd Z.1 pl.1
      · exact ⟨Z.2.2.2.2.2.2.1, Z.2.2.2.1⟩
      · exact absurd Z.1 pl.2
    have he : dm_h H (j0 + 1) = dm_h H j0 := ly_hEq (H := H) (H' := fun x => H (x + 1)) K.1
    rw [he, J.2.2.1 _ ?_, K.2] at hneg
    · exact hneg (nI_pos' (by have := sj0.1; omega))
    · rintro ⟨b, sb, hs, e⟩
      have := ls_inj X I sb sj0 (by omega)
      subst this; exact pl.1 hs
end LP
section XLK
variable {f_maxWords f_dataCount f_size f_ready f_codeSize f_shadow f_resReg f_resValue f_resTrap f_resFault f_resNext f_resTaken f_npc f_slotOf f_slotTo f_flightReg f_flightValue : Int32} {a_words a_leader a_moved a_early a_home a_code a_jump a_blockAt a_copied a_cells a_traces a_pcs a_states a_faults a_dones a_entryCounts : Nat → Int32}
variable {post : SX → Prop} {i n cs : Nat} {sh : Int32} {E C0 : Nat → Int32}
theorem xk_link (hn : n ≤ 32) (hi : i < n) (ht : dm_HT (a_words i)) (ti : dm_TI a_words n) (hH : ∀ j, j < n → a_home j = nI (dm_h a_home j) ∧ dm_h a_home j ≤ 95)
    (h0 : post (f_maxWords, f_dataCount, f_size, f_ready, f_codeSize, f_shadow, f_resReg, f_resValue, f_resTrap, f_resFault, f_resNext, f_resTaken, f_npc, f_slotOf, f_slotTo, f_flightReg, f_flightValue, a_words, a_leader, a_moved, a_early, a_home, a_code, upd a_jump (dm_h a_home i) (nI (dm_h a_home (dm_tN a_words i))), a_blockAt, a_copied, a_cells, a_traces, a_pcs, a_states, a_faults, a_dones, a_entryCounts))
    (h1 : dm_JM (a_words i) → ¬ 0 ≤ a_code (dm_h a_home i + 1) → a_code (dm_h a_home (dm_tN a_words i)) = nI (dm_tN a_words i) → dm_PL (a_words (dm_tN a_words i)) → post (f_maxWords, f_dataCount, f_size, f_ready, f_codeSize, f_shadow, f_resReg, f_resValue, f_resTrap, f_resFault, f_resNext, f_resTaken, f_npc, f_slotOf, f_slotTo, f_flightReg, f_flightValue, a_words, a_leader, a_moved, a_early, a_home, upd a_code (dm_h a_home i + 1) (nI (dm_tN a_words i)), upd a_jump (dm_h a_home i) (nI (dm_h a_home (dm_tN a_words i) + 1)), a_blockAt, upd a_copied (dm_h a_home i) 1, a_cells, a_traces, a_pcs, a_states, a_faults, a_dones, a_entryCounts)) : wpX_linkTarget post (f_maxWords, f_dataCount, f_size, f_ready, f_codeSize, f_shadow, f_resReg, f_resValue, f_resTrap, f_resFault, f_resNext, f_resTaken, f_npc, f_slotOf, f_slotTo, f_flightReg, f_flightValue, a_words, a_leader, a_moved, a_early, a_home, a_code, a_jump, a_blockAt, a_copied, a_cells, a_traces, a_pcs, a_states, a_faults, a_dones, a_entryCounts) (nI i) := by
  obtain ⟨t1, t2⟩ := ti i hi ht
  have ci : (nI i).toNatClampNeg = i := nI_clamp (by omega)
  have ct : (nI (dm_tN a_words i)).toNatClampNeg = dm_tN a_words i := nI_clamp (by omega)
  obtain ⟨e1, b1⟩ := hH i hi
  obtain ⟨e2, b2⟩ := hH _ t1
  have cp : (nI (dm_h a_home i)).toNatClampNeg = dm_h a_home i := nI_clamp (by omega)
  have cp1 : (nI (dm_h a_home i) + 1).toNatClampNeg = dm_h a_home i + 1 := by rw [nI_1, nI_clamp (by omega)]
  have cq : (nI (dm_h a_home (dm_tN a_words i))).toNatClampNeg = dm_h a_home (dm_tN a_words i) := nI_clamp (by omega)
  have vt : vp_in (nI (dm_tN a_words i)) 32 := vp_in_nI (by omega) (by omega)
  have vp : vp_in (nI (dm_h a_home i)) 128 := vp_in_nI (by omega) (by omega)
  have vp1 : vp_in (nI (dm_h a_home i) + 1) 128 := by rw [nI_1]; exact vp_in_nI (by omega) (by omega)
  have vq : vp_in (a_home (nI (dm_tN a_words i)).toNatClampNeg) 128 := by rw [ct, e2]; exact vp_in_nI (by omega) (by omega)
  have ex : a_home (nI i).toNatClampNeg = nI (dm_h a_home i) := by rw [ci]; exact e1
  have ej : upd a_jump (nI (dm_h a_home i)).toNatClampNeg (a_home (nI (dm_tN a_words i)).toNatClampNeg) = upd a_jump (dm_h a_home i) (nI (dm_h a_home (dm_tN a_words i))) := by rw [cp, ct, e2]
  have ec : (a_home (nI (dm_tN a_words i)).toNatClampNeg).toNatClampNeg = dm_h a_home (dm_tN a_words i) := by rw [ct, e2]; exact cq
  have n53 : ∀ z0 : Int32, (¬ z0 = 0 → a_code (dm_h a_home (dm_tN a_words i)) = nI (dm_tN a_words i) ∧ dm_PL (a_words (dm_tN a_words i))) → wX_linkTarget_53 post (nI i) (nI (dm_h a_home i)) (nI (dm_tN a_words i)) z0 f_maxWords f_dataCount f_size f_ready f_codeSize f_shadow f_resReg f_resValue f_resTrap f_resFault f_resNext f_resTaken f_npc f_slotOf f_slotTo f_flightReg f_flightValue a_words a_leader a_moved a_early a_home a_code (upd a_jump (dm_h a_home i) (nI (dm_h a_home (dm_tN a_words i)))) a_blockAt a_copied a_cells a_traces a_pcs a_states a_faults a_dones a_entryCounts := by
    intro z0 hz
    unfold wX_linkTarget_53
    rw [cp1, cp, ct]
    refine xr_isJump (by omega) (dm_bc (fun _ => h0) (fun jm => And.intro vp1 (br_c (fun _ => h0) (fun ng => br_c (fun _ => h0) (fun nz => And.intro vp1 (nm_e (And.intro vt (And.intro vp (nm_r (e' := upd a_jump (dm_h a_home i) (nI (dm_h a_home (dm_tN a_words i) + 1))) ?_ (And.intro vp (nm_r (e' := upd a_copied (dm_h a_home i) 1) (by rw [dm_vb1]) (h1 jm ng (hz nz).1 (hz nz).2)))))))))))) 
    rw [dm_uu, e2, nI_1]
  unfold wpX_linkTarget
  refine And.intro (vp_in_nI (by omega) (by omega)) (nm_r ex (xr_target (by omega) ?_))
  rw [t2]
  refine And.intro vt (And.intro vp (nm_r ej (And.intro vt (And.intro vq ?_))))
  rw [ec]
  refine br_c (fun c => xr_isPlain (by omega) (dm_bc (fun np => ?_) (fun pl => n53 1 (fun _ => ⟨c, pl⟩)))) (fun c => ?_)
  · unfold wX_linkTarget_52
    exact n53 0 (fun q => absurd rfl q)
  · unfold wX_linkTarget_52
    exact n53 0 (fun q => absurd rfl q)
theorem xk_la (X : ly_Ctx a_words a_leader a_moved n f_dataCount) (hz : f_size = nI n) (ti : dm_TI a_words n) (hcs : cs ≤ 96) (I : ly_LI a_words a_leader a_moved n f_dataCount E a_home C0 cs sh n)
    (hp : ∀ (CO JU BA CP : Nat → Int32), dm_TB a_words a_leader a_home CO JU BA CP n f_dataCount (ly_S E a_moved n) → post (f_maxWords, f_dataCount, f_size, f_ready, f_codeSize, f_shadow, f_resReg, f_resValue, f_resTrap, f_resFault, f_resNext, f_resTaken, f_npc, f_slotOf, f_slotTo, f_flightReg, f_flightValue, a_words, a_leader, a_moved, a_early, a_home, CO, JU, BA, CP, a_cells, a_traces, a_pcs, a_states, a_faults, a_dones, a_entryCounts)) :
    ∀ (mm i : Nat) (CO JU BA CP : Nat → Int32), n < mm + i → i ≤ n → lk_I a_words a_leader a_moved E a_home C0 n CO JU BA CP i → wX_linkAll_2 post mm (nI i) f_maxWords f_dataCount f_size f_ready f_codeSize f_shadow f_resReg f_resValue f_resTrap f_resFault f_resNext f_resTaken f_npc f_slotOf f_slotTo f_flightReg f_flightValue a_words a_leader a_moved a_early a_home CO JU BA CP a_cells a_traces a_pcs a_states a_faults a_dones a_entryCounts := by
  have n32 := X.1
  have hH : ∀ j, j < n → a_home j = nI (dm_h a_home j) ∧ dm_h a_home j ≤ 95 := fun j hj => ⟨(I.2.1 j hj).1, by have := (I.2.1 j hj).2; omega⟩
  intro mm
  induction mm with
  | zero => intro i CO JU BA CP h1 h2; omega
  | succ mm ih =>
    intro i CO JU BA CP h1 h2 J
    have c : (nI i).toNatClampNeg = i := nI_clamp (by omega)
    rw [wX_linkAll_2]
    by_cases hin : i < n
    · have v : vp_in (nI i) 32 := vp_in_nI (by omega) (by omega)
      have tail : ∀ BA' : Nat → Int32, lk_B a_leader a_home BA' n (i + 1) → wX_linkAll_31 post (wX_linkAll_2 post mm) (nI i) f_maxWords f_dataCount f_size f_ready f_codeSize f_shadow f_resReg f_resValue f_resTrap f_resFault f_resNext f_resTaken f_npc f_slotOf f_slotTo f_flightReg f_flightValue a_words a_leader a_moved a_early a_home CO JU BA' CP a_cells a_traces a_pcs a_states a_faults a_dones a_entryCounts := by
        intro BA' hB
        unfold wX_linkAll_31
        refine xr_hasTarget (by omega) (dm_bc (fun nt => nm_r (nI_1 i) (ih (i + 1) CO JU BA' CP (by omega) (by omega) (lk_s0 hB J X I nt))) (fun ht => ?_))
        refine xk_link (n := n) n32 hin ht ti hH ?_ (fun jm ng hc pt => ?_)
        · exact nm_r (nI_1 i) (ih (i + 1) _ _ _ _ (by omega) (by omega) (lk_sN hB J X I hin ht))
        · exact nm_r (nI_1 i) (ih (i + 1) _ _ _ _ (by omega) (by omega) (lk_sC hB J X I ti hin jm ng hc pt))
      refine br_f (by rw [hz]; exact nI_ge hin (by omega)) (And.intro v ?_)
      rw [c]
      refine br_c (fun l0 => tail BA ?_) (fun l => And.intro v (And.intro ?_ (nm_r (e' := upd BA (dm_h a_home i) (nI i)) ?_ (tail _ ?_))))
      · refine ⟨fun q hq => ?_, fun j a b hl => ?_⟩
        · rcases J.1 q hq with h | ⟨j, a, b⟩
          · exact Or.inl h
          · exact Or.inr ⟨j, by omega, b⟩
        · by_cases z : j = i
          · subst z; exact absurd l0 hl
          · exact J.2.1 j (by omega) b hl
      · rw [(hH i hin).1]; exact vp_in_nI (by have := (hH i hin).2; omega) (by omega)
      · rfl
      · exact lk_ba X I hin J l
    · obtain rfl : i = n := by omega
      refine br_t (by rw [hz]; exact nI_le (by omega) (by omega)) ?_
      exact hp CO JU BA CP (lk_TB X hcs I J)
theorem xk_linkAll (X : ly_Ctx a_words a_leader a_moved n f_dataCount) (hz : f_size = nI n) (ti : dm_TI a_words n) (hcs : cs ≤ 96) (I : ly_LI a_words a_leader a_moved n f_dataCount E a_home a_code cs sh n) (h0 : ∀ q, q < 128 → a_blockAt q = -1 ∧ a_copied q = 0)
    (hp : ∀ (CO JU BA CP : Nat → Int32), dm_TB a_words a_leader a_home CO JU BA CP n f_dataCount (ly_S E a_moved n) → post (f_maxWords, f_dataCount, f_size, f_ready, f_codeSize, f_shadow, f_resReg, f_resValue, f_resTrap, f_resFault, f_resNext, f_resTaken, f_npc, f_slotOf, f_slotTo, f_flightReg, f_flightValue, a_words, a_leader, a_moved, a_early, a_home, CO, JU, BA, CP, a_cells, a_traces, a_pcs, a_states, a_faults, a_dones, a_entryCounts)) : wpX_linkAll post (f_maxWords, f_dataCount, f_size, f_ready, f_codeSize, f_shadow, f_resReg, f_resValue, f_resTrap, f_resFault, f_resNext, f_resTaken, f_npc, f_slotOf, f_slotTo, f_flightReg, f_flightValue, a_words, a_leader, a_moved, a_early, a_home, a_code, a_jump, a_blockAt, a_copied, a_cells, a_traces, a_pcs, a_states, a_faults, a_dones, a_entryCounts) := by
  have n32 := X.1
  unfold wpX_linkAll
  refine ⟨n + 1, xk_la X hz ti hcs I hp (n + 1) 0 a_code a_jump a_blockAt a_copied (by omega) (by omega) ?_⟩
  refine ⟨fun q hq => Or.inl (h0 q hq).1, fun j hj => by omega, fun q _ => rfl, fun b sb hs => ⟨fun h => by omega, fun _ => ⟨?_, ?_⟩⟩, fun j sj mv => ⟨?_, fun h => by omega⟩⟩
  · rcases ls_kind X I sb with K | K | K | K
    · exact absurd hs K.1.1
    · exact K.2.2.1
    · exact absurd hs K.2.2.1.1
    · exact absurd K.1 (fun z => dm_hsbk hs z)
  · have := (I.2.1 b sb.1).2
    exact (h0 _ (by omega)).2
  · have := (I.2.1 j sj.1).2
    exact (h0 _ (by omega)).2
end XLK
end
section
/-! which words are accepted -/
theorem ac_AF1 {x : Int32} (c : Int32) (h : x = c) (d : dm_AF c) : dm_AF x := h ▸ d
theorem ac_AF0 {x : Int32} (c : Int32) (h : x = c) (d : ¬ dm_AF c) : ¬ dm_AF x := h ▸ d
theorem ac_no {x : Int32} (h : x < 0 ∨ 43 < x) : ¬ dm_AF x ∧ ¬ dm_AO x ∧ ¬ x = 0 ∧ ¬ x = 1 := by
  refine ⟨fun q => ?_, fun q => ?_, fun q => ?_, fun q => ?_⟩
  · rcases q with q | q | q | q | q | q | q | q | q | q | q | q <;> (rw [q] at h; exact absurd h (by decide))
  · rcases q with q | q | q | q | q | q | q | q | q | q | q | q <;> (rw [q] at h; exact absurd h (by decide))
  · rw [q] at h; exact absurd h (by decide)
  · rw [q] at h; exact absurd h (by decide)
theorem ac_op {w : Int32} (h0 : ¬ dm_op w = 0) (h1 : ¬ dm_op w = 1) : dm_AC w ↔ dm_AO (dm_op w) := ⟨fun q => q.elim (fun z => absurd z.1 h0) (fun q => q.elim (fun z => absurd z.1 h1) id), fun q => Or.inr (Or.inr q)⟩
section XA
variable {f_maxWords f_dataCount f_size f_ready f_codeSize f_shadow f_resReg f_resValue f_resTrap f_resFault f_resNext f_resTaken f_npc f_slotOf f_slotTo f_flightReg f_flightValue : Int32} {a_words a_leader a_moved a_early a_home a_code a_jump a_blockAt a_copied a_cells a_traces a_pcs a_states a_faults a_dones a_entryCounts : Nat → Int32}
variable {post : Int32 → Prop} {x w : Int32}
theorem xa_fn (hp : post (dm_b (dm_AF x))) : wpX_acceptedFunction post (f_maxWords, f_dataCount, f_size, f_ready, f_codeSize, f_shadow, f_resReg, f_resValue, f_resTrap, f_resFault, f_resNext, f_resTaken, f_npc, f_slotOf, f_slotTo, f_flightReg, f_flightValue, a_words, a_leader, a_moved, a_early, a_home, a_code, a_jump, a_blockAt, a_copied, a_cells, a_traces, a_pcs, a_states, a_faults, a_dones, a_entryCounts) x := by
  unfold wpX_acceptedFunction
  refine br_c (fun h => dm_p0 hp (ac_no (Or.inl h)).1) (fun _ => br_c (fun h => dm_p0 hp (ac_no (Or.inr h)).1) (fun _ => ?_))
  refine br_c (fun h => dm_p1 hp (ac_AF1 0 h (by unfold dm_AF; decide))) (fun _ => ?_)
  refine br_c (fun h => dm_p0 hp (ac_AF0 1 h (by unfold dm_AF; decide))) (fun _ => ?_)
  refine br_c (fun h => dm_p1 hp (ac_AF1 2 h (by unfold dm_AF; decide))) (fun _ => ?_)
  refine br_c (fun h => dm_p0 hp (ac_AF0 3 h (by unfold dm_AF; decide))) (fun _ => ?_)
  refine br_c (fun h => dm_p0 hp (ac_AF0 4 h (by unfold dm_AF; decide))) (fun _ => ?_)
  refine br_c (fun h => dm_p0 hp (ac_AF0 5 h (by unfold dm_AF; decide))) (fun _ => ?_)
  refine br_c (fun h => dm_p0 hp (ac_AF0 6 h (by unfold dm_AF; decide))) (fun _ => ?_)
  refine br_c (fun h => dm_p0 hp (ac_AF0 7 h (by unfold dm_AF; decide))) (fun _ => ?_)
  refine br_c (fun h => dm_p1 hp (ac_AF1 8 h (by unfold dm_AF; decide))) (fun _ => ?_)
  refine br_c (fun h => dm_p0 hp (ac_AF0 9 h (by unfold dm_AF; decide))) (fun _ => ?_)
  refine br_c (fun h => dm_p0 hp (ac_AF0 10 h (by unfold dm_AF; decide))) (fun _ => ?_)
  refine br_c (fun h => dm_p0 hp (ac_AF0 11 h (by unfold dm_AF; decide))) (fun _ => ?_)
  refine br_c (fun h => dm_p0 hp (ac_AF0 12 h (by unfold dm_AF; decide))) (fun _ => ?_)
  refine br_c (fun h => dm_p1 hp (ac_AF1 13 h (by unfold dm_AF; decide))) (fun _ => ?_)
  refine br_c (fun h => dm_p0 hp (ac_AF0 14 h (by unfold dm_AF; decide))) (fun _ => ?_)
  refine br_c (fun h => dm_p0 hp (ac_AF0 15 h (by unfold dm_AF; decide))) (fun _ => ?_)
  refine br_c (fun h => dm_p0 hp (ac_AF0 16 h (by unfold dm_AF; decide))) (fun _ => ?_)
  refine br_c (fun h => dm_p0 hp (ac_AF0 17 h (by unfold dm_AF; decide))) (fun _ => ?_)
  refine br_c (fun h => dm_p0 hp (ac_AF0 18 h (by unfold dm_AF; decide))) (fun _ => ?_)
  refine br_c (fun h => dm_p0 hp (ac_AF0 19 h (by unfold dm_AF; decide))) (fun _ => ?_)
  refine br_c (fun h => dm_p0 hp (ac_AF0 20 h (by unfold dm_AF; decide))) (fun _ => ?_)
  refine br_c (fun h => dm_p0 hp (ac_AF0 21 h (by unfold dm_AF; decide))) (fun _ => ?_)
  refine br_c (fun h => dm_p0 hp (ac_AF0 22 h (by unfold dm_AF; decide))) (fun _ => ?_)
  refine br_c (fun h => dm_p0 hp (ac_AF0 23 h (by unfold dm_AF; decide))) (fun _ => ?_)
  refine br_c (fun h => dm_p0 hp (ac_AF0 24 h (by unfold dm_AF; decide))) (fun _ => ?_)
  refine br_c (fun h => dm_p0 hp (ac_AF0 25 h (by unfold dm_AF; decide))) (fun _ => ?_)
  refine br_c (fun h => dm_p0 hp (ac_AF0 26 h (by unfold dm_AF; decide))) (fun _ => ?_)
  refine br_c (fun h => dm_p0 hp (ac_AF0 27 h (by unfold dm_AF; decide))) (fun _ => ?_)
  refine br_c (fun h => dm_p0 hp (ac_AF0 28 h (by unfold dm_AF; decide))) (fun _ => ?_)
  refine br_c (fun h => dm_p0 hp (ac_AF0 29 h (by unfold dm_AF; decide))) (fun _ => ?_)
  refine br_c (fun h => dm_p0 hp (ac_AF0 30 h (by unfold dm_AF; decide))) (fun _ => ?_)
  refine br_c (fun h => dm_p0 hp (ac_AF0 31 h (by unfold dm_AF; decide))) (fun _ => ?_)
  refine br_c (fun h => dm_p1 hp (ac_AF1 32 h (by unfold dm_AF; decide))) (fun _ => ?_)
  refine br_c (fun h => dm_p1 hp (ac_AF1 33 h (by unfold dm_AF; decide))) (fun _ => ?_)
  refine br_c (fun h => dm_p0 hp (ac_AF0 34 h (by unfold dm_AF; decide))) (fun _ => ?_)
  refine br_c (fun h => dm_p1 hp (ac_AF1 35 h (by unfold dm_AF; decide))) (fun _ => ?_)
  refine br_c (fun h => dm_p1 hp (ac_AF1 36 h (by unfold dm_AF; decide))) (fun _ => ?_)
  refine br_c (fun h => dm_p1 hp (ac_AF1 37 h (by unfold dm_AF; decide))) (fun _ => ?_)
  refine br_c (fun h => dm_p1 hp (ac_AF1 38 h (by unfold dm_AF; decide))) (fun _ => ?_)
  refine br_c (fun h => dm_p0 hp (ac_AF0 39 h (by unfold dm_AF; decide))) (fun _ => ?_)
  refine br_c (fun h => dm_p0 hp (ac_AF0 40 h (by unfold dm_AF; decide))) (fun _ => ?_)
  refine br_c (fun h => dm_p0 hp (ac_AF0 41 h (by unfold dm_AF; decide))) (fun _ => ?_)
  refine br_c (fun h => dm_p1 hp (ac_AF1 42 h (by unfold dm_AF; decide))) (fun _ => ?_)
  refine br_c (fun h => dm_p1 hp (ac_AF1 43 h (by unfold dm_AF; decide))) (fun _ => ?_)
  trivial
theorem xa_acc (hp : post (dm_b (dm_AC w))) : wpX_accepted post (f_maxWords, f_dataCount, f_size, f_ready, f_codeSize, f_shadow, f_resReg, f_resValue, f_resTrap, f_resFault, f_resNext, f_resTaken, f_npc, f_slotOf, f_slotTo, f_flightReg, f_flightValue, a_words, a_leader, a_moved, a_early, a_home, a_code, a_jump, a_blockAt, a_copied, a_cells, a_traces, a_pcs, a_states, a_faults, a_dones, a_entryCounts) w := by
  unfold wpX_accepted
  have out : dm_op w < 0 ∨ 43 < dm_op w → ¬ dm_AC w := fun h => by
    obtain ⟨_, a, b, c⟩ := ac_no h
    rw [ac_op b c]; exact a
  have y1 : ∀ c : Int32, dm_op w = c → dm_AO c → dm_AC w := fun c h q => Or.inr (Or.inr (h ▸ q))
  have n1 : ∀ c : Int32, dm_op w = c → ¬ c = 0 → ¬ c = 1 → ¬ dm_AO c → ¬ dm_AC w := fun c h a b q => by
    rw [ac_op (h ▸ a) (h ▸ b), h]; exact q
  refine nm_r (e' := dm_op w) rfl (br_c (fun h => dm_p0 hp (out (Or.inl h))) (fun _ => br_c (fun h => dm_p0 hp (out (Or.inr h))) (fun _ => ?_)))
  refine br_c (fun h => xa_fn (x := w &&& 63) ?_) (fun _ => ?_)
  · refine And.intro (dm_bn _) ?_
    have e : dm_AC w ↔ dm_AF (w &&& 63) := ⟨fun q => q.elim (fun z => z.2) (fun q => q.elim (fun z => absurd (h.symm.trans z.1) (by decide)) (fun q => by unfold dm_AO at q; rw [h] at q; exact absurd q (by decide))), fun q => Or.inl ⟨h, q⟩⟩
    rw [dm_be e] at hp; exact hp
  refine br_c (fun h => nm_r (e' := dm_rt w) rfl ?_) (fun _ => ?_)
  · have e : dm_AC w ↔ dm_A1 w := ⟨fun q => q.elim (fun z => absurd (h.symm.trans z.1) (by decide)) (fun q => q.elim (fun z => z.2) (fun q => by unfold dm_AO at q; rw [h] at q; exact absurd q (by decide))), fun q => Or.inr (Or.inl ⟨h, q⟩)⟩
    rw [dm_be e] at hp
    refine br_c (fun a => dm_p1 hp (Or.inl a)) (fun a => br_c (fun b => dm_p1 hp (Or.inr (Or.inl b))) (fun b => br_c (fun c => br_c (fun d => dm_p0 hp ?_) (fun d => dm_p1 hp (Or.inr (Or.inr ⟨c, d⟩)))) (fun c => dm_p0 hp ?_)))
    · exact fun q => q.elim a (fun q => q.elim b (fun q => q.2 d))
    · exact fun q => q.elim a (fun q => q.elim b (fun q => c q.1))
  refine br_c (fun h => dm_p1 hp (y1 2 h (by unfold dm_AO; decide))) (fun _ => ?_)
  refine br_c (fun h => dm_p1 hp (y1 3 h (by unfold dm_AO; decide))) (fun _ => ?_)
  refine br_c (fun h => dm_p1 hp (y1 4 h (by unfold dm_AO; decide))) (fun _ => ?_)
  refine br_c (fun h => dm_p1 hp (y1 5 h (by unfold dm_AO; decide))) (fun _ => ?_)
  refine br_c (fun h => dm_p0 hp (n1 6 h (by decide) (by decide) (by unfold dm_AO; decide))) (fun _ => ?_)
  refine br_c (fun h => dm_p0 hp (n1 7 h (by decide) (by decide) (by unfold dm_AO; decide))) (fun _ => ?_)
  refine br_c (fun h => dm_p1 hp (y1 8 h (by unfold dm_AO; decide))) (fun _ => ?_)
  refine br_c (fun h => dm_p1 hp (y1 9 h (by unfold dm_AO; decide))) (fun _ => ?_)
  refine br_c (fun h => dm_p1 hp (y1 10 h (by unfold dm_AO; decide))) (fun _ => ?_)
  refine br_c (fun h => dm_p0 hp (n1 11 h (by decide) (by decide) (by unfold dm_AO; decide))) (fun _ => ?_)
  refine br_c (fun h => dm_p1 hp (y1 12 h (by unfold dm_AO; decide))) (fun _ => ?_)
  refine br_c (fun h => dm_p1 hp (y1 13 h (by unfold dm_AO; decide))) (fun _ => ?_)
  refine br_c (fun h => dm_p0 hp (n1 14 h (by decide) (by decide) (by unfold dm_AO; decide))) (fun _ => ?_)
  refine br_c (fun h => dm_p1 hp (y1 15 h (by unfold dm_AO; decide))) (fun _ => ?_)
  refine br_c (fun h => dm_p0 hp (n1 16 h (by decide) (by decide) (by unfold dm_AO; decide))) (fun _ => ?_)
  refine br_c (fun h => dm_p0 hp (n1 17 h (by decide) (by decide) (by unfold dm_AO; decide))) (fun _ => ?_)
  refine br_c (fun h => dm_p0 hp (n1 18 h (by decide) (by decide) (by unfold dm_AO; decide))) (fun _ => ?_)
  refine br_c (fun h => dm_p0 hp (n1 19 h (by decide) (by decide) (by unfold dm_AO; decide))) (fun _ => ?_)
  refine br_c (fun h => dm_p0 hp (n1 20 h (by decide) (by decide) (by unfold dm_AO; decide))) (fun _ => ?_)
  refine br_c (fun h => dm_p0 hp (n1 21 h (by decide) (by decide) (by unfold dm_AO; decide))) (fun _ => ?_)
  refine br_c (fun h => dm_p0 hp (n1 22 h (by decide) (by decide) (by unfold dm_AO; decide))) (fun _ => ?_)
  refine br_c (fun h => dm_p0 hp (n1 23 h (by decide) (by decide) (by unfold dm_AO; decide))) (fun _ => ?_)
  refine br_c (fun h => dm_p0 hp (n1 24 h (by decide) (by decide) (by unfold dm_AO; decide))) (fun _ => ?_)
  refine br_c (fun h => dm_p0 hp (n1 25 h (by decide) (by decide) (by unfold dm_AO; decide))) (fun _ => ?_)
  refine br_c (fun h => dm_p0 hp (n1 26 h (by decide) (by decide) (by unfold dm_AO; decide))) (fun _ => ?_)
  refine br_c (fun h => dm_p0 hp (n1 27 h (by decide) (by decide) (by unfold dm_AO; decide))) (fun _ => ?_)
  refine br_c (fun h => dm_p0 hp (n1 28 h (by decide) (by decide) (by unfold dm_AO; decide))) (fun _ => ?_)
  refine br_c (fun h => dm_p0 hp (n1 29 h (by decide) (by decide) (by unfold dm_AO; decide))) (fun _ => ?_)
  refine br_c (fun h => dm_p0 hp (n1 30 h (by decide) (by decide) (by unfold dm_AO; decide))) (fun _ => ?_)
  refine br_c (fun h => dm_p0 hp (n1 31 h (by decide) (by decide) (by unfold dm_AO; decide))) (fun _ => ?_)
  refine br_c (fun h => dm_p0 hp (n1 32 h (by decide) (by decide) (by unfold dm_AO; decide))) (fun _ => ?_)
  refine br_c (fun h => dm_p0 hp (n1 33 h (by decide) (by decide) (by unfold dm_AO; decide))) (fun _ => ?_)
  refine br_c (fun h => dm_p0 hp (n1 34 h (by decide) (by decide) (by unfold dm_AO; decide))) (fun _ => ?_)
  refine br_c (fun h => dm_p1 hp (y1 35 h (by unfold dm_AO; decide))) (fun _ => ?_)
  refine br_c (fun h => dm_p0 hp (n1 36 h (by decide) (by decide) (by unfold dm_AO; decide))) (fun _ => ?_)
  refine br_c (fun h => dm_p0 hp (n1 37 h (by decide) (by decide) (by unfold dm_AO; decide))) (fun _ => ?_)
  refine br_c (fun h => dm_p0 hp (n1 38 h (by decide) (by decide) (by unfold dm_AO; decide))) (fun _ => ?_)
  refine br_c (fun h => dm_p0 hp (n1 39 h (by decide) (by decide) (by unfold dm_AO; decide))) (fun _ => ?_)
  refine br_c (fun h => dm_p0 hp (n1 40 h (by decide) (by decide) (by unfold dm_AO; decide))) (fun _ => ?_)
  refine br_c (fun h => dm_p0 hp (n1 41 h (by decide) (by decide) (by unfold dm_AO; decide))) (fun _ => ?_)
  refine br_c (fun h => dm_p0 hp (n1 42 h (by decide) (by decide) (by unfold dm_AO; decide))) (fun _ => ?_)
  refine br_c (fun h => dm_p1 hp (y1 43 h (by unfold dm_AO; decide))) (fun _ => ?_)
  trivial
end XA
section YA
variable {f_p f_d f_size f_ready : Int32} {a_words a_cells a_items a_pcs a_stats a_faults a_dones a_ents : Nat → Int32}
variable {post : Int32 → Prop} {w : Int32}
theorem ya_acc (hp : post (dm_b (dm_AC w))) : wpY_accepted post (f_p, f_d, f_size, f_ready, a_words, a_cells, a_items, a_pcs, a_stats, a_faults, a_dones, a_ents) w := by
  unfold wpY_accepted
  refine nm_r (e' := dm_op w) rfl (nm_r (dm_rsY w) (nm_r (dm_rtY w) (nm_r (e' := dm_fn w) rfl ?_)))
  refine br_c (fun h => ?_) (fun h0 => ?_)
  · have e : dm_AC w ↔ dm_AF (dm_fn w) := ⟨fun q => q.elim (fun z => z.2) (fun q => q.elim (fun z => absurd (h.symm.trans z.1) (by decide)) (fun q => by unfold dm_AO at q; rw [h] at q; exact absurd q (by decide))), fun q => Or.inl ⟨h, q⟩⟩
    rw [dm_be e] at hp
    refine br_c (fun h => dm_p1 hp (Or.inl h)) (fun q0 => ?_)
    refine br_c (fun h => dm_p1 hp (Or.inr (Or.inl h))) (fun q1 => ?_)
    refine br_c (fun h => dm_p1 hp (Or.inr (Or.inr (Or.inl h)))) (fun q2 => ?_)
    refine br_c (fun h => dm_p1 hp (Or.inr (Or.inr (Or.inr (Or.inl h))))) (fun q3 => ?_)
    refine br_c (fun h => dm_p1 hp (Or.inr (Or.inr (Or.inr (Or.inr (Or.inl h)))))) (fun q4 => ?_)
    refine br_c (fun h => dm_p1 hp (Or.inr (Or.inr (Or.inr (Or.inr (Or.inr (Or.inl h))))))) (fun q5 => ?_)
    refine br_c (fun h => dm_p1 hp (Or.inr (Or.inr (Or.inr (Or.inr (Or.inr (Or.inr (Or.inl h)))))))) (fun q6 => ?_)
    refine br_c (fun h => dm_p1 hp (Or.inr (Or.inr (Or.inr (Or.inr (Or.inr (Or.inr (Or.inr (Or.inl h))))))))) (fun q7 => ?_)
    refine br_c (fun h => dm_p1 hp (Or.inr (Or.inr (Or.inr (Or.inr (Or.inr (Or.inr (Or.inr (Or.inr (Or.inl h)))))))))) (fun q8 => ?_)
    refine br_c (fun h => dm_p1 hp (Or.inr (Or.inr (Or.inr (Or.inr (Or.inr (Or.inr (Or.inr (Or.inr (Or.inr (Or.inl h))))))))))) (fun q9 => ?_)
    refine br_c (fun h => dm_p1 hp (Or.inr (Or.inr (Or.inr (Or.inr (Or.inr (Or.inr (Or.inr (Or.inr (Or.inr (Or.inr (Or.inl h)))))))))))) (fun q10 => ?_)
    refine br_c (fun h => dm_p1 hp (Or.inr (Or.inr (Or.inr (Or.inr (Or.inr (Or.inr (Or.inr (Or.inr (Or.inr (Or.inr (Or.inr (h))))))))))))) (fun q11 => ?_)
    exact dm_p0 hp (fun z => z.elim q0 (fun z => z.elim q1 (fun z => z.elim q2 (fun z => z.elim q3 (fun z => z.elim q4 (fun z => z.elim q5 (fun z => z.elim q6 (fun z => z.elim q7 (fun z => z.elim q8 (fun z => z.elim q9 (fun z => z.elim q10 (q11))))))))))))
  refine br_c (fun h => ?_) (fun h1 => ?_)
  · have e : dm_AC w ↔ dm_A1 w := ⟨fun q => q.elim (fun z => absurd (h.symm.trans z.1) (by decide)) (fun q => q.elim (fun z => z.2) (fun q => by unfold dm_AO at q; rw [h] at q; exact absurd q (by decide))), fun q => Or.inr (Or.inl ⟨h, q⟩)⟩
    rw [dm_be e] at hp
    refine br_c (fun a => dm_p1 hp (Or.inl a)) (fun a => br_c (fun b => dm_p1 hp (Or.inr (Or.inl b))) (fun b => br_c (fun c => br_c (fun d => dm_p0 hp ?_) (fun d => dm_p1 hp (Or.inr (Or.inr ⟨c, d⟩)))) (fun c => dm_p0 hp ?_)))
    · exact fun q => q.elim a (fun q => q.elim b (fun q => q.2 d))
    · exact fun q => q.elim a (fun q => q.elim b (fun q => c q.1))
  rw [dm_be (ac_op h0 h1)] at hp
  refine br_c (fun h => dm_p1 hp (Or.inl h)) (fun q0 => ?_)
  refine br_c (fun h => dm_p1 hp (Or.inr (Or.inl h))) (fun q1 => ?_)
  refine br_c (fun h => dm_p1 hp (Or.inr (Or.inr (Or.inl h)))) (fun q2 => ?_)
  refine br_c (fun h => dm_p1 hp (Or.inr (Or.inr (Or.inr (Or.inl h))))) (fun q3 => ?_)
  refine br_c (fun h => dm_p1 hp (Or.inr (Or.inr (Or.inr (Or.inr (Or.inl h)))))) (fun q4 => ?_)
  refine br_c (fun h => dm_p1 hp (Or.inr (Or.inr (Or.inr (Or.inr (Or.inr (Or.inl h))))))) (fun q5 => ?_)
  refine br_c (fun h => dm_p1 hp (Or.inr (Or.inr (Or.inr (Or.inr (Or.inr (Or.inr (Or.inl h)))))))) (fun q6 => ?_)
  refine br_c (fun h => dm_p1 hp (Or.inr (Or.inr (Or.inr (Or.inr (Or.inr (Or.inr (Or.inr (Or.inl h))))))))) (fun q7 => ?_)
  refine br_c (fun h => dm_p1 hp (Or.inr (Or.inr (Or.inr (Or.inr (Or.inr (Or.inr (Or.inr (Or.inr (Or.inl h)))))))))) (fun q8 => ?_)
  refine br_c (fun h => dm_p1 hp (Or.inr (Or.inr (Or.inr (Or.inr (Or.inr (Or.inr (Or.inr (Or.inr (Or.inr (Or.inl h))))))))))) (fun q9 => ?_)
  refine br_c (fun h => dm_p1 hp (Or.inr (Or.inr (Or.inr (Or.inr (Or.inr (Or.inr (Or.inr (Or.inr (Or.inr (Or.inr (Or.inl h)))))))))))) (fun q10 => ?_)
  refine br_c (fun h => dm_p1 hp (Or.inr (Or.inr (Or.inr (Or.inr (Or.inr (Or.inr (Or.inr (Or.inr (Or.inr (Or.inr (Or.inr (h))))))))))))) (fun q11 => ?_)
  exact dm_p0 hp (fun z => z.elim q0 (fun z => z.elim q1 (fun z => z.elim q2 (fun z => z.elim q3 (fun z => z.elim q4 (fun z => z.elim q5 (fun z => z.elim q6 (fun z => z.elim q7 (fun z => z.elim q8 (fun z => z.elim q9 (fun z => z.elim q10 (q11))))))))))))
end YA
end
section
/-! the relation, and the methods that only ask -/
def dm_TRk (T I N : Nat → Int32) : Prop := ∀ s, s < 2 → ∀ j, j < 32 → nI j < N s → T (s * 32 + j) = I (s * 32 + j)
/-- what holds of a compiled program and its tables -/
def dm_RD (k n d : Nat) (W L H CO JU BA CP T I P N : Nat → Int32) : Prop :=
  0 < n ∧ dm_GE W n ∧ dm_TI W n ∧ dm_LR W L n ∧ (∃ S : Nat → Prop, dm_TB W L H CO JU BA CP n (nI d) S ∧ ∃ i, S i ∧ P 1 = nI i) ∧ (∃ i, i < n ∧ P 0 = nI i) ∧ dm_TRk T I N ∧ ∃ e, e ≤ 32 * k + 1 ∧ N 1 = nI e
def dm_Rel (k : Nat) (mw dc sz rdy : Int32) (W L H CO JU BA CP C T I P N : Nat → Int32) : Prop :=
  ∃ m d n : Nat, m ≤ 32 ∧ d ≤ 32 ∧ n ≤ m ∧ mw = nI m ∧ dc = nI d ∧ sz = nI n ∧ dm_Acc W n ∧ C 0 = 0 ∧ C 64 = 0 ∧ (rdy = 0 ∨ (rdy = 1 ∧ dm_RD k n d W L H CO JU BA CP T I P N))
/-- the relation at the head of a turn whose first cell is k -/
def i_Rel (k : Nat) (u : SX) (v : SY) : Prop := match u with
  | (f_maxWords, f_dataCount, f_size, f_ready, f_codeSize, f_shadow, f_resReg, f_resValue, f_resTrap, f_resFault, f_resNext, f_resTaken, f_npc, f_slotOf, f_slotTo, f_flightReg, f_flightValue, a_words, a_leader, a_moved, a_early, a_home, a_code, a_jump, a_blockAt, a_copied, a_cells, a_traces, a_pcs, a_states, a_faults, a_dones, a_entryCounts) => match v with
    | (y_p, y_d, y_size, y_ready, y_words, y_cells, y_items, y_pcs, y_stats, y_faults, y_dones, y_ents) =>
      y_p = f_maxWords ∧ y_d = f_dataCount ∧ y_size = f_size ∧ y_ready = f_ready ∧ y_words = a_words ∧ y_cells = a_cells ∧ y_pcs = a_pcs ∧ y_stats = a_states ∧ y_faults = a_faults ∧ y_dones = a_dones ∧ y_ents = a_entryCounts ∧
        dm_Rel k f_maxWords f_dataCount f_size f_ready a_words a_leader a_home a_code a_jump a_blockAt a_copied a_cells a_traces y_items a_pcs a_entryCounts
theorem dm_up {k : Nat} {mw dc sz rdy : Int32} {W L H CO JU BA CP C T I P N : Nat → Int32} (h : dm_Rel k mw dc sz rdy W L H CO JU BA CP C T I P N) : dm_Rel (k + 3) mw dc sz rdy W L H CO JU BA CP C T I P N := by
  obtain ⟨m, d, n, a1, a2, a3, a4, a5, a6, a7, a8, a9, r | ⟨r, b1, b2, b3, b4, b5, b6, b7, e, he, en⟩⟩ := h
  · exact ⟨m, d, n, a1, a2, a3, a4, a5, a6, a7, a8, a9, Or.inl r⟩
  · exact ⟨m, d, n, a1, a2, a3, a4, a5, a6, a7, a8, a9, Or.inr ⟨r, b1, b2, b3, b4, b5, b6, b7, e, by omega, en⟩⟩
section RE
variable {f_maxWords f_dataCount f_size f_ready f_codeSize f_shadow f_resReg f_resValue f_resTrap f_resFault f_resNext f_resTaken f_npc f_slotOf f_slotTo f_flightReg f_flightValue : Int32} {a_words a_leader a_moved a_early a_home a_code a_jump a_blockAt a_copied a_cells a_traces a_pcs a_states a_faults a_dones a_entryCounts : Nat → Int32}
variable {a_items : Nat → Int32} {k : Nat}
theorem zz_in (h : dm_Rel k f_maxWords f_dataCount f_size f_ready a_words a_leader a_home a_code a_jump a_blockAt a_copied a_cells a_traces a_items a_pcs a_entryCounts) : i_Rel k (f_maxWords, f_dataCount, f_size, f_ready, f_codeSize, f_shadow, f_resReg, f_resValue, f_resTrap, f_resFault, f_resNext, f_resTaken, f_npc, f_slotOf, f_slotTo, f_flightReg, f_flightValue, a_words, a_leader, a_moved, a_early, a_home, a_code, a_jump, a_blockAt, a_copied, a_cells, a_traces, a_pcs, a_states, a_faults, a_dones, a_entryCounts) (f_maxWords, f_dataCount, f_size, f_ready, a_words, a_cells, a_items, a_pcs, a_states, a_faults, a_dones, a_entryCounts) :=
  And.intro rfl (And.intro rfl (And.intro rfl (And.intro rfl (And.intro rfl (And.intro rfl (And.intro rfl (And.intro rfl (And.intro rfl (And.intro rfl (And.intro rfl h))))))))))
end RE
theorem zz_el {P : SX → SY → Prop} {k : Nat} {u : SX} {v : SY}
    (h : ∀ (f_maxWords f_dataCount f_size f_ready f_codeSize f_shadow f_resReg f_resValue f_resTrap f_resFault f_resNext f_resTaken f_npc f_slotOf f_slotTo f_flightReg f_flightValue : Int32) (a_words a_leader a_moved a_early a_home a_code a_jump a_blockAt a_copied a_cells a_traces a_pcs a_states a_faults a_dones a_entryCounts a_items : Nat → Int32),
      dm_Rel k f_maxWords f_dataCount f_size f_ready a_words a_leader a_home a_code a_jump a_blockAt a_copied a_cells a_traces a_items a_pcs a_entryCounts → P (f_maxWords, f_dataCount, f_size, f_ready, f_codeSize, f_shadow, f_resReg, f_resValue, f_resTrap, f_resFault, f_resNext, f_resTaken, f_npc, f_slotOf, f_slotTo, f_flightReg, f_flightValue, a_words, a_leader, a_moved, a_early, a_home, a_code, a_jump, a_blockAt, a_copied, a_cells, a_traces, a_pcs, a_states, a_faults, a_dones, a_entryCounts) (f_maxWords, f_dataCount, f_size, f_ready, a_words, a_cells, a_items, a_pcs, a_states, a_faults, a_dones, a_entryCounts)) (I : i_Rel k u v) : P u v := by
  obtain ⟨f_maxWords, f_dataCount, f_size, f_ready, f_codeSize, f_shadow, f_resReg, f_resValue, f_resTrap, f_resFault, f_resNext, f_resTaken, f_npc, f_slotOf, f_slotTo, f_flightReg, f_flightValue, a_words, a_leader, a_moved, a_early, a_home, a_code, a_jump, a_blockAt, a_copied, a_cells, a_traces, a_pcs, a_states, a_faults, a_dones, a_entryCounts⟩ := u
  obtain ⟨y_p, y_d, y_size, y_ready, y_words, y_cells, y_items, y_pcs, y_stats, y_faults, y_dones, y_ents⟩ := v
  obtain ⟨e1, e2, e3, e4, e5, e6, e7, e8, e9, e10, e11, R⟩ := I
  subst e1 e2 e3 e4 e5 e6 e7 e8 e9 e10 e11
  exact h _ _ _ _ _ _ _ _ _ _ _ _ _ _ _ _ _ _ _ _ _ _ _ _ _ _ _ _ _ _ _ _ _ _ R
theorem i_up {k : Nat} {u : SX} {v : SY} (h : i_Rel k u v) : i_Rel (k + 3) u v := by
  refine zz_el (P := fun u v => i_Rel (k + 3) u v) ?_ h
  intro f_maxWords f_dataCount f_size f_ready f_codeSize f_shadow f_resReg f_resValue f_resTrap f_resFault f_resNext f_resTaken f_npc f_slotOf f_slotTo f_flightReg f_flightValue a_words a_leader a_moved a_early a_home a_code a_jump a_blockAt a_copied a_cells a_traces a_pcs a_states a_faults a_dones a_entryCounts a_items R
  exact zz_in (dm_up R)
end
section
/-! constructors; the methods that only ask -/
def dm_cl (v : Int32) : Int32 := if 8 ≤ v then (if v ≤ 32 then v else 32) else 8
theorem dm_clR (v : Int32) : ∃ m : Nat, m ≤ 32 ∧ dm_cl v = nI m := by
  unfold dm_cl
  by_cases h : 8 ≤ v
  · rw [if_pos h]
    by_cases h2 : v ≤ 32
    · rw [if_pos h2]
      have h0 : ¬ v < 0 := Int32.not_lt.mpr (Int32.le_trans (by decide) h)
      exact nI_of2 (n := 32) (by decide) h0 h2
    · rw [if_neg h2]; exact ⟨32, by omega, rfl⟩
  · rw [if_neg h]; exact ⟨8, by omega, rfl⟩
theorem y_init88 {post : SY → Prop} {x z : Int32} (hp : post (z, dm_cl x, 0, 0, (fun _ => 0), (fun _ => 0), (fun _ => 0), (fun _ => 0), (fun _ => 0), (fun _ => 0), (fun _ => 0), (fun _ => 0))) :
    wY_init_88 post x z 0 0 0 0 (fun _ => 0) (fun _ => 0) (fun _ => 0) (fun _ => 0) (fun _ => 0) (fun _ => 0) (fun _ => 0) (fun _ => 0) := by
  unfold wY_init_88
  unfold dm_cl at hp
  refine br_c (fun h => br_c (fun h2 => ?_) (fun h2 => ?_)) (fun h => ?_)
  · rw [if_pos h, if_pos h2] at hp; exact hp
  · rw [if_pos h, if_neg h2] at hp; exact hp
  · rw [if_neg h] at hp; exact hp
theorem y_init {post : SY → Prop} {x y : Int32} (hp : post (dm_cl x, dm_cl y, 0, 0, (fun _ => 0), (fun _ => 0), (fun _ => 0), (fun _ => 0), (fun _ => 0), (fun _ => 0), (fun _ => 0), (fun _ => 0))) : wpY_init post x y := by
  unfold wpY_init
  refine br_c (fun h => br_c (fun h2 => y_init88 ?_) (fun h2 => y_init88 ?_)) (fun h => y_init88 ?_)
  · rw [show dm_cl x = x from (if_pos h).trans (if_pos h2)] at hp; exact hp
  · rw [show dm_cl x = 32 from (if_pos h).trans (if_neg h2)] at hp; exact hp
  · rw [show dm_cl x = 8 from if_neg h] at hp; exact hp
theorem i_vc0 (k0 : Int32) (k1 : Int32) : wpX_init (fun u => wpY_init (fun v => i_Rel 2 u v) k0 k1) k0 k1 := by
  unfold wpX_init
  refine xr_clamp (xr_clamp (y_init (zz_in ?_)))
  obtain ⟨m, hm, em⟩ := dm_clR k0
  obtain ⟨d, hd, ed⟩ := dm_clR k1
  exact ⟨m, d, 0, hm, hd, by omega, em, ed, rfl, fun i hi => by omega, rfl, rfl, Or.inl rfl⟩
theorem i_vc_status {k : Nat} {u : SX} {v : SY} (I : i_Rel k u v) (hk : k + 3 ≤ 1538) (v1 : Int32) : wpX_status (fun r => wpY_status (fun r' => r' = r ∧ i_Rel (k + 3) u v) v v1) u v1 := by
  refine zz_el (P := fun u v => wpX_status (fun r => wpY_status (fun r' => r' = r ∧ i_Rel (k + 3) u v) v v1) u v1) ?_ I
  intro f_maxWords f_dataCount f_size f_ready f_codeSize f_shadow f_resReg f_resValue f_resTrap f_resFault f_resNext f_resTaken f_npc f_slotOf f_slotTo f_flightReg f_flightValue a_words a_leader a_moved a_early a_home a_code a_jump a_blockAt a_copied a_cells a_traces a_pcs a_states a_faults a_dones a_entryCounts a_items R
  have R' := zz_in (f_codeSize := f_codeSize) (f_shadow := f_shadow) (f_resReg := f_resReg) (f_resValue := f_resValue) (f_resTrap := f_resTrap) (f_resFault := f_resFault) (f_resNext := f_resNext) (f_resTaken := f_resTaken) (f_npc := f_npc) (f_slotOf := f_slotOf) (f_slotTo := f_slotTo) (f_flightReg := f_flightReg) (f_flightValue := f_flightValue) (a_moved := a_moved) (a_early := a_early) (a_states := a_states) (a_faults := a_faults) (a_dones := a_dones) (dm_up R)
  exact br_c (fun h => br_t h ⟨rfl, R'⟩) (fun h => br_c (fun z => br_f h (br_t z ⟨rfl, R'⟩)) (fun z => br_f h (br_f z ⟨rfl, R'⟩)))
theorem i_vc_fault {k : Nat} {u : SX} {v : SY} (I : i_Rel k u v) (hk : k + 3 ≤ 1538) (v1 : Int32) : wpX_fault (fun r => wpY_fault (fun r' => r' = r ∧ i_Rel (k + 3) u v) v v1) u v1 := by
  have J := i_up I
  revert J
  refine zz_el (P := fun u v => i_Rel (k + 3) u v → wpX_fault (fun r => wpY_fault (fun r' => r' = r ∧ i_Rel (k + 3) u v) v v1) u v1) ?_ I
  intro f_maxWords f_dataCount f_size f_ready f_codeSize f_shadow f_resReg f_resValue f_resTrap f_resFault f_resNext f_resTaken f_npc f_slotOf f_slotTo f_flightReg f_flightValue a_words a_leader a_moved a_early a_home a_code a_jump a_blockAt a_copied a_cells a_traces a_pcs a_states a_faults a_dones a_entryCounts a_items R R'
  exact br_c (fun h => br_t h ⟨rfl, R'⟩) (fun h => br_c (fun z => br_f h (br_t z ⟨rfl, R'⟩)) (fun z => br_f h (br_f z ⟨rfl, R'⟩)))
theorem i_vc_pc {k : Nat} {u : SX} {v : SY} (I : i_Rel k u v) (hk : k + 3 ≤ 1538) (v1 : Int32) : wpX_pc (fun r => wpY_pc (fun r' => r' = r ∧ i_Rel (k + 3) u v) v v1) u v1 := by
  have J := i_up I
  revert J
  refine zz_el (P := fun u v => i_Rel (k + 3) u v → wpX_pc (fun r => wpY_pc (fun r' => r' = r ∧ i_Rel (k + 3) u v) v v1) u v1) ?_ I
  intro f_maxWords f_dataCount f_size f_ready f_codeSize f_shadow f_resReg f_resValue f_resTrap f_resFault f_resNext f_resTaken f_npc f_slotOf f_slotTo f_flightReg f_flightValue a_words a_leader a_moved a_early a_home a_code a_jump a_blockAt a_copied a_cells a_traces a_pcs a_states a_faults a_dones a_entryCounts a_items R R'
  exact br_c (fun h => br_t h ⟨rfl, R'⟩) (fun h => br_c (fun z => br_f h (br_t z ⟨rfl, R'⟩)) (fun z => br_f h (br_f z ⟨rfl, R'⟩)))
theorem i_vc_done {k : Nat} {u : SX} {v : SY} (I : i_Rel k u v) (hk : k + 3 ≤ 1538) (v1 : Int32) : wpX_done (fun r => wpY_done (fun r' => r' = r ∧ i_Rel (k + 3) u v) v v1) u v1 := by
  have J := i_up I
  revert J
  refine zz_el (P := fun u v => i_Rel (k + 3) u v → wpX_done (fun r => wpY_done (fun r' => r' = r ∧ i_Rel (k + 3) u v) v v1) u v1) ?_ I
  intro f_maxWords f_dataCount f_size f_ready f_codeSize f_shadow f_resReg f_resValue f_resTrap f_resFault f_resNext f_resTaken f_npc f_slotOf f_slotTo f_flightReg f_flightValue a_words a_leader a_moved a_early a_home a_code a_jump a_blockAt a_copied a_cells a_traces a_pcs a_states a_faults a_dones a_entryCounts a_items R R'
  exact br_c (fun h => br_t h ⟨rfl, R'⟩) (fun h => br_c (fun z => br_f h (br_t z ⟨rfl, R'⟩)) (fun z => br_f h (br_f z ⟨rfl, R'⟩)))
theorem i_vc_entries {k : Nat} {u : SX} {v : SY} (I : i_Rel k u v) (hk : k + 3 ≤ 1538) (v1 : Int32) : wpX_entries (fun r => wpY_entries (fun r' => r' = r ∧ i_Rel (k + 3) u v) v v1) u v1 := by
  have J := i_up I
  revert J
  refine zz_el (P := fun u v => i_Rel (k + 3) u v → wpX_entries (fun r => wpY_entries (fun r' => r' = r ∧ i_Rel (k + 3) u v) v v1) u v1) ?_ I
  intro f_maxWords f_dataCount f_size f_ready f_codeSize f_shadow f_resReg f_resValue f_resTrap f_resFault f_resNext f_resTaken f_npc f_slotOf f_slotTo f_flightReg f_flightValue a_words a_leader a_moved a_early a_home a_code a_jump a_blockAt a_copied a_cells a_traces a_pcs a_states a_faults a_dones a_entryCounts a_items R R'
  exact br_c (fun h => br_t h ⟨rfl, R'⟩) (fun h => br_c (fun z => br_f h (br_t z ⟨rfl, R'⟩)) (fun z => br_f h (br_f z ⟨rfl, R'⟩)))
theorem dm_rdy {k : Nat} {mw dc sz rdy : Int32} {W L H CO JU BA CP C T I P N : Nat → Int32} (h : dm_Rel k mw dc sz rdy W L H CO JU BA CP C T I P N) (hr : ¬ rdy = 0) : ∃ m d n : Nat, m ≤ 32 ∧ d ≤ 32 ∧ n ≤ 32 ∧ n ≤ m ∧ mw = nI m ∧ dc = nI d ∧ sz = nI n ∧ dm_Acc W n ∧ C 0 = 0 ∧ C 64 = 0 ∧ rdy = 1 ∧ dm_RD k n d W L H CO JU BA CP T I P N := by
  obtain ⟨m, d, n, a1, a2, a3, a4, a5, a6, a7, a8, a9, r | ⟨r, b⟩⟩ := h
  · exact absurd r hr
  · exact ⟨m, d, n, a1, a2, by omega, a3, a4, a5, a6, a7, a8, a9, r, b⟩
theorem i_vc_trace {k : Nat} {u : SX} {v : SY} (I : i_Rel k u v) (hk : k + 3 ≤ 1538) (v1 : Int32) (v2 : Int32) : wpX_trace (fun r => wpY_trace (fun r' => r' = r ∧ i_Rel (k + 3) u v) v v1 v2) u v1 v2 := by
  have J := i_up I
  revert J
  refine zz_el (P := fun u v => i_Rel (k + 3) u v → wpX_trace (fun r => wpY_trace (fun r' => r' = r ∧ i_Rel (k + 3) u v) v v1 v2) u v1 v2) ?_ I
  intro f_maxWords f_dataCount f_size f_ready f_codeSize f_shadow f_resReg f_resValue f_resTrap f_resFault f_resNext f_resTaken f_npc f_slotOf f_slotTo f_flightReg f_flightValue a_words a_leader a_moved a_early a_home a_code a_jump a_blockAt a_copied a_cells a_traces a_pcs a_states a_faults a_dones a_entryCounts a_items R R'
  refine br_c (fun h => br_t h ⟨rfl, R'⟩) (fun h => ?_)
  obtain ⟨m, d, n, _, _, _, _, _, _, _, _, _, _, _, rd⟩ := dm_rdy R h
  have tr := rd.2.2.2.2.2.2.1
  have go : ∀ s : Nat, s < 2 → ∃ r : Int32, (∀ post : Int32 → Prop, post r → wX_trace_19 post v2 (nI s) f_maxWords f_dataCount f_size f_ready f_codeSize f_shadow f_resReg f_resValue f_resTrap f_resFault f_resNext f_resTaken f_npc f_slotOf f_slotTo f_flightReg f_flightValue a_words a_leader a_moved a_early a_home a_code a_jump a_blockAt a_copied a_cells a_traces a_pcs a_states a_faults a_dones a_entryCounts) ∧ (∀ post : Int32 → Prop, post r → wY_trace_19 post v2 (nI s) f_maxWords f_dataCount f_size f_ready a_words a_cells a_items a_pcs a_states a_faults a_dones a_entryCounts) := by
    intro s hs
    have c : (nI s).toNatClampNeg = s := nI_clamp (by omega)
    have v : vp_in (nI s) 2 := vp_in_nI hs (by omega)
    unfold wX_trace_19 wY_trace_19
    rw [c, dm_c32]
    by_cases a : v2 < 0
    · exact ⟨_, fun _ hp => br_t a hp, fun _ hp => br_t a hp⟩
    by_cases b : 32 ≤ v2
    · exact ⟨_, fun _ hp => br_f a (br_t b hp), fun _ hp => br_f a (br_t b hp)⟩
    by_cases e : v2 < a_entryCounts s
    · obtain ⟨e1, e2⟩ := dm_32i a b hs
      rw [e1]
      have q : a_traces (s * 32 + v2.toNatClampNeg) = a_items (s * 32 + v2.toNatClampNeg) := by
        obtain ⟨j, hj, rfl⟩ := nI_of a
        have j32 : j < 32 := by
          rw [← show nI 32 = 32 from rfl, nI_leI (by omega) hj] at b; omega
        rw [nI_clamp hj]
        exact tr s hs j j32 e
      exact ⟨_, fun _ hp => br_f a (br_f b (And.intro v (br_t e (And.intro e2 hp)))), fun _ hp => br_f a (br_f b (And.intro v (br_t e (And.intro e2 (q ▸ hp)))))⟩
    · exact ⟨_, fun _ hp => br_f a (br_f b (And.intro v (br_f e hp))), fun _ hp => br_f a (br_f b (And.intro v (br_f e hp)))⟩
  refine br_c (fun z => ?_) (fun z => ?_)
  · obtain ⟨r, gx, gy⟩ := go 0 (by omega)
    exact gx _ (br_f h (br_t z (gy _ ⟨rfl, R'⟩)))
  · obtain ⟨r, gx, gy⟩ := go 1 (by omega)
    exact gx _ (br_f h (br_f z (gy _ ⟨rfl, R'⟩)))
theorem i_vc_cell {k : Nat} {u : SX} {v : SY} (I : i_Rel k u v) (hk : k + 3 ≤ 1538) (v1 : Int32) (v2 : Int32) : wpX_cell (fun r => wpY_cell (fun r' => r' = r ∧ i_Rel (k + 3) u v) v v1 v2) u v1 v2 := by
  have J := i_up I
  revert J
  refine zz_el (P := fun u v => i_Rel (k + 3) u v → wpX_cell (fun r => wpY_cell (fun r' => r' = r ∧ i_Rel (k + 3) u v) v v1 v2) u v1 v2) ?_ I
  intro f_maxWords f_dataCount f_size f_ready f_codeSize f_shadow f_resReg f_resValue f_resTrap f_resFault f_resNext f_resTaken f_npc f_slotOf f_slotTo f_flightReg f_flightValue a_words a_leader a_moved a_early a_home a_code a_jump a_blockAt a_copied a_cells a_traces a_pcs a_states a_faults a_dones a_entryCounts a_items R R'
  refine br_c (fun h => br_t h ⟨rfl, R'⟩) (fun h => ?_)
  obtain ⟨m, d, n, _, hd, _, _, _, ed, _, _, _, _, _, _⟩ := dm_rdy R h
  refine br_c (fun a => br_f h (br_t a ⟨rfl, R'⟩)) (fun a => br_c (fun b => ?_) (fun b => br_f h (br_f a (br_f b ⟨rfl, R'⟩))))
  have b' := b
  obtain ⟨j, hj, rfl⟩ := nI_of a
  have j64 : j < 64 := by
    rw [ed, show (31 : Int32) = nI 31 from rfl, nI_add, nI_leI hj (by omega)] at b'; omega
  have q : ∀ s : Nat, s < 2 → vp_in ((64 * nI s) + nI j) 128 ∧ ((64 * nI s) + nI j).toNatClampNeg = s * 64 + j := fun s hs => by
    rw [dm_c64, dm_s64, nI_clamp (by omega)]
    exact ⟨vp_in_nI (by omega) (by omega), rfl⟩
  refine br_c (fun z => And.intro ?_ (br_f h (br_f a (br_t b (br_t z (And.intro (q 0 (by omega)).1 ⟨?_, R'⟩)))))) (fun z => And.intro ?_ (br_f h (br_f a (br_t b (br_f z (And.intro (q 1 (by omega)).1 ⟨?_, R'⟩))))))
  · rw [show (0 : Int32) = nI 0 from rfl, nI_add]; exact vp_in_nI (by omega) (by omega)
  · rw [show (0 : Int32) = nI 0 from rfl, (q 0 (by omega)).2, nI_add, nI_clamp (by omega)]
  · rw [show (64 : Int32) = nI 64 from rfl, nI_add]; exact vp_in_nI (by omega) (by omega)
  · rw [show (1 : Int32) = nI 1 from rfl, (q 1 (by omega)).2, show (64 : Int32) = nI 64 from rfl, nI_add, nI_clamp (by omega)]
theorem i_vc_source {k : Nat} {u : SX} {v : SY} (I : i_Rel k u v) (hk : k + 3 ≤ 1538) (v1 : Int32) : wpX_source (fun r => wpY_source (fun r' => r' = r ∧ i_Rel (k + 3) u v) v v1) u v1 := by
  have J := i_up I
  revert J
  refine zz_el (P := fun u v => i_Rel (k + 3) u v → wpX_source (fun r => wpY_source (fun r' => r' = r ∧ i_Rel (k + 3) u v) v v1) u v1) ?_ I
  intro f_maxWords f_dataCount f_size f_ready f_codeSize f_shadow f_resReg f_resValue f_resTrap f_resFault f_resNext f_resTaken f_npc f_slotOf f_slotTo f_flightReg f_flightValue a_words a_leader a_moved a_early a_home a_code a_jump a_blockAt a_copied a_cells a_traces a_pcs a_states a_faults a_dones a_entryCounts a_items R R'
  obtain ⟨m, d, n, hm, _, hn, _, _, en, _⟩ := R
  refine br_c (fun a => br_t a ⟨rfl, R'⟩) (fun a => br_c (fun b => ?_) (fun b => br_f a (br_f b ⟨rfl, R'⟩)))
  have vv : vp_in v1 32 := by
    have b' := b
    obtain ⟨j, hj, rfl⟩ := nI_of a
    rw [en, nI_ltI hj (by omega)] at b'
    exact vp_in_nI (by omega) (by omega)
  exact And.intro vv (br_f a (br_t b (And.intro vv ⟨rfl, R'⟩)))
theorem i_vc_entry {k : Nat} {u : SX} {v : SY} (I : i_Rel k u v) (hk : k + 3 ≤ 1538) (v1 : Int32) : wpX_entry (fun r => wpY_entry (fun r' => r' = r ∧ i_Rel (k + 3) u v) v v1) u v1 := by
  have J := i_up I
  revert J
  refine zz_el (P := fun u v => i_Rel (k + 3) u v → wpX_entry (fun r => wpY_entry (fun r' => r' = r ∧ i_Rel (k + 3) u v) v v1) u v1) ?_ I
  intro f_maxWords f_dataCount f_size f_ready f_codeSize f_shadow f_resReg f_resValue f_resTrap f_resFault f_resNext f_resTaken f_npc f_slotOf f_slotTo f_flightReg f_flightValue a_words a_leader a_moved a_early a_home a_code a_jump a_blockAt a_copied a_cells a_traces a_pcs a_states a_faults a_dones a_entryCounts a_items R R'
  refine br_c (fun a => br_t a ⟨rfl, R'⟩) (fun a => br_c (fun b => br_c (fun h => br_f a (br_t b (br_t h ⟨rfl, R'⟩))) (fun h => ?_)) (fun b => br_f a (br_f b ⟨rfl, R'⟩)))
  obtain ⟨m, d, n, _, _, hn, _, _, _, en, ac, _, _, _, rd⟩ := dm_rdy R h
  have vv : vp_in v1 32 := by
    have b' := b
    obtain ⟨j, hj, rfl⟩ := nI_of a
    rw [en, nI_ltI hj (by omega)] at b'
    exact vp_in_nI (by omega) (by omega)
  refine And.intro vv (br_c (fun l => ?_) (fun l => ?_))
  · refine br_f a (br_t b (br_f h (yr_isEntry hn en ac rd.2.2.2.1 (dm_bf (fun q => q.2.2 l) ⟨rfl, R'⟩))))
  · refine br_f a (br_t b (br_f h (yr_isEntry hn en ac rd.2.2.2.1 (dm_bt ⟨a, Int32.not_le.mpr b, l⟩ ⟨rfl, R'⟩))))
end
section
/-! put, clear, compile, rewind -/
theorem i_vc_put {k : Nat} {u : SX} {v : SY} (I : i_Rel k u v) (hk : k + 3 ≤ 1538) (v1 : Int32) : wpX_put (fun r u' => wpY_put (fun r' v' => r' = r ∧ i_Rel (k + 3) u' v') v v1) u v1 := by
  have J := i_up I
  revert J
  refine zz_el (P := fun u v => i_Rel (k + 3) u v → wpX_put (fun r u' => wpY_put (fun r' v' => r' = r ∧ i_Rel (k + 3) u' v') v v1) u v1) ?_ I
  intro f_maxWords f_dataCount f_size f_ready f_codeSize f_shadow f_resReg f_resValue f_resTrap f_resFault f_resNext f_resTaken f_npc f_slotOf f_slotTo f_flightReg f_flightValue a_words a_leader a_moved a_early a_home a_code a_jump a_blockAt a_copied a_cells a_traces a_pcs a_states a_faults a_dones a_entryCounts a_items R R'
  refine br_c (fun h => br_c (fun b => xa_acc (dm_bc (fun nac => ?_) (fun ac => ?_))) (fun b => br_t h (br_f b ⟨rfl, R'⟩))) (fun h => br_f h ⟨rfl, R'⟩)
  · exact br_t h (br_t b (ya_acc (dm_bf nac ⟨rfl, R'⟩)))
  · obtain ⟨m, d, n, hm, hd, hn, em, ed, en, acc, c0, c64, _⟩ := R
    have b' := b
    rw [en, em, nI_ltI (by omega) (by omega)] at b'
    have vv : vp_in f_size 32 := by rw [en]; exact vp_in_nI (by omega) (by omega)
    refine And.intro vv (nm_e (nm_e ?_))
    refine br_t h (br_t b (ya_acc (dm_bt ac (And.intro vv (nm_e (nm_e ⟨rfl, zz_in ?_⟩))))))
    refine ⟨m, d, n + 1, hm, hd, by omega, em, ed, by rw [en, nI_1], ?_, c0, c64, Or.inl h⟩
    rw [en, nI_clamp (by omega)]
    intro i hi
    by_cases z : i = n
    · subst z; rw [pk_us]; exact ac
    · rw [pk_un z]; exact acc i (by omega)
theorem i_vc_clear {k : Nat} {u : SX} {v : SY} (I : i_Rel k u v) (hk : k + 3 ≤ 1538) : wpX_clear (fun u' => wpY_clear (fun v' => i_Rel (k + 3) u' v') v) u := by
  refine zz_el (P := fun u v => wpX_clear (fun u' => wpY_clear (fun v' => i_Rel (k + 3) u' v') v) u) ?_ I
  intro f_maxWords f_dataCount f_size f_ready f_codeSize f_shadow f_resReg f_resValue f_resTrap f_resFault f_resNext f_resTaken f_npc f_slotOf f_slotTo f_flightReg f_flightValue a_words a_leader a_moved a_early a_home a_code a_jump a_blockAt a_copied a_cells a_traces a_pcs a_states a_faults a_dones a_entryCounts a_items R
  obtain ⟨m, d, n, hm, hd, hn, em, ed, en, acc, c0, c64, _⟩ := R
  show i_Rel (k + 3) (f_maxWords, f_dataCount, 0, 0, f_codeSize, f_shadow, f_resReg, f_resValue, f_resTrap, f_resFault, f_resNext, f_resTaken, f_npc, f_slotOf, f_slotTo, f_flightReg, f_flightValue, a_words, a_leader, a_moved, a_early, a_home, a_code, a_jump, a_blockAt, a_copied, a_cells, a_traces, a_pcs, a_states, a_faults, a_dones, a_entryCounts) (f_maxWords, f_dataCount, 0, 0, a_words, a_cells, a_items, a_pcs, a_states, a_faults, a_dones, a_entryCounts)
  exact zz_in ⟨m, d, 0, hm, hd, by omega, em, ed, rfl, fun i hi => by omega, c0, c64, Or.inl rfl⟩
section YC
variable {f_p f_d f_size f_ready : Int32} {a_words a_cells a_items a_pcs a_stats a_faults a_dones a_ents : Nat → Int32}
variable {post : Int32 → SY → Prop} {n : Nat}
theorem yc_57 (hn : n ≤ 32) (hz : f_size = nI n) (ac : dm_Acc a_words n) (h0 : ¬ dm_TT a_words n → post (-7) (f_p, f_d, f_size, f_ready, a_words, a_cells, a_items, a_pcs, a_stats, a_faults, a_dones, a_ents))
    (h1 : dm_TT a_words n → wpY_start (fun u => post 0 u) (f_p, f_d, f_size, 1, a_words, a_cells, a_items, a_pcs, a_stats, a_faults, a_dones, a_ents)) : ∀ m i : Nat, 32 < m + i → i ≤ 32 → (∀ j, j < i → j < n → dm_HT (a_words j) → ¬ dm_tg (a_words j) (nI j) < 0 ∧ dm_tg (a_words j) (nI j) < nI n) → wY_compile_57 post f_p f_d f_size f_ready a_words a_cells a_items a_pcs a_stats a_faults a_dones a_ents m (nI i) := by
  intro m
  induction m with
  | zero => intro i h1 h2 _; omega
  | succ m ih =>
    intro i hm hi hj
    rw [wY_compile_57]
    refine pk_le 32 i (fun h => h1 (fun j a b => hj j (by omega) a b)) (fun h => ?_)
    refine yr_hasTarget hn hz ac (by omega) (dm_bc (fun nt => nm_r (nI_1 i) (ih (i + 1) (by omega) (by omega) (fun j a b c => ?_))) (fun ht => yr_target hn hz ht.1 (br_c (fun a => h0 ?_) (fun a => br_c (fun b => nm_r (nI_1 i) (ih (i + 1) (by omega) (by omega) (fun j a' b' c => ?_))) (fun b => h0 ?_)))))
    · by_cases z : j < i
      · exact hj j z b c
      · obtain rfl : j = i := by omega
        exact absurd ⟨b, c⟩ nt
    · exact fun q => (q i ht.1 ht.2).1 a
    · by_cases z : j < i
      · exact hj j z b' c
      · obtain rfl : j = i := by omega
        rw [hz] at b; exact ⟨a, b⟩
    · exact fun q => b (by rw [hz]; exact (q i ht.1 ht.2).2)
theorem yc_compile (hn : n ≤ 32) (hp : 0 < n) (hz : f_size = nI n) (ac : dm_Acc a_words n) (hr : f_ready = 0) (hge : ¬ dm_GE a_words n → post (-6) (f_p, f_d, f_size, f_ready, a_words, a_cells, a_items, a_pcs, a_stats, a_faults, a_dones, a_ents)) (h0 : dm_GE a_words n → ¬ dm_TT a_words n → post (-7) (f_p, f_d, f_size, f_ready, a_words, a_cells, a_items, a_pcs, a_stats, a_faults, a_dones, a_ents))
    (h1 : dm_GE a_words n → dm_TT a_words n → wpY_start (fun u => post 0 u) (f_p, f_d, f_size, 1, a_words, a_cells, a_items, a_pcs, a_stats, a_faults, a_dones, a_ents)) : wpY_compile post (f_p, f_d, f_size, f_ready, a_words, a_cells, a_items, a_pcs, a_stats, a_faults, a_dones, a_ents) := by
  have e : f_size - 1 = nI (n - 1) := by
    obtain ⟨m, rfl⟩ : ∃ m, n = m + 1 := ⟨n - 1, by omega⟩
    rw [hz, nI_pred]; rfl
  unfold wpY_compile
  refine br_t hr (br_f (by rw [hz]; exact nI_ne0 hp (by omega)) ?_)
  rw [e]
  refine yr_source hn hz (by omega) (br_c (fun h => ⟨33, yc_57 hn hz ac (h0 (Or.inl h)) (h1 (Or.inl h)) 33 0 (by omega) (by omega) (fun j hj => by omega)⟩) (fun h => yr_isJB hn hz (by omega) (dm_bc (fun q => hge ?_) (fun q => ⟨33, yc_57 hn hz ac (h0 (Or.inr q.2)) (h1 (Or.inr q.2)) 33 0 (by omega) (by omega) (fun j hj => by omega)⟩))))
  exact fun g => g.elim h (fun g => q ⟨by omega, g⟩)
end YC
theorem tr_start {T I N : Nat → Int32} : dm_TRk (upd (upd T 0 0) 32 0) (dm_z I 64) (upd (upd N 0 1) 1 1) := by
  intro s hs j hj h
  have e : upd (upd N 0 1) 1 1 s = nI 1 := by
    rcases (show s = 0 ∨ s = 1 by omega) with rfl | rfl
    · rw [pk_un (by omega), pk_us]; rfl
    · rw [pk_us]; rfl
  rw [e, nI_ltI (by omega) (by omega)] at h
  obtain rfl : j = 0 := by omega
  have z : dm_z I 64 (s * 32 + 0) = 0 := if_pos (by omega)
  rw [z]
  rcases (show s = 0 ∨ s = 1 by omega) with rfl | rfl
  · rw [pk_un (by omega), pk_us]
  · exact pk_us
/-- a started state is related -/
theorem rd_start {k n d : Nat} {W L H CO JU BA CP T I P N : Nat → Int32} {S : Nat → Prop} (hp : 0 < n) (ge : dm_GE W n) (ti : dm_TI W n) (lr : dm_LR W L n) (tb : dm_TB W L H CO JU BA CP n (nI d) S) :
    dm_RD k n d W L H CO JU BA CP (upd (upd T 0 0) 32 0) (dm_z I 64) (upd (upd P 0 0) 1 0) (upd (upd N 0 1) 1 1) := by
  refine ⟨hp, ge, ti, lr, ⟨S, tb, 0, ?_, pk_us⟩, ⟨0, hp, ?_⟩, tr_start, 1, by omega, pk_us⟩
  · exact (tb.2.2.1 0 hp (pf_lead lr ⟨hp, Or.inl rfl⟩)).1
  · rw [pk_un (by omega), pk_us]; rfl
theorem i_vc_rewind {k : Nat} {u : SX} {v : SY} (I : i_Rel k u v) (hk : k + 3 ≤ 1538) : wpX_rewind (fun r u' => wpY_rewind (fun r' v' => r' = r ∧ i_Rel (k + 3) u' v') v) u := by
  have J := i_up I
  revert J
  refine zz_el (P := fun u v => i_Rel (k + 3) u v → wpX_rewind (fun r u' => wpY_rewind (fun r' v' => r' = r ∧ i_Rel (k + 3) u' v') v) u) ?_ I
  intro f_maxWords f_dataCount f_size f_ready f_codeSize f_shadow f_resReg f_resValue f_resTrap f_resFault f_resNext f_resTaken f_npc f_slotOf f_slotTo f_flightReg f_flightValue a_words a_leader a_moved a_early a_home a_code a_jump a_blockAt a_copied a_cells a_traces a_pcs a_states a_faults a_dones a_entryCounts a_items R R'
  refine br_c (fun h => br_t h ⟨rfl, R'⟩) (fun h => xs_start ?_)
  refine br_f h (ys_start ⟨rfl, zz_in ?_⟩)
  obtain ⟨m, d, n, hm, hd, _, hn, em, ed, en, acc, c0, c64, r1, rd⟩ := dm_rdy R h
  obtain ⟨p0, ge, ti, lr, ⟨S, tb, _⟩, _⟩ := rd
  exact ⟨m, d, n, hm, hd, hn, em, ed, en, acc, if_pos (by omega), if_pos (by omega), Or.inr ⟨r1, rd_start p0 ge ti lr tb⟩⟩
theorem i_vc_compile {k : Nat} {u : SX} {v : SY} (I : i_Rel k u v) (hk : k + 3 ≤ 1538) : wpX_compile (fun r u' => wpY_compile (fun r' v' => r' = r ∧ i_Rel (k + 3) u' v') v) u := by
  have J := i_up I
  revert J
  refine zz_el (P := fun u v => i_Rel (k + 3) u v → wpX_compile (fun r u' => wpY_compile (fun r' v' => r' = r ∧ i_Rel (k + 3) u' v') v) u) ?_ I
  intro f_maxWords f_dataCount f_size f_ready f_codeSize f_shadow f_resReg f_resValue f_resTrap f_resFault f_resNext f_resTaken f_npc f_slotOf f_slotTo f_flightReg f_flightValue a_words a_leader a_moved a_early a_home a_code a_jump a_blockAt a_copied a_cells a_traces a_pcs a_states a_faults a_dones a_entryCounts a_items R R'
  obtain ⟨m, d, n, hm, hd, hn, em, ed, en, acc, c0, c64, _⟩ := R
  have n32 : n ≤ 32 := by omega
  unfold wpX_compile
  refine br_c (fun h => br_c (fun z => br_t h (br_t z ⟨rfl, R'⟩)) (fun z => ?_)) (fun h => br_f h ⟨rfl, R'⟩)
  have p0 : 0 < n := Nat.pos_of_ne_zero (fun q => z (by rw [en, q]; rfl))
  refine xk_goodEnd n32 p0 en (dm_bc (fun nge => ?_) (fun ge => ?_))
  · exact yc_compile n32 p0 en acc h (fun _ => ⟨rfl, R'⟩) (fun q => absurd q nge) (fun q => absurd q nge)
  unfold wpX_targetsInside
  refine ⟨n + 1, xk_targets n32 en (dm_bc (fun ntt => ?_) (fun tt => ?_)) (n + 1) 0 (by omega) (by omega) (fun j hj => by omega)⟩
  · exact yc_compile n32 p0 en acc h (fun q => absurd ge q) (fun _ _ => ⟨rfl, R'⟩) (fun _ q => absurd q ntt)
  have ti := dm_TTI n32 tt
  refine xk_markLeaders n32 en ti (fun L lr => ?_)
  refine xk_chooseSlots n32 p0 en ti (fun MV EA hmv hea => ?_)
  have X : ly_Ctx a_words L MV n f_dataCount := ⟨n32, lr, ge, hmv⟩
  refine xl_layOut X en hea (fun cs sh E H CO JU BA CP hcs LI hz => ?_)
  refine xk_linkAll X en ti hcs LI hz (fun CO' JU' BA' CP' tb => ?_)
  refine xs_start ?_
  refine yc_compile n32 p0 en acc h (fun q => absurd ge q) (fun _ q => absurd tt q) (fun _ _ => ys_start ⟨rfl, zz_in ?_⟩)
  rw [ed] at tb
  exact ⟨m, d, n, hm, hd, hn, em, ed, en, acc, if_pos (by omega), if_pos (by omega), Or.inr ⟨rfl, rd_start p0 ge ti lr tb⟩⟩
end
section
/-! set -/
def dm_sS (ST : Nat → Int32) (s : Nat) : Nat → Int32 := if ST s < 2 then ST else upd ST s 0
def dm_sF (ST FA : Nat → Int32) (s : Nat) : Nat → Int32 := if ST s < 2 then FA else upd FA s 0
section XSET
variable {f_maxWords f_dataCount f_size f_ready f_codeSize f_shadow f_resReg f_resValue f_resTrap f_resFault f_resNext f_resTaken f_npc f_slotOf f_slotTo f_flightReg f_flightValue : Int32} {a_words a_leader a_moved a_early a_home a_code a_jump a_blockAt a_copied a_cells a_traces a_pcs a_states a_faults a_dones a_entryCounts : Nat → Int32}
variable {post : Int32 → SX → Prop} {s j n : Nat} {v : Int32}
theorem xs_set1 (hs : s < 2) (hj : j < 64) (hp : wX_set_48 post (nI j) v n (nI (s + 1)) f_maxWords f_dataCount f_size f_ready f_codeSize f_shadow f_resReg f_resValue f_resTrap f_resFault f_resNext f_resTaken f_npc f_slotOf f_slotTo f_flightReg f_flightValue a_words a_leader a_moved a_early a_home a_code a_jump a_blockAt a_copied (dm_wr a_cells s j v) a_traces a_pcs (dm_sS a_states s) (dm_sF a_states a_faults s) a_dones a_entryCounts) : wX_set_48 post (nI j) v (n + 1) (nI s) f_maxWords f_dataCount f_size f_ready f_codeSize f_shadow f_resReg f_resValue f_resTrap f_resFault f_resNext f_resTaken f_npc f_slotOf f_slotTo f_flightReg f_flightValue a_words a_leader a_moved a_early a_home a_code a_jump a_blockAt a_copied a_cells a_traces a_pcs a_states a_faults a_dones a_entryCounts := by
  have c : (nI s).toNatClampNeg = s := nI_clamp (by omega)
  have vv : vp_in (nI s) 2 := vp_in_nI hs (by omega)
  rw [wX_set_48]
  refine br_f (nI_ge (b := 2) hs (by omega)) (xs_write hs hj (And.intro vv ?_))
  rw [c]
  unfold dm_sS dm_sF at hp
  refine br_c (fun h => nm_r (nI_1 s) ?_) (fun h => xs_resume hs (nm_r (nI_1 s) ?_))
  · rw [if_pos h, if_pos h] at hp; exact hp
  · rw [if_neg h, if_neg h] at hp; exact hp
end XSET
section YSET
variable {f_p f_d f_size f_ready : Int32} {a_words a_cells a_items a_pcs a_stats a_faults a_dones a_ents : Nat → Int32}
variable {post : Int32 → SY → Prop} {s j n : Nat} {v : Int32}
theorem ys_set1 (hs : s < 2) (hj : j < 64) (hp : wY_set_48 post (nI j) v f_p f_d f_size f_ready n (nI (s + 1)) a_words (dm_wr a_cells s j v) a_items a_pcs (dm_sS a_stats s) (dm_sF a_stats a_faults s) a_dones a_ents) : wY_set_48 post (nI j) v f_p f_d f_size f_ready (n + 1) (nI s) a_words a_cells a_items a_pcs a_stats a_faults a_dones a_ents := by
  have c : (nI s).toNatClampNeg = s := nI_clamp (by omega)
  have vv : vp_in (nI s) 2 := vp_in_nI hs (by omega)
  have t69 : ∀ C : Nat → Int32, C = dm_wr a_cells s j v → wY_set_69 post (wY_set_48 post (nI j) v f_p f_d f_size f_ready n) (nI j) v (nI s) f_p f_d f_size f_ready a_words C a_items a_pcs a_stats a_faults a_dones a_ents := by
    intro C e
    subst e
    unfold wY_set_69
    rw [c]
    unfold dm_sS dm_sF at hp
    refine And.intro vv (br_c (fun h => nm_r (nI_1 s) ?_) (fun h => And.intro vv (nm_e (And.intro vv (nm_e (nm_r (nI_1 s) ?_))))))
    · rw [if_pos h, if_pos h] at hp; exact hp
    · rw [if_neg h, if_neg h] at hp; exact hp
  rw [wY_set_48]
  refine br_f (nI_ge (b := 2) hs (by omega)) (br_c (fun z => t69 _ ?_) (fun z => And.intro ?_ (nm_r (e' := dm_wr a_cells s j v) ?_ (t69 _ rfl))))
  · have : j = 0 := dm_inj (by omega) (by omega) z
    unfold dm_wr; rw [if_pos this]
  · rw [dm_c64, dm_s64]; exact vp_in_nI (by omega) (by omega)
  · have : ¬ j = 0 := fun q => z (by rw [q]; rfl)
    unfold dm_wr; rw [if_neg this, dm_c64, dm_s64, nI_clamp (by omega)]
end YSET
theorem wr_c0 {C : Nat → Int32} {s t : Nat} {v : Int32} : dm_wr C s t v 0 = C 0 := by
  unfold dm_wr
  by_cases h : t = 0
  · rw [if_pos h]
  · rw [if_neg h, pk_un (by omega)]
theorem wr_c64 {C : Nat → Int32} {s t : Nat} {v : Int32} (ht : t < 64) : dm_wr C s t v 64 = C 64 := by
  unfold dm_wr
  by_cases h : t = 0
  · rw [if_pos h]
  · rw [if_neg h, pk_un (by omega)]
theorem i_vc_set {k : Nat} {u : SX} {v : SY} (I : i_Rel k u v) (hk : k + 3 ≤ 1538) (v1 : Int32) (v2 : Int32) : wpX_set (fun r u' => wpY_set (fun r' v' => r' = r ∧ i_Rel (k + 3) u' v') v v1 v2) u v1 v2 := by
  have J := i_up I
  revert J
  refine zz_el (P := fun u v => i_Rel (k + 3) u v → wpX_set (fun r u' => wpY_set (fun r' v' => r' = r ∧ i_Rel (k + 3) u' v') v v1 v2) u v1 v2) ?_ I
  intro f_maxWords f_dataCount f_size f_ready f_codeSize f_shadow f_resReg f_resValue f_resTrap f_resFault f_resNext f_resTaken f_npc f_slotOf f_slotTo f_flightReg f_flightValue a_words a_leader a_moved a_early a_home a_code a_jump a_blockAt a_copied a_cells a_traces a_pcs a_states a_faults a_dones a_entryCounts a_items R R'
  refine br_c (fun h => br_t h ⟨rfl, R'⟩) (fun h => br_c (fun a => br_f h (br_t a ⟨rfl, R'⟩)) (fun a => br_c (fun b => br_c (fun dd => ?_) (fun dd => br_f h (br_f a (br_t b (br_f dd ⟨rfl, R'⟩))))) (fun b => br_f h (br_f a (br_f b ⟨rfl, R'⟩)))))
  obtain ⟨m, d, n, hm, hd, _, hn, em, ed, en, acc, c0, c64, r1, rd⟩ := dm_rdy (dm_up R) h
  have b' := b
  have a' := a
  obtain ⟨j, hj, rfl⟩ := nI_of a'
  have j64 : j < 64 := by
    rw [ed, show (31 : Int32) = nI 31 from rfl, nI_add, nI_leI hj (by omega)] at b'; omega
  refine ⟨3, xs_set1 (s := 0) (by omega) j64 (xs_set1 (s := 1) (by omega) j64 ?_)⟩
  rw [wX_set_48]
  refine br_t (by decide) ?_
  refine br_f h (br_f a (br_t b (br_t dd ⟨3, ys_set1 (s := 0) (by omega) j64 (ys_set1 (s := 1) (by omega) j64 ?_)⟩)))
  rw [wY_set_48]
  refine br_t (by decide) ⟨rfl, zz_in ?_⟩
  refine ⟨m, d, n, hm, hd, hn, em, ed, en, acc, ?_, ?_, Or.inr ⟨r1, rd⟩⟩
  · rw [wr_c0, wr_c0]; exact c0
  · rw [wr_c64 j64, wr_c64 j64]; exact c64
theorem tr_enter {T I N : Nat → Int32} {s : Nat} {x : Int32} (hs : s < 2) (h : dm_TRk T I N) : dm_TRk (dm_tr T (N s) s x) (dm_tr I (N s) s x) (upd N s (N s + 1)) := by
  intro s' hs' j hj hl
  by_cases e : s' = s
  · subst e
    rw [pk_us] at hl
    unfold dm_tr
    by_cases h0 : N s' < 0
    · exfalso
      have e0 : (0 : Int32).toInt = 0 := by decide
      have e1 : (1 : Int32).toInt = 1 := by decide
      rw [Int32.lt_iff_toInt_lt, e0] at h0
      rw [Int32.lt_iff_toInt_lt, nI_toInt (by omega), Int32.toInt_add, e1] at hl
      have := (N s').le_toInt
      rw [Int.bmod_eq_of_le (by omega) (by omega)] at hl
      omega
    · rw [if_neg h0, if_neg h0]
      by_cases h1 : 32 ≤ N s'
      · rw [if_pos h1, if_pos h1]
        refine h s' hs' j hj ?_
        have e32 : (32 : Int32).toInt = 32 := by decide
        rw [Int32.le_iff_toInt_le, e32] at h1
        rw [Int32.lt_iff_toInt_lt, nI_toInt (by omega)]
        omega
      · rw [if_neg h1, if_neg h1]
        obtain ⟨q, hq, eq⟩ := nI_of h0
        rw [eq] at hl h1 ⊢
        rw [nI_clamp hq]
        have q32 : q < 32 := by
          rw [← show nI 32 = 32 from rfl, nI_leI (by omega) hq] at h1; omega
        rw [nI_1, nI_ltI (by omega) (by omega)] at hl
        by_cases z : j = q
        · subst z; rw [pk_us, pk_us]
        · rw [pk_un (by omega), pk_un (by omega)]
          refine h s' hs' j hj ?_
          rw [eq]; exact nI_lt (by omega) (by omega)
  · rw [pk_un e] at hl
    have o := h s' hs' j hj hl
    unfold dm_tr
    by_cases h0 : N s < 0
    · rw [if_pos h0, if_pos h0]; exact o
    · rw [if_neg h0, if_neg h0]
      by_cases h1 : 32 ≤ N s
      · rw [if_pos h1, if_pos h1]; exact o
      · rw [if_neg h1, if_neg h1]
        obtain ⟨q, hq, eq⟩ := nI_of h0
        have q32 : q < 32 := by
          rw [eq, ← show nI 32 = 32 from rfl, nI_leI (by omega) hq] at h1; omega
        rw [eq, nI_clamp hq, pk_un (by omega), pk_un (by omega)]
        exact o
end
section
/-! step: the program interpreted, in lockstep -/
theorem dm_uid {f : Nat → Int32} {k : Nat} {x : Int32} (h : f k = x) : upd f k x = f := by
  funext j
  unfold upd
  by_cases z : j = k
  · rw [if_pos z, z, h]
  · rw [if_neg z]
theorem pf_gen {W L C : Nat → Int32} {n d s i : Nat} (hn : n ≤ 32) (hd : d ≤ 32) (ac : dm_Acc W n) (ge : dm_GE W n) (ti : dm_TI W n) (hi : i < n) :
    ∃ (t : Nat) (v tp f nx kk : Int32), dm_E W L C (nI n) (nI d) s i = (t, v, tp, f, nx, kk) ∧ t < 64 ∧ (tp = 0 → ∃ j, j < n ∧ nx = nI j) := by
  unfold dm_E
  by_cases pl : dm_PL (W i)
  · obtain ⟨t, v, tp, f, e, t64, _⟩ := ev_plain (ok := dm_ok L (nI n)) (M := dm_M C s) (a := C (s * 64 + dm_rsN (W i))) (b := C (s * 64 + dm_rtN (W i))) (i := nI i) (ac i hi) pl hd rfl
    exact ⟨t, v, tp, f, _, _, e, t64, fun _ => ⟨i + 1, ge_pl ge hi pl, nI_1 i⟩⟩
  · rcases dm_notPL.mp pl with ht | jr | bk
    · rw [ev_ht ht]
      unfold dm_EVb
      refine ⟨_, _, _, _, _, _, rfl, ?_, fun _ => ?_⟩
      · by_cases lk : dm_LK (W i)
        · rw [dm_it lk]; omega
        · rw [dm_in lk]; omega
      · by_cases c : dm_CD (W i) (C (s * 64 + dm_rsN (W i))) (C (s * 64 + dm_rtN (W i)))
        · rw [dm_it c]
          exact ⟨_, (ti i hi ht).1, (ti i hi ht).2⟩
        · rw [dm_in c]
          have nj : ¬ dm_JM (W i) := fun q => c (q.elim (fun z => Or.inr (Or.inl z)) (fun z => Or.inr (Or.inr (Or.inl z))))
          exact ⟨i + 1, ge_ht ge hi ht nj, nI_1 i⟩
    · rw [ev_jr jr]
      by_cases c : (C (s * 64 + dm_rsN (W i)) &&& 3) = 0 ∧ dm_ok L (nI n) (C (s * 64 + dm_rsN (W i)) >>> ((2 : Int32) &&& 31))
      · rw [dm_it c]
        obtain ⟨_, h0, h1, h2⟩ := c
        obtain ⟨j, hj, e⟩ := nI_of h0
        rw [e] at h1 ⊢
        rw [nI_leI (by omega) hj] at h1
        exact ⟨_, _, _, _, _, _, rfl, by omega, fun _ => ⟨j, by omega, rfl⟩⟩
      · rw [dm_in c]
        exact ⟨_, _, _, _, _, _, rfl, by omega, fun q => absurd q (by decide)⟩
    · rw [ev_bk bk]
      exact ⟨_, _, _, _, _, _, rfl, by omega, fun q => absurd q (by decide)⟩
section ST
variable {f_maxWords f_dataCount f_size f_ready f_codeSize f_shadow f_resReg f_resValue f_resTrap f_resFault f_resNext f_resTaken f_npc f_slotOf f_slotTo f_flightReg f_flightValue : Int32} {a_words a_leader a_moved a_early a_home a_code a_jump a_blockAt a_copied a_cells a_traces a_pcs a_states a_faults a_dones a_entryCounts : Nat → Int32}
variable {a_items : Nat → Int32} {k n d : Nat}
/-- one word interpreted, on both sides alike -/
theorem st_one (hn : n ≤ 32) (hd : d ≤ 32) (ac : dm_Acc a_words n) (RD : dm_RD k n d a_words a_leader a_home a_code a_jump a_blockAt a_copied a_traces a_items a_pcs a_entryCounts) (c0 : a_cells 0 = 0) (c64 : a_cells 64 = 0) :
    ∃ (g1 g2 g3 g4 g5 g6 : Int32) (gC gT gI gP gS gF gD gE : Nat → Int32), dm_RD k n d a_words a_leader a_home a_code a_jump a_blockAt a_copied gT gI gP gE ∧ gC 0 = 0 ∧ gC 64 = 0 ∧
      (∀ post : SX → Prop, post (f_maxWords, nI d, nI n, f_ready, f_codeSize, f_shadow, g1, g2, g3, g4, g5, g6, f_npc, f_slotOf, f_slotTo, f_flightReg, f_flightValue, a_words, a_leader, a_moved, a_early, a_home, a_code, a_jump, a_blockAt, a_copied, gC, gT, gP, gS, gF, gD, gE) → wpX_stepOnce post (f_maxWords, nI d, nI n, f_ready, f_codeSize, f_shadow, f_resReg, f_resValue, f_resTrap, f_resFault, f_resNext, f_resTaken, f_npc, f_slotOf, f_slotTo, f_flightReg, f_flightValue, a_words, a_leader, a_moved, a_early, a_home, a_code, a_jump, a_blockAt, a_copied, a_cells, a_traces, a_pcs, a_states, a_faults, a_dones, a_entryCounts)) ∧
      (∀ post : SY → Prop, post (f_maxWords, nI d, nI n, f_ready, a_words, gC, gI, gP, gS, gF, gD, gE) → wpY_one post (f_maxWords, nI d, nI n, f_ready, a_words, a_cells, a_items, a_pcs, a_states, a_faults, a_dones, a_entryCounts) 0) := by
  have RD' := RD
  obtain ⟨p0, ge, ti, lr, ⟨S, tb, i1, s1, e1⟩, ⟨i, hi, ei⟩, tr, e, he, en⟩ := RD'
  obtain ⟨t, v, tp, f, nx, kk, hE, t64, hnx⟩ := pf_gen (s := 0) (L := a_leader) (C := a_cells) hn hd ac ge ti hi
  have hxe : ∀ post : SX → Prop, ((¬ tp = 0 → post (f_maxWords, nI d, nI n, f_ready, f_codeSize, f_shadow, nI t, v, tp, f, nx, kk, f_npc, f_slotOf, f_slotTo, f_flightReg, f_flightValue, a_words, a_leader, a_moved, a_early, a_home, a_code, a_jump, a_blockAt, a_copied, a_cells, a_traces, upd a_pcs 0 (nI i), upd a_states 0 tp, upd a_faults 0 f, a_dones, a_entryCounts)) ∧
      (tp = 0 → ∀ j, j < n → nx = nI j → (a_leader j = 0 → post (f_maxWords, nI d, nI n, f_ready, f_codeSize, f_shadow, nI t, v, tp, f, nx, kk, f_npc, f_slotOf, f_slotTo, f_flightReg, f_flightValue, a_words, a_leader, a_moved, a_early, a_home, a_code, a_jump, a_blockAt, a_copied, dm_wr a_cells 0 t v, a_traces, upd a_pcs 0 nx, a_states, a_faults, upd a_dones 0 (a_dones 0 + 1), a_entryCounts)) ∧
        (¬ a_leader j = 0 → post (f_maxWords, nI d, nI n, f_ready, f_codeSize, f_shadow, nI t, v, tp, f, nx, kk, f_npc, f_slotOf, f_slotTo, f_flightReg, f_flightValue, a_words, a_leader, a_moved, a_early, a_home, a_code, a_jump, a_blockAt, a_copied, dm_wr a_cells 0 t v, dm_tr a_traces (a_entryCounts 0) 0 nx, upd a_pcs 0 nx, a_states, a_faults, upd a_dones 0 (a_dones 0 + 1), upd a_entryCounts 0 (a_entryCounts 0 + 1))))) → wpX_stepOnce post (f_maxWords, nI d, nI n, f_ready, f_codeSize, f_shadow, f_resReg, f_resValue, f_resTrap, f_resFault, f_resNext, f_resTaken, f_npc, f_slotOf, f_slotTo, f_flightReg, f_flightValue, a_words, a_leader, a_moved, a_early, a_home, a_code, a_jump, a_blockAt, a_copied, a_cells, a_traces, a_pcs, a_states, a_faults, a_dones, a_entryCounts) := by
    intro post hp
    unfold wpX_stepOnce
    refine nm_r ei (xe_evaluate (s := 0) (by omega) (by omega) hd rfl (sm_sz hn) (ac i hi) (fun e he => ?_))
    rw [hE] at he
    subst he
    refine br_c (fun z => ?_) (fun z => xs_stop (s := 0) (by omega) (hp.1 z))
    obtain ⟨j, hj, rfl⟩ := hnx z
    obtain ⟨q0, q1⟩ := hp.2 z j hj rfl
    refine xs_write (s := 0) (by omega) t64 (nm_e (nm_e (And.intro (vp_in_nI (by omega) (by omega)) ?_)))
    show (a_leader (nI j).toNatClampNeg = 0 → _) ∧ (¬ a_leader (nI j).toNatClampNeg = 0 → _)
    rw [nI_clamp (show j < 2 ^ 31 by omega)]
    refine br_c (fun l => q0 l) (fun l => xs_enter (s := 0) (by omega) ?_)
    rw [dm_uu]
    exact q1 l
  have hye : ∀ post : SY → Prop, yo_P post a_leader 0 t v tp f nx f_maxWords (nI d) (nI n) f_ready a_words a_cells a_items a_pcs a_states a_faults a_dones a_entryCounts → wpY_one post (f_maxWords, nI d, nI n, f_ready, a_words, a_cells, a_items, a_pcs, a_states, a_faults, a_dones, a_entryCounts) 0 := by
    intro post hp
    refine yo_one (s := 0) (L := a_leader) (by omega) hn rfl ac lr hd rfl hi ei (fun t' v' tp' f' nx' kk' hE' => ?_)
    rw [hE] at hE'
    simp only [Prod.mk.injEq] at hE'
    obtain ⟨rfl, rfl, rfl, rfl, rfl, _⟩ := hE'
    exact hp
  by_cases z : tp = 0
  · obtain ⟨j, hj, rfl⟩ := hnx z
    have okj : dm_ok a_leader (nI n) (nI j) ↔ ¬ a_leader j = 0 := by
      unfold dm_ok
      rw [nI_clamp (by omega)]
      exact ⟨fun q => q.2.2, fun q => ⟨nI_pos (by omega), nI_ge hj (by omega), q⟩⟩
    have s1' : upd a_pcs 0 (nI j) 1 = nI i1 := by rw [pk_un (by omega)]; exact e1
    by_cases l : a_leader j = 0
    · refine ⟨nI t, v, tp, f, nI j, kk, dm_wr a_cells 0 t v, a_traces, a_items, upd a_pcs 0 (nI j), a_states, a_faults, upd a_dones 0 (a_dones 0 + 1), a_entryCounts, ?_, ?_, ?_, fun post hp => ?_, fun post hp => ?_⟩
      · exact ⟨p0, ge, ti, lr, ⟨S, tb, i1, s1, s1'⟩, ⟨j, hj, pk_us⟩, tr, e, he, en⟩
      · rw [wr_c0]; exact c0
      · rw [wr_c64 t64]; exact c64
      · refine hxe post ⟨fun q => absurd z q, fun _ j' hj' ej => ?_⟩
        have := dm_inj (by omega) (by omega) ej
        subst this
        exact ⟨fun _ => hp, fun q => absurd l q⟩
      · exact hye post ⟨fun q => absurd z q, fun _ => ⟨fun q => absurd l (okj.mp q), fun _ => hp⟩⟩
    · refine ⟨nI t, v, tp, f, nI j, kk, dm_wr a_cells 0 t v, dm_tr a_traces (a_entryCounts 0) 0 (nI j), dm_tr a_items (a_entryCounts 0) 0 (nI j), upd a_pcs 0 (nI j), a_states, a_faults, upd a_dones 0 (a_dones 0 + 1), upd a_entryCounts 0 (a_entryCounts 0 + 1), ?_, ?_, ?_, fun post hp => ?_, fun post hp => ?_⟩
      · refine ⟨p0, ge, ti, lr, ⟨S, tb, i1, s1, s1'⟩, ⟨j, hj, pk_us⟩, tr_enter (by omega) tr, e, he, ?_⟩
        rw [pk_un (by omega)]; exact en
      · rw [wr_c0]; exact c0
      · rw [wr_c64 t64]; exact c64
      · refine hxe post ⟨fun q => absurd z q, fun _ j' hj' ej => ?_⟩
        have := dm_inj (by omega) (by omega) ej
        subst this
        exact ⟨fun q => absurd q l, fun _ => hp⟩
      · exact hye post ⟨fun q => absurd z q, fun _ => ⟨fun _ => hp, fun q => absurd (okj.mpr l) q⟩⟩
  · refine ⟨nI t, v, tp, f, nx, kk, a_cells, a_traces, a_items, a_pcs, upd a_states 0 tp, upd a_faults 0 f, a_dones, a_entryCounts, RD, c0, c64, fun post hp => ?_, fun post hp => ?_⟩
    · refine hxe post ⟨fun _ => ?_, fun q => absurd q z⟩
      rw [dm_uid ei]
      exact hp
    · exact hye post ⟨fun _ => hp, fun q => absurd q z⟩
end ST
theorem st_loop {f_maxWords f_ready f_codeSize f_shadow f_npc f_slotOf f_slotTo f_flightReg f_flightValue : Int32} {a_words a_leader a_moved a_early a_home a_code a_jump a_blockAt a_copied : Nat → Int32} {k n d lim : Nat} (hn : n ≤ 32) (hd : d ≤ 32) (ac : dm_Acc a_words n) (hl : lim < 2 ^ 31) :
    ∀ (m j : Nat) (f_resReg f_resValue f_resTrap f_resFault f_resNext f_resTaken : Int32) (a_cells a_traces a_items a_pcs a_states a_faults a_dones a_entryCounts : Nat → Int32), j + m = lim → dm_RD k n d a_words a_leader a_home a_code a_jump a_blockAt a_copied a_traces a_items a_pcs a_entryCounts → a_cells 0 = 0 → a_cells 64 = 0 →
    ∃ (g1 g2 g3 g4 g5 g6 : Int32) (gC gT gI gP gS gF gD gE : Nat → Int32), dm_RD k n d a_words a_leader a_home a_code a_jump a_blockAt a_copied gT gI gP gE ∧ gC 0 = 0 ∧ gC 64 = 0 ∧
      (∀ post : Int32 → SX → Prop, post (gS 0) (f_maxWords, nI d, nI n, f_ready, f_codeSize, f_shadow, g1, g2, g3, g4, g5, g6, f_npc, f_slotOf, f_slotTo, f_flightReg, f_flightValue, a_words, a_leader, a_moved, a_early, a_home, a_code, a_jump, a_blockAt, a_copied, gC, gT, gP, gS, gF, gD, gE) → wX_step_39 post (nI lim) (m + 1) (nI j) f_maxWords (nI d) (nI n) f_ready f_codeSize f_shadow f_resReg f_resValue f_resTrap f_resFault f_resNext f_resTaken f_npc f_slotOf f_slotTo f_flightReg f_flightValue a_words a_leader a_moved a_early a_home a_code a_jump a_blockAt a_copied a_cells a_traces a_pcs a_states a_faults a_dones a_entryCounts) ∧
      (∀ post : Int32 → SY → Prop, post (gS 0) (f_maxWords, nI d, nI n, f_ready, a_words, gC, gI, gP, gS, gF, gD, gE) → wY_step_62 post (nI lim) (m + 1) (nI j) f_maxWords (nI d) (nI n) f_ready a_words a_cells a_items a_pcs a_states a_faults a_dones a_entryCounts) := by
  intro m
  induction m with
  | zero =>
    intro j f_resReg f_resValue f_resTrap f_resFault f_resNext f_resTaken a_cells a_traces a_items a_pcs a_states a_faults a_dones a_entryCounts hj RD c0 c64
    have h : nI lim ≤ nI j := nI_le (by omega) (by omega)
    refine ⟨f_resReg, f_resValue, f_resTrap, f_resFault, f_resNext, f_resTaken, a_cells, a_traces, a_items, a_pcs, a_states, a_faults, a_dones, a_entryCounts, RD, c0, c64, fun post hp => ?_, fun post hp => ?_⟩
    · rw [wX_step_39]; exact br_t h hp
    · rw [wY_step_62]; exact br_t h hp
  | succ m ih =>
    intro j f_resReg f_resValue f_resTrap f_resFault f_resNext f_resTaken a_cells a_traces a_items a_pcs a_states a_faults a_dones a_entryCounts hj RD c0 c64
    have h : ¬ nI lim ≤ nI j := nI_ge (by omega) (by omega)
    by_cases z : a_states 0 = 0
    · obtain ⟨h1, h2, h3, h4, h5, h6, hC, hT, hI, hP, hS, hF, hD, hE, RD1, b0, b64, sx, sy⟩ := st_one (f_maxWords := f_maxWords) (f_ready := f_ready) (f_codeSize := f_codeSize) (f_shadow := f_shadow) (f_npc := f_npc) (f_slotOf := f_slotOf) (f_slotTo := f_slotTo) (f_flightReg := f_flightReg) (f_flightValue := f_flightValue) (f_resReg := f_resReg) (f_resValue := f_resValue) (f_resTrap := f_resTrap) (f_resFault := f_resFault) (f_resNext := f_resNext) (f_resTaken := f_resTaken) (a_moved := a_moved) (a_early := a_early) (a_states := a_states) (a_faults := a_faults) (a_dones := a_dones) hn hd ac RD c0 c64
      obtain ⟨g1, g2, g3, g4, g5, g6, gC, gT, gI, gP, gS, gF, gD, gE, RD2, d0, d64, lx, ly⟩ := ih (j + 1) h1 h2 h3 h4 h5 h6 hC hT hI hP hS hF hD hE (by omega) RD1 b0 b64
      refine ⟨g1, g2, g3, g4, g5, g6, gC, gT, gI, gP, gS, gF, gD, gE, RD2, d0, d64, fun post hp => ?_, fun post hp => ?_⟩
      · rw [wX_step_39]
        exact br_f h (br_t z (sx _ (nm_r (nI_1 j) (lx post hp))))
      · rw [wY_step_62]
        exact br_f h (br_t z (sy _ (nm_r (nI_1 j) (ly post hp))))
    · refine ⟨f_resReg, f_resValue, f_resTrap, f_resFault, f_resNext, f_resTaken, a_cells, a_traces, a_items, a_pcs, a_states, a_faults, a_dones, a_entryCounts, RD, c0, c64, fun post hp => ?_, fun post hp => ?_⟩
      · rw [wX_step_39]; exact br_f h (br_f z hp)
      · rw [wY_step_62]; exact br_f h (br_f z hp)
def dm_lm (v lo hi : Int32) : Int32 := if lo ≤ v then (if v ≤ hi then v else hi) else lo
theorem dm_lmR {v : Int32} {hi : Nat} (hh : hi < 2 ^ 31) (h1 : 1 ≤ hi) : ∃ m : Nat, 1 ≤ m ∧ m ≤ hi ∧ dm_lm v 1 (nI hi) = nI m := by
  unfold dm_lm
  by_cases h : 1 ≤ v
  · rw [if_pos h]
    have h0 : ¬ v < 0 := Int32.not_lt.mpr (Int32.le_trans (by decide) h)
    obtain ⟨j, hj, rfl⟩ := nI_of h0
    by_cases h2 : nI j ≤ nI hi
    · rw [if_pos h2]
      rw [nI_leI hj hh] at h2
      rw [show (1 : Int32) = nI 1 from rfl, nI_leI (by omega) hj] at h
      exact ⟨j, h, h2, rfl⟩
    · rw [if_neg h2]; exact ⟨hi, h1, by omega, rfl⟩
  · rw [if_neg h]; exact ⟨1, by omega, h1, rfl⟩
theorem i_vc_step {k : Nat} {u : SX} {v : SY} (I : i_Rel k u v) (hk : k + 3 ≤ 1538) (v1 : Int32) : wpX_step (fun r u' => wpY_step (fun r' v' => r' = r ∧ i_Rel (k + 3) u' v') v v1) u v1 := by
  have J := i_up I
  revert J
  refine zz_el (P := fun u v => i_Rel (k + 3) u v → wpX_step (fun r u' => wpY_step (fun r' v' => r' = r ∧ i_Rel (k + 3) u' v') v v1) u v1) ?_ I
  intro f_maxWords f_dataCount f_size f_ready f_codeSize f_shadow f_resReg f_resValue f_resTrap f_resFault f_resNext f_resTaken f_npc f_slotOf f_slotTo f_flightReg f_flightValue a_words a_leader a_moved a_early a_home a_code a_jump a_blockAt a_copied a_cells a_traces a_pcs a_states a_faults a_dones a_entryCounts a_items R R'
  refine br_c (fun h => br_t h ⟨rfl, R'⟩) (fun h => br_c (fun a => br_f h (br_t a ⟨rfl, R'⟩)) (fun a => ?_))
  obtain ⟨m, d, n, hm, hd, n32, hn, em, ed, en, acc, c0, c64, r1, rd⟩ := dm_rdy (dm_up R) h
  obtain ⟨lm, l1, l2, el⟩ := dm_lmR (v := v1) (hi := 1024) (by omega) (by omega)
  subst ed en
  obtain ⟨g1, g2, g3, g4, g5, g6, gC, gT, gI, gP, gS, gF, gD, gE, RD2, d0, d64, lx, ly⟩ := st_loop (f_maxWords := f_maxWords) (f_ready := f_ready) (f_codeSize := f_codeSize) (f_shadow := f_shadow) (f_npc := f_npc) (f_slotOf := f_slotOf) (f_slotTo := f_slotTo) (f_flightReg := f_flightReg) (f_flightValue := f_flightValue) (a_moved := a_moved) (a_early := a_early) n32 hd acc (show lm < 2 ^ 31 by omega) lm 0 f_resReg f_resValue f_resTrap f_resFault f_resNext f_resTaken a_cells a_traces a_items a_pcs (upd a_states 0 0) (upd a_faults 0 0) a_dones a_entryCounts (by omega) rd c0 c64
  have fin := zz_in (k := k + 3) (f_maxWords := f_maxWords) (f_dataCount := nI d) (f_size := nI n) (f_ready := f_ready) (f_codeSize := f_codeSize) (f_shadow := f_shadow) (f_resReg := g1) (f_resValue := g2) (f_resTrap := g3) (f_resFault := g4) (f_resNext := g5) (f_resTaken := g6) (f_npc := f_npc) (f_slotOf := f_slotOf) (f_slotTo := f_slotTo) (f_flightReg := f_flightReg) (f_flightValue := f_flightValue) (a_words := a_words) (a_leader := a_leader) (a_moved := a_moved) (a_early := a_early) (a_home := a_home) (a_code := a_code) (a_jump := a_jump) (a_blockAt := a_blockAt) (a_copied := a_copied) (a_cells := gC) (a_traces := gT) (a_pcs := gP) (a_states := gS) (a_faults := gF) (a_dones := gD) (a_entryCounts := gE) (a_items := gI) ⟨m, d, n, hm, hd, hn, em, rfl, rfl, acc, d0, d64, Or.inr ⟨r1, RD2⟩⟩
  have el' : (if (1 : Int32) ≤ v1 then (if v1 ≤ 1024 then v1 else 1024) else 1) = nI lm := el
  have y45 : ∀ (post : Int32 → SY → Prop), post (gS 0) (f_maxWords, nI d, nI n, f_ready, a_words, gC, gI, gP, gS, gF, gD, gE) → wY_step_45 post (nI lm) f_maxWords (nI d) (nI n) f_ready a_words a_cells a_items a_pcs a_states a_faults a_dones a_entryCounts := by
    intro post hp
    unfold wY_step_45
    exact nm_e (nm_e ⟨lm + 1, ly post hp⟩)
  refine xr_clamp ?_
  rw [el']
  refine xs_resume (s := 0) (by omega) ⟨lm + 1, lx _ ?_⟩
  refine br_f h (br_f a ?_)
  refine br_c (fun b => br_c (fun c => ?_) (fun c => ?_)) (fun b => ?_)
  · rw [if_pos b, if_pos c] at el'
    rw [el']; exact y45 _ ⟨rfl, fin⟩
  · rw [if_pos b, if_neg c] at el'
    rw [el']; exact y45 _ ⟨rfl, fin⟩
  · rw [if_neg b] at el'
    rw [el']; exact y45 _ ⟨rfl, fin⟩
end
section
/-! run -/
section RN
variable {f_maxWords f_ready : Int32} {W L P D0 N ST FA : Nat → Int32} {n d lm e0 : Nat}
/-- 'the reference can go on from here' -/
def rn_G (f_maxWords f_ready : Int32) (W P D0 N ST FA : Nat → Int32) (n d lm e0 : Nat) (Y0 : (Int32 → SY → Prop) → Prop) (C T : Nat → Int32) (i : Nat) (D : Int32) (e : Nat) : Prop :=
  ∃ (I : Nat → Int32) (c : Nat), dm_TRk T I (upd N 1 (nI e)) ∧ C 0 = 0 ∧ C 64 = 0 ∧ i < n ∧ e0 ≤ e ∧ e ≤ e0 + lm ∧ c ≤ 1024 ∧ c + 32 * (e0 + lm - e) ≤ 1024 + i ∧
    ∀ Q : Int32 → SY → Prop, wY_run_69 Q (nI lm) (nI e0) (1025 - c) (nI c) f_maxWords (nI d) (nI n) f_ready W C I (upd P 1 (nI i)) (upd ST 1 0) (upd FA 1 0) (upd D0 1 D) (upd N 1 (nI e)) → Y0 Q
theorem rn_go {C I : Nat → Int32} {i e c t : Nat} {D v tp f nx kk : Int32} {Q : Int32 → SY → Prop} (hn : n ≤ 32) (hd : d ≤ 32) (ac : dm_Acc W n) (lr : dm_LR W L n) (hb : e0 + lm < 2 ^ 30) (hi : i < n) (he : e0 ≤ e) (hg : e < e0 + lm) (hc : c + 32 * (e0 + lm - e) ≤ 1024 + i)
    (hE : dm_E W L C (nI n) (nI d) 1 i = (t, v, tp, f, nx, kk))
    (hq : yo_P (fun u => match u with | (f_p, f_d, f_size, f_ready, a_words, a_cells, a_items, a_pcs, a_stats, a_faults, a_dones, a_ents) => wY_run_69 Q (nI lm) (nI e0) (1024 - c) (nI (c + 1)) f_p f_d f_size f_ready a_words a_cells a_items a_pcs a_stats a_faults a_dones a_ents) L 1 t v tp f nx f_maxWords (nI d) (nI n) f_ready W C I (upd P 1 (nI i)) (upd ST 1 0) (upd FA 1 0) (upd D0 1 D) (upd N 1 (nI e))) :
    wY_run_69 Q (nI lm) (nI e0) (1025 - c) (nI c) f_maxWords (nI d) (nI n) f_ready W C I (upd P 1 (nI i)) (upd ST 1 0) (upd FA 1 0) (upd D0 1 D) (upd N 1 (nI e)) := by
  rw [show 1025 - c = (1024 - c) + 1 by omega, wY_run_69]
  refine br_f (nI_ge (a := c) (b := 1024) (by omega) (by omega)) (br_t pk_us (br_f ?_ ?_))
  · rw [pk_us, pk_sub he]
    exact nI_ge (by omega) (by omega)
  · refine yo_one (s := 1) (L := L) (by omega) hn rfl ac lr hd rfl hi pk_us (fun t' v' tp' f' nx' kk' hE' => ?_)
    rw [hE] at hE'
    simp only [Prod.mk.injEq] at hE'
    obtain ⟨rfl, rfl, rfl, rfl, rfl, _⟩ := hE'
    refine ⟨fun z => nm_r (nI_1 c) (hq.1 z), fun z => ⟨fun q => nm_r (nI_1 c) ((hq.2 z).1 q), fun q => nm_r (nI_1 c) ((hq.2 z).2 q)⟩⟩
theorem rn_okj {j : Nat} (hn : n ≤ 32) (hj : j < n) : dm_ok L (nI n) (nI j) ↔ ¬ L j = 0 := by
  unfold dm_ok
  rw [nI_clamp (by omega)]
  exact ⟨fun q => q.2.2, fun q => ⟨nI_pos (by omega), nI_ge hj (by omega), q⟩⟩
theorem rn_F {H CO JU BA CP : Nat → Int32} {S : Nat → Prop} {Y0 : (Int32 → SY → Prop) → Prop} (hn : n ≤ 32) (hd : d ≤ 32) (ac : dm_Acc W n) (ti : dm_TI W n) (lr : dm_LR W L n) (tb : dm_TB W L H CO JU BA CP n (nI d) S) (hb : e0 + lm < 2 ^ 30) :
    sm_F W L H CO JU BA CP n d S (rn_G f_maxWords f_ready W P D0 N ST FA n d lm e0 Y0) (e0 + lm) := by
  refine ⟨hn, hd, ac, ti, lr, tb, hb, fun C T i D e g => ?_, fun C T i D e t v f j k g hi he hE hj hl => ?_, fun C T i D e t v f k g hi he hE hj hl => ?_⟩
  · obtain ⟨_, _, _, _, h, _⟩ := g; exact h
  · obtain ⟨I, c, tr, c0, c64, _, a1, a2, a3, a4, y⟩ := g
    have tw : t < 64 := by
      by_cases pl : dm_PL (W i)
      · obtain ⟨t', v', tp', f', e', h, _⟩ := pf_plain (L := L) (C := C) hn hd ac hi pl
        rw [hE] at e'
        simp only [Prod.mk.injEq] at e'
        omega
      · have e' := hE
        unfold dm_E at e'
        rcases dm_notPL.mp pl with ht | jr | bk
        · rw [ev_ht ht] at e'
          unfold dm_EVb at e'
          simp only [Prod.mk.injEq] at e'
          by_cases lk : dm_LK (W i)
          · rw [dm_it lk] at e'; omega
          · rw [dm_in lk] at e'; omega
        · rcases pf_jr (L := L) (C := C) (d := d) hn hi jr with ⟨j', e2, _⟩ | ⟨a, e2⟩
          · rw [hE] at e2; simp only [Prod.mk.injEq] at e2; omega
          · rw [hE] at e2; simp only [Prod.mk.injEq] at e2; omega
        · rw [ev_bk bk] at e'; simp only [Prod.mk.injEq] at e'; omega
    refine ⟨dm_tr I (nI e) 1 (nI j), c + 1, ?_, by rw [wr_c0]; exact c0, by rw [wr_c64 tw]; exact c64, hj, by omega, by omega, by omega, by omega, fun Q hQ => y Q ?_⟩
    · have := tr_enter (s := 1) (x := nI j) (by omega) tr
      rw [pk_us, dm_uu, nI_1] at this
      exact this
    · refine rn_go hn hd ac lr hb hi a1 he a4 hE ⟨fun z => absurd rfl z, fun _ => ⟨fun _ => ?_, fun q => absurd ((rn_okj hn hj).mpr hl) q⟩⟩
      rw [pk_us, dm_uu, dm_u1, dm_uu, nI_1]
      rw [show 1025 - (c + 1) = 1024 - c by omega] at hQ
      exact hQ
  · obtain ⟨I, c, tr, c0, c64, _, a1, a2, a3, a4, y⟩ := g
    have pl : dm_PL (W i) := Classical.byContradiction fun q => (lr (i + 1) hj).mp hl ⟨hj, Or.inr ⟨i, hi, Or.inr ⟨q, rfl⟩⟩⟩
    have tw : t < 64 := by
      obtain ⟨t', v', tp', f', e', h, _⟩ := pf_plain (L := L) (C := C) hn hd ac hi pl
      rw [hE] at e'
      simp only [Prod.mk.injEq] at e'
      omega
    refine ⟨I, c + 1, tr, by rw [wr_c0]; exact c0, by rw [wr_c64 tw]; exact c64, hj, a1, a2, by omega, by omega, fun Q hQ => y Q ?_⟩
    refine rn_go hn hd ac lr hb hi a1 he a4 hE ⟨fun z => absurd rfl z, fun _ => ⟨fun q => absurd hl ((rn_okj hn hj).mp q), fun _ => ?_⟩⟩
    rw [dm_uu, dm_u1]
    rw [show 1025 - (c + 1) = 1024 - c by omega] at hQ
    exact hQ
end RN
theorem i_vc_run {k : Nat} {u : SX} {v : SY} (I : i_Rel k u v) (hk : k + 3 ≤ 1538) (v1 : Int32) (v2 : Int32) : wpX_run (fun r u' => wpY_run (fun r' v' => r' = r ∧ i_Rel (k + 3) u' v') v v1 v2) u v1 v2 := by
  have J := i_up I
  revert J
  refine zz_el (P := fun u v => i_Rel (k + 3) u v → wpX_run (fun r u' => wpY_run (fun r' v' => r' = r ∧ i_Rel (k + 3) u' v') v v1 v2) u v1 v2) ?_ I
  intro f_maxWords f_dataCount f_size f_ready f_codeSize f_shadow f_resReg f_resValue f_resTrap f_resFault f_resNext f_resTaken f_npc f_slotOf f_slotTo f_flightReg f_flightValue a_words a_leader a_moved a_early a_home a_code a_jump a_blockAt a_copied a_cells a_traces a_pcs a_states a_faults a_dones a_entryCounts a_items R R'
  refine br_c (fun h => br_t h ⟨rfl, R'⟩) (fun h => br_c (fun a => br_f h (br_t a ⟨rfl, R'⟩)) (fun a => ?_))
  obtain ⟨m, d, n, hm, hd, n32, hn, em, ed, en, acc, c0, c64, r1, rd⟩ := dm_rdy R h
  obtain ⟨p0, ge, ti, lr, ⟨S, tb, i1, s1, e1⟩, ⟨i0, hi0, ei0⟩, tr, e, he, ee⟩ := rd
  obtain ⟨lm, l1, l2, el⟩ := dm_lmR (v := v1) (hi := 32) (by omega) (by omega)
  subst ed en
  have el' : (if (1 : Int32) ≤ v1 then (if v1 ≤ 32 then v1 else 32) else 1) = nI lm := el
  have hb : e + lm < 2 ^ 30 := by omega
  have i1n := (tb.2.1 i1 s1).1
  have h1 := tb.1 i1 i1n
  -- the reference's call
  have yrun : ∀ Q : Int32 → SY → Prop, wY_run_69 Q (nI lm) (nI e) 1025 0 f_maxWords (nI d) (nI n) f_ready a_words a_cells a_items a_pcs (upd a_states 1 0) (upd a_faults 1 0) a_dones a_entryCounts → wpY_run Q (f_maxWords, nI d, nI n, f_ready, a_words, a_cells, a_items, a_pcs, a_states, a_faults, a_dones, a_entryCounts) v1 v2 := by
    intro Q hQ
    have y43 : wY_run_43 Q (nI lm) f_maxWords (nI d) (nI n) f_ready a_words a_cells a_items a_pcs a_states a_faults a_dones a_entryCounts := by
      unfold wY_run_43
      exact nm_e (nm_e (nm_r ee ⟨1025, hQ⟩))
    refine br_f h (br_f a ?_)
    refine br_c (fun b => br_c (fun c => ?_) (fun c => ?_)) (fun b => ?_)
    · rw [if_pos b, if_pos c] at el'
      rw [el']; exact y43
    · rw [if_pos b, if_neg c] at el'
      rw [el']; exact y43
    · rw [if_neg b] at el'
      rw [el']; exact y43
  have F := rn_F (f_maxWords := f_maxWords) (f_ready := f_ready) (P := a_pcs) (D0 := a_dones) (N := a_entryCounts) (ST := a_states) (FA := a_faults) (Y0 := fun Q => wpY_run Q (f_maxWords, nI d, nI n, f_ready, a_words, a_cells, a_items, a_pcs, a_states, a_faults, a_dones, a_entryCounts) v1 v2) n32 hd acc ti lr tb hb
  refine xr_clamp ?_
  rw [el']
  refine xs_resume (s := 1) (by omega) ?_
  show wpX_runNative _ (f_maxWords, nI d, nI n, f_ready, f_codeSize, f_shadow, f_resReg, f_resValue, f_resTrap, f_resFault, f_resNext, f_resTaken, f_npc, f_slotOf, f_slotTo, f_flightReg, f_flightValue, a_words, a_leader, a_moved, a_early, a_home, a_code, a_jump, a_blockAt, a_copied, a_cells, a_traces, a_pcs, upd a_states 1 0, upd a_faults 1 0, a_dones, a_entryCounts) (a_entryCounts 1 + nI lm) v2
  rw [ee, nI_add]
  unfold wpX_runNative
  have cp : (a_pcs 1).toNatClampNeg = i1 := by rw [e1, nI_clamp (by omega)]
  refine And.intro (by rw [e1]; exact vp_in_nI (by omega) (by omega)) (nm_r (e' := nI (dm_h a_home i1)) (by rw [cp]; exact h1.1) ⟨4097, ?_⟩)
  refine sm_loop (S := S) (P0 := a_pcs) (D0 := a_dones) (N0 := a_entryCounts) (ST := a_states) (FA := upd a_faults 1 0) F ?_ ?_ 4097 0 (by omega) f_resReg f_resValue f_resTrap f_resFault f_resNext f_resTaken (nI (dm_h a_home i1)) (-1) f_slotTo 0 f_flightValue a_cells a_traces a_pcs _ _ a_dones a_entryCounts e (dm_h a_home i1) (nI i1) (a_dones 1) rfl rfl (dm_uid e1).symm (dm_uid rfl).symm (dm_uid ee).symm ?_ (Or.inl (by omega))
  · intro g1 g2 g3 g4 g5 g6 gn gs gt gv gC gT i D hS g
    obtain ⟨I, c, tr', b0, b64, hi, a1, a2, a3, a4, y⟩ := g
    refine y _ ?_
    have fin : i_Rel (k + 3) (f_maxWords, nI d, nI n, f_ready, f_codeSize, f_shadow, g1, g2, g3, g4, g5, g6, gn, gs, gt, 0, gv, a_words, a_leader, a_moved, a_early, a_home, a_code, a_jump, a_blockAt, a_copied, gC, gT, upd a_pcs 1 (nI i), upd a_states 1 0, upd a_faults 1 0, upd a_dones 1 D, upd a_entryCounts 1 (nI (e + lm))) (f_maxWords, nI d, nI n, f_ready, a_words, gC, I, upd a_pcs 1 (nI i), upd a_states 1 0, upd a_faults 1 0, upd a_dones 1 D, upd a_entryCounts 1 (nI (e + lm))) := by
      refine zz_in ⟨m, d, n, hm, hd, hn, em, rfl, rfl, acc, b0, b64, Or.inr ⟨r1, p0, ge, ti, lr, ⟨S, tb, i, hS, pk_us⟩, ⟨i0, hi0, ?_⟩, tr', e + lm, by omega, pk_us⟩⟩
      rw [pk_un (by omega)]; exact ei0
    rw [show 1025 - c = (1024 - c) + 1 by omega, wY_run_69]
    refine br_c (fun _ => ⟨rfl, fin⟩) (fun _ => br_t pk_us (br_t ?_ ⟨rfl, fin⟩))
    rw [pk_us, pk_sub (by omega)]
    exact nI_le (by omega) (by omega)
  · intro g1 g2 g3 g4 g5 g6 gn gs gt gv gC gT i e' t D v tp f nx kk hS he' g ntp hE
    obtain ⟨I, c, tr', b0, b64, hi, a1, a2, a3, a4, y⟩ := g
    refine y _ ?_
    have fin : i_Rel (k + 3) (f_maxWords, nI d, nI n, f_ready, f_codeSize, f_shadow, g1, g2, g3, g4, g5, g6, gn, gs, gt, 0, gv, a_words, a_leader, a_moved, a_early, a_home, a_code, a_jump, a_blockAt, a_copied, gC, gT, upd a_pcs 1 (nI i), upd a_states 1 tp, upd (upd a_faults 1 0) 1 f, upd a_dones 1 D, upd a_entryCounts 1 (nI e')) (f_maxWords, nI d, nI n, f_ready, a_words, gC, I, upd a_pcs 1 (nI i), upd a_states 1 tp, upd (upd a_faults 1 0) 1 f, upd a_dones 1 D, upd a_entryCounts 1 (nI e')) := by
      refine zz_in ⟨m, d, n, hm, hd, hn, em, rfl, rfl, acc, b0, b64, Or.inr ⟨r1, p0, ge, ti, lr, ⟨S, tb, i, hS, pk_us⟩, ⟨i0, hi0, ?_⟩, tr', e', by omega, pk_us⟩⟩
      rw [pk_un (by omega)]; exact ei0
    refine rn_go n32 hd acc lr hb hi a1 he' a4 hE ⟨fun _ => ?_, fun q => absurd q ntp⟩
    show wY_run_69 _ _ _ _ _ _ _ _ _ _ _ _ _ _ _ _ _
    rw [show 1024 - c = (1023 - c) + 1 by omega, wY_run_69, dm_uu (f := a_states)]
    refine br_c (fun _ => ⟨rfl, fin⟩) (fun _ => br_f ?_ ⟨rfl, fin⟩)
    rw [pk_us]; exact ntp
  · refine ⟨a_cells, i1, a_dones 1, by omega, ⟨a_items, 0, ?_, c0, c64, i1n, by omega, by omega, by omega, by omega, fun Q hQ => yrun Q ?_⟩, Or.inl ⟨rfl, rfl, rfl, s1, rfl, 0, by omega, rfl, Or.inl ⟨wr_0, tb_SF0⟩⟩⟩
    · rw [dm_uid ee]; exact tr
    · rw [dm_uid e1, dm_uid (rfl : a_dones 1 = a_dones 1), dm_uid ee] at hQ
      exact hQ
end
