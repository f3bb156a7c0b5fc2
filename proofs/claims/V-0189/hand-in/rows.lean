section
theorem pk_us {f : Nat → Int32} {k : Nat} {x : Int32} : upd f k x k = x := if_pos rfl
theorem pk_un {f : Nat → Int32} {k j : Nat} {x : Int32} (h : j ≠ k) : upd f k x j = f j := if_neg h
theorem pk_sub {a b : Nat} (h : b ≤ a) : nI a - nI b = nI (a - b) := by
  obtain ⟨c, rfl⟩ : ∃ c, a = c + b := ⟨a - b, by omega⟩
  rw [← nI_add, Int32.add_sub_cancel, Nat.add_sub_cancel]
theorem pk_m1 (n : Nat) : nI (n + 1) + (-1) = nI n := by
  rw [← nI_1, Int32.add_assoc, show (1 : Int32) + (-1) = 0 from rfl, Int32.add_zero]
theorem pk_mul (a b : Nat) : nI a * nI b = nI (a * b) := (Int32.ofNat_mul a b).symm
theorem pk_div {a d : Nat} (ha : a < 2 ^ 31) (h0 : 0 < d) (hd : d < 2 ^ 31) : nI a / nI d = nI (a / d) := by
  apply Int32.toInt_inj.mp
  rw [lg_idiv_nonneg (by rw [nI_toInt ha]; omega) (by rw [nI_toInt hd]; omega), nI_toInt ha, nI_toInt hd, nI_toInt (Nat.lt_of_le_of_lt (Nat.div_le_self a d) ha)]
  first | rfl | exact (Int.natCast_ediv _ _).symm
theorem pk_rem {a d : Nat} (ha : a < 2 ^ 31) (h0 : 0 < d) (hd : d < 2 ^ 31) : nI a - nI a / nI d * nI d = nI (a % d) := by
  rw [pk_div ha h0 hd, pk_mul, pk_sub (Nat.div_mul_le_self a d)]
  exact congrArg nI (by have := Nat.div_add_mod' a d; omega)
theorem pk_sub_toInt {a b : Nat} (ha : a < 2 ^ 30) (hb : b < 2 ^ 30) : (nI a - nI b).toInt = (a : Int) - b := by
  rw [Int32.toInt_sub, nI_toInt (by omega), nI_toInt (by omega)]
  exact Int.bmod_eq_of_le (by omega) (by omega)
theorem pk_sneg {a b : Nat} (hb : b < 2 ^ 30) (h : a < b) : nI a - nI b < 0 := by
  rw [Int32.lt_iff_toInt_lt, pk_sub_toInt (by omega) hb, show (0 : Int32).toInt = 0 from by decide]
  omega
theorem pk_ix (x : Int32) {n : Nat} (hn : n < 2 ^ 31) : x < 0 ∨ nI n ≤ x ∨ ∃ j : Nat, j < n ∧ x = nI j := by
  by_cases h : x < 0
  · exact Or.inl h
  · obtain ⟨j, hj, rfl⟩ := nI_of h
    by_cases h2 : j < n
    · exact Or.inr (Or.inr ⟨j, h2, rfl⟩)
    · exact Or.inr (Or.inl (nI_le (by omega) hj))
theorem pk_le {x y : Int32} {A B : Prop} (a b : Nat) (f : a ≤ b → A) (g : b < a → B) (hx : x = nI a := by rfl) (hy : y = nI b := by rfl) (ha : a < 2 ^ 31 := by omega) (hb : b < 2 ^ 31 := by omega) : (x ≤ y → A) ∧ (¬ x ≤ y → B) := by
  subst hx hy
  rw [nI_leI ha hb]
  exact ⟨f, fun z => g (by omega)⟩
theorem pk_lt {x y : Int32} {A B : Prop} (a b : Nat) (f : a < b → A) (g : b ≤ a → B) (hx : x = nI a := by rfl) (hy : y = nI b := by rfl) (ha : a < 2 ^ 31 := by omega) (hb : b < 2 ^ 31 := by omega) : (x < y → A) ∧ (¬ x < y → B) := by
  subst hx hy
  rw [nI_ltI ha hb]
  exact ⟨f, fun z => g (by omega)⟩
theorem pk_eq {x y : Int32} {A B : Prop} (a b : Nat) (f : a = b → A) (g : a ≠ b → B) (hx : x = nI a := by rfl) (hy : y = nI b := by rfl) (ha : a < 2 ^ 31 := by omega) (hb : b < 2 ^ 31 := by omega) : (x = y → A) ∧ (¬ x = y → B) := by
  subst hx hy
  rw [nI_eq ha hb]
  exact ⟨f, g⟩
theorem pk_in {x : Int32} (n N : Nat) (h : n < N) (hx : x = nI n := by rfl) (hN : N < 2 ^ 31 := by omega) : vp_in x N := by
  subst hx
  exact vp_in_nI h hN
theorem pk_cl {x : Int32} (n : Nat) (hx : x = nI n := by rfl) (h : n < 2 ^ 31 := by omega) : x.toNatClampNeg = n := by
  subst hx
  exact nI_clamp h
theorem pk_tn {n : Nat} (h : n < 2 ^ 32) : (nI n).toBitVec.toNat = n := Nat.mod_eq_of_lt h
theorem pk_and (x : Int32) {m : Int32} (k : Nat) (hm : m.toBitVec.toNat = 2 ^ k - 1) : x &&& m = nI (x.toBitVec.toNat % 2 ^ k) := by
  apply Int32.toBitVec_inj.mp
  apply BitVec.eq_of_toNat_eq
  rw [Int32.toBitVec_and, BitVec.toNat_and, hm, Nat.and_two_pow_sub_one_eq_mod]
  show _ = (BitVec.ofNat 32 _).toNat
  rw [BitVec.toNat_ofNat]
  exact (Nat.mod_eq_of_lt (Nat.lt_of_le_of_lt (Nat.mod_le _ _) x.toBitVec.isLt)).symm
theorem pk_andN {n : Nat} (h : n < 2 ^ 32) {m : Int32} (k : Nat) (hm : m.toBitVec.toNat = 2 ^ k - 1) : nI n &&& m = nI (n % 2 ^ k) := by
  rw [pk_and _ k hm, pk_tn h]
theorem pk_andE (x : Int32) {m : Int32} (k : Nat) (hm : m.toBitVec.toNat = 2 ^ k - 1) : ∃ j : Nat, j < 2 ^ k ∧ x &&& m = nI j := ⟨_, Nat.mod_lt _ (Nat.two_pow_pos k), pk_and x k hm⟩
theorem pk_andIn (x : Int32) {m : Int32} (k : Nat) (hm : m.toBitVec.toNat = 2 ^ k - 1) (hk : k ≤ 30) : vp_in (x &&& m) (2 ^ k) := by
  obtain ⟨j, hj, e⟩ := pk_andE x k hm
  rw [e]
  exact vp_in_nI hj (Nat.lt_of_le_of_lt (Nat.pow_le_pow_right (by decide) hk) (by decide))
theorem pk_shl (a s : Int32) (k : Nat) (hs : (s.toBitVec.smod 32).toNat = k) : (a <<< s).toBitVec.toNat = a.toBitVec.toNat * 2 ^ k % 2 ^ 32 := by
  show (a.toBitVec <<< (s.toBitVec.smod 32).toNat).toNat = _
  rw [hs, BitVec.toNat_shiftLeft, Nat.shiftLeft_eq]
theorem pk_shlN {n : Nat} (s : Int32) (k : Nat) (hs : (s.toBitVec.smod 32).toNat = k) (h : n * 2 ^ k < 2 ^ 32) : nI n <<< s = nI (n * 2 ^ k) := by
  apply Int32.toBitVec_inj.mp
  apply BitVec.eq_of_toNat_eq
  have hn : n < 2 ^ 32 := Nat.lt_of_le_of_lt (Nat.le_mul_of_pos_right n (Nat.two_pow_pos k)) h
  rw [pk_shl _ _ k hs, pk_tn hn, pk_tn h, Nat.mod_eq_of_lt h]
theorem pk_shr (a s : Int32) (k : Nat) (hs : (s.toBitVec.smod 32).toNat = k) : (a >>> s).toInt = a.toInt >>> k := by
  show (a.toBitVec.sshiftRight (s.toBitVec.smod 32).toNat).toInt = _
  rw [hs, BitVec.toInt_sshiftRight]
  rfl
theorem pk_shrN {n : Nat} (h : n < 2 ^ 31) (s : Int32) (k : Nat) (hs : (s.toBitVec.smod 32).toNat = k) : nI n >>> s = nI (n / 2 ^ k) := by
  apply Int32.toInt_inj.mp
  have h2 : n / 2 ^ k ≤ n := Nat.div_le_self _ _
  rw [pk_shr _ _ k hs, nI_toInt h, nI_toInt (by omega), Int.shiftRight_eq_div_pow]
  rfl
theorem pk_ushr (x s : Int32) (k : Nat) (hs : ((s.toUInt32 &&& Int32.toUInt32 31).toBitVec % 32).toNat = k) : (x.toUInt32 >>> (s.toUInt32 &&& Int32.toUInt32 31)).toInt32.toBitVec.toNat = x.toBitVec.toNat / 2 ^ k := by
  have e : (x.toUInt32 >>> (s.toUInt32 &&& Int32.toUInt32 31)).toInt32.toBitVec = x.toBitVec >>> k := by
    rw [← hs]
    exact UInt32.toBitVec_shiftRight _ _
  rw [e, BitVec.toNat_ushiftRight, Nat.shiftRight_eq_div_pow]
theorem pk_ushrN {n : Nat} (hn : n < 2 ^ 32) (s : Int32) (k : Nat) (hs : ((s.toUInt32 &&& Int32.toUInt32 31).toBitVec % 32).toNat = k) : ((nI n).toUInt32 >>> (s.toUInt32 &&& Int32.toUInt32 31)).toInt32 = nI (n / 2 ^ k) := by
  apply Int32.toBitVec_inj.mp
  apply BitVec.eq_of_toNat_eq
  rw [pk_ushr _ s k hs, pk_tn hn, pk_tn (Nat.lt_of_le_of_lt (Nat.div_le_self _ _) hn)]
theorem pk_loop {σ : Type} (W : Nat → Nat → σ → Prop) (I : Nat → σ → Prop) (e i0 : Nat) (s : σ) (hi : i0 ≤ e) (h0 : I i0 s) (hx : ∀ n s, I e s → W (n + 1) e s)
    (hs : ∀ n i s, i < e → I i s → (∀ s', I (i + 1) s' → W n (i + 1) s') → W (n + 1) i s) : ∃ n, W n i0 s :=
  ⟨e + 1, loop_i W I e hx hs (e + 1) i0 s hi (by omega) h0⟩
theorem pk_loopD {σ : Type} (W : Nat → Nat → σ → Prop) (I : Nat → σ → Prop) (hx : ∀ n s, I 0 s → W (n + 1) 0 s)
    (hs : ∀ n i s, I (i + 1) s → (∀ s', I i s' → W n i s') → W (n + 1) (i + 1) s) : ∀ (e : Nat) (s : σ), I e s → W (e + 1) e s := by
  intro e
  induction e with
  | zero => exact fun s h => hx 0 s h
  | succ e ih => exact fun s h => hs (e + 1) e s h (fun s' h' => ih s' h')
theorem sb_negT {w : Nat} (h : w < 2 ^ 31) : (-nI w).toInt = -(w : Int) := by
  rw [Int32.toInt_neg, nI_toInt h]
  exact Int.bmod_eq_of_le (by omega) (by omega)
theorem sb_nle {a b : Nat} (ha : a < 2 ^ 31) (hb : b < 2 ^ 31) : -nI a ≤ -nI b ↔ b ≤ a := by
  rw [Int32.le_iff_toInt_le, sb_negT ha, sb_negT hb]
  omega
theorem sb_nlt {a b : Nat} (ha : a < 2 ^ 31) (hb : b < 2 ^ 31) : -nI a < -nI b ↔ b < a := by
  rw [Int32.lt_iff_toInt_lt, sb_negT ha, sb_negT hb]
  omega
def bt (x : Int32) (i : Nat) : Bool := x.toBitVec.getLsbD i
theorem b_ext {x y : Int32} (h : ∀ i, i < 32 → bt x i = bt y i) : x = y := Int32.toBitVec_inj.mp (BitVec.eq_of_getLsbD_eq (fun i hi => h i hi))
theorem b_or (x y : Int32) (i : Nat) : bt (x ||| y) i = (bt x i || bt y i) := by unfold bt; rw [Int32.toBitVec_or, BitVec.getLsbD_or]
theorem b_and (x y : Int32) (i : Nat) : bt (x &&& y) i = (bt x i && bt y i) := by unfold bt; rw [Int32.toBitVec_and, BitVec.getLsbD_and]
theorem b_xor (x y : Int32) (i : Nat) : bt (x ^^^ y) i = (bt x i ^^ bt y i) := by unfold bt; rw [Int32.toBitVec_xor, BitVec.getLsbD_xor]
theorem b_big {x : Int32} {i : Nat} (h : 32 ≤ i) : bt x i = false := BitVec.getLsbD_of_ge _ _ h
theorem b_255 (i : Nat) : bt 255 i = decide (i < 8) := by
  rcases Nat.lt_or_ge i 32 with h | h
  · exact (by decide +kernel : ∀ i, i < 32 → bt 255 i = decide (i < 8)) i h
  · rw [b_big h, decide_eq_false (by omega)]
theorem b_65535 (i : Nat) : bt 65535 i = decide (i < 16) := by
  rcases Nat.lt_or_ge i 32 with h | h
  · exact (by decide +kernel : ∀ i, i < 32 → bt 65535 i = decide (i < 16)) i h
  · rw [b_big h, decide_eq_false (by omega)]
theorem b_m1 : ∀ i, i < 32 → bt (-1) i = true := by decide +kernel
theorem b_0 (i : Nat) : bt 0 i = false := BitVec.getLsbD_zero
theorem s_l : ∀ n, n < 32 → ((nI n &&& 31).toBitVec.smod 32).toNat = n := by decide +kernel
theorem s_u : ∀ n, n < 32 → (((nI n).toUInt32 &&& Int32.toUInt32 31).toBitVec % 32).toNat = n := by decide +kernel
theorem b_shl (n : Nat) (hn : n < 32) (x : Int32) {i : Nat} (hi : i < 32) : bt (x <<< (nI n &&& 31)) i = (decide (n ≤ i) && bt x (i - n)) := by
  unfold bt
  rw [Int32.toBitVec_shiftLeft]
  show (x.toBitVec <<< ((nI n &&& 31).toBitVec.smod 32).toNat).getLsbD i = _
  rw [s_l n hn, BitVec.getLsbD_shiftLeft]
  rcases Nat.lt_or_ge i n with h | h
  · simp [h, Nat.not_le.mpr h]
  · simp [hi, h, Nat.not_lt.mpr h]
theorem b_ushr (n : Nat) (hn : n < 32) (x : Int32) (i : Nat) : bt ((x.toUInt32 >>> ((nI n).toUInt32 &&& Int32.toUInt32 31)).toInt32) i = bt x (n + i) := by
  show (x.toUInt32 >>> ((nI n).toUInt32 &&& Int32.toUInt32 31)).toBitVec.getLsbD i = x.toUInt32.toBitVec.getLsbD (n + i)
  rw [UInt32.toBitVec_shiftRight]
  show (x.toUInt32.toBitVec >>> (((nI n).toUInt32 &&& Int32.toUInt32 31).toBitVec % 32).toNat).getLsbD i = _
  rw [s_u n hn, BitVec.getLsbD_ushiftRight]
theorem b_sshr (n : Nat) (hn : n < 32) (x : Int32) {i : Nat} (hi : i < 32) : bt (x >>> (nI n &&& 31)) i = if n + i < 32 then bt x (n + i) else bt x 31 := by
  unfold bt
  rw [Int32.toBitVec_shiftRight]
  show (x.toBitVec.sshiftRight ((nI n &&& 31).toBitVec.smod 32).toNat).getLsbD i = _
  rw [s_l n hn, BitVec.getLsbD_sshiftRight, BitVec.msb_eq_getLsbD_last]
  simp [hi]
theorem b_shl8 (x : Int32) {i : Nat} (hi : i < 32) : bt (x <<< ((8 : Int32) &&& 31)) i = (decide (8 ≤ i) && bt x (i - 8)) := b_shl 8 (by omega) x hi
theorem b_shl16 (x : Int32) {i : Nat} (hi : i < 32) : bt (x <<< ((16 : Int32) &&& 31)) i = (decide (16 ≤ i) && bt x (i - 16)) := b_shl 16 (by omega) x hi
theorem b_shl24 (x : Int32) {i : Nat} (hi : i < 32) : bt (x <<< ((24 : Int32) &&& 31)) i = (decide (24 ≤ i) && bt x (i - 24)) := b_shl 24 (by omega) x hi
theorem b_sshr8 (x : Int32) {i : Nat} (hi : i < 32) : bt (x >>> ((8 : Int32) &&& 31)) i = if 8 + i < 32 then bt x (8 + i) else bt x 31 := b_sshr 8 (by omega) x hi
theorem nf_sh : ∀ l, l < 32 → ((1 : Int32) <<< (nI l &&& 31)).toBitVec = BitVec.twoPow 32 l := by decide +kernel
theorem ts_nf {x : Bool} (h : ¬ x = false) : x = true := by cases x <;> first | rfl | exact absurd rfl h
theorem ts_nt {x : Bool} (h : ¬ x = true) : x = false := by cases x <;> first | rfl | exact absurd rfl h
end
section
/-! bits of masks, sums, cards -/
theorem kb_z {x : Int32} : x = 0 ↔ ∀ v, bt x v = false :=
  ⟨fun h v => by rw [h, b_0], fun h => b_ext (fun i _ => by rw [h i, b_0])⟩
theorem kb_one (c : Nat) (hc : c < 32) (v : Nat) : bt ((1 : Int32) <<< (nI c &&& 31)) v = decide (v = c) := by
  unfold bt
  rw [nf_sh c hc, BitVec.getLsbD_twoPow]
  by_cases h : v = c
  · subst h; simp [hc]
  · simp [h]; intro _; exact fun e => h e.symm
theorem kb_not (x : Int32) {v : Nat} (hv : v < 32) : bt (x ^^^ (-1)) v = !bt x v := by
  rw [b_xor, b_m1 v hv]; cases bt x v <;> rfl
theorem kb_t (x : Int32) {c : Nat} (hc : c < 32) : (x &&& ((1 : Int32) <<< (nI c &&& 31))) = 0 ↔ bt x c = false := by
  rw [kb_z]
  constructor
  · intro h
    have := h c
    rw [b_and, kb_one c hc] at this
    simpa using this
  · intro h v
    rw [b_and, kb_one c hc]
    by_cases e : v = c
    · subst e; simp [h]
    · simp [e]
theorem kb_andz {x y : Int32} : (x &&& y) = 0 ↔ ∀ v, ¬ (bt x v = true ∧ bt y v = true) := by
  rw [kb_z]
  constructor
  · intro h v hv
    have := h v
    rw [b_and, hv.1, hv.2] at this
    cases this
  · intro h v
    rw [b_and]
    cases hx : bt x v with
    | false => rfl
    | true =>
      cases hy : bt y v with
      | false => rfl
      | true => exact absurd ⟨hx, hy⟩ (h v)
theorem kb_orz {x y : Int32} : (x ||| y) = 0 ↔ ∀ v, bt x v = false ∧ bt y v = false := by
  rw [kb_z]
  constructor
  · intro h v
    have := h v
    rw [b_or] at this
    simpa using this
  · intro h v
    rw [b_or, (h v).1, (h v).2]; rfl
theorem kb_nz {x : Int32} (h : ¬ x = 0) : ∃ v, bt x v = true ∧ v < 32 := by
  apply Classical.byContradiction
  intro hn
  apply h
  rw [kb_z]
  intro v
  rcases Nat.lt_or_ge v 32 with hv | hv
  · cases e : bt x v with
    | false => rfl
    | true => exact absurd ⟨v, e, hv⟩ hn
  · exact b_big hv
def kb_lo8 (x : Int32) : Prop := ∀ v, bt x v = true → v < 8
theorem kb_lo8_and {x y : Int32} (h : kb_lo8 x) : kb_lo8 (x &&& y) := fun v hv => h v (by rw [b_and] at hv; simp at hv; exact hv.1)
theorem kb_lo8_andr {x y : Int32} (h : kb_lo8 y) : kb_lo8 (x &&& y) := fun v hv => h v (by rw [b_and] at hv; simp at hv; exact hv.2)
theorem kb_lo8_or {x y : Int32} (h : kb_lo8 x) (k : kb_lo8 y) : kb_lo8 (x ||| y) := fun v hv => by
  rw [b_or] at hv; simp at hv; exact hv.elim (h v) (k v)
theorem kb_lo8_0 : kb_lo8 0 := fun v hv => by rw [b_0] at hv; cases hv
/-- a sum below k -/
def ks_sm : Nat → (Nat → Nat) → Nat
  | 0, _ => 0
  | k + 1, f => ks_sm k f + f k
theorem ks_congr {f g : Nat → Nat} : ∀ k, (∀ v, v < k → f v = g v) → ks_sm k f = ks_sm k g
  | 0, _ => rfl
  | k + 1, h => by
    show ks_sm k f + f k = ks_sm k g + g k
    rw [ks_congr k (fun v hv => h v (by omega)), h k (by omega)]
theorem ks_le {f g : Nat → Nat} : ∀ k, (∀ v, v < k → f v ≤ g v) → ks_sm k f ≤ ks_sm k g
  | 0, _ => Nat.le_refl _
  | k + 1, h => Nat.add_le_add (ks_le k (fun v hv => h v (by omega))) (h k (by omega))
theorem ks_lt {f g : Nat → Nat} {w : Nat} : ∀ k, (∀ v, v < k → f v ≤ g v) → w < k → f w < g w → ks_sm k f < ks_sm k g
  | 0, _, hw, _ => by omega
  | k + 1, h, hw, hlt => by
    show ks_sm k f + f k < ks_sm k g + g k
    have hk := h k (by omega)
    by_cases e : w = k
    · subst e
      have := ks_le (f := f) (g := g) w (fun v hv => h v (by omega))
      omega
    · have := ks_lt (f := f) (g := g) (w := w) k (fun v hv => h v (by omega)) (by omega) hlt
      omega
theorem ks_add (f g : Nat → Nat) : ∀ k, ks_sm k (fun v => f v + g v) = ks_sm k f + ks_sm k g
  | 0 => rfl
  | k + 1 => by
    show ks_sm k (fun v => f v + g v) + (f k + g k) = (ks_sm k f + f k) + (ks_sm k g + g k)
    rw [ks_add f g k]; omega
theorem ks_split (f : Nat → Nat) (a : Nat) : ∀ b, ks_sm (a + b) f = ks_sm a f + ks_sm b (fun v => f (a + v))
  | 0 => rfl
  | b + 1 => by
    show ks_sm (a + b) f + f (a + b) = ks_sm a f + (ks_sm b (fun v => f (a + v)) + f (a + b))
    rw [ks_split f a b]; omega
theorem ks_zero {f : Nat → Nat} : ∀ k, ks_sm k f = 0 ↔ ∀ v, v < k → f v = 0
  | 0 => ⟨fun _ v hv => by omega, fun _ => rfl⟩
  | k + 1 => by
    show ks_sm k f + f k = 0 ↔ _
    constructor
    · intro h v hv
      have h1 := (ks_zero (f := f) k).mp (by omega)
      by_cases e : v = k
      · subst e; omega
      · exact h1 v (by omega)
    · intro h
      rw [(ks_zero (f := f) k).mpr (fun v hv => h v (by omega)), h k (by omega)]
theorem ks_const (c : Nat) : ∀ k, ks_sm k (fun _ => c) = k * c
  | 0 => by show 0 = 0 * c; omega
  | k + 1 => by
    show ks_sm k (fun _ => c) + c = (k + 1) * c
    rw [ks_const c k, Nat.succ_mul]
theorem ks_mulr (f : Nat → Nat) (c : Nat) : ∀ k, ks_sm k (fun v => f v * c) = ks_sm k f * c
  | 0 => by show 0 = 0 * c; omega
  | k + 1 => by
    show ks_sm k (fun v => f v * c) + f k * c = (ks_sm k f + f k) * c
    rw [ks_mulr f c k, Nat.add_mul]
theorem ks_mono (f : Nat → Nat) {a b : Nat} (h : a ≤ b) : ks_sm a f ≤ ks_sm b f := by
  obtain ⟨c, rfl⟩ : ∃ c, b = a + c := ⟨b - a, by omega⟩
  rw [ks_split]; omega
/-- the number of variables below 8 in a set -/
def kb_cd (V : Nat → Bool) : Nat := ks_sm 8 (fun v => (V v).toNat)
theorem kb_tn1 (b : Bool) : b.toNat ≤ 1 := by cases b <;> decide
theorem kb_cd8 (V : Nat → Bool) : kb_cd V ≤ 8 := by
  have := ks_le (f := fun v => (V v).toNat) (g := fun _ => 1) 8 (fun v _ => kb_tn1 _)
  rw [ks_const] at this
  exact this
theorem kb_tnle {a b : Bool} (h : a = true → b = true) : a.toNat ≤ b.toNat := by
  cases a
  · exact Nat.zero_le _
  · rw [h rfl]; exact Nat.le_refl _
theorem kb_cdle {V W : Nat → Bool} (h : ∀ v, V v = true → W v = true) : kb_cd V ≤ kb_cd W :=
  ks_le 8 (fun v _ => kb_tnle (h v))
theorem kb_cdlt {V W : Nat → Bool} (h : ∀ v, V v = true → W v = true) {w : Nat} (hw : w < 8) (h0 : V w = false) (h1 : W w = true) : kb_cd V < kb_cd W :=
  ks_lt (w := w) 8 (fun v _ => kb_tnle (h v)) hw (by show (V w).toNat < (W w).toNat; rw [h0, h1]; decide)
theorem kb_cdor {U V W : Nat → Bool} (h : ∀ v, v < 8 → W v = (U v || V v)) (hd : ∀ v, v < 8 → ¬ (U v = true ∧ V v = true)) : kb_cd W = kb_cd U + kb_cd V := by
  unfold kb_cd
  rw [← ks_add]
  apply ks_congr
  intro v hv
  have h1 := h v hv
  have h2 := hd v hv
  show (W v).toNat = (U v).toNat + (V v).toNat
  rw [h1]
  cases hU : U v <;> cases hV : V v <;> first | rfl | exact absurd ⟨hU, hV⟩ h2
theorem kb_cdcongr {V W : Nat → Bool} (h : ∀ v, v < 8 → V v = W v) : kb_cd V = kb_cd W :=
  ks_congr 8 (fun v hv => by rw [h v hv])
theorem kb_cd1 {V : Nat → Bool} {w : Nat} (hw : w < 8) (h : V w = true) : 1 ≤ kb_cd V := by
  have h1 := kb_cdlt (V := fun _ => false) (W := V) (fun v hv => by cases hv) hw rfl h
  omega
theorem kb_cd2 {V : Nat → Bool} {w z : Nat} (hw : w < 8) (hz : z < 8) (hne : w ≠ z) (h : V w = true) (h' : V z = true) : 2 ≤ kb_cd V := by
  have h1 := kb_cdlt (V := fun v => decide (v = w)) (W := V) (w := z) (fun v hv => by have e : v = w := by simpa using hv
                                                                                      rw [e]; exact h) hz (by simp; omega) h'
  have h2 := kb_cd1 (V := fun v => decide (v = w)) hw (by simp)
  omega
/-- a set of at most one variable -/
theorem kb_cdn {n : Nat} (hn : n ≤ 8) : kb_cd (fun v => decide (v < n)) = n := by
  have : ∀ m : Fin 9, kb_cd (fun v => decide (v < m.val)) = m.val := by decide
  exact this ⟨n, by omega⟩
/-- n different variables below n are all of them -/
theorem kb_cdall {V : Nat → Bool} {n : Nat} (hn : n ≤ 8) (hV : ∀ v, V v = true → v < n) (hc : n ≤ kb_cd V) {v : Nat} (hv : v < n) : V v = true := by
  cases e : V v with
  | true => rfl
  | false =>
    have := kb_cdlt (V := V) (W := fun v => decide (v < n)) (fun v hv => by simpa using hV v hv) (w := v) (by omega) e (by simpa using hv)
    rw [kb_cdn hn] at this
    omega
theorem kb_cd0 : kb_cd (fun _ => false) = 0 := by decide
/-- one bit of a mask by the unsigned shift -/
theorem kb_ush (x : Int32) {v : Nat} (hv : v < 32) : ((x.toUInt32 >>> ((nI v).toUInt32 &&& Int32.toUInt32 31)).toInt32) &&& 1 = nI (bt x v).toNat := by
  apply b_ext
  intro i hi
  rw [b_and, b_ushr v hv]
  have h1 : ∀ i, i < 32 → bt 1 i = decide (i = 0) := by decide +kernel
  rw [h1 i hi]
  cases e : bt x v with
  | false =>
    show _ = bt 0 i
    rw [b_0]
    by_cases z : i = 0
    · subst z; simp [e]
    · simp [z]
  | true =>
    show _ = bt 1 i
    rw [h1 i hi]
    by_cases z : i = 0
    · subst z; simp [e]
    · simp [z]
theorem kb_ssh (x : Int32) {v : Nat} (hv : v < 31) : ((x >>> (nI v &&& 31)) &&& 1) = nI (bt x v).toNat := by
  apply b_ext
  intro i hi
  rw [b_and, b_sshr v (by omega) x hi]
  have h1 : ∀ i, i < 32 → bt 1 i = decide (i = 0) := by decide +kernel
  rw [h1 i hi]
  cases e : bt x v with
  | false =>
    show _ = bt 0 i
    rw [b_0]
    by_cases z : i = 0
    · subst z; rw [if_pos (by omega)]; simp [e]
    · simp [z]
  | true =>
    show _ = bt 1 i
    rw [h1 i hi]
    by_cases z : i = 0
    · subst z; rw [if_pos (by omega)]; simp [e]
    · simp [z]
theorem kb_nI (n : Nat) {v : Nat} (hv : v < 32) : bt (nI n) v = n.testBit v := by
  show (BitVec.ofNat 32 n).getLsbD v = n.testBit v
  rw [BitVec.getLsbD_ofNat]; simp [hv]
theorem kb_nbig {n v : Nat} (hn : n < 2 ^ 32) : bt (nI n) v = n.testBit v := by
  rcases Nat.lt_or_ge v 32 with h | h
  · exact kb_nI n h
  · rw [b_big h, Nat.testBit_lt_two_pow]
    exact Nat.lt_of_lt_of_le hn (Nat.pow_le_pow_right (by decide) h)
/-- a power of two -/
theorem kb_pow {c : Nat} (hc : c < 31) : (1 : Int32) <<< (nI c &&& 31) = nI (2 ^ c) := by
  have h := pk_shlN (n := 1) (nI c &&& 31) c (s_l c (by omega)) (by
    rw [Nat.one_mul]; exact Nat.pow_lt_pow_right (by decide) (by omega))
  rw [Nat.one_mul] at h
  exact h
end
section
/-! sums over assignments of a set of variables -/
noncomputable def kt_b (p : Prop) : Nat := @ite Nat p (Classical.propDecidable p) 1 0
theorem kt_b1 {p : Prop} (h : p) : kt_b p = 1 := by unfold kt_b; exact if_pos h
theorem kt_b0 {p : Prop} (h : ¬ p) : kt_b p = 0 := by unfold kt_b; exact if_neg h
theorem kt_bt : kt_b True = 1 := kt_b1 trivial
theorem kt_bf : kt_b False = 0 := kt_b0 id
theorem kt_bc {p q : Prop} (h : p ↔ q) : kt_b p = kt_b q := by rw [propext h]
theorem kt_ble (p : Prop) : kt_b p ≤ 1 := by
  rcases Classical.em p with h | h
  · rw [kt_b1 h]; exact Nat.le_refl _
  · rw [kt_b0 h]; exact Nat.zero_le _
theorem kt_band {p q : Prop} : kt_b (p ∧ q) = kt_b p * kt_b q := by
  rcases Classical.em p with h | h
  · rw [kt_b1 h, Nat.one_mul]; exact kt_bc ⟨fun z => z.2, fun z => ⟨h, z⟩⟩
  · rw [kt_b0 h, Nat.zero_mul]; exact kt_b0 (fun z => h z.1)
theorem kt_bz {p : Prop} : kt_b p = 0 ↔ ¬ p :=
  ⟨fun h hp => (by rw [kt_b1 hp] at h; cases h), kt_b0⟩
def kt_u (a : Nat → Bool) (k : Nat) (b : Bool) : Nat → Bool := fun v => if v = k then b else a v
theorem kt_us (a : Nat → Bool) (k : Nat) (b : Bool) : kt_u a k b k = b := if_pos rfl
theorem kt_un (a : Nat → Bool) {k v : Nat} (b : Bool) (h : v ≠ k) : kt_u a k b v = a v := if_neg h
def kt_T : Nat → (Nat → Bool) → ((Nat → Bool) → Nat) → (Nat → Bool) → Nat
  | 0, _, F, a => F a
  | k + 1, V, F, a => bif V k then kt_T k V F (kt_u a k false) + kt_T k V F (kt_u a k true) else kt_T k V F a
theorem kt_Tt {k : Nat} {V : Nat → Bool} {F : (Nat → Bool) → Nat} {a : Nat → Bool} (h : V k = true) : kt_T (k + 1) V F a = kt_T k V F (kt_u a k false) + kt_T k V F (kt_u a k true) := by
  show (bif V k then _ else _) = _
  rw [h]; rfl
theorem kt_Tf {k : Nat} {V : Nat → Bool} {F : (Nat → Bool) → Nat} {a : Nat → Bool} (h : V k = false) : kt_T (k + 1) V F a = kt_T k V F a := by
  show (bif V k then _ else _) = _
  rw [h]; rfl
/-- only the assignments that agree with a from k on matter -/
theorem kt_congr {V W : Nat → Bool} {F G : (Nat → Bool) → Nat} : ∀ (k : Nat) (a : Nat → Bool), (∀ v, v < k → V v = W v) → (∀ b : Nat → Bool, (∀ v, k ≤ v → b v = a v) → F b = G b) → kt_T k V F a = kt_T k W G a
  | 0, a, _, h => h a (fun _ _ => rfl)
  | k + 1, a, hV, h => by
    have e := hV k (by omega)
    have hk : ∀ c : Bool, kt_T k V F (kt_u a k c) = kt_T k W G (kt_u a k c) := fun c =>
      kt_congr k (kt_u a k c) (fun v hv => hV v (by omega)) (fun b hb => h b (fun v hv => by rw [hb v (by omega), kt_un a c (by omega)]))
    cases hW : W k with
    | true => rw [kt_Tt (e.trans hW), kt_Tt hW, hk, hk]
    | false =>
      rw [kt_Tf (e.trans hW), kt_Tf hW]
      exact kt_congr k a (fun v hv => hV v (by omega)) (fun b hb => h b (fun v hv => hb v (by omega)))
def kt_Dep (U : Nat → Bool) (F : (Nat → Bool) → Nat) : Prop := ∀ a b : Nat → Bool, (∀ v, U v = true → a v = b v) → F a = F b
theorem kt_dep {U V : Nat → Bool} {F : (Nat → Bool) → Nat} (hF : kt_Dep U F) : ∀ (k : Nat) (a b : Nat → Bool), (∀ v, U v = true → ¬ (v < k ∧ V v = true) → a v = b v) → kt_T k V F a = kt_T k V F b
  | 0, a, b, h => hF a b (fun v hv => h v hv (fun z => by omega))
  | k + 1, a, b, h => by
    cases hV : V k with
    | true =>
      have hk : ∀ c : Bool, kt_T k V F (kt_u a k c) = kt_T k V F (kt_u b k c) := fun c =>
        kt_dep hF k _ _ (fun v hv hn => by
          by_cases e : v = k
          · subst e; rw [kt_us, kt_us]
          · rw [kt_un a c e, kt_un b c e]
            exact h v hv (fun z => hn ⟨by omega, z.2⟩))
      rw [kt_Tt hV, kt_Tt hV, hk, hk]
    | false =>
      rw [kt_Tf hV, kt_Tf hV]
      exact kt_dep hF k a b (fun v hv hn => h v hv (fun z => by
        by_cases e : v = k
        · subst e; rw [hV] at z; cases z.2
        · exact hn ⟨by omega, z.2⟩))
theorem kt_add {V : Nat → Bool} (F G : (Nat → Bool) → Nat) : ∀ (k : Nat) (a : Nat → Bool), kt_T k V (fun b => F b + G b) a = kt_T k V F a + kt_T k V G a
  | 0, _ => rfl
  | k + 1, a => by
    cases hV : V k with
    | true => rw [kt_Tt hV, kt_Tt hV, kt_Tt hV, kt_add F G k, kt_add F G k]; omega
    | false => rw [kt_Tf hV, kt_Tf hV, kt_Tf hV, kt_add F G k]
theorem kt_zero {V : Nat → Bool} : ∀ (k : Nat) (a : Nat → Bool), kt_T k V (fun _ => 0) a = 0
  | 0, _ => rfl
  | k + 1, a => by
    cases hV : V k with
    | true => rw [kt_Tt hV, kt_zero k, kt_zero k]
    | false => rw [kt_Tf hV, kt_zero k]
theorem kt_sum {V : Nat → Bool} (F : Nat → (Nat → Bool) → Nat) (k : Nat) (a : Nat → Bool) : ∀ j, kt_T k V (fun b => ks_sm j (fun i => F i b)) a = ks_sm j (fun i => kt_T k V (F i) a)
  | 0 => kt_zero k a
  | j + 1 => by
    show kt_T k V (fun b => ks_sm j (fun i => F i b) + F j b) a = ks_sm j (fun i => kt_T k V (F i) a) + kt_T k V (F j) a
    rw [kt_add (fun b => ks_sm j (fun i => F i b)) (F j), kt_sum F k a j]
/-- a factor that the summed variables don't reach -/
theorem kt_mulr {V : Nat → Bool} {F h : (Nat → Bool) → Nat} : ∀ (k : Nat) (a : Nat → Bool), (∀ b : Nat → Bool, (∀ v, k ≤ v → b v = a v) → h b = h a) → kt_T k V (fun b => F b * h b) a = kt_T k V F a * h a
  | 0, _, _ => rfl
  | k + 1, a, H => by
    have hk : ∀ c : Bool, kt_T k V (fun b => F b * h b) (kt_u a k c) = kt_T k V F (kt_u a k c) * h a := fun c => by
      have e : h (kt_u a k c) = h a := H _ (fun v hv => kt_un a c (by omega))
      rw [kt_mulr k (kt_u a k c) (fun b hb => by rw [e]; exact H b (fun v hv => by rw [hb v (by omega), kt_un a c (by omega)])), e]
    cases hV : V k with
    | true => rw [kt_Tt hV, kt_Tt hV, hk, hk, Nat.add_mul]
    | false =>
      rw [kt_Tf hV, kt_Tf hV]
      exact kt_mulr k a (fun b hb => H b (fun v hv => hb v (by omega)))
/-- disjoint sets: the sum of a product is the product of the sums -/
theorem kt_mul {V1 V2 V : Nat → Bool} {F1 F2 : (Nat → Bool) → Nat} (h1 : kt_Dep V1 F1) (h2 : kt_Dep V2 F2) : ∀ (k : Nat) (a : Nat → Bool), (∀ v, v < k → V v = (V1 v || V2 v)) → (∀ v, v < k → ¬ (V1 v = true ∧ V2 v = true)) → kt_T k V (fun b => F1 b * F2 b) a = kt_T k V1 F1 a * kt_T k V2 F2 a
  | 0, _, _, _ => rfl
  | k + 1, a, hV, hd => by
    have ih : ∀ b, kt_T k V (fun b => F1 b * F2 b) b = kt_T k V1 F1 b * kt_T k V2 F2 b := fun b =>
      kt_mul h1 h2 k b (fun v hv => hV v (by omega)) (fun v hv => hd v (by omega))
    have e := hV k (by omega)
    cases e1 : V1 k with
    | true =>
      have e2 : V2 k = false := by
        cases e2 : V2 k with
        | false => rfl
        | true => exact absurd ⟨e1, e2⟩ (hd k (by omega))
      have hk : ∀ c : Bool, kt_T k V2 F2 (kt_u a k c) = kt_T k V2 F2 a := fun c =>
        kt_dep h2 k _ _ (fun v hv _ => kt_un a c (fun z => by subst z; rw [e2] at hv; cases hv))
      rw [e1] at e
      rw [kt_Tt e, kt_Tt e1, kt_Tf e2, ih, ih, hk, hk, Nat.add_mul]
    | false =>
      cases e2 : V2 k with
      | true =>
        have hk : ∀ c : Bool, kt_T k V1 F1 (kt_u a k c) = kt_T k V1 F1 a := fun c =>
          kt_dep h1 k _ _ (fun v hv _ => kt_un a c (fun z => by subst z; rw [e1] at hv; cases hv))
        rw [e1, e2] at e
        rw [kt_Tt e, kt_Tf e1, kt_Tt e2, ih, ih, hk, hk, Nat.mul_add]
      | false =>
        rw [e1, e2] at e
        rw [kt_Tf e, kt_Tf e1, kt_Tf e2, ih]
/-- a product below k -/
def ks_pr : Nat → (Nat → Nat) → Nat
  | 0, _ => 1
  | k + 1, f => ks_pr k f * f k
theorem ks_prc {f g : Nat → Nat} : ∀ k, (∀ v, v < k → f v = g v) → ks_pr k f = ks_pr k g
  | 0, _ => rfl
  | k + 1, h => by
    show ks_pr k f * f k = ks_pr k g * g k
    rw [ks_prc k (fun v hv => h v (by omega)), h k (by omega)]
theorem ks_pr0 {f : Nat → Nat} {w : Nat} : ∀ k, w < k → f w = 0 → ks_pr k f = 0
  | 0, hw, _ => by omega
  | k + 1, hw, h => by
    show ks_pr k f * f k = 0
    by_cases e : w = k
    · subst e; rw [h, Nat.mul_zero]
    · rw [ks_pr0 k (by omega) h, Nat.zero_mul]
theorem ks_prm (f g : Nat → Nat) : ∀ k, ks_pr k (fun v => f v * g v) = ks_pr k f * ks_pr k g
  | 0 => rfl
  | k + 1 => by
    show ks_pr k (fun v => f v * g v) * (f k * g k) = (ks_pr k f * f k) * (ks_pr k g * g k)
    rw [ks_prm f g k, Nat.mul_assoc, Nat.mul_assoc, Nat.mul_left_comm (ks_pr k g)]
theorem ks_pr1 {f : Nat → Nat} (k : Nat) (h : ∀ v, v < k → f v = 1) : ks_pr k f = 1 := by
  induction k with
  | zero => rfl
  | succ k ih =>
    show ks_pr k f * f k = 1
    rw [ih (fun v hv => h v (by omega)), h k (by omega)]
theorem ks_pr2 (f : Nat → Bool) : ∀ k, ks_pr k (fun v => bif f v then 2 else 1) = 2 ^ ks_sm k (fun v => (f v).toNat)
  | 0 => rfl
  | k + 1 => by
    show ks_pr k (fun v => bif f v then 2 else 1) * (bif f k then 2 else 1) = 2 ^ (ks_sm k (fun v => (f v).toNat) + (f k).toNat)
    rw [ks_pr2 f k, Nat.pow_add]
    cases f k <;> rfl
theorem ks_prb {p : Nat → Prop} : ∀ k, ks_pr k (fun v => kt_b (p v)) = kt_b (∀ v, v < k → p v)
  | 0 => (kt_b1 (fun v hv => by omega)).symm
  | k + 1 => by
    show ks_pr k (fun v => kt_b (p v)) * kt_b (p k) = _
    rw [ks_prb k, ← kt_band]
    exact kt_bc ⟨fun h v hv => by
      by_cases e : v = k
      · subst e; exact h.2
      · exact h.1 v (by omega), fun h => ⟨fun v hv => h v (by omega), h k (by omega)⟩⟩
/-- the sum of a product of one factor a variable -/
theorem kt_pr {V : Nat → Bool} (f : Nat → Bool → Nat) : ∀ (k : Nat) (a : Nat → Bool), kt_T k V (fun b => ks_pr k (fun v => f v (b v))) a = ks_pr k (fun v => bif V v then f v false + f v true else f v (a v))
  | 0, _ => rfl
  | k + 1, a => by
    have hk : ∀ b : Nat → Bool, (∀ v, v < k → b v = a v) → kt_T k V (fun b => ks_pr (k + 1) (fun v => f v (b v))) b = ks_pr k (fun v => bif V v then f v false + f v true else f v (a v)) * f k (b k) := fun b hb => by
      show kt_T k V (fun b => ks_pr k (fun v => f v (b v)) * f k (b k)) b = _
      rw [kt_mulr (F := fun b => ks_pr k (fun v => f v (b v))) (h := fun b => f k (b k)) k b (fun c hc => by show f k (c k) = f k (b k); rw [hc k (by omega)]), kt_pr f k b]
      congr 1
      exact ks_prc k (fun v hv => by rw [hb v hv])
    show _ = ks_pr k (fun v => bif V v then f v false + f v true else f v (a v)) * (bif V k then f k false + f k true else f k (a k))
    cases hV : V k with
    | true =>
      rw [kt_Tt hV, hk _ (fun v hv => kt_un a _ (by omega)), hk _ (fun v hv => kt_un a _ (by omega)), kt_us, kt_us, ← Nat.mul_add]
      rfl
    | false =>
      rw [kt_Tf hV, hk a (fun v hv => rfl)]
      rfl
/-- sets that are empty from n on -/
theorem kt_cut {V : Nat → Bool} {F : (Nat → Bool) → Nat} {n : Nat} : ∀ (j : Nat) (a : Nat → Bool), (∀ v, n ≤ v → V v = false) → kt_T (n + j) V F a = kt_T n V F a
  | 0, _, _ => rfl
  | j + 1, a, h => by
    show kt_T (n + j + 1) V F a = _
    rw [kt_Tf (h (n + j) (by omega)), kt_cut j a h]
/-- the assignment of a code -/
def kt_c (c : Nat) : Nat → Bool := fun v => c.testBit v
def kt_ac (k c : Nat) (a : Nat → Bool) : Nat → Bool := fun v => if v < k then c.testBit v else a v
theorem kt_codes {F : (Nat → Bool) → Nat} : ∀ (k : Nat) (a : Nat → Bool), ks_sm (2 ^ k) (fun c => F (kt_ac k c a)) = kt_T k (fun _ => true) F a
  | 0, a => by
    show 0 + F (kt_ac 0 0 a) = F a
    rw [Nat.zero_add]
    congr 1
  | k + 1, a => by
    have e : 2 ^ (k + 1) = 2 ^ k + 2 ^ k := by rw [Nat.pow_succ]; omega
    rw [e, ks_split, kt_Tt rfl, ← kt_codes k, ← kt_codes k]
    congr 1
    · apply ks_congr
      intro c hc
      congr 1
      funext v
      unfold kt_ac kt_u
      by_cases h : v < k
      · rw [if_pos (by omega), if_pos h]
      · by_cases h' : v = k
        · subst h'; rw [if_pos (by omega), if_neg (by omega), if_pos rfl, Nat.testBit_lt_two_pow hc]
        · rw [if_neg (by omega), if_neg h, if_neg h']
    · apply ks_congr
      intro c hc
      congr 1
      funext v
      unfold kt_ac kt_u
      by_cases h : v < k
      · rw [if_pos (by omega), if_pos h, Nat.testBit_two_pow_add_gt h]
      · by_cases h' : v = k
        · subst h'; rw [if_pos (by omega), if_neg (by omega), if_pos rfl, Nat.testBit_two_pow_add_eq, Nat.testBit_lt_two_pow hc]; rfl
        · rw [if_neg (by omega), if_neg h, if_neg h']
/-- the high variables are held by a factor -/
theorem kt_fix {M : (Nat → Bool) → Nat} {a : Nat → Bool} {k : Nat} : ∀ (j : Nat) (g : Nat → Bool), (∀ v, k + j ≤ v → g v = a v) → kt_T (k + j) (fun _ => true) (fun b => M b * kt_b (∀ v, k ≤ v → v < k + j → b v = a v)) g = kt_T k (fun _ => true) M a
  | 0, g, hg => by
    apply (kt_congr k g (fun _ _ => rfl) (G := M) (fun b hb => by rw [kt_b1 (fun v h1 h2 => by omega), Nat.mul_one])).trans
    exact kt_dep (U := fun _ => true) (fun x y h => congrArg M (funext (fun v => h v rfl))) k g a (fun v _ hn => hg v (by
      rcases Nat.lt_or_ge v k with h | h
      · exact absurd ⟨h, rfl⟩ hn
      · exact h))
  | j + 1, g, hg => by
    show kt_T (k + j + 1) _ _ g = _
    rw [kt_Tt rfl]
    have hs : ∀ c : Bool, c = a (k + j) → kt_T (k + j) (fun _ => true) (fun b => M b * kt_b (∀ v, k ≤ v → v < k + (j + 1) → b v = a v)) (kt_u g (k + j) c) = kt_T k (fun _ => true) M a := by
      intro c hc
      refine Eq.trans ?_ (kt_fix (M := M) (a := a) (k := k) j (kt_u g (k + j) c) (fun v hv => by
        by_cases e : v = k + j
        · subst e; rw [kt_us]; exact hc
        · rw [kt_un _ _ e]; exact hg v (by omega)))
      apply kt_congr _ _ (fun _ _ => rfl)
      intro b hb
      congr 1
      exact kt_bc ⟨fun h v h1 h2 => h v h1 (by omega), fun h v h1 h2 => by
        by_cases e : v = k + j
        · subst e; rw [hb _ (Nat.le_refl _), kt_us]; exact hc
        · exact h v h1 (by omega)⟩
    have hz : ∀ c : Bool, c ≠ a (k + j) → kt_T (k + j) (fun _ => true) (fun b => M b * kt_b (∀ v, k ≤ v → v < k + (j + 1) → b v = a v)) (kt_u g (k + j) c) = 0 := by
      intro c hc
      rw [← kt_zero (V := fun _ => true) (k + j) (kt_u g (k + j) c)]
      apply kt_congr _ _ (fun _ _ => rfl)
      intro b hb
      rw [kt_b0, Nat.mul_zero]
      intro h
      apply hc
      have h1 := h (k + j) (by omega) (by omega)
      rw [hb _ (Nat.le_refl _), kt_us] at h1
      exact h1
    cases e : a (k + j) with
    | true => rw [hs true e.symm, hz false (by rw [e]; decide), Nat.zero_add]
    | false => rw [hs false e.symm, hz true (by rw [e]; decide), Nat.add_zero]
end
section
/-! circuits: one condition a node, values -/
def kc_n (x : Int32) : Nat := x.toNatClampNeg
theorem kc_nI {x : Nat} (h : x < 2 ^ 31) : kc_n (nI x) = x := nI_clamp h
def kc_KO (kd : Nat → Int32) (id j : Nat) : Prop := kd j = nI (kc_n (kd j)) ∧ 1 ≤ kc_n (kd j) ∧ kc_n (kd j) < id
def kc_own (p n f : Int32) (v : Nat) : Bool := bt p v || bt n v || bt f v
def kc_Po (p n : Int32) (a : Nat → Bool) : Prop := ∀ v, (bt p v = true → a v = true) ∧ (bt n v = true → a v = false)
def kc_Ch (ch kd : Nat → Int32) (vs : Nat → Nat → Bool) (P : Nat → (Nat → Bool) → Prop) (id : Nat) : Prop :=
  ¬ ch id = 0 ∧ kc_KO kd id (id * 4) ∧ kc_KO kd id (id * 4 + 1) ∧ (∀ v, vs (kc_n (kd (id * 4))) v = vs id v) ∧ (∀ v, vs (kc_n (kd (id * 4 + 1))) v = vs id v)
  ∧ (∀ a, P id a ↔ (P (kc_n (kd (id * 4))) a ∨ P (kc_n (kd (id * 4 + 1))) a)) ∧ (∀ a, ¬ (P (kc_n (kd (id * 4))) a ∧ P (kc_n (kd (id * 4 + 1))) a))
def kc_Dj (p n f : Int32) : Prop := ∀ v, ¬ (bt p v = true ∧ bt n v = true) ∧ ¬ (bt p v = true ∧ bt f v = true) ∧ ¬ (bt n v = true ∧ bt f v = true)
def kc_Pr (ch po ne fr kc kd : Nat → Int32) (vs : Nat → Nat → Bool) (P : Nat → (Nat → Bool) → Prop) (id : Nat) : Prop :=
  ch id = 0 ∧ ∃ c, c ≤ 4 ∧ kc id = nI c ∧ (∀ i, i < c → kc_KO kd id (id * 4 + i)) ∧ kc_Dj (po id) (ne id) (fr id)
  ∧ (∀ i, i < c → ∀ v, vs (kc_n (kd (id * 4 + i))) v = true → kc_own (po id) (ne id) (fr id) v = false)
  ∧ (∀ i j, i < c → j < i → ∀ v, ¬ (vs (kc_n (kd (id * 4 + i))) v = true ∧ vs (kc_n (kd (id * 4 + j))) v = true))
  ∧ (∀ v, vs id v = true ↔ (kc_own (po id) (ne id) (fr id) v = true ∨ ∃ i, i < c ∧ vs (kc_n (kd (id * 4 + i))) v = true))
  ∧ (∀ a, P id a ↔ (kc_Po (po id) (ne id) a ∧ ∀ i, i < c → P (kc_n (kd (id * 4 + i))) a))
def kc_N (ch po ne fr kc kd : Nat → Int32) (vs : Nat → Nat → Bool) (P : Nat → (Nat → Bool) → Prop) (id : Nat) : Prop :=
  (∀ v, vs id v = true → v < 8) ∧ (∀ a b : Nat → Bool, (∀ v, vs id v = true → a v = b v) → (P id a ↔ P id b))
  ∧ (kc_Ch ch kd vs P id ∨ kc_Pr ch po ne fr kc kd vs P id)
def kc_C (nc : Nat) (ch po ne fr kc kd : Nat → Int32) (vs : Nat → Nat → Bool) (P : Nat → (Nat → Bool) → Prop) : Prop :=
  ∀ id, 1 ≤ id → id < nc → kc_N ch po ne fr kc kd vs P id
/-- the union of sets, one by one -/
def kc_un (V0 : Nat → Bool) (Vs : Nat → Nat → Bool) : Nat → Nat → Bool
  | 0, v => V0 v
  | i + 1, v => kc_un V0 Vs i v || Vs i v
theorem kc_un_iff {V0 : Nat → Bool} {Vs : Nat → Nat → Bool} {v : Nat} : ∀ c, kc_un V0 Vs c v = true ↔ (V0 v = true ∨ ∃ i, i < c ∧ Vs i v = true)
  | 0 => ⟨fun h => Or.inl h, fun h => h.elim id (fun ⟨i, hi, _⟩ => by omega)⟩
  | c + 1 => by
    show (kc_un V0 Vs c v || Vs c v) = true ↔ _
    rw [Bool.or_eq_true, kc_un_iff c]
    constructor
    · rintro ((h | ⟨i, hi, h⟩) | h)
      · exact Or.inl h
      · exact Or.inr ⟨i, by omega, h⟩
      · exact Or.inr ⟨c, by omega, h⟩
    · rintro (h | ⟨i, hi, h⟩)
      · exact Or.inl (Or.inl h)
      · by_cases e : i = c
        · subst e; exact Or.inr h
        · exact Or.inl (Or.inr ⟨i, by omega, h⟩)
def kc_wt (f g : Nat → Nat) (V a : Nat → Bool) : Nat := ks_pr 8 (fun v => bif V v then (bif a v then f v else g v) else 1)
theorem kc_wtdep (f g : Nat → Nat) (V : Nat → Bool) : kt_Dep V (kc_wt f g V) := fun a b h => ks_prc 8 (fun v _ => by
  cases e : V v with
  | false => rfl
  | true => rw [h v e])
theorem kc_wtor {f g : Nat → Nat} {U V W a : Nat → Bool} (h : ∀ v, v < 8 → W v = (U v || V v)) (hd : ∀ v, v < 8 → ¬ (U v = true ∧ V v = true)) : kc_wt f g W a = kc_wt f g U a * kc_wt f g V a := by
  unfold kc_wt
  rw [← ks_prm]
  apply ks_prc
  intro v hv
  have h1 := h v hv
  have h2 := hd v hv
  cases hU : U v with
  | true =>
    cases hV : V v with
    | true => exact absurd ⟨hU, hV⟩ h2
    | false => rw [h1, hU, hV]; exact (Nat.mul_one _).symm
  | false => rw [h1, hU]; exact (Nat.one_mul _).symm
noncomputable def kc_G (f g : Nat → Nat) (Q : (Nat → Bool) → Prop) (V a : Nat → Bool) : Nat := kt_b (Q a) * kc_wt f g V a
def kc_PD (V : Nat → Bool) (Q : (Nat → Bool) → Prop) : Prop := ∀ a b : Nat → Bool, (∀ v, V v = true → a v = b v) → (Q a ↔ Q b)
theorem kc_Gdep {f g : Nat → Nat} {Q : (Nat → Bool) → Prop} {V : Nat → Bool} (h : kc_PD V Q) : kt_Dep V (kc_G f g Q V) := fun a b hab => by
  unfold kc_G
  rw [kt_bc (h a b hab), kc_wtdep f g V a b hab]
def kc_a0 : Nat → Bool := fun _ => false
/-- the weighted number of the models over V -/
noncomputable def kc_W (f g : Nat → Nat) (V : Nat → Bool) (Q : (Nat → Bool) → Prop) : Nat := kt_T 8 V (kc_G f g Q V) kc_a0
theorem kc_Wc {f g : Nat → Nat} {V W : Nat → Bool} {Q R : (Nat → Bool) → Prop} (hV : ∀ v, V v = W v) (hQ : ∀ a, Q a ↔ R a) : kc_W f g V Q = kc_W f g W R := by
  have e : V = W := funext hV
  have e' : Q = R := funext (fun a => propext (hQ a))
  rw [e, e']
theorem kc_Wmul {f g : Nat → Nat} {U V W : Nat → Bool} {Q R S : (Nat → Bool) → Prop} (hQ : kc_PD U Q) (hR : kc_PD V R) (h : ∀ v, v < 8 → W v = (U v || V v)) (hd : ∀ v, v < 8 → ¬ (U v = true ∧ V v = true)) (hS : ∀ a, S a ↔ (Q a ∧ R a)) : kc_W f g W S = kc_W f g U Q * kc_W f g V R := by
  unfold kc_W
  rw [← kt_mul (kc_Gdep hQ) (kc_Gdep hR) 8 kc_a0 h hd]
  apply kt_congr 8 kc_a0 (fun _ _ => rfl)
  intro b _
  unfold kc_G
  rw [kt_bc (hS b), kt_band, kc_wtor h hd]
  rw [Nat.mul_assoc, Nat.mul_assoc, Nat.mul_left_comm (kt_b (R b))]
theorem kc_Wor {f g : Nat → Nat} {V : Nat → Bool} {Q R S : (Nat → Bool) → Prop} (hd : ∀ a, ¬ (Q a ∧ R a)) (hS : ∀ a, S a ↔ (Q a ∨ R a)) : kc_W f g V S = kc_W f g V Q + kc_W f g V R := by
  unfold kc_W
  rw [← kt_add]
  apply kt_congr 8 kc_a0 (fun _ _ => rfl)
  intro b _
  unfold kc_G
  rw [← Nat.add_mul]
  congr 1
  rcases Classical.em (Q b) with hq | hq
  · rw [kt_b1 hq, kt_b0 (fun hr => hd b ⟨hq, hr⟩), kt_b1 ((hS b).mpr (Or.inl hq))]
  · rw [kt_b0 hq, Nat.zero_add]
    exact kt_bc ⟨fun h => ((hS b).mp h).resolve_left hq, fun h => (hS b).mpr (Or.inr h)⟩
/-- a node's own part -/
def kc_ov (f g : Nat → Nat) (p n r : Int32) : Nat := ks_pr 8 (fun v => bif bt p v then f v else bif bt n v then g v else bif bt r v then f v + g v else 1)
theorem kc_Wown {f g : Nat → Nat} {p n r : Int32} (hd : kc_Dj p n r) (h8 : ∀ v, kc_own p n r v = true → v < 8) : kc_W f g (kc_own p n r) (kc_Po p n) = kc_ov f g p n r := by
  have e : ∀ b : Nat → Bool, kc_G f g (kc_Po p n) (kc_own p n r) b = ks_pr 8 (fun v => (fun v x => kt_b ((bt p v = true → x = true) ∧ (bt n v = true → x = false)) * (bif kc_own p n r v then (bif x then f v else g v) else 1)) v (b v)) := by
    intro b
    show kt_b (kc_Po p n b) * kc_wt f g (kc_own p n r) b = ks_pr 8 (fun v => kt_b ((bt p v = true → b v = true) ∧ (bt n v = true → b v = false)) * (bif kc_own p n r v then (bif b v then f v else g v) else 1))
    rw [ks_prm (fun v => kt_b ((bt p v = true → b v = true) ∧ (bt n v = true → b v = false))), ks_prb]
    congr 1
    apply kt_bc
    constructor
    · exact fun h v _ => h v
    · intro h v
      refine ⟨fun hv => (h v (h8 v ?_)).1 hv, fun hv => (h v (h8 v ?_)).2 hv⟩
      · unfold kc_own; rw [hv]; rfl
      · unfold kc_own; rw [hv]; simp
  unfold kc_W
  rw [show kc_G f g (kc_Po p n) (kc_own p n r) = _ from funext e]
  refine (kt_pr (fun v x => kt_b ((bt p v = true → x = true) ∧ (bt n v = true → x = false)) * (bif kc_own p n r v then (bif x then f v else g v) else 1)) 8 kc_a0).trans ?_
  apply ks_prc
  intro v hv
  have hdv := hd v
  unfold kc_own
  cases hp : bt p v with
  | true =>
    have hn : bt n v = false := ts_nt (fun z => hdv.1 ⟨hp, z⟩)
    have hr : bt r v = false := ts_nt (fun z => hdv.2.1 ⟨hp, z⟩)
    simp [hn, hr, kt_bt, kt_bf]
  | false =>
    cases hn : bt n v with
    | true =>
      have hr : bt r v = false := ts_nt (fun z => hdv.2.2 ⟨hn, z⟩)
      simp [hr, kt_bt, kt_bf]
    | false =>
      cases hr : bt r v with
      | true => simp [kt_bt, kt_bf, Nat.add_comm]
      | false => simp [kt_bt, kt_bf]
theorem kc_PoPD (p n r : Int32) : kc_PD (kc_own p n r) (kc_Po p n) := fun a b h => by
  constructor
  · intro H v
    refine ⟨fun hv => ?_, fun hv => ?_⟩
    · rw [← h v (by unfold kc_own; rw [hv]; rfl)]; exact (H v).1 hv
    · rw [← h v (by unfold kc_own; rw [hv]; simp)]; exact (H v).2 hv
  · intro H v
    refine ⟨fun hv => ?_, fun hv => ?_⟩
    · rw [h v (by unfold kc_own; rw [hv]; rfl)]; exact (H v).1 hv
    · rw [h v (by unfold kc_own; rw [hv]; simp)]; exact (H v).2 hv
end
section
/-! the value of a product node, kid by kid -/
section
variable {ch po ne fr kc kd : Nat → Int32} {vs : Nat → Nat → Bool} {P : Nat → (Nat → Bool) → Prop} {id c nc : Nat}
/-- the first i kids of a product and its own part: variables, models -/
def kc_uv (po ne fr kd : Nat → Int32) (vs : Nat → Nat → Bool) (id i : Nat) : Nat → Bool := kc_un (kc_own (po id) (ne id) (fr id)) (fun j => vs (kc_n (kd (id * 4 + j)))) i
def kc_um (po ne kd : Nat → Int32) (P : Nat → (Nat → Bool) → Prop) (id i : Nat) (a : Nat → Bool) : Prop := kc_Po (po id) (ne id) a ∧ ∀ j, j < i → P (kc_n (kd (id * 4 + j))) a
/-- what a product says, its count of kids given -/
def kc_PrC (po ne fr kd : Nat → Int32) (vs : Nat → Nat → Bool) (P : Nat → (Nat → Bool) → Prop) (id c : Nat) : Prop :=
  c ≤ 4 ∧ (∀ i, i < c → kc_KO kd id (id * 4 + i)) ∧ kc_Dj (po id) (ne id) (fr id)
  ∧ (∀ i, i < c → ∀ v, vs (kc_n (kd (id * 4 + i))) v = true → kc_own (po id) (ne id) (fr id) v = false)
  ∧ (∀ i j, i < c → j < i → ∀ v, ¬ (vs (kc_n (kd (id * 4 + i))) v = true ∧ vs (kc_n (kd (id * 4 + j))) v = true))
  ∧ (∀ v, vs id v = true ↔ (kc_own (po id) (ne id) (fr id) v = true ∨ ∃ i, i < c ∧ vs (kc_n (kd (id * 4 + i))) v = true))
  ∧ (∀ a, P id a ↔ (kc_Po (po id) (ne id) a ∧ ∀ i, i < c → P (kc_n (kd (id * 4 + i))) a))
theorem kc_uvd (h : kc_PrC po ne fr kd vs P id c) {i : Nat} (hi : i < c) (v : Nat) : ¬ (kc_uv po ne fr kd vs id i v = true ∧ vs (kc_n (kd (id * 4 + i))) v = true) := by
  intro ⟨h1, h2⟩
  rcases (kc_un_iff i).mp h1 with h3 | ⟨j, hj, h3⟩
  · rw [h.2.2.2.1 i hi v h2] at h3; cases h3
  · exact h.2.2.2.2.1 i j hi hj v ⟨h2, h3⟩
theorem kc_umPD (hPD : ∀ x, 1 ≤ x → x < id → kc_PD (vs x) (P x)) (h : kc_PrC po ne fr kd vs P id c) : ∀ i, i ≤ c → kc_PD (kc_uv po ne fr kd vs id i) (kc_um po ne kd P id i) := by
  intro i hi a b hab
  have h0 : kc_Po (po id) (ne id) a ↔ kc_Po (po id) (ne id) b := kc_PoPD _ _ (fr id) a b (fun v hv => hab v ((kc_un_iff i).mpr (Or.inl hv)))
  have hj : ∀ j, j < i → (P (kc_n (kd (id * 4 + j))) a ↔ P (kc_n (kd (id * 4 + j))) b) := fun j hj =>
    hPD _ (h.2.1 j (by omega)).2.1 (h.2.1 j (by omega)).2.2 a b (fun v hv => hab v ((kc_un_iff i).mpr (Or.inr ⟨j, hj, hv⟩)))
  exact ⟨fun H => ⟨h0.mp H.1, fun j z => (hj j z).mp (H.2 j z)⟩, fun H => ⟨h0.mpr H.1, fun j z => (hj j z).mpr (H.2 j z)⟩⟩
theorem kc_um_s {i : Nat} (a : Nat → Bool) : kc_um po ne kd P id (i + 1) a ↔ (kc_um po ne kd P id i a ∧ P (kc_n (kd (id * 4 + i))) a) := by
  constructor
  · exact fun H => ⟨⟨H.1, fun j hj => H.2 j (by omega)⟩, H.2 i (by omega)⟩
  · intro H
    refine ⟨H.1.1, fun j hj => ?_⟩
    by_cases e : j = i
    · subst e; exact H.2
    · exact H.1.2 j (by omega)
theorem kc_step {f g : Nat → Nat} (hPD : ∀ x, 1 ≤ x → x < id → kc_PD (vs x) (P x)) (h : kc_PrC po ne fr kd vs P id c) {i : Nat} (hi : i < c) :
    kc_W f g (kc_uv po ne fr kd vs id (i + 1)) (kc_um po ne kd P id (i + 1)) = kc_W f g (kc_uv po ne fr kd vs id i) (kc_um po ne kd P id i) * kc_W f g (vs (kc_n (kd (id * 4 + i)))) (P (kc_n (kd (id * 4 + i)))) :=
  kc_Wmul (kc_umPD hPD h i (by omega)) (hPD _ (h.2.1 i hi).2.1 (h.2.1 i hi).2.2) (fun _ _ => rfl) (fun v _ => kc_uvd h hi v) kc_um_s
theorem kc_end_V (h : kc_PrC po ne fr kd vs P id c) (v : Nat) : kc_uv po ne fr kd vs id c v = vs id v := by
  apply Bool.eq_iff_iff.mpr
  rw [h.2.2.2.2.2.1 v]
  exact kc_un_iff c
theorem kc_end_P (h : kc_PrC po ne fr kd vs P id c) (a : Nat → Bool) : kc_um po ne kd P id c a ↔ P id a := (h.2.2.2.2.2.2 a).symm
theorem kc_end {f g : Nat → Nat} (h : kc_PrC po ne fr kd vs P id c) : kc_W f g (kc_uv po ne fr kd vs id c) (kc_um po ne kd P id c) = kc_W f g (vs id) (P id) :=
  kc_Wc (kc_end_V h) (kc_end_P h)
theorem kc_beg {f g : Nat → Nat} (h : kc_PrC po ne fr kd vs P id c) (h8 : ∀ v, vs id v = true → v < 8) : kc_W f g (kc_uv po ne fr kd vs id 0) (kc_um po ne kd P id 0) = kc_ov f g (po id) (ne id) (fr id) := by
  rw [← kc_Wown h.2.2.1 (fun v hv => h8 v ((h.2.2.2.2.2.1 v).mpr (Or.inl hv)))]
  exact kc_Wc (fun _ => rfl) (fun a => ⟨fun H => H.1, fun H => ⟨H, fun j hj => by omega⟩⟩)
theorem kc_choice {f g : Nat → Nat} (h : kc_Ch ch kd vs P id) : kc_W f g (vs id) (P id) = kc_W f g (vs (kc_n (kd (id * 4)))) (P (kc_n (kd (id * 4)))) + kc_W f g (vs (kc_n (kd (id * 4 + 1)))) (P (kc_n (kd (id * 4 + 1)))) := by
  rw [kc_Wor h.2.2.2.2.2.2 h.2.2.2.2.2.1]
  congr 1
  · exact kc_Wc (fun v => (h.2.2.2.1 v).symm) (fun _ => Iff.rfl)
  · exact kc_Wc (fun v => (h.2.2.2.2.1 v).symm) (fun _ => Iff.rfl)
end
/-! counting: the weights of must-be-true and must-be-false -/
def kc_cf (mf : Int32) (v : Nat) : Nat := bif bt mf v then 0 else 1
theorem kc_ov_ok {p n r mt mf : Int32} (hd : kc_Dj p n r) (h1 : (p &&& mf) = 0) (h2 : (n &&& mt) = 0) (h3 : (r &&& (mt &&& mf)) = 0) :
    kc_ov (kc_cf mf) (kc_cf mt) p n r = 2 ^ kb_cd (bt (r &&& ((mt ||| mf) ^^^ (-1)))) := by
  unfold kb_cd
  rw [← ks_pr2]
  apply ks_prc
  intro v hv
  have hdv := hd v
  rw [b_and, kb_not _ (by omega), b_or]
  unfold kc_cf
  cases hp : bt p v with
  | true =>
    have hf : bt mf v = false := ts_nt (fun z => kb_andz.mp h1 v ⟨hp, z⟩)
    have hr : bt r v = false := ts_nt (fun z => hdv.2.1 ⟨hp, z⟩)
    rw [hf, hr]; rfl
  | false =>
    cases hn : bt n v with
    | true =>
      have hf : bt mt v = false := ts_nt (fun z => kb_andz.mp h2 v ⟨hn, z⟩)
      have hr : bt r v = false := ts_nt (fun z => hdv.2.2 ⟨hn, z⟩)
      rw [hf, hr]; rfl
    | false =>
      cases hr : bt r v with
      | false => rfl
      | true =>
        cases ht : bt mt v with
        | false => cases hf : bt mf v <;> rfl
        | true =>
          cases hf : bt mf v with
          | false => rfl
          | true => exact absurd ⟨hr, by rw [b_and, ht, hf]; rfl⟩ (kb_andz.mp h3 v)
theorem kc_ov_no1 {p n r mt mf : Int32} (h8 : ∀ v, kc_own p n r v = true → v < 8) (h : ¬ (p &&& mf) = 0) : kc_ov (kc_cf mf) (kc_cf mt) p n r = 0 := by
  obtain ⟨v, hv, _⟩ := kb_nz h
  rw [b_and, Bool.and_eq_true] at hv
  refine ks_pr0 (w := v) 8 (h8 v (by unfold kc_own; rw [hv.1]; rfl)) ?_
  unfold kc_cf
  rw [hv.1, hv.2]; rfl
theorem kc_ov_no2 {p n r mt mf : Int32} (hd : kc_Dj p n r) (h8 : ∀ v, kc_own p n r v = true → v < 8) (h : ¬ (n &&& mt) = 0) : kc_ov (kc_cf mf) (kc_cf mt) p n r = 0 := by
  obtain ⟨v, hv, _⟩ := kb_nz h
  rw [b_and, Bool.and_eq_true] at hv
  have hp : bt p v = false := ts_nt (fun z => (hd v).1 ⟨z, hv.1⟩)
  refine ks_pr0 (w := v) 8 (h8 v (by unfold kc_own; rw [hv.1]; simp)) ?_
  unfold kc_cf
  rw [hp, hv.1, hv.2]; rfl
theorem kc_ov_no3 {p n r mt mf : Int32} (hd : kc_Dj p n r) (h8 : ∀ v, kc_own p n r v = true → v < 8) (h : ¬ (r &&& (mt &&& mf)) = 0) : kc_ov (kc_cf mf) (kc_cf mt) p n r = 0 := by
  obtain ⟨v, hv, _⟩ := kb_nz h
  rw [b_and, Bool.and_eq_true, b_and, Bool.and_eq_true] at hv
  have hp : bt p v = false := ts_nt (fun z => (hd v).2.1 ⟨z, hv.1⟩)
  have hn : bt n v = false := ts_nt (fun z => (hd v).2.2 ⟨z, hv.1⟩)
  refine ks_pr0 (w := v) 8 (h8 v (by unfold kc_own; rw [hv.1]; simp)) ?_
  unfold kc_cf
  rw [hp, hn, hv.1, hv.2.1, hv.2.2]; rfl
/-- the weights say: true where it must, false where it must -/
def kc_con (mt mf : Int32) (V a : Nat → Bool) : Prop := ∀ v, V v = true → (bt mt v = true → a v = true) ∧ (bt mf v = true → a v = false)
theorem kc_wtcon {mt mf : Int32} {V a : Nat → Bool} (h8 : ∀ v, V v = true → v < 8) : kc_wt (kc_cf mf) (kc_cf mt) V a = kt_b (kc_con mt mf V a) := by
  rw [show kt_b (kc_con mt mf V a) = kt_b (∀ v, v < 8 → (V v = true → (bt mt v = true → a v = true) ∧ (bt mf v = true → a v = false))) from kt_bc ⟨fun h v _ => h v, fun h v hv => h v (h8 v hv) hv⟩, ← ks_prb]
  apply ks_prc
  intro v _
  unfold kc_cf
  cases hV : V v with
  | false => rw [kt_b1 (fun z => by cases z)]; rfl
  | true =>
    cases ha : a v with
    | true =>
      cases hf : bt mf v with
      | true => rw [kt_b0 (fun z => by have := (z rfl).2 rfl; cases this)]; rfl
      | false => rw [kt_b1 (fun _ => ⟨fun _ => rfl, fun z => (by cases z)⟩)]; rfl
    | false =>
      cases ht : bt mt v with
      | true => rw [kt_b0 (fun z => by have := (z rfl).1 rfl; cases this)]; rfl
      | false => rw [kt_b1 (fun _ => ⟨(fun z => by cases z), fun _ => rfl⟩)]; rfl
end
section
/-! X's walks: bitCount, countModels -/
noncomputable def kc_val (f g : Nat → Nat) (vs : Nat → Nat → Bool) (P : Nat → (Nat → Bool) → Prop) (id : Nat) : Nat := if id = 0 then 0 else kc_W f g (vs id) (P id)
theorem kc_val0 {f g : Nat → Nat} {vs : Nat → Nat → Bool} {P : Nat → (Nat → Bool) → Prop} : kc_val f g vs P 0 = 0 := by unfold kc_val; exact if_pos rfl
theorem kc_valS {f g : Nat → Nat} {vs : Nat → Nat → Bool} {P : Nat → (Nat → Bool) → Prop} {id : Nat} (h : 1 ≤ id) : kc_val f g vs P id = kc_W f g (vs id) (P id) := by unfold kc_val; exact if_neg (by omega)
theorem kc_zero {po ne fr kd : Nat → Int32} {vs : Nat → Nat → Bool} {P : Nat → (Nat → Bool) → Prop} {id c : Nat} {f g : Nat → Nat} (hPD : ∀ x, 1 ≤ x → x < id → kc_PD (vs x) (P x)) (h : kc_PrC po ne fr kd vs P id c) (h8 : ∀ v, vs id v = true → v < 8)
    (h0 : kc_ov f g (po id) (ne id) (fr id) = 0) : kc_W f g (vs id) (P id) = 0 := by
  rw [← kc_end h]
  have : ∀ i, i ≤ c → kc_W f g (kc_uv po ne fr kd vs id i) (kc_um po ne kd P id i) = 0 := by
    intro i
    induction i with
    | zero => intro _; rw [kc_beg h h8, h0]
    | succ i ih => intro hi; rw [kc_step hPD h (by omega), ih (by omega), Nat.zero_mul]
  exact this c (Nat.le_refl _)
theorem kc_PrC_of {ch po ne fr kc kd : Nat → Int32} {vs : Nat → Nat → Bool} {P : Nat → (Nat → Bool) → Prop} {id : Nat} (h : kc_Pr ch po ne fr kc kd vs P id) : ∃ c, kc id = nI c ∧ kc_PrC po ne fr kd vs P id c := by
  obtain ⟨_, c, h1, h2, h3⟩ := h
  exact ⟨c, h2, h1, h3⟩
theorem kc_CPD {nc : Nat} {ch po ne fr kc kd : Nat → Int32} {vs : Nat → Nat → Bool} {P : Nat → (Nat → Bool) → Prop} (h : kc_C nc ch po ne fr kc kd vs P) {id : Nat} (hi : id < nc) : ∀ x, 1 ≤ x → x < id → kc_PD (vs x) (P x) := fun x h1 h2 => (h x h1 (by omega)).2.1
section
variable {f_varCount f_slotCount f_fullMask f_draftPos f_draftNeg f_state f_assumedCount f_assumedPos f_assumedNeg f_clauseCount f_nodeCount f_root f_depth f_result f_workPos f_workNeg f_workLive : Int32} {a_slotUsed a_slotPos a_slotNeg a_assumed a_weightPos a_weightNeg a_clausePos a_clauseNeg a_nodeChoice a_nodePos a_nodeNeg a_nodeFree a_nodeKids a_kids a_cacheKey a_cacheNode a_framePos a_frameNeg a_frameFree a_frameParts a_frameNext a_framePhase a_frameVar a_frameHigh a_partVars a_partClauses a_partNode a_value a_sizes a_poly a_product a_factorPos a_factorNeg : Nat → Int32}
variable {vs : Nat → Nat → Bool} {P : Nat → (Nat → Bool) → Prop} {nc rt : Nat}
theorem kw_bitCount {post : Int32 → Prop} (x : Int32) (h : post (nI (kb_cd (bt x)))) : wpX_bitCount post (f_varCount, f_slotCount, f_fullMask, f_draftPos, f_draftNeg, f_state, f_assumedCount, f_assumedPos, f_assumedNeg, f_clauseCount, f_nodeCount, f_root, f_depth, f_result, f_workPos, f_workNeg, f_workLive, a_slotUsed, a_slotPos, a_slotNeg, a_assumed, a_weightPos, a_weightNeg, a_clausePos, a_clauseNeg, a_nodeChoice, a_nodePos, a_nodeNeg, a_nodeFree, a_nodeKids, a_kids, a_cacheKey, a_cacheNode, a_framePos, a_frameNeg, a_frameFree, a_frameParts, a_frameNext, a_framePhase, a_frameVar, a_frameHigh, a_partVars, a_partClauses, a_partNode, a_value, a_sizes, a_poly, a_product, a_factorPos, a_factorNeg) x := by
  show ∃ n4 : Nat, wX_bitCount_4 post x f_varCount f_slotCount f_fullMask f_draftPos f_draftNeg f_state f_assumedCount f_assumedPos f_assumedNeg f_clauseCount f_nodeCount f_root f_depth f_result f_workPos f_workNeg f_workLive a_slotUsed a_slotPos a_slotNeg a_assumed a_weightPos a_weightNeg a_clausePos a_clauseNeg a_nodeChoice a_nodePos a_nodeNeg a_nodeFree a_nodeKids a_kids a_cacheKey a_cacheNode a_framePos a_frameNeg a_frameFree a_frameParts a_frameNext a_framePhase a_frameVar a_frameHigh a_partVars a_partClauses a_partNode a_value a_sizes a_poly a_product a_factorPos a_factorNeg n4 0 0
  refine loop_0 (fun n i s => wX_bitCount_4 post x f_varCount f_slotCount f_fullMask f_draftPos f_draftNeg f_state f_assumedCount f_assumedPos f_assumedNeg f_clauseCount f_nodeCount f_root f_depth f_result f_workPos f_workNeg f_workLive a_slotUsed a_slotPos a_slotNeg a_assumed a_weightPos a_weightNeg a_clausePos a_clauseNeg a_nodeChoice a_nodePos a_nodeNeg a_nodeFree a_nodeKids a_kids a_cacheKey a_cacheNode a_framePos a_frameNeg a_frameFree a_frameParts a_frameNext a_framePhase a_frameVar a_frameHigh a_partVars a_partClauses a_partNode a_value a_sizes a_poly a_product a_factorPos a_factorNeg n s (nI i)) (fun i s => s = nI (ks_sm i (fun v => (bt x v).toNat))) 8 0 rfl ?_ ?_
  · intro n s hs
    subst hs
    exact br_t (by decide) h
  · intro n i s hi hs hc
    subst hs
    refine pk_le 8 i (fun z => absurd z (by omega)) (fun _ => ?_)
    intro y ey z ez
    subst ey ez
    rw [nI_1 i, kb_ush x (by omega), nI_add]
    exact hc _ rfl
theorem kw_cm144 {post : Int32 → SX → Prop} {J : Int32 → (Nat → Int32) → (Nat → Int32) → (Nat → Int32) → (Nat → Int32) → (Nat → Int32) → (Nat → Int32) → (Nat → Int32) → (Nat → Int32) → (Nat → Int32) → (Nat → Int32) → (Nat → Int32) → (Nat → Int32) → (Nat → Int32) → (Nat → Int32) → (Nat → Int32) → (Nat → Int32) → (Nat → Int32) → (Nat → Int32) → (Nat → Int32) → (Nat → Int32) → (Nat → Int32) → (Nat → Int32) → (Nat → Int32) → (Nat → Int32) → (Nat → Int32) → (Nat → Int32) → (Nat → Int32) → (Nat → Int32) → (Nat → Int32) → (Nat → Int32) → (Nat → Int32) → (Nat → Int32) → (Nat → Int32) → Prop} {x1 x2 x3 x4 x6 : Int32} {i c : Nat} {f g : Nat → Nat} (hi : 1 ≤ i) (hi2 : i < 1024) (hkc : a_nodeKids i = nI c)
    (hPD : ∀ x, 1 ≤ x → x < i → kc_PD (vs x) (P x)) (h : kc_PrC a_nodePos a_nodeNeg a_nodeFree a_kids vs P i c)
    (hv : ∀ j, j < i → a_value j = nI (kc_val f g vs P j)) (K : J (nI (i + 1)) a_slotUsed a_slotPos a_slotNeg a_assumed a_weightPos a_weightNeg a_clausePos a_clauseNeg a_nodeChoice a_nodePos a_nodeNeg a_nodeFree a_nodeKids a_kids a_cacheKey a_cacheNode a_framePos a_frameNeg a_frameFree a_frameParts a_frameNext a_framePhase a_frameVar a_frameHigh a_partVars a_partClauses a_partNode (upd a_value i (nI (kc_W f g (vs i) (P i)))) a_sizes a_poly a_product a_factorPos a_factorNeg)
    (h6 : x6 = nI (kc_W f g (kc_uv a_nodePos a_nodeNeg a_nodeFree a_kids vs i 0) (kc_um a_nodePos a_nodeNeg a_kids P i 0))) :
    ∃ n, wX_countModels_144 post J x1 x2 x3 x4 (nI i) f_varCount f_slotCount f_fullMask f_draftPos f_draftNeg f_state f_assumedCount f_assumedPos f_assumedNeg f_clauseCount f_nodeCount f_root f_depth f_result f_workPos f_workNeg f_workLive a_slotUsed a_slotPos a_slotNeg a_assumed a_weightPos a_weightNeg a_clausePos a_clauseNeg a_nodeChoice a_nodePos a_nodeNeg a_nodeFree a_nodeKids a_kids a_cacheKey a_cacheNode a_framePos a_frameNeg a_frameFree a_frameParts a_frameNext a_framePhase a_frameVar a_frameHigh a_partVars a_partClauses a_partNode a_value a_sizes a_poly a_product a_factorPos a_factorNeg n x6 0 := by
  have ei : (nI i).toNatClampNeg = i := nI_clamp (by omega)
  have hc4 := h.1
  refine loop_0 (fun n j s => wX_countModels_144 post J x1 x2 x3 x4 (nI i) f_varCount f_slotCount f_fullMask f_draftPos f_draftNeg f_state f_assumedCount f_assumedPos f_assumedNeg f_clauseCount f_nodeCount f_root f_depth f_result f_workPos f_workNeg f_workLive a_slotUsed a_slotPos a_slotNeg a_assumed a_weightPos a_weightNeg a_clausePos a_clauseNeg a_nodeChoice a_nodePos a_nodeNeg a_nodeFree a_nodeKids a_kids a_cacheKey a_cacheNode a_framePos a_frameNeg a_frameFree a_frameParts a_frameNext a_framePhase a_frameVar a_frameHigh a_partVars a_partClauses a_partNode a_value a_sizes a_poly a_product a_factorPos a_factorNeg n s (nI j)) (fun j s => s = nI (kc_W f g (kc_uv a_nodePos a_nodeNeg a_nodeFree a_kids vs i j) (kc_um a_nodePos a_nodeNeg a_kids P i j))) c x6 h6 ?_ ?_
  · intro n s hs
    subst hs
    refine ⟨vp_in_nI hi2 (by omega), ?_⟩
    rw [ei, hkc]
    refine br_t (nI_le (Nat.le_refl _) (by omega)) ⟨vp_in_nI hi2 (by omega), ?_⟩
    intro y ey z ez
    subst ey ez
    rw [nI_1 i, kc_end h]
    exact K
  · intro n j s hj hs hc
    subst hs
    have e4 : nI i * 4 + nI j = nI (i * 4 + j) := by rw [show (4 : Int32) = nI 4 from rfl, pk_mul, nI_add]
    have ek := h.2.1 j hj
    refine ⟨vp_in_nI hi2 (by omega), ?_⟩
    rw [ei, hkc]
    refine br_f (nI_ge hj (by omega)) (br_f (nI_ge (b := 4) (by omega) (by decide)) ?_)
    rw [e4, nI_clamp (n := i * 4 + j) (by omega)]
    refine ⟨vp_in_nI (by omega) (by decide), by rw [ek.1]; exact vp_in_nI (by have := ek.2.2; omega) (by decide), ?_⟩
    intro y ey z ez
    subst ey ez
    rw [nI_1 j, show (a_kids (i * 4 + j)).toNatClampNeg = kc_n (a_kids (i * 4 + j)) from rfl, hv _ ek.2.2, kc_valS ek.2.1, pk_mul, ← kc_step hPD h hj]
    exact hc _ rfl
theorem kw_countModels {post : Int32 → SX → Prop} {mt mf : Int32} (hnc : f_nodeCount = nI nc) (hn1 : 1 ≤ nc) (hn2 : nc ≤ 1024) (hrt : f_root = nI rt) (hr2 : rt < nc)
    (hC : kc_C nc a_nodeChoice a_nodePos a_nodeNeg a_nodeFree a_nodeKids a_kids vs P)
    (K : ∀ val' : Nat → Int32, post (nI (kc_val (kc_cf mf) (kc_cf mt) vs P rt)) (f_varCount, f_slotCount, f_fullMask, f_draftPos, f_draftNeg, f_state, f_assumedCount, f_assumedPos, f_assumedNeg, f_clauseCount, f_nodeCount, f_root, f_depth, f_result, f_workPos, f_workNeg, f_workLive, a_slotUsed, a_slotPos, a_slotNeg, a_assumed, a_weightPos, a_weightNeg, a_clausePos, a_clauseNeg, a_nodeChoice, a_nodePos, a_nodeNeg, a_nodeFree, a_nodeKids, a_kids, a_cacheKey, a_cacheNode, a_framePos, a_frameNeg, a_frameFree, a_frameParts, a_frameNext, a_framePhase, a_frameVar, a_frameHigh, a_partVars, a_partClauses, a_partNode, val', a_sizes, a_poly, a_product, a_factorPos, a_factorNeg)) : wpX_countModels post (f_varCount, f_slotCount, f_fullMask, f_draftPos, f_draftNeg, f_state, f_assumedCount, f_assumedPos, f_assumedNeg, f_clauseCount, f_nodeCount, f_root, f_depth, f_result, f_workPos, f_workNeg, f_workLive, a_slotUsed, a_slotPos, a_slotNeg, a_assumed, a_weightPos, a_weightNeg, a_clausePos, a_clauseNeg, a_nodeChoice, a_nodePos, a_nodeNeg, a_nodeFree, a_nodeKids, a_kids, a_cacheKey, a_cacheNode, a_framePos, a_frameNeg, a_frameFree, a_frameParts, a_frameNext, a_framePhase, a_frameVar, a_frameHigh, a_partVars, a_partClauses, a_partNode, a_value, a_sizes, a_poly, a_product, a_factorPos, a_factorNeg) mt mf := by
  subst hnc hrt
  intro x3 e3 x4 e4 vv ev
  subst e3 e4 ev
  refine pk_loop (fun n i s => wX_countModels_19 post mt mf (mt ||| mf) (mt &&& mf) f_varCount f_slotCount f_fullMask f_draftPos f_draftNeg f_state f_assumedCount f_assumedPos f_assumedNeg f_clauseCount (nI nc) (nI rt) f_depth f_result f_workPos f_workNeg f_workLive n (nI i) a_slotUsed a_slotPos a_slotNeg a_assumed a_weightPos a_weightNeg a_clausePos a_clauseNeg a_nodeChoice a_nodePos a_nodeNeg a_nodeFree a_nodeKids a_kids a_cacheKey a_cacheNode a_framePos a_frameNeg a_frameFree a_frameParts a_frameNext a_framePhase a_frameVar a_frameHigh a_partVars a_partClauses a_partNode s a_sizes a_poly a_product a_factorPos a_factorNeg)
    (fun i s => 1 ≤ i ∧ ∀ j, j < i → s j = nI (kc_val (kc_cf mf) (kc_cf mt) vs P j)) nc 1 (upd a_value 0 0) hn1 ?_ ?_ ?_
  · refine ⟨Nat.le_refl _, fun j hj => ?_⟩
    have : j = 0 := by omega
    subst this
    rw [pk_us, kc_val0]; rfl
  · intro n s hs
    refine br_t (nI_le (Nat.le_refl _) (by omega)) ⟨vp_in_nI (by omega) (by decide), ?_⟩
    rw [nI_clamp (n := rt) (by omega), hs.2 rt hr2]
    exact K s
  · intro n i s hi hs hc
    obtain ⟨hi1, hs⟩ := hs
    obtain ⟨h8, hPD, hN⟩ := hC i hi1 hi
    have ei : (nI i).toNatClampNeg = i := nI_clamp (by omega)
    refine br_f (nI_ge hi (by omega)) ⟨vp_in_nI (by omega) (by decide), ?_⟩
    rw [ei]
    have fin : ∀ w : Int32, w = nI (kc_W (kc_cf mf) (kc_cf mt) (vs i) (P i)) → (1 ≤ i + 1 ∧ ∀ j, j < i + 1 → upd s i w j = nI (kc_val (kc_cf mf) (kc_cf mt) vs P j)) := by
      intro w hw
      refine ⟨by omega, fun j hj => ?_⟩
      by_cases e : j = i
      · subst e; rw [pk_us, kc_valS hi1]; exact hw
      · rw [pk_un e]; exact hs j (by omega)
    rcases hN with hch | hpr
    · have e4 : nI i * 4 = nI (i * 4) := by rw [show (4 : Int32) = nI 4 from rfl, pk_mul]
      have k0 := hch.2.1
      have k1 := hch.2.2.1
      refine br_f hch.1 ?_
      rw [e4, nI_1 (i * 4), nI_clamp (n := i * 4) (by omega), nI_clamp (n := i * 4 + 1) (by omega)]
      refine ⟨vp_in_nI (by omega) (by decide), by rw [k0.1]; exact vp_in_nI (by have := k0.2.2; omega) (by decide), vp_in_nI (by omega) (by decide), by rw [k1.1]; exact vp_in_nI (by have := k1.2.2; omega) (by decide), ?_⟩
      intro y ey
      refine ⟨vp_in_nI (by omega) (by decide), ?_⟩
      intro z ez w ew
      subst ey ez ew
      rw [nI_1 i]
      refine hc _ (fin _ ?_)
      rw [kc_choice hch, ← nI_add]
      congr 1
      · exact (hs _ k0.2.2).trans (by rw [kc_valS k0.2.1])
      · exact (hs _ k1.2.2).trans (by rw [kc_valS k1.2.1])
    · refine br_t hpr.1 ⟨vp_in_nI (by omega) (by decide), ?_⟩
      obtain ⟨c, hkc, hp⟩ := kc_PrC_of hpr
      have hPD' := kc_CPD hC hi
      have ho : ∀ v, kc_own (a_nodePos i) (a_nodeNeg i) (a_nodeFree i) v = true → v < 8 := fun v hv => h8 v ((hp.2.2.2.2.2.1 v).mpr (Or.inl hv))
      have hd := hp.2.2.1
      have z0 : kc_ov (kc_cf mf) (kc_cf mt) (a_nodePos i) (a_nodeNeg i) (a_nodeFree i) = 0 → (0 : Int32) = nI (kc_W (kc_cf mf) (kc_cf mt) (vs i) (P i)) := fun h => by
        rw [kc_zero hPD' hp h8 h]; rfl
      refine br_c (fun c1 => ⟨vp_in_nI (by omega) (by decide), br_c (fun c2 => ⟨vp_in_nI (by omega) (by decide), br_c (fun c3 => ⟨vp_in_nI (by omega) (by decide), ?_⟩) (fun c3 => ⟨vp_in_nI (by omega) (by decide), ?_⟩)⟩) (fun c2 => ⟨vp_in_nI (by omega) (by decide), ?_⟩)⟩) (fun c1 => ⟨vp_in_nI (by omega) (by decide), ?_⟩)
      · intro y ey
        subst ey
        refine kw_bitCount _ ?_
        intro z ez
        subst ez
        refine kw_cm144 (f := kc_cf mf) (g := kc_cf mt) hi1 (by omega) hkc hPD' hp hs (hc _ (fin _ rfl)) ?_
        rw [kc_beg hp h8, kc_ov_ok hd c1 c2 c3]
        have h88 := kb_cd8 (bt (a_nodeFree i &&& ((mt ||| mf) ^^^ (-1))))
        exact kb_pow (by omega)
      · intro y ey z ez
        subst ey ez
        rw [nI_1 i]
        exact hc _ (fin _ (z0 (kc_ov_no3 hd ho c3)))
      · intro y ey z ez
        subst ey ez
        rw [nI_1 i]
        exact hc _ (fin _ (z0 (kc_ov_no2 hd ho c2)))
      · intro y ey z ez
        subst ey ez
        rw [nI_1 i]
        exact hc _ (fin _ (z0 (kc_ov_no1 ho c1)))
end
end
section
/-! X's walks: weighOwn, weighted -/
theorem kw_mm (a b : Nat) : a % 32749 * b % 32749 = a * b % 32749 := by rw [Nat.mul_mod, Nat.mod_mod, ← Nat.mul_mod]
theorem kw_mm2 (a b : Nat) : a % 32749 * (b % 32749) % 32749 = a * b % 32749 := (Nat.mul_mod a b 32749).symm
theorem kw_am (a b : Nat) : (a % 32749 + b % 32749) % 32749 = (a + b) % 32749 := (Nat.add_mod a b 32749).symm
theorem kw_lt2 {a b : Nat} (ha : a < 32749) (hb : b < 32749) : a * b < 2 ^ 31 := Nat.lt_of_le_of_lt (Nat.mul_le_mul (Nat.le_of_lt ha) (Nat.le_of_lt hb)) (by decide)
theorem kw_rem {a : Nat} (ha : a < 2 ^ 31) : nI a - nI a / 32749 * 32749 = nI (a % 32749) := pk_rem (d := 32749) ha (by decide) (by decide)
section
variable {f_varCount f_slotCount f_fullMask f_draftPos f_draftNeg f_state f_assumedCount f_assumedPos f_assumedNeg f_clauseCount f_nodeCount f_root f_depth f_result f_workPos f_workNeg f_workLive : Int32} {a_slotUsed a_slotPos a_slotNeg a_assumed a_weightPos a_weightNeg a_clausePos a_clauseNeg a_nodeChoice a_nodePos a_nodeNeg a_nodeFree a_nodeKids a_kids a_cacheKey a_cacheNode a_framePos a_frameNeg a_frameFree a_frameParts a_frameNext a_framePhase a_frameVar a_frameHigh a_partVars a_partClauses a_partNode a_value a_sizes a_poly a_product a_factorPos a_factorNeg : Nat → Int32}
variable {vs : Nat → Nat → Bool} {P : Nat → (Nat → Bool) → Prop} {nc rt : Nat} {F G : Nat → Nat}
theorem kw_weighOwn {post : Int32 → Prop} {i : Nat} (hi : i < 1024) (hF : ∀ v, v < 8 → F v < 32749 ∧ a_factorPos v = nI (F v)) (hG : ∀ v, v < 8 → G v < 32749 ∧ a_factorNeg v = nI (G v))
    (K : post (nI (kc_ov F G (a_nodePos i) (a_nodeNeg i) (a_nodeFree i) % 32749))) : wpX_weighOwn post (f_varCount, f_slotCount, f_fullMask, f_draftPos, f_draftNeg, f_state, f_assumedCount, f_assumedPos, f_assumedNeg, f_clauseCount, f_nodeCount, f_root, f_depth, f_result, f_workPos, f_workNeg, f_workLive, a_slotUsed, a_slotPos, a_slotNeg, a_assumed, a_weightPos, a_weightNeg, a_clausePos, a_clauseNeg, a_nodeChoice, a_nodePos, a_nodeNeg, a_nodeFree, a_nodeKids, a_kids, a_cacheKey, a_cacheNode, a_framePos, a_frameNeg, a_frameFree, a_frameParts, a_frameNext, a_framePhase, a_frameVar, a_frameHigh, a_partVars, a_partClauses, a_partNode, a_value, a_sizes, a_poly, a_product, a_factorPos, a_factorNeg) (nI i) := by
  have ei : (nI i).toNatClampNeg = i := nI_clamp (by omega)
  have hin : vp_in (nI i) 1024 := vp_in_nI hi (by decide)
  refine loop_0 (fun n k s => wX_weighOwn_4 post (nI i) f_varCount f_slotCount f_fullMask f_draftPos f_draftNeg f_state f_assumedCount f_assumedPos f_assumedNeg f_clauseCount f_nodeCount f_root f_depth f_result f_workPos f_workNeg f_workLive a_slotUsed a_slotPos a_slotNeg a_assumed a_weightPos a_weightNeg a_clausePos a_clauseNeg a_nodeChoice a_nodePos a_nodeNeg a_nodeFree a_nodeKids a_kids a_cacheKey a_cacheNode a_framePos a_frameNeg a_frameFree a_frameParts a_frameNext a_framePhase a_frameVar a_frameHigh a_partVars a_partClauses a_partNode a_value a_sizes a_poly a_product a_factorPos a_factorNeg n s (nI k)) (fun k s => s = nI (ks_pr k (fun v => bif bt (a_nodePos i) v then F v else bif bt (a_nodeNeg i) v then G v else bif bt (a_nodeFree i) v then F v + G v else 1) % 32749)) 8 1 rfl ?_ ?_
  · intro n s hs
    subst hs
    exact br_t (by decide) K
  · intro n k s hk hs hc
    subst hs
    have ek : (nI k).toNatClampNeg = k := nI_clamp (by omega)
    have hink : vp_in (nI k) 8 := vp_in_nI hk (by decide)
    have hF1 := hF k hk
    have hG1 := hG k hk
    generalize hA : ks_pr k (fun v => bif bt (a_nodePos i) v then F v else bif bt (a_nodeNeg i) v then G v else bif bt (a_nodeFree i) v then F v + G v else 1) = A
    have hAs : ks_pr (k + 1) (fun v => bif bt (a_nodePos i) v then F v else bif bt (a_nodeNeg i) v then G v else bif bt (a_nodeFree i) v then F v + G v else 1) = A * (bif bt (a_nodePos i) k then F k else bif bt (a_nodeNeg i) k then G k else bif bt (a_nodeFree i) k then F k + G k else 1) := by rw [← hA]; rfl
    have hAm : A % 32749 < 32749 := Nat.mod_lt _ (by decide)
    have nxt : ∀ (e : Nat), (bif bt (a_nodePos i) k then F k else bif bt (a_nodeNeg i) k then G k else bif bt (a_nodeFree i) k then F k + G k else 1) = e → ∀ x, x = nI (A * e % 32749) → ∀ y, y = nI k + 1 → wX_weighOwn_4 post (nI i) f_varCount f_slotCount f_fullMask f_draftPos f_draftNeg f_state f_assumedCount f_assumedPos f_assumedNeg f_clauseCount f_nodeCount f_root f_depth f_result f_workPos f_workNeg f_workLive a_slotUsed a_slotPos a_slotNeg a_assumed a_weightPos a_weightNeg a_clausePos a_clauseNeg a_nodeChoice a_nodePos a_nodeNeg a_nodeFree a_nodeKids a_kids a_cacheKey a_cacheNode a_framePos a_frameNeg a_frameFree a_frameParts a_frameNext a_framePhase a_frameVar a_frameHigh a_partVars a_partClauses a_partNode a_value a_sizes a_poly a_product a_factorPos a_factorNeg n x y := by
      intro e he x ex y ey
      subst ex ey
      rw [nI_1 k]
      exact hc _ (by rw [hAs, he])
    refine br_f (nI_ge (b := 8) hk (by decide)) ?_
    intro x4 e4
    subst e4
    refine ⟨hin, ?_⟩
    rw [ei]
    refine br_c (fun c1 => ⟨hin, br_c (fun c2 => ⟨hin, br_c (fun c3 => ?_) (fun c3 => ⟨hink, hink, by decide, ?_⟩)⟩) (fun c2 => ⟨hink, by decide, ?_⟩)⟩) (fun c1 => ⟨hink, by decide, ?_⟩)
    · rw [kb_t _ (by omega)] at c1 c2 c3
      refine nxt 1 (by rw [c1, c2, c3]; rfl) _ (by rw [Nat.mul_one])
    · rw [kb_t _ (by omega)] at c1 c2 c3
      have c3' := ts_nf c3
      rw [ek, hF1.2, hG1.2, nI_add, kw_rem (by omega)]
      intro x5 e5
      subst e5
      refine ⟨by decide, ?_⟩
      rw [pk_mul, kw_rem (kw_lt2 hAm (Nat.mod_lt _ (by decide))), kw_mm2]
      exact nxt (F k + G k) (by rw [c1, c2, c3']; rfl)
    · rw [kb_t _ (by omega)] at c1 c2
      have c2' := ts_nf c2
      rw [ek, hG1.2, pk_mul, kw_rem (kw_lt2 hAm hG1.1), kw_mm]
      exact nxt (G k) (by rw [c1, c2']; rfl)
    · rw [kb_t _ (by omega)] at c1
      have c1' := ts_nf c1
      rw [ek, hF1.2, pk_mul, kw_rem (kw_lt2 hAm hF1.1), kw_mm]
      exact nxt (F k) (by rw [c1']; rfl)
theorem kw_w149 {post : Int32 → SX → Prop} {J : Int32 → (Nat → Int32) → (Nat → Int32) → (Nat → Int32) → (Nat → Int32) → (Nat → Int32) → (Nat → Int32) → (Nat → Int32) → (Nat → Int32) → (Nat → Int32) → (Nat → Int32) → (Nat → Int32) → (Nat → Int32) → (Nat → Int32) → (Nat → Int32) → (Nat → Int32) → (Nat → Int32) → (Nat → Int32) → (Nat → Int32) → (Nat → Int32) → (Nat → Int32) → (Nat → Int32) → (Nat → Int32) → (Nat → Int32) → (Nat → Int32) → (Nat → Int32) → (Nat → Int32) → (Nat → Int32) → (Nat → Int32) → (Nat → Int32) → (Nat → Int32) → (Nat → Int32) → (Nat → Int32) → (Nat → Int32) → Prop} {x6 : Int32} {i c : Nat} (hi : 1 ≤ i) (hi2 : i < 1024) (hkc : a_nodeKids i = nI c)
    (hPD : ∀ x, 1 ≤ x → x < i → kc_PD (vs x) (P x)) (h : kc_PrC a_nodePos a_nodeNeg a_nodeFree a_kids vs P i c)
    (hv : ∀ j, j < i → a_value j = nI (kc_val F G vs P j % 32749)) (K : J (nI (i + 1)) a_slotUsed a_slotPos a_slotNeg a_assumed a_weightPos a_weightNeg a_clausePos a_clauseNeg a_nodeChoice a_nodePos a_nodeNeg a_nodeFree a_nodeKids a_kids a_cacheKey a_cacheNode a_framePos a_frameNeg a_frameFree a_frameParts a_frameNext a_framePhase a_frameVar a_frameHigh a_partVars a_partClauses a_partNode (upd a_value i (nI (kc_W F G (vs i) (P i) % 32749))) a_sizes a_poly a_product a_factorPos a_factorNeg)
    (h6 : x6 = nI (kc_W F G (kc_uv a_nodePos a_nodeNeg a_nodeFree a_kids vs i 0) (kc_um a_nodePos a_nodeNeg a_kids P i 0) % 32749)) :
    ∃ n, wX_weighted_149 post J (nI i) f_varCount f_slotCount f_fullMask f_draftPos f_draftNeg f_state f_assumedCount f_assumedPos f_assumedNeg f_clauseCount f_nodeCount f_root f_depth f_result f_workPos f_workNeg f_workLive a_slotUsed a_slotPos a_slotNeg a_assumed a_weightPos a_weightNeg a_clausePos a_clauseNeg a_nodeChoice a_nodePos a_nodeNeg a_nodeFree a_nodeKids a_kids a_cacheKey a_cacheNode a_framePos a_frameNeg a_frameFree a_frameParts a_frameNext a_framePhase a_frameVar a_frameHigh a_partVars a_partClauses a_partNode a_value a_sizes a_poly a_product a_factorPos a_factorNeg n x6 0 := by
  have ei : (nI i).toNatClampNeg = i := nI_clamp (by omega)
  have hc4 := h.1
  refine loop_0 (fun n j s => wX_weighted_149 post J (nI i) f_varCount f_slotCount f_fullMask f_draftPos f_draftNeg f_state f_assumedCount f_assumedPos f_assumedNeg f_clauseCount f_nodeCount f_root f_depth f_result f_workPos f_workNeg f_workLive a_slotUsed a_slotPos a_slotNeg a_assumed a_weightPos a_weightNeg a_clausePos a_clauseNeg a_nodeChoice a_nodePos a_nodeNeg a_nodeFree a_nodeKids a_kids a_cacheKey a_cacheNode a_framePos a_frameNeg a_frameFree a_frameParts a_frameNext a_framePhase a_frameVar a_frameHigh a_partVars a_partClauses a_partNode a_value a_sizes a_poly a_product a_factorPos a_factorNeg n s (nI j)) (fun j s => s = nI (kc_W F G (kc_uv a_nodePos a_nodeNeg a_nodeFree a_kids vs i j) (kc_um a_nodePos a_nodeNeg a_kids P i j) % 32749)) c x6 h6 ?_ ?_
  · intro n s hs
    subst hs
    refine ⟨vp_in_nI hi2 (by omega), ?_⟩
    rw [ei, hkc]
    refine br_t (nI_le (Nat.le_refl _) (by omega)) ⟨vp_in_nI hi2 (by omega), ?_⟩
    intro y ey z ez
    subst ey ez
    rw [nI_1 i, kc_end h]
    exact K
  · intro n j s hj hs hc
    subst hs
    have e4 : nI i * 4 + nI j = nI (i * 4 + j) := by rw [show (4 : Int32) = nI 4 from rfl, pk_mul, nI_add]
    have ek := h.2.1 j hj
    refine ⟨vp_in_nI hi2 (by omega), ?_⟩
    rw [ei, hkc]
    refine br_f (nI_ge hj (by omega)) (br_f (nI_ge (b := 4) (by omega) (by decide)) ?_)
    rw [e4, nI_clamp (n := i * 4 + j) (by omega)]
    refine ⟨vp_in_nI (by omega) (by decide), by rw [ek.1]; exact vp_in_nI (by have := ek.2.2; omega) (by decide), by decide, ?_⟩
    rw [show (a_kids (i * 4 + j)).toNatClampNeg = kc_n (a_kids (i * 4 + j)) from rfl, hv _ ek.2.2, kc_valS ek.2.1, pk_mul, kw_rem (kw_lt2 (Nat.mod_lt _ (by decide)) (Nat.mod_lt _ (by decide))), kw_mm2, ← kc_step hPD h hj]
    intro y ey z ez
    subst ey ez
    rw [nI_1 j]
    exact hc _ rfl
theorem kw_w87 {post : Int32 → SX → Prop} (hnc : f_nodeCount = nI nc) (hn1 : 1 ≤ nc) (hn2 : nc ≤ 1024) (hrt : f_root = nI rt) (hr2 : rt < nc)
    (hC : kc_C nc a_nodeChoice a_nodePos a_nodeNeg a_nodeFree a_nodeKids a_kids vs P) (hF : ∀ v, v < 8 → F v < 32749 ∧ a_factorPos v = nI (F v)) (hG : ∀ v, v < 8 → G v < 32749 ∧ a_factorNeg v = nI (G v))
    (K : ∀ val' : Nat → Int32, post (nI (kc_val F G vs P rt % 32749)) (f_varCount, f_slotCount, f_fullMask, f_draftPos, f_draftNeg, f_state, f_assumedCount, f_assumedPos, f_assumedNeg, f_clauseCount, f_nodeCount, f_root, f_depth, f_result, f_workPos, f_workNeg, f_workLive, a_slotUsed, a_slotPos, a_slotNeg, a_assumed, a_weightPos, a_weightNeg, a_clausePos, a_clauseNeg, a_nodeChoice, a_nodePos, a_nodeNeg, a_nodeFree, a_nodeKids, a_kids, a_cacheKey, a_cacheNode, a_framePos, a_frameNeg, a_frameFree, a_frameParts, a_frameNext, a_framePhase, a_frameVar, a_frameHigh, a_partVars, a_partClauses, a_partNode, val', a_sizes, a_poly, a_product, a_factorPos, a_factorNeg)) : ∃ n, wX_weighted_87 post f_varCount f_slotCount f_fullMask f_draftPos f_draftNeg f_state f_assumedCount f_assumedPos f_assumedNeg f_clauseCount f_nodeCount f_root f_depth f_result f_workPos f_workNeg f_workLive n 1 a_slotUsed a_slotPos a_slotNeg a_assumed a_weightPos a_weightNeg a_clausePos a_clauseNeg a_nodeChoice a_nodePos a_nodeNeg a_nodeFree a_nodeKids a_kids a_cacheKey a_cacheNode a_framePos a_frameNeg a_frameFree a_frameParts a_frameNext a_framePhase a_frameVar a_frameHigh a_partVars a_partClauses a_partNode (upd a_value 0 0) a_sizes a_poly a_product a_factorPos a_factorNeg := by
  subst hnc hrt
  refine pk_loop (fun n i s => wX_weighted_87 post f_varCount f_slotCount f_fullMask f_draftPos f_draftNeg f_state f_assumedCount f_assumedPos f_assumedNeg f_clauseCount (nI nc) (nI rt) f_depth f_result f_workPos f_workNeg f_workLive n (nI i) a_slotUsed a_slotPos a_slotNeg a_assumed a_weightPos a_weightNeg a_clausePos a_clauseNeg a_nodeChoice a_nodePos a_nodeNeg a_nodeFree a_nodeKids a_kids a_cacheKey a_cacheNode a_framePos a_frameNeg a_frameFree a_frameParts a_frameNext a_framePhase a_frameVar a_frameHigh a_partVars a_partClauses a_partNode s a_sizes a_poly a_product a_factorPos a_factorNeg)
    (fun i s => 1 ≤ i ∧ ∀ j, j < i → s j = nI (kc_val F G vs P j % 32749)) nc 1 (upd a_value 0 0) hn1 ?_ ?_ ?_
  · refine ⟨Nat.le_refl _, fun j hj => ?_⟩
    have : j = 0 := by omega
    subst this
    rw [pk_us, kc_val0]; rfl
  · intro n s hs
    refine br_t (nI_le (Nat.le_refl _) (by omega)) ⟨vp_in_nI (by omega) (by decide), ?_⟩
    rw [nI_clamp (n := rt) (by omega), hs.2 rt hr2]
    exact K s
  · intro n i s hi hs hc
    obtain ⟨hi1, hs⟩ := hs
    obtain ⟨h8, hPD, hN⟩ := hC i hi1 hi
    have ei : (nI i).toNatClampNeg = i := nI_clamp (by omega)
    refine br_f (nI_ge hi (by omega)) ⟨vp_in_nI (by omega) (by decide), ?_⟩
    rw [ei]
    have fin : ∀ w : Int32, w = nI (kc_W F G (vs i) (P i) % 32749) → (1 ≤ i + 1 ∧ ∀ j, j < i + 1 → upd s i w j = nI (kc_val F G vs P j % 32749)) := by
      intro w hw
      refine ⟨by omega, fun j hj => ?_⟩
      by_cases e : j = i
      · subst e; rw [pk_us, kc_valS hi1]; exact hw
      · rw [pk_un e]; exact hs j (by omega)
    rcases hN with hch | hpr
    · have e4 : nI i * 4 = nI (i * 4) := by rw [show (4 : Int32) = nI 4 from rfl, pk_mul]
      have k0 := hch.2.1
      have k1 := hch.2.2.1
      refine br_f hch.1 ?_
      rw [e4, nI_1 (i * 4), nI_clamp (n := i * 4) (by omega), nI_clamp (n := i * 4 + 1) (by omega)]
      refine ⟨vp_in_nI (by omega) (by decide), by rw [k0.1]; exact vp_in_nI (by have := k0.2.2; omega) (by decide), vp_in_nI (by omega) (by decide), by rw [k1.1]; exact vp_in_nI (by have := k1.2.2; omega) (by decide), by decide, ?_⟩
      have m0 : ∀ a, a % 32749 < 32749 := fun a => Nat.mod_lt _ (by decide)
      rw [show (a_kids (i * 4)).toNatClampNeg = kc_n (a_kids (i * 4)) from rfl, show (a_kids (i * 4 + 1)).toNatClampNeg = kc_n (a_kids (i * 4 + 1)) from rfl, hs _ k0.2.2, hs _ k1.2.2, nI_add, kw_rem (by have := m0 (kc_val F G vs P (kc_n (a_kids (i * 4)))); have := m0 (kc_val F G vs P (kc_n (a_kids (i * 4 + 1)))); omega), kw_am]
      intro y ey
      refine ⟨vp_in_nI (by omega) (by decide), ?_⟩
      intro z ez w ew
      subst ey ez ew
      rw [nI_1 i]
      refine hc _ (fin _ ?_)
      rw [kc_choice hch, kc_valS k0.2.1, kc_valS k1.2.1]
    · refine br_t hpr.1 ?_
      obtain ⟨c, hkc, hp⟩ := kc_PrC_of hpr
      have hPD' := kc_CPD hC hi
      refine kw_weighOwn (F := F) (G := G) (by omega) hF hG ?_
      refine kw_w149 (F := F) (G := G) hi1 (by omega) hkc hPD' hp hs (hc _ (fin _ rfl)) ?_
      rw [kc_beg hp h8]
theorem kw_weighted {post : Int32 → SX → Prop} {wP wN : Nat → Nat} (hst : ¬ f_state = 0) (hnc : f_nodeCount = nI nc) (hn1 : 1 ≤ nc) (hn2 : nc ≤ 1024) (hrt : f_root = nI rt) (hr2 : rt < nc)
    (hC : kc_C nc a_nodeChoice a_nodePos a_nodeNeg a_nodeFree a_nodeKids a_kids vs P) (hP : ∀ v, v < 8 → wP v < 32749 ∧ a_weightPos v = nI (wP v)) (hN : ∀ v, v < 8 → wN v < 32749 ∧ a_weightNeg v = nI (wN v))
    (K : ∀ val' fp fn : Nat → Int32, post (nI (kc_val (fun v => bif bt f_assumedNeg v then 0 else wP v) (fun v => bif bt f_assumedPos v then 0 else wN v) vs P rt % 32749)) (f_varCount, f_slotCount, f_fullMask, f_draftPos, f_draftNeg, f_state, f_assumedCount, f_assumedPos, f_assumedNeg, f_clauseCount, f_nodeCount, f_root, f_depth, f_result, f_workPos, f_workNeg, f_workLive, a_slotUsed, a_slotPos, a_slotNeg, a_assumed, a_weightPos, a_weightNeg, a_clausePos, a_clauseNeg, a_nodeChoice, a_nodePos, a_nodeNeg, a_nodeFree, a_nodeKids, a_kids, a_cacheKey, a_cacheNode, a_framePos, a_frameNeg, a_frameFree, a_frameParts, a_frameNext, a_framePhase, a_frameVar, a_frameHigh, a_partVars, a_partClauses, a_partNode, val', a_sizes, a_poly, a_product, fp, fn)) : wpX_weighted post (f_varCount, f_slotCount, f_fullMask, f_draftPos, f_draftNeg, f_state, f_assumedCount, f_assumedPos, f_assumedNeg, f_clauseCount, f_nodeCount, f_root, f_depth, f_result, f_workPos, f_workNeg, f_workLive, a_slotUsed, a_slotPos, a_slotNeg, a_assumed, a_weightPos, a_weightNeg, a_clausePos, a_clauseNeg, a_nodeChoice, a_nodePos, a_nodeNeg, a_nodeFree, a_nodeKids, a_kids, a_cacheKey, a_cacheNode, a_framePos, a_frameNeg, a_frameFree, a_frameParts, a_frameNext, a_framePhase, a_frameVar, a_frameHigh, a_partVars, a_partClauses, a_partNode, a_value, a_sizes, a_poly, a_product, a_factorPos, a_factorNeg) := by
  refine br_f hst ?_
  refine loop_0 (σ := (Nat → Int32) × (Nat → Int32)) (fun n k s => wX_weighted_12 post f_varCount f_slotCount f_fullMask f_draftPos f_draftNeg f_state f_assumedCount f_assumedPos f_assumedNeg f_clauseCount f_nodeCount f_root f_depth f_result f_workPos f_workNeg f_workLive n (nI k) a_slotUsed a_slotPos a_slotNeg a_assumed a_weightPos a_weightNeg a_clausePos a_clauseNeg a_nodeChoice a_nodePos a_nodeNeg a_nodeFree a_nodeKids a_kids a_cacheKey a_cacheNode a_framePos a_frameNeg a_frameFree a_frameParts a_frameNext a_framePhase a_frameVar a_frameHigh a_partVars a_partClauses a_partNode a_value a_sizes a_poly a_product s.1 s.2)
    (fun k s => ∀ v, v < k → s.1 v = nI (bif bt f_assumedNeg v then 0 else wP v) ∧ s.2 v = nI (bif bt f_assumedPos v then 0 else wN v)) 8 (a_factorPos, a_factorNeg) (fun v hv => absurd hv (Nat.not_lt_zero _)) ?_ ?_
  · rintro n ⟨fp, fn⟩ hs
    dsimp only at hs ⊢
    refine br_t (by decide) ?_
    intro y ey
    subst ey
    refine kw_w87 (F := fun v => bif bt f_assumedNeg v then 0 else wP v) (G := fun v => bif bt f_assumedPos v then 0 else wN v) hnc hn1 hn2 hrt hr2 hC (fun v hv => ⟨?_, (hs v hv).1⟩) (fun v hv => ⟨?_, (hs v hv).2⟩) (fun val' => K val' fp fn)
    · cases bt f_assumedNeg v
      · exact (hP v hv).1
      · exact (by decide : 0 < 32749)
    · cases bt f_assumedPos v
      · exact (hN v hv).1
      · exact (by decide : 0 < 32749)
  · rintro n k ⟨fp, fn⟩ hk hs hc
    dsimp only at hs hc ⊢
    have ek : (nI k).toNatClampNeg = k := nI_clamp (by omega)
    have hink : vp_in (nI k) 8 := vp_in_nI hk (by decide)
    have join : ∀ z0 : Int32, z0 = nI (bif bt f_assumedNeg k then 0 else wP k) → wX_weighted_46 post (wX_weighted_12 post f_varCount f_slotCount f_fullMask f_draftPos f_draftNeg f_state f_assumedCount f_assumedPos f_assumedNeg f_clauseCount f_nodeCount f_root f_depth f_result f_workPos f_workNeg f_workLive n) (nI k) ((1 : Int32) <<< (nI k &&& 31)) z0 (nI k) f_varCount f_slotCount f_fullMask f_draftPos f_draftNeg f_state f_assumedCount f_assumedPos f_assumedNeg f_clauseCount f_nodeCount f_root f_depth f_result f_workPos f_workNeg f_workLive a_slotUsed a_slotPos a_slotNeg a_assumed a_weightPos a_weightNeg a_clausePos a_clauseNeg a_nodeChoice a_nodePos a_nodeNeg a_nodeFree a_nodeKids a_kids a_cacheKey a_cacheNode a_framePos a_frameNeg a_frameFree a_frameParts a_frameNext a_framePhase a_frameVar a_frameHigh a_partVars a_partClauses a_partNode a_value a_sizes a_poly a_product fp fn := by
      intro z0 ez
      refine ⟨hink, ?_⟩
      intro y ey
      rw [ek] at ey
      subst ey
      have fin : ∀ x, x = nI (bif bt f_assumedPos k then 0 else wN k) → wX_weighted_12 post f_varCount f_slotCount f_fullMask f_draftPos f_draftNeg f_state f_assumedCount f_assumedPos f_assumedNeg f_clauseCount f_nodeCount f_root f_depth f_result f_workPos f_workNeg f_workLive n (nI k + 1) a_slotUsed a_slotPos a_slotNeg a_assumed a_weightPos a_weightNeg a_clausePos a_clauseNeg a_nodeChoice a_nodePos a_nodeNeg a_nodeFree a_nodeKids a_kids a_cacheKey a_cacheNode a_framePos a_frameNeg a_frameFree a_frameParts a_frameNext a_framePhase a_frameVar a_frameHigh a_partVars a_partClauses a_partNode a_value a_sizes a_poly a_product (upd fp k z0) (upd fn k x) := by
        intro x ex
        rw [nI_1 k]
        refine hc (upd fp k z0, upd fn k x) (fun v hv => ?_)
        dsimp only
        by_cases e : v = k
        · subst e; rw [pk_us, pk_us]; exact ⟨ez, ex⟩
        · rw [pk_un e, pk_un e]; exact hs v (by omega)
      refine br_c (fun c => ⟨hink, hink, ?_⟩) (fun c => ⟨hink, ?_⟩)
      · intro y ey w ew
        rw [ek] at ey
        subst ey ew
        refine fin _ ?_
        rw [kb_t _ (by omega)] at c
        rw [c]; exact (hN k hk).2
      · intro y ey w ew
        rw [ek] at ey
        subst ey ew
        refine fin _ ?_
        rw [kb_t _ (by omega)] at c
        rw [ts_nf c]; rfl
    refine br_f (nI_ge (b := 8) hk (by decide)) ?_
    intro x2 e2
    subst e2
    refine br_c (fun c => ⟨hink, ?_⟩) (fun c => ?_)
    · refine join _ ?_
      rw [kb_t _ (by omega)] at c
      rw [c, ek]; exact (hP k hk).2
    · refine join _ ?_
      rw [kb_t _ (by omega)] at c
      rw [ts_nf c]; rfl
end
end
section
/-! clauses, restricted to a set of variables; unit propagation's invariant -/
theorem kb_lo8N {x : Int32} (h : kb_lo8 x) : ∃ r, r < 256 ∧ x = nI r := by
  refine ⟨x.toBitVec.toNat % 256, Nat.mod_lt _ (by decide), ?_⟩
  apply b_ext
  intro i hi
  rw [kb_nI _ hi, show (256 : Nat) = 2 ^ 8 from rfl, Nat.testBit_mod_two_pow]
  have e : bt x i = x.toBitVec.toNat.testBit i := rfl
  by_cases h8 : i < 8
  · rw [e]; simp [h8]
  · rw [ts_nt (fun z => h8 (h i z))]; simp [h8]
theorem kb_unit1 : ∀ r : Fin 256, (nI r.val &&& (nI r.val - 1)) = 0 → ∀ v : Fin 8, ∀ z : Fin 8, r.val.testBit v.val = true → r.val.testBit z.val = true → v = z := by decide +kernel
theorem kb_unit2 : ∀ r : Fin 256, ¬ (nI r.val &&& (nI r.val - 1)) = 0 → ∃ v : Fin 8, ∃ z : Fin 8, v ≠ z ∧ r.val.testBit v.val = true ∧ r.val.testBit z.val = true := by decide +kernel
theorem kb_low : ∀ r : Fin 256, r.val ≠ 0 → ∃ v : Fin 8, r.val.testBit v.val = true ∧ (nI r.val &&& (-(nI r.val))) = (1 : Int32) <<< (nI v.val &&& 31) := by decide +kernel
theorem kb_one1 {x : Int32} (h8 : kb_lo8 x) (h : (x &&& (x - 1)) = 0) {v z : Nat} (hv : bt x v = true) (hz : bt x z = true) : v = z := by
  obtain ⟨r, hr, rfl⟩ := kb_lo8N h8
  have h1 := h8 v hv
  have h2 := h8 z hz
  rw [kb_nI _ (by omega)] at hv hz
  have := kb_unit1 ⟨r, hr⟩ h ⟨v, h1⟩ ⟨z, h2⟩ hv hz
  exact congrArg Fin.val this
theorem kb_two {x : Int32} (h8 : kb_lo8 x) (h : ¬ (x &&& (x - 1)) = 0) : ∃ v z, v ≠ z ∧ bt x v = true ∧ bt x z = true := by
  obtain ⟨r, hr, rfl⟩ := kb_lo8N h8
  obtain ⟨v, z, hne, h1, h2⟩ := kb_unit2 ⟨r, hr⟩ h
  refine ⟨v.val, z.val, fun e => hne (Fin.ext e), ?_, ?_⟩
  · rw [kb_nI _ (by have := v.isLt; omega)]; exact h1
  · rw [kb_nI _ (by have := z.isLt; omega)]; exact h2
theorem kb_lowbit {x : Int32} (h8 : kb_lo8 x) {w : Nat} (hw : bt x w = true) : ∃ v, v < 8 ∧ bt x v = true ∧ (x &&& (-x)) = (1 : Int32) <<< (nI v &&& 31) := by
  obtain ⟨r, hr, rfl⟩ := kb_lo8N h8
  have hr0 : r ≠ 0 := by
    intro e
    subst e
    rw [kb_nI _ (by have := h8 w hw; omega)] at hw
    simp at hw
  obtain ⟨v, h1, h2⟩ := kb_low ⟨r, hr⟩ hr0
  refine ⟨v.val, v.isLt, ?_, h2⟩
  rw [kb_nI _ (by have := v.isLt; omega)]; exact h1
def kb_sub (x y : Int32) : Prop := ∀ v, bt x v = true → bt y v = true
theorem kb_sub_lo {x y : Int32} (h : kb_sub x y) (k : kb_lo8 y) : kb_lo8 x := fun v hv => k v (h v hv)
def kb_dis (x y : Int32) : Prop := ∀ v, ¬ (bt x v = true ∧ bt y v = true)
/-- the clauses: cc of them, over the variables below 8, no tautologies -/
def kp_CL (cp cn : Nat → Int32) (cc : Nat) : Prop := cc ≤ 24 ∧ ∀ c, c < cc → kb_lo8 (cp c) ∧ kb_lo8 (cn c) ∧ kb_dis (cp c) (cn c)
/-- clause c holds by a variable of V -/
def kp_cs (cp cn : Nat → Int32) (V : Int32) (a : Nat → Bool) (c : Nat) : Prop := ∃ v, bt V v = true ∧ ((bt (cp c) v = true ∧ a v = true) ∨ (bt (cn c) v = true ∧ a v = false))
def kp_cf (cp cn : Nat → Int32) (cc : Nat) (V C : Int32) (a : Nat → Bool) : Prop := ∀ c, c < cc → bt C c = true → kp_cs cp cn V a c
theorem kp_cfPD (cp cn : Nat → Int32) (cc : Nat) (V C : Int32) : kc_PD (bt V) (kp_cf cp cn cc V C) := by
  have one : ∀ a b : Nat → Bool, (∀ v, bt V v = true → a v = b v) → kp_cf cp cn cc V C a → kp_cf cp cn cc V C b := fun a b h H c hc hb => by
    obtain ⟨v, hv, h1⟩ := H c hc hb
    exact ⟨v, hv, by rw [← h v hv]; exact h1⟩
  exact fun a b h => ⟨one a b h, one b a (fun v hv => (h v hv).symm)⟩
section
variable {cp cn : Nat → Int32} {cc : Nat}
/-- dropping a clause that the rest implies -/
theorem kp_cfdrop {V C : Int32} {a : Nat → Bool} {c : Nat} (h32 : c < 32) (h : (∀ j, j < cc → bt C j = true → j ≠ c → kp_cs cp cn V a j) → kp_cs cp cn V a c) : kp_cf cp cn cc V C a ↔ kp_cf cp cn cc V (C &&& (((1 : Int32) <<< (nI c &&& 31)) ^^^ (-1))) a := by
  have e : ∀ j, j < 32 → bt (C &&& (((1 : Int32) <<< (nI c &&& 31)) ^^^ (-1))) j = (bt C j && !decide (j = c)) := fun j hj => by rw [b_and, kb_not _ hj, kb_one c h32]
  constructor
  · intro H j hj hb
    by_cases z : j < 32
    · rw [e j z, Bool.and_eq_true] at hb
      exact H j hj hb.1
    · rw [b_big (by omega)] at hb; cases hb
  · intro H j hj hb
    have H' : ∀ j, j < cc → bt C j = true → j ≠ c → kp_cs cp cn V a j := fun i hi hib hne => H i hi (by
      by_cases z : i < 32
      · rw [e i z, hib]; simp [hne]
      · rw [b_big (by omega)] at hib; cases hib)
    by_cases hne : j = c
    · subst hne; exact h H'
    · exact H' j hj hb hne
theorem kp_dropsub {C : Int32} {c : Nat} : kb_sub (C &&& (((1 : Int32) <<< (nI c &&& 31)) ^^^ (-1))) C := fun v hv => by
  rw [b_and, Bool.and_eq_true] at hv; exact hv.1
/-- unit propagation's invariant -/
def kp_PI (cp cn : Nat → Int32) (cc : Nat) (S p0 q0 L0 p q L : Int32) : Prop :=
  kb_sub p S ∧ kb_sub q S ∧ kb_dis p q ∧ kb_sub p0 p ∧ kb_sub q0 q ∧ kb_sub L L0 ∧ (∀ a, (kc_Po p0 q0 a ∧ kp_cf cp cn cc S L0 a) ↔ (kc_Po p q a ∧ kp_cf cp cn cc S L a))
/-- a clause that says neither yes nor no nor one literal -/
def kp_set (cp cn : Nat → Int32) (S p q : Int32) (c : Nat) : Prop :=
  ((cp c &&& S) &&& p) = 0 ∧ ((cn c &&& S) &&& q) = 0 ∧ ∃ v z, v ≠ z ∧ (bt (cp c) v = true ∨ bt (cn c) v = true) ∧ bt S v = true ∧ bt p v = false ∧ bt q v = false ∧ (bt (cp c) z = true ∨ bt (cn c) z = true) ∧ bt S z = true ∧ bt p z = false ∧ bt q z = false
theorem kp_PI0 {S p q L : Int32} (h1 : kb_sub p S) (h2 : kb_sub q S) (h3 : kb_dis p q) : kp_PI cp cn cc S p q L p q L :=
  ⟨h1, h2, h3, fun _ h => h, fun _ h => h, fun _ h => h, fun _ => Iff.rfl⟩
theorem kp_PI_sat {S p0 q0 L0 p q L : Int32} {c : Nat} (hc : c < 32) (h : kp_PI cp cn cc S p0 q0 L0 p q L) (hs : ∀ a, kc_Po p q a → kp_cs cp cn S a c) : kp_PI cp cn cc S p0 q0 L0 p q (L &&& (((1 : Int32) <<< (nI c &&& 31)) ^^^ (-1))) := by
  obtain ⟨h1, h2, h3, h4, h5, h6, h7⟩ := h
  refine ⟨h1, h2, h3, h4, h5, fun v hv => h6 v (kp_dropsub v hv), fun a => (h7 a).trans ?_⟩
  exact ⟨fun H => ⟨H.1, (kp_cfdrop hc (fun _ => hs a H.1)).mp H.2⟩, fun H => ⟨H.1, (kp_cfdrop hc (fun _ => hs a H.1)).mpr H.2⟩⟩
theorem kp_sat1 {S p q : Int32} {c : Nat} (h : ¬ ((cp c &&& S) &&& p) = 0) (a : Nat → Bool) (ha : kc_Po p q a) : kp_cs cp cn S a c := by
  obtain ⟨v, hv, _⟩ := kb_nz h
  rw [b_and, b_and, Bool.and_eq_true, Bool.and_eq_true] at hv
  exact ⟨v, hv.1.2, Or.inl ⟨hv.1.1, (ha v).1 hv.2⟩⟩
theorem kp_sat2 {S p q : Int32} {c : Nat} (h : ¬ ((cn c &&& S) &&& q) = 0) (a : Nat → Bool) (ha : kc_Po p q a) : kp_cs cp cn S a c := by
  obtain ⟨v, hv, _⟩ := kb_nz h
  rw [b_and, b_and, Bool.and_eq_true, Bool.and_eq_true] at hv
  exact ⟨v, hv.1.2, Or.inr ⟨hv.1.1, (ha v).2 hv.2⟩⟩
/-- where an undecided clause can hold -/
theorem kp_csopen {S p q : Int32} {c : Nat} {a : Nat → Bool} (hp : ((cp c &&& S) &&& p) = 0) (hq : ((cn c &&& S) &&& q) = 0) (ha : kc_Po p q a) (h : kp_cs cp cn S a c) (hS : kb_lo8 S) :
    ∃ v, (bt ((cp c &&& S) &&& ((p ||| q) ^^^ (-1))) v = true ∧ a v = true) ∨ (bt ((cn c &&& S) &&& ((p ||| q) ^^^ (-1))) v = true ∧ a v = false) := by
  obtain ⟨v, hv, h1⟩ := h
  have h8 := hS v hv
  have e : ∀ x : Int32, bt ((x &&& S) &&& ((p ||| q) ^^^ (-1))) v = (bt x v && !(bt p v || bt q v)) := fun x => by
    rw [b_and, b_and, kb_not _ (by omega), b_or, hv, Bool.and_true]
  have np : ∀ x y : Int32, ((x &&& S) &&& y) = 0 → bt x v = true → bt y v = false := fun x y hz hx => ts_nt (fun z => kb_andz.mp hz v ⟨by rw [b_and, hx, hv]; rfl, z⟩)
  refine ⟨v, ?_⟩
  rcases h1 with ⟨h1, h2⟩ | ⟨h1, h2⟩
  · left
    refine ⟨?_, h2⟩
    rw [e, h1, np _ _ hp h1]
    have : bt q v = false := ts_nt (fun z => by rw [(ha v).2 z] at h2; cases h2)
    rw [this]; rfl
  · right
    refine ⟨?_, h2⟩
    rw [e, h1, np _ _ hq h1]
    have : bt p v = false := ts_nt (fun z => by rw [(ha v).1 z] at h2; cases h2)
    rw [this]; rfl
theorem kp_PI_no {S p0 q0 L0 p q L : Int32} {c : Nat} (hcc : c < cc) (hS : kb_lo8 S) (h : kp_PI cp cn cc S p0 q0 L0 p q L) (hL : bt L c = true) (hp : ((cp c &&& S) &&& p) = 0) (hq : ((cn c &&& S) &&& q) = 0)
    (hz : (((cp c &&& S) &&& ((p ||| q) ^^^ (-1))) ||| ((cn c &&& S) &&& ((p ||| q) ^^^ (-1)))) = 0) (a : Nat → Bool) : ¬ (kc_Po p0 q0 a ∧ kp_cf cp cn cc S L0 a) := by
  intro H
  obtain ⟨h1, h2⟩ := (h.2.2.2.2.2.2 a).mp H
  obtain ⟨v, h3⟩ := kp_csopen hp hq h1 (h2 c hcc hL) hS
  have h4 := kb_orz.mp hz v
  rcases h3 with h3 | h3
  · rw [h4.1] at h3; cases h3.1
  · rw [h4.2] at h3; cases h3.1
theorem kp_PI_unit {S p0 q0 L0 p q L : Int32} {c : Nat} (hcc : c < cc) (hc : c < 32) (hS : kb_lo8 S) (hd : kb_dis (cp c) (cn c)) (h : kp_PI cp cn cc S p0 q0 L0 p q L) (hL : bt L c = true) (hp : ((cp c &&& S) &&& p) = 0) (hq : ((cn c &&& S) &&& q) = 0) {P Q : Int32}
    (eP : P = (cp c &&& S) &&& ((p ||| q) ^^^ (-1))) (eQ : Q = (cn c &&& S) &&& ((p ||| q) ^^^ (-1))) (hz : ((P ||| Q) &&& ((P ||| Q) - 1)) = 0) (h0 : ¬ (P ||| Q) = 0) :
    kp_PI cp cn cc S p0 q0 L0 (p ||| P) (q ||| Q) (L &&& (((1 : Int32) <<< (nI c &&& 31)) ^^^ (-1))) ∧ kb_cd (bt (p ||| q)) < kb_cd (bt ((p ||| P) ||| (q ||| Q))) := by
  have hbP : ∀ v, bt P v = true → bt (cp c) v = true ∧ bt S v = true ∧ bt p v = false ∧ bt q v = false := fun v hv => by
    have h8 : v < 8 := hS v (by rw [eP, b_and, b_and] at hv; simp at hv; exact hv.1.2)
    rw [eP, b_and, b_and, kb_not _ (by omega), b_or] at hv
    simpa [and_assoc] using hv
  have hbQ : ∀ v, bt Q v = true → bt (cn c) v = true ∧ bt S v = true ∧ bt p v = false ∧ bt q v = false := fun v hv => by
    have h8 : v < 8 := hS v (by rw [eQ, b_and, b_and] at hv; simp at hv; exact hv.1.2)
    rw [eQ, b_and, b_and, kb_not _ (by omega), b_or] at hv
    simpa [and_assoc] using hv
  have lo : kb_lo8 (P ||| Q) := kb_lo8_or (fun v hv => hS v (hbP v hv).2.1) (fun v hv => hS v (hbQ v hv).2.1)
  have one : ∀ {v z : Nat}, bt (P ||| Q) v = true → bt (P ||| Q) z = true → v = z := fun hv hz' => kb_one1 lo hz hv hz'
  have oP : ∀ {v}, bt P v = true → bt (P ||| Q) v = true := fun hv => by rw [b_or, hv]; rfl
  have oQ : ∀ {v}, bt Q v = true → bt (P ||| Q) v = true := fun hv => by rw [b_or, hv]; simp
  obtain ⟨h1, h2, h3, h4, h5, h6, h7⟩ := h
  have or1 : ∀ {x y : Int32} {v : Nat}, bt (x ||| y) v = true → bt x v = true ∨ bt y v = true := fun hv => by rw [b_or] at hv; simpa using hv
  have orl : ∀ {x y : Int32} {v : Nat}, bt x v = true → bt (x ||| y) v = true := fun hv => by rw [b_or, hv]; rfl
  have orr : ∀ {x y : Int32} {v : Nat}, bt y v = true → bt (x ||| y) v = true := fun hv => by rw [b_or, hv]; simp
  refine ⟨⟨?_, ?_, ?_, fun v hv => orl (h4 v hv), fun v hv => orl (h5 v hv), fun v hv => h6 v (kp_dropsub v hv), fun a => (h7 a).trans ?_⟩, ?_⟩
  · intro v hv
    rcases or1 hv with z | z
    · exact h1 v z
    · exact (hbP v z).2.1
  · intro v hv
    rcases or1 hv with z | z
    · exact h2 v z
    · exact (hbQ v z).2.1
  · intro v hv
    rcases or1 hv.1 with z | z <;> rcases or1 hv.2 with y | y
    · exact h3 v ⟨z, y⟩
    · rw [(hbQ v y).2.2.1] at z; cases z
    · rw [(hbP v z).2.2.2] at y; cases y
    · exact hd v ⟨(hbP v z).1, (hbQ v y).1⟩
  · constructor
    · rintro ⟨ha, hf⟩
      obtain ⟨w, hw⟩ := kp_csopen hp hq ha (hf c hcc hL) hS
      rw [← eP, ← eQ] at hw
      refine ⟨fun v => ⟨fun hv => ?_, fun hv => ?_⟩, ?_⟩
      · rcases or1 hv with z | z
        · exact (ha v).1 z
        · rcases hw with hw | hw
          · rw [one (oP z) (oP hw.1)]; exact hw.2
          · have e := one (oP z) (oQ hw.1)
            subst e
            exact absurd ⟨(hbP v z).1, (hbQ v hw.1).1⟩ (hd v)
      · rcases or1 hv with z | z
        · exact (ha v).2 z
        · rcases hw with hw | hw
          · have e := one (oQ z) (oP hw.1)
            subst e
            exact absurd ⟨(hbP v hw.1).1, (hbQ v z).1⟩ (hd v)
          · rw [one (oQ z) (oQ hw.1)]; exact hw.2
      · exact (kp_cfdrop hc (fun _ => hf c hcc hL)).mp hf
    · rintro ⟨ha, hf⟩
      have ha' : kc_Po p q a := fun v => ⟨fun hv => (ha v).1 (orl hv), fun hv => (ha v).2 (orl hv)⟩
      refine ⟨ha', (kp_cfdrop hc (fun _ => ?_)).mpr hf⟩
      obtain ⟨w, hw, _⟩ := kb_nz h0
      rcases or1 hw with z | z
      · exact ⟨w, (hbP w z).2.1, Or.inl ⟨(hbP w z).1, (ha w).1 (orr z)⟩⟩
      · exact ⟨w, (hbQ w z).2.1, Or.inr ⟨(hbQ w z).1, (ha w).2 (orr z)⟩⟩
  · obtain ⟨w, hw, _⟩ := kb_nz h0
    refine kb_cdlt (w := w) (fun v hv => ?_) (lo w hw) ?_ ?_
    · rcases or1 hv with z | z
      · exact orl (orl z)
      · exact orr (orl z)
    · rw [b_or]
      rcases or1 hw with z | z
      · rw [(hbP w z).2.2.1, (hbP w z).2.2.2]; rfl
      · rw [(hbQ w z).2.2.1, (hbQ w z).2.2.2]; rfl
    · rcases or1 hw with z | z
      · exact orl (orr z)
      · exact orr (orr z)
theorem kp_set_of {S p q : Int32} {c : Nat} (hS : kb_lo8 S) (hp : ((cp c &&& S) &&& p) = 0) (hq : ((cn c &&& S) &&& q) = 0)
    (hz : ¬ ((((cp c &&& S) &&& ((p ||| q) ^^^ (-1))) ||| ((cn c &&& S) &&& ((p ||| q) ^^^ (-1)))) &&& ((((cp c &&& S) &&& ((p ||| q) ^^^ (-1))) ||| ((cn c &&& S) &&& ((p ||| q) ^^^ (-1)))) - 1)) = 0) : kp_set cp cn S p q c := by
  have lo : kb_lo8 (((cp c &&& S) &&& ((p ||| q) ^^^ (-1))) ||| ((cn c &&& S) &&& ((p ||| q) ^^^ (-1)))) := kb_lo8_or (kb_lo8_and (kb_lo8_andr hS)) (kb_lo8_and (kb_lo8_andr hS))
  obtain ⟨v, z, hne, hv, hw⟩ := kb_two lo hz
  have e : ∀ v, bt (((cp c &&& S) &&& ((p ||| q) ^^^ (-1))) ||| ((cn c &&& S) &&& ((p ||| q) ^^^ (-1)))) v = true → (bt (cp c) v = true ∨ bt (cn c) v = true) ∧ bt S v = true ∧ bt p v = false ∧ bt q v = false := fun v hv => by
    have h8 := lo v hv
    rw [b_or, b_and, b_and, b_and, b_and, kb_not _ (by omega), b_or] at hv
    cases h1 : bt (cp c) v <;> cases h2 : bt (cn c) v <;> cases h3 : bt S v <;> cases h4 : bt p v <;> cases h5 : bt q v <;> simp_all
  obtain ⟨a1, a2, a3, a4⟩ := e v hv
  obtain ⟨b1, b2, b3, b4⟩ := e z hw
  exact ⟨hp, hq, v, z, hne, a1, a2, a3, a4, b1, b2, b3, b4⟩
end
end
section
/-! X's walks: propagate -/
section
variable {f_varCount f_slotCount f_fullMask f_draftPos f_draftNeg f_state f_assumedCount f_assumedPos f_assumedNeg f_clauseCount f_nodeCount f_root f_depth f_result f_workPos f_workNeg f_workLive : Int32} {a_slotUsed a_slotPos a_slotNeg a_assumed a_weightPos a_weightNeg a_clausePos a_clauseNeg a_nodeChoice a_nodePos a_nodeNeg a_nodeFree a_nodeKids a_kids a_cacheKey a_cacheNode a_framePos a_frameNeg a_frameFree a_frameParts a_frameNext a_framePhase a_frameVar a_frameHigh a_partVars a_partClauses a_partNode a_value a_sizes a_poly a_product a_factorPos a_factorNeg : Nat → Int32}
variable {cc : Nat}
theorem kw_prop19 {post : Int32 → SX → Prop} {J4 : Int32 → Int32 → Int32 → Int32 → Int32 → Prop} {S p0 q0 L0 p q L x3 : Int32} {r : Nat} (hcc : f_clauseCount = nI cc) (hCL : kp_CL a_clausePos a_clauseNeg cc) (hS : kb_lo8 S)
    (hI : kp_PI a_clausePos a_clauseNeg cc S p0 q0 L0 p q L) (hr : r ≤ kb_cd (bt (p ||| q)))
    (K0 : (∀ a, ¬ (kc_Po p0 q0 a ∧ kp_cf a_clausePos a_clauseNeg cc S L0 a)) → ∀ p q L, post 0 (f_varCount, f_slotCount, f_fullMask, f_draftPos, f_draftNeg, f_state, f_assumedCount, f_assumedPos, f_assumedNeg, f_clauseCount, f_nodeCount, f_root, f_depth, f_result, p, q, L, a_slotUsed, a_slotPos, a_slotNeg, a_assumed, a_weightPos, a_weightNeg, a_clausePos, a_clauseNeg, a_nodeChoice, a_nodePos, a_nodeNeg, a_nodeFree, a_nodeKids, a_kids, a_cacheKey, a_cacheNode, a_framePos, a_frameNeg, a_frameFree, a_frameParts, a_frameNext, a_framePhase, a_frameVar, a_frameHigh, a_partVars, a_partClauses, a_partNode, a_value, a_sizes, a_poly, a_product, a_factorPos, a_factorNeg))
    (K1 : ∀ x2 p q L, kp_PI a_clausePos a_clauseNeg cc S p0 q0 L0 p q L → ((x2 = 0 ∧ ∀ c, c < cc → bt L c = true → kp_set a_clausePos a_clauseNeg S p q c) ∨ (x2 = 1 ∧ r + 1 ≤ kb_cd (bt (p ||| q)))) → J4 x2 (x3 + 1) p q L) :
    ∃ n, wX_propagate_19 post J4 S x3 f_varCount f_slotCount f_fullMask f_draftPos f_draftNeg f_state f_assumedCount f_assumedPos f_assumedNeg f_clauseCount f_nodeCount f_root f_depth f_result a_slotUsed a_slotPos a_slotNeg a_assumed a_weightPos a_weightNeg a_clausePos a_clauseNeg a_nodeChoice a_nodePos a_nodeNeg a_nodeFree a_nodeKids a_kids a_cacheKey a_cacheNode a_framePos a_frameNeg a_frameFree a_frameParts a_frameNext a_framePhase a_frameVar a_frameHigh a_partVars a_partClauses a_partNode a_value a_sizes a_poly a_product a_factorPos a_factorNeg n 0 0 p q L := by
  subst hcc
  have h24 := hCL.1
  refine loop_0 (σ := Int32 × Int32 × Int32 × Int32) (fun n c s => wX_propagate_19 post J4 S x3 f_varCount f_slotCount f_fullMask f_draftPos f_draftNeg f_state f_assumedCount f_assumedPos f_assumedNeg (nI cc) f_nodeCount f_root f_depth f_result a_slotUsed a_slotPos a_slotNeg a_assumed a_weightPos a_weightNeg a_clausePos a_clauseNeg a_nodeChoice a_nodePos a_nodeNeg a_nodeFree a_nodeKids a_kids a_cacheKey a_cacheNode a_framePos a_frameNeg a_frameFree a_frameParts a_frameNext a_framePhase a_frameVar a_frameHigh a_partVars a_partClauses a_partNode a_value a_sizes a_poly a_product a_factorPos a_factorNeg n s.1 (nI c) s.2.1 s.2.2.1 s.2.2.2)
    (fun c s => kp_PI a_clausePos a_clauseNeg cc S p0 q0 L0 s.2.1 s.2.2.1 s.2.2.2 ∧ ((s.1 = 0 ∧ r ≤ kb_cd (bt (s.2.1 ||| s.2.2.1)) ∧ ∀ d, d < c → bt s.2.2.2 d = true → kp_set a_clausePos a_clauseNeg S s.2.1 s.2.2.1 d) ∨ (s.1 = 1 ∧ r + 1 ≤ kb_cd (bt (s.2.1 ||| s.2.2.1))))) cc (0, p, q, L) ⟨hI, Or.inl ⟨rfl, hr, fun d hd => by omega⟩⟩ ?_ ?_
  · rintro n ⟨x2, p, q, L⟩ ⟨hI, h⟩
    refine br_t (nI_le (Nat.le_refl _) (by omega)) ?_
    intro y ey
    subst ey
    exact K1 x2 p q L hI (h.imp (fun z => ⟨z.1, fun c hc => z.2.2 c hc⟩) id)
  · rintro n c ⟨x2, p, q, L⟩ hc ⟨hI, h⟩ hk
    dsimp only at hI h hk ⊢
    have hc32 : c < 32 := by omega
    have ec : (nI c).toNatClampNeg = c := nI_clamp (by omega)
    have hin : vp_in (nI c) 24 := vp_in_nI (by omega) (by decide)
    have hcd : r ≤ kb_cd (bt (p ||| q)) := by rcases h with h | h <;> omega
    have keep : ∀ L', kb_sub L' L → (bt L' c = true → kp_set a_clausePos a_clauseNeg S p q c) → ((x2 = 0 ∧ r ≤ kb_cd (bt (p ||| q)) ∧ ∀ d, d < c + 1 → bt L' d = true → kp_set a_clausePos a_clauseNeg S p q d) ∨ (x2 = 1 ∧ r + 1 ≤ kb_cd (bt (p ||| q)))) := by
      intro L' hL' hs
      rcases h with ⟨h1, h2, h3⟩ | h
      · refine Or.inl ⟨h1, h2, fun d hd hb => ?_⟩
        by_cases e : d = c
        · subst e; exact hs hb
        · exact h3 d (by omega) (hL' d hb)
      · exact Or.inr h
    refine br_f (nI_ge hc (by omega)) ?_
    intro x5 e5
    subst e5
    refine br_c (fun z => ?_) (fun z => ⟨hin, ?_⟩)
    · intro y ey
      subst ey
      rw [nI_1 c]
      exact hk (x2, p, q, L) ⟨hI, keep L (fun _ z => z) (fun hb => by rw [(kb_t L hc32).mp z] at hb; cases hb)⟩
    · intro x6 e6
      refine ⟨hin, ?_⟩
      intro x7 e7
      rw [ec] at e6 e7
      subst e6 e7
      have hL : bt L c = true := ts_nf (fun e => z ((kb_t L hc32).mpr e))
      have gone : ¬ bt (L &&& (((1 : Int32) <<< (nI c &&& 31)) ^^^ (-1))) c = true := fun hb => by
        rw [b_and, kb_not _ hc32, kb_one c hc32] at hb
        simp at hb
      refine br_c (fun c1 => br_c (fun c2 => ?_) (fun c2 => ?_)) (fun c1 => ?_)
      · intro x8 e8 x6 e6 x7 e7 x9 e9
        subst e8
        refine br_c (fun c3 => ?_) (fun c3 => br_c (fun c4 => ?_) (fun c4 => ?_))
        · exact K0 (kp_PI_no hc hS hI hL c1 c2 (by rw [← e6, ← e7, ← e9]; exact c3)) p q L
        · intro a1 b1 a2 b2 a3 b3 a4 b4
          subst e9
          obtain ⟨i1, i2⟩ := kp_PI_unit hc hc32 hS (hCL.2 c hc).2.2 hI hL c1 c2 e6 e7 c4 c3
          subst b1 b2 b3 b4
          rw [nI_1 c]
          exact hk (1, _, _, _) ⟨i1, Or.inr ⟨rfl, by dsimp only; omega⟩⟩
        · intro y ey
          subst ey
          rw [nI_1 c]
          exact hk (x2, p, q, L) ⟨hI, keep L (fun _ z => z) (fun _ => kp_set_of hS c1 c2 (by rw [← e6, ← e7, ← e9]; exact c4))⟩
      · intro y ey z ez
        subst ey ez
        rw [nI_1 c]
        exact hk (x2, p, q, _) ⟨kp_PI_sat hc32 hI (kp_sat2 c2), keep _ kp_dropsub (fun hb => absurd hb gone)⟩
      · intro y ey z ez
        subst ey ez
        rw [nI_1 c]
        exact hk (x2, p, q, _) ⟨kp_PI_sat hc32 hI (kp_sat1 c1), keep _ kp_dropsub (fun hb => absurd hb gone)⟩
theorem kw_propagate {post : Int32 → SX → Prop} {S : Int32} (hcc : f_clauseCount = nI cc) (hCL : kp_CL a_clausePos a_clauseNeg cc) (hS : kb_lo8 S)
    (h1 : kb_sub f_workPos S) (h2 : kb_sub f_workNeg S) (h3 : kb_dis f_workPos f_workNeg)
    (K0 : (∀ a, ¬ (kc_Po f_workPos f_workNeg a ∧ kp_cf a_clausePos a_clauseNeg cc S f_workLive a)) → ∀ p q L, post 0 (f_varCount, f_slotCount, f_fullMask, f_draftPos, f_draftNeg, f_state, f_assumedCount, f_assumedPos, f_assumedNeg, f_clauseCount, f_nodeCount, f_root, f_depth, f_result, p, q, L, a_slotUsed, a_slotPos, a_slotNeg, a_assumed, a_weightPos, a_weightNeg, a_clausePos, a_clauseNeg, a_nodeChoice, a_nodePos, a_nodeNeg, a_nodeFree, a_nodeKids, a_kids, a_cacheKey, a_cacheNode, a_framePos, a_frameNeg, a_frameFree, a_frameParts, a_frameNext, a_framePhase, a_frameVar, a_frameHigh, a_partVars, a_partClauses, a_partNode, a_value, a_sizes, a_poly, a_product, a_factorPos, a_factorNeg))
    (K1 : ∀ p q L, kp_PI a_clausePos a_clauseNeg cc S f_workPos f_workNeg f_workLive p q L → (∀ c, c < cc → bt L c = true → kp_set a_clausePos a_clauseNeg S p q c) → post 1 (f_varCount, f_slotCount, f_fullMask, f_draftPos, f_draftNeg, f_state, f_assumedCount, f_assumedPos, f_assumedNeg, f_clauseCount, f_nodeCount, f_root, f_depth, f_result, p, q, L, a_slotUsed, a_slotPos, a_slotNeg, a_assumed, a_weightPos, a_weightNeg, a_clausePos, a_clauseNeg, a_nodeChoice, a_nodePos, a_nodeNeg, a_nodeFree, a_nodeKids, a_kids, a_cacheKey, a_cacheNode, a_framePos, a_frameNeg, a_frameFree, a_frameParts, a_frameNext, a_framePhase, a_frameVar, a_frameHigh, a_partVars, a_partClauses, a_partNode, a_value, a_sizes, a_poly, a_product, a_factorPos, a_factorNeg)) :
    wpX_propagate post (f_varCount, f_slotCount, f_fullMask, f_draftPos, f_draftNeg, f_state, f_assumedCount, f_assumedPos, f_assumedNeg, f_clauseCount, f_nodeCount, f_root, f_depth, f_result, f_workPos, f_workNeg, f_workLive, a_slotUsed, a_slotPos, a_slotNeg, a_assumed, a_weightPos, a_weightNeg, a_clausePos, a_clauseNeg, a_nodeChoice, a_nodePos, a_nodeNeg, a_nodeFree, a_nodeKids, a_kids, a_cacheKey, a_cacheNode, a_framePos, a_frameNeg, a_frameFree, a_frameParts, a_frameNext, a_framePhase, a_frameVar, a_frameHigh, a_partVars, a_partClauses, a_partNode, a_value, a_sizes, a_poly, a_product, a_factorPos, a_factorNeg) S := by
  have main : ∀ m r p q L, r + m = 10 → kp_PI a_clausePos a_clauseNeg cc S f_workPos f_workNeg f_workLive p q L → r ≤ kb_cd (bt (p ||| q)) → wX_propagate_4 post S f_varCount f_slotCount f_fullMask f_draftPos f_draftNeg f_state f_assumedCount f_assumedPos f_assumedNeg f_clauseCount f_nodeCount f_root f_depth f_result a_slotUsed a_slotPos a_slotNeg a_assumed a_weightPos a_weightNeg a_clausePos a_clauseNeg a_nodeChoice a_nodePos a_nodeNeg a_nodeFree a_nodeKids a_kids a_cacheKey a_cacheNode a_framePos a_frameNeg a_frameFree a_frameParts a_frameNext a_framePhase a_frameVar a_frameHigh a_partVars a_partClauses a_partNode a_value a_sizes a_poly a_product a_factorPos a_factorNeg (m + 1) 1 (nI r) p q L := by
    intro m
    induction m with
    | zero =>
      intro r p q L e _ hr
      have := kb_cd8 (bt (p ||| q))
      omega
    | succ m ih =>
      intro r p q L e hI hr
      refine br_f (nI_ge (b := 10) (by omega) (by decide)) (br_f (by decide) ?_)
      refine kw_prop19 (r := r) hcc hCL hS hI hr K0 ?_
      rintro x2 p q L hI (⟨rfl, hs⟩ | ⟨rfl, hr⟩)
      · rw [nI_1 r]
        exact br_c (fun _ => K1 p q L hI hs) (fun _ => br_t rfl (K1 p q L hI hs))
      · rw [nI_1 r]
        exact ih (r + 1) p q L (by omega) hI hr
  exact ⟨11, main 10 0 _ _ _ rfl (kp_PI0 h1 h2 h3) (Nat.zero_le _)⟩
end
end
section
/-! X's walks: dropSubsumed, connected, touching -/
theorem kp_subs {cp cn : Nat → Int32} {cc i j : Nat} {O : Int32} {a : Nat → Bool} (hCL : kp_CL cp cn cc) (hi : i < cc) (h1 : ((cp i &&& O) &&& (cp j ^^^ (-1))) = 0) (h2 : ((cn i &&& O) &&& (cn j ^^^ (-1))) = 0) (h : kp_cs cp cn O a i) : kp_cs cp cn O a j := by
  obtain ⟨v, hv, h⟩ := h
  rcases h with ⟨h3, h4⟩ | ⟨h3, h4⟩
  · refine ⟨v, hv, Or.inl ⟨?_, h4⟩⟩
    have h8 := (hCL.2 i hi).1 v h3
    have := kb_andz.mp h1 v
    rw [b_and, kb_not _ (by omega), h3, hv] at this
    cases e : bt (cp j) v with
    | true => rfl
    | false => rw [e] at this; exact absurd ⟨rfl, rfl⟩ this
  · refine ⟨v, hv, Or.inr ⟨?_, h4⟩⟩
    have h8 := (hCL.2 i hi).2.1 v h3
    have := kb_andz.mp h2 v
    rw [b_and, kb_not _ (by omega), h3, hv] at this
    cases e : bt (cn j) v with
    | true => rfl
    | false => rw [e] at this; exact absurd ⟨rfl, rfl⟩ this
section
variable {f_varCount f_slotCount f_fullMask f_draftPos f_draftNeg f_state f_assumedCount f_assumedPos f_assumedNeg f_clauseCount f_nodeCount f_root f_depth f_result f_workPos f_workNeg f_workLive : Int32} {a_slotUsed a_slotPos a_slotNeg a_assumed a_weightPos a_weightNeg a_clausePos a_clauseNeg a_nodeChoice a_nodePos a_nodeNeg a_nodeFree a_nodeKids a_kids a_cacheKey a_cacheNode a_framePos a_frameNeg a_frameFree a_frameParts a_frameNext a_framePhase a_frameVar a_frameHigh a_partVars a_partClauses a_partNode a_value a_sizes a_poly a_product a_factorPos a_factorNeg : Nat → Int32}
variable {cc : Nat}
theorem kw_ds46 {post : SX → Prop} {J2 : Int32 → Int32 → Prop} {O L0 L : Int32} {i : Nat} (hcc : f_clauseCount = nI cc) (hCL : kp_CL a_clausePos a_clauseNeg cc) (hi : i < cc) (hL : bt L i = true)
    (hs : kb_sub L L0) (he : ∀ a, kp_cf a_clausePos a_clauseNeg cc O L0 a ↔ kp_cf a_clausePos a_clauseNeg cc O L a)
    (K : ∀ L, kb_sub L L0 → (∀ a, kp_cf a_clausePos a_clauseNeg cc O L0 a ↔ kp_cf a_clausePos a_clauseNeg cc O L a) → J2 (nI (i + 1)) L) :
    ∃ n, wX_dropSubsumed_46 post J2 O (nI i) (a_clausePos i &&& O) (a_clauseNeg i &&& O) f_varCount f_slotCount f_fullMask f_draftPos f_draftNeg f_state f_assumedCount f_assumedPos f_assumedNeg f_clauseCount f_nodeCount f_root f_depth f_result f_workPos f_workNeg a_slotUsed a_slotPos a_slotNeg a_assumed a_weightPos a_weightNeg a_clausePos a_clauseNeg a_nodeChoice a_nodePos a_nodeNeg a_nodeFree a_nodeKids a_kids a_cacheKey a_cacheNode a_framePos a_frameNeg a_frameFree a_frameParts a_frameNext a_framePhase a_frameVar a_frameHigh a_partVars a_partClauses a_partNode a_value a_sizes a_poly a_product a_factorPos a_factorNeg n 0 L := by
  subst hcc
  have h24 := hCL.1
  refine loop_0 (fun n c s => wX_dropSubsumed_46 post J2 O (nI i) (a_clausePos i &&& O) (a_clauseNeg i &&& O) f_varCount f_slotCount f_fullMask f_draftPos f_draftNeg f_state f_assumedCount f_assumedPos f_assumedNeg (nI cc) f_nodeCount f_root f_depth f_result f_workPos f_workNeg a_slotUsed a_slotPos a_slotNeg a_assumed a_weightPos a_weightNeg a_clausePos a_clauseNeg a_nodeChoice a_nodePos a_nodeNeg a_nodeFree a_nodeKids a_kids a_cacheKey a_cacheNode a_framePos a_frameNeg a_frameFree a_frameParts a_frameNext a_framePhase a_frameVar a_frameHigh a_partVars a_partClauses a_partNode a_value a_sizes a_poly a_product a_factorPos a_factorNeg n (nI c) s)
    (fun c s => bt s i = true ∧ kb_sub s L0 ∧ ∀ a, kp_cf a_clausePos a_clauseNeg cc O L0 a ↔ kp_cf a_clausePos a_clauseNeg cc O s a) cc L ⟨hL, hs, he⟩ ?_ ?_
  · intro n s hs
    refine br_t (nI_le (Nat.le_refl _) (by omega)) ?_
    intro y ey
    subst ey
    rw [nI_1 i]
    exact K s hs.2.1 hs.2.2
  · intro n j s hj hs hk
    have ej : (nI j).toNatClampNeg = j := nI_clamp (by omega)
    have hin : vp_in (nI j) 24 := vp_in_nI (by omega) (by decide)
    have nxt : ∀ y, y = nI j + 1 → wX_dropSubsumed_46 post J2 O (nI i) (a_clausePos i &&& O) (a_clauseNeg i &&& O) f_varCount f_slotCount f_fullMask f_draftPos f_draftNeg f_state f_assumedCount f_assumedPos f_assumedNeg (nI cc) f_nodeCount f_root f_depth f_result f_workPos f_workNeg a_slotUsed a_slotPos a_slotNeg a_assumed a_weightPos a_weightNeg a_clausePos a_clauseNeg a_nodeChoice a_nodePos a_nodeNeg a_nodeFree a_nodeKids a_kids a_cacheKey a_cacheNode a_framePos a_frameNeg a_frameFree a_frameParts a_frameNext a_framePhase a_frameVar a_frameHigh a_partVars a_partClauses a_partNode a_value a_sizes a_poly a_product a_factorPos a_factorNeg n y s := by
      intro y ey
      subst ey
      rw [nI_1 j]
      exact hk s hs
    refine br_f (nI_ge hj (by omega)) (pk_eq j i (fun _ => nxt) (fun hne => ⟨hin, ?_⟩))
    rw [ej]
    refine br_c (fun c1 => ⟨hin, br_c (fun c2 => ?_) (fun _ => nxt)⟩) (fun _ => nxt)
    intro y ey z ez
    subst ey ez
    rw [nI_1 j]
    refine hk _ ⟨?_, fun v hv => hs.2.1 v (kp_dropsub v hv), fun a => (hs.2.2 a).trans (kp_cfdrop (by omega) (fun H => kp_subs hCL hi c1 c2 (H i hi hs.1 (fun e => hne e.symm))))⟩
    rw [b_and, hs.1, kb_not _ (by omega), kb_one j (by omega)]
    simp
    omega
theorem kw_dropSubsumed {post : SX → Prop} {O : Int32} (hcc : f_clauseCount = nI cc) (hCL : kp_CL a_clausePos a_clauseNeg cc)
    (K : ∀ L, kb_sub L f_workLive → (∀ a, kp_cf a_clausePos a_clauseNeg cc O f_workLive a ↔ kp_cf a_clausePos a_clauseNeg cc O L a) → post (f_varCount, f_slotCount, f_fullMask, f_draftPos, f_draftNeg, f_state, f_assumedCount, f_assumedPos, f_assumedNeg, f_clauseCount, f_nodeCount, f_root, f_depth, f_result, f_workPos, f_workNeg, L, a_slotUsed, a_slotPos, a_slotNeg, a_assumed, a_weightPos, a_weightNeg, a_clausePos, a_clauseNeg, a_nodeChoice, a_nodePos, a_nodeNeg, a_nodeFree, a_nodeKids, a_kids, a_cacheKey, a_cacheNode, a_framePos, a_frameNeg, a_frameFree, a_frameParts, a_frameNext, a_framePhase, a_frameVar, a_frameHigh, a_partVars, a_partClauses, a_partNode, a_value, a_sizes, a_poly, a_product, a_factorPos, a_factorNeg)) :
    wpX_dropSubsumed post (f_varCount, f_slotCount, f_fullMask, f_draftPos, f_draftNeg, f_state, f_assumedCount, f_assumedPos, f_assumedNeg, f_clauseCount, f_nodeCount, f_root, f_depth, f_result, f_workPos, f_workNeg, f_workLive, a_slotUsed, a_slotPos, a_slotNeg, a_assumed, a_weightPos, a_weightNeg, a_clausePos, a_clauseNeg, a_nodeChoice, a_nodePos, a_nodeNeg, a_nodeFree, a_nodeKids, a_kids, a_cacheKey, a_cacheNode, a_framePos, a_frameNeg, a_frameFree, a_frameParts, a_frameNext, a_framePhase, a_frameVar, a_frameHigh, a_partVars, a_partClauses, a_partNode, a_value, a_sizes, a_poly, a_product, a_factorPos, a_factorNeg) O := by
  subst hcc
  have h24 := hCL.1
  refine loop_0 (fun n c s => wX_dropSubsumed_2 post O f_varCount f_slotCount f_fullMask f_draftPos f_draftNeg f_state f_assumedCount f_assumedPos f_assumedNeg (nI cc) f_nodeCount f_root f_depth f_result f_workPos f_workNeg a_slotUsed a_slotPos a_slotNeg a_assumed a_weightPos a_weightNeg a_clausePos a_clauseNeg a_nodeChoice a_nodePos a_nodeNeg a_nodeFree a_nodeKids a_kids a_cacheKey a_cacheNode a_framePos a_frameNeg a_frameFree a_frameParts a_frameNext a_framePhase a_frameVar a_frameHigh a_partVars a_partClauses a_partNode a_value a_sizes a_poly a_product a_factorPos a_factorNeg n (nI c) s)
    (fun c s => kb_sub s f_workLive ∧ ∀ a, kp_cf a_clausePos a_clauseNeg cc O f_workLive a ↔ kp_cf a_clausePos a_clauseNeg cc O s a) cc f_workLive ⟨fun _ z => z, fun _ => Iff.rfl⟩ ?_ ?_
  · intro n s hs
    exact br_t (nI_le (Nat.le_refl _) (by omega)) (K s hs.1 hs.2)
  · intro n i s hi hs hk
    have ei : (nI i).toNatClampNeg = i := nI_clamp (by omega)
    have hin : vp_in (nI i) 24 := vp_in_nI (by omega) (by decide)
    refine br_f (nI_ge hi (by omega)) (br_c (fun z => ?_) (fun z => ⟨hin, ?_⟩))
    · intro y ey
      subst ey
      rw [nI_1 i]
      exact hk s hs
    · intro x3 e3
      refine ⟨hin, ?_⟩
      intro x4 e4
      rw [ei] at e3 e4
      subst e3 e4
      exact kw_ds46 rfl hCL hi (ts_nf (fun e => z ((kb_t s (by omega)).mpr e))) hs.1 hs.2 (fun L h1 h2 => hk L ⟨h1, h2⟩)
def kp_own (cp cn : Nat → Int32) (O : Int32) (j : Nat) : Int32 := (cp j ||| cn j) &&& O
def kp_fr (cp cn : Nat → Int32) (cc : Nat) (R O W : Int32) : Prop := ∀ v, bt W v = true → ∃ j, j < cc ∧ bt R j = true ∧ bt (kp_own cp cn O j) v = true
theorem kp_frO {cp cn : Nat → Int32} {cc : Nat} {R O W : Int32} (h : kp_fr cp cn cc R O W) : kb_sub W O := fun v hv => by
  obtain ⟨j, _, _, h1⟩ := h v hv
  unfold kp_own at h1
  rw [b_and, Bool.and_eq_true] at h1
  exact h1.2
theorem kw_con42 {post : Int32 → Prop} {J23 : Int32 → Int32 → Int32 → Prop} {R O W0 x6 : Int32} (hcc : f_clauseCount = nI cc) (h24 : cc ≤ 24) (hW : kp_fr a_clausePos a_clauseNeg cc R O W0)
    (K0 : (∀ j, j < cc → bt R j = true → ¬ (kp_own a_clausePos a_clauseNeg O j &&& W0) = 0 → kb_sub (kp_own a_clausePos a_clauseNeg O j) W0) → J23 W0 0 (x6 + 1))
    (K1 : ∀ W, kb_sub W0 W → kp_fr a_clausePos a_clauseNeg cc R O W → W ≠ W0 → J23 W 1 (x6 + 1)) :
    ∃ n, wX_connected_42 post J23 R O x6 W0 f_varCount f_slotCount f_fullMask f_draftPos f_draftNeg f_state f_assumedCount f_assumedPos f_assumedNeg f_clauseCount f_nodeCount f_root f_depth f_result f_workPos f_workNeg f_workLive a_slotUsed a_slotPos a_slotNeg a_assumed a_weightPos a_weightNeg a_clausePos a_clauseNeg a_nodeChoice a_nodePos a_nodeNeg a_nodeFree a_nodeKids a_kids a_cacheKey a_cacheNode a_framePos a_frameNeg a_frameFree a_frameParts a_frameNext a_framePhase a_frameVar a_frameHigh a_partVars a_partClauses a_partNode a_value a_sizes a_poly a_product a_factorPos a_factorNeg n W0 0 := by
  subst hcc
  refine loop_0 (fun n c s => wX_connected_42 post J23 R O x6 W0 f_varCount f_slotCount f_fullMask f_draftPos f_draftNeg f_state f_assumedCount f_assumedPos f_assumedNeg (nI cc) f_nodeCount f_root f_depth f_result f_workPos f_workNeg f_workLive a_slotUsed a_slotPos a_slotNeg a_assumed a_weightPos a_weightNeg a_clausePos a_clauseNeg a_nodeChoice a_nodePos a_nodeNeg a_nodeFree a_nodeKids a_kids a_cacheKey a_cacheNode a_framePos a_frameNeg a_frameFree a_frameParts a_frameNext a_framePhase a_frameVar a_frameHigh a_partVars a_partClauses a_partNode a_value a_sizes a_poly a_product a_factorPos a_factorNeg n s (nI c))
    (fun c s => kb_sub W0 s ∧ kp_fr a_clausePos a_clauseNeg cc R O s ∧ ∀ j, j < c → bt R j = true → ¬ (kp_own a_clausePos a_clauseNeg O j &&& W0) = 0 → kb_sub (kp_own a_clausePos a_clauseNeg O j) s) cc W0 ⟨fun _ z => z, hW, fun j hj => by omega⟩ ?_ ?_
  · intro n s hs
    refine br_t (nI_le (Nat.le_refl _) (by omega)) (br_c (fun e => ?_) (fun e => ?_))
    · intro y ey
      subst ey e
      exact K0 hs.2.2
    · intro y ey
      subst ey
      exact K1 s hs.1 hs.2.1 e
  · intro n j s hj hs hk
    have ej : (nI j).toNatClampNeg = j := nI_clamp (by omega)
    have hin : vp_in (nI j) 24 := vp_in_nI (by omega) (by decide)
    refine br_f (nI_ge hj (by omega)) ⟨hin, hin, ?_⟩
    rw [ej]
    intro x9 e9
    have e9' : x9 = kp_own a_clausePos a_clauseNeg O j := e9
    clear e9
    subst e9'
    have keep : ∀ s', kb_sub s s' → (bt R j = true → ¬ (kp_own a_clausePos a_clauseNeg O j &&& W0) = 0 → kb_sub (kp_own a_clausePos a_clauseNeg O j) s') → ∀ i, i < j + 1 → bt R i = true → ¬ (kp_own a_clausePos a_clauseNeg O i &&& W0) = 0 → kb_sub (kp_own a_clausePos a_clauseNeg O i) s' := by
      intro s' h1 h2 i hi hb ho
      by_cases e : i = j
      · subst e; exact h2 hb ho
      · exact fun v hv => h1 v (hs.2.2 i (by omega) hb ho v hv)
    refine br_c (fun z => ?_) (fun z => br_c (fun z2 => ?_) (fun z2 => ?_))
    · intro y ey
      subst ey
      rw [nI_1 j]
      exact hk s ⟨hs.1, hs.2.1, keep s (fun _ z => z) (fun hb => by rw [(kb_t R (by omega)).mp z] at hb; cases hb)⟩
    · intro y ey
      subst ey
      rw [nI_1 j]
      refine hk s ⟨hs.1, hs.2.1, keep s (fun _ z => z) (fun _ ho => absurd ?_ ho)⟩
      rw [kb_andz] at z2 ⊢
      exact fun v hv => z2 v ⟨hv.1, hs.1 v hv.2⟩
    · intro y ey t et
      subst ey et
      rw [nI_1 j]
      refine hk _ ⟨fun v hv => by rw [b_or, hs.1 v hv]; rfl, fun v hv => ?_, keep _ (fun v hv => by rw [b_or, hv]; rfl) (fun _ _ v hv => by rw [b_or, hv]; simp)⟩
      rw [b_or, Bool.or_eq_true] at hv
      rcases hv with hv | hv
      · exact hs.2.1 v hv
      · exact ⟨j, hj, ts_nf (fun e => z ((kb_t R (by omega)).mpr e)), hv⟩
theorem kw_connected {post : Int32 → Prop} {R O : Int32} {c : Nat} (hcc : f_clauseCount = nI cc) (h24 : cc ≤ 24) (hO : kb_lo8 O) (hc : c < cc) (hR : bt R c = true)
    (K : ∀ W, kb_sub (kp_own a_clausePos a_clauseNeg O c) W → kp_fr a_clausePos a_clauseNeg cc R O W → (∀ j, j < cc → bt R j = true → ¬ (kp_own a_clausePos a_clauseNeg O j &&& W) = 0 → kb_sub (kp_own a_clausePos a_clauseNeg O j) W) → post W) :
    wpX_connected post (f_varCount, f_slotCount, f_fullMask, f_draftPos, f_draftNeg, f_state, f_assumedCount, f_assumedPos, f_assumedNeg, f_clauseCount, f_nodeCount, f_root, f_depth, f_result, f_workPos, f_workNeg, f_workLive, a_slotUsed, a_slotPos, a_slotNeg, a_assumed, a_weightPos, a_weightNeg, a_clausePos, a_clauseNeg, a_nodeChoice, a_nodePos, a_nodeNeg, a_nodeFree, a_nodeKids, a_kids, a_cacheKey, a_cacheNode, a_framePos, a_frameNeg, a_frameFree, a_frameParts, a_frameNext, a_framePhase, a_frameVar, a_frameHigh, a_partVars, a_partClauses, a_partNode, a_value, a_sizes, a_poly, a_product, a_factorPos, a_factorNeg) (nI c) R O := by
  have main : ∀ m r W, r + m = 9 → kb_sub (kp_own a_clausePos a_clauseNeg O c) W → kp_fr a_clausePos a_clauseNeg cc R O W → r ≤ kb_cd (bt W) → wX_connected_23 post R O f_varCount f_slotCount f_fullMask f_draftPos f_draftNeg f_state f_assumedCount f_assumedPos f_assumedNeg f_clauseCount f_nodeCount f_root f_depth f_result f_workPos f_workNeg f_workLive a_slotUsed a_slotPos a_slotNeg a_assumed a_weightPos a_weightNeg a_clausePos a_clauseNeg a_nodeChoice a_nodePos a_nodeNeg a_nodeFree a_nodeKids a_kids a_cacheKey a_cacheNode a_framePos a_frameNeg a_frameFree a_frameParts a_frameNext a_framePhase a_frameVar a_frameHigh a_partVars a_partClauses a_partNode a_value a_sizes a_poly a_product a_factorPos a_factorNeg (m + 1) W 1 (nI r) := by
    intro m
    induction m with
    | zero =>
      intro r W e _ _ hr
      have := kb_cd8 (bt W)
      omega
    | succ m ih =>
      intro r W e h1 h2 hr
      refine br_f (nI_ge (b := 9) (by omega) (by decide)) (br_f (by decide) ?_)
      refine kw_con42 hcc h24 h2 (fun H => ?_) (fun W' g1 g2 g3 => ?_)
      · rw [nI_1 r]
        exact br_c (fun _ => K W h1 h2 H) (fun _ => br_t rfl (K W h1 h2 H))
      · rw [nI_1 r]
        refine ih (r + 1) W' (by omega) (fun v hv => g1 v (h1 v hv)) g2 ?_
        have hlt : kb_cd (bt W) < kb_cd (bt W') := by
          have : ∃ v, bt W' v = true ∧ bt W v = false := by
            apply Classical.byContradiction
            intro hn
            apply g3
            apply b_ext
            intro i _
            cases e1 : bt W' i with
            | true =>
              cases e2 : bt W i with
              | true => rfl
              | false => exact absurd ⟨i, e1, e2⟩ hn
            | false =>
              cases e2 : bt W i with
              | true => rw [g1 i e2] at e1; cases e1
              | false => rfl
          obtain ⟨v, hv1, hv2⟩ := this
          exact kb_cdlt g1 (hO v (kp_frO g2 v hv1)) hv2 hv1
        omega
  have ec : (nI c).toNatClampNeg = c := nI_clamp (by omega)
  have hin : vp_in (nI c) 24 := vp_in_nI (by omega) (by decide)
  refine ⟨hin, hin, ?_⟩
  intro x4 e4
  rw [ec] at e4
  have e4' : x4 = kp_own a_clausePos a_clauseNeg O c := e4
  clear e4
  subst e4'
  exact ⟨10, main 9 0 _ rfl (fun _ z => z) (fun v hv => ⟨c, hc, hR, hv⟩) (Nat.zero_le _)⟩
theorem kw_touching {post : Int32 → Prop} {V R : Int32} (hcc : f_clauseCount = nI cc) (h24 : cc ≤ 24)
    (K : ∀ M, (∀ j, bt M j = true ↔ (j < cc ∧ bt R j = true ∧ ¬ ((a_clausePos j ||| a_clauseNeg j) &&& V) = 0)) → post M) : wpX_touching post (f_varCount, f_slotCount, f_fullMask, f_draftPos, f_draftNeg, f_state, f_assumedCount, f_assumedPos, f_assumedNeg, f_clauseCount, f_nodeCount, f_root, f_depth, f_result, f_workPos, f_workNeg, f_workLive, a_slotUsed, a_slotPos, a_slotNeg, a_assumed, a_weightPos, a_weightNeg, a_clausePos, a_clauseNeg, a_nodeChoice, a_nodePos, a_nodeNeg, a_nodeFree, a_nodeKids, a_kids, a_cacheKey, a_cacheNode, a_framePos, a_frameNeg, a_frameFree, a_frameParts, a_frameNext, a_framePhase, a_frameVar, a_frameHigh, a_partVars, a_partClauses, a_partNode, a_value, a_sizes, a_poly, a_product, a_factorPos, a_factorNeg) V R := by
  subst hcc
  refine loop_0 (fun n c s => wX_touching_5 post V R f_varCount f_slotCount f_fullMask f_draftPos f_draftNeg f_state f_assumedCount f_assumedPos f_assumedNeg (nI cc) f_nodeCount f_root f_depth f_result f_workPos f_workNeg f_workLive a_slotUsed a_slotPos a_slotNeg a_assumed a_weightPos a_weightNeg a_clausePos a_clauseNeg a_nodeChoice a_nodePos a_nodeNeg a_nodeFree a_nodeKids a_kids a_cacheKey a_cacheNode a_framePos a_frameNeg a_frameFree a_frameParts a_frameNext a_framePhase a_frameVar a_frameHigh a_partVars a_partClauses a_partNode a_value a_sizes a_poly a_product a_factorPos a_factorNeg n s (nI c))
    (fun c s => ∀ j, bt s j = true ↔ (j < c ∧ ¬ ((a_clausePos j ||| a_clauseNeg j) &&& V) = 0)) cc 0 (fun j => ⟨fun h => (by rw [b_0] at h; cases h), fun h => by omega⟩) ?_ ?_
  · intro n s hs
    refine br_t (nI_le (Nat.le_refl _) (by omega)) (K _ (fun j => ?_))
    rw [b_and, Bool.and_eq_true, hs j]
    exact ⟨fun h => ⟨h.1.1, h.2, h.1.2⟩, fun h => ⟨⟨h.1, h.2.2⟩, h.2.1⟩⟩
  · intro n j s hj hs hk
    have ej : (nI j).toNatClampNeg = j := nI_clamp (by omega)
    have hin : vp_in (nI j) 24 := vp_in_nI (by omega) (by decide)
    refine br_f (nI_ge hj (by omega)) ⟨hin, hin, ?_⟩
    rw [ej]
    intro x5 e5
    subst e5
    refine br_c (fun z => ?_) (fun z => ?_)
    · intro y ey
      subst ey
      rw [nI_1 j]
      refine hk s (fun i => (hs i).trans ⟨fun h => ⟨by omega, h.2⟩, fun h => ⟨?_, h.2⟩⟩)
      by_cases e : i = j
      · subst e; exact absurd z h.2
      · omega
    · intro y ey w ew
      subst ey ew
      rw [nI_1 j]
      refine hk _ (fun i => ?_)
      rw [b_or, Bool.or_eq_true, hs i, kb_one j (by omega)]
      constructor
      · rintro (h | h)
        · exact ⟨by omega, h.2⟩
        · have e : i = j := by simpa using h
          subst e; exact ⟨by omega, z⟩
      · intro h
        by_cases e : i = j
        · subst e; exact Or.inr (by simp)
        · exact Or.inl ⟨by omega, h.2⟩
end
end
section
/-! X's walk: split -/
/-- cnt parts from place b on: variables within O, at least two each, disjoint; used is their union -/
def kp_Pt (cc : Nat) (O : Int32) (pv pc : Nat → Int32) (b cnt : Nat) (used : Int32) : Prop :=
  (∀ j, j < cnt → kb_sub (pv (b + j)) O ∧ 2 ≤ kb_cd (bt (pv (b + j))) ∧ ∀ c, bt (pc (b + j)) c = true → c < cc)
  ∧ (∀ i j, i < cnt → j < i → kb_dis (pv (b + i)) (pv (b + j))) ∧ (∀ v, bt used v = true ↔ ∃ j, j < cnt ∧ bt (pv (b + j)) v = true)
def kp_SI (cp cn : Nat → Int32) (cc : Nat) (O live : Int32) (b : Nat) (pv0 pc0 : Nat → Int32) (c : Nat) (rem used : Int32) (cnt : Nat) (pv pc : Nat → Int32) : Prop :=
  cnt ≤ 4 ∧ kp_Pt cc O pv pc b cnt used ∧ 2 * cnt ≤ kb_cd (bt used) ∧ (∀ j, j < b → pv j = pv0 j ∧ pc j = pc0 j) ∧ kb_sub rem live ∧ (∀ i, i < c → bt rem i = false)
  ∧ (∀ i, i < cc → bt rem i = true → kb_dis (kp_own cp cn O i) used)
  ∧ (∀ a, kp_cf cp cn cc O live a ↔ ((∀ j, j < cnt → kp_cf cp cn cc (pv (b + j)) (pc (b + j)) a) ∧ kp_cf cp cn cc O rem a))
section
variable {cp cn pv0 pc0 pv pc : Nat → Int32} {cc b c cnt : Nat} {O live rem used : Int32}
theorem kp_ownb {j v : Nat} : bt (kp_own cp cn O j) v = true ↔ ((bt (cp j) v = true ∨ bt (cn j) v = true) ∧ bt O v = true) := by
  unfold kp_own
  rw [b_and, b_or]
  simp
theorem kp_csown {a : Nat → Bool} {W : Int32} (hW : kb_sub W O) {j : Nat} (h : kb_sub (kp_own cp cn O j) W) : kp_cs cp cn O a j ↔ kp_cs cp cn W a j := by
  constructor
  · rintro ⟨v, hv, h1⟩
    exact ⟨v, h v (kp_ownb.mpr ⟨h1.elim (fun z => Or.inl z.1) (fun z => Or.inr z.1), hv⟩), h1⟩
  · rintro ⟨v, hv, h1⟩
    exact ⟨v, hW v hv, h1⟩
theorem kp_SI_0 : kp_SI cp cn cc O live b pv0 pc0 0 live 0 0 pv0 pc0 := by
  refine ⟨by decide, ⟨fun j hj => absurd hj (Nat.not_lt_zero _), fun i j hi => absurd hi (Nat.not_lt_zero _), fun v => ⟨fun h => ?_, fun ⟨j, hj, _⟩ => absurd hj (Nat.not_lt_zero _)⟩⟩, Nat.zero_le _, fun j _ => ⟨rfl, rfl⟩, fun _ z => z, fun i hi => absurd hi (Nat.not_lt_zero _), fun i _ _ v hv => ?_, fun a => ⟨fun h => ⟨fun j hj => absurd hj (Nat.not_lt_zero _), h⟩, fun h => h.2⟩⟩
  · rw [b_0] at h; cases h
  · rw [b_0] at hv; cases hv.2
theorem kp_SI_skip (h : kp_SI cp cn cc O live b pv0 pc0 c rem used cnt pv pc) (hb : bt rem c = false) : kp_SI cp cn cc O live b pv0 pc0 (c + 1) rem used cnt pv pc := by
  obtain ⟨h1, h2, h3, h4, h5, h6, h7, h8⟩ := h
  refine ⟨h1, h2, h3, h4, h5, fun i hi => ?_, h7, h8⟩
  by_cases e : i = c
  · subst e; exact hb
  · exact h6 i (by omega)
theorem kp_SI_step (h : kp_SI cp cn cc O live b pv0 pc0 c rem used cnt pv pc) (h24 : cc ≤ 24) (hO : kb_lo8 O) (hc : c < cc) (hb : bt rem c = true) (h4' : cnt < 4)
    (H2 : ∀ i, i < cc → bt live i = true → ∃ v z, v ≠ z ∧ bt (kp_own cp cn O i) v = true ∧ bt (kp_own cp cn O i) z = true) {W M : Int32}
    (w1 : kb_sub (kp_own cp cn O c) W) (w2 : kp_fr cp cn cc rem O W) (w3 : ∀ j, j < cc → bt rem j = true → ¬ (kp_own cp cn O j &&& W) = 0 → kb_sub (kp_own cp cn O j) W)
    (m : ∀ j, bt M j = true ↔ (j < cc ∧ bt rem j = true ∧ ¬ ((cp j ||| cn j) &&& W) = 0)) :
    kp_SI cp cn cc O live b pv0 pc0 (c + 1) (rem &&& (M ^^^ (-1))) (used ||| W) (cnt + 1) (upd pv (b + cnt) W) (upd pc (b + cnt) M) := by
  obtain ⟨h1, ⟨p1, p2, p3⟩, h3, h4, h5, h6, h7, h8⟩ := h
  have hWO := kp_frO w2
  have hWu : kb_dis used W := fun v hv => by
    obtain ⟨j, j1, j2, j3⟩ := w2 v hv.2
    exact h7 j j1 j2 v ⟨j3, hv.1⟩
  have hup : ∀ {f : Nat → Int32} {x : Int32} {j : Nat}, j < cnt → upd f (b + cnt) x (b + j) = f (b + j) := fun hj => pk_un (by omega)
  have hsp : ∀ {P : Nat → Prop}, (∀ j, j < cnt → P j) → P cnt → ∀ j, j < cnt + 1 → P j := fun ha hb j hj => by
    by_cases e : j = cnt
    · subst e; exact hb
    · exact ha j (by omega)
  have hrem : ∀ j, j < 32 → bt (rem &&& (M ^^^ (-1))) j = (bt rem j && !bt M j) := fun j hj => by rw [b_and, kb_not _ hj]
  have hrs : ∀ j, bt (rem &&& (M ^^^ (-1))) j = true → bt rem j = true ∧ bt M j = false := fun j hj => by
    by_cases z : j < 32
    · rw [hrem j z] at hj; simpa using hj
    · rw [b_big (by omega)] at hj; cases hj
  have hmO : ∀ j, ¬ ((cp j ||| cn j) &&& W) = 0 → ¬ (kp_own cp cn O j &&& W) = 0 := fun j hj e => by
    apply hj
    rw [kb_andz] at e ⊢
    intro v hv
    exact e v ⟨by unfold kp_own; rw [b_and, hv.1, hWO v hv.2]; rfl, hv.2⟩
  refine ⟨by omega, ⟨?_, ?_, ?_⟩, ?_, ?_, ?_, ?_, ?_, ?_⟩
  · refine hsp (fun j hj => ?_) ?_
    · rw [hup hj, hup hj]; exact p1 j hj
    · rw [pk_us, pk_us]
      refine ⟨hWO, ?_, fun j hj => ((m j).mp hj).1⟩
      obtain ⟨v, z, hne, hv, hz⟩ := H2 c hc (h5 c hb)
      exact kb_cd2 (hO v (kp_ownb.mp hv).2) (hO z (kp_ownb.mp hz).2) hne (w1 v hv) (w1 z hz)
  · intro i j hi hj
    by_cases e : i = cnt
    · subst e
      rw [pk_us, hup hj]
      exact fun v hv => hWu v ⟨(p3 v).mpr ⟨j, hj, hv.2⟩, hv.1⟩
    · rw [hup (by omega), hup (by omega)]
      exact p2 i j (by omega) hj
  · intro v
    rw [b_or, Bool.or_eq_true, p3 v]
    constructor
    · rintro (⟨j, hj, hv⟩ | hv)
      · exact ⟨j, by omega, by rw [hup hj]; exact hv⟩
      · exact ⟨cnt, by omega, by rw [pk_us]; exact hv⟩
    · rintro ⟨j, hj, hv⟩
      by_cases e : j = cnt
      · subst e; rw [pk_us] at hv; exact Or.inr hv
      · rw [hup (by omega)] at hv; exact Or.inl ⟨j, by omega, hv⟩
  · rw [kb_cdor (W := bt (used ||| W)) (U := bt used) (V := bt W) (fun v _ => b_or _ _ _) (fun v _ => hWu v)]
    obtain ⟨v, z, hne, hv, hz⟩ := H2 c hc (h5 c hb)
    have := kb_cd2 (V := bt W) (hO v (kp_ownb.mp hv).2) (hO z (kp_ownb.mp hz).2) hne (w1 v hv) (w1 z hz)
    omega
  · intro j hj
    rw [pk_un (by omega), pk_un (by omega)]
    exact h4 j hj
  · exact fun v hv => h5 v (hrs v hv).1
  · intro i hi
    by_cases e : i = c
    · subst e
      rw [hrem i (by omega)]
      have : bt M i = true := (m i).mpr ⟨hc, hb, fun e => by
        obtain ⟨v, z, hne, hv, hz⟩ := H2 i hc (h5 i hb)
        have := kb_andz.mp e v
        rw [b_or, Bool.or_eq_true] at this
        exact this ⟨(kp_ownb.mp hv).1, w1 v hv⟩⟩
      rw [this]; simp
    · exact ts_nt (fun z => by have := (hrs i z).1; rw [h6 i (by omega)] at this; cases this)
  · intro i hi hb' v hv
    obtain ⟨g1, g2⟩ := hrs i hb'
    have hu := hv.2
    rw [b_or, Bool.or_eq_true] at hu
    rcases hu with hu | hu
    · exact h7 i hi g1 v ⟨hv.1, hu⟩
    · have : bt M i = true := (m i).mpr ⟨hi, g1, fun e => by
        have := kb_andz.mp e v
        rw [b_or, Bool.or_eq_true] at this
        exact this ⟨(kp_ownb.mp hv.1).1, hu⟩⟩
      rw [this] at g2; cases g2
  · intro a
    rw [h8 a]
    constructor
    · rintro ⟨g1, g2⟩
      refine ⟨hsp (fun j hj => by rw [hup hj, hup hj]; exact g1 j hj) ?_, fun i hi hi2 => g2 i hi (hrs i hi2).1⟩
      rw [pk_us, pk_us]
      intro i hi hi2
      have hm := (m i).mp hi2
      exact (kp_csown hWO (w3 i hi hm.2.1 (hmO i hm.2.2))).mp (g2 i hi hm.2.1)
    · rintro ⟨g1, g2⟩
      refine ⟨fun j hj => by have := g1 j (by omega); rw [hup hj, hup hj] at this; exact this, fun i hi hi2 => ?_⟩
      cases e : bt M i with
      | true =>
        have hm := (m i).mp e
        have := g1 cnt (by omega)
        rw [pk_us, pk_us] at this
        exact (kp_csown hWO (w3 i hi hm.2.1 (hmO i hm.2.2))).mpr (this i hi e)
      | false => exact g2 i hi (by rw [hrem i (by omega), hi2, e]; rfl)
/-- at the end no clause remains -/
theorem kp_SI_end (h : kp_SI cp cn cc O live b pv0 pc0 c rem used cnt pv pc) (hO : kb_lo8 O) (he : c = cc ∨ cnt = 4)
    (H2 : ∀ i, i < cc → bt live i = true → ∃ v z, v ≠ z ∧ bt (kp_own cp cn O i) v = true ∧ bt (kp_own cp cn O i) z = true) (a : Nat → Bool) :
    kp_cf cp cn cc O live a ↔ ∀ j, j < cnt → kp_cf cp cn cc (pv (b + j)) (pc (b + j)) a := by
  obtain ⟨h1, h2, h3, h4, h5, h6, h7, h8⟩ := h
  have : ∀ i, i < cc → bt rem i = false := by
    intro i hi
    rcases he with rfl | rfl
    · exact h6 i hi
    · refine ts_nt (fun z => ?_)
      obtain ⟨v, w, _, hv, _⟩ := H2 i hi (h5 i z)
      have hlo : ∀ v, bt used v = true → v < 8 := fun v hv => by
        obtain ⟨j, hj, hp⟩ := (h2.2.2 v).mp hv
        exact hO v ((h2.1 j hj).1 v hp)
      exact h7 i hi z v ⟨hv, kb_cdall (V := bt used) (n := 8) (by omega) hlo (by omega) (hO v (kp_ownb.mp hv).2)⟩
  rw [h8 a]
  exact ⟨fun g => g.1, fun g => ⟨g, fun i hi hb => by rw [this i hi] at hb; cases hb⟩⟩
end
section
variable {f_varCount f_slotCount f_fullMask f_draftPos f_draftNeg f_state f_assumedCount f_assumedPos f_assumedNeg f_clauseCount f_nodeCount f_root f_depth f_result f_workPos f_workNeg f_workLive : Int32} {a_slotUsed a_slotPos a_slotNeg a_assumed a_weightPos a_weightNeg a_clausePos a_clauseNeg a_nodeChoice a_nodePos a_nodeNeg a_nodeFree a_nodeKids a_kids a_cacheKey a_cacheNode a_framePos a_frameNeg a_frameFree a_frameParts a_frameNext a_framePhase a_frameVar a_frameHigh a_partVars a_partClauses a_partNode a_value a_sizes a_poly a_product a_factorPos a_factorNeg : Nat → Int32}
variable {cc : Nat}
theorem kw_split {post : Int32 → SX → Prop} {O : Int32} {d : Nat} (hcc : f_clauseCount = nI cc) (hCL : kp_CL a_clausePos a_clauseNeg cc) (hO : kb_lo8 O) (hd : d < 16)
    (H2 : ∀ i, i < cc → bt f_workLive i = true → ∃ v z, v ≠ z ∧ bt (kp_own a_clausePos a_clauseNeg O i) v = true ∧ bt (kp_own a_clausePos a_clauseNeg O i) z = true)
    (K : ∀ used cnt pv pc, cnt ≤ 4 → kp_Pt cc O pv pc (d * 4) cnt used → (∀ j, j < d * 4 → pv j = a_partVars j ∧ pc j = a_partClauses j) → (∀ a, kp_cf a_clausePos a_clauseNeg cc O f_workLive a ↔ ∀ j, j < cnt → kp_cf a_clausePos a_clauseNeg cc (pv (d * 4 + j)) (pc (d * 4 + j)) a) →
      post used (f_varCount, f_slotCount, f_fullMask, f_draftPos, f_draftNeg, f_state, f_assumedCount, f_assumedPos, f_assumedNeg, f_clauseCount, f_nodeCount, f_root, f_depth, f_result, f_workPos, f_workNeg, f_workLive, a_slotUsed, a_slotPos, a_slotNeg, a_assumed, a_weightPos, a_weightNeg, a_clausePos, a_clauseNeg, a_nodeChoice, a_nodePos, a_nodeNeg, a_nodeFree, a_nodeKids, a_kids, a_cacheKey, a_cacheNode, a_framePos, a_frameNeg, a_frameFree, (upd a_frameParts d (nI cnt)), a_frameNext, a_framePhase, a_frameVar, a_frameHigh, pv, pc, a_partNode, a_value, a_sizes, a_poly, a_product, a_factorPos, a_factorNeg)) : wpX_split post (f_varCount, f_slotCount, f_fullMask, f_draftPos, f_draftNeg, f_state, f_assumedCount, f_assumedPos, f_assumedNeg, f_clauseCount, f_nodeCount, f_root, f_depth, f_result, f_workPos, f_workNeg, f_workLive, a_slotUsed, a_slotPos, a_slotNeg, a_assumed, a_weightPos, a_weightNeg, a_clausePos, a_clauseNeg, a_nodeChoice, a_nodePos, a_nodeNeg, a_nodeFree, a_nodeKids, a_kids, a_cacheKey, a_cacheNode, a_framePos, a_frameNeg, a_frameFree, a_frameParts, a_frameNext, a_framePhase, a_frameVar, a_frameHigh, a_partVars, a_partClauses, a_partNode, a_value, a_sizes, a_poly, a_product, a_factorPos, a_factorNeg) (nI d) O := by
  subst hcc
  have h24 := hCL.1
  have ed : (nI d).toNatClampNeg = d := nI_clamp (by omega)
  have hind : vp_in (nI d) 16 := vp_in_nI hd (by decide)
  refine loop_0 (σ := Int32 × Int32 × Nat × (Nat → Int32) × (Nat → Int32)) (fun n c s => wX_split_14 post (nI d) O f_varCount f_slotCount f_fullMask f_draftPos f_draftNeg f_state f_assumedCount f_assumedPos f_assumedNeg (nI cc) f_nodeCount f_root f_depth f_result f_workPos f_workNeg f_workLive n s.1 s.2.1 (nI s.2.2.1) (nI c) a_slotUsed a_slotPos a_slotNeg a_assumed a_weightPos a_weightNeg a_clausePos a_clauseNeg a_nodeChoice a_nodePos a_nodeNeg a_nodeFree a_nodeKids a_kids a_cacheKey a_cacheNode a_framePos a_frameNeg a_frameFree a_frameParts a_frameNext a_framePhase a_frameVar a_frameHigh s.2.2.2.1 s.2.2.2.2 a_partNode a_value a_sizes a_poly a_product a_factorPos a_factorNeg)
    (fun c s => kp_SI a_clausePos a_clauseNeg cc O f_workLive (d * 4) a_partVars a_partClauses c s.1 s.2.1 s.2.2.1 s.2.2.2.1 s.2.2.2.2) cc (f_workLive, 0, 0, a_partVars, a_partClauses) ?_ ?_ ?_
  · exact kp_SI_0
  · rintro n ⟨rem, used, cnt, pv, pc⟩ hs
    dsimp only at hs ⊢
    refine br_t (nI_le (Nat.le_refl _) (by omega)) ⟨hind, ?_⟩
    intro y ey
    rw [ed] at ey
    subst ey
    exact K used cnt pv pc hs.1 hs.2.1 hs.2.2.2.1 (kp_SI_end hs hO (Or.inl rfl) H2)
  · rintro n c ⟨rem, used, cnt, pv, pc⟩ hc hs hk
    dsimp only at hs hk ⊢
    have hc4 := hs.1
    refine br_f (nI_ge hc (by omega)) (pk_le 4 cnt (fun h4 => ⟨hind, ?_⟩) (fun h4 => br_c (fun z => ?_) (fun z => ?_)))
    · intro y ey
      rw [ed] at ey
      subst ey
      exact K used cnt pv pc hs.1 hs.2.1 hs.2.2.2.1 (kp_SI_end hs hO (Or.inr (by omega)) H2)
    · intro y ey
      subst ey
      rw [nI_1 c]
      exact hk (rem, used, cnt, pv, pc) (kp_SI_skip hs ((kb_t rem (by omega)).mp z))
    · have hb : bt rem c = true := ts_nf (fun e => z ((kb_t rem (by omega)).mpr e))
      refine kw_connected rfl h24 hO hc hb (fun W w1 w2 w3 => ?_)
      refine kw_touching rfl h24 (fun M m => ?_)
      have e4 : nI d * 4 + nI cnt = nI (d * 4 + cnt) := by rw [show (4 : Int32) = nI 4 from rfl, pk_mul, nI_add]
      rw [e4, nI_clamp (n := d * 4 + cnt) (by omega)]
      refine ⟨vp_in_nI (by omega) (by decide), ?_⟩
      intro pv' ev
      refine ⟨vp_in_nI (by omega) (by decide), ?_⟩
      intro pc' ec x5 e5 x4 e4 x3 e3 x6 e6
      subst ev ec e5 e4 e3 e6
      rw [nI_1 cnt, nI_1 c]
      exact hk (_, _, cnt + 1, _, _) (kp_SI_step hs h24 hO hc hb h4 H2 w1 w2 w3 m)
end
end
section
/-! X's walks: chooseVariable, the cache, openBranch, nodes -/
section
variable {f_varCount f_slotCount f_fullMask f_draftPos f_draftNeg f_state f_assumedCount f_assumedPos f_assumedNeg f_clauseCount f_nodeCount f_root f_depth f_result f_workPos f_workNeg f_workLive : Int32} {a_slotUsed a_slotPos a_slotNeg a_assumed a_weightPos a_weightNeg a_clausePos a_clauseNeg a_nodeChoice a_nodePos a_nodeNeg a_nodeFree a_nodeKids a_kids a_cacheKey a_cacheNode a_framePos a_frameNeg a_frameFree a_frameParts a_frameNext a_framePhase a_frameVar a_frameHigh a_partVars a_partClauses a_partNode a_value a_sizes a_poly a_product a_factorPos a_factorNeg : Nat → Int32}
variable {cc : Nat}
theorem kw_ch40 {post : Int32 → Prop} {J11 : Int32 → Int32 → Int32 → Prop} {x1 x2 x3 x4 x5 x6 : Int32} (hcc : f_clauseCount = nI cc) (h24 : cc ≤ 24) (K0 : J11 x3 x4 (x5 + 1)) (K1 : ∀ x7, J11 x6 x7 (x5 + 1)) :
    ∃ n, wX_chooseVariable_40 post J11 x1 x2 x3 x4 x5 x6 f_varCount f_slotCount f_fullMask f_draftPos f_draftNeg f_state f_assumedCount f_assumedPos f_assumedNeg f_clauseCount f_nodeCount f_root f_depth f_result f_workPos f_workNeg f_workLive a_slotUsed a_slotPos a_slotNeg a_assumed a_weightPos a_weightNeg a_clausePos a_clauseNeg a_nodeChoice a_nodePos a_nodeNeg a_nodeFree a_nodeKids a_kids a_cacheKey a_cacheNode a_framePos a_frameNeg a_frameFree a_frameParts a_frameNext a_framePhase a_frameVar a_frameHigh a_partVars a_partClauses a_partNode a_value a_sizes a_poly a_product a_factorPos a_factorNeg n 0 0 := by
  subst hcc
  refine loop_0 (fun n c s => wX_chooseVariable_40 post J11 x1 x2 x3 x4 x5 x6 f_varCount f_slotCount f_fullMask f_draftPos f_draftNeg f_state f_assumedCount f_assumedPos f_assumedNeg (nI cc) f_nodeCount f_root f_depth f_result f_workPos f_workNeg f_workLive a_slotUsed a_slotPos a_slotNeg a_assumed a_weightPos a_weightNeg a_clausePos a_clauseNeg a_nodeChoice a_nodePos a_nodeNeg a_nodeFree a_nodeKids a_kids a_cacheKey a_cacheNode a_framePos a_frameNeg a_frameFree a_frameParts a_frameNext a_framePhase a_frameVar a_frameHigh a_partVars a_partClauses a_partNode a_value a_sizes a_poly a_product a_factorPos a_factorNeg n s (nI c)) (fun _ _ => True) cc 0 trivial ?_ ?_
  · intro n s _
    refine br_t (nI_le (Nat.le_refl _) (by omega)) (br_c (fun _ => ?_) (fun _ => ?_))
    · intro y ey
      subst ey
      exact K0
    · intro y ey
      subst ey
      exact K1 s
  · intro n j s hj _ hk
    have hin : vp_in (nI j) 24 := vp_in_nI (by omega) (by decide)
    have nxt : ∀ s' y, y = nI j + 1 → wX_chooseVariable_40 post J11 x1 x2 x3 x4 x5 x6 f_varCount f_slotCount f_fullMask f_draftPos f_draftNeg f_state f_assumedCount f_assumedPos f_assumedNeg (nI cc) f_nodeCount f_root f_depth f_result f_workPos f_workNeg f_workLive a_slotUsed a_slotPos a_slotNeg a_assumed a_weightPos a_weightNeg a_clausePos a_clauseNeg a_nodeChoice a_nodePos a_nodeNeg a_nodeFree a_nodeKids a_kids a_cacheKey a_cacheNode a_framePos a_frameNeg a_frameFree a_frameParts a_frameNext a_framePhase a_frameVar a_frameHigh a_partVars a_partClauses a_partNode a_value a_sizes a_poly a_product a_factorPos a_factorNeg n s' y := by
      intro s' y ey
      subst ey
      rw [nI_1 j]
      exact hk s' trivial
    refine br_f (nI_ge hj (by omega)) ⟨hin, hin, ?_⟩
    intro x9 _
    refine br_c (fun _ => nxt s) (fun _ => br_c (fun _ => nxt s) (fun _ => ?_))
    refine kw_bitCount _ ?_
    intro y _
    exact nxt y
theorem kw_choose {post : Int32 → Prop} {V C : Int32} {w : Nat} (hcc : f_clauseCount = nI cc) (h24 : cc ≤ 24) (hV : kb_lo8 V) (hw : bt V w = true)
    (K : ∀ v, v < 8 → bt V v = true → post ((1 : Int32) <<< (nI v &&& 31))) : wpX_chooseVariable post (f_varCount, f_slotCount, f_fullMask, f_draftPos, f_draftNeg, f_state, f_assumedCount, f_assumedPos, f_assumedNeg, f_clauseCount, f_nodeCount, f_root, f_depth, f_result, f_workPos, f_workNeg, f_workLive, a_slotUsed, a_slotPos, a_slotNeg, a_assumed, a_weightPos, a_weightNeg, a_clausePos, a_clauseNeg, a_nodeChoice, a_nodePos, a_nodeNeg, a_nodeFree, a_nodeKids, a_kids, a_cacheKey, a_cacheNode, a_framePos, a_frameNeg, a_frameFree, a_frameParts, a_frameNext, a_framePhase, a_frameVar, a_frameHigh, a_partVars, a_partClauses, a_partNode, a_value, a_sizes, a_poly, a_product, a_factorPos, a_factorNeg) V C := by
  intro x3 e3
  subst e3
  refine loop_0 (σ := Int32 × Int32) (fun n i s => wX_chooseVariable_11 post V C f_varCount f_slotCount f_fullMask f_draftPos f_draftNeg f_state f_assumedCount f_assumedPos f_assumedNeg f_clauseCount f_nodeCount f_root f_depth f_result f_workPos f_workNeg f_workLive a_slotUsed a_slotPos a_slotNeg a_assumed a_weightPos a_weightNeg a_clausePos a_clauseNeg a_nodeChoice a_nodePos a_nodeNeg a_nodeFree a_nodeKids a_kids a_cacheKey a_cacheNode a_framePos a_frameNeg a_frameFree a_frameParts a_frameNext a_framePhase a_frameVar a_frameHigh a_partVars a_partClauses a_partNode a_value a_sizes a_poly a_product a_factorPos a_factorNeg n s.1 s.2 (nI i)) (fun _ s => ∃ v, v < 8 ∧ bt V v = true ∧ s.1 = (1 : Int32) <<< (nI v &&& 31)) 8 (V &&& (-V), -1) (kb_lowbit hV hw) ?_ ?_
  · rintro n ⟨s, t⟩ ⟨v, h1, h2, h3⟩
    dsimp only at h3
    subst h3
    exact br_t (by decide) (K v h1 h2)
  · rintro n i ⟨s, t⟩ hi hs hk
    refine br_f (nI_ge (b := 8) hi (by decide)) ?_
    intro x6 e6
    subst e6
    refine br_c (fun z => ?_) (fun z => ?_)
    · intro y ey
      subst ey
      rw [nI_1 i]
      exact hk (s, t) hs
    · refine kw_ch40 hcc h24 ?_ (fun x7 => ?_)
      · rw [nI_1 i]
        exact hk (s, t) hs
      · rw [nI_1 i]
        exact hk (_, x7) ⟨i, hi, ts_nf (fun e => z ((kb_t V (by omega)).mpr e)), rfl⟩
theorem kw_cacheGet {post : Int32 → Prop} {key : Int32} (K0 : post (-1)) (K1 : ∀ t, t < 1024 → a_cacheKey t = key → post (a_cacheNode t)) : wpX_cacheGet post (f_varCount, f_slotCount, f_fullMask, f_draftPos, f_draftNeg, f_state, f_assumedCount, f_assumedPos, f_assumedNeg, f_clauseCount, f_nodeCount, f_root, f_depth, f_result, f_workPos, f_workNeg, f_workLive, a_slotUsed, a_slotPos, a_slotNeg, a_assumed, a_weightPos, a_weightNeg, a_clausePos, a_clauseNeg, a_nodeChoice, a_nodePos, a_nodeNeg, a_nodeFree, a_nodeKids, a_kids, a_cacheKey, a_cacheNode, a_framePos, a_frameNeg, a_frameFree, a_frameParts, a_frameNext, a_framePhase, a_frameVar, a_frameHigh, a_partVars, a_partClauses, a_partNode, a_value, a_sizes, a_poly, a_product, a_factorPos, a_factorNeg) key := by
  intro x2 _
  refine loop_0 (fun n i (_ : Unit) => wX_cacheGet_10 post key x2 f_varCount f_slotCount f_fullMask f_draftPos f_draftNeg f_state f_assumedCount f_assumedPos f_assumedNeg f_clauseCount f_nodeCount f_root f_depth f_result f_workPos f_workNeg f_workLive a_slotUsed a_slotPos a_slotNeg a_assumed a_weightPos a_weightNeg a_clausePos a_clauseNeg a_nodeChoice a_nodePos a_nodeNeg a_nodeFree a_nodeKids a_kids a_cacheKey a_cacheNode a_framePos a_frameNeg a_frameFree a_frameParts a_frameNext a_framePhase a_frameVar a_frameHigh a_partVars a_partClauses a_partNode a_value a_sizes a_poly a_product a_factorPos a_factorNeg n (nI i)) (fun _ _ => True) 1024 () trivial ?_ ?_
  · intro n _ _
    exact br_t (by decide) K0
  · intro n i _ hi _ hk
    refine br_f (nI_ge (b := 1024) hi (by decide)) ?_
    intro x4 e4
    obtain ⟨t, ht, e⟩ := pk_andE (x2 + nI i) (m := 1023) 10 (by decide)
    rw [e] at e4
    subst e4
    have et : (nI t).toNatClampNeg = t := nI_clamp (by omega)
    have hin : vp_in (nI t) 1024 := vp_in_nI ht (by decide)
    refine ⟨hin, ?_⟩
    rw [et]
    refine br_c (fun z => ⟨hin, K1 t ht z⟩) (fun _ => ⟨hin, br_c (fun _ => K0) (fun _ => ?_)⟩)
    intro y ey
    subst ey
    rw [nI_1 i]
    exact hk () trivial
theorem kw_cachePut {post : SX → Prop} {key node : Int32} (K0 : post (f_varCount, f_slotCount, f_fullMask, f_draftPos, f_draftNeg, f_state, f_assumedCount, f_assumedPos, f_assumedNeg, f_clauseCount, f_nodeCount, f_root, f_depth, f_result, f_workPos, f_workNeg, f_workLive, a_slotUsed, a_slotPos, a_slotNeg, a_assumed, a_weightPos, a_weightNeg, a_clausePos, a_clauseNeg, a_nodeChoice, a_nodePos, a_nodeNeg, a_nodeFree, a_nodeKids, a_kids, a_cacheKey, a_cacheNode, a_framePos, a_frameNeg, a_frameFree, a_frameParts, a_frameNext, a_framePhase, a_frameVar, a_frameHigh, a_partVars, a_partClauses, a_partNode, a_value, a_sizes, a_poly, a_product, a_factorPos, a_factorNeg)) (K1 : ∀ t, t < 1024 → post (f_varCount, f_slotCount, f_fullMask, f_draftPos, f_draftNeg, f_state, f_assumedCount, f_assumedPos, f_assumedNeg, f_clauseCount, f_nodeCount, f_root, f_depth, f_result, f_workPos, f_workNeg, f_workLive, a_slotUsed, a_slotPos, a_slotNeg, a_assumed, a_weightPos, a_weightNeg, a_clausePos, a_clauseNeg, a_nodeChoice, a_nodePos, a_nodeNeg, a_nodeFree, a_nodeKids, a_kids, (upd a_cacheKey t key), (upd a_cacheNode t node), a_framePos, a_frameNeg, a_frameFree, a_frameParts, a_frameNext, a_framePhase, a_frameVar, a_frameHigh, a_partVars, a_partClauses, a_partNode, a_value, a_sizes, a_poly, a_product, a_factorPos, a_factorNeg)) : wpX_cachePut post (f_varCount, f_slotCount, f_fullMask, f_draftPos, f_draftNeg, f_state, f_assumedCount, f_assumedPos, f_assumedNeg, f_clauseCount, f_nodeCount, f_root, f_depth, f_result, f_workPos, f_workNeg, f_workLive, a_slotUsed, a_slotPos, a_slotNeg, a_assumed, a_weightPos, a_weightNeg, a_clausePos, a_clauseNeg, a_nodeChoice, a_nodePos, a_nodeNeg, a_nodeFree, a_nodeKids, a_kids, a_cacheKey, a_cacheNode, a_framePos, a_frameNeg, a_frameFree, a_frameParts, a_frameNext, a_framePhase, a_frameVar, a_frameHigh, a_partVars, a_partClauses, a_partNode, a_value, a_sizes, a_poly, a_product, a_factorPos, a_factorNeg) key node := by
  intro x3 _
  refine loop_0 (fun n i (_ : Unit) => wX_cachePut_11 post key node x3 f_varCount f_slotCount f_fullMask f_draftPos f_draftNeg f_state f_assumedCount f_assumedPos f_assumedNeg f_clauseCount f_nodeCount f_root f_depth f_result f_workPos f_workNeg f_workLive a_slotUsed a_slotPos a_slotNeg a_assumed a_weightPos a_weightNeg a_clausePos a_clauseNeg a_nodeChoice a_nodePos a_nodeNeg a_nodeFree a_nodeKids a_kids a_cacheKey a_cacheNode a_framePos a_frameNeg a_frameFree a_frameParts a_frameNext a_framePhase a_frameVar a_frameHigh a_partVars a_partClauses a_partNode a_value a_sizes a_poly a_product a_factorPos a_factorNeg n (nI i)) (fun _ _ => True) 1024 () trivial ?_ ?_
  · intro n _ _
    exact br_t (by decide) K0
  · intro n i _ hi _ hk
    refine br_f (nI_ge (b := 1024) hi (by decide)) ?_
    intro x5 e5
    obtain ⟨t, ht, e⟩ := pk_andE (x3 + nI i) (m := 1023) 10 (by decide)
    rw [e] at e5
    subst e5
    have et : (nI t).toNatClampNeg = t := nI_clamp (by omega)
    have hin : vp_in (nI t) 1024 := vp_in_nI ht (by decide)
    have put : wX_cachePut_50 post key node (nI t) f_varCount f_slotCount f_fullMask f_draftPos f_draftNeg f_state f_assumedCount f_assumedPos f_assumedNeg f_clauseCount f_nodeCount f_root f_depth f_result f_workPos f_workNeg f_workLive a_slotUsed a_slotPos a_slotNeg a_assumed a_weightPos a_weightNeg a_clausePos a_clauseNeg a_nodeChoice a_nodePos a_nodeNeg a_nodeFree a_nodeKids a_kids a_cacheKey a_cacheNode a_framePos a_frameNeg a_frameFree a_frameParts a_frameNext a_framePhase a_frameVar a_frameHigh a_partVars a_partClauses a_partNode a_value a_sizes a_poly a_product a_factorPos a_factorNeg := by
      refine ⟨hin, ?_⟩
      intro y ey
      refine ⟨hin, ?_⟩
      intro z ez
      rw [et] at ey ez
      subst ey ez
      exact K1 t ht
    refine ⟨hin, ?_⟩
    rw [et]
    refine br_c (fun z => put) (fun _ => ⟨hin, br_c (fun _ => put) (fun _ => ?_)⟩)
    intro y ey
    subst ey
    rw [nI_1 i]
    exact hk () trivial
theorem kw_openBranch {post : SX → Prop} {V C p q : Int32} {d : Nat} (hcc : f_clauseCount = nI cc) (hCL : kp_CL a_clausePos a_clauseNeg cc) (hd : f_depth = nI d) (hd16 : d < 16) (hV : kb_lo8 V)
    (hp : kb_sub p V) (hq : kb_sub q V) (hpq : kb_dis p q)
    (K0 : (∀ a, ¬ (kc_Po p q a ∧ kp_cf a_clausePos a_clauseNeg cc V C a)) → ∀ wp wn wl, post (f_varCount, f_slotCount, f_fullMask, f_draftPos, f_draftNeg, f_state, f_assumedCount, f_assumedPos, f_assumedNeg, f_clauseCount, f_nodeCount, f_root, f_depth, 0, wp, wn, wl, a_slotUsed, a_slotPos, a_slotNeg, a_assumed, a_weightPos, a_weightNeg, a_clausePos, a_clauseNeg, a_nodeChoice, a_nodePos, a_nodeNeg, a_nodeFree, a_nodeKids, a_kids, a_cacheKey, a_cacheNode, a_framePos, a_frameNeg, a_frameFree, a_frameParts, a_frameNext, a_framePhase, a_frameVar, a_frameHigh, a_partVars, a_partClauses, a_partNode, a_value, a_sizes, a_poly, a_product, a_factorPos, a_factorNeg))
    (K1 : ∀ wp wn wl used cnt pv pc, cnt ≤ 4 → kb_sub wp V → kb_sub wn V → kb_dis wp wn → kb_sub p wp → kb_sub q wn → kp_Pt cc (V &&& ((wp ||| wn) ^^^ (-1))) pv pc (d * 4) cnt used →
      (∀ j, j < d * 4 → pv j = a_partVars j ∧ pc j = a_partClauses j) →
      (∀ a, (kc_Po p q a ∧ kp_cf a_clausePos a_clauseNeg cc V C a) ↔ (kc_Po wp wn a ∧ ∀ j, j < cnt → kp_cf a_clausePos a_clauseNeg cc (pv (d * 4 + j)) (pc (d * 4 + j)) a)) →
      post (f_varCount, f_slotCount, f_fullMask, f_draftPos, f_draftNeg, f_state, f_assumedCount, f_assumedPos, f_assumedNeg, f_clauseCount, f_nodeCount, f_root, (nI (d + 1)), -1, wp, wn, wl, a_slotUsed, a_slotPos, a_slotNeg, a_assumed, a_weightPos, a_weightNeg, a_clausePos, a_clauseNeg, a_nodeChoice, a_nodePos, a_nodeNeg, a_nodeFree, a_nodeKids, a_kids, a_cacheKey, a_cacheNode, (upd a_framePos d wp), (upd a_frameNeg d wn), (upd a_frameFree d ((V &&& ((wp ||| wn) ^^^ (-1))) &&& (used ^^^ (-1)))), (upd a_frameParts d (nI cnt)), (upd a_frameNext d 0), (upd a_framePhase d 0), a_frameVar, a_frameHigh, pv, pc, a_partNode, a_value, a_sizes, a_poly, a_product, a_factorPos, a_factorNeg)) :
    wpX_openBranch post (f_varCount, f_slotCount, f_fullMask, f_draftPos, f_draftNeg, f_state, f_assumedCount, f_assumedPos, f_assumedNeg, f_clauseCount, f_nodeCount, f_root, f_depth, f_result, f_workPos, f_workNeg, f_workLive, a_slotUsed, a_slotPos, a_slotNeg, a_assumed, a_weightPos, a_weightNeg, a_clausePos, a_clauseNeg, a_nodeChoice, a_nodePos, a_nodeNeg, a_nodeFree, a_nodeKids, a_kids, a_cacheKey, a_cacheNode, a_framePos, a_frameNeg, a_frameFree, a_frameParts, a_frameNext, a_framePhase, a_frameVar, a_frameHigh, a_partVars, a_partClauses, a_partNode, a_value, a_sizes, a_poly, a_product, a_factorPos, a_factorNeg) V C p q := by
  subst hd
  have ed : (nI d).toNatClampNeg = d := nI_clamp (by omega)
  have hind : vp_in (nI d) 16 := vp_in_nI hd16 (by decide)
  refine br_f (nI_ge (b := 16) hd16 (by decide)) ?_
  refine kw_propagate hcc hCL hV hp hq hpq (fun H wp wn wl => ?_) (fun wp wn L1 hI hset => ?_)
  · exact br_t rfl (K0 H wp wn wl)
  · refine br_f (by decide) ?_
    intro O eO
    have hO : kb_lo8 O := by rw [eO]; exact kb_lo8_and hV
    refine kw_dropSubsumed hcc hCL (fun L2 hs he => ?_)
    refine ⟨hind, fun fp efp => ⟨hind, fun fn efn => ⟨hind, fun fx efx => ⟨hind, fun fh efh => ?_⟩⟩⟩⟩
    rw [ed] at efp efn efx efh
    subst efp efn efx efh
    have H2 : ∀ i, i < cc → bt L2 i = true → ∃ v z, v ≠ z ∧ bt (kp_own a_clausePos a_clauseNeg O i) v = true ∧ bt (kp_own a_clausePos a_clauseNeg O i) z = true := by
      intro i hi hb
      obtain ⟨_, _, v, z, hne, v1, v2, v3, v4, z1, z2, z3, z4⟩ := hset i hi (hs i hb)
      have e : ∀ v, bt V v = true → bt wp v = false → bt wn v = false → bt O v = true := fun v h1 h2 h3 => by
        have h8 := hV v h1
        rw [eO, b_and, kb_not _ (by omega), b_or, h1, h2, h3]; rfl
      exact ⟨v, z, hne, kp_ownb.mpr ⟨v1, e v v2 v3 v4⟩, kp_ownb.mpr ⟨z1, e z z2 z3 z4⟩⟩
    refine kw_split hcc hCL hO hd16 H2 (fun used cnt pv pc h4 hPt hsame heq => ⟨hind, fun fr efr => ?_⟩)
    intro dd edd
    rw [ed] at efr
    rw [nI_1 d] at edd
    subst edd efr
    rw [eO] at hPt ⊢
    refine K1 wp wn L2 used cnt pv pc h4 hI.1 hI.2.1 hI.2.2.1 hI.2.2.2.1 hI.2.2.2.2.1 hPt hsame (fun a => ?_)
    rw [hI.2.2.2.2.2.2 a]
    refine and_congr_right (fun ha => ?_)
    rw [← heq a, ← he a]
    constructor
    · intro H c hc hb
      obtain ⟨s1, s2, _⟩ := hset c hc hb
      obtain ⟨v, hv⟩ := kp_csopen s1 s2 ha (H c hc hb) hV
      have e : ∀ x : Int32, bt ((x &&& V) &&& ((wp ||| wn) ^^^ (-1))) v = true → bt O v = true ∧ bt x v = true := fun x hx => by
        rw [eO]
        rw [b_and, b_and, Bool.and_eq_true, Bool.and_eq_true] at hx
        rw [b_and, hx.1.2, hx.2]
        exact ⟨rfl, hx.1.1⟩
      rcases hv with ⟨h1, h2⟩ | ⟨h1, h2⟩
      · exact ⟨v, (e _ h1).1, Or.inl ⟨(e _ h1).2, h2⟩⟩
      · exact ⟨v, (e _ h1).1, Or.inr ⟨(e _ h1).2, h2⟩⟩
    · intro H c hc hb
      obtain ⟨v, h1, h2⟩ := H c hc hb
      refine ⟨v, ?_, h2⟩
      rw [eO, b_and, Bool.and_eq_true] at h1
      exact h1.1
theorem kw_newNode {post : Int32 → SX → Prop} {p0 : Int32} {nc : Nat} (hnc : f_nodeCount = nI nc) (h : nc < 1024)
    (K : post (nI nc) (f_varCount, f_slotCount, f_fullMask, f_draftPos, f_draftNeg, f_state, f_assumedCount, f_assumedPos, f_assumedNeg, f_clauseCount, (nI (nc + 1)), f_root, f_depth, f_result, f_workPos, f_workNeg, f_workLive, a_slotUsed, a_slotPos, a_slotNeg, a_assumed, a_weightPos, a_weightNeg, a_clausePos, a_clauseNeg, (upd a_nodeChoice nc (vp_nar .boolean p0)), (upd a_nodePos nc 0), (upd a_nodeNeg nc 0), (upd a_nodeFree nc 0), (upd a_nodeKids nc 0), a_kids, a_cacheKey, a_cacheNode, a_framePos, a_frameNeg, a_frameFree, a_frameParts, a_frameNext, a_framePhase, a_frameVar, a_frameHigh, a_partVars, a_partClauses, a_partNode, a_value, a_sizes, a_poly, a_product, a_factorPos, a_factorNeg)) : wpX_newNode post (f_varCount, f_slotCount, f_fullMask, f_draftPos, f_draftNeg, f_state, f_assumedCount, f_assumedPos, f_assumedNeg, f_clauseCount, f_nodeCount, f_root, f_depth, f_result, f_workPos, f_workNeg, f_workLive, a_slotUsed, a_slotPos, a_slotNeg, a_assumed, a_weightPos, a_weightNeg, a_clausePos, a_clauseNeg, a_nodeChoice, a_nodePos, a_nodeNeg, a_nodeFree, a_nodeKids, a_kids, a_cacheKey, a_cacheNode, a_framePos, a_frameNeg, a_frameFree, a_frameParts, a_frameNext, a_framePhase, a_frameVar, a_frameHigh, a_partVars, a_partClauses, a_partNode, a_value, a_sizes, a_poly, a_product, a_factorPos, a_factorNeg) p0 := by
  subst hnc
  have en : (nI nc).toNatClampNeg = nc := nI_clamp (by omega)
  have hin : vp_in (nI nc) 1024 := vp_in_nI h (by decide)
  refine br_t (nI_lt (b := 1024) h (by decide)) ?_
  intro y ey
  refine ⟨hin, fun a1 e1 => ⟨hin, fun a2 e2 => ⟨hin, fun a3 e3 => ⟨hin, fun a4 e4 => ⟨hin, fun a5 e5 => ?_⟩⟩⟩⟩⟩
  rw [en] at e1 e2 e3 e4 e5
  rw [nI_1 nc] at ey
  subst ey e1 e2 e3 e4 e5
  exact K
theorem kw_makeChoice {post : Int32 → SX → Prop} {nc h l : Nat} (hnc : f_nodeCount = nI nc) (hn1 : 1 ≤ nc) (hn2 : nc < 1024) (hh : h < 2 ^ 31) (hl : l < 2 ^ 31)
    (K0 : h = 0 → post (nI l) (f_varCount, f_slotCount, f_fullMask, f_draftPos, f_draftNeg, f_state, f_assumedCount, f_assumedPos, f_assumedNeg, f_clauseCount, f_nodeCount, f_root, f_depth, f_result, f_workPos, f_workNeg, f_workLive, a_slotUsed, a_slotPos, a_slotNeg, a_assumed, a_weightPos, a_weightNeg, a_clausePos, a_clauseNeg, a_nodeChoice, a_nodePos, a_nodeNeg, a_nodeFree, a_nodeKids, a_kids, a_cacheKey, a_cacheNode, a_framePos, a_frameNeg, a_frameFree, a_frameParts, a_frameNext, a_framePhase, a_frameVar, a_frameHigh, a_partVars, a_partClauses, a_partNode, a_value, a_sizes, a_poly, a_product, a_factorPos, a_factorNeg)) (K1 : h ≠ 0 → l = 0 → post (nI h) (f_varCount, f_slotCount, f_fullMask, f_draftPos, f_draftNeg, f_state, f_assumedCount, f_assumedPos, f_assumedNeg, f_clauseCount, f_nodeCount, f_root, f_depth, f_result, f_workPos, f_workNeg, f_workLive, a_slotUsed, a_slotPos, a_slotNeg, a_assumed, a_weightPos, a_weightNeg, a_clausePos, a_clauseNeg, a_nodeChoice, a_nodePos, a_nodeNeg, a_nodeFree, a_nodeKids, a_kids, a_cacheKey, a_cacheNode, a_framePos, a_frameNeg, a_frameFree, a_frameParts, a_frameNext, a_framePhase, a_frameVar, a_frameHigh, a_partVars, a_partClauses, a_partNode, a_value, a_sizes, a_poly, a_product, a_factorPos, a_factorNeg))
    (K2 : h ≠ 0 → l ≠ 0 → post (nI nc) (f_varCount, f_slotCount, f_fullMask, f_draftPos, f_draftNeg, f_state, f_assumedCount, f_assumedPos, f_assumedNeg, f_clauseCount, (nI (nc + 1)), f_root, f_depth, f_result, f_workPos, f_workNeg, f_workLive, a_slotUsed, a_slotPos, a_slotNeg, a_assumed, a_weightPos, a_weightNeg, a_clausePos, a_clauseNeg, (upd a_nodeChoice nc 1), (upd a_nodePos nc 0), (upd a_nodeNeg nc 0), (upd a_nodeFree nc 0), (upd (upd a_nodeKids nc 0) nc 2), (upd (upd a_kids (nc * 4) (nI h)) (nc * 4 + 1) (nI l)), a_cacheKey, a_cacheNode, a_framePos, a_frameNeg, a_frameFree, a_frameParts, a_frameNext, a_framePhase, a_frameVar, a_frameHigh, a_partVars, a_partClauses, a_partNode, a_value, a_sizes, a_poly, a_product, a_factorPos, a_factorNeg)) :
    wpX_makeChoice post (f_varCount, f_slotCount, f_fullMask, f_draftPos, f_draftNeg, f_state, f_assumedCount, f_assumedPos, f_assumedNeg, f_clauseCount, f_nodeCount, f_root, f_depth, f_result, f_workPos, f_workNeg, f_workLive, a_slotUsed, a_slotPos, a_slotNeg, a_assumed, a_weightPos, a_weightNeg, a_clausePos, a_clauseNeg, a_nodeChoice, a_nodePos, a_nodeNeg, a_nodeFree, a_nodeKids, a_kids, a_cacheKey, a_cacheNode, a_framePos, a_frameNeg, a_frameFree, a_frameParts, a_frameNext, a_framePhase, a_frameVar, a_frameHigh, a_partVars, a_partClauses, a_partNode, a_value, a_sizes, a_poly, a_product, a_factorPos, a_factorNeg) (nI h) (nI l) := by
  refine pk_eq h 0 K0 (fun h0 => pk_eq l 0 (K1 h0) (fun l0 => ?_))
  refine kw_newNode hnc hn2 ?_
  have en : (nI nc).toNatClampNeg = nc := nI_clamp (by omega)
  have e4 : nI nc * 4 = nI (nc * 4) := by rw [show (4 : Int32) = nI 4 from rfl, pk_mul]
  have e40 : (nI (nc * 4)).toNatClampNeg = nc * 4 := nI_clamp (by omega)
  have e41 : (nI (nc * 4 + 1)).toNatClampNeg = nc * 4 + 1 := nI_clamp (by omega)
  refine br_f (nI_nle (by omega) (by omega)) ⟨vp_in_nI hn2 (by decide), ?_⟩
  intro a1 e1
  rw [e4, nI_1 (nc * 4)]
  refine ⟨vp_in_nI (by omega) (by decide), fun a2 e2 => ⟨vp_in_nI (by omega) (by decide), fun a3 e3 => ?_⟩⟩
  rw [en] at e1
  rw [e40] at e2
  rw [e41] at e3
  subst e1 e2 e3
  exact K2 h0 l0
theorem kw_closeFrame {post : SX → Prop} {nc d cnt : Nat} (hnc : f_nodeCount = nI nc) (hn1 : 1 ≤ nc) (hn2 : nc < 1024) (hd : d < 16) (hcnt : a_frameParts d = nI cnt) (hc4 : cnt ≤ 4)
    (K : ∀ kd, (∀ j, j < nc * 4 → kd j = a_kids j) → (∀ i, i < cnt → kd (nc * 4 + i) = a_partNode (d * 4 + i)) →
      post (f_varCount, f_slotCount, f_fullMask, f_draftPos, f_draftNeg, f_state, f_assumedCount, f_assumedPos, f_assumedNeg, f_clauseCount, (nI (nc + 1)), f_root, (nI d), (nI nc), f_workPos, f_workNeg, f_workLive, a_slotUsed, a_slotPos, a_slotNeg, a_assumed, a_weightPos, a_weightNeg, a_clausePos, a_clauseNeg, (upd a_nodeChoice nc 0), (upd (upd a_nodePos nc 0) nc (a_framePos d)), (upd (upd a_nodeNeg nc 0) nc (a_frameNeg d)), (upd (upd a_nodeFree nc 0) nc (a_frameFree d)), (upd (upd a_nodeKids nc 0) nc (nI cnt)), kd, a_cacheKey, a_cacheNode, a_framePos, a_frameNeg, a_frameFree, a_frameParts, a_frameNext, a_framePhase, a_frameVar, a_frameHigh, a_partVars, a_partClauses, a_partNode, a_value, a_sizes, a_poly, a_product, a_factorPos, a_factorNeg)) :
    wpX_closeFrame post (f_varCount, f_slotCount, f_fullMask, f_draftPos, f_draftNeg, f_state, f_assumedCount, f_assumedPos, f_assumedNeg, f_clauseCount, f_nodeCount, f_root, f_depth, f_result, f_workPos, f_workNeg, f_workLive, a_slotUsed, a_slotPos, a_slotNeg, a_assumed, a_weightPos, a_weightNeg, a_clausePos, a_clauseNeg, a_nodeChoice, a_nodePos, a_nodeNeg, a_nodeFree, a_nodeKids, a_kids, a_cacheKey, a_cacheNode, a_framePos, a_frameNeg, a_frameFree, a_frameParts, a_frameNext, a_framePhase, a_frameVar, a_frameHigh, a_partVars, a_partClauses, a_partNode, a_value, a_sizes, a_poly, a_product, a_factorPos, a_factorNeg) (nI d) := by
  unfold wpX_closeFrame
  refine kw_newNode hnc hn2 ?_
  have en : (nI nc).toNatClampNeg = nc := nI_clamp (by omega)
  have ed : (nI d).toNatClampNeg = d := nI_clamp (by omega)
  have hin : vp_in (nI nc) 1024 := vp_in_nI hn2 (by decide)
  have hind : vp_in (nI d) 16 := vp_in_nI hd (by decide)
  refine br_f (nI_nle (by omega) (by omega)) ⟨hind, hin, fun a1 e1 => ⟨hind, hin, fun a2 e2 => ⟨hind, hin, fun a3 e3 => ⟨hind, fun x3 e4 => ⟨hin, fun a5 e5 => ?_⟩⟩⟩⟩⟩
  rw [en, ed] at e1 e2 e3
  rw [ed, hcnt] at e4
  rw [en] at e5
  subst e1 e2 e3 e4 e5
  refine loop_0 (fun n i s => wX_closeFrame_63 post (nI d) (nI nc) (nI cnt) f_varCount f_slotCount f_fullMask f_draftPos f_draftNeg f_state f_assumedCount f_assumedPos f_assumedNeg f_clauseCount (nI (nc + 1)) f_root f_depth f_result f_workPos f_workNeg f_workLive n (nI i) a_slotUsed a_slotPos a_slotNeg a_assumed a_weightPos a_weightNeg a_clausePos a_clauseNeg (upd a_nodeChoice nc (vp_nar .boolean 0)) (upd (upd a_nodePos nc 0) nc (a_framePos d)) (upd (upd a_nodeNeg nc 0) nc (a_frameNeg d)) (upd (upd a_nodeFree nc 0) nc (a_frameFree d)) (upd (upd a_nodeKids nc 0) nc (nI cnt)) s a_cacheKey a_cacheNode a_framePos a_frameNeg a_frameFree a_frameParts a_frameNext a_framePhase a_frameVar a_frameHigh a_partVars a_partClauses a_partNode a_value a_sizes a_poly a_product a_factorPos a_factorNeg)
    (fun i s => (∀ j, j < nc * 4 → s j = a_kids j) ∧ ∀ j, j < i → s (nc * 4 + j) = a_partNode (d * 4 + j)) cnt a_kids ⟨fun _ _ => rfl, fun j hj => absurd hj (Nat.not_lt_zero _)⟩ ?_ ?_
  · intro n s hs
    exact br_t (nI_le (Nat.le_refl _) (by omega)) (K s hs.1 hs.2)
  · intro n i s hi hs hk
    have e4 : nI d * 4 + nI i = nI (d * 4 + i) := by rw [show (4 : Int32) = nI 4 from rfl, pk_mul, nI_add]
    have e4' : nI nc * 4 + nI i = nI (nc * 4 + i) := by rw [show (4 : Int32) = nI 4 from rfl, pk_mul, nI_add]
    refine br_f (nI_ge hi (by omega)) (br_f (nI_ge (b := 4) (by omega) (by decide)) ?_)
    rw [e4, e4', nI_clamp (n := d * 4 + i) (by omega), nI_clamp (n := nc * 4 + i) (by omega)]
    refine ⟨vp_in_nI (by omega) (by decide), vp_in_nI (by omega) (by decide), ?_⟩
    intro y ey z ez
    subst ey ez
    rw [nI_1 i]
    refine hk _ ⟨fun j hj => by rw [pk_un (by omega)]; exact hs.1 j hj, fun j hj => ?_⟩
    by_cases e : j = i
    · subst e; exact pk_us
    · rw [pk_un (by omega)]; exact hs.2 j (by omega)
end
end
section
/-! the machine's state: what compile changes (kk_W), and the rest (kk_Z) -/
abbrev kk_W : Type := Int32 × Int32 × Int32 × Int32 × Int32 × Int32 × (Nat → Int32) × (Nat → Int32) × (Nat → Int32) × (Nat → Int32) × (Nat → Int32) × (Nat → Int32) × (Nat → Int32) × (Nat → Int32) × (Nat → Int32) × (Nat → Int32) × (Nat → Int32) × (Nat → Int32) × (Nat → Int32) × (Nat → Int32) × (Nat → Int32) × (Nat → Int32) × (Nat → Int32) × (Nat → Int32) × (Nat → Int32)
abbrev ww_nodeCount (w : kk_W) : Int32 := w.1
abbrev ww_depth (w : kk_W) : Int32 := w.2.1
abbrev ww_result (w : kk_W) : Int32 := w.2.2.1
abbrev ww_workPos (w : kk_W) : Int32 := w.2.2.2.1
abbrev ww_workNeg (w : kk_W) : Int32 := w.2.2.2.2.1
abbrev ww_workLive (w : kk_W) : Int32 := w.2.2.2.2.2.1
abbrev ww_nodeChoice (w : kk_W) : Nat → Int32 := w.2.2.2.2.2.2.1
abbrev ww_nodePos (w : kk_W) : Nat → Int32 := w.2.2.2.2.2.2.2.1
abbrev ww_nodeNeg (w : kk_W) : Nat → Int32 := w.2.2.2.2.2.2.2.2.1
abbrev ww_nodeFree (w : kk_W) : Nat → Int32 := w.2.2.2.2.2.2.2.2.2.1
abbrev ww_nodeKids (w : kk_W) : Nat → Int32 := w.2.2.2.2.2.2.2.2.2.2.1
abbrev ww_kids (w : kk_W) : Nat → Int32 := w.2.2.2.2.2.2.2.2.2.2.2.1
abbrev ww_cacheKey (w : kk_W) : Nat → Int32 := w.2.2.2.2.2.2.2.2.2.2.2.2.1
abbrev ww_cacheNode (w : kk_W) : Nat → Int32 := w.2.2.2.2.2.2.2.2.2.2.2.2.2.1
abbrev ww_framePos (w : kk_W) : Nat → Int32 := w.2.2.2.2.2.2.2.2.2.2.2.2.2.2.1
abbrev ww_frameNeg (w : kk_W) : Nat → Int32 := w.2.2.2.2.2.2.2.2.2.2.2.2.2.2.2.1
abbrev ww_frameFree (w : kk_W) : Nat → Int32 := w.2.2.2.2.2.2.2.2.2.2.2.2.2.2.2.2.1
abbrev ww_frameParts (w : kk_W) : Nat → Int32 := w.2.2.2.2.2.2.2.2.2.2.2.2.2.2.2.2.2.1
abbrev ww_frameNext (w : kk_W) : Nat → Int32 := w.2.2.2.2.2.2.2.2.2.2.2.2.2.2.2.2.2.2.1
abbrev ww_framePhase (w : kk_W) : Nat → Int32 := w.2.2.2.2.2.2.2.2.2.2.2.2.2.2.2.2.2.2.2.1
abbrev ww_frameVar (w : kk_W) : Nat → Int32 := w.2.2.2.2.2.2.2.2.2.2.2.2.2.2.2.2.2.2.2.2.1
abbrev ww_frameHigh (w : kk_W) : Nat → Int32 := w.2.2.2.2.2.2.2.2.2.2.2.2.2.2.2.2.2.2.2.2.2.1
abbrev ww_partVars (w : kk_W) : Nat → Int32 := w.2.2.2.2.2.2.2.2.2.2.2.2.2.2.2.2.2.2.2.2.2.2.1
abbrev ww_partClauses (w : kk_W) : Nat → Int32 := w.2.2.2.2.2.2.2.2.2.2.2.2.2.2.2.2.2.2.2.2.2.2.2.1
abbrev ww_partNode (w : kk_W) : Nat → Int32 := w.2.2.2.2.2.2.2.2.2.2.2.2.2.2.2.2.2.2.2.2.2.2.2.2
abbrev kk_Z : Type := Int32 × Int32 × Int32 × Int32 × Int32 × Int32 × Int32 × Int32 × Int32 × Int32 × Int32 × (Nat → Int32) × (Nat → Int32) × (Nat → Int32) × (Nat → Int32) × (Nat → Int32) × (Nat → Int32) × (Nat → Int32) × (Nat → Int32) × (Nat → Int32) × (Nat → Int32) × (Nat → Int32) × (Nat → Int32) × (Nat → Int32) × (Nat → Int32)
abbrev zz_varCount (w : kk_Z) : Int32 := w.1
abbrev zz_slotCount (w : kk_Z) : Int32 := w.2.1
abbrev zz_fullMask (w : kk_Z) : Int32 := w.2.2.1
abbrev zz_draftPos (w : kk_Z) : Int32 := w.2.2.2.1
abbrev zz_draftNeg (w : kk_Z) : Int32 := w.2.2.2.2.1
abbrev zz_state (w : kk_Z) : Int32 := w.2.2.2.2.2.1
abbrev zz_assumedCount (w : kk_Z) : Int32 := w.2.2.2.2.2.2.1
abbrev zz_assumedPos (w : kk_Z) : Int32 := w.2.2.2.2.2.2.2.1
abbrev zz_assumedNeg (w : kk_Z) : Int32 := w.2.2.2.2.2.2.2.2.1
abbrev zz_clauseCount (w : kk_Z) : Int32 := w.2.2.2.2.2.2.2.2.2.1
abbrev zz_root (w : kk_Z) : Int32 := w.2.2.2.2.2.2.2.2.2.2.1
abbrev zz_slotUsed (w : kk_Z) : Nat → Int32 := w.2.2.2.2.2.2.2.2.2.2.2.1
abbrev zz_slotPos (w : kk_Z) : Nat → Int32 := w.2.2.2.2.2.2.2.2.2.2.2.2.1
abbrev zz_slotNeg (w : kk_Z) : Nat → Int32 := w.2.2.2.2.2.2.2.2.2.2.2.2.2.1
abbrev zz_assumed (w : kk_Z) : Nat → Int32 := w.2.2.2.2.2.2.2.2.2.2.2.2.2.2.1
abbrev zz_weightPos (w : kk_Z) : Nat → Int32 := w.2.2.2.2.2.2.2.2.2.2.2.2.2.2.2.1
abbrev zz_weightNeg (w : kk_Z) : Nat → Int32 := w.2.2.2.2.2.2.2.2.2.2.2.2.2.2.2.2.1
abbrev zz_clausePos (w : kk_Z) : Nat → Int32 := w.2.2.2.2.2.2.2.2.2.2.2.2.2.2.2.2.2.1
abbrev zz_clauseNeg (w : kk_Z) : Nat → Int32 := w.2.2.2.2.2.2.2.2.2.2.2.2.2.2.2.2.2.2.1
abbrev zz_value (w : kk_Z) : Nat → Int32 := w.2.2.2.2.2.2.2.2.2.2.2.2.2.2.2.2.2.2.2.1
abbrev zz_sizes (w : kk_Z) : Nat → Int32 := w.2.2.2.2.2.2.2.2.2.2.2.2.2.2.2.2.2.2.2.2.1
abbrev zz_poly (w : kk_Z) : Nat → Int32 := w.2.2.2.2.2.2.2.2.2.2.2.2.2.2.2.2.2.2.2.2.2.1
abbrev zz_product (w : kk_Z) : Nat → Int32 := w.2.2.2.2.2.2.2.2.2.2.2.2.2.2.2.2.2.2.2.2.2.2.1
abbrev zz_factorPos (w : kk_Z) : Nat → Int32 := w.2.2.2.2.2.2.2.2.2.2.2.2.2.2.2.2.2.2.2.2.2.2.2.1
abbrev zz_factorNeg (w : kk_Z) : Nat → Int32 := w.2.2.2.2.2.2.2.2.2.2.2.2.2.2.2.2.2.2.2.2.2.2.2.2
def kp_mk (z : kk_Z) (w : kk_W) : SX := (zz_varCount z, zz_slotCount z, zz_fullMask z, zz_draftPos z, zz_draftNeg z, zz_state z, zz_assumedCount z, zz_assumedPos z, zz_assumedNeg z, zz_clauseCount z, ww_nodeCount w, zz_root z, ww_depth w, ww_result w, ww_workPos w, ww_workNeg w, ww_workLive w, zz_slotUsed z, zz_slotPos z, zz_slotNeg z, zz_assumed z, zz_weightPos z, zz_weightNeg z, zz_clausePos z, zz_clauseNeg z, ww_nodeChoice w, ww_nodePos w, ww_nodeNeg w, ww_nodeFree w, ww_nodeKids w, ww_kids w, ww_cacheKey w, ww_cacheNode w, ww_framePos w, ww_frameNeg w, ww_frameFree w, ww_frameParts w, ww_frameNext w, ww_framePhase w, ww_frameVar w, ww_frameHigh w, ww_partVars w, ww_partClauses w, ww_partNode w, zz_value z, zz_sizes z, zz_poly z, zz_product z, zz_factorPos z, zz_factorNeg z)
def kp_R (nc : Nat) (vs : Nat → Nat → Bool) (P : Nat → (Nat → Bool) → Prop) (y : Nat) (V : Int32) (Q : (Nat → Bool) → Prop) : Prop :=
  (y = 0 ∧ ∀ a, ¬ Q a) ∨ (1 ≤ y ∧ y < nc ∧ (∀ v, vs y v = bt V v) ∧ ∀ a, P y a ↔ Q a)
def kp_X (nc : Nat) (vs : Nat → Nat → Bool) (P : Nat → (Nat → Bool) → Prop) (vs' : Nat → Nat → Bool) (P' : Nat → (Nat → Bool) → Prop) : Prop := ∀ i, i < nc → vs' i = vs i ∧ P' i = P i
def kp_key (V C : Int32) : Int32 := V ||| (C <<< ((8 : Int32) &&& 31))
def kp_K (cp cn : Nat → Int32) (cc : Nat) (ck ca : Nat → Int32) (nc : Nat) (vs : Nat → Nat → Bool) (P : Nat → (Nat → Bool) → Prop) : Prop :=
  ∀ t, t < 1024 → ck t = 0 ∨ ∃ V C y, kb_lo8 V ∧ (∀ c, bt C c = true → c < cc) ∧ ck t = kp_key V C ∧ ca t = nI y ∧ kp_R nc vs P y V (kp_cf cp cn cc V C)
theorem kp_key_inj {V C V' C' : Int32} (h1 : kb_lo8 V) (h2 : kb_lo8 V') (c1 : ∀ c, bt C c = true → c < 24) (c2 : ∀ c, bt C' c = true → c < 24) (h : kp_key V C = kp_key V' C') : V = V' ∧ C = C' := by
  have e : ∀ (V C : Int32), kb_lo8 V → ∀ i, i < 32 → bt (kp_key V C) i = if i < 8 then bt V i else bt C (i - 8) := fun V C hV i hi => by
    unfold kp_key
    rw [b_or, b_shl8 _ hi]
    by_cases h8 : i < 8
    · rw [if_pos h8, decide_eq_false (by omega)]; simp
    · rw [if_neg h8, decide_eq_true (by omega), ts_nt (fun z => h8 (hV i z))]; simp
  constructor
  · apply b_ext
    intro i hi
    by_cases h8 : i < 8
    · have := congrArg (fun x => bt x i) h
      rw [e V C h1 i hi, e V' C' h2 i hi, if_pos h8, if_pos h8] at this
      exact this
    · rw [ts_nt (fun z => h8 (h1 i z)), ts_nt (fun z => h8 (h2 i z))]
  · apply b_ext
    intro i hi
    by_cases h24 : i < 24
    · have := congrArg (fun x => bt x (i + 8)) h
      rw [e V C h1 (i + 8) (by omega), e V' C' h2 (i + 8) (by omega), if_neg (by omega), if_neg (by omega), Nat.add_sub_cancel] at this
      exact this
    · rw [ts_nt (fun z => h24 (c1 i z)), ts_nt (fun z => h24 (c2 i z))]
theorem kp_key_ne {V C : Int32} {v : Nat} (hv : bt V v = true) : ¬ kp_key V C = 0 := by
  intro h
  unfold kp_key at h
  have := (kb_orz.mp h v).1
  rw [hv] at this; cases this
theorem kp_R_mono {nc nc' : Nat} {vs vs' : Nat → Nat → Bool} {P P' : Nat → (Nat → Bool) → Prop} {y : Nat} {V : Int32} {Q : (Nat → Bool) → Prop} (hx : kp_X nc vs P vs' P') (hn : nc ≤ nc') (h : kp_R nc vs P y V Q) : kp_R nc' vs' P' y V Q := by
  rcases h with h | ⟨h1, h2, h3, h4⟩
  · exact Or.inl h
  · refine Or.inr ⟨h1, by omega, fun v => ?_, fun a => ?_⟩
    · rw [(hx y h2).1]; exact h3 v
    · rw [(hx y h2).2]; exact h4 a
theorem kp_K_mono {cp cn : Nat → Int32} {cc : Nat} {ck ca : Nat → Int32} {nc nc' : Nat} {vs vs' : Nat → Nat → Bool} {P P' : Nat → (Nat → Bool) → Prop} (hx : kp_X nc vs P vs' P') (hn : nc ≤ nc') (h : kp_K cp cn cc ck ca nc vs P) : kp_K cp cn cc ck ca nc' vs' P' := fun t ht => by
  rcases h t ht with h | ⟨V, C, y, h1, h2, h3, h4, h5⟩
  · exact Or.inl h
  · exact Or.inr ⟨V, C, y, h1, h2, h3, h4, kp_R_mono hx hn h5⟩
theorem kp_K_put {cp cn : Nat → Int32} {cc : Nat} {ck ca : Nat → Int32} {nc : Nat} {vs : Nat → Nat → Bool} {P : Nat → (Nat → Bool) → Prop} {V C : Int32} {y t0 : Nat} (h : kp_K cp cn cc ck ca nc vs P) (h1 : kb_lo8 V) (h2 : ∀ c, bt C c = true → c < cc) (h3 : kp_R nc vs P y V (kp_cf cp cn cc V C)) :
    kp_K cp cn cc (upd ck t0 (kp_key V C)) (upd ca t0 (nI y)) nc vs P := fun t ht => by
  by_cases e : t = t0
  · subst e
    exact Or.inr ⟨V, C, y, h1, h2, pk_us, pk_us, h3⟩
  · rw [pk_un e, pk_un e]; exact h t ht
theorem kp_X_rf {nc : Nat} {vs : Nat → Nat → Bool} {P : Nat → (Nat → Bool) → Prop} : kp_X nc vs P vs P := fun _ _ => ⟨rfl, rfl⟩
theorem kp_X_tr {n1 n2 : Nat} {v1 v2 v3 : Nat → Nat → Bool} {P1 P2 P3 : Nat → (Nat → Bool) → Prop} (h : n1 ≤ n2) (a : kp_X n1 v1 P1 v2 P2) (b : kp_X n2 v2 P2 v3 P3) : kp_X n1 v1 P1 v3 P3 := fun i hi =>
  ⟨(b i (by omega)).1.trans (a i hi).1, (b i (by omega)).2.trans (a i hi).2⟩
/-- frames below d are the same -/
def kp_S (d : Nat) (w w' : kk_W) : Prop :=
  (∀ e, e < d → ww_framePos w' e = ww_framePos w e ∧ ww_frameNeg w' e = ww_frameNeg w e ∧ ww_frameFree w' e = ww_frameFree w e ∧ ww_frameParts w' e = ww_frameParts w e ∧ ww_frameNext w' e = ww_frameNext w e ∧ ww_framePhase w' e = ww_framePhase w e ∧ ww_frameVar w' e = ww_frameVar w e ∧ ww_frameHigh w' e = ww_frameHigh w e)
  ∧ ∀ j, j < d * 4 → ww_partVars w' j = ww_partVars w j ∧ ww_partClauses w' j = ww_partClauses w j ∧ ww_partNode w' j = ww_partNode w j
theorem kp_S_tr {d : Nat} {w1 w2 w3 : kk_W} (a : kp_S d w1 w2) (b : kp_S d w2 w3) : kp_S d w1 w3 := by
  refine ⟨fun e he => ?_, fun j hj => ?_⟩
  · obtain ⟨a1, a2, a3, a4, a5, a6, a7, a8⟩ := a.1 e he
    obtain ⟨b1, b2, b3, b4, b5, b6, b7, b8⟩ := b.1 e he
    exact ⟨b1.trans a1, b2.trans a2, b3.trans a3, b4.trans a4, b5.trans a5, b6.trans a6, b7.trans a7, b8.trans a8⟩
  · obtain ⟨a1, a2, a3⟩ := a.2 j hj
    obtain ⟨b1, b2, b3⟩ := b.2 j hj
    exact ⟨b1.trans a1, b2.trans a2, b3.trans a3⟩
theorem kp_S_le {d e : Nat} {w w' : kk_W} (h : kp_S d w w') (he : e ≤ d) : kp_S e w w' := ⟨fun i hi => h.1 i (by omega), fun j hj => h.2 j (by omega)⟩
def kp_I (cp cn : Nat → Int32) (cc : Nat) (w : kk_W) (nc : Nat) (vs : Nat → Nat → Bool) (P : Nat → (Nat → Bool) → Prop) : Prop :=
  ww_nodeCount w = nI nc ∧ 1 ≤ nc ∧ kc_C nc (ww_nodeChoice w) (ww_nodePos w) (ww_nodeNeg w) (ww_nodeFree w) (ww_nodeKids w) (ww_kids w) vs P ∧ kp_K cp cn cc (ww_cacheKey w) (ww_cacheNode w) nc vs P
/-- a node's condition under the same arrays at its own places -/
theorem kc_Ncong {ch po ne fr kc kd ch' po' ne' fr' kc' kd' : Nat → Int32} {vs vs' : Nat → Nat → Bool} {P P' : Nat → (Nat → Bool) → Prop} {id : Nat}
    (e1 : ch' id = ch id) (e2 : po' id = po id) (e3 : ne' id = ne id) (e4 : fr' id = fr id) (e5 : kc' id = kc id) (e6 : ∀ i, i < 4 → kd' (id * 4 + i) = kd (id * 4 + i))
    (ev : ∀ x, x ≤ id → vs' x = vs x ∧ P' x = P x) (h : kc_N ch po ne fr kc kd vs P id) : kc_N ch' po' ne' fr' kc' kd' vs' P' id := by
  obtain ⟨h1, h2, h3⟩ := h
  have i1 := (ev id (Nat.le_refl _)).1
  have i2 := (ev id (Nat.le_refl _)).2
  refine ⟨by rw [i1]; exact h1, by rw [i1, i2]; exact h2, ?_⟩
  rcases h3 with ⟨c1, c2, c3, c4, c5, c6, c7⟩ | ⟨c1, c, c2, c3, c4, c5, c6, c7, c8, c9⟩
  · left
    have k0 := e6 0 (by decide)
    rw [Nat.add_zero] at k0
    have k1 := e6 1 (by decide)
    have v0 := ev _ (Nat.le_of_lt c2.2.2)
    have v1 := ev _ (Nat.le_of_lt c3.2.2)
    unfold kc_Ch kc_KO
    rw [k0, k1, e1, v0.1, v0.2, v1.1, v1.2, i1, i2]
    exact ⟨c1, c2, c3, c4, c5, c6, c7⟩
  · right
    have k : ∀ i, i < c → kd' (id * 4 + i) = kd (id * 4 + i) := fun i hi => e6 i (by omega)
    have v : ∀ i, i < c → vs' (kc_n (kd (id * 4 + i))) = vs (kc_n (kd (id * 4 + i))) ∧ P' (kc_n (kd (id * 4 + i))) = P (kc_n (kd (id * 4 + i))) := fun i hi => ev _ (Nat.le_of_lt (c4 i hi).2.2)
    refine ⟨by rw [e1]; exact c1, c, c2, by rw [e5]; exact c3, fun i hi => ?_, by rw [e2, e3, e4]; exact c5, fun i hi => ?_, fun i j hi hj => ?_, fun x => ?_, fun a => ?_⟩
    · unfold kc_KO; rw [k i hi]; exact c4 i hi
    · rw [e2, e3, e4, k i hi, (v i hi).1]; exact c6 i hi
    · rw [k i hi, k j (by omega), (v i hi).1, (v j (by omega)).1]; exact c7 i j hi hj
    · rw [e2, e3, e4, i1, c8 x]
      exact or_congr Iff.rfl ⟨fun ⟨i, hi, h⟩ => ⟨i, hi, by rw [k i hi, (v i hi).1]; exact h⟩, fun ⟨i, hi, h⟩ => ⟨i, hi, by rw [k i hi, (v i hi).1] at h; exact h⟩⟩
    · rw [e2, e3, i2, c9 a]
      exact and_congr Iff.rfl ⟨fun h i hi => by rw [k i hi, (v i hi).2]; exact h i hi, fun h i hi => by have := h i hi; rw [k i hi, (v i hi).2] at this; exact this⟩
def kp_gv (vs : Nat → Nat → Bool) (nc : Nat) (V : Nat → Bool) : Nat → Nat → Bool := fun i => if i = nc then V else vs i
def kp_gp (P : Nat → (Nat → Bool) → Prop) (nc : Nat) (Q : (Nat → Bool) → Prop) : Nat → (Nat → Bool) → Prop := fun i => if i = nc then Q else P i
theorem kp_gX {nc : Nat} {vs : Nat → Nat → Bool} {P : Nat → (Nat → Bool) → Prop} {V : Nat → Bool} {Q : (Nat → Bool) → Prop} : kp_X nc vs P (kp_gv vs nc V) (kp_gp P nc Q) := fun i hi =>
  ⟨if_neg (by omega), if_neg (by omega)⟩
theorem kp_gvs {nc : Nat} {vs : Nat → Nat → Bool} {V : Nat → Bool} : kp_gv vs nc V nc = V := if_pos rfl
theorem kp_gps {nc : Nat} {P : Nat → (Nat → Bool) → Prop} {Q : (Nat → Bool) → Prop} : kp_gp P nc Q nc = Q := if_pos rfl
/-- a new node at the end -/
theorem kc_Cnew {ch po ne fr kc kd ch' po' ne' fr' kc' kd' : Nat → Int32} {vs vs' : Nat → Nat → Bool} {P P' : Nat → (Nat → Bool) → Prop} {nc : Nat} (h : kc_C nc ch po ne fr kc kd vs P) (hx : kp_X nc vs P vs' P')
    (e1 : ∀ i, i < nc → ch' i = ch i ∧ po' i = po i ∧ ne' i = ne i ∧ fr' i = fr i ∧ kc' i = kc i) (e6 : ∀ i, i < nc * 4 → kd' i = kd i) (hn : kc_N ch' po' ne' fr' kc' kd' vs' P' nc) : kc_C (nc + 1) ch' po' ne' fr' kc' kd' vs' P' := fun id h1 h2 => by
  by_cases e : id = nc
  · subst e; exact hn
  · have hid : id < nc := by omega
    obtain ⟨a1, a2, a3, a4, a5⟩ := e1 id hid
    exact kc_Ncong a1 a2 a3 a4 a5 (fun i hi => e6 _ (by omega)) (fun x hx' => hx x (by omega)) (h id h1 hid)
end
section
/-! one step of the machine, case by case -/
def kp_clu (post : Int32 → SX → Prop) (x : Nat) (u : SX) : Prop := match u with
  | (f_varCount, f_slotCount, f_fullMask, f_draftPos, f_draftNeg, f_state, f_assumedCount, f_assumedPos, f_assumedNeg, f_clauseCount, f_nodeCount, f_root, f_depth, f_result, f_workPos, f_workNeg, f_workLive, a_slotUsed, a_slotPos, a_slotNeg, a_assumed, a_weightPos, a_weightNeg, a_clausePos, a_clauseNeg, a_nodeChoice, a_nodePos, a_nodeNeg, a_nodeFree, a_nodeKids, a_kids, a_cacheKey, a_cacheNode, a_framePos, a_frameNeg, a_frameFree, a_frameParts, a_frameNext, a_framePhase, a_frameVar, a_frameHigh, a_partVars, a_partClauses, a_partNode, a_value, a_sizes, a_poly, a_product, a_factorPos, a_factorNeg) => wX_compile_30 post (4097 - x) (nI x) f_varCount f_slotCount f_fullMask f_draftPos f_draftNeg f_state f_assumedCount f_assumedPos f_assumedNeg f_clauseCount f_nodeCount f_root f_depth f_result f_workPos f_workNeg f_workLive a_slotUsed a_slotPos a_slotNeg a_assumed a_weightPos a_weightNeg a_clausePos a_clauseNeg a_nodeChoice a_nodePos a_nodeNeg a_nodeFree a_nodeKids a_kids a_cacheKey a_cacheNode a_framePos a_frameNeg a_frameFree a_frameParts a_frameNext a_framePhase a_frameVar a_frameHigh a_partVars a_partClauses a_partNode a_value a_sizes a_poly a_product a_factorPos a_factorNeg
def kp_cl (post : Int32 → SX → Prop) (z : kk_Z) (x : Nat) (w : kk_W) : Prop := kp_clu post x (kp_mk z w)
def kp_Adv (z : kk_Z) (w : kk_W) (Out : kk_W → Prop) : Prop := ∀ Q : SX → Prop, (∀ w', Out w' → Q (kp_mk z w')) → wpX_advance Q (kp_mk z w)
def kp_Z (cp cn : Nat → Int32) (cc : Nat) (z : kk_Z) : Prop := zz_clausePos z = cp ∧ zz_clauseNeg z = cn ∧ zz_clauseCount z = nI cc ∧ kp_CL cp cn cc
def kp_OB (cp cn : Nat → Int32) (cc d : Nat) (V C p q : Int32) (w w' : kk_W) : Prop :=
  (∃ wp wn wl, (∀ a, ¬ (kc_Po p q a ∧ kp_cf cp cn cc V C a)) ∧ w' = (ww_nodeCount w, ww_depth w, 0, wp, wn, wl, ww_nodeChoice w, ww_nodePos w, ww_nodeNeg w, ww_nodeFree w, ww_nodeKids w, ww_kids w, ww_cacheKey w, ww_cacheNode w, ww_framePos w, ww_frameNeg w, ww_frameFree w, ww_frameParts w, ww_frameNext w, ww_framePhase w, ww_frameVar w, ww_frameHigh w, ww_partVars w, ww_partClauses w, ww_partNode w))
  ∨ (∃ wp wn wl used cnt pv pc, cnt ≤ 4 ∧ kb_sub wp V ∧ kb_sub wn V ∧ kb_dis wp wn ∧ kb_sub p wp ∧ kb_sub q wn ∧ kp_Pt cc (V &&& ((wp ||| wn) ^^^ (-1))) pv pc (d * 4) cnt used
    ∧ (∀ j, j < d * 4 → pv j = ww_partVars w j ∧ pc j = ww_partClauses w j)
    ∧ (∀ a, (kc_Po p q a ∧ kp_cf cp cn cc V C a) ↔ (kc_Po wp wn a ∧ ∀ j, j < cnt → kp_cf cp cn cc (pv (d * 4 + j)) (pc (d * 4 + j)) a))
    ∧ w' = (ww_nodeCount w, (nI (d + 1)), -1, wp, wn, wl, ww_nodeChoice w, ww_nodePos w, ww_nodeNeg w, ww_nodeFree w, ww_nodeKids w, ww_kids w, ww_cacheKey w, ww_cacheNode w, (upd (ww_framePos w) d wp), (upd (ww_frameNeg w) d wn), (upd (ww_frameFree w) d ((V &&& ((wp ||| wn) ^^^ (-1))) &&& (used ^^^ (-1)))), (upd (ww_frameParts w) d (nI cnt)), (upd (ww_frameNext w) d 0), (upd (ww_framePhase w) d 0), ww_frameVar w, ww_frameHigh w, pv, pc, ww_partNode w))
def kp_acc (d i y : Nat) (w : kk_W) : kk_W := if y = 0 then (ww_nodeCount w, (nI d), 0, ww_workPos w, ww_workNeg w, ww_workLive w, ww_nodeChoice w, ww_nodePos w, ww_nodeNeg w, ww_nodeFree w, ww_nodeKids w, ww_kids w, ww_cacheKey w, ww_cacheNode w, ww_framePos w, ww_frameNeg w, ww_frameFree w, ww_frameParts w, ww_frameNext w, ww_framePhase w, ww_frameVar w, ww_frameHigh w, ww_partVars w, ww_partClauses w, ww_partNode w) else (ww_nodeCount w, ww_depth w, ww_result w, ww_workPos w, ww_workNeg w, ww_workLive w, ww_nodeChoice w, ww_nodePos w, ww_nodeNeg w, ww_nodeFree w, ww_nodeKids w, ww_kids w, ww_cacheKey w, ww_cacheNode w, ww_framePos w, ww_frameNeg w, ww_frameFree w, ww_frameParts w, (upd (ww_frameNext w) d (nI (i + 1))), ww_framePhase w, ww_frameVar w, ww_frameHigh w, ww_partVars w, ww_partClauses w, (upd (ww_partNode w) (d * 4 + i) (nI y)))
def kp_NO (h l nc : Nat) (w : kk_W) (y : Nat) (w' : kk_W) : Prop :=
  (h = 0 ∧ y = l ∧ w' = w) ∨ (h ≠ 0 ∧ l = 0 ∧ y = h ∧ w' = w)
  ∨ (h ≠ 0 ∧ l ≠ 0 ∧ y = nc ∧ w' = ((nI (nc + 1)), ww_depth w, ww_result w, ww_workPos w, ww_workNeg w, ww_workLive w, (upd (ww_nodeChoice w) nc 1), (upd (ww_nodePos w) nc 0), (upd (ww_nodeNeg w) nc 0), (upd (ww_nodeFree w) nc 0), (upd (upd (ww_nodeKids w) nc 0) nc 2), (upd (upd (ww_kids w) (nc * 4) (nI h)) (nc * 4 + 1) (nI l)), ww_cacheKey w, ww_cacheNode w, ww_framePos w, ww_frameNeg w, ww_frameFree w, ww_frameParts w, ww_frameNext w, ww_framePhase w, ww_frameVar w, ww_frameHigh w, ww_partVars w, ww_partClauses w, ww_partNode w))
def kp_CO (key : Int32) (y : Nat) (w w' : kk_W) : Prop := w' = w ∨ ∃ t, t < 1024 ∧ w' = (ww_nodeCount w, ww_depth w, ww_result w, ww_workPos w, ww_workNeg w, ww_workLive w, ww_nodeChoice w, ww_nodePos w, ww_nodeNeg w, ww_nodeFree w, ww_nodeKids w, ww_kids w, (upd (ww_cacheKey w) t key), (upd (ww_cacheNode w) t (nI y)), ww_framePos w, ww_frameNeg w, ww_frameFree w, ww_frameParts w, ww_frameNext w, ww_framePhase w, ww_frameVar w, ww_frameHigh w, ww_partVars w, ww_partClauses w, ww_partNode w)
def kp_cw (d : Nat) (bit : Int32) (w : kk_W) : kk_W := (ww_nodeCount w, ww_depth w, ww_result w, ww_workPos w, ww_workNeg w, ww_workLive w, ww_nodeChoice w, ww_nodePos w, ww_nodeNeg w, ww_nodeFree w, ww_nodeKids w, ww_kids w, ww_cacheKey w, ww_cacheNode w, ww_framePos w, ww_frameNeg w, ww_frameFree w, ww_frameParts w, ww_frameNext w, (upd (ww_framePhase w) d 1), (upd (ww_frameVar w) d bit), ww_frameHigh w, ww_partVars w, ww_partClauses w, ww_partNode w)
def kp_aw (d : Nat) (w : kk_W) : kk_W := (ww_nodeCount w, ww_depth w, -1, ww_workPos w, ww_workNeg w, ww_workLive w, ww_nodeChoice w, ww_nodePos w, ww_nodeNeg w, ww_nodeFree w, ww_nodeKids w, ww_kids w, ww_cacheKey w, ww_cacheNode w, ww_framePos w, ww_frameNeg w, ww_frameFree w, ww_frameParts w, ww_frameNext w, (upd (ww_framePhase w) d 2), ww_frameVar w, (upd (ww_frameHigh w) d (ww_result w)), ww_partVars w, ww_partClauses w, ww_partNode w)
def kp_bw (d : Nat) (w : kk_W) : kk_W := (ww_nodeCount w, ww_depth w, -1, ww_workPos w, ww_workNeg w, ww_workLive w, ww_nodeChoice w, ww_nodePos w, ww_nodeNeg w, ww_nodeFree w, ww_nodeKids w, ww_kids w, ww_cacheKey w, ww_cacheNode w, ww_framePos w, ww_frameNeg w, ww_frameFree w, ww_frameParts w, ww_frameNext w, (upd (ww_framePhase w) d 0), ww_frameVar w, ww_frameHigh w, ww_partVars w, ww_partClauses w, ww_partNode w)
theorem kp_step {post : Int32 → SX → Prop} {z : kk_Z} {w : kk_W} {Out : kk_W → Prop} {x d : Nat} (hx : x < 4096) (hd : ww_depth w = nI (d + 1)) (hd2 : d < 16) (hA : kp_Adv z w Out) (K : ∀ w', Out w' → kp_cl post z (x + 1) w') : kp_cl post z x w := by
  obtain ⟨f_varCount, f_slotCount, f_fullMask, f_draftPos, f_draftNeg, f_state, f_assumedCount, f_assumedPos, f_assumedNeg, f_clauseCount, f_root, a_slotUsed, a_slotPos, a_slotNeg, a_assumed, a_weightPos, a_weightNeg, a_clausePos, a_clauseNeg, a_value, a_sizes, a_poly, a_product, a_factorPos, a_factorNeg⟩ := z
  obtain ⟨f_nodeCount, f_depth, f_result, f_workPos, f_workNeg, f_workLive, a_nodeChoice, a_nodePos, a_nodeNeg, a_nodeFree, a_nodeKids, a_kids, a_cacheKey, a_cacheNode, a_framePos, a_frameNeg, a_frameFree, a_frameParts, a_frameNext, a_framePhase, a_frameVar, a_frameHigh, a_partVars, a_partClauses, a_partNode⟩ := w
  show wX_compile_30 post (4097 - x) (nI x) f_varCount f_slotCount f_fullMask f_draftPos f_draftNeg f_state f_assumedCount f_assumedPos f_assumedNeg f_clauseCount f_nodeCount f_root f_depth f_result f_workPos f_workNeg f_workLive a_slotUsed a_slotPos a_slotNeg a_assumed a_weightPos a_weightNeg a_clausePos a_clauseNeg a_nodeChoice a_nodePos a_nodeNeg a_nodeFree a_nodeKids a_kids a_cacheKey a_cacheNode a_framePos a_frameNeg a_frameFree a_frameParts a_frameNext a_framePhase a_frameVar a_frameHigh a_partVars a_partClauses a_partNode a_value a_sizes a_poly a_product a_factorPos a_factorNeg
  have e : 4097 - x = (4097 - (x + 1)) + 1 := by omega
  rw [e]
  have hd' : f_depth = nI (d + 1) := hd
  refine br_f (nI_ge (b := 4096) hx (by decide)) (br_f ?_ ?_)
  · rw [hd']; exact nI_nle (by omega) (by omega)
  · refine hA _ (fun w' hw => ?_)
    intro y ey
    subst ey
    rw [nI_1 x]
    exact K w' hw
section
variable {cp cn : Nat → Int32} {cc : Nat} {z : kk_Z} {w : kk_W} {d i : Nat} {V C : Int32}
theorem kp_open {p q : Int32} (hz : kp_Z cp cn cc z) (hd : ww_depth w = nI d) (hd16 : d < 16) (hV : kb_lo8 V) (hp : kb_sub p V) (hq : kb_sub q V) (hpq : kb_dis p q) (Q : SX → Prop)
    (K : ∀ w', kp_OB cp cn cc d V C p q w w' → Q (kp_mk z w')) : wpX_openBranch Q (kp_mk z w) V C p q := by
  obtain ⟨rfl, rfl, hcc, hCL⟩ := hz
  obtain ⟨f_varCount, f_slotCount, f_fullMask, f_draftPos, f_draftNeg, f_state, f_assumedCount, f_assumedPos, f_assumedNeg, f_clauseCount, f_root, a_slotUsed, a_slotPos, a_slotNeg, a_assumed, a_weightPos, a_weightNeg, a_clausePos, a_clauseNeg, a_value, a_sizes, a_poly, a_product, a_factorPos, a_factorNeg⟩ := z
  obtain ⟨f_nodeCount, f_depth, f_result, f_workPos, f_workNeg, f_workLive, a_nodeChoice, a_nodePos, a_nodeNeg, a_nodeFree, a_nodeKids, a_kids, a_cacheKey, a_cacheNode, a_framePos, a_frameNeg, a_frameFree, a_frameParts, a_frameNext, a_framePhase, a_frameVar, a_frameHigh, a_partVars, a_partClauses, a_partNode⟩ := w
  refine kw_openBranch hcc hCL hd hd16 hV hp hq hpq (fun H wp wn wl => ?_) (fun wp wn wl used cnt pv pc h1 h2 h3 h4 h5 h6 h7 h8 h9 => ?_)
  · exact K _ (Or.inl ⟨wp, wn, wl, H, rfl⟩)
  · exact K _ (Or.inr ⟨wp, wn, wl, used, cnt, pv, pc, h1, h2, h3, h4, h5, h6, h7, h8, h9, rfl⟩)
theorem kp_adv_enter {cnt : Nat} (hz : kp_Z cp cn cc z) (hd : ww_depth w = nI (d + 1)) (hd15 : d < 15) (hr : ww_result w = -1) (hn : ww_frameNext w d = nI i) (hp : ww_frameParts w d = nI cnt) (hi : i < cnt) (hc4 : cnt ≤ 4)
    (hV : ww_partVars w (d * 4 + i) = V) (hC : ww_partClauses w (d * 4 + i) = C) (hV8 : kb_lo8 V) {v0 : Nat} (hv0 : bt V v0 = true)
    (hcache : ∀ t, t < 1024 → ww_cacheKey w t = kp_key V C → ∃ y, y < 1024 ∧ ww_cacheNode w t = nI y) :
    kp_Adv z w (fun w' => (∃ t y, t < 1024 ∧ y < 1024 ∧ ww_cacheKey w t = kp_key V C ∧ ww_cacheNode w t = nI y ∧ w' = kp_acc d i y w) ∨ (∃ v, v < 8 ∧ bt V v = true ∧ kp_OB cp cn cc (d + 1) V C ((1 : Int32) <<< (nI v &&& 31)) 0 (kp_cw d ((1 : Int32) <<< (nI v &&& 31)) w) w')) := by
  intro Q hQ
  have hz' := hz
  obtain ⟨rfl, rfl, hcc, hCL⟩ := hz
  obtain ⟨f_varCount, f_slotCount, f_fullMask, f_draftPos, f_draftNeg, f_state, f_assumedCount, f_assumedPos, f_assumedNeg, f_clauseCount, f_root, a_slotUsed, a_slotPos, a_slotNeg, a_assumed, a_weightPos, a_weightNeg, a_clausePos, a_clauseNeg, a_value, a_sizes, a_poly, a_product, a_factorPos, a_factorNeg⟩ := z
  obtain ⟨f_nodeCount, f_depth, f_result, f_workPos, f_workNeg, f_workLive, a_nodeChoice, a_nodePos, a_nodeNeg, a_nodeFree, a_nodeKids, a_kids, a_cacheKey, a_cacheNode, a_framePos, a_frameNeg, a_frameFree, a_frameParts, a_frameNext, a_framePhase, a_frameVar, a_frameHigh, a_partVars, a_partClauses, a_partNode⟩ := w
  have hd' : f_depth = nI (d + 1) := hd
  have hr' : f_result = -1 := hr
  have hn' : a_frameNext d = nI i := hn
  have hp' : a_frameParts d = nI cnt := hp
  have hV' : a_partVars (d * 4 + i) = V := hV
  have hC' : a_partClauses (d * 4 + i) = C := hC
  have ed : (nI d).toNatClampNeg = d := nI_clamp (by omega)
  have hind : vp_in (nI d) 16 := vp_in_nI (by omega) (by decide)
  have e4 : nI d * 4 + nI i = nI (d * 4 + i) := by rw [show (4 : Int32) = nI 4 from rfl, pk_mul, nI_add]
  have e4' : (nI (d * 4 + i)).toNatClampNeg = d * 4 + i := nI_clamp (by omega)
  have hin4 : vp_in (nI (d * 4 + i)) 64 := vp_in_nI (by omega) (by decide)
  show wpX_advance Q (f_varCount, f_slotCount, f_fullMask, f_draftPos, f_draftNeg, f_state, f_assumedCount, f_assumedPos, f_assumedNeg, f_clauseCount, f_nodeCount, f_root, f_depth, f_result, f_workPos, f_workNeg, f_workLive, a_slotUsed, a_slotPos, a_slotNeg, a_assumed, a_weightPos, a_weightNeg, a_clausePos, a_clauseNeg, a_nodeChoice, a_nodePos, a_nodeNeg, a_nodeFree, a_nodeKids, a_kids, a_cacheKey, a_cacheNode, a_framePos, a_frameNeg, a_frameFree, a_frameParts, a_frameNext, a_framePhase, a_frameVar, a_frameHigh, a_partVars, a_partClauses, a_partNode, a_value, a_sizes, a_poly, a_product, a_factorPos, a_factorNeg)
  subst hd' hr'
  intro x1 e1
  rw [nI_pred d] at e1
  subst e1
  refine br_t (nI_pos' (by omega)) (br_t (by decide) ⟨hind, hind, ?_⟩)
  rw [ed, hn', hp']
  refine br_t (nI_lt hi (by omega)) ⟨hind, ?_⟩
  rw [ed, hn', e4]
  intro x2 e2
  subst e2
  rw [e4', hV', hC']
  refine ⟨hin4, hin4, ?_⟩
  intro x3 e3
  have e3' : x3 = kp_key V C := e3
  clear e3
  subst e3'
  refine kw_cacheGet (br_t (by decide) ⟨hin4, hin4, ?_⟩) (fun t ht hk => ?_)
  · refine kw_choose hcc hCL.1 hV8 hv0 (fun v hv hbv => ⟨hind, fun fv efv => ⟨hind, fun fp efp => ⟨hin4, hin4, ?_⟩⟩⟩)
    subst efv efp
    refine kp_open (w := kp_cw d ((1 : Int32) <<< (nI v &&& 31)) (f_nodeCount, (nI (d + 1)), -1, f_workPos, f_workNeg, f_workLive, a_nodeChoice, a_nodePos, a_nodeNeg, a_nodeFree, a_nodeKids, a_kids, a_cacheKey, a_cacheNode, a_framePos, a_frameNeg, a_frameFree, a_frameParts, a_frameNext, a_framePhase, a_frameVar, a_frameHigh, a_partVars, a_partClauses, a_partNode)) hz' rfl (by omega) hV8 (fun u hu => ?_) (fun u hu => by rw [b_0] at hu; cases hu) (fun u hu => by rw [b_0] at hu; cases hu.2) _ (fun w' hw => ?_)
    · rw [kb_one v (by omega)] at hu
      have e : u = v := by simpa using hu
      subst e; exact hbv
    · exact hQ w' (Or.inr ⟨v, hv, hbv, hw⟩)
  · obtain ⟨y, hy, ey⟩ := hcache t ht hk
    have ey' : a_cacheNode t = nI y := ey
    rw [ey']
    refine br_f (nI_pos (by omega)) ?_
    refine pk_eq y 0 (fun h0 => ?_) (fun h0 => ?_)
    · have := hQ _ (Or.inl ⟨t, y, ht, hy, hk, ey, rfl⟩)
      unfold kp_acc at this
      rw [if_pos h0] at this
      exact this
    · refine ⟨hind, ?_⟩
      rw [ed, hn', e4, e4']
      refine ⟨hin4, fun a1 e1 => ⟨hind, hind, fun a2 e2 => ?_⟩⟩
      rw [nI_1 i] at e2
      subst e1 e2
      have := hQ _ (Or.inl ⟨t, y, ht, hy, hk, ey, rfl⟩)
      unfold kp_acc at this
      rw [if_neg h0] at this
      exact this
end
end
section
/-! absorb and closeFrame -/
section
variable {f_varCount f_slotCount f_fullMask f_draftPos f_draftNeg f_state f_assumedCount f_assumedPos f_assumedNeg f_clauseCount f_nodeCount f_root f_depth f_result f_workPos f_workNeg f_workLive : Int32} {a_slotUsed a_slotPos a_slotNeg a_assumed a_weightPos a_weightNeg a_clausePos a_clauseNeg a_nodeChoice a_nodePos a_nodeNeg a_nodeFree a_nodeKids a_kids a_cacheKey a_cacheNode a_framePos a_frameNeg a_frameFree a_frameParts a_frameNext a_framePhase a_frameVar a_frameHigh a_partVars a_partClauses a_partNode a_value a_sizes a_poly a_product a_factorPos a_factorNeg : Nat → Int32}
theorem kw_tail {post : SX → Prop} {key : Int32} {d i y : Nat} (hd : d < 16) (hi : i < 4) (hy : y < 2 ^ 31) (hn : a_frameNext d = nI i)
    (K : ∀ ck ca, ((ck = a_cacheKey ∧ ca = a_cacheNode) ∨ ∃ t, t < 1024 ∧ ck = upd a_cacheKey t key ∧ ca = upd a_cacheNode t (nI y)) →
      (y = 0 → post (f_varCount, f_slotCount, f_fullMask, f_draftPos, f_draftNeg, f_state, f_assumedCount, f_assumedPos, f_assumedNeg, f_clauseCount, f_nodeCount, f_root, (nI d), 0, f_workPos, f_workNeg, f_workLive, a_slotUsed, a_slotPos, a_slotNeg, a_assumed, a_weightPos, a_weightNeg, a_clausePos, a_clauseNeg, a_nodeChoice, a_nodePos, a_nodeNeg, a_nodeFree, a_nodeKids, a_kids, ck, ca, a_framePos, a_frameNeg, a_frameFree, a_frameParts, a_frameNext, a_framePhase, a_frameVar, a_frameHigh, a_partVars, a_partClauses, a_partNode, a_value, a_sizes, a_poly, a_product, a_factorPos, a_factorNeg)) ∧ (y ≠ 0 → post (f_varCount, f_slotCount, f_fullMask, f_draftPos, f_draftNeg, f_state, f_assumedCount, f_assumedPos, f_assumedNeg, f_clauseCount, f_nodeCount, f_root, f_depth, f_result, f_workPos, f_workNeg, f_workLive, a_slotUsed, a_slotPos, a_slotNeg, a_assumed, a_weightPos, a_weightNeg, a_clausePos, a_clauseNeg, a_nodeChoice, a_nodePos, a_nodeNeg, a_nodeFree, a_nodeKids, a_kids, ck, ca, a_framePos, a_frameNeg, a_frameFree, a_frameParts, (upd a_frameNext d (nI (i + 1))), a_framePhase, a_frameVar, a_frameHigh, a_partVars, a_partClauses, (upd a_partNode (d * 4 + i) (nI y)), a_value, a_sizes, a_poly, a_product, a_factorPos, a_factorNeg))) :
    wpX_cachePut (fun u => match u with | (f_varCount1, f_slotCount1, f_fullMask1, f_draftPos1, f_draftNeg1, f_state1, f_assumedCount1, f_assumedPos1, f_assumedNeg1, f_clauseCount1, f_nodeCount1, f_root1, f_depth1, f_result1, f_workPos1, f_workNeg1, f_workLive1, a_slotUsed1, a_slotPos1, a_slotNeg1, a_assumed1, a_weightPos1, a_weightNeg1, a_clausePos1, a_clauseNeg1, a_nodeChoice1, a_nodePos1, a_nodeNeg1, a_nodeFree1, a_nodeKids1, a_kids1, a_cacheKey1, a_cacheNode1, a_framePos1, a_frameNeg1, a_frameFree1, a_frameParts1, a_frameNext1, a_framePhase1, a_frameVar1, a_frameHigh1, a_partVars1, a_partClauses1, a_partNode1, a_value1, a_sizes1, a_poly1, a_product1, a_factorPos1, a_factorNeg1) => wpX_acceptPart (fun u => match u with | (f_varCount2, f_slotCount2, f_fullMask2, f_draftPos2, f_draftNeg2, f_state2, f_assumedCount2, f_assumedPos2, f_assumedNeg2, f_clauseCount2, f_nodeCount2, f_root2, f_depth2, f_result2, f_workPos2, f_workNeg2, f_workLive2, a_slotUsed2, a_slotPos2, a_slotNeg2, a_assumed2, a_weightPos2, a_weightNeg2, a_clausePos2, a_clauseNeg2, a_nodeChoice2, a_nodePos2, a_nodeNeg2, a_nodeFree2, a_nodeKids2, a_kids2, a_cacheKey2, a_cacheNode2, a_framePos2, a_frameNeg2, a_frameFree2, a_frameParts2, a_frameNext2, a_framePhase2, a_frameVar2, a_frameHigh2, a_partVars2, a_partClauses2, a_partNode2, a_value2, a_sizes2, a_poly2, a_product2, a_factorPos2, a_factorNeg2) => post (f_varCount2, f_slotCount2, f_fullMask2, f_draftPos2, f_draftNeg2, f_state2, f_assumedCount2, f_assumedPos2, f_assumedNeg2, f_clauseCount2, f_nodeCount2, f_root2, f_depth2, f_result2, f_workPos2, f_workNeg2, f_workLive2, a_slotUsed2, a_slotPos2, a_slotNeg2, a_assumed2, a_weightPos2, a_weightNeg2, a_clausePos2, a_clauseNeg2, a_nodeChoice2, a_nodePos2, a_nodeNeg2, a_nodeFree2, a_nodeKids2, a_kids2, a_cacheKey2, a_cacheNode2, a_framePos2, a_frameNeg2, a_frameFree2, a_frameParts2, a_frameNext2, a_framePhase2, a_frameVar2, a_frameHigh2, a_partVars2, a_partClauses2, a_partNode2, a_value2, a_sizes2, a_poly2, a_product2, a_factorPos2, a_factorNeg2)) (f_varCount1, f_slotCount1, f_fullMask1, f_draftPos1, f_draftNeg1, f_state1, f_assumedCount1, f_assumedPos1, f_assumedNeg1, f_clauseCount1, f_nodeCount1, f_root1, f_depth1, f_result1, f_workPos1, f_workNeg1, f_workLive1, a_slotUsed1, a_slotPos1, a_slotNeg1, a_assumed1, a_weightPos1, a_weightNeg1, a_clausePos1, a_clauseNeg1, a_nodeChoice1, a_nodePos1, a_nodeNeg1, a_nodeFree1, a_nodeKids1, a_kids1, a_cacheKey1, a_cacheNode1, a_framePos1, a_frameNeg1, a_frameFree1, a_frameParts1, a_frameNext1, a_framePhase1, a_frameVar1, a_frameHigh1, a_partVars1, a_partClauses1, a_partNode1, a_value1, a_sizes1, a_poly1, a_product1, a_factorPos1, a_factorNeg1) (nI d) (nI y)) (f_varCount, f_slotCount, f_fullMask, f_draftPos, f_draftNeg, f_state, f_assumedCount, f_assumedPos, f_assumedNeg, f_clauseCount, f_nodeCount, f_root, f_depth, f_result, f_workPos, f_workNeg, f_workLive, a_slotUsed, a_slotPos, a_slotNeg, a_assumed, a_weightPos, a_weightNeg, a_clausePos, a_clauseNeg, a_nodeChoice, a_nodePos, a_nodeNeg, a_nodeFree, a_nodeKids, a_kids, a_cacheKey, a_cacheNode, a_framePos, a_frameNeg, a_frameFree, a_frameParts, a_frameNext, a_framePhase, a_frameVar, a_frameHigh, a_partVars, a_partClauses, a_partNode, a_value, a_sizes, a_poly, a_product, a_factorPos, a_factorNeg) key (nI y) := by
  have ed : (nI d).toNatClampNeg = d := nI_clamp (by omega)
  have hind : vp_in (nI d) 16 := vp_in_nI (by omega) (by decide)
  have e4 : nI d * 4 + nI i = nI (d * 4 + i) := by rw [show (4 : Int32) = nI 4 from rfl, pk_mul, nI_add]
  have e4' : (nI (d * 4 + i)).toNatClampNeg = d * 4 + i := nI_clamp (by omega)
  have hin4 : vp_in (nI (d * 4 + i)) 64 := vp_in_nI (by omega) (by decide)
  have acc : ∀ ck ca, ((y = 0 → post (f_varCount, f_slotCount, f_fullMask, f_draftPos, f_draftNeg, f_state, f_assumedCount, f_assumedPos, f_assumedNeg, f_clauseCount, f_nodeCount, f_root, (nI d), 0, f_workPos, f_workNeg, f_workLive, a_slotUsed, a_slotPos, a_slotNeg, a_assumed, a_weightPos, a_weightNeg, a_clausePos, a_clauseNeg, a_nodeChoice, a_nodePos, a_nodeNeg, a_nodeFree, a_nodeKids, a_kids, ck, ca, a_framePos, a_frameNeg, a_frameFree, a_frameParts, a_frameNext, a_framePhase, a_frameVar, a_frameHigh, a_partVars, a_partClauses, a_partNode, a_value, a_sizes, a_poly, a_product, a_factorPos, a_factorNeg)) ∧ (y ≠ 0 → post (f_varCount, f_slotCount, f_fullMask, f_draftPos, f_draftNeg, f_state, f_assumedCount, f_assumedPos, f_assumedNeg, f_clauseCount, f_nodeCount, f_root, f_depth, f_result, f_workPos, f_workNeg, f_workLive, a_slotUsed, a_slotPos, a_slotNeg, a_assumed, a_weightPos, a_weightNeg, a_clausePos, a_clauseNeg, a_nodeChoice, a_nodePos, a_nodeNeg, a_nodeFree, a_nodeKids, a_kids, ck, ca, a_framePos, a_frameNeg, a_frameFree, a_frameParts, (upd a_frameNext d (nI (i + 1))), a_framePhase, a_frameVar, a_frameHigh, a_partVars, a_partClauses, (upd a_partNode (d * 4 + i) (nI y)), a_value, a_sizes, a_poly, a_product, a_factorPos, a_factorNeg))) →
      wpX_acceptPart (fun u => match u with | (f_varCount2, f_slotCount2, f_fullMask2, f_draftPos2, f_draftNeg2, f_state2, f_assumedCount2, f_assumedPos2, f_assumedNeg2, f_clauseCount2, f_nodeCount2, f_root2, f_depth2, f_result2, f_workPos2, f_workNeg2, f_workLive2, a_slotUsed2, a_slotPos2, a_slotNeg2, a_assumed2, a_weightPos2, a_weightNeg2, a_clausePos2, a_clauseNeg2, a_nodeChoice2, a_nodePos2, a_nodeNeg2, a_nodeFree2, a_nodeKids2, a_kids2, a_cacheKey2, a_cacheNode2, a_framePos2, a_frameNeg2, a_frameFree2, a_frameParts2, a_frameNext2, a_framePhase2, a_frameVar2, a_frameHigh2, a_partVars2, a_partClauses2, a_partNode2, a_value2, a_sizes2, a_poly2, a_product2, a_factorPos2, a_factorNeg2) => post (f_varCount2, f_slotCount2, f_fullMask2, f_draftPos2, f_draftNeg2, f_state2, f_assumedCount2, f_assumedPos2, f_assumedNeg2, f_clauseCount2, f_nodeCount2, f_root2, f_depth2, f_result2, f_workPos2, f_workNeg2, f_workLive2, a_slotUsed2, a_slotPos2, a_slotNeg2, a_assumed2, a_weightPos2, a_weightNeg2, a_clausePos2, a_clauseNeg2, a_nodeChoice2, a_nodePos2, a_nodeNeg2, a_nodeFree2, a_nodeKids2, a_kids2, a_cacheKey2, a_cacheNode2, a_framePos2, a_frameNeg2, a_frameFree2, a_frameParts2, a_frameNext2, a_framePhase2, a_frameVar2, a_frameHigh2, a_partVars2, a_partClauses2, a_partNode2, a_value2, a_sizes2, a_poly2, a_product2, a_factorPos2, a_factorNeg2)) (f_varCount, f_slotCount, f_fullMask, f_draftPos, f_draftNeg, f_state, f_assumedCount, f_assumedPos, f_assumedNeg, f_clauseCount, f_nodeCount, f_root, f_depth, f_result, f_workPos, f_workNeg, f_workLive, a_slotUsed, a_slotPos, a_slotNeg, a_assumed, a_weightPos, a_weightNeg, a_clausePos, a_clauseNeg, a_nodeChoice, a_nodePos, a_nodeNeg, a_nodeFree, a_nodeKids, a_kids, ck, ca, a_framePos, a_frameNeg, a_frameFree, a_frameParts, a_frameNext, a_framePhase, a_frameVar, a_frameHigh, a_partVars, a_partClauses, a_partNode, a_value, a_sizes, a_poly, a_product, a_factorPos, a_factorNeg) (nI d) (nI y) := by
    intro ck ca h
    refine pk_eq y 0 (fun h0 => h.1 h0) (fun h0 => ⟨hind, ?_⟩)
    rw [ed, hn, e4, e4']
    refine ⟨hin4, fun a1 e1 => ⟨hind, hind, fun a2 e2 => ?_⟩⟩
    rw [nI_1 i] at e2
    subst e1 e2
    exact h.2 h0
  refine kw_cachePut ?_ (fun t ht => ?_)
  · exact acc _ _ (K _ _ (Or.inl ⟨rfl, rfl⟩))
  · exact acc _ _ (K _ _ (Or.inr ⟨t, ht, rfl, rfl⟩))
end
section
variable {cp cn : Nat → Int32} {cc : Nat} {z : kk_Z} {w : kk_W} {d i : Nat} {V C : Int32}
theorem kp_adv_abs1 {h v : Nat} (hz : kp_Z cp cn cc z) (hd : ww_depth w = nI (d + 1)) (hd15 : d < 15) (hr : ww_result w = nI h) (hh : h < 2 ^ 31) (hph : ww_framePhase w d = 1) (hn : ww_frameNext w d = nI i) (hi : i < 4)
    (hV : ww_partVars w (d * 4 + i) = V) (hC : ww_partClauses w (d * 4 + i) = C) (hV8 : kb_lo8 V) (hfv : ww_frameVar w d = (1 : Int32) <<< (nI v &&& 31)) (hv8 : v < 8) (hbv : bt V v = true) :
    kp_Adv z w (fun w' => kp_OB cp cn cc (d + 1) V C 0 ((1 : Int32) <<< (nI v &&& 31)) (kp_aw d w) w') := by
  intro Q hQ
  have hz' := hz
  obtain ⟨rfl, rfl, hcc, hCL⟩ := hz
  obtain ⟨f_varCount, f_slotCount, f_fullMask, f_draftPos, f_draftNeg, f_state, f_assumedCount, f_assumedPos, f_assumedNeg, f_clauseCount, f_root, a_slotUsed, a_slotPos, a_slotNeg, a_assumed, a_weightPos, a_weightNeg, a_clausePos, a_clauseNeg, a_value, a_sizes, a_poly, a_product, a_factorPos, a_factorNeg⟩ := z
  obtain ⟨f_nodeCount, f_depth, f_result, f_workPos, f_workNeg, f_workLive, a_nodeChoice, a_nodePos, a_nodeNeg, a_nodeFree, a_nodeKids, a_kids, a_cacheKey, a_cacheNode, a_framePos, a_frameNeg, a_frameFree, a_frameParts, a_frameNext, a_framePhase, a_frameVar, a_frameHigh, a_partVars, a_partClauses, a_partNode⟩ := w
  have hd' : f_depth = nI (d + 1) := hd
  have hr' : f_result = nI h := hr
  have hn' : a_frameNext d = nI i := hn
  have hph' : a_framePhase d = 1 := hph
  have hV' : a_partVars (d * 4 + i) = V := hV
  have hC' : a_partClauses (d * 4 + i) = C := hC
  have hfv' : a_frameVar d = (1 : Int32) <<< (nI v &&& 31) := hfv
  have ed : (nI d).toNatClampNeg = d := nI_clamp (by omega)
  have hind : vp_in (nI d) 16 := vp_in_nI (by omega) (by decide)
  have e4 : nI d * 4 + nI i = nI (d * 4 + i) := by rw [show (4 : Int32) = nI 4 from rfl, pk_mul, nI_add]
  have e4' : (nI (d * 4 + i)).toNatClampNeg = d * 4 + i := nI_clamp (by omega)
  have hin4 : vp_in (nI (d * 4 + i)) 64 := vp_in_nI (by omega) (by decide)
  show wpX_advance Q (f_varCount, f_slotCount, f_fullMask, f_draftPos, f_draftNeg, f_state, f_assumedCount, f_assumedPos, f_assumedNeg, f_clauseCount, f_nodeCount, f_root, f_depth, f_result, f_workPos, f_workNeg, f_workLive, a_slotUsed, a_slotPos, a_slotNeg, a_assumed, a_weightPos, a_weightNeg, a_clausePos, a_clauseNeg, a_nodeChoice, a_nodePos, a_nodeNeg, a_nodeFree, a_nodeKids, a_kids, a_cacheKey, a_cacheNode, a_framePos, a_frameNeg, a_frameFree, a_frameParts, a_frameNext, a_framePhase, a_frameVar, a_frameHigh, a_partVars, a_partClauses, a_partNode, a_value, a_sizes, a_poly, a_product, a_factorPos, a_factorNeg)
  subst hd' hr'
  intro x1 e1
  rw [nI_pred d] at e1
  subst e1
  refine br_t (nI_pos' (by omega)) (br_f (nI_pos hh) ⟨hind, ?_⟩)
  rw [ed, hn', e4]
  intro x2 e2
  subst e2
  refine ⟨hind, br_t hph' ⟨hind, fun a1 e1 => ⟨hind, fun a2 e2 => ⟨hin4, hin4, hind, ?_⟩⟩⟩⟩
  subst e1 e2
  rw [e4', hV', hC', hfv']
  refine kp_open (w := kp_aw d (f_nodeCount, (nI (d + 1)), (nI h), f_workPos, f_workNeg, f_workLive, a_nodeChoice, a_nodePos, a_nodeNeg, a_nodeFree, a_nodeKids, a_kids, a_cacheKey, a_cacheNode, a_framePos, a_frameNeg, a_frameFree, a_frameParts, a_frameNext, a_framePhase, a_frameVar, a_frameHigh, a_partVars, a_partClauses, a_partNode)) hz' rfl (by omega) hV8 (fun u hu => by rw [b_0] at hu; cases hu) (fun u hu => ?_) (fun u hu => by rw [b_0] at hu; cases hu.1) _ (fun w' hw => ?_)
  · rw [kb_one v (by omega)] at hu
    have e : u = v := by simpa using hu
    subst e; exact hbv
  · exact hQ w' hw
theorem kp_adv_abs2 {h l nc : Nat} (hd : ww_depth w = nI (d + 1)) (hd15 : d < 15) (hr : ww_result w = nI l) (hh : h < 2 ^ 31) (hl : l < 2 ^ 31) (hph : ww_framePhase w d = 2) (hfh : ww_frameHigh w d = nI h) (hn : ww_frameNext w d = nI i) (hi : i < 4)
    (hV : ww_partVars w (d * 4 + i) = V) (hC : ww_partClauses w (d * 4 + i) = C) (hnc : ww_nodeCount w = nI nc) (hn1 : 1 ≤ nc) (hn2 : nc < 1024) :
    kp_Adv z w (fun w' => ∃ y w1 w2, kp_NO h l nc (kp_bw d w) y w1 ∧ kp_CO (kp_key V C) y w1 w2 ∧ w' = kp_acc d i y w2) := by
  intro Q hQ
  obtain ⟨f_varCount, f_slotCount, f_fullMask, f_draftPos, f_draftNeg, f_state, f_assumedCount, f_assumedPos, f_assumedNeg, f_clauseCount, f_root, a_slotUsed, a_slotPos, a_slotNeg, a_assumed, a_weightPos, a_weightNeg, a_clausePos, a_clauseNeg, a_value, a_sizes, a_poly, a_product, a_factorPos, a_factorNeg⟩ := z
  obtain ⟨f_nodeCount, f_depth, f_result, f_workPos, f_workNeg, f_workLive, a_nodeChoice, a_nodePos, a_nodeNeg, a_nodeFree, a_nodeKids, a_kids, a_cacheKey, a_cacheNode, a_framePos, a_frameNeg, a_frameFree, a_frameParts, a_frameNext, a_framePhase, a_frameVar, a_frameHigh, a_partVars, a_partClauses, a_partNode⟩ := w
  have hd' : f_depth = nI (d + 1) := hd
  have hr' : f_result = nI l := hr
  have hn' : a_frameNext d = nI i := hn
  have hph' : a_framePhase d = 2 := hph
  have hV' : a_partVars (d * 4 + i) = V := hV
  have hC' : a_partClauses (d * 4 + i) = C := hC
  have hfh' : a_frameHigh d = nI h := hfh
  have hnc' : f_nodeCount = nI nc := hnc
  have ed : (nI d).toNatClampNeg = d := nI_clamp (by omega)
  have hind : vp_in (nI d) 16 := vp_in_nI (by omega) (by decide)
  have e4 : nI d * 4 + nI i = nI (d * 4 + i) := by rw [show (4 : Int32) = nI 4 from rfl, pk_mul, nI_add]
  have e4' : (nI (d * 4 + i)).toNatClampNeg = d * 4 + i := nI_clamp (by omega)
  have hin4 : vp_in (nI (d * 4 + i)) 64 := vp_in_nI (by omega) (by decide)
  show wpX_advance Q (f_varCount, f_slotCount, f_fullMask, f_draftPos, f_draftNeg, f_state, f_assumedCount, f_assumedPos, f_assumedNeg, f_clauseCount, f_nodeCount, f_root, f_depth, f_result, f_workPos, f_workNeg, f_workLive, a_slotUsed, a_slotPos, a_slotNeg, a_assumed, a_weightPos, a_weightNeg, a_clausePos, a_clauseNeg, a_nodeChoice, a_nodePos, a_nodeNeg, a_nodeFree, a_nodeKids, a_kids, a_cacheKey, a_cacheNode, a_framePos, a_frameNeg, a_frameFree, a_frameParts, a_frameNext, a_framePhase, a_frameVar, a_frameHigh, a_partVars, a_partClauses, a_partNode, a_value, a_sizes, a_poly, a_product, a_factorPos, a_factorNeg)
  subst hd' hr' hnc'
  intro x1 e1
  rw [nI_pred d] at e1
  subst e1
  refine br_t (nI_pos' (by omega)) (br_f (nI_pos hl) ⟨hind, ?_⟩)
  rw [ed, hn', e4]
  intro x2 e2
  subst e2
  refine ⟨hind, br_f (by rw [hph']; decide) ⟨hind, fun a1 e1 => ⟨hind, ?_⟩⟩⟩
  subst e1
  rw [hfh']
  refine kw_makeChoice rfl hn1 hn2 hh hl (fun h0 => ?_) (fun h0 l0 => ?_) (fun h0 l0 => ?_)
  · refine ⟨hin4, hin4, ?_⟩
    rw [e4', hV', hC']
    intro x5 e5
    have e5' : x5 = kp_key V C := e5
    clear e5
    subst e5'
    refine kw_tail (by omega) hi hl hn' (fun ck ca hc => ?_)
    have hCO : kp_CO (kp_key V C) l (kp_bw d ((nI nc), (nI (d + 1)), (nI l), f_workPos, f_workNeg, f_workLive, a_nodeChoice, a_nodePos, a_nodeNeg, a_nodeFree, a_nodeKids, a_kids, a_cacheKey, a_cacheNode, a_framePos, a_frameNeg, a_frameFree, a_frameParts, a_frameNext, a_framePhase, a_frameVar, a_frameHigh, a_partVars, a_partClauses, a_partNode)) ((nI nc), (nI (d + 1)), -1, f_workPos, f_workNeg, f_workLive, a_nodeChoice, a_nodePos, a_nodeNeg, a_nodeFree, a_nodeKids, a_kids, ck, ca, a_framePos, a_frameNeg, a_frameFree, a_frameParts, a_frameNext, (upd a_framePhase d 0), a_frameVar, a_frameHigh, a_partVars, a_partClauses, a_partNode) := by
      rcases hc with ⟨rfl, rfl⟩ | ⟨t, ht, rfl, rfl⟩
      · exact Or.inl rfl
      · exact Or.inr ⟨t, ht, rfl⟩
    have := hQ _ ⟨l, _, _, Or.inl ⟨h0, rfl, rfl⟩, hCO, rfl⟩
    unfold kp_acc at this
    exact ⟨fun y0 => by rw [if_pos y0] at this; exact this, fun y0 => by rw [if_neg y0] at this; exact this⟩
  · refine ⟨hin4, hin4, ?_⟩
    rw [e4', hV', hC']
    intro x5 e5
    have e5' : x5 = kp_key V C := e5
    clear e5
    subst e5'
    refine kw_tail (by omega) hi hh hn' (fun ck ca hc => ?_)
    have hCO : kp_CO (kp_key V C) h (kp_bw d ((nI nc), (nI (d + 1)), (nI l), f_workPos, f_workNeg, f_workLive, a_nodeChoice, a_nodePos, a_nodeNeg, a_nodeFree, a_nodeKids, a_kids, a_cacheKey, a_cacheNode, a_framePos, a_frameNeg, a_frameFree, a_frameParts, a_frameNext, a_framePhase, a_frameVar, a_frameHigh, a_partVars, a_partClauses, a_partNode)) ((nI nc), (nI (d + 1)), -1, f_workPos, f_workNeg, f_workLive, a_nodeChoice, a_nodePos, a_nodeNeg, a_nodeFree, a_nodeKids, a_kids, ck, ca, a_framePos, a_frameNeg, a_frameFree, a_frameParts, a_frameNext, (upd a_framePhase d 0), a_frameVar, a_frameHigh, a_partVars, a_partClauses, a_partNode) := by
      rcases hc with ⟨rfl, rfl⟩ | ⟨t, ht, rfl, rfl⟩
      · exact Or.inl rfl
      · exact Or.inr ⟨t, ht, rfl⟩
    have := hQ _ ⟨h, _, _, Or.inr (Or.inl ⟨h0, l0, rfl, rfl⟩), hCO, rfl⟩
    unfold kp_acc at this
    exact ⟨fun y0 => by rw [if_pos y0] at this; exact this, fun y0 => by rw [if_neg y0] at this; exact this⟩
  · refine ⟨hin4, hin4, ?_⟩
    rw [e4', hV', hC']
    intro x5 e5
    have e5' : x5 = kp_key V C := e5
    clear e5
    subst e5'
    refine kw_tail (by omega) hi (by omega) hn' (fun ck ca hc => ?_)
    have hCO : kp_CO (kp_key V C) nc ((nI (nc + 1)), (nI (d + 1)), -1, f_workPos, f_workNeg, f_workLive, (upd a_nodeChoice nc 1), (upd a_nodePos nc 0), (upd a_nodeNeg nc 0), (upd a_nodeFree nc 0), (upd (upd a_nodeKids nc 0) nc 2), (upd (upd a_kids (nc * 4) (nI h)) (nc * 4 + 1) (nI l)), a_cacheKey, a_cacheNode, a_framePos, a_frameNeg, a_frameFree, a_frameParts, a_frameNext, (upd a_framePhase d 0), a_frameVar, a_frameHigh, a_partVars, a_partClauses, a_partNode) ((nI (nc + 1)), (nI (d + 1)), -1, f_workPos, f_workNeg, f_workLive, (upd a_nodeChoice nc 1), (upd a_nodePos nc 0), (upd a_nodeNeg nc 0), (upd a_nodeFree nc 0), (upd (upd a_nodeKids nc 0) nc 2), (upd (upd a_kids (nc * 4) (nI h)) (nc * 4 + 1) (nI l)), ck, ca, a_framePos, a_frameNeg, a_frameFree, a_frameParts, a_frameNext, (upd a_framePhase d 0), a_frameVar, a_frameHigh, a_partVars, a_partClauses, a_partNode) := by
      rcases hc with ⟨rfl, rfl⟩ | ⟨t, ht, rfl, rfl⟩
      · exact Or.inl rfl
      · exact Or.inr ⟨t, ht, rfl⟩
    have := hQ _ ⟨nc, _, _, Or.inr (Or.inr ⟨h0, l0, rfl, rfl⟩), hCO, rfl⟩
    unfold kp_acc at this
    exact ⟨fun y0 => by rw [if_pos y0] at this; exact this, fun y0 => by rw [if_neg y0] at this; exact this⟩
theorem kp_adv_close {nc cnt : Nat} (hd : ww_depth w = nI (d + 1)) (hd16 : d < 16) (hr : ww_result w = -1) (hn : ww_frameNext w d = nI cnt) (hp : ww_frameParts w d = nI cnt) (hc4 : cnt ≤ 4) (hnc : ww_nodeCount w = nI nc) (hn1 : 1 ≤ nc) (hn2 : nc < 1024) :
    kp_Adv z w (fun w' => ∃ kd, (∀ j, j < nc * 4 → kd j = ww_kids w j) ∧ (∀ i, i < cnt → kd (nc * 4 + i) = ww_partNode w (d * 4 + i)) ∧
      w' = ((nI (nc + 1)), (nI d), (nI nc), ww_workPos w, ww_workNeg w, ww_workLive w, (upd (ww_nodeChoice w) nc 0), (upd (upd (ww_nodePos w) nc 0) nc (ww_framePos w d)), (upd (upd (ww_nodeNeg w) nc 0) nc (ww_frameNeg w d)), (upd (upd (ww_nodeFree w) nc 0) nc (ww_frameFree w d)), (upd (upd (ww_nodeKids w) nc 0) nc (nI cnt)), kd, ww_cacheKey w, ww_cacheNode w, ww_framePos w, ww_frameNeg w, ww_frameFree w, ww_frameParts w, ww_frameNext w, ww_framePhase w, ww_frameVar w, ww_frameHigh w, ww_partVars w, ww_partClauses w, ww_partNode w)) := by
  intro Q hQ
  obtain ⟨f_varCount, f_slotCount, f_fullMask, f_draftPos, f_draftNeg, f_state, f_assumedCount, f_assumedPos, f_assumedNeg, f_clauseCount, f_root, a_slotUsed, a_slotPos, a_slotNeg, a_assumed, a_weightPos, a_weightNeg, a_clausePos, a_clauseNeg, a_value, a_sizes, a_poly, a_product, a_factorPos, a_factorNeg⟩ := z
  obtain ⟨f_nodeCount, f_depth, f_result, f_workPos, f_workNeg, f_workLive, a_nodeChoice, a_nodePos, a_nodeNeg, a_nodeFree, a_nodeKids, a_kids, a_cacheKey, a_cacheNode, a_framePos, a_frameNeg, a_frameFree, a_frameParts, a_frameNext, a_framePhase, a_frameVar, a_frameHigh, a_partVars, a_partClauses, a_partNode⟩ := w
  have hd' : f_depth = nI (d + 1) := hd
  have hr' : f_result = -1 := hr
  have hn' : a_frameNext d = nI cnt := hn
  have hp' : a_frameParts d = nI cnt := hp
  have hnc' : f_nodeCount = nI nc := hnc
  have ed : (nI d).toNatClampNeg = d := nI_clamp (by omega)
  have hind : vp_in (nI d) 16 := vp_in_nI (by omega) (by decide)
  show wpX_advance Q (f_varCount, f_slotCount, f_fullMask, f_draftPos, f_draftNeg, f_state, f_assumedCount, f_assumedPos, f_assumedNeg, f_clauseCount, f_nodeCount, f_root, f_depth, f_result, f_workPos, f_workNeg, f_workLive, a_slotUsed, a_slotPos, a_slotNeg, a_assumed, a_weightPos, a_weightNeg, a_clausePos, a_clauseNeg, a_nodeChoice, a_nodePos, a_nodeNeg, a_nodeFree, a_nodeKids, a_kids, a_cacheKey, a_cacheNode, a_framePos, a_frameNeg, a_frameFree, a_frameParts, a_frameNext, a_framePhase, a_frameVar, a_frameHigh, a_partVars, a_partClauses, a_partNode, a_value, a_sizes, a_poly, a_product, a_factorPos, a_factorNeg)
  subst hd' hr'
  intro x1 e1
  rw [nI_pred d] at e1
  subst e1
  refine br_t (nI_pos' (by omega)) (br_t (by decide) ⟨hind, hind, ?_⟩)
  rw [ed, hn', hp']
  refine br_f (nI_nlt (Nat.le_refl _) (by omega)) ?_
  exact kw_closeFrame hnc' hn1 hn2 hd16 hp' hc4 (fun kd h1 h2 => hQ _ ⟨kd, h1, h2, rfl⟩)
end
end
section
/-! the machine finishes a component: counts -/
def kp_b (t : Nat) : Nat := 2 ^ t - 1
theorem kp_b_pos (t : Nat) : 1 ≤ 2 ^ t := Nat.one_le_two_pow
theorem kp_b_s (t : Nat) : kp_b (t + 1) = 2 * kp_b t + 1 := by
  unfold kp_b
  have := kp_b_pos t
  rw [Nat.pow_succ]; omega
theorem kp_b_mono {a b : Nat} (h : a ≤ b) : kp_b a ≤ kp_b b := by
  unfold kp_b
  have := Nat.pow_le_pow_right (n := 2) (by decide) h
  omega
theorem kp_b_add (a b : Nat) : kp_b a + kp_b b ≤ kp_b (a + b) := by
  induction b with
  | zero =>
    rw [show kp_b 0 = 0 from rfl]
    exact Nat.le_refl _
  | succ b ih =>
    rw [← Nat.add_assoc, kp_b_s, kp_b_s]
    have h2 : kp_b b ≤ kp_b (a + b) := kp_b_mono (by omega)
    omega
theorem kp_b8 : kp_b 8 = 255 := by decide
def kp_Fin (d i : Nat) (w w' : kk_W) (y : Nat) : Prop :=
  (y = 0 ∧ ww_depth w' = nI d ∧ ww_result w' = 0)
  ∨ (y ≠ 0 ∧ ww_depth w' = nI (d + 1) ∧ ww_result w' = -1 ∧ ww_framePos w' d = ww_framePos w d ∧ ww_frameNeg w' d = ww_frameNeg w d ∧ ww_frameFree w' d = ww_frameFree w d ∧ ww_frameParts w' d = ww_frameParts w d ∧ ww_frameNext w' d = nI (i + 1)
    ∧ ∀ j, j < 4 → ww_partVars w' (d * 4 + j) = ww_partVars w (d * 4 + j) ∧ ww_partClauses w' (d * 4 + j) = ww_partClauses w (d * 4 + j) ∧ ww_partNode w' (d * 4 + j) = if j = i then nI y else ww_partNode w (d * 4 + j))
def kp_Comp (cp cn : Nat → Int32) (cc : Nat) (z : kk_Z) (post : Int32 → SX → Prop) (s : Nat) : Prop :=
  ∀ (x : Nat) (w : kk_W) (d i cnt nc : Nat) (V C : Int32) (vs : Nat → Nat → Bool) (P : Nat → (Nat → Bool) → Prop),
    kp_I cp cn cc w nc vs P → ww_depth w = nI (d + 1) → ww_result w = -1 → ww_frameNext w d = nI i → ww_frameParts w d = nI cnt → i < cnt → cnt ≤ 4 → ww_partVars w (d * 4 + i) = V → ww_partClauses w (d * 4 + i) = C →
    kb_lo8 V → (∀ c, bt C c = true → c < cc) → 1 ≤ kb_cd (bt V) → kb_cd (bt V) ≤ s → d + kb_cd (bt V) ≤ 8 → nc + 3 * kp_b (kb_cd (bt V)) ≤ 1023 → x + 5 * kp_b (kb_cd (bt V)) ≤ 4095 →
    (∀ k w' nc' vs' P' y, k ≤ 5 * kp_b (kb_cd (bt V)) → nc ≤ nc' → nc' ≤ nc + 3 * kp_b (kb_cd (bt V)) → kp_I cp cn cc w' nc' vs' P' → kp_X nc vs P vs' P' → kp_R nc' vs' P' y V (kp_cf cp cn cc V C) → kp_S d w w' → kp_Fin d i w w' y → kp_cl post z (x + k) w') → kp_cl post z x w
/-- what a frame says: own literals, free variables, parts; V its variables, Q its models -/
def kp_Fr (cp cn : Nat → Int32) (cc : Nat) (V pos neg free : Int32) (cnt : Nat) (Vp Cp : Nat → Int32) (Q : (Nat → Bool) → Prop) : Prop :=
  kb_lo8 V ∧ kc_Dj pos neg free ∧ (∀ j, j < cnt → ∀ v, bt (Vp j) v = true → kc_own pos neg free v = false) ∧ (∀ i j, i < cnt → j < i → kb_dis (Vp i) (Vp j))
  ∧ (∀ v, bt V v = true ↔ (kc_own pos neg free v = true ∨ ∃ j, j < cnt ∧ bt (Vp j) v = true)) ∧ (∀ a, Q a ↔ (kc_Po pos neg a ∧ ∀ j, j < cnt → kp_cf cp cn cc (Vp j) (Cp j) a))
  ∧ (∀ j, j < cnt → 1 ≤ kb_cd (bt (Vp j)) ∧ ∀ c, bt (Cp j) c = true → c < cc) ∧ kc_PD (bt V) Q
theorem kc_Nprod {ch po ne fr kc kd cp cn Vp Cp : Nat → Int32} {vs : Nat → Nat → Bool} {P : Nat → (Nat → Bool) → Prop} {nc cnt cc : Nat} {V pos neg free : Int32} {Q : (Nat → Bool) → Prop} {ys : Nat → Nat}
    (hF : kp_Fr cp cn cc V pos neg free cnt Vp Cp Q) (hc4 : cnt ≤ 4) (h1024 : nc ≤ 1024) (e1 : ch nc = 0) (e2 : po nc = pos) (e3 : ne nc = neg) (e4 : fr nc = free) (e5 : kc nc = nI cnt) (e6 : ∀ i, i < cnt → kd (nc * 4 + i) = nI (ys i))
    (ev : vs nc = bt V) (eP : P nc = Q) (hy : ∀ i, i < cnt → 1 ≤ ys i ∧ ys i < nc ∧ (∀ v, vs (ys i) v = bt (Vp i) v) ∧ ∀ a, P (ys i) a ↔ kp_cf cp cn cc (Vp i) (Cp i) a) : kc_N ch po ne fr kc kd vs P nc := by
  obtain ⟨f1, f2, f3, f4, f5, f6, f7, f8⟩ := hF
  have ek : ∀ i, i < cnt → kc_n (kd (nc * 4 + i)) = ys i := fun i hi => by rw [e6 i hi]; exact kc_nI (by have := (hy i hi).2.1; omega)
  refine ⟨by rw [ev]; exact f1, by rw [ev, eP]; exact f8, Or.inr ⟨e1, cnt, hc4, e5, fun i hi => ?_, by rw [e2, e3, e4]; exact f2, fun i hi v hv => ?_, fun i j hi hj v hv => ?_, fun v => ?_, fun a => ?_⟩⟩
  · unfold kc_KO
    rw [ek i hi]
    exact ⟨e6 i hi, (hy i hi).1, (hy i hi).2.1⟩
  · rw [ek i hi, (hy i hi).2.2.1] at hv
    rw [e2, e3, e4]; exact f3 i hi v hv
  · rw [ek i hi, ek j (by omega), (hy i hi).2.2.1, (hy j (by omega)).2.2.1] at hv
    exact f4 i j hi hj v hv
  · rw [ev, e2, e3, e4, f5 v]
    exact or_congr Iff.rfl ⟨fun ⟨i, hi, h⟩ => ⟨i, hi, by rw [ek i hi, (hy i hi).2.2.1]; exact h⟩, fun ⟨i, hi, h⟩ => ⟨i, hi, by rw [ek i hi, (hy i hi).2.2.1] at h; exact h⟩⟩
  · rw [eP, e2, e3, f6 a]
    exact and_congr Iff.rfl ⟨fun h i hi => by rw [ek i hi]; exact ((hy i hi).2.2.2 a).mpr (h i hi), fun h i hi => ((hy i hi).2.2.2 a).mp (by have := h i hi; rw [ek i hi] at this; exact this)⟩
/-- disjoint sets within O -/
theorem kb_cdsum {Vp : Nat → Int32} {O : Nat → Bool} : ∀ cnt, (∀ j, j < cnt → ∀ v, bt (Vp j) v = true → O v = true) → (∀ i j, i < cnt → j < i → kb_dis (Vp i) (Vp j)) → ks_sm cnt (fun j => kb_cd (bt (Vp j))) ≤ kb_cd O := by
  intro cnt h1 h2
  have main : ∀ c, c ≤ cnt → ks_sm c (fun j => kb_cd (bt (Vp j))) = kb_cd (kc_un (fun _ => false) (fun j => bt (Vp j)) c) := by
    intro c
    induction c with
    | zero => intro _; exact kb_cd0.symm
    | succ c ih =>
      intro hc
      show ks_sm c (fun j => kb_cd (bt (Vp j))) + kb_cd (bt (Vp c)) = _
      rw [ih (by omega)]
      refine (kb_cdor (fun v _ => rfl) (fun v _ hv => ?_)).symm
      rcases (kc_un_iff c).mp hv.1 with h | ⟨j, hj, h⟩
      · cases h
      · exact h2 c j (by omega) hj v ⟨hv.2, h⟩
  rw [main cnt (Nat.le_refl _)]
  refine kb_cdle (fun v hv => ?_)
  rcases (kc_un_iff cnt).mp hv with h | ⟨j, hj, h⟩
  · cases h
  · exact h1 j hj v h
section
variable {cp cn : Nat → Int32} {cc : Nat} {z : kk_Z} {post : Int32 → SX → Prop} {s : Nat}
theorem kp_parts (hz : kp_Z cp cn cc z) (hC : kp_Comp cp cn cc z post s) {V pos neg free : Int32} {cnt d : Nat} {Vp Cp : Nat → Int32} {Q : (Nat → Bool) → Prop} (hF : kp_Fr cp cn cc V pos neg free cnt Vp Cp Q) (hc4 : cnt ≤ 4) (hd15 : d < 15)
    (hs : ∀ j, j < cnt → kb_cd (bt (Vp j)) ≤ s ∧ d + kb_cd (bt (Vp j)) ≤ 8) :
    ∀ (r x : Nat) (w : kk_W) (i nc : Nat) (vs : Nat → Nat → Bool) (P : Nat → (Nat → Bool) → Prop) (ys : Nat → Nat), i + r = cnt → kp_I cp cn cc w nc vs P → ww_depth w = nI (d + 1) → ww_result w = -1 → ww_frameNext w d = nI i → ww_frameParts w d = nI cnt →
      ww_framePos w d = pos → ww_frameNeg w d = neg → ww_frameFree w d = free → (∀ j, j < cnt → ww_partVars w (d * 4 + j) = Vp j ∧ ww_partClauses w (d * 4 + j) = Cp j) →
      (∀ j, j < i → ww_partNode w (d * 4 + j) = nI (ys j) ∧ 1 ≤ ys j ∧ kp_R nc vs P (ys j) (Vp j) (kp_cf cp cn cc (Vp j) (Cp j))) →
      nc + 3 * kp_b (ks_sm cnt (fun j => kb_cd (bt (Vp j))) - ks_sm i (fun j => kb_cd (bt (Vp j)))) ≤ 1023 → x + 5 * kp_b (ks_sm cnt (fun j => kb_cd (bt (Vp j))) - ks_sm i (fun j => kb_cd (bt (Vp j)))) ≤ 4095 →
      (∀ k w' nc' vs' P' y, k ≤ 5 * kp_b (ks_sm cnt (fun j => kb_cd (bt (Vp j))) - ks_sm i (fun j => kb_cd (bt (Vp j)))) + 1 → nc ≤ nc' → nc' ≤ nc + 3 * kp_b (ks_sm cnt (fun j => kb_cd (bt (Vp j))) - ks_sm i (fun j => kb_cd (bt (Vp j)))) + 1 →
        kp_I cp cn cc w' nc' vs' P' → kp_X nc vs P vs' P' → kp_R nc' vs' P' y V Q → kp_S d w w' → ww_depth w' = nI d → ww_result w' = nI y → kp_cl post z (x + k) w') → kp_cl post z x w := by
  intro r
  induction r with
  | zero =>
    intro x w i nc vs P ys hir hI hdp hrs hnx hpt hpo hne hfr hpv hdn hbn hbx K
    have hi : i = cnt := by omega
    subst hi
    have hnc : nc ≤ 1023 := by omega
    obtain ⟨hI1, hI2, hI3, hI4⟩ := hI
    refine kp_step (d := d) (by omega) hdp (by omega) (kp_adv_close hdp (by omega) hrs hnx hpt hc4 hI1 hI2 (by omega)) (fun w' hw => ?_)
    obtain ⟨kd, hk1, hk2, rfl⟩ := hw
    have hX : kp_X nc vs P (kp_gv vs nc (bt V)) (kp_gp P nc Q) := kp_gX
    refine K 1 _ (nc + 1) (kp_gv vs nc (bt V)) (kp_gp P nc Q) nc (by omega) (by omega) (by omega) ⟨rfl, by omega, ?_, kp_K_mono hX (by omega) hI4⟩ hX (Or.inr ⟨hI2, by omega, fun v => by rw [kp_gvs], fun a => by rw [kp_gps]⟩) ⟨fun e _ => ⟨rfl, rfl, rfl, rfl, rfl, rfl, rfl, rfl⟩, fun j _ => ⟨rfl, rfl, rfl⟩⟩ rfl rfl
    refine kc_Cnew hI3 hX (fun j hj => ⟨pk_un (by omega), (pk_un (by omega)).trans (pk_un (by omega)), (pk_un (by omega)).trans (pk_un (by omega)), (pk_un (by omega)).trans (pk_un (by omega)), (pk_un (by omega)).trans (pk_un (by omega))⟩) hk1 ?_
    refine kc_Nprod (ys := ys) hF hc4 (by omega) pk_us (pk_us.trans hpo) (pk_us.trans hne) (pk_us.trans hfr) pk_us (fun j hj => (hk2 j hj).trans (hdn j hj).1) kp_gvs kp_gps (fun j hj => ?_)
    obtain ⟨_, h2, h3⟩ := hdn j hj
    rcases h3 with ⟨h3, _⟩ | ⟨_, h4, h5, h6⟩
    · omega
    · refine ⟨h2, h4, fun v => ?_, fun a => ?_⟩
      · rw [(hX _ h4).1]; exact h5 v
      · rw [(hX _ h4).2]; exact h6 a
  | succ r ih =>
    intro x w i nc vs P ys hir hI hdp hrs hnx hpt hpo hne hfr hpv hdn hbn hbx K
    have hi : i < cnt := by omega
    have hs1 : ks_sm (i + 1) (fun j => kb_cd (bt (Vp j))) = ks_sm i (fun j => kb_cd (bt (Vp j))) + kb_cd (bt (Vp i)) := rfl
    have hs2 : ks_sm (i + 1) (fun j => kb_cd (bt (Vp j))) ≤ ks_sm cnt (fun j => kb_cd (bt (Vp j))) := ks_mono _ (by omega)
    have hT : ks_sm cnt (fun j => kb_cd (bt (Vp j))) - ks_sm i (fun j => kb_cd (bt (Vp j))) = kb_cd (bt (Vp i)) + (ks_sm cnt (fun j => kb_cd (bt (Vp j))) - ks_sm (i + 1) (fun j => kb_cd (bt (Vp j)))) := by omega
    rw [hT] at hbn hbx K
    generalize hTe : ks_sm cnt (fun j => kb_cd (bt (Vp j))) - ks_sm (i + 1) (fun j => kb_cd (bt (Vp j))) = T at hbn hbx K hT
    have hb := kp_b_add (kb_cd (bt (Vp i))) T
    have hlo : kb_lo8 (Vp i) := fun v hv => hF.1 v ((hF.2.2.2.2.1 v).mpr (Or.inr ⟨i, hi, hv⟩))
    have hp7 := hF.2.2.2.2.2.2.1 i hi
    refine hC x w d i cnt nc (Vp i) (Cp i) vs P hI hdp hrs hnx hpt hi hc4 (hpv i hi).1 (hpv i hi).2 hlo hp7.2 hp7.1 (hs i hi).1 (hs i hi).2 (by omega) (by omega) (fun k w' nc' vs' P' y hk hn1 hn2 hI' hX hR hS hFin => ?_)
    rcases hFin with ⟨y0, hd', hr'⟩ | ⟨y0, hd', hr', g1, g2, g3, g4, g5, g6⟩
    · refine K k w' nc' vs' P' 0 (by omega) hn1 (by omega) hI' hX (Or.inl ⟨rfl, fun a ha => ?_⟩) hS hd' hr'
      rcases hR with ⟨_, hR⟩ | ⟨hR, _⟩
      · exact hR a (((hF.2.2.2.2.2.1 a).mp ha).2 i hi)
      · omega
    · refine ih (x + k) w' (i + 1) nc' vs' P' (fun j => if j = i then y else ys j) (by omega) hI' hd' hr' g5 (g4.trans hpt) (g1.trans hpo) (g2.trans hne) (g3.trans hfr) (fun j hj => ⟨(g6 j (by omega)).1.trans (hpv j hj).1, (g6 j (by omega)).2.1.trans (hpv j hj).2⟩) (fun j hj => ?_) (by rw [hTe]; omega) (by rw [hTe]; omega) (fun k2 w2 nc2 vs2 P2 y2 hk2 hm1 hm2 hI2 hX2 hR2 hS2 hd2 hr2 => ?_)
      · rw [(g6 j (by omega)).2.2]
        by_cases e : j = i
        · subst e
          rw [if_pos rfl, if_pos rfl]
          exact ⟨rfl, by omega, hR⟩
        · rw [if_neg e, if_neg e]
          obtain ⟨q1, q2, q3⟩ := hdn j (by omega)
          exact ⟨q1, q2, kp_R_mono hX hn1 q3⟩
      · rw [hTe] at hk2 hm2
        rw [Nat.add_assoc]
        exact K (k + k2) w2 nc2 vs2 P2 y2 (by omega) (by omega) (by omega) hI2 (kp_X_tr hn1 hX hX2) hR2 (kp_S_tr hS hS2) hd2 hr2
theorem kp_branch (hz : kp_Z cp cn cc z) (hC : kp_Comp cp cn cc z post s) {V C p q : Int32} {x d nc t : Nat} {w w' : kk_W} {vs : Nat → Nat → Bool} {P : Nat → (Nat → Bool) → Prop} (hV : kb_lo8 V) (hd15 : d < 15)
    (hI : kp_I cp cn cc w nc vs P) (hdp : ww_depth w = nI d) (hO : kp_OB cp cn cc d V C p q w w') (ht : kb_cd (bt (V &&& ((p ||| q) ^^^ (-1)))) ≤ t) (hts : t ≤ s) (hdt : d + t ≤ 8) (hbn : nc + 3 * kp_b t ≤ 1023) (hbx : x + 5 * kp_b t ≤ 4095)
    (K : ∀ k w' nc' vs' P' y, k ≤ 5 * kp_b t + 1 → nc ≤ nc' → nc' ≤ nc + 3 * kp_b t + 1 → kp_I cp cn cc w' nc' vs' P' → kp_X nc vs P vs' P' → kp_R nc' vs' P' y V (fun a => kc_Po p q a ∧ kp_cf cp cn cc V C a) → kp_S d w w' → ww_depth w' = nI d → ww_result w' = nI y → kp_cl post z (x + k) w') :
    kp_cl post z x w' := by
  obtain ⟨hI1, hI2, hI3, hI4⟩ := hI
  rcases hO with ⟨wp, wn, wl, hno, rfl⟩ | ⟨wp, wn, wl, used, cnt, pv, pc, hc4, o1, o2, o3, o4, o5, hPt, hsame, heq, rfl⟩
  · exact K 0 _ nc vs P 0 (by omega) (by omega) (by omega) ⟨hI1, hI2, hI3, hI4⟩ kp_X_rf (Or.inl ⟨rfl, hno⟩) ⟨fun e _ => ⟨rfl, rfl, rfl, rfl, rfl, rfl, rfl, rfl⟩, fun j _ => ⟨rfl, rfl, rfl⟩⟩ hdp rfl
  · have bO : ∀ v, bt (V &&& ((wp ||| wn) ^^^ (-1))) v = true ↔ (bt V v = true ∧ bt wp v = false ∧ bt wn v = false) := fun v => by
      by_cases h32 : v < 32
      · rw [b_and, kb_not _ h32, b_or]
        cases bt V v <;> cases bt wp v <;> cases bt wn v <;> simp
      · rw [b_big (by omega), b_big (x := V) (by omega)]; simp
    obtain ⟨p1, p2, p3⟩ := hPt
    have bF : ∀ v, bt ((V &&& ((wp ||| wn) ^^^ (-1))) &&& (used ^^^ (-1))) v = true ↔ ((bt V v = true ∧ bt wp v = false ∧ bt wn v = false) ∧ bt used v = false) := fun v => by
      by_cases h32 : v < 32
      · rw [b_and, Bool.and_eq_true, bO v, kb_not _ h32]
        cases bt used v <;> simp
      · rw [b_big (by omega), b_big (x := V) (by omega)]; simp
    have own : ∀ v, kc_own wp wn ((V &&& ((wp ||| wn) ^^^ (-1))) &&& (used ^^^ (-1))) v = true ↔ (bt wp v = true ∨ bt wn v = true ∨ ((bt V v = true ∧ bt wp v = false ∧ bt wn v = false) ∧ bt used v = false)) := fun v => by
      unfold kc_own
      rw [Bool.or_eq_true, Bool.or_eq_true, bF v]
      exact or_assoc
    have hFr : kp_Fr cp cn cc V wp wn ((V &&& ((wp ||| wn) ^^^ (-1))) &&& (used ^^^ (-1))) cnt (fun j => pv (d * 4 + j)) (fun j => pc (d * 4 + j)) (fun a => kc_Po p q a ∧ kp_cf cp cn cc V C a) := by
      refine ⟨hV, fun v => ⟨o3 v, fun h => ?_, fun h => ?_⟩, fun j hj v hv => ?_, p2, fun v => ?_, heq, fun j hj => ⟨Nat.le_trans (by decide) (p1 j hj).2.1, (p1 j hj).2.2⟩, ?_⟩
      · rw [((bF v).mp h.2).1.2.1] at h; cases h.1
      · rw [((bF v).mp h.2).1.2.2] at h; cases h.1
      · refine ts_nt (fun h => ?_)
        have h1 := (bO v).mp ((p1 j hj).1 v hv)
        have h2 : bt used v = true := (p3 v).mpr ⟨j, hj, hv⟩
        rcases (own v).mp h with h | h | h
        · rw [h1.2.1] at h; cases h
        · rw [h1.2.2] at h; cases h
        · rw [h2] at h; cases h.2
      · rw [own v]
        constructor
        · intro h
          cases hw1 : bt wp v with
          | true => exact Or.inl (Or.inl rfl)
          | false =>
            cases hw2 : bt wn v with
            | true => exact Or.inl (Or.inr (Or.inl rfl))
            | false =>
              cases hw3 : bt used v with
              | true => exact Or.inr ((p3 v).mp hw3)
              | false => exact Or.inl (Or.inr (Or.inr ⟨⟨h, rfl, rfl⟩, rfl⟩))
        · rintro ((h | h | h) | ⟨j, hj, h⟩)
          · exact o1 v h
          · exact o2 v h
          · exact h.1.1
          · exact ((bO v).mp ((p1 j hj).1 v h)).1
      · intro a b hab
        refine and_congr ?_ (kp_cfPD cp cn cc V C a b hab)
        have hP : ∀ (a b : Nat → Bool), (∀ v, bt V v = true → a v = b v) → kc_Po p q a → kc_Po p q b := fun a b hab H v => ⟨fun h => by rw [← hab v (o1 v (o4 v h))]; exact (H v).1 h, fun h => by rw [← hab v (o2 v (o5 v h))]; exact (H v).2 h⟩
        exact ⟨hP a b hab, hP b a (fun v hv => (hab v hv).symm)⟩
    have hsub : ∀ j, j < cnt → ∀ v, bt (pv (d * 4 + j)) v = true → bt (V &&& ((p ||| q) ^^^ (-1))) v = true := fun j hj v hv => by
      have h1 := (bO v).mp ((p1 j hj).1 v hv)
      have h8 := hV v h1.1
      have hp' : bt p v = false := ts_nt (fun h => by rw [o4 v h] at h1; cases h1.2.1)
      have hq' : bt q v = false := ts_nt (fun h => by rw [o5 v h] at h1; cases h1.2.2)
      rw [b_and, kb_not _ (by omega), b_or, h1.1, hp', hq']; rfl
    have hsum := kb_cdsum (Vp := fun j => pv (d * 4 + j)) (O := bt (V &&& ((p ||| q) ^^^ (-1)))) cnt hsub p2
    have hm := kp_b_mono (Nat.le_trans hsum ht)
    refine kp_parts hz hC hFr hc4 hd15 (fun j hj => ?_) cnt x _ 0 nc vs P (fun _ => 0) (Nat.zero_add _) ⟨hI1, hI2, hI3, hI4⟩ rfl rfl pk_us pk_us pk_us pk_us pk_us (fun j hj => ⟨rfl, rfl⟩) (fun j hj => absurd hj (Nat.not_lt_zero _)) ?_ ?_ (fun k w2 nc2 vs2 P2 y2 hk hn1 hn2 hI2' hX hR hS hd2 hr2 => ?_)
    · have := Nat.le_trans (kb_cdle (V := bt (pv (d * 4 + j))) (hsub j hj)) ht
      omega
    · show nc + 3 * kp_b (ks_sm cnt (fun j => kb_cd (bt (pv (d * 4 + j)))) - 0) ≤ 1023
      rw [Nat.sub_zero]; omega
    · show x + 5 * kp_b (ks_sm cnt (fun j => kb_cd (bt (pv (d * 4 + j)))) - 0) ≤ 4095
      rw [Nat.sub_zero]; omega
    · have hk' : k ≤ 5 * kp_b (ks_sm cnt (fun j => kb_cd (bt (pv (d * 4 + j)))) - 0) + 1 := hk
      have hn2' : nc2 ≤ nc + 3 * kp_b (ks_sm cnt (fun j => kb_cd (bt (pv (d * 4 + j)))) - 0) + 1 := hn2
      rw [Nat.sub_zero] at hk' hn2'
      refine K k w2 nc2 vs2 P2 y2 (by omega) hn1 (by omega) hI2' hX hR (kp_S_tr ?_ hS) hd2 hr2
      exact ⟨fun e he => ⟨pk_un (by omega), pk_un (by omega), pk_un (by omega), pk_un (by omega), pk_un (by omega), pk_un (by omega), rfl, rfl⟩, fun j hj => ⟨(hsame j hj).1, (hsame j hj).2, rfl⟩⟩
end
end
section
/-! every component is finished -/
theorem kp_bitsub {V : Int32} {v : Nat} (hv8 : v < 8) (hbv : bt V v = true) {p q : Int32} (hpq : ∀ u, (bt p u = true ∨ bt q u = true) ↔ u = v) {t : Nat} (ht : kb_cd (bt V) ≤ t + 1) : kb_cd (bt (V &&& ((p ||| q) ^^^ (-1)))) ≤ t := by
  have h : kb_cd (bt (V &&& ((p ||| q) ^^^ (-1)))) < kb_cd (bt V) := by
    refine kb_cdlt (w := v) (fun u hu => by rw [b_and, Bool.and_eq_true] at hu; exact hu.1) hv8 ?_ hbv
    rw [b_and, kb_not _ (by omega), b_or]
    rcases (hpq v).mpr rfl with h | h
    · rw [h]; simp
    · rw [h]; simp
  omega
theorem kc_Nchoice {ch po ne fr kc kd cp cn : Nat → Int32} {vs : Nat → Nat → Bool} {P : Nat → (Nat → Bool) → Prop} {nc h l cc v : Nat} {V C : Int32} (hV : kb_lo8 V) (h1024 : nc ≤ 1024) (e1 : ¬ ch nc = 0) (e2 : kd (nc * 4) = nI h) (e3 : kd (nc * 4 + 1) = nI l)
    (ev : vs nc = bt V) (eP : P nc = kp_cf cp cn cc V C) (h1 : 1 ≤ h ∧ h < nc ∧ (∀ u, vs h u = bt V u) ∧ ∀ a, P h a ↔ (a v = true ∧ kp_cf cp cn cc V C a)) (l1 : 1 ≤ l ∧ l < nc ∧ (∀ u, vs l u = bt V u) ∧ ∀ a, P l a ↔ (a v = false ∧ kp_cf cp cn cc V C a)) :
    kc_N ch po ne fr kc kd vs P nc := by
  have eh : kc_n (kd (nc * 4)) = h := by rw [e2]; exact kc_nI (by omega)
  have el : kc_n (kd (nc * 4 + 1)) = l := by rw [e3]; exact kc_nI (by omega)
  refine ⟨by rw [ev]; exact hV, by rw [ev, eP]; exact kp_cfPD cp cn cc V C, Or.inl ?_⟩
  unfold kc_Ch kc_KO
  rw [eh, el]
  refine ⟨e1, ⟨e2, h1.1, h1.2.1⟩, ⟨e3, l1.1, l1.2.1⟩, by rw [ev]; exact h1.2.2.1, by rw [ev]; exact l1.2.2.1, fun a => ?_, fun a ha => ?_⟩
  · rw [eP, h1.2.2.2 a, l1.2.2.2 a]
    constructor
    · intro H
      cases e : a v with
      | true => exact Or.inl ⟨rfl, H⟩
      | false => exact Or.inr ⟨rfl, H⟩
    · rintro (H | H)
      · exact H.2
      · exact H.2
  · have x1 := ((h1.2.2.2 a).mp ha.1).1
    have x2 := ((l1.2.2.2 a).mp ha.2).1
    rw [x1] at x2; cases x2
theorem kp_Po1 {v : Nat} (hv : v < 32) (a : Nat → Bool) : kc_Po ((1 : Int32) <<< (nI v &&& 31)) 0 a ↔ a v = true := by
  constructor
  · intro h; exact (h v).1 (by rw [kb_one v hv]; simp)
  · intro h u
    refine ⟨fun hu => ?_, fun hu => by rw [b_0] at hu; cases hu⟩
    rw [kb_one v hv] at hu
    have e : u = v := by simpa using hu
    subst e; exact h
theorem kp_Po2 {v : Nat} (hv : v < 32) (a : Nat → Bool) : kc_Po 0 ((1 : Int32) <<< (nI v &&& 31)) a ↔ a v = false := by
  constructor
  · intro h; exact (h v).2 (by rw [kb_one v hv]; simp)
  · intro h u
    refine ⟨fun hu => (by rw [b_0] at hu; cases hu), fun hu => ?_⟩
    rw [kb_one v hv] at hu
    have e : u = v := by simpa using hu
    subst e; exact h
section
variable {cp cn : Nat → Int32} {cc : Nat} {z : kk_Z} {post : Int32 → SX → Prop} {s : Nat}
/-- the two branches make the component's node -/
theorem kp_node {h l nc y v : Nat} {V C : Int32} {w w1 : kk_W} {vs : Nat → Nat → Bool} {P : Nat → (Nat → Bool) → Prop} (hv : v < 8) (hV : kb_lo8 V) (hI : kp_I cp cn cc w nc vs P) (hn : nc ≤ 1023)
    (hh : kp_R nc vs P h V (fun a => kc_Po ((1 : Int32) <<< (nI v &&& 31)) 0 a ∧ kp_cf cp cn cc V C a)) (hl : kp_R nc vs P l V (fun a => kc_Po 0 ((1 : Int32) <<< (nI v &&& 31)) a ∧ kp_cf cp cn cc V C a)) (hN : kp_NO h l nc w y w1) :
    ∃ nc' vs' P', nc ≤ nc' ∧ nc' ≤ nc + 1 ∧ kp_I cp cn cc w1 nc' vs' P' ∧ kp_X nc vs P vs' P' ∧ kp_R nc' vs' P' y V (kp_cf cp cn cc V C) := by
  have bv : ∀ (Q : (Nat → Bool) → Prop) (a : Nat → Bool), (a v = true → Q a) → (a v = false → Q a) → Q a := fun Q a h1 h2 => by
    cases e : a v with
    | true => exact h1 e
    | false => exact h2 e
  have hP1 := fun a => kp_Po1 (v := v) (by omega) a
  have hP2 := fun a => kp_Po2 (v := v) (by omega) a
  rcases hN with ⟨h0, rfl, rfl⟩ | ⟨h0, l0, rfl, rfl⟩ | ⟨h0, l0, hy, rfl⟩
  · refine ⟨nc, vs, P, Nat.le_refl _, by omega, hI, kp_X_rf, ?_⟩
    have hno : ∀ a, ¬ (a v = true ∧ kp_cf cp cn cc V C a) := by
      rcases hh with ⟨_, hh⟩ | ⟨hh, _⟩
      · intro a ha; exact hh a ⟨(hP1 a).mpr ha.1, ha.2⟩
      · omega
    rcases hl with ⟨hl, hl'⟩ | ⟨l1, l2, l3, l4⟩
    · refine Or.inl ⟨hl, fun a ha => bv (fun _ => False) a (fun e => hno a ⟨e, ha⟩) (fun e => hl' a ⟨(hP2 a).mpr e, ha⟩)⟩
    · refine Or.inr ⟨l1, l2, l3, fun a => (l4 a).trans ⟨fun H => H.2, fun ha => ⟨(hP2 a).mpr ?_, ha⟩⟩⟩
      exact ts_nt (fun e => hno a ⟨e, ha⟩)
  · refine ⟨nc, vs, P, Nat.le_refl _, by omega, hI, kp_X_rf, ?_⟩
    have hno : ∀ a, ¬ (a v = false ∧ kp_cf cp cn cc V C a) := by
      rcases hl with ⟨_, hl⟩ | ⟨hl, _⟩
      · intro a ha; exact hl a ⟨(hP2 a).mpr ha.1, ha.2⟩
      · omega
    rcases hh with ⟨hh, _⟩ | ⟨l1, l2, l3, l4⟩
    · exact absurd hh h0
    · refine Or.inr ⟨l1, l2, l3, fun a => (l4 a).trans ⟨fun H => H.2, fun ha => ⟨(hP1 a).mpr ?_, ha⟩⟩⟩
      exact ts_nf (fun e => hno a ⟨e, ha⟩)
  · obtain ⟨hI1, hI2, hI3, hI4⟩ := hI
    rw [hy]
    have hX : kp_X nc vs P (kp_gv vs nc (bt V)) (kp_gp P nc (kp_cf cp cn cc V C)) := kp_gX
    refine ⟨nc + 1, kp_gv vs nc (bt V), kp_gp P nc (kp_cf cp cn cc V C), by omega, by omega, ⟨rfl, by omega, ?_, kp_K_mono hX (by omega) hI4⟩, hX, Or.inr ⟨hI2, by omega, fun u => by rw [kp_gvs], fun a => by rw [kp_gps]⟩⟩
    refine kc_Cnew hI3 hX (fun j hj => ⟨pk_un (by omega), pk_un (by omega), pk_un (by omega), pk_un (by omega), (pk_un (by omega)).trans (pk_un (by omega))⟩) (fun j hj => (pk_un (by omega)).trans (pk_un (by omega))) ?_
    refine kc_Nchoice (h := h) (l := l) (v := v) hV (by omega) (by show ¬ upd _ nc 1 nc = 0; rw [pk_us]; decide) (by show upd (upd _ (nc * 4) (nI h)) (nc * 4 + 1) (nI l) (nc * 4) = nI h; rw [pk_un (by omega), pk_us]) pk_us kp_gvs kp_gps ?_ ?_
    · rcases hh with ⟨hh, _⟩ | ⟨l1, l2, l3, l4⟩
      · exact absurd hh h0
      · refine ⟨l1, l2, fun u => by rw [(hX _ l2).1]; exact l3 u, fun a => ?_⟩
        rw [(hX _ l2).2]; exact (l4 a).trans (and_congr (hP1 a) Iff.rfl)
    · rcases hl with ⟨hl, _⟩ | ⟨l1, l2, l3, l4⟩
      · exact absurd hl l0
      · refine ⟨l1, l2, fun u => by rw [(hX _ l2).1]; exact l3 u, fun a => ?_⟩
        rw [(hX _ l2).2]; exact (l4 a).trans (and_congr (hP2 a) Iff.rfl)
theorem kp_R_lt {nc y : Nat} {vs : Nat → Nat → Bool} {P : Nat → (Nat → Bool) → Prop} {V : Int32} {Q : (Nat → Bool) → Prop} (h : kp_R nc vs P y V Q) (hn : 1 ≤ nc) : y < nc := by
  rcases h with ⟨h, _⟩ | ⟨_, h, _⟩ <;> omega
/-- accepting a node: the state fits the end of a component -/
theorem kp_acc_I {d i y nc : Nat} {w : kk_W} {vs : Nat → Nat → Bool} {P : Nat → (Nat → Bool) → Prop} (h : kp_I cp cn cc w nc vs P) : kp_I cp cn cc (kp_acc d i y w) nc vs P := by
  unfold kp_acc
  by_cases e : y = 0
  · rw [if_pos e]; exact h
  · rw [if_neg e]; exact h
theorem kp_acc_S {d i y : Nat} {w0 w : kk_W} (h : kp_S d w0 w) : kp_S d w0 (kp_acc d i y w) := by
  unfold kp_acc
  by_cases e : y = 0
  · rw [if_pos e]; exact h
  · rw [if_neg e]
    refine ⟨fun e he => ?_, fun j hj => ?_⟩
    · obtain ⟨a1, a2, a3, a4, a5, a6, a7, a8⟩ := h.1 e he
      exact ⟨a1, a2, a3, a4, (pk_un (by omega)).trans a5, a6, a7, a8⟩
    · obtain ⟨a1, a2, a3⟩ := h.2 j hj
      exact ⟨a1, a2, (pk_un (by omega)).trans a3⟩
theorem kp_acc_F {d i y : Nat} {w0 w : kk_W} (hd : ww_depth w = nI (d + 1)) (hr : ww_result w = -1) (h1 : ww_framePos w d = ww_framePos w0 d) (h2 : ww_frameNeg w d = ww_frameNeg w0 d) (h3 : ww_frameFree w d = ww_frameFree w0 d) (h4 : ww_frameParts w d = ww_frameParts w0 d)
    (h5 : ∀ j, j < 4 → ww_partVars w (d * 4 + j) = ww_partVars w0 (d * 4 + j) ∧ ww_partClauses w (d * 4 + j) = ww_partClauses w0 (d * 4 + j) ∧ ww_partNode w (d * 4 + j) = ww_partNode w0 (d * 4 + j)) : kp_Fin d i w0 (kp_acc d i y w) y := by
  unfold kp_acc
  by_cases e : y = 0
  · rw [if_pos e]; exact Or.inl ⟨e, rfl, rfl⟩
  · rw [if_neg e]
    refine Or.inr ⟨e, hd, hr, h1, h2, h3, h4, pk_us, fun j hj => ⟨(h5 j hj).1, (h5 j hj).2.1, ?_⟩⟩
    by_cases ej : j = i
    · subst ej; rw [if_pos rfl]; exact pk_us
    · rw [if_neg ej]; exact (pk_un (by omega)).trans (h5 j hj).2.2
theorem kp_CO_I {V C : Int32} {y nc : Nat} {w w' : kk_W} {vs : Nat → Nat → Bool} {P : Nat → (Nat → Bool) → Prop} (hV : kb_lo8 V) (hC : ∀ c, bt C c = true → c < cc) (h : kp_I cp cn cc w nc vs P) (hR : kp_R nc vs P y V (kp_cf cp cn cc V C)) (hO : kp_CO (kp_key V C) y w w') : kp_I cp cn cc w' nc vs P := by
  rcases hO with rfl | ⟨t, _, rfl⟩
  · exact h
  · exact ⟨h.1, h.2.1, h.2.2.1, kp_K_put h.2.2.2 hV hC hR⟩
theorem kp_cw_nodeCount {d : Nat} {b : Int32} {w : kk_W} : ww_nodeCount (kp_cw d b w) = ww_nodeCount w := by dsimp only [kp_cw, ww_nodeCount]
theorem kp_cw_depth {d : Nat} {b : Int32} {w : kk_W} : ww_depth (kp_cw d b w) = ww_depth w := by dsimp only [kp_cw, ww_depth]
theorem kp_cw_result {d : Nat} {b : Int32} {w : kk_W} : ww_result (kp_cw d b w) = ww_result w := by dsimp only [kp_cw, ww_result]
theorem kp_cw_workPos {d : Nat} {b : Int32} {w : kk_W} : ww_workPos (kp_cw d b w) = ww_workPos w := by dsimp only [kp_cw, ww_workPos]
theorem kp_cw_workNeg {d : Nat} {b : Int32} {w : kk_W} : ww_workNeg (kp_cw d b w) = ww_workNeg w := by dsimp only [kp_cw, ww_workNeg]
theorem kp_cw_workLive {d : Nat} {b : Int32} {w : kk_W} : ww_workLive (kp_cw d b w) = ww_workLive w := by dsimp only [kp_cw, ww_workLive]
theorem kp_cw_nodeChoice {d : Nat} {b : Int32} {w : kk_W} : ww_nodeChoice (kp_cw d b w) = ww_nodeChoice w := by dsimp only [kp_cw, ww_nodeChoice]
theorem kp_cw_nodePos {d : Nat} {b : Int32} {w : kk_W} : ww_nodePos (kp_cw d b w) = ww_nodePos w := by dsimp only [kp_cw, ww_nodePos]
theorem kp_cw_nodeNeg {d : Nat} {b : Int32} {w : kk_W} : ww_nodeNeg (kp_cw d b w) = ww_nodeNeg w := by dsimp only [kp_cw, ww_nodeNeg]
theorem kp_cw_nodeFree {d : Nat} {b : Int32} {w : kk_W} : ww_nodeFree (kp_cw d b w) = ww_nodeFree w := by dsimp only [kp_cw, ww_nodeFree]
theorem kp_cw_nodeKids {d : Nat} {b : Int32} {w : kk_W} : ww_nodeKids (kp_cw d b w) = ww_nodeKids w := by dsimp only [kp_cw, ww_nodeKids]
theorem kp_cw_kids {d : Nat} {b : Int32} {w : kk_W} : ww_kids (kp_cw d b w) = ww_kids w := by dsimp only [kp_cw, ww_kids]
theorem kp_cw_cacheKey {d : Nat} {b : Int32} {w : kk_W} : ww_cacheKey (kp_cw d b w) = ww_cacheKey w := by dsimp only [kp_cw, ww_cacheKey]
theorem kp_cw_cacheNode {d : Nat} {b : Int32} {w : kk_W} : ww_cacheNode (kp_cw d b w) = ww_cacheNode w := by dsimp only [kp_cw, ww_cacheNode]
theorem kp_cw_framePos {d : Nat} {b : Int32} {w : kk_W} : ww_framePos (kp_cw d b w) = ww_framePos w := by dsimp only [kp_cw, ww_framePos]
theorem kp_cw_frameNeg {d : Nat} {b : Int32} {w : kk_W} : ww_frameNeg (kp_cw d b w) = ww_frameNeg w := by dsimp only [kp_cw, ww_frameNeg]
theorem kp_cw_frameFree {d : Nat} {b : Int32} {w : kk_W} : ww_frameFree (kp_cw d b w) = ww_frameFree w := by dsimp only [kp_cw, ww_frameFree]
theorem kp_cw_frameParts {d : Nat} {b : Int32} {w : kk_W} : ww_frameParts (kp_cw d b w) = ww_frameParts w := by dsimp only [kp_cw, ww_frameParts]
theorem kp_cw_frameNext {d : Nat} {b : Int32} {w : kk_W} : ww_frameNext (kp_cw d b w) = ww_frameNext w := by dsimp only [kp_cw, ww_frameNext]
theorem kp_cw_framePhase {d : Nat} {b : Int32} {w : kk_W} : ww_framePhase (kp_cw d b w) = upd (ww_framePhase w) d 1 := by dsimp only [kp_cw, ww_framePhase]
theorem kp_cw_frameVar {d : Nat} {b : Int32} {w : kk_W} : ww_frameVar (kp_cw d b w) = upd (ww_frameVar w) d b := by dsimp only [kp_cw, ww_frameVar]
theorem kp_cw_frameHigh {d : Nat} {b : Int32} {w : kk_W} : ww_frameHigh (kp_cw d b w) = ww_frameHigh w := by dsimp only [kp_cw, ww_frameHigh]
theorem kp_cw_partVars {d : Nat} {b : Int32} {w : kk_W} : ww_partVars (kp_cw d b w) = ww_partVars w := by dsimp only [kp_cw, ww_partVars]
theorem kp_cw_partClauses {d : Nat} {b : Int32} {w : kk_W} : ww_partClauses (kp_cw d b w) = ww_partClauses w := by dsimp only [kp_cw, ww_partClauses]
theorem kp_cw_partNode {d : Nat} {b : Int32} {w : kk_W} : ww_partNode (kp_cw d b w) = ww_partNode w := by dsimp only [kp_cw, ww_partNode]
theorem kp_aw_nodeCount {d : Nat} {w : kk_W} : ww_nodeCount (kp_aw d w) = ww_nodeCount w := by dsimp only [kp_aw, ww_nodeCount]
theorem kp_aw_depth {d : Nat} {w : kk_W} : ww_depth (kp_aw d w) = ww_depth w := by dsimp only [kp_aw, ww_depth]
theorem kp_aw_result {d : Nat} {w : kk_W} : ww_result (kp_aw d w) = -1 := by dsimp only [kp_aw, ww_result]
theorem kp_aw_workPos {d : Nat} {w : kk_W} : ww_workPos (kp_aw d w) = ww_workPos w := by dsimp only [kp_aw, ww_workPos]
theorem kp_aw_workNeg {d : Nat} {w : kk_W} : ww_workNeg (kp_aw d w) = ww_workNeg w := by dsimp only [kp_aw, ww_workNeg]
theorem kp_aw_workLive {d : Nat} {w : kk_W} : ww_workLive (kp_aw d w) = ww_workLive w := by dsimp only [kp_aw, ww_workLive]
theorem kp_aw_nodeChoice {d : Nat} {w : kk_W} : ww_nodeChoice (kp_aw d w) = ww_nodeChoice w := by dsimp only [kp_aw, ww_nodeChoice]
theorem kp_aw_nodePos {d : Nat} {w : kk_W} : ww_nodePos (kp_aw d w) = ww_nodePos w := by dsimp only [kp_aw, ww_nodePos]
theorem kp_aw_nodeNeg {d : Nat} {w : kk_W} : ww_nodeNeg (kp_aw d w) = ww_nodeNeg w := by dsimp only [kp_aw, ww_nodeNeg]
theorem kp_aw_nodeFree {d : Nat} {w : kk_W} : ww_nodeFree (kp_aw d w) = ww_nodeFree w := by dsimp only [kp_aw, ww_nodeFree]
theorem kp_aw_nodeKids {d : Nat} {w : kk_W} : ww_nodeKids (kp_aw d w) = ww_nodeKids w := by dsimp only [kp_aw, ww_nodeKids]
theorem kp_aw_kids {d : Nat} {w : kk_W} : ww_kids (kp_aw d w) = ww_kids w := by dsimp only [kp_aw, ww_kids]
theorem kp_aw_cacheKey {d : Nat} {w : kk_W} : ww_cacheKey (kp_aw d w) = ww_cacheKey w := by dsimp only [kp_aw, ww_cacheKey]
theorem kp_aw_cacheNode {d : Nat} {w : kk_W} : ww_cacheNode (kp_aw d w) = ww_cacheNode w := by dsimp only [kp_aw, ww_cacheNode]
theorem kp_aw_framePos {d : Nat} {w : kk_W} : ww_framePos (kp_aw d w) = ww_framePos w := by dsimp only [kp_aw, ww_framePos]
theorem kp_aw_frameNeg {d : Nat} {w : kk_W} : ww_frameNeg (kp_aw d w) = ww_frameNeg w := by dsimp only [kp_aw, ww_frameNeg]
theorem kp_aw_frameFree {d : Nat} {w : kk_W} : ww_frameFree (kp_aw d w) = ww_frameFree w := by dsimp only [kp_aw, ww_frameFree]
theorem kp_aw_frameParts {d : Nat} {w : kk_W} : ww_frameParts (kp_aw d w) = ww_frameParts w := by dsimp only [kp_aw, ww_frameParts]
theorem kp_aw_frameNext {d : Nat} {w : kk_W} : ww_frameNext (kp_aw d w) = ww_frameNext w := by dsimp only [kp_aw, ww_frameNext]
theorem kp_aw_framePhase {d : Nat} {w : kk_W} : ww_framePhase (kp_aw d w) = upd (ww_framePhase w) d 2 := by dsimp only [kp_aw, ww_framePhase]
theorem kp_aw_frameVar {d : Nat} {w : kk_W} : ww_frameVar (kp_aw d w) = ww_frameVar w := by dsimp only [kp_aw, ww_frameVar]
theorem kp_aw_frameHigh {d : Nat} {w : kk_W} : ww_frameHigh (kp_aw d w) = upd (ww_frameHigh w) d (ww_result w) := by dsimp only [kp_aw, ww_frameHigh]
theorem kp_aw_partVars {d : Nat} {w : kk_W} : ww_partVars (kp_aw d w) = ww_partVars w := by dsimp only [kp_aw, ww_partVars]
theorem kp_aw_partClauses {d : Nat} {w : kk_W} : ww_partClauses (kp_aw d w) = ww_partClauses w := by dsimp only [kp_aw, ww_partClauses]
theorem kp_aw_partNode {d : Nat} {w : kk_W} : ww_partNode (kp_aw d w) = ww_partNode w := by dsimp only [kp_aw, ww_partNode]
theorem kp_bw_nodeCount {d : Nat} {w : kk_W} : ww_nodeCount (kp_bw d w) = ww_nodeCount w := by dsimp only [kp_bw, ww_nodeCount]
theorem kp_bw_depth {d : Nat} {w : kk_W} : ww_depth (kp_bw d w) = ww_depth w := by dsimp only [kp_bw, ww_depth]
theorem kp_bw_result {d : Nat} {w : kk_W} : ww_result (kp_bw d w) = -1 := by dsimp only [kp_bw, ww_result]
theorem kp_bw_workPos {d : Nat} {w : kk_W} : ww_workPos (kp_bw d w) = ww_workPos w := by dsimp only [kp_bw, ww_workPos]
theorem kp_bw_workNeg {d : Nat} {w : kk_W} : ww_workNeg (kp_bw d w) = ww_workNeg w := by dsimp only [kp_bw, ww_workNeg]
theorem kp_bw_workLive {d : Nat} {w : kk_W} : ww_workLive (kp_bw d w) = ww_workLive w := by dsimp only [kp_bw, ww_workLive]
theorem kp_bw_nodeChoice {d : Nat} {w : kk_W} : ww_nodeChoice (kp_bw d w) = ww_nodeChoice w := by dsimp only [kp_bw, ww_nodeChoice]
theorem kp_bw_nodePos {d : Nat} {w : kk_W} : ww_nodePos (kp_bw d w) = ww_nodePos w := by dsimp only [kp_bw, ww_nodePos]
theorem kp_bw_nodeNeg {d : Nat} {w : kk_W} : ww_nodeNeg (kp_bw d w) = ww_nodeNeg w := by dsimp only [kp_bw, ww_nodeNeg]
theorem kp_bw_nodeFree {d : Nat} {w : kk_W} : ww_nodeFree (kp_bw d w) = ww_nodeFree w := by dsimp only [kp_bw, ww_nodeFree]
theorem kp_bw_nodeKids {d : Nat} {w : kk_W} : ww_nodeKids (kp_bw d w) = ww_nodeKids w := by dsimp only [kp_bw, ww_nodeKids]
theorem kp_bw_kids {d : Nat} {w : kk_W} : ww_kids (kp_bw d w) = ww_kids w := by dsimp only [kp_bw, ww_kids]
theorem kp_bw_cacheKey {d : Nat} {w : kk_W} : ww_cacheKey (kp_bw d w) = ww_cacheKey w := by dsimp only [kp_bw, ww_cacheKey]
theorem kp_bw_cacheNode {d : Nat} {w : kk_W} : ww_cacheNode (kp_bw d w) = ww_cacheNode w := by dsimp only [kp_bw, ww_cacheNode]
theorem kp_bw_framePos {d : Nat} {w : kk_W} : ww_framePos (kp_bw d w) = ww_framePos w := by dsimp only [kp_bw, ww_framePos]
theorem kp_bw_frameNeg {d : Nat} {w : kk_W} : ww_frameNeg (kp_bw d w) = ww_frameNeg w := by dsimp only [kp_bw, ww_frameNeg]
theorem kp_bw_frameFree {d : Nat} {w : kk_W} : ww_frameFree (kp_bw d w) = ww_frameFree w := by dsimp only [kp_bw, ww_frameFree]
theorem kp_bw_frameParts {d : Nat} {w : kk_W} : ww_frameParts (kp_bw d w) = ww_frameParts w := by dsimp only [kp_bw, ww_frameParts]
theorem kp_bw_frameNext {d : Nat} {w : kk_W} : ww_frameNext (kp_bw d w) = ww_frameNext w := by dsimp only [kp_bw, ww_frameNext]
theorem kp_bw_framePhase {d : Nat} {w : kk_W} : ww_framePhase (kp_bw d w) = upd (ww_framePhase w) d 0 := by dsimp only [kp_bw, ww_framePhase]
theorem kp_bw_frameVar {d : Nat} {w : kk_W} : ww_frameVar (kp_bw d w) = ww_frameVar w := by dsimp only [kp_bw, ww_frameVar]
theorem kp_bw_frameHigh {d : Nat} {w : kk_W} : ww_frameHigh (kp_bw d w) = ww_frameHigh w := by dsimp only [kp_bw, ww_frameHigh]
theorem kp_bw_partVars {d : Nat} {w : kk_W} : ww_partVars (kp_bw d w) = ww_partVars w := by dsimp only [kp_bw, ww_partVars]
theorem kp_bw_partClauses {d : Nat} {w : kk_W} : ww_partClauses (kp_bw d w) = ww_partClauses w := by dsimp only [kp_bw, ww_partClauses]
theorem kp_bw_partNode {d : Nat} {w : kk_W} : ww_partNode (kp_bw d w) = ww_partNode w := by dsimp only [kp_bw, ww_partNode]
theorem kp_cw_I {d nc : Nat} {b : Int32} {w : kk_W} {vs : Nat → Nat → Bool} {P : Nat → (Nat → Bool) → Prop} (h : kp_I cp cn cc w nc vs P) : kp_I cp cn cc (kp_cw d b w) nc vs P := by
  unfold kp_I at h ⊢
  simp only [kp_cw_nodeCount, kp_cw_depth, kp_cw_result, kp_cw_workPos, kp_cw_workNeg, kp_cw_workLive, kp_cw_nodeChoice, kp_cw_nodePos, kp_cw_nodeNeg, kp_cw_nodeFree, kp_cw_nodeKids, kp_cw_kids, kp_cw_cacheKey, kp_cw_cacheNode, kp_cw_framePos, kp_cw_frameNeg, kp_cw_frameFree, kp_cw_frameParts, kp_cw_frameNext, kp_cw_framePhase, kp_cw_frameVar, kp_cw_frameHigh, kp_cw_partVars, kp_cw_partClauses, kp_cw_partNode]
  exact h
theorem kp_aw_I {d nc : Nat} {w : kk_W} {vs : Nat → Nat → Bool} {P : Nat → (Nat → Bool) → Prop} (h : kp_I cp cn cc w nc vs P) : kp_I cp cn cc (kp_aw d w) nc vs P := by
  unfold kp_I at h ⊢
  simp only [kp_aw_nodeCount, kp_aw_depth, kp_aw_result, kp_aw_workPos, kp_aw_workNeg, kp_aw_workLive, kp_aw_nodeChoice, kp_aw_nodePos, kp_aw_nodeNeg, kp_aw_nodeFree, kp_aw_nodeKids, kp_aw_kids, kp_aw_cacheKey, kp_aw_cacheNode, kp_aw_framePos, kp_aw_frameNeg, kp_aw_frameFree, kp_aw_frameParts, kp_aw_frameNext, kp_aw_framePhase, kp_aw_frameVar, kp_aw_frameHigh, kp_aw_partVars, kp_aw_partClauses, kp_aw_partNode]
  exact h
theorem kp_bw_I {d nc : Nat} {w : kk_W} {vs : Nat → Nat → Bool} {P : Nat → (Nat → Bool) → Prop} (h : kp_I cp cn cc w nc vs P) : kp_I cp cn cc (kp_bw d w) nc vs P := by
  unfold kp_I at h ⊢
  simp only [kp_bw_nodeCount, kp_bw_depth, kp_bw_result, kp_bw_workPos, kp_bw_workNeg, kp_bw_workLive, kp_bw_nodeChoice, kp_bw_nodePos, kp_bw_nodeNeg, kp_bw_nodeFree, kp_bw_nodeKids, kp_bw_kids, kp_bw_cacheKey, kp_bw_cacheNode, kp_bw_framePos, kp_bw_frameNeg, kp_bw_frameFree, kp_bw_frameParts, kp_bw_frameNext, kp_bw_framePhase, kp_bw_frameVar, kp_bw_frameHigh, kp_bw_partVars, kp_bw_partClauses, kp_bw_partNode]
  exact h
theorem kp_comp0 : kp_Comp cp cn cc z post 0 := by
  intro x w d i cnt nc V C vs P _ _ _ _ _ _ _ _ _ _ _ h1 h2
  omega
theorem kp_NO_w {h l nc y : Nat} {w w' : kk_W} (hN : kp_NO h l nc w y w') : ww_depth w' = ww_depth w ∧ ww_result w' = ww_result w ∧ ww_framePos w' = ww_framePos w ∧ ww_frameNeg w' = ww_frameNeg w ∧ ww_frameFree w' = ww_frameFree w ∧ ww_frameParts w' = ww_frameParts w ∧ ww_frameNext w' = ww_frameNext w ∧ ww_framePhase w' = ww_framePhase w ∧ ww_frameVar w' = ww_frameVar w ∧ ww_frameHigh w' = ww_frameHigh w ∧ ww_partVars w' = ww_partVars w ∧ ww_partClauses w' = ww_partClauses w ∧ ww_partNode w' = ww_partNode w := by
  rcases hN with ⟨_, _, rfl⟩ | ⟨_, _, _, rfl⟩ | ⟨_, _, _, rfl⟩ <;> exact ⟨rfl, rfl, rfl, rfl, rfl, rfl, rfl, rfl, rfl, rfl, rfl, rfl, rfl⟩
theorem kp_CO_w {key : Int32} {y : Nat} {w w' : kk_W} (hN : kp_CO key y w w') : ww_depth w' = ww_depth w ∧ ww_result w' = ww_result w ∧ ww_framePos w' = ww_framePos w ∧ ww_frameNeg w' = ww_frameNeg w ∧ ww_frameFree w' = ww_frameFree w ∧ ww_frameParts w' = ww_frameParts w ∧ ww_frameNext w' = ww_frameNext w ∧ ww_framePhase w' = ww_framePhase w ∧ ww_frameVar w' = ww_frameVar w ∧ ww_frameHigh w' = ww_frameHigh w ∧ ww_partVars w' = ww_partVars w ∧ ww_partClauses w' = ww_partClauses w ∧ ww_partNode w' = ww_partNode w := by
  rcases hN with rfl | ⟨t, _, rfl⟩ <;> exact ⟨rfl, rfl, rfl, rfl, rfl, rfl, rfl, rfl, rfl, rfl, rfl, rfl, rfl⟩
end
end
section
/-! every component is finished: the step -/
theorem kp_S_cw {d : Nat} {b : Int32} {w w2 : kk_W} (h : kp_S (d + 1) (kp_cw d b w) w2) : kp_S d w w2 ∧ (ww_framePos w2 d = ww_framePos w d ∧ ww_frameNeg w2 d = ww_frameNeg w d ∧ ww_frameFree w2 d = ww_frameFree w d ∧ ww_frameParts w2 d = ww_frameParts w d ∧ ww_frameNext w2 d = ww_frameNext w d ∧ ww_framePhase w2 d = 1 ∧ ww_frameVar w2 d = b)
    ∧ ∀ j, j < 4 → ww_partVars w2 (d * 4 + j) = ww_partVars w (d * 4 + j) ∧ ww_partClauses w2 (d * 4 + j) = ww_partClauses w (d * 4 + j) ∧ ww_partNode w2 (d * 4 + j) = ww_partNode w (d * 4 + j) := by
  unfold kp_S at h
  simp only [kp_cw_nodeCount, kp_cw_depth, kp_cw_result, kp_cw_workPos, kp_cw_workNeg, kp_cw_workLive, kp_cw_nodeChoice, kp_cw_nodePos, kp_cw_nodeNeg, kp_cw_nodeFree, kp_cw_nodeKids, kp_cw_kids, kp_cw_cacheKey, kp_cw_cacheNode, kp_cw_framePos, kp_cw_frameNeg, kp_cw_frameFree, kp_cw_frameParts, kp_cw_frameNext, kp_cw_framePhase, kp_cw_frameVar, kp_cw_frameHigh, kp_cw_partVars, kp_cw_partClauses, kp_cw_partNode] at h
  obtain ⟨h1, h2⟩ := h
  refine ⟨⟨fun e he => ?_, fun j hj => h2 j (by omega)⟩, ?_, fun j hj => h2 _ (by omega)⟩
  · obtain ⟨a1, a2, a3, a4, a5, a6, a7, a8⟩ := h1 e (by omega)
    rw [pk_un (by omega)] at a6 a7
    exact ⟨a1, a2, a3, a4, a5, a6, a7, a8⟩
  · obtain ⟨a1, a2, a3, a4, a5, a6, a7, a8⟩ := h1 d (by omega)
    rw [pk_us] at a6 a7
    exact ⟨a1, a2, a3, a4, a5, a6, a7⟩
theorem kp_S_aw {d : Nat} {w w2 : kk_W} (h : kp_S (d + 1) (kp_aw d w) w2) : kp_S d w w2 ∧ (ww_framePos w2 d = ww_framePos w d ∧ ww_frameNeg w2 d = ww_frameNeg w d ∧ ww_frameFree w2 d = ww_frameFree w d ∧ ww_frameParts w2 d = ww_frameParts w d ∧ ww_frameNext w2 d = ww_frameNext w d ∧ ww_framePhase w2 d = 2 ∧ ww_frameHigh w2 d = ww_result w)
    ∧ ∀ j, j < 4 → ww_partVars w2 (d * 4 + j) = ww_partVars w (d * 4 + j) ∧ ww_partClauses w2 (d * 4 + j) = ww_partClauses w (d * 4 + j) ∧ ww_partNode w2 (d * 4 + j) = ww_partNode w (d * 4 + j) := by
  unfold kp_S at h
  simp only [kp_aw_nodeCount, kp_aw_depth, kp_aw_result, kp_aw_workPos, kp_aw_workNeg, kp_aw_workLive, kp_aw_nodeChoice, kp_aw_nodePos, kp_aw_nodeNeg, kp_aw_nodeFree, kp_aw_nodeKids, kp_aw_kids, kp_aw_cacheKey, kp_aw_cacheNode, kp_aw_framePos, kp_aw_frameNeg, kp_aw_frameFree, kp_aw_frameParts, kp_aw_frameNext, kp_aw_framePhase, kp_aw_frameVar, kp_aw_frameHigh, kp_aw_partVars, kp_aw_partClauses, kp_aw_partNode] at h
  obtain ⟨h1, h2⟩ := h
  refine ⟨⟨fun e he => ?_, fun j hj => h2 j (by omega)⟩, ?_, fun j hj => h2 _ (by omega)⟩
  · obtain ⟨a1, a2, a3, a4, a5, a6, a7, a8⟩ := h1 e (by omega)
    rw [pk_un (by omega)] at a6 a8
    exact ⟨a1, a2, a3, a4, a5, a6, a7, a8⟩
  · obtain ⟨a1, a2, a3, a4, a5, a6, a7, a8⟩ := h1 d (by omega)
    rw [pk_us] at a6 a8
    exact ⟨a1, a2, a3, a4, a5, a6, a8⟩
section
variable {cp cn : Nat → Int32} {cc : Nat} {z : kk_Z} {post : Int32 → SX → Prop} {s : Nat}
/-- the last step of a component -/
theorem kp_last {h l nc y d i : Nat} {V C : Int32} {w w4 w6 w7 : kk_W} (hd : ww_depth w4 = nI (d + 1)) (hS : kp_S d w w4)
    (hF : ww_framePos w4 d = ww_framePos w d ∧ ww_frameNeg w4 d = ww_frameNeg w d ∧ ww_frameFree w4 d = ww_frameFree w d ∧ ww_frameParts w4 d = ww_frameParts w d)
    (hP : ∀ j, j < 4 → ww_partVars w4 (d * 4 + j) = ww_partVars w (d * 4 + j) ∧ ww_partClauses w4 (d * 4 + j) = ww_partClauses w (d * 4 + j) ∧ ww_partNode w4 (d * 4 + j) = ww_partNode w (d * 4 + j))
    (hN : kp_NO h l nc (kp_bw d w4) y w6) (hO : kp_CO (kp_key V C) y w6 w7) : kp_S d w (kp_acc d i y w7) ∧ kp_Fin d i w (kp_acc d i y w7) y := by
  obtain ⟨a1, a2, a3, a4, a5, a6, a7, a8, a9, a10, a11, a12, a13⟩ := kp_NO_w hN
  obtain ⟨b1, b2, b3, b4, b5, b6, b7, b8, b9, b10, b11, b12, b13⟩ := kp_CO_w hO
  simp only [kp_bw_nodeCount, kp_bw_depth, kp_bw_result, kp_bw_workPos, kp_bw_workNeg, kp_bw_workLive, kp_bw_nodeChoice, kp_bw_nodePos, kp_bw_nodeNeg, kp_bw_nodeFree, kp_bw_nodeKids, kp_bw_kids, kp_bw_cacheKey, kp_bw_cacheNode, kp_bw_framePos, kp_bw_frameNeg, kp_bw_frameFree, kp_bw_frameParts, kp_bw_frameNext, kp_bw_framePhase, kp_bw_frameVar, kp_bw_frameHigh, kp_bw_partVars, kp_bw_partClauses, kp_bw_partNode] at a1 a2 a3 a4 a5 a6 a7 a8 a9 a10 a11 a12 a13
  have T3 : kp_S d w4 w7 := by
    refine ⟨fun e he => ?_, fun j hj => ?_⟩
    · rw [b3, b4, b5, b6, b7, b8, b9, b10, a3, a4, a5, a6, a7, a8, a9, a10]
      exact ⟨rfl, rfl, rfl, rfl, rfl, pk_un (by omega), rfl, rfl⟩
    · rw [b11, b12, b13, a11, a12, a13]
      exact ⟨rfl, rfl, rfl⟩
  refine ⟨kp_acc_S (kp_S_tr hS T3), kp_acc_F (b1.trans (a1.trans hd)) (b2.trans a2) ?_ ?_ ?_ ?_ (fun j hj => ?_)⟩
  · rw [b3, a3]; exact hF.1
  · rw [b4, a4]; exact hF.2.1
  · rw [b5, a5]; exact hF.2.2.1
  · rw [b6, a6]; exact hF.2.2.2
  · rw [b11, b12, b13, a11, a12, a13]; exact hP j hj
theorem kp_compS (hz : kp_Z cp cn cc z) (hC : kp_Comp cp cn cc z post s) : kp_Comp cp cn cc z post (s + 1) := by
  intro x w d i cnt nc V C vs P hI hdp hrs hnx hpt hi hc4 hpv hpc hV8 hCc hcd1 hcds hd8 hbn hbx K
  obtain ⟨t, ht⟩ : ∃ t, kb_cd (bt V) = t + 1 := ⟨kb_cd (bt V) - 1, by omega⟩
  rw [ht] at hcd1 hcds hd8 hbn hbx K
  rw [kp_b_s] at hbn hbx K
  have h24 : cc ≤ 24 := hz.2.2.2.1
  obtain ⟨v0, hv0⟩ : ∃ v0, bt V v0 = true := by
    apply Classical.byContradiction
    intro hn
    have : kb_cd (bt V) = 0 := by
      rw [show bt V = fun _ => false from funext (fun v => ts_nt (fun e => hn ⟨v, e⟩))]
      exact kb_cd0
    omega
  have hcache : ∀ q, q < 1024 → ww_cacheKey w q = kp_key V C → ∃ y, y < 1024 ∧ ww_cacheNode w q = nI y ∧ kp_R nc vs P y V (kp_cf cp cn cc V C) := by
    intro q hq hk
    rcases hI.2.2.2 q hq with h0 | ⟨V', C', y, k1, k2, k3, k4, k5⟩
    · exact absurd (hk.symm.trans h0) (kp_key_ne hv0)
    · obtain ⟨rfl, rfl⟩ := kp_key_inj hV8 k1 (fun c h => by have := hCc c h; omega) (fun c h => by have := k2 c h; omega) (hk.symm.trans k3)
      exact ⟨y, by have := kp_R_lt k5 hI.2.1; omega, k4, k5⟩
  refine kp_step (d := d) (by omega) hdp (by omega) (kp_adv_enter hz hdp (by omega) hrs hnx hpt hi hc4 hpv hpc hV8 hv0 (fun q hq hk => by obtain ⟨y, h1, h2, _⟩ := hcache q hq hk; exact ⟨y, h1, h2⟩)) (fun w1 hw => ?_)
  rcases hw with ⟨q, y, hq, hy, hk, hca, rfl⟩ | ⟨v, hv, hbv, hOB⟩
  · obtain ⟨y', h1, h2, h3⟩ := hcache q hq hk
    have e : y = y' := (nI_eq (by omega) (by omega)).mp (hca.symm.trans h2)
    subst e
    exact K 1 _ nc vs P y (by omega) (by omega) (by omega) (kp_acc_I hI) kp_X_rf h3 (kp_acc_S ⟨fun e _ => ⟨rfl, rfl, rfl, rfl, rfl, rfl, rfl, rfl⟩, fun j _ => ⟨rfl, rfl, rfl⟩⟩) (kp_acc_F hdp hrs rfl rfl rfl rfl (fun j _ => ⟨rfl, rfl, rfl⟩))
  · refine kp_branch hz hC hV8 (by omega) (nc := nc) (vs := vs) (P := P) (t := t) (w := kp_cw d ((1 : Int32) <<< (nI v &&& 31)) w) (kp_cw_I hI) (kp_cw_depth.trans hdp) hOB (kp_bitsub hv hbv (fun u => ?_) (by omega)) (by omega) (by omega) (by omega) (by omega) (fun k1 w2 n2 vs2 P2 h hk1 m1 m2 hI2 hX2 hR2 hS2 hd2 hr2 => ?_)
    · rw [kb_one v (by omega), b_0]; simp
    · obtain ⟨S2, ⟨f1, f2, f3, f4, f5, f6, f7⟩, hp2⟩ := kp_S_cw hS2
      have hh2 := kp_R_lt hR2 hI2.2.1
      refine kp_step (d := d) (by omega) hd2 (by omega) (kp_adv_abs1 (i := i) (V := V) (C := C) (h := h) (v := v) hz hd2 (by omega) hr2 (by omega) f6 (f5.trans hnx) (by omega) ((hp2 i (by omega)).1.trans hpv) ((hp2 i (by omega)).2.1.trans hpc) hV8 f7 hv hbv) (fun w3 hOB2 => ?_)
      refine kp_branch hz hC hV8 (by omega) (nc := n2) (vs := vs2) (P := P2) (t := t) (w := kp_aw d w2) (kp_aw_I hI2) (kp_aw_depth.trans hd2) hOB2 (kp_bitsub hv hbv (fun u => ?_) (by omega)) (by omega) (by omega) (by omega) (by omega) (fun k2 w4 n4 vs4 P4 l hk2 q1 q2 hI4 hX4 hR4 hS4 hd4 hr4 => ?_)
      · rw [kb_one v (by omega), b_0]; simp
      · obtain ⟨S4, ⟨g1, g2, g3, g4, g5, g6, g7⟩, hp4⟩ := kp_S_aw hS4
        have hl4 := kp_R_lt hR4 hI4.2.1
        refine kp_step (d := d) (by omega) hd4 (by omega) (kp_adv_abs2 (i := i) (V := V) (C := C) (h := h) (l := l) (nc := n4) hd4 (by omega) hr4 (by omega) (by omega) g6 (g7.trans hr2) (g5.trans (f5.trans hnx)) (by omega) ((hp4 i (by omega)).1.trans ((hp2 i (by omega)).1.trans hpv)) ((hp4 i (by omega)).2.1.trans ((hp2 i (by omega)).2.1.trans hpc)) hI4.1 hI4.2.1 (by omega)) (fun w5 hw5 => ?_)
        obtain ⟨y, w6, w7, hNO, hCO, rfl⟩ := hw5
        obtain ⟨n6, vs6, P6, r1, r2, hI6, hX6, hR6⟩ := kp_node (cp := cp) (cn := cn) (cc := cc) (V := V) (C := C) hv hV8 (w := kp_bw d w4) (kp_bw_I hI4) (by omega) (kp_R_mono hX4 q1 hR2) hR4 hNO
        have hI7 := kp_CO_I hV8 hCc hI6 hR6 hCO
        obtain ⟨L1, L2⟩ := kp_last (w := w) (i := i) hd4 (kp_S_tr S2 S4) ⟨g1.trans f1, g2.trans f2, g3.trans f3, g4.trans f4⟩ (fun j hj => ⟨(hp4 j hj).1.trans (hp2 j hj).1, (hp4 j hj).2.1.trans (hp2 j hj).2.1, (hp4 j hj).2.2.trans (hp2 j hj).2.2⟩) hNO hCO
        have hx : x + 1 + k1 + 1 + k2 + 1 = x + (1 + k1 + 1 + k2 + 1) := by omega
        rw [hx]
        exact K _ _ n6 vs6 P6 y (by omega) (by omega) (by omega) (kp_acc_I hI7) (kp_X_tr m1 hX2 (kp_X_tr q1 hX4 hX6)) hR6 L1 L2
theorem kp_comp (hz : kp_Z cp cn cc z) : ∀ s, kp_Comp cp cn cc z post s
  | 0 => kp_comp0
  | s + 1 => kp_compS hz (kp_comp hz s)
end
end
section
/-! X's walk: compile -/
theorem kb_all {cc v : Nat} (h : cc ≤ 24) : bt (((1 : Int32) <<< (nI cc &&& 31)) - 1) v = decide (v < cc) := by
  have hp : 2 ^ cc ≤ 2 ^ 24 := Nat.pow_le_pow_right (by decide) h
  have h1 : 1 ≤ 2 ^ cc := Nat.one_le_two_pow
  rw [kb_pow (by omega), show (1 : Int32) = nI 1 from rfl, pk_sub h1, kb_nbig (by omega), Nat.testBit_two_pow_sub_one]
theorem kp_cst {sp sn : Nat → Int32} {F : Int32} {a : Nat → Bool} {j : Nat} (h : kb_sub (sp j) F) (ht : ¬ (sp j &&& sn j) = 0) : kp_cs sp sn F a j := by
  obtain ⟨v, hv, _⟩ := kb_nz ht
  rw [b_and, Bool.and_eq_true] at hv
  refine ⟨v, h v hv.1, ?_⟩
  cases e : a v with
  | true => exact Or.inl ⟨hv.1, rfl⟩
  | false => exact Or.inr ⟨hv.2, rfl⟩
section
variable {f_varCount f_slotCount f_fullMask f_draftPos f_draftNeg f_state f_assumedCount f_assumedPos f_assumedNeg f_clauseCount f_nodeCount f_root f_depth f_result f_workPos f_workNeg f_workLive : Int32} {a_slotUsed a_slotPos a_slotNeg a_assumed a_weightPos a_weightNeg a_clausePos a_clauseNeg a_nodeChoice a_nodePos a_nodeNeg a_nodeFree a_nodeKids a_kids a_cacheKey a_cacheNode a_framePos a_frameNeg a_frameFree a_frameParts a_frameNext a_framePhase a_frameVar a_frameHigh a_partVars a_partClauses a_partNode a_value a_sizes a_poly a_product a_factorPos a_factorNeg : Nat → Int32}
theorem kw_copyClauses {post : SX → Prop} {m : Nat} {F : Int32} (hm : f_slotCount = nI m) (hm24 : m ≤ 24) (hs : ∀ j, j < m → ¬ a_slotUsed j = 0 → kb_sub (a_slotPos j) F ∧ kb_sub (a_slotNeg j) F)
    (K : ∀ cc cp cn, cc ≤ 24 → (∀ c, c < cc → kb_sub (cp c) F ∧ kb_sub (cn c) F ∧ kb_dis (cp c) (cn c)) → (∀ a, (∀ c, c < cc → kp_cs cp cn F a c) ↔ (∀ j, j < m → ¬ a_slotUsed j = 0 → kp_cs a_slotPos a_slotNeg F a j)) →
      post (f_varCount, f_slotCount, f_fullMask, f_draftPos, f_draftNeg, f_state, f_assumedCount, f_assumedPos, f_assumedNeg, (nI cc), f_nodeCount, f_root, f_depth, f_result, f_workPos, f_workNeg, f_workLive, a_slotUsed, a_slotPos, a_slotNeg, a_assumed, a_weightPos, a_weightNeg, cp, cn, a_nodeChoice, a_nodePos, a_nodeNeg, a_nodeFree, a_nodeKids, a_kids, a_cacheKey, a_cacheNode, a_framePos, a_frameNeg, a_frameFree, a_frameParts, a_frameNext, a_framePhase, a_frameVar, a_frameHigh, a_partVars, a_partClauses, a_partNode, a_value, a_sizes, a_poly, a_product, a_factorPos, a_factorNeg)) : wpX_copyClauses post (f_varCount, f_slotCount, f_fullMask, f_draftPos, f_draftNeg, f_state, f_assumedCount, f_assumedPos, f_assumedNeg, f_clauseCount, f_nodeCount, f_root, f_depth, f_result, f_workPos, f_workNeg, f_workLive, a_slotUsed, a_slotPos, a_slotNeg, a_assumed, a_weightPos, a_weightNeg, a_clausePos, a_clauseNeg, a_nodeChoice, a_nodePos, a_nodeNeg, a_nodeFree, a_nodeKids, a_kids, a_cacheKey, a_cacheNode, a_framePos, a_frameNeg, a_frameFree, a_frameParts, a_frameNext, a_framePhase, a_frameVar, a_frameHigh, a_partVars, a_partClauses, a_partNode, a_value, a_sizes, a_poly, a_product, a_factorPos, a_factorNeg) := by
  subst hm
  refine loop_0 (σ := Nat × (Nat → Int32) × (Nat → Int32)) (fun n i s => wX_copyClauses_7 post f_varCount (nI m) f_fullMask f_draftPos f_draftNeg f_state f_assumedCount f_assumedPos f_assumedNeg f_nodeCount f_root f_depth f_result f_workPos f_workNeg f_workLive n (nI i) (nI s.1) a_slotUsed a_slotPos a_slotNeg a_assumed a_weightPos a_weightNeg s.2.1 s.2.2 a_nodeChoice a_nodePos a_nodeNeg a_nodeFree a_nodeKids a_kids a_cacheKey a_cacheNode a_framePos a_frameNeg a_frameFree a_frameParts a_frameNext a_framePhase a_frameVar a_frameHigh a_partVars a_partClauses a_partNode a_value a_sizes a_poly a_product a_factorPos a_factorNeg)
    (fun i s => s.1 ≤ i ∧ (∀ c, c < s.1 → kb_sub (s.2.1 c) F ∧ kb_sub (s.2.2 c) F ∧ kb_dis (s.2.1 c) (s.2.2 c)) ∧ (∀ a, (∀ c, c < s.1 → kp_cs s.2.1 s.2.2 F a c) ↔ (∀ j, j < i → ¬ a_slotUsed j = 0 → kp_cs a_slotPos a_slotNeg F a j))) m (0, a_clausePos, a_clauseNeg)
    ⟨Nat.le_refl _, fun c hc => absurd hc (Nat.not_lt_zero _), fun a => ⟨fun _ j hj => absurd hj (Nat.not_lt_zero _), fun _ c hc => absurd hc (Nat.not_lt_zero _)⟩⟩ ?_ ?_
  · rintro n ⟨cc, cp, cn⟩ ⟨h1, h2, h3⟩
    exact br_t (nI_le (Nat.le_refl _) (by omega)) (K cc cp cn (by dsimp only at h1; omega) h2 h3)
  · rintro n i ⟨cc, cp, cn⟩ hi ⟨h1, h2, h3⟩ hk
    dsimp only at h1 h2 h3 hk ⊢
    have ei : (nI i).toNatClampNeg = i := nI_clamp (by omega)
    have ec : (nI cc).toNatClampNeg = cc := nI_clamp (by omega)
    have hin : vp_in (nI i) 24 := vp_in_nI (by omega) (by decide)
    have hinc : vp_in (nI cc) 24 := vp_in_nI (by omega) (by decide)
    refine br_f (nI_ge hi (by omega)) ⟨hin, ?_⟩
    rw [ei]
    have skip : (∀ a, ¬ a_slotUsed i = 0 → kp_cs a_slotPos a_slotNeg F a i) → ∀ y, y = nI i + 1 → wX_copyClauses_7 post f_varCount (nI m) f_fullMask f_draftPos f_draftNeg f_state f_assumedCount f_assumedPos f_assumedNeg f_nodeCount f_root f_depth f_result f_workPos f_workNeg f_workLive n y (nI cc) a_slotUsed a_slotPos a_slotNeg a_assumed a_weightPos a_weightNeg cp cn a_nodeChoice a_nodePos a_nodeNeg a_nodeFree a_nodeKids a_kids a_cacheKey a_cacheNode a_framePos a_frameNeg a_frameFree a_frameParts a_frameNext a_framePhase a_frameVar a_frameHigh a_partVars a_partClauses a_partNode a_value a_sizes a_poly a_product a_factorPos a_factorNeg := by
      intro hsk y ey
      subst ey
      rw [nI_1 i]
      refine hk (cc, cp, cn) ⟨by dsimp only; omega, h2, fun a => (h3 a).trans ⟨fun H j hj hu => ?_, fun H j hj hu => H j (by omega) hu⟩⟩
      by_cases e : j = i
      · subst e; exact hsk a hu
      · exact H j (by omega) hu
    refine br_c (fun z => skip (fun a hu => absurd z hu)) (fun z => ⟨hin, hin, br_c (fun t => ?_) (fun t => skip (fun a _ => kp_cst (hs i hi z).1 t))⟩)
    refine ⟨hin, hinc, fun a1 e1 => ⟨hin, hinc, fun a2 e2 => ?_⟩⟩
    intro x1 e3 x2 e4
    rw [ec] at e1 e2
    subst e1 e2 e3 e4
    rw [nI_1 i, nI_1 cc]
    refine hk (cc + 1, upd cp cc (a_slotPos i), upd cn cc (a_slotNeg i)) ⟨by dsimp only; omega, fun c hc => ?_, fun a => ?_⟩
    · dsimp only at hc ⊢
      by_cases e : c = cc
      · subst e; rw [pk_us, pk_us]; exact ⟨(hs i hi z).1, (hs i hi z).2, kb_andz.mp t⟩
      · rw [pk_un e, pk_un e]; exact h2 c (by omega)
    · dsimp only
      have eo : ∀ c, c < cc → (kp_cs (upd cp cc (a_slotPos i)) (upd cn cc (a_slotNeg i)) F a c ↔ kp_cs cp cn F a c) := fun c hc => by
        unfold kp_cs
        rw [pk_un (by omega), pk_un (by omega)]
      have en : kp_cs (upd cp cc (a_slotPos i)) (upd cn cc (a_slotNeg i)) F a cc ↔ kp_cs a_slotPos a_slotNeg F a i := by
        unfold kp_cs
        rw [pk_us, pk_us]
      constructor
      · intro H j hj hu
        by_cases e : j = i
        · subst e; exact en.mp (H cc (by omega))
        · exact (h3 a).mp (fun c hc => (eo c hc).mp (H c (by omega))) j (by omega) hu
      · intro H c hc
        by_cases e : c = cc
        · subst e; exact en.mpr (H i (by omega) z)
        · exact (eo c (by omega)).mpr ((h3 a).mpr (fun j hj hu => H j (by omega) hu) c (by omega))
theorem kw_resetCircuit {post : SX → Prop} (K : ∀ ck, (∀ t, t < 1024 → ck t = 0) → post (f_varCount, f_slotCount, f_fullMask, f_draftPos, f_draftNeg, f_state, f_assumedCount, f_assumedPos, f_assumedNeg, f_clauseCount, 1, 0, 0, -1, f_workPos, f_workNeg, f_workLive, a_slotUsed, a_slotPos, a_slotNeg, a_assumed, a_weightPos, a_weightNeg, a_clausePos, a_clauseNeg, a_nodeChoice, a_nodePos, a_nodeNeg, a_nodeFree, a_nodeKids, a_kids, ck, a_cacheNode, a_framePos, a_frameNeg, a_frameFree, a_frameParts, a_frameNext, a_framePhase, a_frameVar, a_frameHigh, a_partVars, a_partClauses, a_partNode, a_value, a_sizes, a_poly, a_product, a_factorPos, a_factorNeg)) : wpX_resetCircuit post (f_varCount, f_slotCount, f_fullMask, f_draftPos, f_draftNeg, f_state, f_assumedCount, f_assumedPos, f_assumedNeg, f_clauseCount, f_nodeCount, f_root, f_depth, f_result, f_workPos, f_workNeg, f_workLive, a_slotUsed, a_slotPos, a_slotNeg, a_assumed, a_weightPos, a_weightNeg, a_clausePos, a_clauseNeg, a_nodeChoice, a_nodePos, a_nodeNeg, a_nodeFree, a_nodeKids, a_kids, a_cacheKey, a_cacheNode, a_framePos, a_frameNeg, a_frameFree, a_frameParts, a_frameNext, a_framePhase, a_frameVar, a_frameHigh, a_partVars, a_partClauses, a_partNode, a_value, a_sizes, a_poly, a_product, a_factorPos, a_factorNeg) := by
  refine loop_0 (fun n i s => wX_resetCircuit_22 post f_varCount f_slotCount f_fullMask f_draftPos f_draftNeg f_state f_assumedCount f_assumedPos f_assumedNeg f_clauseCount 1 0 0 (-1) f_workPos f_workNeg f_workLive n (nI i) a_slotUsed a_slotPos a_slotNeg a_assumed a_weightPos a_weightNeg a_clausePos a_clauseNeg a_nodeChoice a_nodePos a_nodeNeg a_nodeFree a_nodeKids a_kids s a_cacheNode a_framePos a_frameNeg a_frameFree a_frameParts a_frameNext a_framePhase a_frameVar a_frameHigh a_partVars a_partClauses a_partNode a_value a_sizes a_poly a_product a_factorPos a_factorNeg) (fun i s => ∀ t, t < i → s t = 0) 1024 a_cacheKey (fun t ht => absurd ht (Nat.not_lt_zero _)) ?_ ?_
  · intro n s hs
    exact br_t (by decide) (K s hs)
  · intro n i s hi hs hk
    have ei : (nI i).toNatClampNeg = i := nI_clamp (by omega)
    refine br_f (nI_ge (b := 1024) hi (by decide)) ⟨vp_in_nI hi (by decide), ?_⟩
    intro y ey z ez
    rw [ei] at ey
    subst ey ez
    rw [nI_1 i]
    refine hk _ (fun t ht => ?_)
    by_cases e : t = i
    · subst e; exact pk_us
    · rw [pk_un e]; exact hs t (by omega)
/-- the loop's end -/
theorem kp_exit {post : Int32 → SX → Prop} {x y : Nat} {w : kk_W} (hx : x ≤ 4096) (hd : ww_depth w = nI 0) (hr : ww_result w = nI y) (hy : y < 2 ^ 31)
    (K : wX_compile_70 post (nI y) f_varCount f_slotCount f_fullMask f_draftPos f_draftNeg f_state f_assumedCount f_assumedPos f_assumedNeg f_clauseCount (ww_nodeCount w) f_root (ww_depth w) (ww_result w) (ww_workPos w) (ww_workNeg w) (ww_workLive w) a_slotUsed a_slotPos a_slotNeg a_assumed a_weightPos a_weightNeg a_clausePos a_clauseNeg (ww_nodeChoice w) (ww_nodePos w) (ww_nodeNeg w) (ww_nodeFree w) (ww_nodeKids w) (ww_kids w) (ww_cacheKey w) (ww_cacheNode w) (ww_framePos w) (ww_frameNeg w) (ww_frameFree w) (ww_frameParts w) (ww_frameNext w) (ww_framePhase w) (ww_frameVar w) (ww_frameHigh w) (ww_partVars w) (ww_partClauses w) (ww_partNode w) a_value a_sizes a_poly a_product a_factorPos a_factorNeg) : kp_cl post (f_varCount, f_slotCount, f_fullMask, f_draftPos, f_draftNeg, f_state, f_assumedCount, f_assumedPos, f_assumedNeg, f_clauseCount, f_root, a_slotUsed, a_slotPos, a_slotNeg, a_assumed, a_weightPos, a_weightNeg, a_clausePos, a_clauseNeg, a_value, a_sizes, a_poly, a_product, a_factorPos, a_factorNeg) x w := by
  obtain ⟨f_nodeCount, f_depth, f_result, f_workPos, f_workNeg, f_workLive, a_nodeChoice, a_nodePos, a_nodeNeg, a_nodeFree, a_nodeKids, a_kids, a_cacheKey, a_cacheNode, a_framePos, a_frameNeg, a_frameFree, a_frameParts, a_frameNext, a_framePhase, a_frameVar, a_frameHigh, a_partVars, a_partClauses, a_partNode⟩ := w
  have hd' : f_depth = nI 0 := hd
  have hr' : f_result = nI y := hr
  subst hd' hr'
  show wX_compile_30 post (4097 - x) (nI x) f_varCount f_slotCount f_fullMask f_draftPos f_draftNeg f_state f_assumedCount f_assumedPos f_assumedNeg f_clauseCount f_nodeCount f_root (nI 0) (nI y) f_workPos f_workNeg f_workLive a_slotUsed a_slotPos a_slotNeg a_assumed a_weightPos a_weightNeg a_clausePos a_clauseNeg a_nodeChoice a_nodePos a_nodeNeg a_nodeFree a_nodeKids a_kids a_cacheKey a_cacheNode a_framePos a_frameNeg a_frameFree a_frameParts a_frameNext a_framePhase a_frameVar a_frameHigh a_partVars a_partClauses a_partNode a_value a_sizes a_poly a_product a_factorPos a_factorNeg
  have e : 4097 - x = (4096 - x) + 1 := by omega
  rw [e]
  have E : wX_compile_54 post f_varCount f_slotCount f_fullMask f_draftPos f_draftNeg f_state f_assumedCount f_assumedPos f_assumedNeg f_clauseCount f_nodeCount f_root (nI 0) (nI y) f_workPos f_workNeg f_workLive a_slotUsed a_slotPos a_slotNeg a_assumed a_weightPos a_weightNeg a_clausePos a_clauseNeg a_nodeChoice a_nodePos a_nodeNeg a_nodeFree a_nodeKids a_kids a_cacheKey a_cacheNode a_framePos a_frameNeg a_frameFree a_frameParts a_frameNext a_framePhase a_frameVar a_frameHigh a_partVars a_partClauses a_partNode a_value a_sizes a_poly a_product a_factorPos a_factorNeg := br_t (nI_pos' hy) K
  exact pk_le 4096 x (fun _ => E) (fun _ => br_t (by decide) E)
theorem kw_compile {post : Int32 → SX → Prop} {m : Nat} (hm : f_slotCount = nI m) (hm24 : m ≤ 24) (hF : kb_lo8 f_fullMask) (hs : ∀ j, j < m → ¬ a_slotUsed j = 0 → kb_sub (a_slotPos j) f_fullMask ∧ kb_sub (a_slotNeg j) f_fullMask)
    (K : ∀ (w : kk_W) (cc : Int32) (cp cn val : Nat → Int32) (nc rt : Nat) (vs : Nat → Nat → Bool) (P : Nat → (Nat → Bool) → Prop), 1 ≤ nc → nc ≤ 1024 → rt < nc → kc_C nc (ww_nodeChoice w) (ww_nodePos w) (ww_nodeNeg w) (ww_nodeFree w) (ww_nodeKids w) (ww_kids w) vs P →
      kp_R nc vs P rt f_fullMask (fun a => ∀ j, j < m → ¬ a_slotUsed j = 0 → kp_cs a_slotPos a_slotNeg f_fullMask a j) →
      post (nI (kc_val (kc_cf 0) (kc_cf 0) vs P rt)) (f_varCount, f_slotCount, f_fullMask, f_draftPos, f_draftNeg, 1, f_assumedCount, f_assumedPos, f_assumedNeg, cc, (nI nc), (nI rt), ww_depth w, ww_result w, ww_workPos w, ww_workNeg w, ww_workLive w, a_slotUsed, a_slotPos, a_slotNeg, a_assumed, a_weightPos, a_weightNeg, cp, cn, ww_nodeChoice w, ww_nodePos w, ww_nodeNeg w, ww_nodeFree w, ww_nodeKids w, ww_kids w, ww_cacheKey w, ww_cacheNode w, ww_framePos w, ww_frameNeg w, ww_frameFree w, ww_frameParts w, ww_frameNext w, ww_framePhase w, ww_frameVar w, ww_frameHigh w, ww_partVars w, ww_partClauses w, ww_partNode w, val, a_sizes, a_poly, a_product, a_factorPos, a_factorNeg)) : wpX_compile post (f_varCount, f_slotCount, f_fullMask, f_draftPos, f_draftNeg, f_state, f_assumedCount, f_assumedPos, f_assumedNeg, f_clauseCount, f_nodeCount, f_root, f_depth, f_result, f_workPos, f_workNeg, f_workLive, a_slotUsed, a_slotPos, a_slotNeg, a_assumed, a_weightPos, a_weightNeg, a_clausePos, a_clauseNeg, a_nodeChoice, a_nodePos, a_nodeNeg, a_nodeFree, a_nodeKids, a_kids, a_cacheKey, a_cacheNode, a_framePos, a_frameNeg, a_frameFree, a_frameParts, a_frameNext, a_framePhase, a_frameVar, a_frameHigh, a_partVars, a_partClauses, a_partNode, a_value, a_sizes, a_poly, a_product, a_factorPos, a_factorNeg) := by
  unfold wpX_compile
  refine kw_copyClauses (F := f_fullMask) hm hm24 hs (fun cc cp cn h24 hcl heq => ?_)
  refine kw_resetCircuit (fun ck hck => ?_)
  intro x1 e1
  have hall : ∀ v, bt x1 v = decide (v < cc) := fun v => by rw [e1]; exact kb_all h24
  clear e1
  have hCL : kp_CL cp cn cc := ⟨h24, fun c hc => ⟨kb_sub_lo (hcl c hc).1 hF, kb_sub_lo (hcl c hc).2.1 hF, (hcl c hc).2.2⟩⟩
  have hz : kp_Z cp cn cc (f_varCount, f_slotCount, f_fullMask, f_draftPos, f_draftNeg, f_state, f_assumedCount, f_assumedPos, f_assumedNeg, nI cc, 0, a_slotUsed, a_slotPos, a_slotNeg, a_assumed, a_weightPos, a_weightNeg, cp, cn, a_value, a_sizes, a_poly, a_product, a_factorPos, a_factorNeg) := ⟨rfl, rfl, rfl, hCL⟩
  have hno : ∀ v, ¬ bt 0 v = true := fun v h => by rw [b_0] at h; cases h
  refine kp_open (cp := cp) (cn := cn) (cc := cc) (z := (f_varCount, f_slotCount, f_fullMask, f_draftPos, f_draftNeg, f_state, f_assumedCount, f_assumedPos, f_assumedNeg, nI cc, 0, a_slotUsed, a_slotPos, a_slotNeg, a_assumed, a_weightPos, a_weightNeg, cp, cn, a_value, a_sizes, a_poly, a_product, a_factorPos, a_factorNeg)) (w := (1, 0, (-1), f_workPos, f_workNeg, f_workLive, a_nodeChoice, a_nodePos, a_nodeNeg, a_nodeFree, a_nodeKids, a_kids, ck, a_cacheNode, a_framePos, a_frameNeg, a_frameFree, a_frameParts, a_frameNext, a_framePhase, a_frameVar, a_frameHigh, a_partVars, a_partClauses, a_partNode)) (d := 0) hz rfl (by decide) hF (fun v h => absurd h (hno v)) (fun v h => absurd h (hno v)) (fun v h => hno v h.1) _ (fun w1 hOB => ?_)
  refine ⟨4097, ?_⟩
  have hI : kp_I cp cn cc (1, 0, (-1), f_workPos, f_workNeg, f_workLive, a_nodeChoice, a_nodePos, a_nodeNeg, a_nodeFree, a_nodeKids, a_kids, ck, a_cacheNode, a_framePos, a_frameNeg, a_frameFree, a_frameParts, a_frameNext, a_framePhase, a_frameVar, a_frameHigh, a_partVars, a_partClauses, a_partNode) 1 (fun _ _ => false) (fun _ _ => False) := ⟨rfl, Nat.le_refl _, fun id h1 h2 => by omega, fun t ht => Or.inl (hck t ht)⟩
  have hb := kp_b8
  refine kp_branch (post := post) (x := 0) (t := 8) hz (kp_comp hz 8) hF (by decide) hI rfl hOB (kb_cd8 _) (Nat.le_refl _) (by decide) (by rw [hb]; decide) (by rw [hb]; decide) (fun k w2 nc vs P y hk n1 n2 hI2 _ hR _ hd hr => ?_)
  rw [hb] at hk n2
  obtain ⟨i1, i2, i3, i4⟩ := hI2
  have hy := kp_R_lt hR i2
  refine kp_exit (y := y) (by omega) hd hr (by omega) ?_
  refine kw_countModels (nc := nc) (rt := y) i1 i2 (by omega) rfl hy i3 (fun val' => ?_)
  have i1' : ww_nodeCount w2 = nI nc := i1
  show post _ (f_varCount, f_slotCount, f_fullMask, f_draftPos, f_draftNeg, 1, f_assumedCount, f_assumedPos, f_assumedNeg, (nI cc), ww_nodeCount w2, (nI y), ww_depth w2, ww_result w2, ww_workPos w2, ww_workNeg w2, ww_workLive w2, a_slotUsed, a_slotPos, a_slotNeg, a_assumed, a_weightPos, a_weightNeg, cp, cn, ww_nodeChoice w2, ww_nodePos w2, ww_nodeNeg w2, ww_nodeFree w2, ww_nodeKids w2, ww_kids w2, ww_cacheKey w2, ww_cacheNode w2, ww_framePos w2, ww_frameNeg w2, ww_frameFree w2, ww_frameParts w2, ww_frameNext w2, ww_framePhase w2, ww_frameVar w2, ww_frameHigh w2, ww_partVars w2, ww_partClauses w2, ww_partNode w2, val', a_sizes, a_poly, a_product, a_factorPos, a_factorNeg)
  rw [i1']
  refine K w2 (nI cc) cp cn val' nc y vs P i2 (by omega) hy i3 ?_
  have e : ∀ a, (kc_Po 0 0 a ∧ kp_cf cp cn cc f_fullMask x1 a) ↔ (∀ j, j < m → ¬ a_slotUsed j = 0 → kp_cs a_slotPos a_slotNeg f_fullMask a j) := fun a => by
    rw [← heq a]
    constructor
    · exact fun H c hc => H.2 c hc (by rw [hall c]; simpa using hc)
    · exact fun H => ⟨fun v => ⟨fun h => absurd h (hno v), fun h => absurd h (hno v)⟩, fun c hc _ => H c hc⟩
  rcases hR with ⟨h1, h2⟩ | ⟨h1, h2, h3, h4⟩
  · exact Or.inl ⟨h1, fun a ha => h2 a ((e a).mpr ha)⟩
  · exact Or.inr ⟨h1, h2, h3, fun a => (h4 a).trans (e a)⟩
end
end
section
/-! models by size -/
def kc_pop (V a : Nat → Bool) : Nat := ks_sm 8 (fun v => (V v && a v).toNat)
noncomputable def kc_S (mt mf : Int32) (V : Nat → Bool) (Q : (Nat → Bool) → Prop) (j : Nat) : Nat := kt_T 8 V (fun a => kt_b (Q a ∧ kc_con mt mf V a ∧ kc_pop V a = j)) kc_a0
theorem kc_Sc {mt mf : Int32} {V W : Nat → Bool} {Q R : (Nat → Bool) → Prop} {j : Nat} (hV : ∀ v, V v = W v) (hQ : ∀ a, Q a ↔ R a) : kc_S mt mf V Q j = kc_S mt mf W R j := by
  have e : V = W := funext hV
  have e' : Q = R := funext (fun a => propext (hQ a))
  rw [e, e']
theorem kc_popPD {V a b : Nat → Bool} (h : ∀ v, V v = true → a v = b v) : kc_pop V a = kc_pop V b := ks_congr 8 (fun v _ => by
  cases e : V v with
  | false => rfl
  | true => rw [h v e])
theorem kc_conPD {mt mf : Int32} {V a b : Nat → Bool} (h : ∀ v, V v = true → a v = b v) : kc_con mt mf V a ↔ kc_con mt mf V b := by
  constructor
  · exact fun H v hv => by rw [← h v hv]; exact H v hv
  · exact fun H v hv => by rw [h v hv]; exact H v hv
theorem kc_Sdep {mt mf : Int32} {V : Nat → Bool} {Q : (Nat → Bool) → Prop} {j : Nat} (hQ : kc_PD V Q) : kt_Dep V (fun a => kt_b (Q a ∧ kc_con mt mf V a ∧ kc_pop V a = j)) := fun a b h =>
  kt_bc (and_congr (hQ a b h) (and_congr (kc_conPD h) (by rw [kc_popPD h])))
theorem ks_one (f : Nat → Nat) (p : Nat) : ∀ k, ks_sm k (fun i => kt_b (p = i) * f i) = if p < k then f p else 0
  | 0 => rfl
  | k + 1 => by
    show ks_sm k (fun i => kt_b (p = i) * f i) + kt_b (p = k) * f k = _
    rw [ks_one f p k]
    by_cases e : p = k
    · subst e
      rw [if_neg (by omega), if_pos (by omega), kt_b1 rfl]; omega
    · rw [kt_b0 e]
      by_cases h : p < k
      · rw [if_pos h, if_pos (by omega)]; omega
      · rw [if_neg h, if_neg (by omega)]; omega
theorem kt_conv {A B : Prop} {p q j : Nat} : kt_b (A ∧ B ∧ p + q = j) = ks_sm (j + 1) (fun i => kt_b (A ∧ p = i) * kt_b (B ∧ q = j - i)) := by
  rw [show ks_sm (j + 1) (fun i => kt_b (A ∧ p = i) * kt_b (B ∧ q = j - i)) = ks_sm (j + 1) (fun i => kt_b (p = i) * (kt_b A * (kt_b B * kt_b (q = j - i)))) from ks_congr _ (fun i _ => by
    rw [kt_band, kt_band]; rw [Nat.mul_comm (kt_b A) (kt_b (p = i)), Nat.mul_assoc]), ks_one (fun i => kt_b A * (kt_b B * kt_b (q = j - i)))]
  rw [kt_band, kt_band]
  by_cases h : p < j + 1
  · rw [if_pos h]
    congr 2
    exact kt_bc ⟨fun h => by omega, fun h => by omega⟩
  · rw [if_neg h, kt_b0 (p := p + q = j) (by omega), Nat.mul_zero, Nat.mul_zero]
theorem kc_poptor {U V W a : Nat → Bool} (h : ∀ v, W v = (U v || V v)) (hd : ∀ v, ¬ (U v = true ∧ V v = true)) : kc_pop W a = kc_pop U a + kc_pop V a := by
  unfold kc_pop
  rw [← ks_add]
  apply ks_congr
  intro v _
  have h2 := hd v
  rw [h v]
  cases hU : U v <;> cases hV : V v <;> cases a v <;> first | rfl | exact absurd ⟨hU, hV⟩ h2
theorem kc_conor {mt mf : Int32} {U V W a : Nat → Bool} (h : ∀ v, W v = (U v || V v)) : kc_con mt mf W a ↔ (kc_con mt mf U a ∧ kc_con mt mf V a) := by
  constructor
  · intro H
    exact ⟨fun v hv => H v (by rw [h v, hv]; rfl), fun v hv => H v (by rw [h v, hv]; simp)⟩
  · intro H v hv
    rw [h v, Bool.or_eq_true] at hv
    rcases hv with hv | hv
    · exact H.1 v hv
    · exact H.2 v hv
theorem kc_Smul {mt mf : Int32} {U V W : Nat → Bool} {Q R S : (Nat → Bool) → Prop} (hQ : kc_PD U Q) (hR : kc_PD V R) (h : ∀ v, W v = (U v || V v)) (hd : ∀ v, ¬ (U v = true ∧ V v = true)) (hS : ∀ a, S a ↔ (Q a ∧ R a)) (j : Nat) :
    kc_S mt mf W S j = ks_sm (j + 1) (fun i => kc_S mt mf U Q i * kc_S mt mf V R (j - i)) := by
  have e : kc_S mt mf W S j = kt_T 8 W (fun a => ks_sm (j + 1) (fun i => kt_b (Q a ∧ kc_con mt mf U a ∧ kc_pop U a = i) * kt_b (R a ∧ kc_con mt mf V a ∧ kc_pop V a = j - i))) kc_a0 := by
    unfold kc_S
    apply kt_congr 8 kc_a0 (fun _ _ => rfl)
    intro b _
    have e1 : kt_b (S b ∧ kc_con mt mf W b ∧ kc_pop W b = j) = kt_b ((Q b ∧ kc_con mt mf U b) ∧ (R b ∧ kc_con mt mf V b) ∧ kc_pop U b + kc_pop V b = j) := by
      apply kt_bc
      rw [hS b, kc_conor h, kc_poptor h hd]
      exact ⟨fun ⟨⟨a1, a2⟩, ⟨a3, a4⟩, a5⟩ => ⟨⟨a1, a3⟩, ⟨a2, a4⟩, a5⟩, fun ⟨⟨a1, a3⟩, ⟨a2, a4⟩, a5⟩ => ⟨⟨a1, a2⟩, ⟨a3, a4⟩, a5⟩⟩
    rw [e1, kt_conv]
    exact ks_congr _ (fun i _ => by rw [kt_bc and_assoc, kt_bc (and_assoc (a := R b))])
  rw [e, kt_sum (fun i a => kt_b (Q a ∧ kc_con mt mf U a ∧ kc_pop U a = i) * kt_b (R a ∧ kc_con mt mf V a ∧ kc_pop V a = j - i)) 8 kc_a0 (j + 1)]
  exact ks_congr _ (fun i _ => kt_mul (kc_Sdep hQ) (kc_Sdep hR) 8 kc_a0 (fun v _ => h v) (fun v _ => hd v))
theorem kc_Sor {mt mf : Int32} {V : Nat → Bool} {Q R S : (Nat → Bool) → Prop} (hd : ∀ a, ¬ (Q a ∧ R a)) (hS : ∀ a, S a ↔ (Q a ∨ R a)) (j : Nat) : kc_S mt mf V S j = kc_S mt mf V Q j + kc_S mt mf V R j := by
  unfold kc_S
  rw [← kt_add]
  apply kt_congr 8 kc_a0 (fun _ _ => rfl)
  intro b _
  rw [kt_band, kt_band (p := Q b), kt_band (p := R b), ← Nat.add_mul]
  congr 1
  rcases Classical.em (Q b) with hq | hq
  · rw [kt_b1 hq, kt_b0 (fun hr => hd b ⟨hq, hr⟩), kt_b1 ((hS b).mpr (Or.inl hq))]
  · rw [kt_b0 hq, Nat.zero_add]
    exact kt_bc ⟨fun h => ((hS b).mp h).resolve_left hq, fun h => (hS b).mpr (Or.inr h)⟩
/-- a function that lives at one assignment -/
theorem kt_single {V pi : Nat → Bool} {F : (Nat → Bool) → Nat} : ∀ (k : Nat) (a : Nat → Bool), (∀ b : Nat → Bool, (∃ v, v < k ∧ V v = true ∧ b v ≠ pi v) → F b = 0) → kt_T k V F a = F (fun v => bif decide (v < k) && V v then pi v else a v)
  | 0, a, _ => by
    show F a = _
    congr 1
  | k + 1, a, h => by
    cases hV : V k with
    | false =>
      rw [kt_Tf hV, kt_single k a (fun b ⟨v, h1, h2⟩ => h b ⟨v, by omega, h2⟩)]
      congr 1
      funext v
      by_cases e : v = k
      · subst e; simp [hV]
      · rw [show decide (v < k) = decide (v < k + 1) from decide_eq_decide.mpr (by omega)]
    | true =>
      rw [kt_Tt hV]
      have hg : kt_T k V F (kt_u a k (pi k)) = F (fun v => bif decide (v < k + 1) && V v then pi v else a v) := by
        rw [kt_single k _ (fun b ⟨v, h1, h2⟩ => h b ⟨v, by omega, h2⟩)]
        congr 1
        funext v
        by_cases e : v = k
        · subst e; simp [hV, kt_us]
        · rw [show decide (v < k) = decide (v < k + 1) from decide_eq_decide.mpr (by omega), kt_un _ _ e]
      have hz : kt_T k V F (kt_u a k (!pi k)) = 0 := by
        rw [← kt_zero (V := V) k (kt_u a k (!pi k))]
        apply kt_congr k _ (fun _ _ => rfl)
        intro b hb
        refine h b ⟨k, by omega, hV, ?_⟩
        rw [hb k (Nat.le_refl _), kt_us]
        cases pi k <;> decide
      cases e : pi k with
      | true => rw [e] at hg hz; rw [hg, show (false : Bool) = !true from rfl, hz, Nat.zero_add]
      | false => rw [e] at hg hz; rw [hg, show (true : Bool) = !false from rfl, hz, Nat.add_zero]
theorem kt_point {w : Nat} {F : (Nat → Bool) → Nat} : ∀ (n : Nat) (a : Nat → Bool), kt_T n (fun v => decide (v = w)) F a = if w < n then F (kt_u a w false) + F (kt_u a w true) else F a
  | 0, a => rfl
  | n + 1, a => by
    by_cases e : n = w
    · subst e
      rw [kt_Tt (by simp), kt_point n, kt_point n, if_neg (by omega), if_neg (by omega), if_pos (by omega)]
    · rw [kt_Tf (by simpa using e), kt_point n]
      by_cases h : w < n
      · rw [if_pos h, if_pos (by omega)]
      · rw [if_neg h, if_neg (by omega)]
def kc_lit (p n : Int32) (v : Nat) : Bool := bt p v || bt n v
theorem kc_litPD (p n : Int32) : kc_PD (kc_lit p n) (kc_Po p n) := by
  have one : ∀ a b : Nat → Bool, (∀ v, kc_lit p n v = true → a v = b v) → kc_Po p n a → kc_Po p n b := fun a b h H v =>
    ⟨fun hv => by rw [← h v (by unfold kc_lit; rw [hv]; rfl)]; exact (H v).1 hv, fun hv => by rw [← h v (by unfold kc_lit; rw [hv]; simp)]; exact (H v).2 hv⟩
  exact fun a b h => ⟨one a b h, one b a (fun v hv => (h v hv).symm)⟩
theorem kc_Sbase {mt mf p n : Int32} {j : Nat} (hp : kb_lo8 p) (hn : kb_lo8 n) (hd : kb_dis p n) : kc_S mt mf (kc_lit p n) (kc_Po p n) j = kt_b (((p &&& mf) = 0 ∧ (n &&& mt) = 0) ∧ kb_cd (bt p) = j) := by
  unfold kc_S
  rw [kt_single (pi := bt p) 8 kc_a0 (fun b ⟨v, h1, h2, h3⟩ => kt_b0 (fun H => by
    have h4 := H.1 v
    unfold kc_lit at h2
    rw [Bool.or_eq_true] at h2
    rcases h2 with h2 | h2
    · exact h3 (by rw [h2]; exact h4.1 h2)
    · have : bt p v = false := ts_nt (fun e => hd v ⟨e, h2⟩)
      exact h3 (by rw [this]; exact h4.2 h2)))]
  have e : (fun v => bif decide (v < 8) && kc_lit p n v then bt p v else kc_a0 v) = bt p := by
    funext v
    cases e : bt p v with
    | true =>
      have h8 := hp v e
      unfold kc_lit
      rw [e]; simp [h8]
    | false => unfold kc_a0; cases (decide (v < 8) && kc_lit p n v) <;> rfl
  rw [e]
  apply kt_bc
  have epop : kc_pop (kc_lit p n) (bt p) = kb_cd (bt p) := ks_congr 8 (fun v _ => by
    unfold kc_lit
    cases bt p v <;> simp)
  rw [epop]
  constructor
  · rintro ⟨_, h1, h2⟩
    refine ⟨⟨kb_andz.mpr (fun v hv => ?_), kb_andz.mpr (fun v hv => ?_)⟩, h2⟩
    · have := (h1 v (by unfold kc_lit; rw [hv.1]; rfl)).2 hv.2
      rw [hv.1] at this; cases this
    · have := (h1 v (by unfold kc_lit; rw [hv.1]; simp)).1 hv.2
      exact hd v ⟨this, hv.1⟩
  · rintro ⟨⟨h1, h2⟩, h3⟩
    refine ⟨fun v => ⟨fun h => h, fun h => ts_nt (fun e => hd v ⟨e, h⟩)⟩, fun v hv => ?_, h3⟩
    unfold kc_lit at hv
    rw [Bool.or_eq_true] at hv
    refine ⟨fun h => ?_, fun h => ?_⟩
    · rcases hv with hv | hv
      · exact hv
      · exact absurd ⟨hv, h⟩ (kb_andz.mp h2 v)
    · exact ts_nt (fun e => kb_andz.mp h1 v ⟨e, h⟩)
theorem kc_S1 {mt mf : Int32} {w m : Nat} (hw : w < 8) : kc_S mt mf (fun v => decide (v = w)) (fun _ => True) m = kt_b (m = 0) * kc_cf mt w + kt_b (m = 1) * kc_cf mf w := by
  unfold kc_S
  rw [kt_point 8 kc_a0, if_pos hw]
  have hcon : ∀ b, kc_con mt mf (fun v => decide (v = w)) (kt_u kc_a0 w b) ↔ ((bt mt w = true → b = true) ∧ (bt mf w = true → b = false)) := fun b => by
    constructor
    · intro H
      have := H w (by simp)
      rw [kt_us] at this
      exact this
    · intro H v hv
      have e : v = w := by simpa using hv
      subst e
      rw [kt_us]; exact H
  have hpop : ∀ b : Bool, kc_pop (fun v => decide (v = w)) (kt_u kc_a0 w b) = b.toNat := fun b => by
    unfold kc_pop
    rw [show ks_sm 8 (fun v => (decide (v = w) && kt_u kc_a0 w b v).toNat) = ks_sm 8 (fun i => kt_b (w = i) * b.toNat) from ks_congr 8 (fun v _ => by
      by_cases e : v = w
      · subst e; rw [kt_us, kt_b1 rfl]; simp
      · rw [kt_b0 (fun z => e z.symm)]; simp [e]), ks_one (fun _ => b.toNat), if_pos hw]
  unfold kc_cf
  congr 1
  · rw [← Nat.mul_comm, show (bif bt mt w then 0 else 1) = kt_b (bt mt w = false) from by cases bt mt w <;> simp [kt_bt, kt_bf], ← kt_band]
    apply kt_bc
    rw [hcon, hpop]
    constructor
    · rintro ⟨_, ⟨h1, _⟩, h2⟩
      exact ⟨ts_nt (fun e => by cases h1 e), h2.symm⟩
    · rintro ⟨h1, h2⟩
      exact ⟨trivial, ⟨fun e => (by rw [h1] at e; cases e), fun _ => rfl⟩, h2.symm⟩
  · rw [← Nat.mul_comm, show (bif bt mf w then 0 else 1) = kt_b (bt mf w = false) from by cases bt mf w <;> simp [kt_bt, kt_bf], ← kt_band]
    apply kt_bc
    rw [hcon, hpop]
    constructor
    · rintro ⟨_, ⟨_, h1⟩, h2⟩
      exact ⟨ts_nt (fun e => by cases h1 e), h2.symm⟩
    · rintro ⟨h1, h2⟩
      exact ⟨trivial, ⟨fun _ => rfl, fun e => (by rw [h1] at e; cases e)⟩, h2.symm⟩
/-- one more free variable -/
theorem kc_Sfree {mt mf : Int32} {U W : Nat → Bool} {Q : (Nat → Bool) → Prop} {w : Nat} (hw : w < 8) (hQ : kc_PD U Q) (hU : U w = false) (hW : ∀ v, W v = (U v || decide (v = w))) (j : Nat) :
    kc_S mt mf W Q j = kc_cf mt w * kc_S mt mf U Q j + (if j = 0 then 0 else kc_cf mf w * kc_S mt mf U Q (j - 1)) := by
  rw [kc_Smul (V := fun v => decide (v = w)) (R := fun _ => True) hQ (fun _ _ _ => Iff.rfl) hW (fun v hv => by
    have e : v = w := by simpa using hv.2
    subst e; rw [hU] at hv; cases hv.1) (fun a => ⟨fun h => ⟨h, trivial⟩, fun h => h.1⟩) j]
  have e : ∀ i, kc_S mt mf U Q i * kc_S mt mf (fun v => decide (v = w)) (fun _ => True) (j - i) = kc_S mt mf U Q i * (kt_b (j - i = 0) * kc_cf mt w + kt_b (j - i = 1) * kc_cf mf w) := fun i => by rw [kc_S1 hw]
  cases j with
  | zero =>
    show 0 + kc_S mt mf U Q 0 * kc_S mt mf (fun v => decide (v = w)) (fun _ => True) (0 - 0) = _
    rw [e, kt_b1 (by decide), kt_b0 (by decide), if_pos rfl]; simp [Nat.mul_comm]
  | succ j =>
    show (ks_sm j (fun i => kc_S mt mf U Q i * kc_S mt mf (fun v => decide (v = w)) (fun _ => True) (j + 1 - i)) + kc_S mt mf U Q j * kc_S mt mf (fun v => decide (v = w)) (fun _ => True) (j + 1 - j)) + kc_S mt mf U Q (j + 1) * kc_S mt mf (fun v => decide (v = w)) (fun _ => True) (j + 1 - (j + 1)) = _
    rw [(ks_zero (f := fun i => kc_S mt mf U Q i * kc_S mt mf (fun v => decide (v = w)) (fun _ => True) (j + 1 - i)) j).mpr (fun i hi => by
      show kc_S mt mf U Q i * kc_S mt mf (fun v => decide (v = w)) (fun _ => True) (j + 1 - i) = 0
      rw [e, kt_b0 (by omega), kt_b0 (by omega)]; simp), e, e, kt_b0 (p := j + 1 - j = 0) (by omega), kt_b1 (p := j + 1 - j = 1) (by omega), kt_b1 (p := j + 1 - (j + 1) = 0) (by omega), kt_b0 (p := j + 1 - (j + 1) = 1) (by omega), if_neg (by omega), Nat.add_sub_cancel]
    simp [Nat.mul_comm, Nat.add_comm]
section
variable {po ne fr kd ch : Nat → Int32} {vs : Nat → Nat → Bool} {P : Nat → (Nat → Bool) → Prop} {id c : Nat} {mt mf : Int32}
theorem kc_Sstep (hPD : ∀ x, 1 ≤ x → x < id → kc_PD (vs x) (P x)) (h : kc_PrC po ne fr kd vs P id c) {i : Nat} (hi : i < c) (j : Nat) :
    kc_S mt mf (kc_uv po ne fr kd vs id (i + 1)) (kc_um po ne kd P id (i + 1)) j = ks_sm (j + 1) (fun q => kc_S mt mf (kc_uv po ne fr kd vs id i) (kc_um po ne kd P id i) q * kc_S mt mf (vs (kc_n (kd (id * 4 + i)))) (P (kc_n (kd (id * 4 + i)))) (j - q)) :=
  kc_Smul (kc_umPD hPD h i (by omega)) (hPD _ (h.2.1 i hi).2.1 (h.2.1 i hi).2.2) (fun _ => rfl) (fun v => kc_uvd h hi v) kc_um_s j
theorem kc_Send (h : kc_PrC po ne fr kd vs P id c) (j : Nat) : kc_S mt mf (kc_uv po ne fr kd vs id c) (kc_um po ne kd P id c) j = kc_S mt mf (vs id) (P id) j :=
  kc_Sc (kc_end_V h) (kc_end_P h)
theorem kc_Schoice (h : kc_Ch ch kd vs P id) (j : Nat) : kc_S mt mf (vs id) (P id) j = kc_S mt mf (vs (kc_n (kd (id * 4)))) (P (kc_n (kd (id * 4)))) j + kc_S mt mf (vs (kc_n (kd (id * 4 + 1)))) (P (kc_n (kd (id * 4 + 1)))) j := by
  rw [kc_Sor h.2.2.2.2.2.2 h.2.2.2.2.2.1]
  congr 1
  · exact kc_Sc (fun v => (h.2.2.2.1 v).symm) (fun _ => Iff.rfl)
  · exact kc_Sc (fun v => (h.2.2.2.2.1 v).symm) (fun _ => Iff.rfl)
end
end
section
/-! X's walks: multiplyPoly, sizeProduct, countOfSize -/
section
variable {f_varCount f_slotCount f_fullMask f_draftPos f_draftNeg f_state f_assumedCount f_assumedPos f_assumedNeg f_clauseCount f_nodeCount f_root f_depth f_result f_workPos f_workNeg f_workLive : Int32} {a_slotUsed a_slotPos a_slotNeg a_assumed a_weightPos a_weightNeg a_clausePos a_clauseNeg a_nodeChoice a_nodePos a_nodeNeg a_nodeFree a_nodeKids a_kids a_cacheKey a_cacheNode a_framePos a_frameNeg a_frameFree a_frameParts a_frameNext a_framePhase a_frameVar a_frameHigh a_partVars a_partClauses a_partNode a_value a_sizes a_poly a_product a_factorPos a_factorNeg : Nat → Int32}
theorem kw_mul13 {post : SX → Prop} {J : Int32 → (Nat → Int32) → (Nat → Int32) → (Nat → Int32) → (Nat → Int32) → (Nat → Int32) → (Nat → Int32) → (Nat → Int32) → (Nat → Int32) → (Nat → Int32) → (Nat → Int32) → (Nat → Int32) → (Nat → Int32) → (Nat → Int32) → (Nat → Int32) → (Nat → Int32) → (Nat → Int32) → (Nat → Int32) → (Nat → Int32) → (Nat → Int32) → (Nat → Int32) → (Nat → Int32) → (Nat → Int32) → (Nat → Int32) → (Nat → Int32) → (Nat → Int32) → (Nat → Int32) → (Nat → Int32) → (Nat → Int32) → (Nat → Int32) → (Nat → Int32) → (Nat → Int32) → (Nat → Int32) → (Nat → Int32) → Prop} {q j : Nat} {A B : Nat → Nat} (hq : q < 1024) (hj : j < 9) (hA : ∀ i, i < 9 → a_poly i = nI (A i)) (hB : ∀ i, i < 9 → a_sizes (q * 9 + i) = nI (B i))
    (K : J (nI (j + 1)) a_slotUsed a_slotPos a_slotNeg a_assumed a_weightPos a_weightNeg a_clausePos a_clauseNeg a_nodeChoice a_nodePos a_nodeNeg a_nodeFree a_nodeKids a_kids a_cacheKey a_cacheNode a_framePos a_frameNeg a_frameFree a_frameParts a_frameNext a_framePhase a_frameVar a_frameHigh a_partVars a_partClauses a_partNode a_value a_sizes a_poly (upd a_product j (nI (ks_sm (j + 1) (fun i => A i * B (j - i))))) a_factorPos a_factorNeg) : ∃ n, wX_multiplyPoly_13 post J (nI q) (nI j) f_varCount f_slotCount f_fullMask f_draftPos f_draftNeg f_state f_assumedCount f_assumedPos f_assumedNeg f_clauseCount f_nodeCount f_root f_depth f_result f_workPos f_workNeg f_workLive a_slotUsed a_slotPos a_slotNeg a_assumed a_weightPos a_weightNeg a_clausePos a_clauseNeg a_nodeChoice a_nodePos a_nodeNeg a_nodeFree a_nodeKids a_kids a_cacheKey a_cacheNode a_framePos a_frameNeg a_frameFree a_frameParts a_frameNext a_framePhase a_frameVar a_frameHigh a_partVars a_partClauses a_partNode a_value a_sizes a_poly a_product a_factorPos a_factorNeg n 0 0 := by
  have ej : (nI j).toNatClampNeg = j := nI_clamp (by omega)
  refine loop_0 (fun n i s => wX_multiplyPoly_13 post J (nI q) (nI j) f_varCount f_slotCount f_fullMask f_draftPos f_draftNeg f_state f_assumedCount f_assumedPos f_assumedNeg f_clauseCount f_nodeCount f_root f_depth f_result f_workPos f_workNeg f_workLive a_slotUsed a_slotPos a_slotNeg a_assumed a_weightPos a_weightNeg a_clausePos a_clauseNeg a_nodeChoice a_nodePos a_nodeNeg a_nodeFree a_nodeKids a_kids a_cacheKey a_cacheNode a_framePos a_frameNeg a_frameFree a_frameParts a_frameNext a_framePhase a_frameVar a_frameHigh a_partVars a_partClauses a_partNode a_value a_sizes a_poly a_product a_factorPos a_factorNeg n s (nI i)) (fun i s => s = nI (ks_sm i (fun i => A i * B (j - i)))) (j + 1) 0 rfl ?_ ?_
  · intro n s hs
    subst hs
    refine br_t (nI_lt (by omega) (by omega)) ⟨vp_in_nI hj (by decide), ?_⟩
    intro y ey z ez
    rw [ej] at ey
    subst ey ez
    rw [nI_1 j]
    exact K
  · intro n i s hi hs hk
    subst hs
    have ei : (nI i).toNatClampNeg = i := nI_clamp (by omega)
    have e9 : nI q * 9 + nI j - nI i = nI (q * 9 + (j - i)) := by rw [show (9 : Int32) = nI 9 from rfl, pk_mul, nI_add, pk_sub (by omega)]; congr 1; omega
    have e9' : (nI (q * 9 + (j - i))).toNatClampNeg = q * 9 + (j - i) := nI_clamp (by omega)
    refine br_f (nI_nlt (by omega) (by omega)) ⟨vp_in_nI (by omega) (by decide), ?_⟩
    rw [e9, e9', ei, hA i (by omega), hB (j - i) (by omega), pk_mul, nI_add]
    refine ⟨vp_in_nI (by omega) (by decide), ?_⟩
    intro y ey z ez
    subst ey ez
    rw [nI_1 i]
    exact hk _ rfl
theorem kw_multiplyPoly {post : SX → Prop} {q : Nat} {A B : Nat → Nat} (hq : q < 1024) (hA : ∀ i, i < 9 → a_poly i = nI (A i)) (hB : ∀ i, i < 9 → a_sizes (q * 9 + i) = nI (B i))
    (K : ∀ po pr, (∀ j, j < 9 → po j = nI (ks_sm (j + 1) (fun i => A i * B (j - i)))) → post (f_varCount, f_slotCount, f_fullMask, f_draftPos, f_draftNeg, f_state, f_assumedCount, f_assumedPos, f_assumedNeg, f_clauseCount, f_nodeCount, f_root, f_depth, f_result, f_workPos, f_workNeg, f_workLive, a_slotUsed, a_slotPos, a_slotNeg, a_assumed, a_weightPos, a_weightNeg, a_clausePos, a_clauseNeg, a_nodeChoice, a_nodePos, a_nodeNeg, a_nodeFree, a_nodeKids, a_kids, a_cacheKey, a_cacheNode, a_framePos, a_frameNeg, a_frameFree, a_frameParts, a_frameNext, a_framePhase, a_frameVar, a_frameHigh, a_partVars, a_partClauses, a_partNode, a_value, a_sizes, po, pr, a_factorPos, a_factorNeg)) : wpX_multiplyPoly post (f_varCount, f_slotCount, f_fullMask, f_draftPos, f_draftNeg, f_state, f_assumedCount, f_assumedPos, f_assumedNeg, f_clauseCount, f_nodeCount, f_root, f_depth, f_result, f_workPos, f_workNeg, f_workLive, a_slotUsed, a_slotPos, a_slotNeg, a_assumed, a_weightPos, a_weightNeg, a_clausePos, a_clauseNeg, a_nodeChoice, a_nodePos, a_nodeNeg, a_nodeFree, a_nodeKids, a_kids, a_cacheKey, a_cacheNode, a_framePos, a_frameNeg, a_frameFree, a_frameParts, a_frameNext, a_framePhase, a_frameVar, a_frameHigh, a_partVars, a_partClauses, a_partNode, a_value, a_sizes, a_poly, a_product, a_factorPos, a_factorNeg) (nI q) := by
  refine loop_0 (fun n j s => wX_multiplyPoly_2 post (nI q) f_varCount f_slotCount f_fullMask f_draftPos f_draftNeg f_state f_assumedCount f_assumedPos f_assumedNeg f_clauseCount f_nodeCount f_root f_depth f_result f_workPos f_workNeg f_workLive n (nI j) a_slotUsed a_slotPos a_slotNeg a_assumed a_weightPos a_weightNeg a_clausePos a_clauseNeg a_nodeChoice a_nodePos a_nodeNeg a_nodeFree a_nodeKids a_kids a_cacheKey a_cacheNode a_framePos a_frameNeg a_frameFree a_frameParts a_frameNext a_framePhase a_frameVar a_frameHigh a_partVars a_partClauses a_partNode a_value a_sizes a_poly s a_factorPos a_factorNeg) (fun j s => ∀ i, i < j → s i = nI (ks_sm (i + 1) (fun t => A t * B (i - t)))) 9 a_product (fun i hi => absurd hi (Nat.not_lt_zero _)) ?_ ?_
  · intro n pr hpr
    refine br_t (by decide) ?_
    refine loop_0 (fun n j s => wX_multiplyPoly_65 post f_varCount f_slotCount f_fullMask f_draftPos f_draftNeg f_state f_assumedCount f_assumedPos f_assumedNeg f_clauseCount f_nodeCount f_root f_depth f_result f_workPos f_workNeg f_workLive n (nI j) a_slotUsed a_slotPos a_slotNeg a_assumed a_weightPos a_weightNeg a_clausePos a_clauseNeg a_nodeChoice a_nodePos a_nodeNeg a_nodeFree a_nodeKids a_kids a_cacheKey a_cacheNode a_framePos a_frameNeg a_frameFree a_frameParts a_frameNext a_framePhase a_frameVar a_frameHigh a_partVars a_partClauses a_partNode a_value a_sizes s pr a_factorPos a_factorNeg) (fun j s => ∀ i, i < j → s i = nI (ks_sm (i + 1) (fun t => A t * B (i - t)))) 9 a_poly (fun i hi => absurd hi (Nat.not_lt_zero _)) ?_ ?_
    · intro n s hs
      exact br_t (by decide) (K s pr hs)
    · intro n j s hj hs hk
      have ej : (nI j).toNatClampNeg = j := nI_clamp (by omega)
      refine br_f (nI_ge (b := 9) hj (by decide)) ⟨vp_in_nI hj (by decide), vp_in_nI hj (by decide), ?_⟩
      intro y ey z ez
      rw [ej] at ey
      subst ey ez
      rw [nI_1 j]
      refine hk _ (fun i hi => ?_)
      by_cases e : i = j
      · subst e; rw [pk_us]; exact hpr i (by omega)
      · rw [pk_un e]; exact hs i (by omega)
  · intro n j s hj hs hk
    refine br_f (nI_ge (b := 9) hj (by decide)) ?_
    refine kw_mul13 hq hj hA hB (hk _ (fun i hi => ?_))
    by_cases e : i = j
    · subst e; exact pk_us
    · rw [pk_un e]; exact hs i (by omega)
theorem kw_sp227 {post : SX → Prop} {id : Nat} (hid : id < 1024) (K : ∀ sz, (∀ j, j < 9 → sz (id * 9 + j) = a_poly j) → (∀ t, t < id * 9 → sz t = a_sizes t) → post (f_varCount, f_slotCount, f_fullMask, f_draftPos, f_draftNeg, f_state, f_assumedCount, f_assumedPos, f_assumedNeg, f_clauseCount, f_nodeCount, f_root, f_depth, f_result, f_workPos, f_workNeg, f_workLive, a_slotUsed, a_slotPos, a_slotNeg, a_assumed, a_weightPos, a_weightNeg, a_clausePos, a_clauseNeg, a_nodeChoice, a_nodePos, a_nodeNeg, a_nodeFree, a_nodeKids, a_kids, a_cacheKey, a_cacheNode, a_framePos, a_frameNeg, a_frameFree, a_frameParts, a_frameNext, a_framePhase, a_frameVar, a_frameHigh, a_partVars, a_partClauses, a_partNode, a_value, sz, a_poly, a_product, a_factorPos, a_factorNeg)) :
    ∃ n, wX_sizeProduct_227 post (nI id) f_varCount f_slotCount f_fullMask f_draftPos f_draftNeg f_state f_assumedCount f_assumedPos f_assumedNeg f_clauseCount f_nodeCount f_root f_depth f_result f_workPos f_workNeg f_workLive n 0 a_slotUsed a_slotPos a_slotNeg a_assumed a_weightPos a_weightNeg a_clausePos a_clauseNeg a_nodeChoice a_nodePos a_nodeNeg a_nodeFree a_nodeKids a_kids a_cacheKey a_cacheNode a_framePos a_frameNeg a_frameFree a_frameParts a_frameNext a_framePhase a_frameVar a_frameHigh a_partVars a_partClauses a_partNode a_value a_sizes a_poly a_product a_factorPos a_factorNeg := by
  refine loop_0 (fun n j s => wX_sizeProduct_227 post (nI id) f_varCount f_slotCount f_fullMask f_draftPos f_draftNeg f_state f_assumedCount f_assumedPos f_assumedNeg f_clauseCount f_nodeCount f_root f_depth f_result f_workPos f_workNeg f_workLive n (nI j) a_slotUsed a_slotPos a_slotNeg a_assumed a_weightPos a_weightNeg a_clausePos a_clauseNeg a_nodeChoice a_nodePos a_nodeNeg a_nodeFree a_nodeKids a_kids a_cacheKey a_cacheNode a_framePos a_frameNeg a_frameFree a_frameParts a_frameNext a_framePhase a_frameVar a_frameHigh a_partVars a_partClauses a_partNode a_value s a_poly a_product a_factorPos a_factorNeg) (fun j s => (∀ i, i < j → s (id * 9 + i) = a_poly i) ∧ (∀ t, t < id * 9 → s t = a_sizes t)) 9 a_sizes ⟨fun i hi => absurd hi (Nat.not_lt_zero _), fun _ _ => rfl⟩ ?_ ?_
  · intro n s hs
    exact br_t (by decide) (K s hs.1 hs.2)
  · intro n j s hj hs hk
    have ej : (nI j).toNatClampNeg = j := nI_clamp (by omega)
    have e9 : nI id * 9 + nI j = nI (id * 9 + j) := by rw [show (9 : Int32) = nI 9 from rfl, pk_mul, nI_add]
    refine br_f (nI_ge (b := 9) hj (by decide)) ⟨vp_in_nI hj (by decide), ?_⟩
    rw [e9, nI_clamp (n := id * 9 + j) (by omega), ej]
    refine ⟨vp_in_nI (by omega) (by decide), ?_⟩
    intro y ey z ez
    subst ey ez
    rw [nI_1 j]
    refine hk _ ⟨fun i hi => ?_, fun t ht => by rw [pk_un (by omega)]; exact hs.2 t ht⟩
    by_cases e : i = j
    · subst e; exact pk_us
    · rw [pk_un (by omega)]; exact hs.1 i (by omega)
theorem kw_sp126 {post : SX → Prop} {J : Int32 → (Nat → Int32) → (Nat → Int32) → (Nat → Int32) → (Nat → Int32) → (Nat → Int32) → (Nat → Int32) → (Nat → Int32) → (Nat → Int32) → (Nat → Int32) → (Nat → Int32) → (Nat → Int32) → (Nat → Int32) → (Nat → Int32) → (Nat → Int32) → (Nat → Int32) → (Nat → Int32) → (Nat → Int32) → (Nat → Int32) → (Nat → Int32) → (Nat → Int32) → (Nat → Int32) → (Nat → Int32) → (Nat → Int32) → (Nat → Int32) → (Nat → Int32) → (Nat → Int32) → (Nat → Int32) → (Nat → Int32) → (Nat → Int32) → (Nat → Int32) → (Nat → Int32) → (Nat → Int32) → (Nat → Int32) → Prop} {x1 x2 : Int32} {c0 c1 : Nat} {A : Nat → Nat} (hA : ∀ i, i < 9 → a_poly i = nI (A i))
    (K : ∀ po, (∀ i, i < 9 → po i = nI (c0 * A i + (if i = 0 then 0 else c1 * A (i - 1)))) → J (x2 + 1) a_slotUsed a_slotPos a_slotNeg a_assumed a_weightPos a_weightNeg a_clausePos a_clauseNeg a_nodeChoice a_nodePos a_nodeNeg a_nodeFree a_nodeKids a_kids a_cacheKey a_cacheNode a_framePos a_frameNeg a_frameFree a_frameParts a_frameNext a_framePhase a_frameVar a_frameHigh a_partVars a_partClauses a_partNode a_value a_sizes po a_product a_factorPos a_factorNeg) :
    ∃ n, wX_sizeProduct_126 post J x1 x2 (nI c0) (nI c1) f_varCount f_slotCount f_fullMask f_draftPos f_draftNeg f_state f_assumedCount f_assumedPos f_assumedNeg f_clauseCount f_nodeCount f_root f_depth f_result f_workPos f_workNeg f_workLive n 8 a_slotUsed a_slotPos a_slotNeg a_assumed a_weightPos a_weightNeg a_clausePos a_clauseNeg a_nodeChoice a_nodePos a_nodeNeg a_nodeFree a_nodeKids a_kids a_cacheKey a_cacheNode a_framePos a_frameNeg a_frameFree a_frameParts a_frameNext a_framePhase a_frameVar a_frameHigh a_partVars a_partClauses a_partNode a_value a_sizes a_poly a_product a_factorPos a_factorNeg := by
  refine ⟨9, pk_loopD (fun n j s => wX_sizeProduct_126 post J x1 x2 (nI c0) (nI c1) f_varCount f_slotCount f_fullMask f_draftPos f_draftNeg f_state f_assumedCount f_assumedPos f_assumedNeg f_clauseCount f_nodeCount f_root f_depth f_result f_workPos f_workNeg f_workLive n (nI j) a_slotUsed a_slotPos a_slotNeg a_assumed a_weightPos a_weightNeg a_clausePos a_clauseNeg a_nodeChoice a_nodePos a_nodeNeg a_nodeFree a_nodeKids a_kids a_cacheKey a_cacheNode a_framePos a_frameNeg a_frameFree a_frameParts a_frameNext a_framePhase a_frameVar a_frameHigh a_partVars a_partClauses a_partNode a_value a_sizes s a_product a_factorPos a_factorNeg)
    (fun j s => j ≤ 8 ∧ (∀ i, i ≤ j → s i = nI (A i)) ∧ (∀ i, j < i → i < 9 → s i = nI (c0 * A i + (if i = 0 then 0 else c1 * A (i - 1))))) ?_ ?_ 8 a_poly ⟨Nat.le_refl _, fun i hi => hA i (by omega), fun i h1 h2 => by omega⟩⟩
  · intro n s hs
    refine br_t (by decide) ?_
    intro y ey z ez
    subst ey ez
    refine K _ (fun i hi => ?_)
    by_cases e : i = 0
    · subst e
      rw [pk_us, hs.2.1 0 (by omega), pk_mul, if_pos rfl, Nat.add_zero]
    · rw [pk_un e]; exact hs.2.2 i (by omega) hi
  · intro n j s hs hk
    have hj8 := hs.1
    have ej : (nI (j + 1)).toNatClampNeg = j + 1 := nI_clamp (by omega)
    have ej' : (nI j).toNatClampNeg = j := nI_clamp (by omega)
    refine br_f (nI_nle (by omega) (by omega)) ⟨vp_in_nI (by omega) (by decide), ?_⟩
    rw [nI_pred j, ej, ej', hs.2.1 (j + 1) (by omega), hs.2.1 j (by omega), pk_mul, pk_mul, nI_add]
    refine ⟨vp_in_nI (by omega) (by decide), vp_in_nI (by omega) (by decide), ?_⟩
    intro y ey z ez
    subst ey ez
    rw [pk_m1 j]
    refine hk _ ⟨by omega, fun i hi => by rw [pk_un (by omega)]; exact hs.2.1 i (by omega), fun i h1 h2 => ?_⟩
    by_cases e : i = j + 1
    · subst e; rw [pk_us, if_neg (by omega), Nat.add_sub_cancel]
    · rw [pk_un e]; exact hs.2.2 i (by omega) h2
variable {vs : Nat → Nat → Bool} {P : Nat → (Nat → Bool) → Prop} {nc rt : Nat}
noncomputable def kc_Sv (mt mf : Int32) (vs : Nat → Nat → Bool) (P : Nat → (Nat → Bool) → Prop) (id j : Nat) : Nat := if id = 0 then 0 else kc_S mt mf (vs id) (P id) j
theorem kc_Sv0 {mt mf : Int32} {j : Nat} : kc_Sv mt mf vs P 0 j = 0 := by unfold kc_Sv; exact if_pos rfl
theorem kc_SvS {mt mf : Int32} {id j : Nat} (h : 1 ≤ id) : kc_Sv mt mf vs P id j = kc_S mt mf (vs id) (P id) j := by unfold kc_Sv; exact if_neg (by omega)
theorem kw_sp190 {post : SX → Prop} {id c : Nat} (hi : 1 ≤ id) (hi2 : id < 1024) (hkc : a_nodeKids id = nI c) (hPD : ∀ x, 1 ≤ x → x < id → kc_PD (vs x) (P x)) (h : kc_PrC a_nodePos a_nodeNeg a_nodeFree a_kids vs P id c)
    (hsz : ∀ q, q < id → ∀ j, j < 9 → a_sizes (q * 9 + j) = nI (kc_Sv f_assumedPos f_assumedNeg vs P q j))
    (hpo : ∀ j, j < 9 → a_poly j = nI (kc_S f_assumedPos f_assumedNeg (kc_uv a_nodePos a_nodeNeg a_nodeFree a_kids vs id 0) (kc_um a_nodePos a_nodeNeg a_kids P id 0) j))
    (K : ∀ po pr sz, (∀ j, j < 9 → sz (id * 9 + j) = nI (kc_S f_assumedPos f_assumedNeg (vs id) (P id) j)) → (∀ t, t < id * 9 → sz t = a_sizes t) → post (f_varCount, f_slotCount, f_fullMask, f_draftPos, f_draftNeg, f_state, f_assumedCount, f_assumedPos, f_assumedNeg, f_clauseCount, f_nodeCount, f_root, f_depth, f_result, f_workPos, f_workNeg, f_workLive, a_slotUsed, a_slotPos, a_slotNeg, a_assumed, a_weightPos, a_weightNeg, a_clausePos, a_clauseNeg, a_nodeChoice, a_nodePos, a_nodeNeg, a_nodeFree, a_nodeKids, a_kids, a_cacheKey, a_cacheNode, a_framePos, a_frameNeg, a_frameFree, a_frameParts, a_frameNext, a_framePhase, a_frameVar, a_frameHigh, a_partVars, a_partClauses, a_partNode, a_value, sz, po, pr, a_factorPos, a_factorNeg)) :
    ∃ n, wX_sizeProduct_190 post (nI id) n 0 f_varCount f_slotCount f_fullMask f_draftPos f_draftNeg f_state f_assumedCount f_assumedPos f_assumedNeg f_clauseCount f_nodeCount f_root f_depth f_result f_workPos f_workNeg f_workLive a_slotUsed a_slotPos a_slotNeg a_assumed a_weightPos a_weightNeg a_clausePos a_clauseNeg a_nodeChoice a_nodePos a_nodeNeg a_nodeFree a_nodeKids a_kids a_cacheKey a_cacheNode a_framePos a_frameNeg a_frameFree a_frameParts a_frameNext a_framePhase a_frameVar a_frameHigh a_partVars a_partClauses a_partNode a_value a_sizes a_poly a_product a_factorPos a_factorNeg := by
  have ei : (nI id).toNatClampNeg = id := nI_clamp (by omega)
  have hc4 := h.1
  refine loop_0 (σ := (Nat → Int32) × (Nat → Int32)) (fun n j s => wX_sizeProduct_190 post (nI id) n (nI j) f_varCount f_slotCount f_fullMask f_draftPos f_draftNeg f_state f_assumedCount f_assumedPos f_assumedNeg f_clauseCount f_nodeCount f_root f_depth f_result f_workPos f_workNeg f_workLive a_slotUsed a_slotPos a_slotNeg a_assumed a_weightPos a_weightNeg a_clausePos a_clauseNeg a_nodeChoice a_nodePos a_nodeNeg a_nodeFree a_nodeKids a_kids a_cacheKey a_cacheNode a_framePos a_frameNeg a_frameFree a_frameParts a_frameNext a_framePhase a_frameVar a_frameHigh a_partVars a_partClauses a_partNode a_value a_sizes s.1 s.2 a_factorPos a_factorNeg) (fun j s => ∀ i, i < 9 → s.1 i = nI (kc_S f_assumedPos f_assumedNeg (kc_uv a_nodePos a_nodeNeg a_nodeFree a_kids vs id j) (kc_um a_nodePos a_nodeNeg a_kids P id j) i)) c (a_poly, a_product) hpo ?_ ?_
  · rintro n ⟨po, pr⟩ hs
    dsimp only at hs ⊢
    refine ⟨vp_in_nI hi2 (by decide), ?_⟩
    rw [ei, hkc]
    refine br_t (nI_le (Nat.le_refl _) (by omega)) ?_
    exact kw_sp227 hi2 (fun sz h1 h2 => K po pr sz (fun j hj => by rw [h1 j hj, hs j hj, kc_Send h]) h2)
  · rintro n j ⟨po, pr⟩ hj hs hk
    dsimp only at hs hk ⊢
    have e4 : nI id * 4 + nI j = nI (id * 4 + j) := by rw [show (4 : Int32) = nI 4 from rfl, pk_mul, nI_add]
    have ek := h.2.1 j hj
    refine ⟨vp_in_nI hi2 (by decide), ?_⟩
    rw [ei, hkc]
    refine br_f (nI_ge hj (by omega)) (br_f (nI_ge (b := 4) (by omega) (by decide)) ?_)
    rw [e4, nI_clamp (n := id * 4 + j) (by omega)]
    refine ⟨vp_in_nI (by omega) (by decide), ?_⟩
    rw [ek.1]
    have hlt := ek.2.2
    refine kw_multiplyPoly (q := kc_n (a_kids (id * 4 + j))) (by omega) hs (fun i hi' => hsz _ ek.2.2 i hi') (fun po' pr' h' => ?_)
    intro y ey
    subst ey
    rw [nI_1 j]
    refine hk (po', pr') (fun i hi' => ?_)
    dsimp only
    rw [h' i hi', kc_Sstep hPD h hj]
    congr 1
    exact ks_congr _ (fun t _ => by rw [kc_SvS ek.2.1])
theorem kw_sp69 {post : SX → Prop} {id : Nat} (hi2 : id < 1024) (hd : kc_Dj (a_nodePos id) (a_nodeNeg id) (a_nodeFree id))
    (hpo : ∀ j, j < 9 → a_poly j = nI (kc_S f_assumedPos f_assumedNeg (kc_lit (a_nodePos id) (a_nodeNeg id)) (kc_Po (a_nodePos id) (a_nodeNeg id)) j))
    (h8 : ∀ v, kc_own (a_nodePos id) (a_nodeNeg id) (a_nodeFree id) v = true → v < 8)
    (K : ∀ po, (∀ j, j < 9 → po j = nI (kc_S f_assumedPos f_assumedNeg (kc_own (a_nodePos id) (a_nodeNeg id) (a_nodeFree id)) (kc_Po (a_nodePos id) (a_nodeNeg id)) j)) → ∃ n, wX_sizeProduct_190 post (nI id) n 0 f_varCount f_slotCount f_fullMask f_draftPos f_draftNeg f_state f_assumedCount f_assumedPos f_assumedNeg f_clauseCount f_nodeCount f_root f_depth f_result f_workPos f_workNeg f_workLive a_slotUsed a_slotPos a_slotNeg a_assumed a_weightPos a_weightNeg a_clausePos a_clauseNeg a_nodeChoice a_nodePos a_nodeNeg a_nodeFree a_nodeKids a_kids a_cacheKey a_cacheNode a_framePos a_frameNeg a_frameFree a_frameParts a_frameNext a_framePhase a_frameVar a_frameHigh a_partVars a_partClauses a_partNode a_value a_sizes po a_product a_factorPos a_factorNeg) :
    ∃ n, wX_sizeProduct_69 post (nI id) f_varCount f_slotCount f_fullMask f_draftPos f_draftNeg f_state f_assumedCount f_assumedPos f_assumedNeg f_clauseCount f_nodeCount f_root f_depth f_result f_workPos f_workNeg f_workLive n 0 a_slotUsed a_slotPos a_slotNeg a_assumed a_weightPos a_weightNeg a_clausePos a_clauseNeg a_nodeChoice a_nodePos a_nodeNeg a_nodeFree a_nodeKids a_kids a_cacheKey a_cacheNode a_framePos a_frameNeg a_frameFree a_frameParts a_frameNext a_framePhase a_frameVar a_frameHigh a_partVars a_partClauses a_partNode a_value a_sizes a_poly a_product a_factorPos a_factorNeg := by
  have ei : (nI id).toNatClampNeg = id := nI_clamp (by omega)
  refine loop_0 (fun n k s => wX_sizeProduct_69 post (nI id) f_varCount f_slotCount f_fullMask f_draftPos f_draftNeg f_state f_assumedCount f_assumedPos f_assumedNeg f_clauseCount f_nodeCount f_root f_depth f_result f_workPos f_workNeg f_workLive n (nI k) a_slotUsed a_slotPos a_slotNeg a_assumed a_weightPos a_weightNeg a_clausePos a_clauseNeg a_nodeChoice a_nodePos a_nodeNeg a_nodeFree a_nodeKids a_kids a_cacheKey a_cacheNode a_framePos a_frameNeg a_frameFree a_frameParts a_frameNext a_framePhase a_frameVar a_frameHigh a_partVars a_partClauses a_partNode a_value a_sizes s a_product a_factorPos a_factorNeg)
    (fun k s => ∀ j, j < 9 → s j = nI (kc_S f_assumedPos f_assumedNeg (fun v => kc_lit (a_nodePos id) (a_nodeNeg id) v || (bt (a_nodeFree id) v && decide (v < k))) (kc_Po (a_nodePos id) (a_nodeNeg id)) j)) 8 a_poly ?_ ?_ ?_
  · intro j hj
    rw [hpo j hj]
    congr 1
    exact kc_Sc (fun v => by simp) (fun _ => Iff.rfl)
  · intro n s hs
    refine br_t (by decide) (K s (fun j hj => ?_))
    rw [hs j hj]
    congr 1
    refine kc_Sc (fun v => ?_) (fun _ => Iff.rfl)
    show (kc_lit (a_nodePos id) (a_nodeNeg id) v || (bt (a_nodeFree id) v && decide (v < 8))) = (kc_lit (a_nodePos id) (a_nodeNeg id) v || bt (a_nodeFree id) v)
    cases e : bt (a_nodeFree id) v with
    | false => simp
    | true =>
      have := h8 v (by unfold kc_own; rw [e]; simp)
      simp [this]
  · intro n k s hk hs hc
    refine br_f (nI_ge (b := 8) hk (by decide)) ?_
    intro x3 e3
    subst e3
    refine ⟨vp_in_nI hi2 (by decide), ?_⟩
    rw [ei]
    refine br_c (fun z => ?_) (fun z => ?_)
    · rw [kb_t _ (by omega)] at z
      intro y ey
      subst ey
      rw [nI_1 k]
      refine hc s (fun j hj => ?_)
      rw [hs j hj]
      congr 1
      refine kc_Sc (fun v => ?_) (fun _ => Iff.rfl)
      by_cases e : v = k
      · subst e; simp [z]
      · rw [show decide (v < k) = decide (v < k + 1) from decide_eq_decide.mpr (by omega)]
    · rw [kb_t _ (by omega)] at z
      have z' := ts_nf z
      have hU : (fun v => kc_lit (a_nodePos id) (a_nodeNeg id) v || (bt (a_nodeFree id) v && decide (v < k))) k = false := by
        have h1 : bt (a_nodePos id) k = false := ts_nt (fun e => (hd k).2.1 ⟨e, z'⟩)
        have h2 : bt (a_nodeNeg id) k = false := ts_nt (fun e => (hd k).2.2 ⟨e, z'⟩)
        simp [kc_lit, h1, h2]
      have hPD : kc_PD (fun v => kc_lit (a_nodePos id) (a_nodeNeg id) v || (bt (a_nodeFree id) v && decide (v < k))) (kc_Po (a_nodePos id) (a_nodeNeg id)) := fun a b hab => kc_litPD _ _ a b (fun v hv => hab v (by dsimp only; rw [hv]; rfl))
      have go : ∀ c0 c1 : Int32, c0 = nI (kc_cf f_assumedPos k) → c1 = nI (kc_cf f_assumedNeg k) → ∃ n126, wX_sizeProduct_126 post (wX_sizeProduct_69 post (nI id) f_varCount f_slotCount f_fullMask f_draftPos f_draftNeg f_state f_assumedCount f_assumedPos f_assumedNeg f_clauseCount f_nodeCount f_root f_depth f_result f_workPos f_workNeg f_workLive n) (nI id) (nI k) c0 c1 f_varCount f_slotCount f_fullMask f_draftPos f_draftNeg f_state f_assumedCount f_assumedPos f_assumedNeg f_clauseCount f_nodeCount f_root f_depth f_result f_workPos f_workNeg f_workLive n126 8 a_slotUsed a_slotPos a_slotNeg a_assumed a_weightPos a_weightNeg a_clausePos a_clauseNeg a_nodeChoice a_nodePos a_nodeNeg a_nodeFree a_nodeKids a_kids a_cacheKey a_cacheNode a_framePos a_frameNeg a_frameFree a_frameParts a_frameNext a_framePhase a_frameVar a_frameHigh a_partVars a_partClauses a_partNode a_value a_sizes s a_product a_factorPos a_factorNeg := by
        intro c0 c1 h0 h1
        subst h0 h1
        refine kw_sp126 hs (fun po hpo => ?_)
        rw [nI_1 k]
        refine hc po (fun j hj => ?_)
        rw [hpo j hj]
        congr 1
        refine (kc_Sfree (w := k) hk hPD hU (fun v => ?_) j).symm
        by_cases e : v = k
        · subst e; simp [z']
        · rw [show decide (v < k) = decide (v < k + 1) from decide_eq_decide.mpr (by omega)]; simp [e]
      have cf0 : ∀ {m : Int32}, (m &&& ((1 : Int32) <<< (nI k &&& 31))) = 0 → (1 : Int32) = nI (kc_cf m k) := fun h => by
        rw [kb_t _ (by omega)] at h
        unfold kc_cf; rw [h]; rfl
      have cf1 : ∀ {m : Int32}, ¬ (m &&& ((1 : Int32) <<< (nI k &&& 31))) = 0 → (0 : Int32) = nI (kc_cf m k) := fun h => by
        rw [kb_t _ (by omega)] at h
        unfold kc_cf; rw [ts_nf h]; rfl
      refine br_c (fun p => br_c (fun q => ?_) (fun q => ?_)) (fun p => br_c (fun q => ?_) (fun q => ?_))
      · exact go 1 1 (cf0 p) (cf0 q)
      · exact go 1 0 (cf0 p) (cf1 q)
      · exact go 0 1 (cf1 p) (cf0 q)
      · exact go 0 0 (cf1 p) (cf1 q)
theorem kw_sizeProduct {post : SX → Prop} {id c : Nat} (hi : 1 ≤ id) (hi2 : id < 1024) (hkc : a_nodeKids id = nI c) (hPD : ∀ x, 1 ≤ x → x < id → kc_PD (vs x) (P x)) (h : kc_PrC a_nodePos a_nodeNeg a_nodeFree a_kids vs P id c)
    (h8 : ∀ v, vs id v = true → v < 8)
    (hsz : ∀ q, q < id → ∀ j, j < 9 → a_sizes (q * 9 + j) = nI (kc_Sv f_assumedPos f_assumedNeg vs P q j))
    (K : ∀ po pr sz, (∀ j, j < 9 → sz (id * 9 + j) = nI (kc_S f_assumedPos f_assumedNeg (vs id) (P id) j)) → (∀ t, t < id * 9 → sz t = a_sizes t) → post (f_varCount, f_slotCount, f_fullMask, f_draftPos, f_draftNeg, f_state, f_assumedCount, f_assumedPos, f_assumedNeg, f_clauseCount, f_nodeCount, f_root, f_depth, f_result, f_workPos, f_workNeg, f_workLive, a_slotUsed, a_slotPos, a_slotNeg, a_assumed, a_weightPos, a_weightNeg, a_clausePos, a_clauseNeg, a_nodeChoice, a_nodePos, a_nodeNeg, a_nodeFree, a_nodeKids, a_kids, a_cacheKey, a_cacheNode, a_framePos, a_frameNeg, a_frameFree, a_frameParts, a_frameNext, a_framePhase, a_frameVar, a_frameHigh, a_partVars, a_partClauses, a_partNode, a_value, sz, po, pr, a_factorPos, a_factorNeg)) :
    wpX_sizeProduct post (f_varCount, f_slotCount, f_fullMask, f_draftPos, f_draftNeg, f_state, f_assumedCount, f_assumedPos, f_assumedNeg, f_clauseCount, f_nodeCount, f_root, f_depth, f_result, f_workPos, f_workNeg, f_workLive, a_slotUsed, a_slotPos, a_slotNeg, a_assumed, a_weightPos, a_weightNeg, a_clausePos, a_clauseNeg, a_nodeChoice, a_nodePos, a_nodeNeg, a_nodeFree, a_nodeKids, a_kids, a_cacheKey, a_cacheNode, a_framePos, a_frameNeg, a_frameFree, a_frameParts, a_frameNext, a_framePhase, a_frameVar, a_frameHigh, a_partVars, a_partClauses, a_partNode, a_value, a_sizes, a_poly, a_product, a_factorPos, a_factorNeg) (nI id) := by
  have ei : (nI id).toNatClampNeg = id := nI_clamp (by omega)
  have hin : vp_in (nI id) 1024 := vp_in_nI hi2 (by decide)
  have ho : ∀ v, kc_own (a_nodePos id) (a_nodeNeg id) (a_nodeFree id) v = true → v < 8 := fun v hv => h8 v ((h.2.2.2.2.2.1 v).mpr (Or.inl hv))
  have lp : kb_lo8 (a_nodePos id) := fun v hv => ho v (by unfold kc_own; rw [hv]; rfl)
  have ln : kb_lo8 (a_nodeNeg id) := fun v hv => ho v (by unfold kc_own; rw [hv]; simp)
  have hdd : kb_dis (a_nodePos id) (a_nodeNeg id) := fun v => (h.2.2.1 v).1
  have run : ∀ s : Nat → Int32, (∀ j, j < 9 → s j = nI (kc_S f_assumedPos f_assumedNeg (kc_lit (a_nodePos id) (a_nodeNeg id)) (kc_Po (a_nodePos id) (a_nodeNeg id)) j)) → ∃ n69, wX_sizeProduct_69 post (nI id) f_varCount f_slotCount f_fullMask f_draftPos f_draftNeg f_state f_assumedCount f_assumedPos f_assumedNeg f_clauseCount f_nodeCount f_root f_depth f_result f_workPos f_workNeg f_workLive n69 0 a_slotUsed a_slotPos a_slotNeg a_assumed a_weightPos a_weightNeg a_clausePos a_clauseNeg a_nodeChoice a_nodePos a_nodeNeg a_nodeFree a_nodeKids a_kids a_cacheKey a_cacheNode a_framePos a_frameNeg a_frameFree a_frameParts a_frameNext a_framePhase a_frameVar a_frameHigh a_partVars a_partClauses a_partNode a_value a_sizes s a_product a_factorPos a_factorNeg := by
    intro s hs
    refine kw_sp69 hi2 h.2.2.1 hs ho (fun po hpo => ?_)
    refine kw_sp190 hi hi2 hkc hPD h hsz (fun j hj => ?_) K
    rw [hpo j hj]
    congr 1
    exact kc_Sc (fun _ => rfl) (fun a => ⟨fun H => ⟨H, fun j hj => absurd hj (Nat.not_lt_zero _)⟩, fun H => H.1⟩)
  refine loop_0 (fun n k s => wX_sizeProduct_2 post (nI id) f_varCount f_slotCount f_fullMask f_draftPos f_draftNeg f_state f_assumedCount f_assumedPos f_assumedNeg f_clauseCount f_nodeCount f_root f_depth f_result f_workPos f_workNeg f_workLive n (nI k) a_slotUsed a_slotPos a_slotNeg a_assumed a_weightPos a_weightNeg a_clausePos a_clauseNeg a_nodeChoice a_nodePos a_nodeNeg a_nodeFree a_nodeKids a_kids a_cacheKey a_cacheNode a_framePos a_frameNeg a_frameFree a_frameParts a_frameNext a_framePhase a_frameVar a_frameHigh a_partVars a_partClauses a_partNode a_value a_sizes s a_product a_factorPos a_factorNeg) (fun k s => ∀ j, j < k → s j = 0) 9 a_poly (fun j hj => absurd hj (Nat.not_lt_zero _)) ?_ ?_
  · intro n s hs
    refine br_t (by decide) ⟨hin, ?_⟩
    rw [ei]
    refine br_c (fun c1 => ⟨hin, br_c (fun c2 => ⟨hin, ?_⟩) (fun c2 => ?_)⟩) (fun c1 => ?_)
    · refine kw_bitCount _ ?_
      have hc8 := kb_cd8 (bt (a_nodePos id))
      refine ⟨vp_in_nI (by omega) (by decide), ?_⟩
      rw [nI_clamp (n := kb_cd (bt (a_nodePos id))) (by omega)]
      intro y ey
      subst ey
      refine run _ (fun j hj => ?_)
      rw [kc_Sbase lp ln hdd]
      by_cases e : j = kb_cd (bt (a_nodePos id))
      · subst e; rw [pk_us, kt_b1 ⟨⟨c1, c2⟩, rfl⟩]; rfl
      · rw [pk_un e, hs j hj, kt_b0 (fun z => e z.2.symm)]; rfl
    · refine run s (fun j hj => ?_)
      rw [kc_Sbase lp ln hdd, hs j hj, kt_b0 (fun z => c2 z.1.2)]; rfl
    · refine run s (fun j hj => ?_)
      rw [kc_Sbase lp ln hdd, hs j hj, kt_b0 (fun z => c1 z.1.1)]; rfl
  · intro n k s hk hs hc
    have ek : (nI k).toNatClampNeg = k := nI_clamp (by omega)
    refine br_f (nI_ge (b := 9) hk (by decide)) ⟨vp_in_nI hk (by decide), ?_⟩
    intro y ey z ez
    rw [ek] at ey
    subst ey ez
    rw [nI_1 k]
    refine hc _ (fun j hj => ?_)
    by_cases e : j = k
    · subst e; exact pk_us
    · rw [pk_un e]; exact hs j (by omega)
theorem kw_cos73 {post : Int32 → SX → Prop} {J : Int32 → Int32 → Int32 → Int32 → Int32 → Int32 → Int32 → Int32 → Int32 → Int32 → Int32 → Int32 → Int32 → Int32 → Int32 → Int32 → Int32 → Int32 → (Nat → Int32) → (Nat → Int32) → (Nat → Int32) → (Nat → Int32) → (Nat → Int32) → (Nat → Int32) → (Nat → Int32) → (Nat → Int32) → (Nat → Int32) → (Nat → Int32) → (Nat → Int32) → (Nat → Int32) → (Nat → Int32) → (Nat → Int32) → (Nat → Int32) → (Nat → Int32) → (Nat → Int32) → (Nat → Int32) → (Nat → Int32) → (Nat → Int32) → (Nat → Int32) → (Nat → Int32) → (Nat → Int32) → (Nat → Int32) → (Nat → Int32) → (Nat → Int32) → (Nat → Int32) → (Nat → Int32) → (Nat → Int32) → (Nat → Int32) → (Nat → Int32) → (Nat → Int32) → (Nat → Int32) → Prop} {x1 : Int32} {id h l : Nat} (hi2 : id < 1024) (hh : h < id) (hl : l < id)
    (K : ∀ sz, (∀ j, j < 9 → sz (id * 9 + j) = a_sizes (h * 9 + j) + a_sizes (l * 9 + j)) → (∀ t, t < id * 9 → sz t = a_sizes t) → J (nI (id + 1)) f_varCount f_slotCount f_fullMask f_draftPos f_draftNeg f_state f_assumedCount f_assumedPos f_assumedNeg f_clauseCount f_nodeCount f_root f_depth f_result f_workPos f_workNeg f_workLive a_slotUsed a_slotPos a_slotNeg a_assumed a_weightPos a_weightNeg a_clausePos a_clauseNeg a_nodeChoice a_nodePos a_nodeNeg a_nodeFree a_nodeKids a_kids a_cacheKey a_cacheNode a_framePos a_frameNeg a_frameFree a_frameParts a_frameNext a_framePhase a_frameVar a_frameHigh a_partVars a_partClauses a_partNode a_value sz a_poly a_product a_factorPos a_factorNeg) :
    ∃ n, wX_countOfSize_73 post J x1 (nI id) (nI (h * 9)) (nI (l * 9)) f_varCount f_slotCount f_fullMask f_draftPos f_draftNeg f_state f_assumedCount f_assumedPos f_assumedNeg f_clauseCount f_nodeCount f_root f_depth f_result f_workPos f_workNeg f_workLive n 0 a_slotUsed a_slotPos a_slotNeg a_assumed a_weightPos a_weightNeg a_clausePos a_clauseNeg a_nodeChoice a_nodePos a_nodeNeg a_nodeFree a_nodeKids a_kids a_cacheKey a_cacheNode a_framePos a_frameNeg a_frameFree a_frameParts a_frameNext a_framePhase a_frameVar a_frameHigh a_partVars a_partClauses a_partNode a_value a_sizes a_poly a_product a_factorPos a_factorNeg := by
  refine loop_0 (fun n j s => wX_countOfSize_73 post J x1 (nI id) (nI (h * 9)) (nI (l * 9)) f_varCount f_slotCount f_fullMask f_draftPos f_draftNeg f_state f_assumedCount f_assumedPos f_assumedNeg f_clauseCount f_nodeCount f_root f_depth f_result f_workPos f_workNeg f_workLive n (nI j) a_slotUsed a_slotPos a_slotNeg a_assumed a_weightPos a_weightNeg a_clausePos a_clauseNeg a_nodeChoice a_nodePos a_nodeNeg a_nodeFree a_nodeKids a_kids a_cacheKey a_cacheNode a_framePos a_frameNeg a_frameFree a_frameParts a_frameNext a_framePhase a_frameVar a_frameHigh a_partVars a_partClauses a_partNode a_value s a_poly a_product a_factorPos a_factorNeg) (fun j s => (∀ i, i < j → s (id * 9 + i) = a_sizes (h * 9 + i) + a_sizes (l * 9 + i)) ∧ (∀ t, t < id * 9 → s t = a_sizes t)) 9 a_sizes ⟨fun i hi => absurd hi (Nat.not_lt_zero _), fun _ _ => rfl⟩ ?_ ?_
  · intro n s hs
    refine br_t (by decide) ?_
    intro y ey
    subst ey
    rw [nI_1 id]
    exact K s hs.1 hs.2
  · intro n j s hj hs hk
    have e9 : nI id * 9 + nI j = nI (id * 9 + j) := by rw [show (9 : Int32) = nI 9 from rfl, pk_mul, nI_add]
    refine br_f (nI_ge (b := 9) hj (by decide)) ?_
    rw [e9, nI_add, nI_add, nI_clamp (n := id * 9 + j) (by omega), nI_clamp (n := h * 9 + j) (by omega), nI_clamp (n := l * 9 + j) (by omega)]
    refine ⟨vp_in_nI (by omega) (by decide), vp_in_nI (by omega) (by decide), vp_in_nI (by omega) (by decide), ?_⟩
    intro y ey z ez
    subst ey ez
    rw [nI_1 j]
    refine hk _ ⟨fun i hi => ?_, fun t ht => by rw [pk_un (by omega)]; exact hs.2 t ht⟩
    by_cases e : i = j
    · subst e; rw [pk_us, hs.2 _ (by omega), hs.2 _ (by omega)]
    · rw [pk_un (by omega)]; exact hs.1 i (by omega)
theorem kw_countOfSize {post : Int32 → SX → Prop} {k : Nat} (hst : ¬ f_state = 0) {n : Nat} (hvc : f_varCount = nI n) (hn8 : n ≤ 8) (hk : k ≤ n) (hnc : f_nodeCount = nI nc) (hn1 : 1 ≤ nc) (hn2 : nc ≤ 1024) (hrt : f_root = nI rt) (hr2 : rt < nc)
    (hC : kc_C nc a_nodeChoice a_nodePos a_nodeNeg a_nodeFree a_nodeKids a_kids vs P) (hz : ∀ j, j < 9 → a_sizes j = 0)
    (K : ∀ po pr sz, (∀ j, j < 9 → sz j = 0) → post (nI (kc_Sv f_assumedPos f_assumedNeg vs P rt k)) (f_varCount, f_slotCount, f_fullMask, f_draftPos, f_draftNeg, f_state, f_assumedCount, f_assumedPos, f_assumedNeg, f_clauseCount, f_nodeCount, f_root, f_depth, f_result, f_workPos, f_workNeg, f_workLive, a_slotUsed, a_slotPos, a_slotNeg, a_assumed, a_weightPos, a_weightNeg, a_clausePos, a_clauseNeg, a_nodeChoice, a_nodePos, a_nodeNeg, a_nodeFree, a_nodeKids, a_kids, a_cacheKey, a_cacheNode, a_framePos, a_frameNeg, a_frameFree, a_frameParts, a_frameNext, a_framePhase, a_frameVar, a_frameHigh, a_partVars, a_partClauses, a_partNode, a_value, sz, po, pr, a_factorPos, a_factorNeg)) : wpX_countOfSize post (f_varCount, f_slotCount, f_fullMask, f_draftPos, f_draftNeg, f_state, f_assumedCount, f_assumedPos, f_assumedNeg, f_clauseCount, f_nodeCount, f_root, f_depth, f_result, f_workPos, f_workNeg, f_workLive, a_slotUsed, a_slotPos, a_slotNeg, a_assumed, a_weightPos, a_weightNeg, a_clausePos, a_clauseNeg, a_nodeChoice, a_nodePos, a_nodeNeg, a_nodeFree, a_nodeKids, a_kids, a_cacheKey, a_cacheNode, a_framePos, a_frameNeg, a_frameFree, a_frameParts, a_frameNext, a_framePhase, a_frameVar, a_frameHigh, a_partVars, a_partClauses, a_partNode, a_value, a_sizes, a_poly, a_product, a_factorPos, a_factorNeg) (nI k) := by
  subst hvc hnc hrt
  refine br_f hst (br_f (nI_pos (by omega)) (br_t (nI_le hk (by omega)) ?_))
  refine pk_loop (σ := (Nat → Int32) × (Nat → Int32) × (Nat → Int32)) (fun q i s => wX_countOfSize_26 post (nI k) q (nI i) (nI n) f_slotCount f_fullMask f_draftPos f_draftNeg f_state f_assumedCount f_assumedPos f_assumedNeg f_clauseCount (nI nc) (nI rt) f_depth f_result f_workPos f_workNeg f_workLive a_slotUsed a_slotPos a_slotNeg a_assumed a_weightPos a_weightNeg a_clausePos a_clauseNeg a_nodeChoice a_nodePos a_nodeNeg a_nodeFree a_nodeKids a_kids a_cacheKey a_cacheNode a_framePos a_frameNeg a_frameFree a_frameParts a_frameNext a_framePhase a_frameVar a_frameHigh a_partVars a_partClauses a_partNode a_value s.2.2 s.1 s.2.1 a_factorPos a_factorNeg)
    (fun i s => 1 ≤ i ∧ ∀ q, q < i → ∀ j, j < 9 → s.2.2 (q * 9 + j) = nI (kc_Sv f_assumedPos f_assumedNeg vs P q j)) nc 1 (a_poly, a_product, a_sizes) hn1 ?_ ?_ ?_
  · refine ⟨Nat.le_refl _, fun q hq j hj => ?_⟩
    have : q = 0 := by omega
    subst this
    rw [kc_Sv0]
    show a_sizes (0 * 9 + j) = nI 0
    rw [Nat.zero_mul, Nat.zero_add, hz j hj]; rfl
  · rintro q ⟨po, pr, sz⟩ hs
    dsimp only at hs ⊢
    have e9 : nI rt * 9 + nI k = nI (rt * 9 + k) := by rw [show (9 : Int32) = nI 9 from rfl, pk_mul, nI_add]
    refine br_t (nI_le (Nat.le_refl _) (by omega)) ?_
    rw [e9, nI_clamp (n := rt * 9 + k) (by omega), hs.2 rt hr2 k (by omega)]
    refine ⟨vp_in_nI (by omega) (by decide), K po pr sz (fun j hj => ?_)⟩
    have := hs.2 0 (by omega) j hj
    rw [kc_Sv0, Nat.zero_mul, Nat.zero_add] at this
    exact this
  · rintro q i ⟨po, pr, sz⟩ hi hs hk'
    dsimp only at hs hk' ⊢
    obtain ⟨hi1, hs⟩ := hs
    obtain ⟨h8, hPD, hN⟩ := hC i hi1 hi
    have ei : (nI i).toNatClampNeg = i := nI_clamp (by omega)
    refine br_f (nI_ge hi (by omega)) ⟨vp_in_nI (by omega) (by decide), ?_⟩
    rw [ei]
    have fin : ∀ sz' : Nat → Int32, (∀ j, j < 9 → sz' (i * 9 + j) = nI (kc_S f_assumedPos f_assumedNeg (vs i) (P i) j)) → (∀ t, t < i * 9 → sz' t = sz t) → (1 ≤ i + 1 ∧ ∀ q, q < i + 1 → ∀ j, j < 9 → sz' (q * 9 + j) = nI (kc_Sv f_assumedPos f_assumedNeg vs P q j)) := by
      intro sz' h1 h2
      refine ⟨by omega, fun q hq j hj => ?_⟩
      by_cases e : q = i
      · subst e; rw [h1 j hj, kc_SvS hi1]
      · rw [h2 _ (by omega)]; exact hs q (by omega) j hj
    rcases hN with hch | hpr
    · have e4 : nI i * 4 = nI (i * 4) := by rw [show (4 : Int32) = nI 4 from rfl, pk_mul]
      have k0 := hch.2.1
      have k1 := hch.2.2.1
      have e9 : ∀ a : Nat, nI a * 9 = nI (a * 9) := fun a => by rw [show (9 : Int32) = nI 9 from rfl, pk_mul]
      have k01 : a_kids (i * 4) * 9 = nI (kc_n (a_kids (i * 4)) * 9) := (congrArg (fun x => x * 9) k0.1).trans (e9 _)
      have k11 : a_kids (i * 4 + 1) * 9 = nI (kc_n (a_kids (i * 4 + 1)) * 9) := (congrArg (fun x => x * 9) k1.1).trans (e9 _)
      refine br_f hch.1 ?_
      rw [e4, nI_1 (i * 4), nI_clamp (n := i * 4) (by omega), nI_clamp (n := i * 4 + 1) (by omega), k01, k11]
      refine ⟨vp_in_nI (by omega) (by decide), ?_⟩
      intro x3 e3
      refine ⟨vp_in_nI (by omega) (by decide), ?_⟩
      intro x4 e4
      subst e3 e4
      refine kw_cos73 (by omega) k0.2.2 k1.2.2 (fun sz' h1 h2 => ?_)
      refine hk' (po, pr, sz') (fin sz' (fun j hj => ?_) h2)
      rw [h1 j hj, hs _ k0.2.2 j hj, hs _ k1.2.2 j hj, nI_add, kc_SvS k0.2.1, kc_SvS k1.2.1, kc_Schoice hch]
    · refine br_t hpr.1 ?_
      obtain ⟨c, hkc, hp⟩ := kc_PrC_of hpr
      have hPD' := kc_CPD hC hi
      refine kw_sizeProduct hi1 (by omega) hkc hPD' hp h8 hs (fun po' pr' sz' h1 h2 => ?_)
      intro y ey
      subst ey
      rw [nI_1 i]
      exact hk' (po', pr', sz') (fin sz' h1 h2)
end
end
section
/-! literals; Y's small walks -/
theorem kl_ix {a b : Nat} (h : b ≤ a + 8) : nI a + (-nI b) + 8 = nI (a + 8 - b) := by
  rw [← pk_sub h, ← nI_add, show (8 : Int32) = nI 8 from rfl, Int32.sub_eq_add_neg, Int32.add_assoc, Int32.add_assoc, Int32.add_comm (-nI b)]
theorem kl_ix1 {a b : Nat} : nI a + nI b + 8 = nI (a + b + 8) := by
  rw [show (8 : Int32) = nI 8 from rfl, nI_add, nI_add]
def kl_pos (n : Nat) (x : Int32) : Prop := ∃ v, v < n ∧ x = nI (v + 1)
def kl_neg (n : Nat) (x : Int32) : Prop := ∃ v, v < n ∧ x = -nI (v + 1)
def kl_bad (n : Nat) (x : Int32) : Prop := nI n < x ∨ x < -nI n
theorem kl_cases {n : Nat} (hn : n ≤ 8) (x : Int32) : kl_pos n x ∨ kl_neg n x ∨ x = 0 ∨ (kl_bad n x ∧ ¬ x = 0) := by
  have h1 := x.le_toInt
  have h2 := x.toInt_lt
  have h3 := nI_toInt (n := n) (by omega)
  have h4 := sb_negT (w := n) (by omega)
  by_cases hp : n < x.toInt
  · refine Or.inr (Or.inr (Or.inr ⟨Or.inl ?_, fun e => ?_⟩))
    · rw [Int32.lt_iff_toInt_lt, h3]; exact hp
    · rw [e] at hp
      have : (0 : Int32).toInt = 0 := by decide
      omega
  · by_cases hm : x.toInt < -(n : Int)
    · refine Or.inr (Or.inr (Or.inr ⟨Or.inr ?_, fun e => ?_⟩))
      · rw [Int32.lt_iff_toInt_lt, h4]; exact hm
      · rw [e] at hm
        have : (0 : Int32).toInt = 0 := by decide
        omega
    · rcases Int.lt_trichotomy x.toInt 0 with h | h | h
      · refine Or.inr (Or.inl ⟨(-x.toInt).toNat - 1, by omega, ?_⟩)
        apply Int32.toInt_inj.mp
        rw [sb_negT (by omega)]
        omega
      · refine Or.inr (Or.inr (Or.inl ?_))
        apply Int32.toInt_inj.mp
        rw [h]; decide
      · refine Or.inl ⟨x.toInt.toNat - 1, by omega, ?_⟩
        apply Int32.toInt_inj.mp
        rw [nI_toInt (by omega)]
        omega
theorem kl_pT {v : Nat} (hv : v < 8) : (nI (v + 1)).toInt = (v : Int) + 1 := by rw [nI_toInt (by omega)]; omega
theorem kl_nT {v : Nat} (hv : v < 8) : (-nI (v + 1)).toInt = -((v : Int) + 1) := by rw [sb_negT (by omega)]; omega
theorem kl_0T : (0 : Int32).toInt = 0 := by decide
theorem kl_pp {v w : Nat} (hv : v < 8) (hw : w < 8) : nI (v + 1) = nI (w + 1) ↔ v = w := by
  rw [nI_eq (by omega) (by omega)]; omega
theorem kl_nn {v w : Nat} (hv : v < 8) (hw : w < 8) : -nI (v + 1) = -nI (w + 1) ↔ v = w := by
  rw [← Int32.toInt_inj, kl_nT hv, kl_nT hw]; omega
theorem kl_pn {v w : Nat} (hv : v < 8) (hw : w < 8) : ¬ nI (v + 1) = -nI (w + 1) := by
  rw [← Int32.toInt_inj, kl_pT hv, kl_nT hw]; omega
theorem kl_p0 {v : Nat} (hv : v < 8) : ¬ nI (v + 1) = 0 := by
  rw [← Int32.toInt_inj, kl_pT hv, kl_0T]; omega
theorem kl_n0 {v : Nat} (hv : v < 8) : ¬ -nI (v + 1) = 0 := by
  rw [← Int32.toInt_inj, kl_nT hv, kl_0T]; omega
def kl_pb (x : Int32) : Int32 := if x ≤ 0 then 0 else (1 : Int32) <<< ((x - 1) &&& 31)
def kl_nb (x : Int32) : Int32 := if 0 ≤ x then 0 else (1 : Int32) <<< ((-x - 1) &&& 31)
theorem kl_pb1 {v : Nat} (hv : v < 8) : kl_pb (nI (v + 1)) = (1 : Int32) <<< (nI v &&& 31) := by
  unfold kl_pb
  rw [if_neg (by rw [Int32.le_iff_toInt_le, kl_pT hv, kl_0T]; omega), nI_pred]
theorem kl_pb2 {v : Nat} (hv : v < 8) : kl_pb (-nI (v + 1)) = 0 := by
  unfold kl_pb
  rw [if_pos (by rw [Int32.le_iff_toInt_le, kl_nT hv, kl_0T]; omega)]
theorem kl_nb1 {v : Nat} (hv : v < 8) : kl_nb (nI (v + 1)) = 0 := by
  unfold kl_nb
  rw [if_pos (by rw [Int32.le_iff_toInt_le, kl_pT hv, kl_0T]; omega)]
theorem kl_nb2 {v : Nat} (hv : v < 8) : kl_nb (-nI (v + 1)) = (1 : Int32) <<< (nI v &&& 31) := by
  unfold kl_nb
  rw [if_neg (by rw [Int32.le_iff_toInt_le, kl_nT hv, kl_0T]; omega), Int32.neg_neg, nI_pred]
theorem kl_pb0 : kl_pb 0 = 0 := rfl
theorem kl_nb0 : kl_nb 0 = 0 := rfl
/-- a literal or 0 -/
def kl_ok (n : Nat) (x : Int32) : Prop := x = 0 ∨ kl_pos n x ∨ kl_neg n x
theorem kl_pbb {n : Nat} (hn : n ≤ 8) {x : Int32} (h : kl_ok n x) (v : Nat) : bt (kl_pb x) v = true ↔ (v < n ∧ x = nI (v + 1)) := by
  rcases h with rfl | ⟨w, hw, rfl⟩ | ⟨w, hw, rfl⟩
  · rw [kl_pb0, b_0]
    exact ⟨fun h => (by cases h), fun h => absurd h.2.symm (kl_p0 (by omega))⟩
  · rw [kl_pb1 (by omega), kb_one w (by omega)]
    constructor
    · intro h
      have e : v = w := by simpa using h
      subst e; exact ⟨hw, rfl⟩
    · intro h
      have := (kl_pp (v := w) (w := v) (by omega) (by omega)).mp h.2
      subst this; simp
  · rw [kl_pb2 (by omega), b_0]
    exact ⟨fun h => (by cases h), fun h => absurd h.2.symm (kl_pn (by omega) (by omega))⟩
theorem kl_nbb {n : Nat} (hn : n ≤ 8) {x : Int32} (h : kl_ok n x) (v : Nat) : bt (kl_nb x) v = true ↔ (v < n ∧ x = -nI (v + 1)) := by
  rcases h with rfl | ⟨w, hw, rfl⟩ | ⟨w, hw, rfl⟩
  · rw [kl_nb0, b_0]
    exact ⟨fun h => (by cases h), fun h => absurd h.2.symm (kl_n0 (by omega))⟩
  · rw [kl_nb1 (by omega), b_0]
    exact ⟨fun h => (by cases h), fun h => absurd h.2 (kl_pn (by omega) (by omega))⟩
  · rw [kl_nb2 (by omega), kb_one w (by omega)]
    constructor
    · intro h
      have e : v = w := by simpa using h
      subst e; exact ⟨hw, rfl⟩
    · intro h
      have := (kl_nn (v := w) (w := v) (by omega) (by omega)).mp h.2
      subst this; simp
/-- a literal is true -/
def kl_true (x : Int32) (a : Nat → Bool) : Prop := (∃ v, v < 8 ∧ x = nI (v + 1) ∧ a v = true) ∨ (∃ v, v < 8 ∧ x = -nI (v + 1) ∧ a v = false)
theorem kl_t1 {v : Nat} (hv : v < 8) (a : Nat → Bool) : kl_true (nI (v + 1)) a ↔ a v = true := by
  constructor
  · rintro (⟨w, hw, e, h⟩ | ⟨w, hw, e, h⟩)
    · rw [(kl_pp hv hw).mp e]; exact h
    · exact absurd e (kl_pn hv hw)
  · exact fun h => Or.inl ⟨v, hv, rfl, h⟩
theorem kl_t2 {v : Nat} (hv : v < 8) (a : Nat → Bool) : kl_true (-nI (v + 1)) a ↔ a v = false := by
  constructor
  · rintro (⟨w, hw, e, h⟩ | ⟨w, hw, e, h⟩)
    · exact absurd e.symm (kl_pn hw hv)
    · rw [(kl_nn hv hw).mp e]; exact h
  · exact fun h => Or.inr ⟨v, hv, rfl, h⟩
section
variable {f_varCount f_slotCount f_fullMask f_draftPos f_draftNeg f_state f_assumedCount f_assumedPos f_assumedNeg f_clauseCount f_nodeCount f_root f_depth f_result f_workPos f_workNeg f_workLive : Int32} {a_slotUsed a_slotPos a_slotNeg a_assumed a_weightPos a_weightNeg a_clausePos a_clauseNeg a_nodeChoice a_nodePos a_nodeNeg a_nodeFree a_nodeKids a_kids a_cacheKey a_cacheNode a_framePos a_frameNeg a_frameFree a_frameParts a_frameNext a_framePhase a_frameVar a_frameHigh a_partVars a_partClauses a_partNode a_value a_sizes a_poly a_product a_factorPos a_factorNeg : Nat → Int32}
variable {n : Nat}
theorem kw_isLit1 {post : Int32 → Prop} {x : Int32} (hvc : f_varCount = nI n) (hn : n ≤ 8) (h : kl_pos n x ∨ kl_neg n x) (K : post 1) : wpX_isLiteral post (f_varCount, f_slotCount, f_fullMask, f_draftPos, f_draftNeg, f_state, f_assumedCount, f_assumedPos, f_assumedNeg, f_clauseCount, f_nodeCount, f_root, f_depth, f_result, f_workPos, f_workNeg, f_workLive, a_slotUsed, a_slotPos, a_slotNeg, a_assumed, a_weightPos, a_weightNeg, a_clausePos, a_clauseNeg, a_nodeChoice, a_nodePos, a_nodeNeg, a_nodeFree, a_nodeKids, a_kids, a_cacheKey, a_cacheNode, a_framePos, a_frameNeg, a_frameFree, a_frameParts, a_frameNext, a_framePhase, a_frameVar, a_frameHigh, a_partVars, a_partClauses, a_partNode, a_value, a_sizes, a_poly, a_product, a_factorPos, a_factorNeg) x := by
  subst hvc
  have h3 := nI_toInt (n := n) (by omega)
  have h4 := sb_negT (w := n) (by omega)
  rcases h with ⟨v, hv, rfl⟩ | ⟨v, hv, rfl⟩
  · refine br_f (kl_p0 (by omega)) (br_f ?_ (br_f ?_ K))
    · rw [Int32.lt_iff_toInt_lt, h3, kl_pT (by omega)]; omega
    · rw [Int32.lt_iff_toInt_lt, h4, kl_pT (by omega)]; omega
  · refine br_f (kl_n0 (by omega)) (br_f ?_ (br_f ?_ K))
    · rw [Int32.lt_iff_toInt_lt, h3, kl_nT (by omega)]; omega
    · rw [Int32.lt_iff_toInt_lt, h4, kl_nT (by omega)]; omega
theorem kw_isLit0 {post : Int32 → Prop} {x : Int32} (hvc : f_varCount = nI n) (h : x = 0 ∨ kl_bad n x) (K : post 0) : wpX_isLiteral post (f_varCount, f_slotCount, f_fullMask, f_draftPos, f_draftNeg, f_state, f_assumedCount, f_assumedPos, f_assumedNeg, f_clauseCount, f_nodeCount, f_root, f_depth, f_result, f_workPos, f_workNeg, f_workLive, a_slotUsed, a_slotPos, a_slotNeg, a_assumed, a_weightPos, a_weightNeg, a_clausePos, a_clauseNeg, a_nodeChoice, a_nodePos, a_nodeNeg, a_nodeFree, a_nodeKids, a_kids, a_cacheKey, a_cacheNode, a_framePos, a_frameNeg, a_frameFree, a_frameParts, a_frameNext, a_framePhase, a_frameVar, a_frameHigh, a_partVars, a_partClauses, a_partNode, a_value, a_sizes, a_poly, a_product, a_factorPos, a_factorNeg) x := by
  subst hvc
  refine br_c (fun _ => K) (fun h0 => br_c (fun _ => K) (fun h1 => br_c (fun _ => K) (fun h2 => ?_)))
  rcases h with h | h | h
  · exact absurd h h0
  · exact absurd h h1
  · exact absurd h h2
theorem kw_loz1 {post : Int32 → Prop} {x : Int32} (hvc : f_varCount = nI n) (hn : n ≤ 8) (h : kl_ok n x) (K : post 1) : wpX_isLiteralOrZero post (f_varCount, f_slotCount, f_fullMask, f_draftPos, f_draftNeg, f_state, f_assumedCount, f_assumedPos, f_assumedNeg, f_clauseCount, f_nodeCount, f_root, f_depth, f_result, f_workPos, f_workNeg, f_workLive, a_slotUsed, a_slotPos, a_slotNeg, a_assumed, a_weightPos, a_weightNeg, a_clausePos, a_clauseNeg, a_nodeChoice, a_nodePos, a_nodeNeg, a_nodeFree, a_nodeKids, a_kids, a_cacheKey, a_cacheNode, a_framePos, a_frameNeg, a_frameFree, a_frameParts, a_frameNext, a_framePhase, a_frameVar, a_frameHigh, a_partVars, a_partClauses, a_partNode, a_value, a_sizes, a_poly, a_product, a_factorPos, a_factorNeg) x := by
  subst hvc
  have h3 := nI_toInt (n := n) (by omega)
  have h4 := sb_negT (w := n) (by omega)
  rcases h with rfl | ⟨v, hv, rfl⟩ | ⟨v, hv, rfl⟩
  · refine br_f ?_ (br_f ?_ K)
    · rw [Int32.lt_iff_toInt_lt, h3, kl_0T]; omega
    · rw [Int32.lt_iff_toInt_lt, h4, kl_0T]; omega
  · refine br_f ?_ (br_f ?_ K)
    · rw [Int32.lt_iff_toInt_lt, h3, kl_pT (by omega)]; omega
    · rw [Int32.lt_iff_toInt_lt, h4, kl_pT (by omega)]; omega
  · refine br_f ?_ (br_f ?_ K)
    · rw [Int32.lt_iff_toInt_lt, h3, kl_nT (by omega)]; omega
    · rw [Int32.lt_iff_toInt_lt, h4, kl_nT (by omega)]; omega
theorem kw_loz0 {post : Int32 → Prop} {x : Int32} (hvc : f_varCount = nI n) (h : kl_bad n x) (K : post 0) : wpX_isLiteralOrZero post (f_varCount, f_slotCount, f_fullMask, f_draftPos, f_draftNeg, f_state, f_assumedCount, f_assumedPos, f_assumedNeg, f_clauseCount, f_nodeCount, f_root, f_depth, f_result, f_workPos, f_workNeg, f_workLive, a_slotUsed, a_slotPos, a_slotNeg, a_assumed, a_weightPos, a_weightNeg, a_clausePos, a_clauseNeg, a_nodeChoice, a_nodePos, a_nodeNeg, a_nodeFree, a_nodeKids, a_kids, a_cacheKey, a_cacheNode, a_framePos, a_frameNeg, a_frameFree, a_frameParts, a_frameNext, a_framePhase, a_frameVar, a_frameHigh, a_partVars, a_partClauses, a_partNode, a_value, a_sizes, a_poly, a_product, a_factorPos, a_factorNeg) x := by
  subst hvc
  refine br_c (fun _ => K) (fun h1 => br_c (fun _ => K) (fun h2 => ?_))
  rcases h with h | h
  · exact absurd h h1
  · exact absurd h h2
theorem kw_posBit {post : Int32 → Prop} {x : Int32} (K : post (kl_pb x)) : wpX_posBit post (f_varCount, f_slotCount, f_fullMask, f_draftPos, f_draftNeg, f_state, f_assumedCount, f_assumedPos, f_assumedNeg, f_clauseCount, f_nodeCount, f_root, f_depth, f_result, f_workPos, f_workNeg, f_workLive, a_slotUsed, a_slotPos, a_slotNeg, a_assumed, a_weightPos, a_weightNeg, a_clausePos, a_clauseNeg, a_nodeChoice, a_nodePos, a_nodeNeg, a_nodeFree, a_nodeKids, a_kids, a_cacheKey, a_cacheNode, a_framePos, a_frameNeg, a_frameFree, a_frameParts, a_frameNext, a_framePhase, a_frameVar, a_frameHigh, a_partVars, a_partClauses, a_partNode, a_value, a_sizes, a_poly, a_product, a_factorPos, a_factorNeg) x := by
  refine br_c (fun h => ?_) (fun h => ?_)
  · unfold kl_pb at K; rw [if_pos h] at K; exact K
  · unfold kl_pb at K; rw [if_neg h] at K; exact K
theorem kw_negBit {post : Int32 → Prop} {x : Int32} (K : post (kl_nb x)) : wpX_negBit post (f_varCount, f_slotCount, f_fullMask, f_draftPos, f_draftNeg, f_state, f_assumedCount, f_assumedPos, f_assumedNeg, f_clauseCount, f_nodeCount, f_root, f_depth, f_result, f_workPos, f_workNeg, f_workLive, a_slotUsed, a_slotPos, a_slotNeg, a_assumed, a_weightPos, a_weightNeg, a_clausePos, a_clauseNeg, a_nodeChoice, a_nodePos, a_nodeNeg, a_nodeFree, a_nodeKids, a_kids, a_cacheKey, a_cacheNode, a_framePos, a_frameNeg, a_frameFree, a_frameParts, a_frameNext, a_framePhase, a_frameVar, a_frameHigh, a_partVars, a_partClauses, a_partNode, a_value, a_sizes, a_poly, a_product, a_factorPos, a_factorNeg) x := by
  refine br_c (fun h => ?_) (fun h => ?_)
  · unfold kl_nb at K; rw [if_pos h] at K; exact K
  · unfold kl_nb at K; rw [if_neg h] at K; exact K
theorem kw_contains {post : Int32 → Prop} {p q x : Int32} (hn : n ≤ 8) (h : kl_pos n x ∨ kl_neg n x)
    (K1 : ((∃ v, v < n ∧ x = nI (v + 1) ∧ bt p v = true) ∨ (∃ v, v < n ∧ x = -nI (v + 1) ∧ bt q v = true)) → post 1) (K0 : ¬ ((∃ v, v < n ∧ x = nI (v + 1) ∧ bt p v = true) ∨ (∃ v, v < n ∧ x = -nI (v + 1) ∧ bt q v = true)) → post 0) : wpX_contains post (f_varCount, f_slotCount, f_fullMask, f_draftPos, f_draftNeg, f_state, f_assumedCount, f_assumedPos, f_assumedNeg, f_clauseCount, f_nodeCount, f_root, f_depth, f_result, f_workPos, f_workNeg, f_workLive, a_slotUsed, a_slotPos, a_slotNeg, a_assumed, a_weightPos, a_weightNeg, a_clausePos, a_clauseNeg, a_nodeChoice, a_nodePos, a_nodeNeg, a_nodeFree, a_nodeKids, a_kids, a_cacheKey, a_cacheNode, a_framePos, a_frameNeg, a_frameFree, a_frameParts, a_frameNext, a_framePhase, a_frameVar, a_frameHigh, a_partVars, a_partClauses, a_partNode, a_value, a_sizes, a_poly, a_product, a_factorPos, a_factorNeg) p q x := by
  unfold wpX_contains
  refine kw_posBit ?_
  intro x4 e4
  refine kw_negBit ?_
  intro x5 e5
  subst e4 e5
  have hok : kl_ok n x := Or.inr h
  refine br_c (fun z => K0 ?_) (fun z => K1 ?_)
  · rw [kb_orz] at z
    rintro (⟨v, hv, e, hb⟩ | ⟨v, hv, e, hb⟩)
    · have := (z v).1
      rw [b_and, hb, (kl_pbb hn hok v).mpr ⟨hv, e⟩] at this
      cases this
    · have := (z v).2
      rw [b_and, hb, (kl_nbb hn hok v).mpr ⟨hv, e⟩] at this
      cases this
  · obtain ⟨v, hv, _⟩ := kb_nz z
    rw [b_or, Bool.or_eq_true, b_and, b_and, Bool.and_eq_true, Bool.and_eq_true] at hv
    rcases hv with hv | hv
    · have := (kl_pbb hn hok v).mp hv.2
      exact Or.inl ⟨v, this.1, this.2, hv.1⟩
    · have := (kl_nbb hn hok v).mp hv.2
      exact Or.inr ⟨v, this.1, this.2, hv.1⟩
end
section
variable {yf_n yf_m yf_state yf_assumed : Int32} {ya_draft ya_used ya_has ya_compiledUsed ya_compiledHas ya_assumptions ya_weights : Nat → Int32}
variable {n : Nat}
theorem ky_valid1 {post : Int32 → Prop} {x : Int32} (hvc : yf_n = nI n) (hn : n ≤ 8) (h : kl_pos n x ∨ kl_neg n x) (K : post 1) : wpY_valid post (yf_n, yf_m, yf_state, yf_assumed, ya_draft, ya_used, ya_has, ya_compiledUsed, ya_compiledHas, ya_assumptions, ya_weights) x := by
  subst hvc
  have h3 := nI_toInt (n := n) (by omega)
  have h4 := sb_negT (w := n) (by omega)
  have h1 : (1 : Int32).toInt = 1 := by decide
  have hm1 : (-1 : Int32).toInt = -1 := by decide
  rcases h with ⟨v, hv, rfl⟩ | ⟨v, hv, rfl⟩
  · refine br_f ?_ (br_t ?_ K)
    · rw [Int32.lt_iff_toInt_lt, kl_pT (by omega), h1]; omega
    · rw [Int32.le_iff_toInt_le, kl_pT (by omega), h3]; omega
  · refine br_t ?_ (br_f ?_ (br_f ?_ K))
    · rw [Int32.lt_iff_toInt_lt, kl_nT (by omega), h1]; omega
    · rw [Int32.lt_iff_toInt_lt, kl_nT (by omega), h4]; omega
    · rw [Int32.lt_iff_toInt_lt, kl_nT (by omega), hm1]; omega
theorem ky_valid0 {post : Int32 → Prop} {x : Int32} (hvc : yf_n = nI n) (hn : n ≤ 8) (hn1 : 1 ≤ n) (h : x = 0 ∨ kl_bad n x) (K : post 0) : wpY_valid post (yf_n, yf_m, yf_state, yf_assumed, ya_draft, ya_used, ya_has, ya_compiledUsed, ya_compiledHas, ya_assumptions, ya_weights) x := by
  subst hvc
  have h3 := nI_toInt (n := n) (by omega)
  have h4 := sb_negT (w := n) (by omega)
  have h1 : (1 : Int32).toInt = 1 := by decide
  have hm1 : (-1 : Int32).toInt = -1 := by decide
  have J : wY_valid_13 post x (nI n) yf_m yf_state yf_assumed ya_draft ya_used ya_has ya_compiledUsed ya_compiledHas ya_assumptions ya_weights := by
    refine br_c (fun _ => K) (fun c1 => br_c (fun _ => K) (fun c2 => ?_))
    rw [Int32.lt_iff_toInt_lt, h4] at c1
    rw [Int32.lt_iff_toInt_lt, hm1] at c2
    rcases h with h | h | h
    · rw [h, kl_0T] at c2; omega
    · rw [Int32.lt_iff_toInt_lt, h3] at h; omega
    · rw [Int32.lt_iff_toInt_lt, h4] at h; omega
  refine br_c (fun _ => J) (fun c1 => br_c (fun c2 => ?_) (fun _ => J))
  rw [Int32.lt_iff_toInt_lt, h1] at c1
  rw [Int32.le_iff_toInt_le, h3] at c2
  rcases h with h | h | h
  · rw [h, kl_0T] at c1; omega
  · rw [Int32.lt_iff_toInt_lt, h3] at h; omega
  · rw [Int32.lt_iff_toInt_lt, h4] at h; omega
theorem ky_voz1 {post : Int32 → Prop} {x : Int32} (hvc : yf_n = nI n) (hn : n ≤ 8) (h : kl_ok n x) (K : post 1) : wpY_validOrZero post (yf_n, yf_m, yf_state, yf_assumed, ya_draft, ya_used, ya_has, ya_compiledUsed, ya_compiledHas, ya_assumptions, ya_weights) x := by
  refine br_c (fun _ => K) (fun z => ?_)
  refine ky_valid1 hvc hn (h.resolve_left z) (br_f (by decide) K)
theorem ky_voz0 {post : Int32 → Prop} {x : Int32} (hvc : yf_n = nI n) (hn : n ≤ 8) (hn1 : 1 ≤ n) (h0 : ¬ x = 0) (h : kl_bad n x) (K : post 0) : wpY_validOrZero post (yf_n, yf_m, yf_state, yf_assumed, ya_draft, ya_used, ya_has, ya_compiledUsed, ya_compiledHas, ya_assumptions, ya_weights) x := by
  refine br_f h0 ?_
  exact ky_valid0 hvc hn hn1 (Or.inr h) (br_t rfl K)
theorem ky_isTrue {post : Int32 → Prop} {x y : Int32} (hn : n ≤ 8) (h : kl_pos n x ∨ kl_neg n x) (K1 : kl_true x (bt y) → post 1) (K0 : ¬ kl_true x (bt y) → post 0) : wpY_isTrue post (yf_n, yf_m, yf_state, yf_assumed, ya_draft, ya_used, ya_has, ya_compiledUsed, ya_compiledHas, ya_assumptions, ya_weights) x y := by
  rcases h with ⟨v, hv, rfl⟩ | ⟨v, hv, rfl⟩
  · rw [kl_t1 (by omega)] at K1 K0
    refine br_f (by rw [Int32.le_iff_toInt_le, kl_pT (by omega), kl_0T]; omega) ?_
    rw [nI_pred, kb_ssh y (by omega)]
    cases e : bt y v with
    | true => exact br_t rfl (K1 e)
    | false => exact br_f (by decide) (K0 (by rw [e]; decide))
  · rw [kl_t2 (by omega)] at K1 K0
    refine br_t (by rw [Int32.le_iff_toInt_le, kl_nT (by omega), kl_0T]; omega) ?_
    rw [Int32.neg_neg, nI_pred, kb_ssh y (by omega)]
    cases e : bt y v with
    | true => exact br_f (by decide) (K0 (by rw [e]; decide))
    | false => exact br_t rfl (K1 e)
end
end
section
/-! Y's walks: satisfies, isModel -/
def ky_Sat (n m : Nat) (cu ch : Nat → Int32) (a : Nat → Bool) : Prop :=
  ∀ s, s < m → ¬ cu s = 0 → ∃ v, v < n ∧ ((¬ ch (s * 17 + 9 + v) = 0 ∧ a v = true) ∨ (¬ ch (s * 17 + 7 - v) = 0 ∧ a v = false))
def ky_E (n : Nat) (ch : Nat → Int32) (a : Nat → Bool) (s j : Nat) : Prop :=
  (∃ v, v < n ∧ n + 1 + v < j ∧ ¬ ch (s * 17 + 9 + v) = 0 ∧ a v = true) ∨ (∃ v, v < n ∧ n - 1 - v < j ∧ ¬ ch (s * 17 + 7 - v) = 0 ∧ a v = false)
theorem kl_sub1 (j n : Nat) : nI j - nI n + 1 = nI (j + 1) - nI n := by
  rw [← nI_1 j, Int32.sub_eq_add_neg, Int32.sub_eq_add_neg, Int32.add_assoc, Int32.add_assoc, Int32.add_comm (-nI n)]
theorem kl_subn {j n : Nat} (h : j ≤ n) : nI j - nI n = -nI (n - j) := by
  rw [← pk_sub h, Int32.neg_sub]
theorem ky_b (x : Int32) (c : Nat) (h : x = nI c) (hc : c < 2 ^ 31) (v : Nat) : bt x v = kt_c c v := by
  rw [h, kb_nbig (by omega)]; rfl
section
variable {yf_n yf_m yf_state yf_assumed : Int32} {ya_draft ya_used ya_has ya_compiledUsed ya_compiledHas ya_assumptions ya_weights : Nat → Int32}
variable {n m : Nat}
theorem ky_sat28 {post : Int32 → Prop} {J : Int32 → Prop} {x1 : Int32} {s : Nat} (hvn : yf_n = nI n) (hn1 : 1 ≤ n) (hn : n ≤ 8) (hs : s < 24)
    (K1 : (∃ v, v < n ∧ ((¬ ya_compiledHas (s * 17 + 9 + v) = 0 ∧ bt x1 v = true) ∨ (¬ ya_compiledHas (s * 17 + 7 - v) = 0 ∧ bt x1 v = false))) → J (nI (s + 1)))
    (K0 : ¬ (∃ v, v < n ∧ ((¬ ya_compiledHas (s * 17 + 9 + v) = 0 ∧ bt x1 v = true) ∨ (¬ ya_compiledHas (s * 17 + 7 - v) = 0 ∧ bt x1 v = false))) → post 0) :
    ∃ q, wY_satisfies_28 post J x1 (nI s) yf_n yf_m yf_state yf_assumed ya_draft ya_used ya_has ya_compiledUsed ya_compiledHas ya_assumptions ya_weights q 0 (-nI n) := by
  subst hvn
  have e0 : nI 0 - nI n = -nI n := kl_subn (Nat.zero_le _)
  have hfin : ky_E n ya_compiledHas (bt x1) s (2 * n + 1) ↔ (∃ v, v < n ∧ ((¬ ya_compiledHas (s * 17 + 9 + v) = 0 ∧ bt x1 v = true) ∨ (¬ ya_compiledHas (s * 17 + 7 - v) = 0 ∧ bt x1 v = false))) := by
    constructor
    · rintro (⟨v, h1, _, h2⟩ | ⟨v, h1, _, h2⟩)
      · exact ⟨v, h1, Or.inl h2⟩
      · exact ⟨v, h1, Or.inr h2⟩
    · rintro ⟨v, h1, h2 | h2⟩
      · exact Or.inl ⟨v, h1, by omega, h2⟩
      · exact Or.inr ⟨v, h1, by omega, h2⟩
  rw [← e0]
  refine loop_0 (fun q j t => wY_satisfies_28 post J x1 (nI s) (nI n) yf_m yf_state yf_assumed ya_draft ya_used ya_has ya_compiledUsed ya_compiledHas ya_assumptions ya_weights q t (nI j - nI n)) (fun j t => (t = 0 ∧ ¬ ky_E n ya_compiledHas (bt x1) s j) ∨ (t = 1 ∧ ky_E n ya_compiledHas (bt x1) s j)) (2 * n + 1) 0 (Or.inl ⟨rfl, ?_⟩) ?_ ?_
  · rintro (⟨v, _, h, _⟩ | ⟨v, _, h, _⟩) <;> omega
  · intro q t ht
    have e1 : nI (2 * n + 1) - nI n = nI (n + 1) := by rw [pk_sub (by omega)]; congr 1; omega
    rw [e1]
    refine br_t (nI_lt (by omega) (by omega)) ?_
    rcases ht with ⟨rfl, h⟩ | ⟨rfl, h⟩
    · exact br_t rfl (K0 (fun z => h (hfin.mpr z)))
    · refine br_f (by decide) ?_
      intro y ey
      subst ey
      rw [nI_1 s]
      exact K1 (hfin.mp h)
  · intro q j t hj ht hk
    have nxt : ∀ t', ((t' = 0 ∧ ¬ ky_E n ya_compiledHas (bt x1) s (j + 1)) ∨ (t' = 1 ∧ ky_E n ya_compiledHas (bt x1) s (j + 1))) → ∀ y, y = nI j - nI n + 1 → wY_satisfies_28 post J x1 (nI s) (nI n) yf_m yf_state yf_assumed ya_draft ya_used ya_has ya_compiledUsed ya_compiledHas ya_assumptions ya_weights q t' y := by
      intro t' h y ey
      subst ey
      rw [kl_sub1]
      exact hk t' h
    have h17 : nI s * 17 = nI (s * 17) := by rw [show (17 : Int32) = nI 17 from rfl, pk_mul]
    rcases Nat.lt_trichotomy j n with h | h | h
    · obtain ⟨v, hv⟩ : ∃ v, n - j = v + 1 := ⟨n - j - 1, by omega⟩
      have ex : nI j - nI n = -nI (v + 1) := by rw [kl_subn (by omega), hv]
      have same : (¬ ya_compiledHas (s * 17 + 7 - v) = 0 ∧ bt x1 v = false → False) → (ky_E n ya_compiledHas (bt x1) s (j + 1) ↔ ky_E n ya_compiledHas (bt x1) s j) := by
        intro hno
        constructor
        · rintro (⟨w, h1, h2, h3⟩ | ⟨w, h1, h2, h3⟩)
          · omega
          · by_cases e : w = v
            · subst e; exact absurd h3 hno
            · exact Or.inr ⟨w, h1, by omega, h3⟩
        · rintro (⟨w, h1, h2, h3⟩ | ⟨w, h1, h2, h3⟩)
          · omega
          · exact Or.inr ⟨w, h1, by omega, h3⟩
      have keep : (¬ ya_compiledHas (s * 17 + 7 - v) = 0 ∧ bt x1 v = false → False) → ((t = 0 ∧ ¬ ky_E n ya_compiledHas (bt x1) s (j + 1)) ∨ (t = 1 ∧ ky_E n ya_compiledHas (bt x1) s (j + 1))) := fun hno => by
        rw [same hno]; exact ht
      have e8 : nI s * 17 + -nI (v + 1) + 8 = nI (s * 17 + 7 - v) := by rw [h17, kl_ix (by omega)]; congr 1; omega
      refine br_f ?_ (br_f ?_ ?_)
      · rw [ex, Int32.lt_iff_toInt_lt, nI_toInt (by omega), kl_nT (by omega)]; omega
      · rw [ex]; exact kl_n0 (by omega)
      · rw [ex, e8, nI_clamp (n := s * 17 + 7 - v) (by omega)]
        rw [ex] at nxt
        refine ⟨vp_in_nI (by omega) (by decide), br_c (fun z => nxt t (keep (fun c => c.1 z))) (fun z => ?_)⟩
        refine ky_isTrue (n := n) hn (Or.inr ⟨v, by omega, rfl⟩) (fun c => br_f (by decide) ?_) (fun c => br_t rfl ?_)
        · rw [kl_t2 (by omega)] at c
          exact nxt 1 (Or.inr ⟨rfl, Or.inr ⟨v, by omega, by omega, z, c⟩⟩)
        · rw [kl_t2 (by omega)] at c
          exact nxt t (keep (fun d => c d.2))
    · subst h
      have ex : nI j - nI j = 0 := Int32.sub_self _
      have same : ky_E j ya_compiledHas (bt x1) s (j + 1) ↔ ky_E j ya_compiledHas (bt x1) s j := by
        constructor
        · rintro (⟨w, h1, h2, h3⟩ | ⟨w, h1, h2, h3⟩)
          · omega
          · exact Or.inr ⟨w, h1, by omega, h3⟩
        · rintro (⟨w, h1, h2, h3⟩ | ⟨w, h1, h2, h3⟩)
          · omega
          · exact Or.inr ⟨w, h1, by omega, h3⟩
      refine br_f ?_ (br_t ex (nxt t (by rw [same]; exact ht)))
      rw [ex, Int32.lt_iff_toInt_lt, nI_toInt (by omega), kl_0T]; omega
    · obtain ⟨v, hv⟩ : ∃ v, j - n = v + 1 := ⟨j - n - 1, by omega⟩
      have ex : nI j - nI n = nI (v + 1) := by rw [pk_sub (by omega), hv]
      have same : (¬ ya_compiledHas (s * 17 + 9 + v) = 0 ∧ bt x1 v = true → False) → (ky_E n ya_compiledHas (bt x1) s (j + 1) ↔ ky_E n ya_compiledHas (bt x1) s j) := by
        intro hno
        constructor
        · rintro (⟨w, h1, h2, h3⟩ | ⟨w, h1, h2, h3⟩)
          · by_cases e : w = v
            · subst e; exact absurd h3 hno
            · exact Or.inl ⟨w, h1, by omega, h3⟩
          · exact Or.inr ⟨w, h1, by omega, h3⟩
        · rintro (⟨w, h1, h2, h3⟩ | ⟨w, h1, h2, h3⟩)
          · exact Or.inl ⟨w, h1, by omega, h3⟩
          · exact Or.inr ⟨w, h1, by omega, h3⟩
      have keep : (¬ ya_compiledHas (s * 17 + 9 + v) = 0 ∧ bt x1 v = true → False) → ((t = 0 ∧ ¬ ky_E n ya_compiledHas (bt x1) s (j + 1)) ∨ (t = 1 ∧ ky_E n ya_compiledHas (bt x1) s (j + 1))) := fun hno => by
        rw [same hno]; exact ht
      have e8 : nI s * 17 + nI (v + 1) + 8 = nI (s * 17 + 9 + v) := by rw [h17, kl_ix1]; congr 1; omega
      refine br_f ?_ (br_f ?_ ?_)
      · rw [ex, Int32.lt_iff_toInt_lt, nI_toInt (by omega), kl_pT (by omega)]; omega
      · rw [ex]; exact kl_p0 (by omega)
      · rw [ex, e8, nI_clamp (n := s * 17 + 9 + v) (by omega)]
        rw [ex] at nxt
        refine ⟨vp_in_nI (by omega) (by decide), br_c (fun z => nxt t (keep (fun c => c.1 z))) (fun z => ?_)⟩
        refine ky_isTrue (n := n) hn (Or.inl ⟨v, by omega, rfl⟩) (fun c => br_f (by decide) ?_) (fun c => br_t rfl ?_)
        · rw [kl_t1 (by omega)] at c
          exact nxt 1 (Or.inr ⟨rfl, Or.inl ⟨v, by omega, by omega, z, c⟩⟩)
        · rw [kl_t1 (by omega)] at c
          exact nxt t (keep (fun d => c d.2))
theorem ky_satisfies {post : Int32 → Prop} {x1 : Int32} (hvn : yf_n = nI n) (hvm : yf_m = nI m) (hn1 : 1 ≤ n) (hn : n ≤ 8) (hm : m ≤ 24)
    (K1 : ky_Sat n m ya_compiledUsed ya_compiledHas (bt x1) → post 1) (K0 : ¬ ky_Sat n m ya_compiledUsed ya_compiledHas (bt x1) → post 0) : wpY_satisfies post (yf_n, yf_m, yf_state, yf_assumed, ya_draft, ya_used, ya_has, ya_compiledUsed, ya_compiledHas, ya_assumptions, ya_weights) x1 := by
  subst hvm
  refine loop_0 (fun q s (_ : Unit) => wY_satisfies_2 post x1 yf_n (nI m) yf_state yf_assumed ya_draft ya_used ya_has ya_compiledUsed ya_compiledHas ya_assumptions ya_weights q (nI s)) (fun s _ => ky_Sat n s ya_compiledUsed ya_compiledHas (bt x1)) m () (fun s hs => absurd hs (Nat.not_lt_zero _)) ?_ ?_
  · intro q _ hs
    exact br_t (nI_le (Nat.le_refl _) (by omega)) (K1 hs)
  · intro q s _ hsm hs hk
    have es : (nI s).toNatClampNeg = s := nI_clamp (by omega)
    refine br_f (nI_ge hsm (by omega)) ⟨vp_in_nI (by omega) (by decide), ?_⟩
    rw [es]
    have ext : (¬ ya_compiledUsed s = 0 → ∃ v, v < n ∧ ((¬ ya_compiledHas (s * 17 + 9 + v) = 0 ∧ bt x1 v = true) ∨ (¬ ya_compiledHas (s * 17 + 7 - v) = 0 ∧ bt x1 v = false))) → ky_Sat n (s + 1) ya_compiledUsed ya_compiledHas (bt x1) := by
      intro h r hr
      by_cases e : r = s
      · subst e; exact h
      · exact hs r (by omega)
    refine br_c (fun z => ?_) (fun z => ?_)
    · intro y ey
      subst ey
      rw [nI_1 s]
      exact hk () (ext (fun h => absurd z h))
    · intro x4 e4
      subst e4
      rw [hvn]
      refine ky_sat28 rfl hn1 hn (by omega) (fun h => ?_) (fun h => ?_)
      · rw [hvn] at hk
        exact hk () (ext (fun _ => h))
      · exact K0 (fun H => h (H s hsm z))
theorem ky_isModel {post : Int32 → Prop} {x1 : Int32} {ka : Nat} (hvn : yf_n = nI n) (hvm : yf_m = nI m) (hva : yf_assumed = nI ka) (hn1 : 1 ≤ n) (hn : n ≤ 8) (hm : m ≤ 24) (hka : ka ≤ n) (hl : ∀ i, i < ka → kl_pos n (ya_assumptions i) ∨ kl_neg n (ya_assumptions i))
    (K1 : ((∀ i, i < ka → kl_true (ya_assumptions i) (bt x1)) ∧ ky_Sat n m ya_compiledUsed ya_compiledHas (bt x1)) → post 1) (K0 : ¬ ((∀ i, i < ka → kl_true (ya_assumptions i) (bt x1)) ∧ ky_Sat n m ya_compiledUsed ya_compiledHas (bt x1)) → post 0) : wpY_isModel post (yf_n, yf_m, yf_state, yf_assumed, ya_draft, ya_used, ya_has, ya_compiledUsed, ya_compiledHas, ya_assumptions, ya_weights) x1 := by
  subst hva
  refine loop_0 (fun q i (_ : Unit) => wY_isModel_2 post x1 yf_n yf_m yf_state (nI ka) ya_draft ya_used ya_has ya_compiledUsed ya_compiledHas ya_assumptions ya_weights q (nI i)) (fun i _ => ∀ j, j < i → kl_true (ya_assumptions j) (bt x1)) ka () (fun s hs => absurd hs (Nat.not_lt_zero _)) ?_ ?_
  · intro q _ hs
    refine br_t (nI_le (Nat.le_refl _) (by omega)) ?_
    exact ky_satisfies hvn hvm hn1 hn hm (fun h => ⟨narrow_b1, K1 ⟨hs, h⟩⟩) (fun h => ⟨narrow_b0, K0 (fun z => h z.2)⟩)
  · intro q i _ hi hs hk
    have ei : (nI i).toNatClampNeg = i := nI_clamp (by omega)
    refine br_f (nI_ge hi (by omega)) ⟨vp_in_nI (by omega) (by decide), ?_⟩
    rw [ei]
    refine ky_isTrue (n := n) hn (hl i hi) (fun h => br_f (by decide) ?_) (fun h => br_t rfl (K0 (fun z => h (z.1 i hi))))
    intro y ey
    subst ey
    rw [nI_1 i]
    refine hk () (fun j hj => ?_)
    by_cases e : j = i
    · subst e; exact h
    · exact hs j (by omega)
end
end
section
/-! the relation -/
def kr_draft (n : Nat) (dP dN : Int32) (dr : Nat → Int32) : Prop :=
  (∀ v, bt dP v = true → v < n) ∧ (∀ v, bt dN v = true → v < n) ∧ (∀ i, dr i = 0 ∨ dr i = 1) ∧ (∀ v, v < 8 → (bt dP v = true ↔ dr (9 + v) = 1)) ∧ (∀ v, v < 8 → (bt dN v = true ↔ dr (7 - v) = 1)) ∧ dr 8 = 0
/-- one slot: the masks and the row say the same -/
def kr_slot (n : Nat) (p q : Int32) (has : Nat → Int32) (s : Nat) : Prop :=
  (∀ v, bt p v = true → v < n) ∧ (∀ v, bt q v = true → v < n) ∧ ∀ v, v < 8 → (bt p v = true ↔ has (s * 17 + 9 + v) = 1) ∧ (bt q v = true ↔ has (s * 17 + 7 - v) = 1)
def kr_slots (n m : Nat) (us sp sn has : Nat → Int32) : Prop :=
  (∀ i, us i = 0 ∨ us i = 1) ∧ (∀ i, has i = 0 ∨ has i = 1) ∧ ∀ s, s < m → ¬ us s = 0 → kr_slot n (sp s) (sn s) has s
def kr_as (n ka : Nat) (ass : Nat → Int32) (aP aN : Int32) : Prop :=
  ka ≤ n ∧ (∀ i, i < ka → kl_pos n (ass i) ∨ kl_neg n (ass i)) ∧ (∀ v, bt aP v = true ↔ (v < n ∧ ∃ i, i < ka ∧ ass i = nI (v + 1))) ∧ (∀ v, bt aN v = true ↔ (v < n ∧ ∃ i, i < ka ∧ ass i = -nI (v + 1)))
  ∧ kb_dis aP aN ∧ kb_cd (bt (aP ||| aN)) = ka ∧ (∀ i j, i < ka → j < i → ass i ≠ ass j ∧ ass i ≠ -ass j)
def kr_w (wP wN ws : Nat → Int32) : Prop := ∀ v, v < 8 → (∃ a, a < 32749 ∧ wP v = nI a ∧ ws (9 + v) = nI a) ∧ (∃ b, b < 32749 ∧ wN v = nI b ∧ ws (7 - v) = nI b)
def kr_c (n m : Nat) (F nCount root : Int32) (ch po ne fr kc kd cu has : Nat → Int32) : Prop :=
  ∃ nc rt vs P, 1 ≤ nc ∧ nc ≤ 1024 ∧ rt < nc ∧ nCount = nI nc ∧ root = nI rt ∧ kc_C nc ch po ne fr kc kd vs P ∧ kp_R nc vs P rt F (ky_Sat n m cu has)
def kr_F (n m ka : Nat) (f_fullMask : Int32) (f_draftPos : Int32) (f_draftNeg : Int32) (f_state : Int32) (f_assumedPos : Int32) (f_assumedNeg : Int32) (f_nodeCount : Int32) (f_root : Int32) (a_slotUsed : Nat → Int32) (a_slotPos : Nat → Int32) (a_slotNeg : Nat → Int32) (a_assumed : Nat → Int32) (a_weightPos : Nat → Int32) (a_weightNeg : Nat → Int32) (a_nodeChoice : Nat → Int32) (a_nodePos : Nat → Int32) (a_nodeNeg : Nat → Int32) (a_nodeFree : Nat → Int32) (a_nodeKids : Nat → Int32) (a_kids : Nat → Int32) (a_sizes : Nat → Int32) (ya_draft : Nat → Int32) (ya_has : Nat → Int32) (ya_compiledUsed : Nat → Int32) (ya_compiledHas : Nat → Int32) (ya_weights : Nat → Int32) : Prop :=
  (1 ≤ n ∧ n ≤ 8) ∧ (1 ≤ m ∧ m ≤ 24) ∧ (∀ v, bt f_fullMask v = decide (v < n)) ∧ kr_draft n f_draftPos f_draftNeg ya_draft ∧ kr_slots n m a_slotUsed a_slotPos a_slotNeg ya_has ∧ kr_as n ka a_assumed f_assumedPos f_assumedNeg ∧ kr_w a_weightPos a_weightNeg ya_weights
  ∧ (∀ j, j < 9 → a_sizes j = 0) ∧ (¬ f_state = 0 → kr_c n m f_fullMask f_nodeCount f_root a_nodeChoice a_nodePos a_nodeNeg a_nodeFree a_nodeKids a_kids ya_compiledUsed ya_compiledHas)
def i_Rel (k : Nat) (u : SX) (v : SY) : Prop := match u, v with
  | (f_varCount, f_slotCount, f_fullMask, f_draftPos, f_draftNeg, f_state, f_assumedCount, f_assumedPos, f_assumedNeg, f_clauseCount, f_nodeCount, f_root, f_depth, f_result, f_workPos, f_workNeg, f_workLive, a_slotUsed, a_slotPos, a_slotNeg, a_assumed, a_weightPos, a_weightNeg, a_clausePos, a_clauseNeg, a_nodeChoice, a_nodePos, a_nodeNeg, a_nodeFree, a_nodeKids, a_kids, a_cacheKey, a_cacheNode, a_framePos, a_frameNeg, a_frameFree, a_frameParts, a_frameNext, a_framePhase, a_frameVar, a_frameHigh, a_partVars, a_partClauses, a_partNode, a_value, a_sizes, a_poly, a_product, a_factorPos, a_factorNeg), (yf_n, yf_m, yf_state, yf_assumed, ya_draft, ya_used, ya_has, ya_compiledUsed, ya_compiledHas, ya_assumptions, ya_weights) => ∃ n m ka : Nat, f_varCount = nI n ∧ f_slotCount = nI m ∧ f_assumedCount = nI ka ∧ yf_n = nI n ∧ yf_m = nI m ∧ f_state = yf_state ∧ yf_assumed = nI ka ∧ a_slotUsed = ya_used ∧ a_assumed = ya_assumptions ∧ kr_F n m ka f_fullMask f_draftPos f_draftNeg f_state f_assumedPos f_assumedNeg f_nodeCount f_root a_slotUsed a_slotPos a_slotNeg a_assumed a_weightPos a_weightNeg a_nodeChoice a_nodePos a_nodeNeg a_nodeFree a_nodeKids a_kids a_sizes ya_draft ya_has ya_compiledUsed ya_compiledHas ya_weights
theorem i_up {k : Nat} {u : SX} {v : SY} (h : i_Rel k u v) : i_Rel (k + 4) u v := h
theorem kr_el {k : Nat} {u : SX} {v : SY} {Pd : SX → SY → Prop} (h : ∀ (n m ka : Nat) (f_fullMask : Int32) (f_draftPos : Int32) (f_draftNeg : Int32) (f_state : Int32) (f_assumedPos : Int32) (f_assumedNeg : Int32) (f_clauseCount : Int32) (f_nodeCount : Int32) (f_root : Int32) (f_depth : Int32) (f_result : Int32) (f_workPos : Int32) (f_workNeg : Int32) (f_workLive : Int32) (a_slotUsed : Nat → Int32) (a_slotPos : Nat → Int32) (a_slotNeg : Nat → Int32) (a_assumed : Nat → Int32) (a_weightPos : Nat → Int32) (a_weightNeg : Nat → Int32) (a_clausePos : Nat → Int32) (a_clauseNeg : Nat → Int32) (a_nodeChoice : Nat → Int32) (a_nodePos : Nat → Int32) (a_nodeNeg : Nat → Int32) (a_nodeFree : Nat → Int32) (a_nodeKids : Nat → Int32) (a_kids : Nat → Int32) (a_cacheKey : Nat → Int32) (a_cacheNode : Nat → Int32) (a_framePos : Nat → Int32) (a_frameNeg : Nat → Int32) (a_frameFree : Nat → Int32) (a_frameParts : Nat → Int32) (a_frameNext : Nat → Int32) (a_framePhase : Nat → Int32) (a_frameVar : Nat → Int32) (a_frameHigh : Nat → Int32) (a_partVars : Nat → Int32) (a_partClauses : Nat → Int32) (a_partNode : Nat → Int32) (a_value : Nat → Int32) (a_sizes : Nat → Int32) (a_poly : Nat → Int32) (a_product : Nat → Int32) (a_factorPos : Nat → Int32) (a_factorNeg : Nat → Int32) (ya_draft : Nat → Int32) (ya_has : Nat → Int32) (ya_compiledUsed : Nat → Int32) (ya_compiledHas : Nat → Int32) (ya_weights : Nat → Int32), kr_F n m ka f_fullMask f_draftPos f_draftNeg f_state f_assumedPos f_assumedNeg f_nodeCount f_root a_slotUsed a_slotPos a_slotNeg a_assumed a_weightPos a_weightNeg a_nodeChoice a_nodePos a_nodeNeg a_nodeFree a_nodeKids a_kids a_sizes ya_draft ya_has ya_compiledUsed ya_compiledHas ya_weights → Pd ((nI n), (nI m), f_fullMask, f_draftPos, f_draftNeg, f_state, (nI ka), f_assumedPos, f_assumedNeg, f_clauseCount, f_nodeCount, f_root, f_depth, f_result, f_workPos, f_workNeg, f_workLive, a_slotUsed, a_slotPos, a_slotNeg, a_assumed, a_weightPos, a_weightNeg, a_clausePos, a_clauseNeg, a_nodeChoice, a_nodePos, a_nodeNeg, a_nodeFree, a_nodeKids, a_kids, a_cacheKey, a_cacheNode, a_framePos, a_frameNeg, a_frameFree, a_frameParts, a_frameNext, a_framePhase, a_frameVar, a_frameHigh, a_partVars, a_partClauses, a_partNode, a_value, a_sizes, a_poly, a_product, a_factorPos, a_factorNeg) ((nI n), (nI m), f_state, (nI ka), ya_draft, a_slotUsed, ya_has, ya_compiledUsed, ya_compiledHas, a_assumed, ya_weights)) (I : i_Rel k u v) : Pd u v := by
  obtain ⟨f_varCount, f_slotCount, f_fullMask, f_draftPos, f_draftNeg, f_state, f_assumedCount, f_assumedPos, f_assumedNeg, f_clauseCount, f_nodeCount, f_root, f_depth, f_result, f_workPos, f_workNeg, f_workLive, a_slotUsed, a_slotPos, a_slotNeg, a_assumed, a_weightPos, a_weightNeg, a_clausePos, a_clauseNeg, a_nodeChoice, a_nodePos, a_nodeNeg, a_nodeFree, a_nodeKids, a_kids, a_cacheKey, a_cacheNode, a_framePos, a_frameNeg, a_frameFree, a_frameParts, a_frameNext, a_framePhase, a_frameVar, a_frameHigh, a_partVars, a_partClauses, a_partNode, a_value, a_sizes, a_poly, a_product, a_factorPos, a_factorNeg⟩ := u
  obtain ⟨yf_n, yf_m, yf_state, yf_assumed, ya_draft, ya_used, ya_has, ya_compiledUsed, ya_compiledHas, ya_assumptions, ya_weights⟩ := v
  obtain ⟨n, m, ka, e1, e2, e3, e4, e5, e6, e7, e8, e9, hF⟩ := I
  subst e1 e2 e3 e4 e5 e6 e7 e8 e9
  exact h n m ka f_fullMask f_draftPos f_draftNeg f_state f_assumedPos f_assumedNeg f_clauseCount f_nodeCount f_root f_depth f_result f_workPos f_workNeg f_workLive a_slotUsed a_slotPos a_slotNeg a_assumed a_weightPos a_weightNeg a_clausePos a_clauseNeg a_nodeChoice a_nodePos a_nodeNeg a_nodeFree a_nodeKids a_kids a_cacheKey a_cacheNode a_framePos a_frameNeg a_frameFree a_frameParts a_frameNext a_framePhase a_frameVar a_frameHigh a_partVars a_partClauses a_partNode a_value a_sizes a_poly a_product a_factorPos a_factorNeg ya_draft ya_has ya_compiledUsed ya_compiledHas ya_weights hF
section
variable {f_fullMask f_draftPos f_draftNeg f_state f_assumedPos f_assumedNeg f_clauseCount f_nodeCount f_root f_depth f_result f_workPos f_workNeg f_workLive : Int32} {a_slotUsed a_slotPos a_slotNeg a_assumed a_weightPos a_weightNeg a_clausePos a_clauseNeg a_nodeChoice a_nodePos a_nodeNeg a_nodeFree a_nodeKids a_kids a_cacheKey a_cacheNode a_framePos a_frameNeg a_frameFree a_frameParts a_frameNext a_framePhase a_frameVar a_frameHigh a_partVars a_partClauses a_partNode a_value a_sizes a_poly a_product a_factorPos a_factorNeg ya_draft ya_has ya_compiledUsed ya_compiledHas ya_weights : Nat → Int32} {n m ka : Nat} {k : Nat}
theorem kr_in (hF : kr_F n m ka f_fullMask f_draftPos f_draftNeg f_state f_assumedPos f_assumedNeg f_nodeCount f_root a_slotUsed a_slotPos a_slotNeg a_assumed a_weightPos a_weightNeg a_nodeChoice a_nodePos a_nodeNeg a_nodeFree a_nodeKids a_kids a_sizes ya_draft ya_has ya_compiledUsed ya_compiledHas ya_weights) : i_Rel k ((nI n), (nI m), f_fullMask, f_draftPos, f_draftNeg, f_state, (nI ka), f_assumedPos, f_assumedNeg, f_clauseCount, f_nodeCount, f_root, f_depth, f_result, f_workPos, f_workNeg, f_workLive, a_slotUsed, a_slotPos, a_slotNeg, a_assumed, a_weightPos, a_weightNeg, a_clausePos, a_clauseNeg, a_nodeChoice, a_nodePos, a_nodeNeg, a_nodeFree, a_nodeKids, a_kids, a_cacheKey, a_cacheNode, a_framePos, a_frameNeg, a_frameFree, a_frameParts, a_frameNext, a_framePhase, a_frameVar, a_frameHigh, a_partVars, a_partClauses, a_partNode, a_value, a_sizes, a_poly, a_product, a_factorPos, a_factorNeg) ((nI n), (nI m), f_state, (nI ka), ya_draft, a_slotUsed, ya_has, ya_compiledUsed, ya_compiledHas, a_assumed, ya_weights) := ⟨n, m, ka, rfl, rfl, rfl, rfl, rfl, rfl, rfl, rfl, rfl, hF⟩
theorem kv_vars (hF : kr_F n m ka f_fullMask f_draftPos f_draftNeg f_state f_assumedPos f_assumedNeg f_nodeCount f_root a_slotUsed a_slotPos a_slotNeg a_assumed a_weightPos a_weightNeg a_nodeChoice a_nodePos a_nodeNeg a_nodeFree a_nodeKids a_kids a_sizes ya_draft ya_has ya_compiledUsed ya_compiledHas ya_weights) : wpX_vars (fun r => wpY_vars (fun r' => r' = r ∧ i_Rel (k + 4) ((nI n), (nI m), f_fullMask, f_draftPos, f_draftNeg, f_state, (nI ka), f_assumedPos, f_assumedNeg, f_clauseCount, f_nodeCount, f_root, f_depth, f_result, f_workPos, f_workNeg, f_workLive, a_slotUsed, a_slotPos, a_slotNeg, a_assumed, a_weightPos, a_weightNeg, a_clausePos, a_clauseNeg, a_nodeChoice, a_nodePos, a_nodeNeg, a_nodeFree, a_nodeKids, a_kids, a_cacheKey, a_cacheNode, a_framePos, a_frameNeg, a_frameFree, a_frameParts, a_frameNext, a_framePhase, a_frameVar, a_frameHigh, a_partVars, a_partClauses, a_partNode, a_value, a_sizes, a_poly, a_product, a_factorPos, a_factorNeg) ((nI n), (nI m), f_state, (nI ka), ya_draft, a_slotUsed, ya_has, ya_compiledUsed, ya_compiledHas, a_assumed, ya_weights)) ((nI n), (nI m), f_state, (nI ka), ya_draft, a_slotUsed, ya_has, ya_compiledUsed, ya_compiledHas, a_assumed, ya_weights)) ((nI n), (nI m), f_fullMask, f_draftPos, f_draftNeg, f_state, (nI ka), f_assumedPos, f_assumedNeg, f_clauseCount, f_nodeCount, f_root, f_depth, f_result, f_workPos, f_workNeg, f_workLive, a_slotUsed, a_slotPos, a_slotNeg, a_assumed, a_weightPos, a_weightNeg, a_clausePos, a_clauseNeg, a_nodeChoice, a_nodePos, a_nodeNeg, a_nodeFree, a_nodeKids, a_kids, a_cacheKey, a_cacheNode, a_framePos, a_frameNeg, a_frameFree, a_frameParts, a_frameNext, a_framePhase, a_frameVar, a_frameHigh, a_partVars, a_partClauses, a_partNode, a_value, a_sizes, a_poly, a_product, a_factorPos, a_factorNeg) := ⟨rfl, kr_in hF⟩
theorem kv_capacity (hF : kr_F n m ka f_fullMask f_draftPos f_draftNeg f_state f_assumedPos f_assumedNeg f_nodeCount f_root a_slotUsed a_slotPos a_slotNeg a_assumed a_weightPos a_weightNeg a_nodeChoice a_nodePos a_nodeNeg a_nodeFree a_nodeKids a_kids a_sizes ya_draft ya_has ya_compiledUsed ya_compiledHas ya_weights) : wpX_capacity (fun r => wpY_capacity (fun r' => r' = r ∧ i_Rel (k + 4) ((nI n), (nI m), f_fullMask, f_draftPos, f_draftNeg, f_state, (nI ka), f_assumedPos, f_assumedNeg, f_clauseCount, f_nodeCount, f_root, f_depth, f_result, f_workPos, f_workNeg, f_workLive, a_slotUsed, a_slotPos, a_slotNeg, a_assumed, a_weightPos, a_weightNeg, a_clausePos, a_clauseNeg, a_nodeChoice, a_nodePos, a_nodeNeg, a_nodeFree, a_nodeKids, a_kids, a_cacheKey, a_cacheNode, a_framePos, a_frameNeg, a_frameFree, a_frameParts, a_frameNext, a_framePhase, a_frameVar, a_frameHigh, a_partVars, a_partClauses, a_partNode, a_value, a_sizes, a_poly, a_product, a_factorPos, a_factorNeg) ((nI n), (nI m), f_state, (nI ka), ya_draft, a_slotUsed, ya_has, ya_compiledUsed, ya_compiledHas, a_assumed, ya_weights)) ((nI n), (nI m), f_state, (nI ka), ya_draft, a_slotUsed, ya_has, ya_compiledUsed, ya_compiledHas, a_assumed, ya_weights)) ((nI n), (nI m), f_fullMask, f_draftPos, f_draftNeg, f_state, (nI ka), f_assumedPos, f_assumedNeg, f_clauseCount, f_nodeCount, f_root, f_depth, f_result, f_workPos, f_workNeg, f_workLive, a_slotUsed, a_slotPos, a_slotNeg, a_assumed, a_weightPos, a_weightNeg, a_clausePos, a_clauseNeg, a_nodeChoice, a_nodePos, a_nodeNeg, a_nodeFree, a_nodeKids, a_kids, a_cacheKey, a_cacheNode, a_framePos, a_frameNeg, a_frameFree, a_frameParts, a_frameNext, a_framePhase, a_frameVar, a_frameHigh, a_partVars, a_partClauses, a_partNode, a_value, a_sizes, a_poly, a_product, a_factorPos, a_factorNeg) := ⟨rfl, kr_in hF⟩
theorem kv_status (hF : kr_F n m ka f_fullMask f_draftPos f_draftNeg f_state f_assumedPos f_assumedNeg f_nodeCount f_root a_slotUsed a_slotPos a_slotNeg a_assumed a_weightPos a_weightNeg a_nodeChoice a_nodePos a_nodeNeg a_nodeFree a_nodeKids a_kids a_sizes ya_draft ya_has ya_compiledUsed ya_compiledHas ya_weights) : wpX_status (fun r => wpY_status (fun r' => r' = r ∧ i_Rel (k + 4) ((nI n), (nI m), f_fullMask, f_draftPos, f_draftNeg, f_state, (nI ka), f_assumedPos, f_assumedNeg, f_clauseCount, f_nodeCount, f_root, f_depth, f_result, f_workPos, f_workNeg, f_workLive, a_slotUsed, a_slotPos, a_slotNeg, a_assumed, a_weightPos, a_weightNeg, a_clausePos, a_clauseNeg, a_nodeChoice, a_nodePos, a_nodeNeg, a_nodeFree, a_nodeKids, a_kids, a_cacheKey, a_cacheNode, a_framePos, a_frameNeg, a_frameFree, a_frameParts, a_frameNext, a_framePhase, a_frameVar, a_frameHigh, a_partVars, a_partClauses, a_partNode, a_value, a_sizes, a_poly, a_product, a_factorPos, a_factorNeg) ((nI n), (nI m), f_state, (nI ka), ya_draft, a_slotUsed, ya_has, ya_compiledUsed, ya_compiledHas, a_assumed, ya_weights)) ((nI n), (nI m), f_state, (nI ka), ya_draft, a_slotUsed, ya_has, ya_compiledUsed, ya_compiledHas, a_assumed, ya_weights)) ((nI n), (nI m), f_fullMask, f_draftPos, f_draftNeg, f_state, (nI ka), f_assumedPos, f_assumedNeg, f_clauseCount, f_nodeCount, f_root, f_depth, f_result, f_workPos, f_workNeg, f_workLive, a_slotUsed, a_slotPos, a_slotNeg, a_assumed, a_weightPos, a_weightNeg, a_clausePos, a_clauseNeg, a_nodeChoice, a_nodePos, a_nodeNeg, a_nodeFree, a_nodeKids, a_kids, a_cacheKey, a_cacheNode, a_framePos, a_frameNeg, a_frameFree, a_frameParts, a_frameNext, a_framePhase, a_frameVar, a_frameHigh, a_partVars, a_partClauses, a_partNode, a_value, a_sizes, a_poly, a_product, a_factorPos, a_factorNeg) := ⟨rfl, kr_in hF⟩
end
theorem i_vc_vars {k : Nat} {u : SX} {v : SY} (I : i_Rel k u v) (hk : k + 4 ≤ 2050) : wpX_vars (fun r => wpY_vars (fun r' => r' = r ∧ i_Rel (k + 4) u v) v) u :=
  kr_el (Pd := fun u v => wpX_vars (fun r => wpY_vars (fun r' => r' = r ∧ i_Rel (k + 4) u v) v) u) (fun n m ka f_fullMask f_draftPos f_draftNeg f_state f_assumedPos f_assumedNeg f_clauseCount f_nodeCount f_root f_depth f_result f_workPos f_workNeg f_workLive a_slotUsed a_slotPos a_slotNeg a_assumed a_weightPos a_weightNeg a_clausePos a_clauseNeg a_nodeChoice a_nodePos a_nodeNeg a_nodeFree a_nodeKids a_kids a_cacheKey a_cacheNode a_framePos a_frameNeg a_frameFree a_frameParts a_frameNext a_framePhase a_frameVar a_frameHigh a_partVars a_partClauses a_partNode a_value a_sizes a_poly a_product a_factorPos a_factorNeg ya_draft ya_has ya_compiledUsed ya_compiledHas ya_weights hF => kv_vars hF) I
theorem i_vc_capacity {k : Nat} {u : SX} {v : SY} (I : i_Rel k u v) (hk : k + 4 ≤ 2050) : wpX_capacity (fun r => wpY_capacity (fun r' => r' = r ∧ i_Rel (k + 4) u v) v) u :=
  kr_el (Pd := fun u v => wpX_capacity (fun r => wpY_capacity (fun r' => r' = r ∧ i_Rel (k + 4) u v) v) u) (fun n m ka f_fullMask f_draftPos f_draftNeg f_state f_assumedPos f_assumedNeg f_clauseCount f_nodeCount f_root f_depth f_result f_workPos f_workNeg f_workLive a_slotUsed a_slotPos a_slotNeg a_assumed a_weightPos a_weightNeg a_clausePos a_clauseNeg a_nodeChoice a_nodePos a_nodeNeg a_nodeFree a_nodeKids a_kids a_cacheKey a_cacheNode a_framePos a_frameNeg a_frameFree a_frameParts a_frameNext a_framePhase a_frameVar a_frameHigh a_partVars a_partClauses a_partNode a_value a_sizes a_poly a_product a_factorPos a_factorNeg ya_draft ya_has ya_compiledUsed ya_compiledHas ya_weights hF => kv_capacity hF) I
theorem i_vc_status {k : Nat} {u : SX} {v : SY} (I : i_Rel k u v) (hk : k + 4 ≤ 2050) : wpX_status (fun r => wpY_status (fun r' => r' = r ∧ i_Rel (k + 4) u v) v) u :=
  kr_el (Pd := fun u v => wpX_status (fun r => wpY_status (fun r' => r' = r ∧ i_Rel (k + 4) u v) v) u) (fun n m ka f_fullMask f_draftPos f_draftNeg f_state f_assumedPos f_assumedNeg f_clauseCount f_nodeCount f_root f_depth f_result f_workPos f_workNeg f_workLive a_slotUsed a_slotPos a_slotNeg a_assumed a_weightPos a_weightNeg a_clausePos a_clauseNeg a_nodeChoice a_nodePos a_nodeNeg a_nodeFree a_nodeKids a_kids a_cacheKey a_cacheNode a_framePos a_frameNeg a_frameFree a_frameParts a_frameNext a_framePhase a_frameVar a_frameHigh a_partVars a_partClauses a_partNode a_value a_sizes a_poly a_product a_factorPos a_factorNeg ya_draft ya_has ya_compiledUsed ya_compiledHas ya_weights hF => kv_status hF) I
end
section
/-! editing: small walks of both sides -/
def kr_ms (st : Int32) : Int32 := if st = 1 then 2 else st
theorem kr_ms0 {st : Int32} (h : ¬ kr_ms st = 0) : ¬ st = 0 := by
  intro e
  apply h
  unfold kr_ms
  rw [e]; decide
theorem kr_least {m : Nat} (us : Nat → Int32) : (∀ j, j < m → ¬ us j = 0) ∨ ∃ s, s < m ∧ us s = 0 ∧ ∀ j, j < s → ¬ us j = 0 := by
  induction m with
  | zero => exact Or.inl (fun j hj => absurd hj (Nat.not_lt_zero _))
  | succ m ih =>
    rcases ih with h | ⟨s, h1, h2, h3⟩
    · by_cases e : us m = 0
      · exact Or.inr ⟨m, by omega, e, h⟩
      · refine Or.inl (fun j hj => ?_)
        by_cases e' : j = m
        · subst e'; exact e
        · exact h j (by omega)
    · exact Or.inr ⟨s, by omega, h2, h3⟩
theorem kb_cdz {x : Int32} (h : kb_lo8 x) : kb_cd (bt x) = 0 ↔ x = 0 := by
  constructor
  · intro hc
    rw [kb_z]
    intro v
    refine ts_nt (fun e => ?_)
    have := kb_cd1 (h v e) e
    omega
  · intro e
    rw [e, show bt 0 = fun _ => false from funext (fun v => b_0 v)]
    exact kb_cd0
def ky_nz (f : Nat → Int32) (i : Nat) : Nat := if f i = 0 then 0 else 1
theorem ky_nz1 {f : Nat → Int32} {i : Nat} {b : Bool} (h01 : f i = 0 ∨ f i = 1) (h : b = true ↔ f i = 1) : ky_nz f i = b.toNat := by
  unfold ky_nz
  rcases h01 with e | e
  · rw [if_pos e]
    cases b with
    | false => rfl
    | true => have := h.mp rfl; rw [e] at this; exact absurd this (by decide)
  · rw [h.mpr e, if_neg (by rw [e]; decide)]; rfl
theorem kr_dsum {n : Nat} {dP dN : Int32} {dr : Nat → Int32} (h : kr_draft n dP dN dr) : ks_sm 17 (ky_nz dr) = kb_cd (bt dP) + kb_cd (bt dN) := by
  obtain ⟨_, _, h3, h4, h5, h6⟩ := h
  have p : ∀ v, v < 8 → ky_nz dr (9 + v) = (bt dP v).toNat := fun v hv => ky_nz1 (h3 _) (h4 v hv)
  have q : ∀ v, v < 8 → ky_nz dr (7 - v) = (bt dN v).toNat := fun v hv => ky_nz1 (h3 _) (h5 v hv)
  have z : ky_nz dr 8 = 0 := by unfold ky_nz; exact if_pos h6
  have p0 := p 0 (by decide)
  have p1 := p 1 (by decide)
  have p2 := p 2 (by decide)
  have p3 := p 3 (by decide)
  have p4 := p 4 (by decide)
  have p5 := p 5 (by decide)
  have p6 := p 6 (by decide)
  have p7 := p 7 (by decide)
  have q0 := q 0 (by decide)
  have q1 := q 1 (by decide)
  have q2 := q 2 (by decide)
  have q3 := q 3 (by decide)
  have q4 := q 4 (by decide)
  have q5 := q 5 (by decide)
  have q6 := q 6 (by decide)
  have q7 := q 7 (by decide)
  simp only [Nat.reduceAdd, Nat.reduceSub] at p0 p1 p2 p3 p4 p5 p6 p7 q0 q1 q2 q3 q4 q5 q6 q7
  unfold kb_cd
  simp only [ks_sm]
  omega
section
variable {f_varCount f_slotCount f_fullMask f_draftPos f_draftNeg f_state f_assumedCount f_assumedPos f_assumedNeg f_clauseCount f_nodeCount f_root f_depth f_result f_workPos f_workNeg f_workLive : Int32} {a_slotUsed a_slotPos a_slotNeg a_assumed a_weightPos a_weightNeg a_clausePos a_clauseNeg a_nodeChoice a_nodePos a_nodeNeg a_nodeFree a_nodeKids a_kids a_cacheKey a_cacheNode a_framePos a_frameNeg a_frameFree a_frameParts a_frameNext a_framePhase a_frameVar a_frameHigh a_partVars a_partClauses a_partNode a_value a_sizes a_poly a_product a_factorPos a_factorNeg : Nat → Int32}
variable {m n : Nat}
theorem kw_markStale {post : SX → Prop} (K : post (f_varCount, f_slotCount, f_fullMask, f_draftPos, f_draftNeg, (kr_ms f_state), f_assumedCount, f_assumedPos, f_assumedNeg, f_clauseCount, f_nodeCount, f_root, f_depth, f_result, f_workPos, f_workNeg, f_workLive, a_slotUsed, a_slotPos, a_slotNeg, a_assumed, a_weightPos, a_weightNeg, a_clausePos, a_clauseNeg, a_nodeChoice, a_nodePos, a_nodeNeg, a_nodeFree, a_nodeKids, a_kids, a_cacheKey, a_cacheNode, a_framePos, a_frameNeg, a_frameFree, a_frameParts, a_frameNext, a_framePhase, a_frameVar, a_frameHigh, a_partVars, a_partClauses, a_partNode, a_value, a_sizes, a_poly, a_product, a_factorPos, a_factorNeg)) : wpX_markStale post (f_varCount, f_slotCount, f_fullMask, f_draftPos, f_draftNeg, f_state, f_assumedCount, f_assumedPos, f_assumedNeg, f_clauseCount, f_nodeCount, f_root, f_depth, f_result, f_workPos, f_workNeg, f_workLive, a_slotUsed, a_slotPos, a_slotNeg, a_assumed, a_weightPos, a_weightNeg, a_clausePos, a_clauseNeg, a_nodeChoice, a_nodePos, a_nodeNeg, a_nodeFree, a_nodeKids, a_kids, a_cacheKey, a_cacheNode, a_framePos, a_frameNeg, a_frameFree, a_frameParts, a_frameNext, a_framePhase, a_frameVar, a_frameHigh, a_partVars, a_partClauses, a_partNode, a_value, a_sizes, a_poly, a_product, a_factorPos, a_factorNeg) := by
  refine br_c (fun h => ?_) (fun h => ?_)
  · unfold kr_ms at K; rw [if_pos h] at K; exact K
  · unfold kr_ms at K; rw [if_neg h] at K; exact K
theorem kw_store0 {post : Int32 → SX → Prop} {p q : Int32} (hm : f_slotCount = nI m) (hm24 : m ≤ 24) (h : ∀ j, j < m → ¬ a_slotUsed j = 0) (K : post (-2) (f_varCount, f_slotCount, f_fullMask, f_draftPos, f_draftNeg, f_state, f_assumedCount, f_assumedPos, f_assumedNeg, f_clauseCount, f_nodeCount, f_root, f_depth, f_result, f_workPos, f_workNeg, f_workLive, a_slotUsed, a_slotPos, a_slotNeg, a_assumed, a_weightPos, a_weightNeg, a_clausePos, a_clauseNeg, a_nodeChoice, a_nodePos, a_nodeNeg, a_nodeFree, a_nodeKids, a_kids, a_cacheKey, a_cacheNode, a_framePos, a_frameNeg, a_frameFree, a_frameParts, a_frameNext, a_framePhase, a_frameVar, a_frameHigh, a_partVars, a_partClauses, a_partNode, a_value, a_sizes, a_poly, a_product, a_factorPos, a_factorNeg)) : wpX_store post (f_varCount, f_slotCount, f_fullMask, f_draftPos, f_draftNeg, f_state, f_assumedCount, f_assumedPos, f_assumedNeg, f_clauseCount, f_nodeCount, f_root, f_depth, f_result, f_workPos, f_workNeg, f_workLive, a_slotUsed, a_slotPos, a_slotNeg, a_assumed, a_weightPos, a_weightNeg, a_clausePos, a_clauseNeg, a_nodeChoice, a_nodePos, a_nodeNeg, a_nodeFree, a_nodeKids, a_kids, a_cacheKey, a_cacheNode, a_framePos, a_frameNeg, a_frameFree, a_frameParts, a_frameNext, a_framePhase, a_frameVar, a_frameHigh, a_partVars, a_partClauses, a_partNode, a_value, a_sizes, a_poly, a_product, a_factorPos, a_factorNeg) p q := by
  subst hm
  refine loop_0 (fun n i (_ : Unit) => wX_store_2 post p q f_varCount (nI m) f_fullMask f_draftPos f_draftNeg f_state f_assumedCount f_assumedPos f_assumedNeg f_clauseCount f_nodeCount f_root f_depth f_result f_workPos f_workNeg f_workLive a_slotUsed a_slotPos a_slotNeg a_assumed a_weightPos a_weightNeg a_clausePos a_clauseNeg a_nodeChoice a_nodePos a_nodeNeg a_nodeFree a_nodeKids a_kids a_cacheKey a_cacheNode a_framePos a_frameNeg a_frameFree a_frameParts a_frameNext a_framePhase a_frameVar a_frameHigh a_partVars a_partClauses a_partNode a_value a_sizes a_poly a_product a_factorPos a_factorNeg n (nI i)) (fun _ _ => True) m () trivial ?_ ?_
  · intro n _ _
    exact br_t (nI_le (Nat.le_refl _) (by omega)) K
  · intro n i _ hi _ hk
    have ei : (nI i).toNatClampNeg = i := nI_clamp (by omega)
    refine br_f (nI_ge hi (by omega)) ⟨vp_in_nI (by omega) (by decide), ?_⟩
    rw [ei]
    refine br_f (h i hi) ?_
    intro y ey
    subst ey
    rw [nI_1 i]
    exact hk () trivial
theorem kw_store1 {post : Int32 → SX → Prop} {p q : Int32} {s : Nat} (hm : f_slotCount = nI m) (hm24 : m ≤ 24) (hs : s < m) (h0 : a_slotUsed s = 0) (h : ∀ j, j < s → ¬ a_slotUsed j = 0)
    (K : post (nI s) (f_varCount, f_slotCount, f_fullMask, f_draftPos, f_draftNeg, (kr_ms f_state), f_assumedCount, f_assumedPos, f_assumedNeg, f_clauseCount, f_nodeCount, f_root, f_depth, f_result, f_workPos, f_workNeg, f_workLive, (upd a_slotUsed s 1), (upd a_slotPos s p), (upd a_slotNeg s q), a_assumed, a_weightPos, a_weightNeg, a_clausePos, a_clauseNeg, a_nodeChoice, a_nodePos, a_nodeNeg, a_nodeFree, a_nodeKids, a_kids, a_cacheKey, a_cacheNode, a_framePos, a_frameNeg, a_frameFree, a_frameParts, a_frameNext, a_framePhase, a_frameVar, a_frameHigh, a_partVars, a_partClauses, a_partNode, a_value, a_sizes, a_poly, a_product, a_factorPos, a_factorNeg)) : wpX_store post (f_varCount, f_slotCount, f_fullMask, f_draftPos, f_draftNeg, f_state, f_assumedCount, f_assumedPos, f_assumedNeg, f_clauseCount, f_nodeCount, f_root, f_depth, f_result, f_workPos, f_workNeg, f_workLive, a_slotUsed, a_slotPos, a_slotNeg, a_assumed, a_weightPos, a_weightNeg, a_clausePos, a_clauseNeg, a_nodeChoice, a_nodePos, a_nodeNeg, a_nodeFree, a_nodeKids, a_kids, a_cacheKey, a_cacheNode, a_framePos, a_frameNeg, a_frameFree, a_frameParts, a_frameNext, a_framePhase, a_frameVar, a_frameHigh, a_partVars, a_partClauses, a_partNode, a_value, a_sizes, a_poly, a_product, a_factorPos, a_factorNeg) p q := by
  subst hm
  refine loop_0 (fun n i (_ : Unit) => wX_store_2 post p q f_varCount (nI m) f_fullMask f_draftPos f_draftNeg f_state f_assumedCount f_assumedPos f_assumedNeg f_clauseCount f_nodeCount f_root f_depth f_result f_workPos f_workNeg f_workLive a_slotUsed a_slotPos a_slotNeg a_assumed a_weightPos a_weightNeg a_clausePos a_clauseNeg a_nodeChoice a_nodePos a_nodeNeg a_nodeFree a_nodeKids a_kids a_cacheKey a_cacheNode a_framePos a_frameNeg a_frameFree a_frameParts a_frameNext a_framePhase a_frameVar a_frameHigh a_partVars a_partClauses a_partNode a_value a_sizes a_poly a_product a_factorPos a_factorNeg n (nI i)) (fun _ _ => True) s () trivial ?_ ?_
  · intro n _ _
    have ei : (nI s).toNatClampNeg = s := nI_clamp (by omega)
    have hin : vp_in (nI s) 24 := vp_in_nI (by omega) (by decide)
    refine br_f (nI_ge hs (by omega)) ⟨hin, ?_⟩
    rw [ei]
    refine br_t h0 ⟨hin, fun a1 e1 => ⟨hin, fun a2 e2 => ⟨hin, fun a3 e3 => ?_⟩⟩⟩
    subst e1 e2 e3
    exact kw_markStale K
  · intro n i _ hi _ hk
    have ei : (nI i).toNatClampNeg = i := nI_clamp (by omega)
    refine br_f (nI_ge (b := m) (by omega) (by omega)) ⟨vp_in_nI (by omega) (by decide), ?_⟩
    rw [ei]
    refine br_f (h i hi) ?_
    intro y ey
    subst ey
    rw [nI_1 i]
    exact hk () trivial
theorem kw_drop55 {post : Int32 → SX → Prop} (hm : f_slotCount = nI m) (hm24 : m ≤ 24) (K : post (nI (ks_sm m (ky_nz a_slotUsed))) (f_varCount, f_slotCount, f_fullMask, f_draftPos, f_draftNeg, f_state, f_assumedCount, f_assumedPos, f_assumedNeg, f_clauseCount, f_nodeCount, f_root, f_depth, f_result, f_workPos, f_workNeg, f_workLive, a_slotUsed, a_slotPos, a_slotNeg, a_assumed, a_weightPos, a_weightNeg, a_clausePos, a_clauseNeg, a_nodeChoice, a_nodePos, a_nodeNeg, a_nodeFree, a_nodeKids, a_kids, a_cacheKey, a_cacheNode, a_framePos, a_frameNeg, a_frameFree, a_frameParts, a_frameNext, a_framePhase, a_frameVar, a_frameHigh, a_partVars, a_partClauses, a_partNode, a_value, a_sizes, a_poly, a_product, a_factorPos, a_factorNeg)) : ∃ q, wX_drop_55 post f_varCount f_slotCount f_fullMask f_draftPos f_draftNeg f_state f_assumedCount f_assumedPos f_assumedNeg f_clauseCount f_nodeCount f_root f_depth f_result f_workPos f_workNeg f_workLive a_slotUsed a_slotPos a_slotNeg a_assumed a_weightPos a_weightNeg a_clausePos a_clauseNeg a_nodeChoice a_nodePos a_nodeNeg a_nodeFree a_nodeKids a_kids a_cacheKey a_cacheNode a_framePos a_frameNeg a_frameFree a_frameParts a_frameNext a_framePhase a_frameVar a_frameHigh a_partVars a_partClauses a_partNode a_value a_sizes a_poly a_product a_factorPos a_factorNeg q 0 0 := by
  subst hm
  refine loop_0 (fun q i t => wX_drop_55 post f_varCount (nI m) f_fullMask f_draftPos f_draftNeg f_state f_assumedCount f_assumedPos f_assumedNeg f_clauseCount f_nodeCount f_root f_depth f_result f_workPos f_workNeg f_workLive a_slotUsed a_slotPos a_slotNeg a_assumed a_weightPos a_weightNeg a_clausePos a_clauseNeg a_nodeChoice a_nodePos a_nodeNeg a_nodeFree a_nodeKids a_kids a_cacheKey a_cacheNode a_framePos a_frameNeg a_frameFree a_frameParts a_frameNext a_framePhase a_frameVar a_frameHigh a_partVars a_partClauses a_partNode a_value a_sizes a_poly a_product a_factorPos a_factorNeg q t (nI i)) (fun i t => t = nI (ks_sm i (ky_nz a_slotUsed))) m 0 rfl ?_ ?_
  · intro q t ht
    subst ht
    exact br_t (nI_le (Nat.le_refl _) (by omega)) K
  · intro q i t hi ht hk
    subst ht
    have ei : (nI i).toNatClampNeg = i := nI_clamp (by omega)
    refine br_f (nI_ge hi (by omega)) ⟨vp_in_nI (by omega) (by decide), ?_⟩
    rw [ei]
    refine br_c (fun z => ?_) (fun z => ?_)
    · intro y ey
      subst ey
      rw [nI_1 i]
      refine hk _ ?_
      show _ = nI (ks_sm i (ky_nz a_slotUsed) + ky_nz a_slotUsed i)
      rw [show ky_nz a_slotUsed i = 0 from if_pos z, Nat.add_zero]
    · intro y ey w ew
      subst ey ew
      rw [nI_1 i]
      refine hk _ ?_
      show _ = nI (ks_sm i (ky_nz a_slotUsed) + ky_nz a_slotUsed i)
      rw [show ky_nz a_slotUsed i = 1 from if_neg z, ← nI_1]
end
section
variable {yf_n yf_m yf_state yf_assumed : Int32} {ya_draft ya_used ya_has ya_compiledUsed ya_compiledHas ya_assumptions ya_weights : Nat → Int32}
variable {m n : Nat}
theorem ky_edited {post : SY → Prop} (K : post (yf_n, yf_m, (kr_ms yf_state), yf_assumed, ya_draft, ya_used, ya_has, ya_compiledUsed, ya_compiledHas, ya_assumptions, ya_weights)) : wpY_edited post (yf_n, yf_m, yf_state, yf_assumed, ya_draft, ya_used, ya_has, ya_compiledUsed, ya_compiledHas, ya_assumptions, ya_weights) := by
  refine br_c (fun h => ?_) (fun h => ?_)
  · unfold kr_ms at K; rw [if_pos h] at K; exact K
  · unfold kr_ms at K; rw [if_neg h] at K; exact K
theorem ky_free0 {post : Int32 → Prop} (hm : yf_m = nI m) (hm24 : m ≤ 24) (h : ∀ j, j < m → ¬ ya_used j = 0) (K : post (-2)) : wpY_freeSlot post (yf_n, yf_m, yf_state, yf_assumed, ya_draft, ya_used, ya_has, ya_compiledUsed, ya_compiledHas, ya_assumptions, ya_weights) := by
  subst hm
  refine loop_0 (fun q i (_ : Unit) => wY_freeSlot_2 post yf_n (nI m) yf_state yf_assumed ya_draft ya_used ya_has ya_compiledUsed ya_compiledHas ya_assumptions ya_weights q (nI i)) (fun _ _ => True) m () trivial ?_ ?_
  · intro n _ _
    exact br_t (nI_le (Nat.le_refl _) (by omega)) K
  · intro n i _ hi _ hk
    have ei : (nI i).toNatClampNeg = i := nI_clamp (by omega)
    refine br_f (nI_ge hi (by omega)) ⟨vp_in_nI (by omega) (by decide), ?_⟩
    rw [ei]
    refine br_f (h i hi) ?_
    intro y ey
    subst ey
    rw [nI_1 i]
    exact hk () trivial
theorem ky_free1 {post : Int32 → Prop} {s : Nat} (hm : yf_m = nI m) (hm24 : m ≤ 24) (hs : s < m) (h0 : ya_used s = 0) (h : ∀ j, j < s → ¬ ya_used j = 0) (K : post (nI s)) : wpY_freeSlot post (yf_n, yf_m, yf_state, yf_assumed, ya_draft, ya_used, ya_has, ya_compiledUsed, ya_compiledHas, ya_assumptions, ya_weights) := by
  subst hm
  refine loop_0 (fun q i (_ : Unit) => wY_freeSlot_2 post yf_n (nI m) yf_state yf_assumed ya_draft ya_used ya_has ya_compiledUsed ya_compiledHas ya_assumptions ya_weights q (nI i)) (fun _ _ => True) s () trivial ?_ ?_
  · intro n _ _
    have ei : (nI s).toNatClampNeg = s := nI_clamp (by omega)
    refine br_f (nI_ge hs (by omega)) ⟨vp_in_nI (by omega) (by decide), ?_⟩
    rw [ei]
    exact br_t h0 K
  · intro n i _ hi _ hk
    have ei : (nI i).toNatClampNeg = i := nI_clamp (by omega)
    refine br_f (nI_ge (b := m) (by omega) (by omega)) ⟨vp_in_nI (by omega) (by decide), ?_⟩
    rw [ei]
    refine br_f (h i hi) ?_
    intro y ey
    subst ey
    rw [nI_1 i]
    exact hk () trivial
theorem ky_draftSize {post : Int32 → Prop} (K : post (nI (ks_sm 17 (ky_nz ya_draft)))) : wpY_draftSize post (yf_n, yf_m, yf_state, yf_assumed, ya_draft, ya_used, ya_has, ya_compiledUsed, ya_compiledHas, ya_assumptions, ya_weights) := by
  refine loop_0 (fun q i t => wY_draftSize_4 post yf_n yf_m yf_state yf_assumed ya_draft ya_used ya_has ya_compiledUsed ya_compiledHas ya_assumptions ya_weights q t (nI i)) (fun i t => t = nI (ks_sm i (ky_nz ya_draft))) 17 0 rfl ?_ ?_
  · intro q t ht
    subst ht
    exact br_t (by decide) K
  · intro q i t hi ht hk
    subst ht
    have ei : (nI i).toNatClampNeg = i := nI_clamp (by omega)
    refine br_f (nI_ge (b := 17) hi (by decide)) ⟨vp_in_nI (by omega) (by decide), ?_⟩
    rw [ei]
    refine br_c (fun z => ?_) (fun z => ?_)
    · intro y ey
      subst ey
      rw [nI_1 i]
      refine hk _ ?_
      show _ = nI (ks_sm i (ky_nz ya_draft) + ky_nz ya_draft i)
      rw [show ky_nz ya_draft i = 0 from if_pos z, Nat.add_zero]
    · intro y ey w ew
      subst ey ew
      rw [nI_1 i]
      refine hk _ ?_
      show _ = nI (ks_sm i (ky_nz ya_draft) + ky_nz ya_draft i)
      rw [show ky_nz ya_draft i = 1 from if_neg z, ← nI_1]
theorem ky_drop41 {post : Int32 → SY → Prop} (hm : yf_m = nI m) (hm24 : m ≤ 24) (K : post (nI (ks_sm m (ky_nz ya_used))) (yf_n, yf_m, yf_state, yf_assumed, ya_draft, ya_used, ya_has, ya_compiledUsed, ya_compiledHas, ya_assumptions, ya_weights)) : ∃ q, wY_drop_41 post yf_n yf_m yf_state yf_assumed ya_draft ya_used ya_has ya_compiledUsed ya_compiledHas ya_assumptions ya_weights q 0 0 := by
  subst hm
  refine loop_0 (fun q i t => wY_drop_41 post yf_n (nI m) yf_state yf_assumed ya_draft ya_used ya_has ya_compiledUsed ya_compiledHas ya_assumptions ya_weights q t (nI i)) (fun i t => t = nI (ks_sm i (ky_nz ya_used))) m 0 rfl ?_ ?_
  · intro q t ht
    subst ht
    exact br_t (nI_le (Nat.le_refl _) (by omega)) K
  · intro q i t hi ht hk
    subst ht
    have ei : (nI i).toNatClampNeg = i := nI_clamp (by omega)
    refine br_f (nI_ge hi (by omega)) ⟨vp_in_nI (by omega) (by decide), ?_⟩
    rw [ei]
    refine br_c (fun z => ?_) (fun z => ?_)
    · intro y ey
      subst ey
      rw [nI_1 i]
      refine hk _ ?_
      show _ = nI (ks_sm i (ky_nz ya_used) + ky_nz ya_used i)
      rw [show ky_nz ya_used i = 0 from if_pos z, Nat.add_zero]
    · intro y ey w ew
      subst ey ew
      rw [nI_1 i]
      refine hk _ ?_
      show _ = nI (ks_sm i (ky_nz ya_used) + ky_nz ya_used i)
      rw [show ky_nz ya_used i = 1 from if_neg z, ← nI_1]
theorem ky_nar {x : Int32} (h : x = 0 ∨ x = 1) : vp_nar .boolean x = x := by
  rcases h with rfl | rfl <;> rfl
theorem ky_feed28 {post : Int32 → SY → Prop} {s : Nat} (hs : s < 24) (h01 : ∀ i, ya_draft i = 0 ∨ ya_draft i = 1)
    (K : ∀ dr has, (∀ i, i < 17 → has (s * 17 + i) = ya_draft i) → (∀ t, (t < s * 17 ∨ s * 17 + 17 ≤ t) → has t = ya_has t) → (∀ i, i < 17 → dr i = 0) → (∀ i, 17 ≤ i → dr i = ya_draft i) →
      post (nI s) (yf_n, yf_m, (kr_ms yf_state), yf_assumed, dr, (upd ya_used s 1), has, ya_compiledUsed, ya_compiledHas, ya_assumptions, ya_weights)) : ∃ q, wY_feed_28 post (nI s) yf_n yf_m yf_state yf_assumed q 0 ya_draft ya_used ya_has ya_compiledUsed ya_compiledHas ya_assumptions ya_weights := by
  have es : (nI s).toNatClampNeg = s := nI_clamp (by omega)
  refine loop_0 (σ := (Nat → Int32) × (Nat → Int32)) (fun q i t => wY_feed_28 post (nI s) yf_n yf_m yf_state yf_assumed q (nI i) t.1 ya_used t.2 ya_compiledUsed ya_compiledHas ya_assumptions ya_weights)
    (fun i t => (∀ j, j < i → t.2 (s * 17 + j) = ya_draft j) ∧ (∀ u, (u < s * 17 ∨ s * 17 + 17 ≤ u) → t.2 u = ya_has u) ∧ (∀ j, j < i → t.1 j = 0) ∧ (∀ j, i ≤ j → t.1 j = ya_draft j)) 17 (ya_draft, ya_has) ⟨fun j hj => absurd hj (Nat.not_lt_zero _), fun _ _ => rfl, fun j hj => absurd hj (Nat.not_lt_zero _), fun _ _ => rfl⟩ ?_ ?_
  · rintro q ⟨dr, has⟩ ⟨h1, h2, h3, h4⟩
    dsimp only at h1 h2 h3 h4 ⊢
    refine br_t (by decide) ⟨vp_in_nI hs (by decide), ?_⟩
    intro y ey
    rw [es] at ey
    subst ey
    exact ky_edited (K dr has h1 h2 h3 h4)
  · rintro q i ⟨dr, has⟩ hi ⟨h1, h2, h3, h4⟩ hk
    dsimp only at h1 h2 h3 h4 hk ⊢
    have ei : (nI i).toNatClampNeg = i := nI_clamp (by omega)
    have e17 : nI s * 17 + nI i = nI (s * 17 + i) := by rw [show (17 : Int32) = nI 17 from rfl, pk_mul, nI_add]
    refine br_f (nI_ge (b := 17) hi (by decide)) ⟨vp_in_nI (by omega) (by decide), ?_⟩
    rw [e17, nI_clamp (n := s * 17 + i) (by omega), ei, h4 i (Nat.le_refl _), ky_nar (h01 i)]
    refine ⟨vp_in_nI (by omega) (by decide), fun a1 e1 => ⟨vp_in_nI (by omega) (by decide), fun a2 e2 => ?_⟩⟩
    intro y ey
    subst e1 e2 ey
    rw [nI_1 i]
    refine hk (upd dr i 0, upd has (s * 17 + i) (ya_draft i)) ⟨fun j hj => ?_, fun u hu => ?_, fun j hj => ?_, fun j hj => ?_⟩
    · dsimp only
      by_cases e : j = i
      · subst e; exact pk_us
      · rw [pk_un (by omega)]; exact h1 j (by omega)
    · dsimp only
      rw [pk_un (by omega)]; exact h2 u hu
    · dsimp only
      by_cases e : j = i
      · subst e; exact pk_us
      · rw [pk_un e]; exact h3 j (by omega)
    · dsimp only
      rw [pk_un (by omega)]; exact h4 j (by omega)
theorem kl_i8 (i : Nat) : nI i - 8 + 1 = nI (i + 1) - 8 := kl_sub1 i 8
theorem ky_add44 {post : Int32 → SY → Prop} {a b c : Int32} {s : Nat} (hs : s < 24)
    (K : ∀ has, (∀ i, i < 17 → (has (s * 17 + i) = 0 ∨ has (s * 17 + i) = 1) ∧ (has (s * 17 + i) = 1 ↔ (i ≠ 8 ∧ (nI i - 8 = a ∨ nI i - 8 = b ∨ nI i - 8 = c)))) → (∀ t, (t < s * 17 ∨ s * 17 + 17 ≤ t) → has t = ya_has t) →
      post (nI s) (yf_n, yf_m, (kr_ms yf_state), yf_assumed, ya_draft, (upd ya_used s 1), has, ya_compiledUsed, ya_compiledHas, ya_assumptions, ya_weights)) : ∃ q, wY_add_44 post a b c (nI s) yf_n yf_m yf_state yf_assumed q (-8) ya_draft ya_used ya_has ya_compiledUsed ya_compiledHas ya_assumptions ya_weights := by
  have es : (nI s).toNatClampNeg = s := nI_clamp (by omega)
  refine loop_0 (fun q i t => wY_add_44 post a b c (nI s) yf_n yf_m yf_state yf_assumed q (nI i - 8) ya_draft ya_used t ya_compiledUsed ya_compiledHas ya_assumptions ya_weights)
    (fun i t => (∀ j, j < i → (t (s * 17 + j) = 0 ∨ t (s * 17 + j) = 1) ∧ (t (s * 17 + j) = 1 ↔ (j ≠ 8 ∧ (nI j - 8 = a ∨ nI j - 8 = b ∨ nI j - 8 = c)))) ∧ (∀ u, (u < s * 17 ∨ s * 17 + 17 ≤ u) → t u = ya_has u)) 17 ya_has ⟨fun j hj => absurd hj (Nat.not_lt_zero _), fun _ _ => rfl⟩ ?_ ?_
  · intro q t ht
    refine br_t (by decide) ⟨vp_in_nI hs (by decide), ?_⟩
    intro y ey
    rw [es] at ey
    subst ey
    exact ky_edited (K t ht.1 ht.2)
  · intro q i t hi ht hk
    have e17 : nI s * 17 + (nI i - 8) + 8 = nI (s * 17 + i) := by
      rw [show (17 : Int32) = nI 17 from rfl, pk_mul, Int32.add_assoc, Int32.sub_add_cancel, nI_add]
    have step : ∀ w : Int32, (w = 0 ∨ w = 1) → (w = 1 ↔ (i ≠ 8 ∧ (nI i - 8 = a ∨ nI i - 8 = b ∨ nI i - 8 = c))) → (vp_in (nI s * 17 + (nI i - 8) + 8) 408 ∧ ∀ h : Nat → Int32, h = upd t (nI s * 17 + (nI i - 8) + 8).toNatClampNeg (vp_nar .boolean w) → ∀ y, y = nI i - 8 + 1 → wY_add_44 post a b c (nI s) yf_n yf_m yf_state yf_assumed q y ya_draft ya_used h ya_compiledUsed ya_compiledHas ya_assumptions ya_weights) := by
      intro w hw hiff
      rw [e17, nI_clamp (n := s * 17 + i) (by omega), ky_nar hw]
      refine ⟨vp_in_nI (by omega) (by decide), ?_⟩
      intro h eh y ey
      subst eh ey
      rw [kl_i8]
      refine hk _ ⟨fun j hj => ?_, fun u hu => by rw [pk_un (by omega)]; exact ht.2 u hu⟩
      by_cases e : j = i
      · subst e; rw [pk_us]; exact ⟨hw, hiff⟩
      · rw [pk_un (by omega)]; exact ht.1 j (by omega)
    have h8 : nI i - 8 = 0 ↔ i = 8 := by
      constructor
      · intro e
        have := congrArg (fun x => x + 8) e
        rw [Int32.sub_add_cancel, Int32.zero_add, show (8 : Int32) = nI 8 from rfl, nI_eq (by omega) (by omega)] at this
        exact this
      · rintro rfl; rfl
    have hle : ¬ (8 : Int32) < nI i - 8 := by
      have : (nI i - nI 8).toInt = (i : Int) - 8 := pk_sub_toInt (by omega) (by decide)
      rw [Int32.lt_iff_toInt_lt, show nI i - 8 = nI i - nI 8 from rfl, this]
      have : (8 : Int32).toInt = 8 := by decide
      omega
    refine br_f hle (br_c (fun z0 => ?_) (fun z0 => br_c (fun z1 => ?_) (fun z1 => br_c (fun z2 => ?_) (fun z2 => br_c (fun z3 => ?_) (fun z3 => ?_)))))
    · exact step 0 (Or.inl rfl) ⟨fun e => absurd e (by decide), fun e => absurd (h8.mp z0) e.1⟩
    · exact step 1 (Or.inr rfl) ⟨fun _ => ⟨fun e => z0 (h8.mpr e), Or.inl z1⟩, fun _ => rfl⟩
    · exact step 1 (Or.inr rfl) ⟨fun _ => ⟨fun e => z0 (h8.mpr e), Or.inr (Or.inl z2)⟩, fun _ => rfl⟩
    · exact step 1 (Or.inr rfl) ⟨fun _ => ⟨fun e => z0 (h8.mpr e), Or.inr (Or.inr z3)⟩, fun _ => rfl⟩
    · refine step 0 (Or.inl rfl) ⟨fun e => absurd e (by decide), fun e => ?_⟩
      rcases e.2 with h | h | h
      · exact absurd h z1
      · exact absurd h z2
      · exact absurd h z3
end
end
section
/-! editing: feed, add, drop, holds, drafted -/
theorem kr_or {x y : Int32} {v : Nat} : bt (x ||| y) v = true ↔ (bt x v = true ∨ bt y v = true) := by rw [b_or, Bool.or_eq_true]
theorem kr_draft_add {n : Nat} {dP dN x : Int32} {dr : Nat → Int32} (hn : n ≤ 8) (h : kr_draft n dP dN dr) (hx : kl_pos n x ∨ kl_neg n x) : ∃ i, i < 17 ∧ x + 8 = nI i ∧ kr_draft n (dP ||| kl_pb x) (dN ||| kl_nb x) (upd dr i 1) := by
  obtain ⟨h1, h2, h3, h4, h5, h6⟩ := h
  have hok : kl_ok n x := Or.inr hx
  have bp := kl_pbb hn hok
  have bn := kl_nbb hn hok
  have r01 : ∀ i j, upd dr i 1 j = 0 ∨ upd dr i 1 j = 1 := fun i j => by
    by_cases e : j = i
    · subst e; exact Or.inr pk_us
    · rw [pk_un e]; exact h3 j
  have s1 : ∀ v, bt (dP ||| kl_pb x) v = true → v < n := fun v hv => by
    rcases kr_or.mp hv with h | h
    · exact h1 v h
    · exact ((bp v).mp h).1
  have s2 : ∀ v, bt (dN ||| kl_nb x) v = true → v < n := fun v hv => by
    rcases kr_or.mp hv with h | h
    · exact h2 v h
    · exact ((bn v).mp h).1
  rcases hx with ⟨w, hw, rfl⟩ | ⟨w, hw, rfl⟩
  · refine ⟨9 + w, by omega, by rw [show (8 : Int32) = nI 8 from rfl, nI_add]; congr 1; omega, s1, s2, r01 _, fun v hv => ?_, fun v hv => ?_, ?_⟩
    · rw [kr_or, bp v, h4 v hv, kl_pp (by omega) hv]
      by_cases e : v = w
      · subst e; rw [pk_us]; simp [hw]
      · rw [pk_un (by omega)]
        exact ⟨fun h => h.resolve_right (fun z => e z.2.symm), Or.inl⟩
    · rw [kr_or, bn v, h5 v hv, pk_un (by omega)]
      exact ⟨fun h => h.resolve_right (fun z => kl_pn (by omega) hv z.2), Or.inl⟩
    · rw [pk_un (by omega)]; exact h6
  · refine ⟨7 - w, by omega, ?_, s1, s2, r01 _, fun v hv => ?_, fun v hv => ?_, ?_⟩
    · have := kl_ix (a := 0) (b := w + 1) (by omega)
      rw [nI_0, Int32.zero_add] at this
      rw [this]; congr 1; omega
    · rw [kr_or, bp v, h4 v hv, pk_un (by omega)]
      exact ⟨fun h => h.resolve_right (fun z => kl_pn hv (by omega) z.2.symm), Or.inl⟩
    · rw [kr_or, bn v, h5 v hv, kl_nn (by omega) hv]
      by_cases e : v = w
      · subst e; rw [pk_us]; simp [hw]
      · rw [pk_un (by omega)]
        exact ⟨fun h => h.resolve_right (fun z => e z.2.symm), Or.inl⟩
    · rw [pk_un (by omega)]; exact h6
theorem kr_slots_put {n m s : Nat} {us sp sn has has' : Nat → Int32} {p q : Int32} (h : kr_slots n m us sp sn has) (h01 : ∀ i, i < 17 → has' (s * 17 + i) = 0 ∨ has' (s * 17 + i) = 1) (hk : ∀ t, (t < s * 17 ∨ s * 17 + 17 ≤ t) → has' t = has t) (hs : kr_slot n p q has' s) :
    kr_slots n m (upd us s 1) (upd sp s p) (upd sn s q) has' := by
  obtain ⟨h1, h2, h3⟩ := h
  refine ⟨fun i => ?_, fun t => ?_, fun r hr hu => ?_⟩
  · by_cases e : i = s
    · subst e; exact Or.inr pk_us
    · rw [pk_un e]; exact h1 i
  · by_cases e : t < s * 17 ∨ s * 17 + 17 ≤ t
    · rw [hk t e]; exact h2 t
    · have := h01 (t - s * 17) (by omega)
      rw [show s * 17 + (t - s * 17) = t from by omega] at this
      exact this
  · by_cases e : r = s
    · subst e; rw [pk_us, pk_us]; exact hs
    · rw [pk_un e] at hu
      rw [pk_un e, pk_un e]
      obtain ⟨g1, g2, g3⟩ := h3 r hr hu
      refine ⟨g1, g2, fun v hv => ?_⟩
      rw [hk _ (by omega), hk _ (by omega)]
      exact g3 v hv
section
variable {f_fullMask f_draftPos f_draftNeg f_state f_assumedPos f_assumedNeg f_clauseCount f_nodeCount f_root f_depth f_result f_workPos f_workNeg f_workLive : Int32} {a_slotUsed a_slotPos a_slotNeg a_assumed a_weightPos a_weightNeg a_clausePos a_clauseNeg a_nodeChoice a_nodePos a_nodeNeg a_nodeFree a_nodeKids a_kids a_cacheKey a_cacheNode a_framePos a_frameNeg a_frameFree a_frameParts a_frameNext a_framePhase a_frameVar a_frameHigh a_partVars a_partClauses a_partNode a_value a_sizes a_poly a_product a_factorPos a_factorNeg ya_draft ya_has ya_compiledUsed ya_compiledHas ya_weights : Nat → Int32} {n m ka : Nat} {k : Nat}
theorem kv_feed (hF : kr_F n m ka f_fullMask f_draftPos f_draftNeg f_state f_assumedPos f_assumedNeg f_nodeCount f_root a_slotUsed a_slotPos a_slotNeg a_assumed a_weightPos a_weightNeg a_nodeChoice a_nodePos a_nodeNeg a_nodeFree a_nodeKids a_kids a_sizes ya_draft ya_has ya_compiledUsed ya_compiledHas ya_weights) (x : Int32) : wpX_feed (fun r u' => wpY_feed (fun r' v' => r' = r ∧ i_Rel (k + 4) u' v') ((nI n), (nI m), f_state, (nI ka), ya_draft, a_slotUsed, ya_has, ya_compiledUsed, ya_compiledHas, a_assumed, ya_weights) x) ((nI n), (nI m), f_fullMask, f_draftPos, f_draftNeg, f_state, (nI ka), f_assumedPos, f_assumedNeg, f_clauseCount, f_nodeCount, f_root, f_depth, f_result, f_workPos, f_workNeg, f_workLive, a_slotUsed, a_slotPos, a_slotNeg, a_assumed, a_weightPos, a_weightNeg, a_clausePos, a_clauseNeg, a_nodeChoice, a_nodePos, a_nodeNeg, a_nodeFree, a_nodeKids, a_kids, a_cacheKey, a_cacheNode, a_framePos, a_frameNeg, a_frameFree, a_frameParts, a_frameNext, a_framePhase, a_frameVar, a_frameHigh, a_partVars, a_partClauses, a_partNode, a_value, a_sizes, a_poly, a_product, a_factorPos, a_factorNeg) x := by
  obtain ⟨⟨hn1, hn8⟩, ⟨hm1, hm24⟩, hfull, hdr, hsl, has, hw, hsz, hc⟩ := hF
  have lP : kb_lo8 f_draftPos := fun v hv => by have := hdr.1 v hv; omega
  have lN : kb_lo8 f_draftNeg := fun v hv => by have := hdr.2.1 v hv; omega
  have lit : (kl_pos n x ∨ kl_neg n x) → wpX_feed (fun r u' => wpY_feed (fun r' v' => r' = r ∧ i_Rel (k + 4) u' v') ((nI n), (nI m), f_state, (nI ka), ya_draft, a_slotUsed, ya_has, ya_compiledUsed, ya_compiledHas, a_assumed, ya_weights) x) ((nI n), (nI m), f_fullMask, f_draftPos, f_draftNeg, f_state, (nI ka), f_assumedPos, f_assumedNeg, f_clauseCount, f_nodeCount, f_root, f_depth, f_result, f_workPos, f_workNeg, f_workLive, a_slotUsed, a_slotPos, a_slotNeg, a_assumed, a_weightPos, a_weightNeg, a_clausePos, a_clauseNeg, a_nodeChoice, a_nodePos, a_nodeNeg, a_nodeFree, a_nodeKids, a_kids, a_cacheKey, a_cacheNode, a_framePos, a_frameNeg, a_frameFree, a_frameParts, a_frameNext, a_framePhase, a_frameVar, a_frameHigh, a_partVars, a_partClauses, a_partNode, a_value, a_sizes, a_poly, a_product, a_factorPos, a_factorNeg) x := by
    intro hx
    have hx0 : ¬ x = 0 := by
      rcases hx with ⟨v, hv, rfl⟩ | ⟨v, hv, rfl⟩
      · exact kl_p0 (by omega)
      · exact kl_n0 (by omega)
    refine br_f hx0 ?_
    refine kw_isLit1 rfl hn8 hx (br_f (by decide) ?_)
    refine kw_posBit ?_
    intro p ep
    refine kw_negBit ?_
    intro q eq
    subst ep eq
    refine kw_bitCount _ (kw_bitCount _ ?_)
    obtain ⟨i, hi, ei, hd'⟩ := kr_draft_add hn8 hdr hx
    refine br_f hx0 ?_
    refine ky_valid1 rfl hn8 hx (br_f (by decide) ?_)
    rw [ei, nI_clamp (n := i) (by omega)]
    refine ⟨vp_in_nI hi (by decide), ?_⟩
    intro d ed
    subst ed
    refine ky_draftSize ?_
    refine ⟨?_, kr_in ⟨⟨hn1, hn8⟩, ⟨hm1, hm24⟩, hfull, hd', hsl, has, hw, hsz, hc⟩⟩
    rw [show vp_nar .boolean 1 = 1 from rfl, kr_dsum hd', nI_add]
  rcases kl_cases hn8 x with h | h | h | h
  · exact lit (Or.inl h)
  · exact lit (Or.inr h)
  · subst h
    refine br_t rfl ?_
    have hsum := kr_dsum hdr
    have hb1 := kb_cd8 (bt f_draftPos)
    have hb2 := kb_cd8 (bt f_draftNeg)
    refine br_c (fun z => ?_) (fun z => ?_)
    · refine br_t rfl (ky_draftSize (br_t ?_ ⟨rfl, kr_in ⟨⟨hn1, hn8⟩, ⟨hm1, hm24⟩, hfull, hdr, hsl, has, hw, hsz, hc⟩⟩))
      have z1 : f_draftPos = 0 := kb_z.mpr (fun v => (kb_orz.mp z v).1)
      have z2 : f_draftNeg = 0 := kb_z.mpr (fun v => (kb_orz.mp z v).2)
      rw [hsum, (kb_cdz lP).mpr z1, (kb_cdz lN).mpr z2]; rfl
    · have hne : ¬ nI (ks_sm 17 (ky_nz ya_draft)) = 0 := by
        rw [hsum]
        refine nI_ne0 ?_ (by omega)
        apply Classical.byContradiction
        intro hz
        apply z
        rw [(kb_cdz lP).mp (by omega), (kb_cdz lN).mp (by omega)]; rfl
      rcases kr_least (m := m) a_slotUsed with hfull' | ⟨s, s1, s2, s3⟩
      · refine kw_store0 rfl hm24 hfull' (br_t (by decide) ?_)
        refine br_t rfl (ky_draftSize (br_f hne ?_))
        exact ky_free0 rfl hm24 hfull' (br_f (by decide) ⟨rfl, kr_in ⟨⟨hn1, hn8⟩, ⟨hm1, hm24⟩, hfull, hdr, hsl, has, hw, hsz, hc⟩⟩)
      · refine kw_store1 rfl hm24 s1 s2 s3 (br_f (nI_pos (by omega)) ?_)
        refine br_t rfl (ky_draftSize (br_f hne ?_))
        refine ky_free1 rfl hm24 s1 s2 s3 (br_t (nI_pos' (by omega)) ?_)
        refine ky_feed28 (by omega) hdr.2.2.1 (fun dr' has' k1 k2 k3 k4 => ⟨rfl, kr_in ⟨⟨hn1, hn8⟩, ⟨hm1, hm24⟩, hfull, ?_, ?_, has, hw, hsz, fun z => hc (kr_ms0 z)⟩⟩)
        · have d01 : ∀ i, dr' i = 0 ∨ dr' i = 1 := fun i => by
            by_cases e : i < 17
            · exact Or.inl (k3 i e)
            · rw [k4 i (by omega)]; exact hdr.2.2.1 i
          have b0' : ∀ v, ¬ bt 0 v = true := fun v h => by rw [b_0] at h; cases h
          refine ⟨fun v h => absurd h (b0' v), fun v h => absurd h (b0' v), d01, fun v hv => ⟨fun h => absurd h (b0' v), fun h => ?_⟩, fun v hv => ⟨fun h => absurd h (b0' v), fun h => ?_⟩, k3 8 (by decide)⟩
          · rw [k3 _ (by omega)] at h; exact absurd h (by decide)
          · rw [k3 _ (by omega)] at h; exact absurd h (by decide)
        · refine kr_slots_put hsl (fun i hi => by rw [k1 i hi]; exact hdr.2.2.1 i) k2 ⟨hdr.1, hdr.2.1, fun v hv => ⟨?_, ?_⟩⟩
          · rw [Nat.add_assoc, k1 (9 + v) (by omega)]; exact hdr.2.2.2.1 v hv
          · rw [show s * 17 + 7 - v = s * 17 + (7 - v) from by omega, k1 (7 - v) (by omega)]; exact hdr.2.2.2.2.1 v hv
  · refine br_f h.2 ?_
    refine kw_isLit0 rfl (Or.inr h.1) (br_t rfl ?_)
    refine br_f h.2 ?_
    exact ky_valid0 rfl hn8 hn1 (Or.inr h.1) (br_t rfl ⟨rfl, kr_in ⟨⟨hn1, hn8⟩, ⟨hm1, hm24⟩, hfull, hdr, hsl, has, hw, hsz, hc⟩⟩)
theorem kv_drafted (hF : kr_F n m ka f_fullMask f_draftPos f_draftNeg f_state f_assumedPos f_assumedNeg f_nodeCount f_root a_slotUsed a_slotPos a_slotNeg a_assumed a_weightPos a_weightNeg a_nodeChoice a_nodePos a_nodeNeg a_nodeFree a_nodeKids a_kids a_sizes ya_draft ya_has ya_compiledUsed ya_compiledHas ya_weights) (x : Int32) : wpX_drafted (fun r => wpY_drafted (fun r' => r' = r ∧ i_Rel (k + 4) ((nI n), (nI m), f_fullMask, f_draftPos, f_draftNeg, f_state, (nI ka), f_assumedPos, f_assumedNeg, f_clauseCount, f_nodeCount, f_root, f_depth, f_result, f_workPos, f_workNeg, f_workLive, a_slotUsed, a_slotPos, a_slotNeg, a_assumed, a_weightPos, a_weightNeg, a_clausePos, a_clauseNeg, a_nodeChoice, a_nodePos, a_nodeNeg, a_nodeFree, a_nodeKids, a_kids, a_cacheKey, a_cacheNode, a_framePos, a_frameNeg, a_frameFree, a_frameParts, a_frameNext, a_framePhase, a_frameVar, a_frameHigh, a_partVars, a_partClauses, a_partNode, a_value, a_sizes, a_poly, a_product, a_factorPos, a_factorNeg) ((nI n), (nI m), f_state, (nI ka), ya_draft, a_slotUsed, ya_has, ya_compiledUsed, ya_compiledHas, a_assumed, ya_weights)) ((nI n), (nI m), f_state, (nI ka), ya_draft, a_slotUsed, ya_has, ya_compiledUsed, ya_compiledHas, a_assumed, ya_weights) x) ((nI n), (nI m), f_fullMask, f_draftPos, f_draftNeg, f_state, (nI ka), f_assumedPos, f_assumedNeg, f_clauseCount, f_nodeCount, f_root, f_depth, f_result, f_workPos, f_workNeg, f_workLive, a_slotUsed, a_slotPos, a_slotNeg, a_assumed, a_weightPos, a_weightNeg, a_clausePos, a_clauseNeg, a_nodeChoice, a_nodePos, a_nodeNeg, a_nodeFree, a_nodeKids, a_kids, a_cacheKey, a_cacheNode, a_framePos, a_frameNeg, a_frameFree, a_frameParts, a_frameNext, a_framePhase, a_frameVar, a_frameHigh, a_partVars, a_partClauses, a_partNode, a_value, a_sizes, a_poly, a_product, a_factorPos, a_factorNeg) x := by
  have hF' := hF
  obtain ⟨⟨hn1, hn8⟩, ⟨hm1, hm24⟩, hfull, hdr, hsl, has, hw, hsz, hc⟩ := hF
  obtain ⟨d1, d2, d3, d4, d5, d6⟩ := hdr
  unfold wpX_drafted
  have lit : (kl_pos n x ∨ kl_neg n x) → wpX_isLiteral (fun r_1 => (((r_1 = 0 → (wpY_drafted (fun r' => r' = -1 ∧ i_Rel (k + 4) ((nI n), (nI m), f_fullMask, f_draftPos, f_draftNeg, f_state, (nI ka), f_assumedPos, f_assumedNeg, f_clauseCount, f_nodeCount, f_root, f_depth, f_result, f_workPos, f_workNeg, f_workLive, a_slotUsed, a_slotPos, a_slotNeg, a_assumed, a_weightPos, a_weightNeg, a_clausePos, a_clauseNeg, a_nodeChoice, a_nodePos, a_nodeNeg, a_nodeFree, a_nodeKids, a_kids, a_cacheKey, a_cacheNode, a_framePos, a_frameNeg, a_frameFree, a_frameParts, a_frameNext, a_framePhase, a_frameVar, a_frameHigh, a_partVars, a_partClauses, a_partNode, a_value, a_sizes, a_poly, a_product, a_factorPos, a_factorNeg) ((nI n), (nI m), f_state, (nI ka), ya_draft, a_slotUsed, ya_has, ya_compiledUsed, ya_compiledHas, a_assumed, ya_weights)) ((nI n), (nI m), f_state, (nI ka), ya_draft, a_slotUsed, ya_has, ya_compiledUsed, ya_compiledHas, a_assumed, ya_weights) x)) ∧ (¬ r_1 = 0 → (wpX_contains (fun r_53 => (wpY_drafted (fun r' => r' = r_53 ∧ i_Rel (k + 4) ((nI n), (nI m), f_fullMask, f_draftPos, f_draftNeg, f_state, (nI ka), f_assumedPos, f_assumedNeg, f_clauseCount, f_nodeCount, f_root, f_depth, f_result, f_workPos, f_workNeg, f_workLive, a_slotUsed, a_slotPos, a_slotNeg, a_assumed, a_weightPos, a_weightNeg, a_clausePos, a_clauseNeg, a_nodeChoice, a_nodePos, a_nodeNeg, a_nodeFree, a_nodeKids, a_kids, a_cacheKey, a_cacheNode, a_framePos, a_frameNeg, a_frameFree, a_frameParts, a_frameNext, a_framePhase, a_frameVar, a_frameHigh, a_partVars, a_partClauses, a_partNode, a_value, a_sizes, a_poly, a_product, a_factorPos, a_factorNeg) ((nI n), (nI m), f_state, (nI ka), ya_draft, a_slotUsed, ya_has, ya_compiledUsed, ya_compiledHas, a_assumed, ya_weights)) ((nI n), (nI m), f_state, (nI ka), ya_draft, a_slotUsed, ya_has, ya_compiledUsed, ya_compiledHas, a_assumed, ya_weights) x)) ((nI n), (nI m), f_fullMask, f_draftPos, f_draftNeg, f_state, (nI ka), f_assumedPos, f_assumedNeg, f_clauseCount, f_nodeCount, f_root, f_depth, f_result, f_workPos, f_workNeg, f_workLive, a_slotUsed, a_slotPos, a_slotNeg, a_assumed, a_weightPos, a_weightNeg, a_clausePos, a_clauseNeg, a_nodeChoice, a_nodePos, a_nodeNeg, a_nodeFree, a_nodeKids, a_kids, a_cacheKey, a_cacheNode, a_framePos, a_frameNeg, a_frameFree, a_frameParts, a_frameNext, a_framePhase, a_frameVar, a_frameHigh, a_partVars, a_partClauses, a_partNode, a_value, a_sizes, a_poly, a_product, a_factorPos, a_factorNeg) f_draftPos f_draftNeg x))))) ((nI n), (nI m), f_fullMask, f_draftPos, f_draftNeg, f_state, (nI ka), f_assumedPos, f_assumedNeg, f_clauseCount, f_nodeCount, f_root, f_depth, f_result, f_workPos, f_workNeg, f_workLive, a_slotUsed, a_slotPos, a_slotNeg, a_assumed, a_weightPos, a_weightNeg, a_clausePos, a_clauseNeg, a_nodeChoice, a_nodePos, a_nodeNeg, a_nodeFree, a_nodeKids, a_kids, a_cacheKey, a_cacheNode, a_framePos, a_frameNeg, a_frameFree, a_frameParts, a_frameNext, a_framePhase, a_frameVar, a_frameHigh, a_partVars, a_partClauses, a_partNode, a_value, a_sizes, a_poly, a_product, a_factorPos, a_factorNeg) x := by
    intro hx
    refine kw_isLit1 rfl hn8 hx (br_f (by decide) ?_)
    have yes : ∀ i, i < 17 → x + 8 = nI i → ya_draft i = 1 → wpY_drafted (fun r' => r' = 1 ∧ i_Rel (k + 4) ((nI n), (nI m), f_fullMask, f_draftPos, f_draftNeg, f_state, (nI ka), f_assumedPos, f_assumedNeg, f_clauseCount, f_nodeCount, f_root, f_depth, f_result, f_workPos, f_workNeg, f_workLive, a_slotUsed, a_slotPos, a_slotNeg, a_assumed, a_weightPos, a_weightNeg, a_clausePos, a_clauseNeg, a_nodeChoice, a_nodePos, a_nodeNeg, a_nodeFree, a_nodeKids, a_kids, a_cacheKey, a_cacheNode, a_framePos, a_frameNeg, a_frameFree, a_frameParts, a_frameNext, a_framePhase, a_frameVar, a_frameHigh, a_partVars, a_partClauses, a_partNode, a_value, a_sizes, a_poly, a_product, a_factorPos, a_factorNeg) ((nI n), (nI m), f_state, (nI ka), ya_draft, a_slotUsed, ya_has, ya_compiledUsed, ya_compiledHas, a_assumed, ya_weights)) ((nI n), (nI m), f_state, (nI ka), ya_draft, a_slotUsed, ya_has, ya_compiledUsed, ya_compiledHas, a_assumed, ya_weights) x := by
      intro i hi ei h1
      unfold wpY_drafted
      refine ky_valid1 rfl hn8 hx (br_f (by decide) ?_)
      rw [ei, nI_clamp (n := i) (by omega)]
      exact ⟨vp_in_nI hi (by decide), br_f (by rw [h1]; decide) ⟨rfl, kr_in hF'⟩⟩
    have no : ∀ i, i < 17 → x + 8 = nI i → ¬ ya_draft i = 1 → wpY_drafted (fun r' => r' = 0 ∧ i_Rel (k + 4) ((nI n), (nI m), f_fullMask, f_draftPos, f_draftNeg, f_state, (nI ka), f_assumedPos, f_assumedNeg, f_clauseCount, f_nodeCount, f_root, f_depth, f_result, f_workPos, f_workNeg, f_workLive, a_slotUsed, a_slotPos, a_slotNeg, a_assumed, a_weightPos, a_weightNeg, a_clausePos, a_clauseNeg, a_nodeChoice, a_nodePos, a_nodeNeg, a_nodeFree, a_nodeKids, a_kids, a_cacheKey, a_cacheNode, a_framePos, a_frameNeg, a_frameFree, a_frameParts, a_frameNext, a_framePhase, a_frameVar, a_frameHigh, a_partVars, a_partClauses, a_partNode, a_value, a_sizes, a_poly, a_product, a_factorPos, a_factorNeg) ((nI n), (nI m), f_state, (nI ka), ya_draft, a_slotUsed, ya_has, ya_compiledUsed, ya_compiledHas, a_assumed, ya_weights)) ((nI n), (nI m), f_state, (nI ka), ya_draft, a_slotUsed, ya_has, ya_compiledUsed, ya_compiledHas, a_assumed, ya_weights) x := by
      intro i hi ei h1
      unfold wpY_drafted
      refine ky_valid1 rfl hn8 hx (br_f (by decide) ?_)
      rw [ei, nI_clamp (n := i) (by omega)]
      exact ⟨vp_in_nI hi (by decide), br_t ((d3 i).resolve_right h1) ⟨rfl, kr_in hF'⟩⟩
    rcases hx with ⟨w, hw', rfl⟩ | ⟨w, hw', rfl⟩
    · have ei : nI (w + 1) + 8 = nI (9 + w) := by rw [show (8 : Int32) = nI 8 from rfl, nI_add]; congr 1; omega
      refine kw_contains (n := n) hn8 (Or.inl ⟨w, hw', rfl⟩) (fun h => ?_) (fun h => ?_)
      · refine yes (9 + w) (by omega) ei ?_
        rcases h with ⟨v, hv, e, hb⟩ | ⟨v, hv, e, hb⟩
        · rw [(kl_pp (by omega) (by omega)).mp e]; exact (d4 v (by omega)).mp hb
        · exact absurd e (kl_pn (by omega) (by omega))
      · refine no (9 + w) (by omega) ei (fun z => h (Or.inl ⟨w, hw', rfl, (d4 w (by omega)).mpr z⟩))
    · have ei : -nI (w + 1) + 8 = nI (7 - w) := by
        have := kl_ix (a := 0) (b := w + 1) (by omega)
        rw [nI_0, Int32.zero_add] at this
        rw [this]; congr 1; omega
      refine kw_contains (n := n) hn8 (Or.inr ⟨w, hw', rfl⟩) (fun h => ?_) (fun h => ?_)
      · refine yes (7 - w) (by omega) ei ?_
        rcases h with ⟨v, hv, e, hb⟩ | ⟨v, hv, e, hb⟩
        · exact absurd e.symm (kl_pn (by omega) (by omega))
        · rw [(kl_nn (by omega) (by omega)).mp e]; exact (d5 v (by omega)).mp hb
      · refine no (7 - w) (by omega) ei (fun z => h (Or.inr ⟨w, hw', rfl, (d5 w (by omega)).mpr z⟩))
  have bad : (x = 0 ∨ kl_bad n x) → wpX_isLiteral (fun r_1 => (((r_1 = 0 → (wpY_drafted (fun r' => r' = -1 ∧ i_Rel (k + 4) ((nI n), (nI m), f_fullMask, f_draftPos, f_draftNeg, f_state, (nI ka), f_assumedPos, f_assumedNeg, f_clauseCount, f_nodeCount, f_root, f_depth, f_result, f_workPos, f_workNeg, f_workLive, a_slotUsed, a_slotPos, a_slotNeg, a_assumed, a_weightPos, a_weightNeg, a_clausePos, a_clauseNeg, a_nodeChoice, a_nodePos, a_nodeNeg, a_nodeFree, a_nodeKids, a_kids, a_cacheKey, a_cacheNode, a_framePos, a_frameNeg, a_frameFree, a_frameParts, a_frameNext, a_framePhase, a_frameVar, a_frameHigh, a_partVars, a_partClauses, a_partNode, a_value, a_sizes, a_poly, a_product, a_factorPos, a_factorNeg) ((nI n), (nI m), f_state, (nI ka), ya_draft, a_slotUsed, ya_has, ya_compiledUsed, ya_compiledHas, a_assumed, ya_weights)) ((nI n), (nI m), f_state, (nI ka), ya_draft, a_slotUsed, ya_has, ya_compiledUsed, ya_compiledHas, a_assumed, ya_weights) x)) ∧ (¬ r_1 = 0 → (wpX_contains (fun r_53 => (wpY_drafted (fun r' => r' = r_53 ∧ i_Rel (k + 4) ((nI n), (nI m), f_fullMask, f_draftPos, f_draftNeg, f_state, (nI ka), f_assumedPos, f_assumedNeg, f_clauseCount, f_nodeCount, f_root, f_depth, f_result, f_workPos, f_workNeg, f_workLive, a_slotUsed, a_slotPos, a_slotNeg, a_assumed, a_weightPos, a_weightNeg, a_clausePos, a_clauseNeg, a_nodeChoice, a_nodePos, a_nodeNeg, a_nodeFree, a_nodeKids, a_kids, a_cacheKey, a_cacheNode, a_framePos, a_frameNeg, a_frameFree, a_frameParts, a_frameNext, a_framePhase, a_frameVar, a_frameHigh, a_partVars, a_partClauses, a_partNode, a_value, a_sizes, a_poly, a_product, a_factorPos, a_factorNeg) ((nI n), (nI m), f_state, (nI ka), ya_draft, a_slotUsed, ya_has, ya_compiledUsed, ya_compiledHas, a_assumed, ya_weights)) ((nI n), (nI m), f_state, (nI ka), ya_draft, a_slotUsed, ya_has, ya_compiledUsed, ya_compiledHas, a_assumed, ya_weights) x)) ((nI n), (nI m), f_fullMask, f_draftPos, f_draftNeg, f_state, (nI ka), f_assumedPos, f_assumedNeg, f_clauseCount, f_nodeCount, f_root, f_depth, f_result, f_workPos, f_workNeg, f_workLive, a_slotUsed, a_slotPos, a_slotNeg, a_assumed, a_weightPos, a_weightNeg, a_clausePos, a_clauseNeg, a_nodeChoice, a_nodePos, a_nodeNeg, a_nodeFree, a_nodeKids, a_kids, a_cacheKey, a_cacheNode, a_framePos, a_frameNeg, a_frameFree, a_frameParts, a_frameNext, a_framePhase, a_frameVar, a_frameHigh, a_partVars, a_partClauses, a_partNode, a_value, a_sizes, a_poly, a_product, a_factorPos, a_factorNeg) f_draftPos f_draftNeg x))))) ((nI n), (nI m), f_fullMask, f_draftPos, f_draftNeg, f_state, (nI ka), f_assumedPos, f_assumedNeg, f_clauseCount, f_nodeCount, f_root, f_depth, f_result, f_workPos, f_workNeg, f_workLive, a_slotUsed, a_slotPos, a_slotNeg, a_assumed, a_weightPos, a_weightNeg, a_clausePos, a_clauseNeg, a_nodeChoice, a_nodePos, a_nodeNeg, a_nodeFree, a_nodeKids, a_kids, a_cacheKey, a_cacheNode, a_framePos, a_frameNeg, a_frameFree, a_frameParts, a_frameNext, a_framePhase, a_frameVar, a_frameHigh, a_partVars, a_partClauses, a_partNode, a_value, a_sizes, a_poly, a_product, a_factorPos, a_factorNeg) x := by
    intro hx
    refine kw_isLit0 rfl hx (br_t rfl ?_)
    unfold wpY_drafted
    exact ky_valid0 rfl hn8 hn1 hx (br_t rfl ⟨rfl, kr_in hF'⟩)
  rcases kl_cases hn8 x with h | h | h | h
  · exact lit (Or.inl h)
  · exact lit (Or.inr h)
  · exact bad (Or.inl h)
  · exact bad (Or.inr h.1)
end
end
section
/-! editing: add, drop, holds -/
theorem kl_okc {n : Nat} (hn : n ≤ 8) (x : Int32) : kl_ok n x ∨ (kl_bad n x ∧ ¬ x = 0) := by
  rcases kl_cases hn x with h | h | h | h
  · exact Or.inl (Or.inr (Or.inl h))
  · exact Or.inl (Or.inr (Or.inr h))
  · exact Or.inl (Or.inl h)
  · exact Or.inr h
theorem kl_okp {n v : Nat} {x : Int32} (hn : n ≤ 8) (h : kl_ok n x) (hv : v < 8) (e : nI (v + 1) = x) : v < n := by
  subst e
  rcases h with h | ⟨w, hw, h⟩ | ⟨w, hw, h⟩
  · exact absurd h (kl_p0 hv)
  · rw [(kl_pp hv (by omega)).mp h]; exact hw
  · exact absurd h (kl_pn hv (by omega))
theorem kl_okn {n v : Nat} {x : Int32} (hn : n ≤ 8) (h : kl_ok n x) (hv : v < 8) (e : -nI (v + 1) = x) : v < n := by
  subst e
  rcases h with h | ⟨w, hw, h⟩ | ⟨w, hw, h⟩
  · exact absurd h (kl_n0 hv)
  · exact absurd h.symm (kl_pn (by omega) hv)
  · rw [(kl_nn hv (by omega)).mp h]; exact hw
theorem kr_slot_add {n s : Nat} {a b c : Int32} {has : Nat → Int32} (hn : n ≤ 8) (ha : kl_ok n a) (hb : kl_ok n b) (hc : kl_ok n c)
    (h : ∀ i, i < 17 → (has (s * 17 + i) = 0 ∨ has (s * 17 + i) = 1) ∧ (has (s * 17 + i) = 1 ↔ (i ≠ 8 ∧ (nI i - 8 = a ∨ nI i - 8 = b ∨ nI i - 8 = c)))) : kr_slot n ((kl_pb a ||| kl_pb b) ||| kl_pb c) ((kl_nb a ||| kl_nb b) ||| kl_nb c) has s := by
  have bp : ∀ v, bt ((kl_pb a ||| kl_pb b) ||| kl_pb c) v = true ↔ (v < n ∧ (nI (v + 1) = a ∨ nI (v + 1) = b ∨ nI (v + 1) = c)) := fun v => by
    rw [kr_or, kr_or, kl_pbb hn ha, kl_pbb hn hb, kl_pbb hn hc]
    constructor
    · rintro ((h | h) | h)
      · exact ⟨h.1, Or.inl h.2.symm⟩
      · exact ⟨h.1, Or.inr (Or.inl h.2.symm)⟩
      · exact ⟨h.1, Or.inr (Or.inr h.2.symm)⟩
    · rintro ⟨h1, h | h | h⟩
      · exact Or.inl (Or.inl ⟨h1, h.symm⟩)
      · exact Or.inl (Or.inr ⟨h1, h.symm⟩)
      · exact Or.inr ⟨h1, h.symm⟩
  have bn : ∀ v, bt ((kl_nb a ||| kl_nb b) ||| kl_nb c) v = true ↔ (v < n ∧ (-nI (v + 1) = a ∨ -nI (v + 1) = b ∨ -nI (v + 1) = c)) := fun v => by
    rw [kr_or, kr_or, kl_nbb hn ha, kl_nbb hn hb, kl_nbb hn hc]
    constructor
    · rintro ((h | h) | h)
      · exact ⟨h.1, Or.inl h.2.symm⟩
      · exact ⟨h.1, Or.inr (Or.inl h.2.symm)⟩
      · exact ⟨h.1, Or.inr (Or.inr h.2.symm)⟩
    · rintro ⟨h1, h | h | h⟩
      · exact Or.inl (Or.inl ⟨h1, h.symm⟩)
      · exact Or.inl (Or.inr ⟨h1, h.symm⟩)
      · exact Or.inr ⟨h1, h.symm⟩
  refine ⟨fun v hv => ((bp v).mp hv).1, fun v hv => ((bn v).mp hv).1, fun v hv => ⟨?_, ?_⟩⟩
  · have e : nI (9 + v) - 8 = nI (v + 1) := by rw [show (8 : Int32) = nI 8 from rfl, pk_sub (by omega)]; congr 1; omega
    rw [Nat.add_assoc, (h (9 + v) (by omega)).2, e, bp v]
    constructor
    · exact fun z => ⟨by omega, z.2⟩
    · rintro ⟨_, z⟩
      refine ⟨?_, z⟩
      rcases z with z | z | z
      · exact kl_okp hn ha hv z
      · exact kl_okp hn hb hv z
      · exact kl_okp hn hc hv z
  · have e : nI (7 - v) - 8 = -nI (v + 1) := by rw [show (8 : Int32) = nI 8 from rfl, kl_subn (by omega)]; congr 2; omega
    rw [show s * 17 + 7 - v = s * 17 + (7 - v) from by omega, (h (7 - v) (by omega)).2, e, bn v]
    constructor
    · exact fun z => ⟨by omega, z.2⟩
    · rintro ⟨_, z⟩
      refine ⟨?_, z⟩
      rcases z with z | z | z
      · exact kl_okn hn ha hv z
      · exact kl_okn hn hb hv z
      · exact kl_okn hn hc hv z
section
variable {f_fullMask f_draftPos f_draftNeg f_state f_assumedPos f_assumedNeg f_clauseCount f_nodeCount f_root f_depth f_result f_workPos f_workNeg f_workLive : Int32} {a_slotUsed a_slotPos a_slotNeg a_assumed a_weightPos a_weightNeg a_clausePos a_clauseNeg a_nodeChoice a_nodePos a_nodeNeg a_nodeFree a_nodeKids a_kids a_cacheKey a_cacheNode a_framePos a_frameNeg a_frameFree a_frameParts a_frameNext a_framePhase a_frameVar a_frameHigh a_partVars a_partClauses a_partNode a_value a_sizes a_poly a_product a_factorPos a_factorNeg ya_draft ya_has ya_compiledUsed ya_compiledHas ya_weights : Nat → Int32} {n m ka : Nat} {k : Nat}
theorem kv_add (hF : kr_F n m ka f_fullMask f_draftPos f_draftNeg f_state f_assumedPos f_assumedNeg f_nodeCount f_root a_slotUsed a_slotPos a_slotNeg a_assumed a_weightPos a_weightNeg a_nodeChoice a_nodePos a_nodeNeg a_nodeFree a_nodeKids a_kids a_sizes ya_draft ya_has ya_compiledUsed ya_compiledHas ya_weights) (a b c : Int32) : wpX_add (fun r u' => wpY_add (fun r' v' => r' = r ∧ i_Rel (k + 4) u' v') ((nI n), (nI m), f_state, (nI ka), ya_draft, a_slotUsed, ya_has, ya_compiledUsed, ya_compiledHas, a_assumed, ya_weights) a b c) ((nI n), (nI m), f_fullMask, f_draftPos, f_draftNeg, f_state, (nI ka), f_assumedPos, f_assumedNeg, f_clauseCount, f_nodeCount, f_root, f_depth, f_result, f_workPos, f_workNeg, f_workLive, a_slotUsed, a_slotPos, a_slotNeg, a_assumed, a_weightPos, a_weightNeg, a_clausePos, a_clauseNeg, a_nodeChoice, a_nodePos, a_nodeNeg, a_nodeFree, a_nodeKids, a_kids, a_cacheKey, a_cacheNode, a_framePos, a_frameNeg, a_frameFree, a_frameParts, a_frameNext, a_framePhase, a_frameVar, a_frameHigh, a_partVars, a_partClauses, a_partNode, a_value, a_sizes, a_poly, a_product, a_factorPos, a_factorNeg) a b c := by
  have hF' := hF
  obtain ⟨⟨hn1, hn8⟩, ⟨hm1, hm24⟩, hfull, hdr, hsl, has, hw, hsz, hc⟩ := hF
  unfold wpX_add
  rcases kl_okc hn8 a with ha | ha
  · refine kw_loz1 rfl hn8 ha (br_f (by decide) ?_)
    rcases kl_okc hn8 b with hb | hb
    · refine kw_loz1 rfl hn8 hb (br_f (by decide) ?_)
      rcases kl_okc hn8 c with hcc | hcc
      · refine kw_loz1 rfl hn8 hcc (br_f (by decide) ?_)
        refine kw_posBit (kw_posBit (kw_posBit ?_))
        intro p ep
        refine kw_negBit (kw_negBit (kw_negBit ?_))
        intro q eq
        subst ep eq
        rcases kr_least (m := m) a_slotUsed with hfull' | ⟨s, s1, s2, s3⟩
        · refine kw_store0 rfl hm24 hfull' ?_
          show wpY_add _ _ a b c
          unfold wpY_add
          refine ky_voz1 rfl hn8 ha (br_f (by decide) (ky_voz1 rfl hn8 hb (br_f (by decide) (ky_voz1 rfl hn8 hcc (br_f (by decide) ?_)))))
          exact ky_free0 rfl hm24 hfull' (br_f (by decide) ⟨rfl, kr_in hF'⟩)
        · refine kw_store1 rfl hm24 s1 s2 s3 ?_
          show wpY_add _ _ a b c
          unfold wpY_add
          refine ky_voz1 rfl hn8 ha (br_f (by decide) (ky_voz1 rfl hn8 hb (br_f (by decide) (ky_voz1 rfl hn8 hcc (br_f (by decide) ?_)))))
          refine ky_free1 rfl hm24 s1 s2 s3 (br_t (nI_pos' (by omega)) ?_)
          refine ky_add44 (by omega) (fun has' k1 k2 => ⟨rfl, kr_in ⟨⟨hn1, hn8⟩, ⟨hm1, hm24⟩, hfull, hdr, ?_, has, hw, hsz, fun z => hc (kr_ms0 z)⟩⟩)
          exact kr_slots_put hsl (fun i hi => (k1 i hi).1) k2 (kr_slot_add hn8 ha hb hcc k1)
      · refine kw_loz0 rfl hcc.1 (br_t rfl ?_)
        unfold wpY_add
        exact ky_voz1 rfl hn8 ha (br_f (by decide) (ky_voz1 rfl hn8 hb (br_f (by decide) (ky_voz0 rfl hn8 hn1 hcc.2 hcc.1 (br_t rfl ⟨rfl, kr_in hF'⟩)))))
    · refine kw_loz0 rfl hb.1 (br_t rfl ?_)
      unfold wpY_add
      exact ky_voz1 rfl hn8 ha (br_f (by decide) (ky_voz0 rfl hn8 hn1 hb.2 hb.1 (br_t rfl ⟨rfl, kr_in hF'⟩)))
  · refine kw_loz0 rfl ha.1 (br_t rfl ?_)
    unfold wpY_add
    exact ky_voz0 rfl hn8 hn1 ha.2 ha.1 (br_t rfl ⟨rfl, kr_in hF'⟩)
theorem kv_drop (hF : kr_F n m ka f_fullMask f_draftPos f_draftNeg f_state f_assumedPos f_assumedNeg f_nodeCount f_root a_slotUsed a_slotPos a_slotNeg a_assumed a_weightPos a_weightNeg a_nodeChoice a_nodePos a_nodeNeg a_nodeFree a_nodeKids a_kids a_sizes ya_draft ya_has ya_compiledUsed ya_compiledHas ya_weights) (x : Int32) : wpX_drop (fun r u' => wpY_drop (fun r' v' => r' = r ∧ i_Rel (k + 4) u' v') ((nI n), (nI m), f_state, (nI ka), ya_draft, a_slotUsed, ya_has, ya_compiledUsed, ya_compiledHas, a_assumed, ya_weights) x) ((nI n), (nI m), f_fullMask, f_draftPos, f_draftNeg, f_state, (nI ka), f_assumedPos, f_assumedNeg, f_clauseCount, f_nodeCount, f_root, f_depth, f_result, f_workPos, f_workNeg, f_workLive, a_slotUsed, a_slotPos, a_slotNeg, a_assumed, a_weightPos, a_weightNeg, a_clausePos, a_clauseNeg, a_nodeChoice, a_nodePos, a_nodeNeg, a_nodeFree, a_nodeKids, a_kids, a_cacheKey, a_cacheNode, a_framePos, a_frameNeg, a_frameFree, a_frameParts, a_frameNext, a_framePhase, a_frameVar, a_frameHigh, a_partVars, a_partClauses, a_partNode, a_value, a_sizes, a_poly, a_product, a_factorPos, a_factorNeg) x := by
  have hF' := hF
  obtain ⟨⟨hn1, hn8⟩, ⟨hm1, hm24⟩, hfull, hdr, hsl, has, hw, hsz, hc⟩ := hF
  rcases pk_ix x (n := m) (by omega) with h | h | ⟨s, hs, rfl⟩
  · exact br_t h (br_t h ⟨rfl, kr_in hF'⟩)
  · by_cases h0 : x < 0
    · exact br_t h0 (br_t h0 ⟨rfl, kr_in hF'⟩)
    · exact br_f h0 (br_f (Int32.not_lt.mpr h) (br_f h0 (br_f (Int32.not_lt.mpr h) ⟨rfl, kr_in hF'⟩)))
  · have es : (nI s).toNatClampNeg = s := nI_clamp (by omega)
    have hin : vp_in (nI s) 24 := vp_in_nI (by omega) (by decide)
    refine br_f (nI_pos (by omega)) (br_t (nI_lt hs (by omega)) ⟨hin, ?_⟩)
    rw [es]
    refine br_c (fun z => ?_) (fun z => ⟨hin, fun a1 e1 => ⟨hin, fun a2 e2 => ⟨hin, fun a3 e3 => ?_⟩⟩⟩)
    · refine br_f (nI_pos (by omega)) (br_t (nI_lt hs (by omega)) ⟨hin, ?_⟩)
      rw [es]
      exact br_t z ⟨rfl, kr_in hF'⟩
    · subst e1 e2 e3
      refine kw_markStale ?_
      refine kw_drop55 rfl hm24 ?_
      refine br_f (nI_pos (by omega)) (br_t (nI_lt hs (by omega)) ⟨hin, ?_⟩)
      rw [es]
      refine br_f z ⟨hin, fun a4 e4 => ?_⟩
      subst e4
      refine ky_edited ?_
      refine ky_drop41 rfl hm24 ?_
      refine ⟨rfl, kr_in ⟨⟨hn1, hn8⟩, ⟨hm1, hm24⟩, hfull, hdr, ?_, has, hw, hsz, fun z => hc (kr_ms0 z)⟩⟩
      obtain ⟨g1, g2, g3⟩ := hsl
      refine ⟨fun i => ?_, g2, fun r hr hu => ?_⟩
      · by_cases e : i = s
        · subst e; exact Or.inl pk_us
        · rw [pk_un e]; exact g1 i
      · by_cases e : r = s
        · subst e; rw [pk_us] at hu; exact absurd rfl hu
        · rw [pk_un e] at hu
          rw [pk_un e, pk_un e]; exact g3 r hr hu
theorem kv_holds (hF : kr_F n m ka f_fullMask f_draftPos f_draftNeg f_state f_assumedPos f_assumedNeg f_nodeCount f_root a_slotUsed a_slotPos a_slotNeg a_assumed a_weightPos a_weightNeg a_nodeChoice a_nodePos a_nodeNeg a_nodeFree a_nodeKids a_kids a_sizes ya_draft ya_has ya_compiledUsed ya_compiledHas ya_weights) (y x : Int32) : wpX_holds (fun r => wpY_holds (fun r' => r' = r ∧ i_Rel (k + 4) ((nI n), (nI m), f_fullMask, f_draftPos, f_draftNeg, f_state, (nI ka), f_assumedPos, f_assumedNeg, f_clauseCount, f_nodeCount, f_root, f_depth, f_result, f_workPos, f_workNeg, f_workLive, a_slotUsed, a_slotPos, a_slotNeg, a_assumed, a_weightPos, a_weightNeg, a_clausePos, a_clauseNeg, a_nodeChoice, a_nodePos, a_nodeNeg, a_nodeFree, a_nodeKids, a_kids, a_cacheKey, a_cacheNode, a_framePos, a_frameNeg, a_frameFree, a_frameParts, a_frameNext, a_framePhase, a_frameVar, a_frameHigh, a_partVars, a_partClauses, a_partNode, a_value, a_sizes, a_poly, a_product, a_factorPos, a_factorNeg) ((nI n), (nI m), f_state, (nI ka), ya_draft, a_slotUsed, ya_has, ya_compiledUsed, ya_compiledHas, a_assumed, ya_weights)) ((nI n), (nI m), f_state, (nI ka), ya_draft, a_slotUsed, ya_has, ya_compiledUsed, ya_compiledHas, a_assumed, ya_weights) y x) ((nI n), (nI m), f_fullMask, f_draftPos, f_draftNeg, f_state, (nI ka), f_assumedPos, f_assumedNeg, f_clauseCount, f_nodeCount, f_root, f_depth, f_result, f_workPos, f_workNeg, f_workLive, a_slotUsed, a_slotPos, a_slotNeg, a_assumed, a_weightPos, a_weightNeg, a_clausePos, a_clauseNeg, a_nodeChoice, a_nodePos, a_nodeNeg, a_nodeFree, a_nodeKids, a_kids, a_cacheKey, a_cacheNode, a_framePos, a_frameNeg, a_frameFree, a_frameParts, a_frameNext, a_framePhase, a_frameVar, a_frameHigh, a_partVars, a_partClauses, a_partNode, a_value, a_sizes, a_poly, a_product, a_factorPos, a_factorNeg) y x := by
  have hF' := hF
  obtain ⟨⟨hn1, hn8⟩, ⟨hm1, hm24⟩, hfull, hdr, hsl, has, hw, hsz, hc⟩ := hF
  rcases pk_ix y (n := m) (by omega) with h | h | ⟨s, hs, rfl⟩
  · exact br_t h (br_t h ⟨rfl, kr_in hF'⟩)
  · by_cases h0 : y < 0
    · exact br_t h0 (br_t h0 ⟨rfl, kr_in hF'⟩)
    · exact br_f h0 (br_f (Int32.not_lt.mpr h) (br_f h0 (br_f (Int32.not_lt.mpr h) ⟨rfl, kr_in hF'⟩)))
  · have es : (nI s).toNatClampNeg = s := nI_clamp (by omega)
    have hin : vp_in (nI s) 24 := vp_in_nI (by omega) (by decide)
    have h17 : nI s * 17 = nI (s * 17) := by rw [show (17 : Int32) = nI 17 from rfl, pk_mul]
    have bad : (x = 0 ∨ kl_bad n x) → wpX_holds (fun r => wpY_holds (fun r' => r' = r ∧ i_Rel (k + 4) ((nI n), (nI m), f_fullMask, f_draftPos, f_draftNeg, f_state, (nI ka), f_assumedPos, f_assumedNeg, f_clauseCount, f_nodeCount, f_root, f_depth, f_result, f_workPos, f_workNeg, f_workLive, a_slotUsed, a_slotPos, a_slotNeg, a_assumed, a_weightPos, a_weightNeg, a_clausePos, a_clauseNeg, a_nodeChoice, a_nodePos, a_nodeNeg, a_nodeFree, a_nodeKids, a_kids, a_cacheKey, a_cacheNode, a_framePos, a_frameNeg, a_frameFree, a_frameParts, a_frameNext, a_framePhase, a_frameVar, a_frameHigh, a_partVars, a_partClauses, a_partNode, a_value, a_sizes, a_poly, a_product, a_factorPos, a_factorNeg) ((nI n), (nI m), f_state, (nI ka), ya_draft, a_slotUsed, ya_has, ya_compiledUsed, ya_compiledHas, a_assumed, ya_weights)) ((nI n), (nI m), f_state, (nI ka), ya_draft, a_slotUsed, ya_has, ya_compiledUsed, ya_compiledHas, a_assumed, ya_weights) (nI s) x) ((nI n), (nI m), f_fullMask, f_draftPos, f_draftNeg, f_state, (nI ka), f_assumedPos, f_assumedNeg, f_clauseCount, f_nodeCount, f_root, f_depth, f_result, f_workPos, f_workNeg, f_workLive, a_slotUsed, a_slotPos, a_slotNeg, a_assumed, a_weightPos, a_weightNeg, a_clausePos, a_clauseNeg, a_nodeChoice, a_nodePos, a_nodeNeg, a_nodeFree, a_nodeKids, a_kids, a_cacheKey, a_cacheNode, a_framePos, a_frameNeg, a_frameFree, a_frameParts, a_frameNext, a_framePhase, a_frameVar, a_frameHigh, a_partVars, a_partClauses, a_partNode, a_value, a_sizes, a_poly, a_product, a_factorPos, a_factorNeg) (nI s) x := by
      intro hx
      refine br_f (nI_pos (by omega)) (br_t (nI_lt hs (by omega)) ?_)
      refine kw_isLit0 rfl hx (br_t rfl ?_)
      refine br_f (nI_pos (by omega)) (br_t (nI_lt hs (by omega)) ?_)
      exact ky_valid0 rfl hn8 hn1 hx (br_t rfl ⟨rfl, kr_in hF'⟩)
    have lit : (kl_pos n x ∨ kl_neg n x) → wpX_holds (fun r => wpY_holds (fun r' => r' = r ∧ i_Rel (k + 4) ((nI n), (nI m), f_fullMask, f_draftPos, f_draftNeg, f_state, (nI ka), f_assumedPos, f_assumedNeg, f_clauseCount, f_nodeCount, f_root, f_depth, f_result, f_workPos, f_workNeg, f_workLive, a_slotUsed, a_slotPos, a_slotNeg, a_assumed, a_weightPos, a_weightNeg, a_clausePos, a_clauseNeg, a_nodeChoice, a_nodePos, a_nodeNeg, a_nodeFree, a_nodeKids, a_kids, a_cacheKey, a_cacheNode, a_framePos, a_frameNeg, a_frameFree, a_frameParts, a_frameNext, a_framePhase, a_frameVar, a_frameHigh, a_partVars, a_partClauses, a_partNode, a_value, a_sizes, a_poly, a_product, a_factorPos, a_factorNeg) ((nI n), (nI m), f_state, (nI ka), ya_draft, a_slotUsed, ya_has, ya_compiledUsed, ya_compiledHas, a_assumed, ya_weights)) ((nI n), (nI m), f_state, (nI ka), ya_draft, a_slotUsed, ya_has, ya_compiledUsed, ya_compiledHas, a_assumed, ya_weights) (nI s) x) ((nI n), (nI m), f_fullMask, f_draftPos, f_draftNeg, f_state, (nI ka), f_assumedPos, f_assumedNeg, f_clauseCount, f_nodeCount, f_root, f_depth, f_result, f_workPos, f_workNeg, f_workLive, a_slotUsed, a_slotPos, a_slotNeg, a_assumed, a_weightPos, a_weightNeg, a_clausePos, a_clauseNeg, a_nodeChoice, a_nodePos, a_nodeNeg, a_nodeFree, a_nodeKids, a_kids, a_cacheKey, a_cacheNode, a_framePos, a_frameNeg, a_frameFree, a_frameParts, a_frameNext, a_framePhase, a_frameVar, a_frameHigh, a_partVars, a_partClauses, a_partNode, a_value, a_sizes, a_poly, a_product, a_factorPos, a_factorNeg) (nI s) x := by
      intro hx
      refine br_f (nI_pos (by omega)) (br_t (nI_lt hs (by omega)) ?_)
      refine kw_isLit1 rfl hn8 hx (br_f (by decide) ⟨hin, ?_⟩)
      rw [es]
      refine br_c (fun z => ?_) (fun z => ⟨hin, hin, ?_⟩)
      · refine br_f (nI_pos (by omega)) (br_t (nI_lt hs (by omega)) ?_)
        refine ky_valid1 rfl hn8 hx (br_f (by decide) ⟨hin, ?_⟩)
        rw [es]
        exact br_t z ⟨rfl, kr_in hF'⟩
      · have run : ∀ (i : Nat) (r : Int32), i < 408 → nI s * 17 + x + 8 = nI i → ((ya_has i = 1 ∧ r = 1) ∨ (¬ ya_has i = 1 ∧ r = 0)) → wpY_holds (fun r' => r' = r ∧ i_Rel (k + 4) ((nI n), (nI m), f_fullMask, f_draftPos, f_draftNeg, f_state, (nI ka), f_assumedPos, f_assumedNeg, f_clauseCount, f_nodeCount, f_root, f_depth, f_result, f_workPos, f_workNeg, f_workLive, a_slotUsed, a_slotPos, a_slotNeg, a_assumed, a_weightPos, a_weightNeg, a_clausePos, a_clauseNeg, a_nodeChoice, a_nodePos, a_nodeNeg, a_nodeFree, a_nodeKids, a_kids, a_cacheKey, a_cacheNode, a_framePos, a_frameNeg, a_frameFree, a_frameParts, a_frameNext, a_framePhase, a_frameVar, a_frameHigh, a_partVars, a_partClauses, a_partNode, a_value, a_sizes, a_poly, a_product, a_factorPos, a_factorNeg) ((nI n), (nI m), f_state, (nI ka), ya_draft, a_slotUsed, ya_has, ya_compiledUsed, ya_compiledHas, a_assumed, ya_weights)) ((nI n), (nI m), f_state, (nI ka), ya_draft, a_slotUsed, ya_has, ya_compiledUsed, ya_compiledHas, a_assumed, ya_weights) (nI s) x := by
          intro i r hi ei h
          refine br_f (nI_pos (by omega)) (br_t (nI_lt hs (by omega)) ?_)
          refine ky_valid1 rfl hn8 hx (br_f (by decide) ⟨hin, ?_⟩)
          rw [es, ei, nI_clamp (n := i) (by omega)]
          refine br_f z ⟨vp_in_nI hi (by decide), ?_⟩
          rcases h with ⟨h1, h2⟩ | ⟨h1, h2⟩
          · exact br_f (by rw [h1]; decide) ⟨h2.symm, kr_in hF'⟩
          · exact br_t ((hsl.2.1 i).resolve_right h1) ⟨h2.symm, kr_in hF'⟩
        obtain ⟨g1, g2, g3⟩ := hsl.2.2 s hs z
        rcases hx with ⟨w, hw', rfl⟩ | ⟨w, hw', rfl⟩
        · have ei : nI s * 17 + nI (w + 1) + 8 = nI (s * 17 + 9 + w) := by rw [h17, kl_ix1]; congr 1; omega
          refine kw_contains (n := n) hn8 (Or.inl ⟨w, hw', rfl⟩) (fun h => ?_) (fun h => ?_)
          · refine run _ 1 (by omega) ei (Or.inl ⟨?_, rfl⟩)
            rcases h with ⟨v, hv, e, hb⟩ | ⟨v, hv, e, hb⟩
            · rw [(kl_pp (by omega) (by omega)).mp e]; exact (g3 v (by omega)).1.mp hb
            · exact absurd e (kl_pn (by omega) (by omega))
          · exact run _ 0 (by omega) ei (Or.inr ⟨fun c => h (Or.inl ⟨w, hw', rfl, (g3 w (by omega)).1.mpr c⟩), rfl⟩)
        · have ei : nI s * 17 + -nI (w + 1) + 8 = nI (s * 17 + 7 - w) := by rw [h17, kl_ix (by omega)]; congr 1; omega
          refine kw_contains (n := n) hn8 (Or.inr ⟨w, hw', rfl⟩) (fun h => ?_) (fun h => ?_)
          · refine run _ 1 (by omega) ei (Or.inl ⟨?_, rfl⟩)
            rcases h with ⟨v, hv, e, hb⟩ | ⟨v, hv, e, hb⟩
            · exact absurd e.symm (kl_pn (by omega) (by omega))
            · rw [(kl_nn (by omega) (by omega)).mp e]; exact (g3 v (by omega)).2.mp hb
          · exact run _ 0 (by omega) ei (Or.inr ⟨fun c => h (Or.inr ⟨w, hw', rfl, (g3 w (by omega)).2.mpr c⟩), rfl⟩)
    rcases kl_cases hn8 x with h | h | h | h
    · exact lit (Or.inl h)
    · exact lit (Or.inr h)
    · exact bad (Or.inl h)
    · exact bad (Or.inr h.1)
end
end
section
/-! assumptions and weights -/
theorem kb_cdp {w : Nat} (hw : w < 8) : kb_cd (fun v => decide (v = w)) = 1 := by
  have : ∀ m : Fin 8, kb_cd (fun v => decide (v = m.val)) = 1 := by decide
  exact this ⟨w, hw⟩
/-- the bit of a literal's variable -/
theorem kl_lit {n : Nat} {x : Int32} (hn : n ≤ 8) (h : kl_pos n x ∨ kl_neg n x) : ∃ w, w < n ∧ (x = nI (w + 1) ∨ x = -nI (w + 1)) ∧ ∀ v, bt (kl_pb x ||| kl_nb x) v = decide (v = w) := by
  rcases h with ⟨w, hw, rfl⟩ | ⟨w, hw, rfl⟩
  · refine ⟨w, hw, Or.inl rfl, fun v => ?_⟩
    rw [kl_pb1 (by omega), kl_nb1 (by omega), b_or, b_0, kb_one w (by omega), Bool.or_false]
  · refine ⟨w, hw, Or.inr rfl, fun v => ?_⟩
    rw [kl_pb2 (by omega), kl_nb2 (by omega), b_or, b_0, kb_one w (by omega), Bool.false_or]
theorem kr_taken {n ka w : Nat} {x aP aN : Int32} {ass : Nat → Int32} (hn : n ≤ 8) (h : kr_as n ka ass aP aN) (hw : w < n) (hx : x = nI (w + 1) ∨ x = -nI (w + 1)) : bt (aP ||| aN) w = true ↔ ∃ i, i < ka ∧ (ass i = x ∨ ass i = -x) := by
  obtain ⟨h1, h2, h3, h4, h5, h6, h7⟩ := h
  rw [kr_or, h3 w, h4 w]
  constructor
  · rintro (⟨_, i, hi, e⟩ | ⟨_, i, hi, e⟩)
    · refine ⟨i, hi, ?_⟩
      rcases hx with rfl | rfl
      · exact Or.inl e
      · exact Or.inr (by rw [e, Int32.neg_neg])
    · refine ⟨i, hi, ?_⟩
      rcases hx with rfl | rfl
      · exact Or.inr e
      · exact Or.inl e
  · rintro ⟨i, hi, e⟩
    rcases hx with rfl | rfl
    · rcases e with e | e
      · exact Or.inl ⟨hw, i, hi, e⟩
      · exact Or.inr ⟨hw, i, hi, e⟩
    · rcases e with e | e
      · exact Or.inr ⟨hw, i, hi, e⟩
      · exact Or.inl ⟨hw, i, hi, by rw [e, Int32.neg_neg]⟩
theorem kr_as_add {n ka : Nat} {x aP aN : Int32} {ass : Nat → Int32} (hn : n ≤ 8) (h : kr_as n ka ass aP aN) (hx : kl_pos n x ∨ kl_neg n x) (hno : ∀ i, i < ka → ass i ≠ x ∧ ass i ≠ -x) : ka < n ∧ kr_as n (ka + 1) (upd ass ka x) (aP ||| kl_pb x) (aN ||| kl_nb x) := by
  have h' := h
  obtain ⟨w, hw, hxw, hbit⟩ := kl_lit hn hx
  have ht : bt (aP ||| aN) w = false := ts_nt (fun e => by
    obtain ⟨i, hi, e⟩ := (kr_taken hn h' hw hxw).mp e
    rcases e with e | e
    · exact (hno i hi).1 e
    · exact (hno i hi).2 e)
  obtain ⟨h1, h2, h3, h4, h5, h6, h7⟩ := h
  have hok : kl_ok n x := Or.inr hx
  have hlt : ka < n := by
    apply Classical.byContradiction
    intro hge
    have := kb_cdall (V := bt (aP ||| aN)) (n := n) hn (fun v hv => by
      rcases kr_or.mp hv with z | z
      · exact ((h3 v).mp z).1
      · exact ((h4 v).mp z).1) (by omega) hw
    rw [ht] at this; cases this
  have up : ∀ i, i < ka → upd ass ka x i = ass i := fun i hi => pk_un (by omega)
  refine ⟨hlt, by omega, fun i hi => ?_, fun v => ?_, fun v => ?_, fun v hv => ?_, ?_, fun i j hi hj => ?_⟩
  · by_cases e : i = ka
    · subst e; rw [pk_us]; exact hx
    · rw [pk_un e]; exact h2 i (by omega)
  · rw [kr_or, h3 v, kl_pbb hn hok]
    constructor
    · rintro (⟨h, i, hi, e⟩ | ⟨h, e⟩)
      · exact ⟨h, i, by omega, by rw [up i hi]; exact e⟩
      · exact ⟨h, ka, by omega, by rw [pk_us]; exact e⟩
    · rintro ⟨h, i, hi, e⟩
      by_cases ei : i = ka
      · subst ei; rw [pk_us] at e; exact Or.inr ⟨h, e⟩
      · rw [pk_un ei] at e; exact Or.inl ⟨h, i, by omega, e⟩
  · rw [kr_or, h4 v, kl_nbb hn hok]
    constructor
    · rintro (⟨h, i, hi, e⟩ | ⟨h, e⟩)
      · exact ⟨h, i, by omega, by rw [up i hi]; exact e⟩
      · exact ⟨h, ka, by omega, by rw [pk_us]; exact e⟩
    · rintro ⟨h, i, hi, e⟩
      by_cases ei : i = ka
      · subst ei; rw [pk_us] at e; exact Or.inr ⟨h, e⟩
      · rw [pk_un ei] at e; exact Or.inl ⟨h, i, by omega, e⟩
  · have hb : ∀ {y : Int32}, bt y v = true → bt (kl_pb x ||| kl_nb x) v = true → (bt y v = true → bt (aP ||| aN) v = true) → False := fun h1 h2 h3 => by
      rw [hbit v] at h2
      have e : v = w := by simpa using h2
      subst e
      rw [h3 h1] at ht; cases ht
    rcases kr_or.mp hv.1 with a | a <;> rcases kr_or.mp hv.2 with b | b
    · exact h5 v ⟨a, b⟩
    · exact hb a (kr_or.mpr (Or.inr b)) (fun z => kr_or.mpr (Or.inl z))
    · exact hb b (kr_or.mpr (Or.inl a)) (fun z => kr_or.mpr (Or.inr z))
    · have e1 := (kl_pbb hn hok v).mp a
      have e2 := (kl_nbb hn hok v).mp b
      exact kl_pn (by omega) (by omega) (e1.2.symm.trans e2.2)
  · rw [kb_cdor (W := bt ((aP ||| kl_pb x) ||| (aN ||| kl_nb x))) (U := bt (aP ||| aN)) (V := fun v => decide (v = w)) (fun v _ => ?_) (fun v _ hv => ?_), h6, kb_cdp (by omega)]
    · rw [← hbit v]
      simp only [b_or]
      cases bt aP v <;> cases bt aN v <;> cases bt (kl_pb x) v <;> cases bt (kl_nb x) v <;> rfl
    · have e : v = w := by simpa using hv.2
      subst e
      rw [ht] at hv; cases hv.1
  · by_cases e : i = ka
    · subst e
      rw [pk_us, up j hj]
      refine ⟨fun z => (hno j hj).1 z.symm, fun z => (hno j hj).2 ?_⟩
      rw [z, Int32.neg_neg]
    · rw [pk_un e, up j (by omega)]
      exact h7 i j (by omega) hj
theorem kr_as_drop {n t : Nat} {aP aN : Int32} {ass : Nat → Int32} (hn : n ≤ 8) (h : kr_as n (t + 1) ass aP aN) : kr_as n t ass (aP &&& (kl_pb (ass t) ^^^ (-1))) (aN &&& (kl_nb (ass t) ^^^ (-1))) := by
  have h' := h
  obtain ⟨h1, h2, h3, h4, h5, h6, h7⟩ := h
  have hx := h2 t (by omega)
  obtain ⟨w, hw, hxw, hbit⟩ := kl_lit hn hx
  have hok : kl_ok n (ass t) := Or.inr hx
  have bm : ∀ (y z : Int32) (v : Nat), bt (y &&& (z ^^^ (-1))) v = true ↔ (bt y v = true ∧ ¬ bt z v = true) := fun y z v => by
    by_cases h32 : v < 32
    · rw [b_and, kb_not _ h32]
      cases bt y v <;> cases bt z v <;> simp
    · rw [b_big (by omega), b_big (x := y) (by omega)]; simp
  have hd := fun i (hi : i < t) => h7 t i (by omega) hi
  have q3 : ∀ v, bt (aP &&& (kl_pb (ass t) ^^^ (-1))) v = true ↔ (v < n ∧ ∃ i, i < t ∧ ass i = nI (v + 1)) := fun v => by
    rw [bm, h3 v, kl_pbb hn hok]
    constructor
    · rintro ⟨⟨h, i, hi, e⟩, hne⟩
      by_cases ei : i = t
      · subst ei; exact absurd ⟨h, e⟩ hne
      · exact ⟨h, i, by omega, e⟩
    · rintro ⟨h, i, hi, e⟩
      exact ⟨⟨h, i, by omega, e⟩, fun z => (hd i hi).1 (z.2.trans e.symm)⟩
  have q4 : ∀ v, bt (aN &&& (kl_nb (ass t) ^^^ (-1))) v = true ↔ (v < n ∧ ∃ i, i < t ∧ ass i = -nI (v + 1)) := fun v => by
    rw [bm, h4 v, kl_nbb hn hok]
    constructor
    · rintro ⟨⟨h, i, hi, e⟩, hne⟩
      by_cases ei : i = t
      · subst ei; exact absurd ⟨h, e⟩ hne
      · exact ⟨h, i, by omega, e⟩
    · rintro ⟨h, i, hi, e⟩
      exact ⟨⟨h, i, by omega, e⟩, fun z => (hd i hi).1 (z.2.trans e.symm)⟩
  have qw : bt ((aP &&& (kl_pb (ass t) ^^^ (-1))) ||| (aN &&& (kl_nb (ass t) ^^^ (-1)))) w = false := ts_nt (fun e => by
    rcases kr_or.mp e with z | z
    · obtain ⟨_, i, hi, e⟩ := (q3 w).mp z
      rcases hxw with hxw | hxw
      · exact (hd i hi).1 (hxw.trans e.symm)
      · exact (hd i hi).2 (hxw.trans (by rw [e]))
    · obtain ⟨_, i, hi, e⟩ := (q4 w).mp z
      rcases hxw with hxw | hxw
      · exact (hd i hi).2 (hxw.trans (by rw [e, Int32.neg_neg]))
      · exact (hd i hi).1 (hxw.trans e.symm))
  have hcd : kb_cd (bt (aP ||| aN)) = kb_cd (bt ((aP &&& (kl_pb (ass t) ^^^ (-1))) ||| (aN &&& (kl_nb (ass t) ^^^ (-1))))) + kb_cd (fun v => decide (v = w)) := by
    refine kb_cdor (fun v _ => ?_) (fun v _ hv => ?_)
    · apply Bool.eq_iff_iff.mpr
      rw [Bool.or_eq_true, kr_or, kr_or, bm, bm, ← hbit v, kr_or]
      constructor
      · rintro (h | h)
        · by_cases z : bt (kl_pb (ass t)) v = true
          · exact Or.inr (Or.inl z)
          · exact Or.inl (Or.inl ⟨h, z⟩)
        · by_cases z : bt (kl_nb (ass t)) v = true
          · exact Or.inr (Or.inr z)
          · exact Or.inl (Or.inr ⟨h, z⟩)
      · rintro ((h | h) | h | h)
        · exact Or.inl h.1
        · exact Or.inr h.1
        · exact Or.inl ((h3 v).mpr ⟨((kl_pbb hn hok v).mp h).1, t, by omega, ((kl_pbb hn hok v).mp h).2⟩)
        · exact Or.inr ((h4 v).mpr ⟨((kl_nbb hn hok v).mp h).1, t, by omega, ((kl_nbb hn hok v).mp h).2⟩)
    · have e : v = w := by simpa using hv.2
      subst e
      rw [qw] at hv; cases hv.1
  rw [h6, kb_cdp (by omega)] at hcd
  exact ⟨by omega, fun i hi => h2 i (by omega), q3, q4, fun v hv => h5 v ⟨((bm _ _ v).mp hv.1).1, ((bm _ _ v).mp hv.2).1⟩, by omega, fun i j hi hj => h7 i j (by omega) hj⟩
section
variable {yf_n yf_m yf_state yf_assumed : Int32} {ya_draft ya_used ya_has ya_compiledUsed ya_compiledHas ya_assumptions ya_weights : Nat → Int32}
theorem ky_assume12 {post : Int32 → SY → Prop} {x : Int32} {ka : Nat} (hka : yf_assumed = nI ka) (h8 : ka ≤ 8)
    (K1 : (∃ i, i < ka ∧ (ya_assumptions i = x ∨ ya_assumptions i = -x)) → post (-5) (yf_n, yf_m, yf_state, yf_assumed, ya_draft, ya_used, ya_has, ya_compiledUsed, ya_compiledHas, ya_assumptions, ya_weights))
    (K0 : (∀ i, i < ka → ya_assumptions i ≠ x ∧ ya_assumptions i ≠ -x) → ka < 8 ∧ post (nI (ka + 1)) (yf_n, yf_m, yf_state, (nI (ka + 1)), ya_draft, ya_used, ya_has, ya_compiledUsed, ya_compiledHas, (upd ya_assumptions ka x), ya_weights)) : ∃ q, wY_assume_12 post x yf_n yf_m yf_state yf_assumed ya_draft ya_used ya_has ya_compiledUsed ya_compiledHas ya_assumptions ya_weights q 0 := by
  subst hka
  refine loop_0 (fun q i (_ : Unit) => wY_assume_12 post x yf_n yf_m yf_state (nI ka) ya_draft ya_used ya_has ya_compiledUsed ya_compiledHas ya_assumptions ya_weights q (nI i)) (fun i _ => ∀ j, j < i → ya_assumptions j ≠ x ∧ ya_assumptions j ≠ -x) ka () (fun j hj => absurd hj (Nat.not_lt_zero _)) ?_ ?_
  · intro q _ hs
    obtain ⟨h1, h2⟩ := K0 hs
    have ek : (nI ka).toNatClampNeg = ka := nI_clamp (by omega)
    refine br_t (nI_le (Nat.le_refl _) (by omega)) ⟨vp_in_nI h1 (by decide), ?_⟩
    intro a ea y ey
    rw [ek] at ea
    rw [nI_1 ka] at ey
    subst ea ey
    exact h2
  · intro q i _ hi hs hk
    have ei : (nI i).toNatClampNeg = i := nI_clamp (by omega)
    have hin : vp_in (nI i) 8 := vp_in_nI (by omega) (by decide)
    refine br_f (nI_ge hi (by omega)) ⟨hin, ?_⟩
    rw [ei]
    refine br_c (fun z => K1 ⟨i, hi, Or.inl z⟩) (fun z => ⟨hin, br_c (fun z2 => K1 ⟨i, hi, Or.inr z2⟩) (fun z2 => ?_)⟩)
    intro y ey
    subst ey
    rw [nI_1 i]
    refine hk () (fun j hj => ?_)
    by_cases e : j = i
    · subst e; exact ⟨z, z2⟩
    · exact hs j (by omega)
end
section
variable {f_fullMask f_draftPos f_draftNeg f_state f_assumedPos f_assumedNeg f_clauseCount f_nodeCount f_root f_depth f_result f_workPos f_workNeg f_workLive : Int32} {a_slotUsed a_slotPos a_slotNeg a_assumed a_weightPos a_weightNeg a_clausePos a_clauseNeg a_nodeChoice a_nodePos a_nodeNeg a_nodeFree a_nodeKids a_kids a_cacheKey a_cacheNode a_framePos a_frameNeg a_frameFree a_frameParts a_frameNext a_framePhase a_frameVar a_frameHigh a_partVars a_partClauses a_partNode a_value a_sizes a_poly a_product a_factorPos a_factorNeg ya_draft ya_has ya_compiledUsed ya_compiledHas ya_weights : Nat → Int32} {n m ka : Nat} {k : Nat}
theorem kv_assume (hF : kr_F n m ka f_fullMask f_draftPos f_draftNeg f_state f_assumedPos f_assumedNeg f_nodeCount f_root a_slotUsed a_slotPos a_slotNeg a_assumed a_weightPos a_weightNeg a_nodeChoice a_nodePos a_nodeNeg a_nodeFree a_nodeKids a_kids a_sizes ya_draft ya_has ya_compiledUsed ya_compiledHas ya_weights) (x : Int32) : wpX_assume (fun r u' => wpY_assume (fun r' v' => r' = r ∧ i_Rel (k + 4) u' v') ((nI n), (nI m), f_state, (nI ka), ya_draft, a_slotUsed, ya_has, ya_compiledUsed, ya_compiledHas, a_assumed, ya_weights) x) ((nI n), (nI m), f_fullMask, f_draftPos, f_draftNeg, f_state, (nI ka), f_assumedPos, f_assumedNeg, f_clauseCount, f_nodeCount, f_root, f_depth, f_result, f_workPos, f_workNeg, f_workLive, a_slotUsed, a_slotPos, a_slotNeg, a_assumed, a_weightPos, a_weightNeg, a_clausePos, a_clauseNeg, a_nodeChoice, a_nodePos, a_nodeNeg, a_nodeFree, a_nodeKids, a_kids, a_cacheKey, a_cacheNode, a_framePos, a_frameNeg, a_frameFree, a_frameParts, a_frameNext, a_framePhase, a_frameVar, a_frameHigh, a_partVars, a_partClauses, a_partNode, a_value, a_sizes, a_poly, a_product, a_factorPos, a_factorNeg) x := by
  have hF' := hF
  obtain ⟨⟨hn1, hn8⟩, ⟨hm1, hm24⟩, hfull, hdr, hsl, has, hw, hsz, hc⟩ := hF
  have hka := has.1
  unfold wpX_assume
  by_cases hx : kl_pos n x ∨ kl_neg n x
  · refine kw_isLit1 rfl hn8 hx (br_f (by decide) ?_)
    refine kw_posBit (kw_negBit ?_)
    obtain ⟨w, hw', hxw, hbit⟩ := kl_lit hn8 hx
    have ht := kr_taken hn8 has hw' hxw
    have htest : ((f_assumedPos ||| f_assumedNeg) &&& (kl_pb x ||| kl_nb x)) = 0 ↔ ¬ (∃ i, i < ka ∧ (a_assumed i = x ∨ a_assumed i = -x)) := by
      rw [← ht, kb_andz]
      constructor
      · exact fun h z => h w ⟨z, by rw [hbit]; simp⟩
      · intro h v hv
        rw [hbit v] at hv
        have e : v = w := by simpa using hv.2
        subst e
        exact h hv.1
    refine br_c (fun z => ?_) (fun z => ?_)
    · have hno : ∀ i, i < ka → a_assumed i ≠ x ∧ a_assumed i ≠ -x := fun i hi => ⟨fun e => htest.mp z ⟨i, hi, Or.inl e⟩, fun e => htest.mp z ⟨i, hi, Or.inr e⟩⟩
      obtain ⟨hlt, has'⟩ := kr_as_add hn8 has hx hno
      have ek : (nI ka).toNatClampNeg = ka := nI_clamp (by omega)
      refine br_t (nI_lt hlt (by omega)) ⟨vp_in_nI (by omega) (by decide), ?_⟩
      rw [ek]
      intro a ea y ey p ep q eq
      rw [nI_1 ka] at ey
      subst ea ey ep eq
      unfold wpY_assume
      refine ky_valid1 rfl hn8 hx (br_f (by decide) ?_)
      refine ky_assume12 rfl (by omega) (fun e => absurd e (htest.mp z)) (fun _ => ⟨by omega, rfl, kr_in ⟨⟨hn1, hn8⟩, ⟨hm1, hm24⟩, hfull, hdr, hsl, has', hw, hsz, hc⟩⟩)
    · have hyes : ∃ i, i < ka ∧ (a_assumed i = x ∨ a_assumed i = -x) := Classical.byContradiction (fun e => z (htest.mpr e))
      unfold wpY_assume
      refine ky_valid1 rfl hn8 hx (br_f (by decide) ?_)
      refine ky_assume12 rfl (by omega) (fun _ => ⟨rfl, kr_in hF'⟩) (fun h => ?_)
      obtain ⟨i, hi, e⟩ := hyes
      rcases e with e | e
      · exact absurd e (h i hi).1
      · exact absurd e (h i hi).2
  · have hb : x = 0 ∨ kl_bad n x := by
      rcases kl_cases hn8 x with h | h | h | h
      · exact absurd (Or.inl h) hx
      · exact absurd (Or.inr h) hx
      · exact Or.inl h
      · exact Or.inr h.1
    refine kw_isLit0 rfl hb (br_t rfl ?_)
    unfold wpY_assume
    exact ky_valid0 rfl hn8 hn1 hb (br_t rfl ⟨rfl, kr_in hF'⟩)
theorem kv_retract (hF : kr_F n m ka f_fullMask f_draftPos f_draftNeg f_state f_assumedPos f_assumedNeg f_nodeCount f_root a_slotUsed a_slotPos a_slotNeg a_assumed a_weightPos a_weightNeg a_nodeChoice a_nodePos a_nodeNeg a_nodeFree a_nodeKids a_kids a_sizes ya_draft ya_has ya_compiledUsed ya_compiledHas ya_weights) : wpX_retract (fun r u' => wpY_retract (fun r' v' => r' = r ∧ i_Rel (k + 4) u' v') ((nI n), (nI m), f_state, (nI ka), ya_draft, a_slotUsed, ya_has, ya_compiledUsed, ya_compiledHas, a_assumed, ya_weights)) ((nI n), (nI m), f_fullMask, f_draftPos, f_draftNeg, f_state, (nI ka), f_assumedPos, f_assumedNeg, f_clauseCount, f_nodeCount, f_root, f_depth, f_result, f_workPos, f_workNeg, f_workLive, a_slotUsed, a_slotPos, a_slotNeg, a_assumed, a_weightPos, a_weightNeg, a_clausePos, a_clauseNeg, a_nodeChoice, a_nodePos, a_nodeNeg, a_nodeFree, a_nodeKids, a_kids, a_cacheKey, a_cacheNode, a_framePos, a_frameNeg, a_frameFree, a_frameParts, a_frameNext, a_framePhase, a_frameVar, a_frameHigh, a_partVars, a_partClauses, a_partNode, a_value, a_sizes, a_poly, a_product, a_factorPos, a_factorNeg) := by
  have hF' := hF
  obtain ⟨⟨hn1, hn8⟩, ⟨hm1, hm24⟩, hfull, hdr, hsl, has, hw, hsz, hc⟩ := hF
  have hka := has.1
  cases ka with
  | zero => exact br_f (by decide) (br_t rfl ⟨rfl, kr_in hF'⟩)
  | succ t =>
    have et : (nI t).toNatClampNeg = t := nI_clamp (by omega)
    have hin : vp_in (nI t) 8 := vp_in_nI (by omega) (by decide)
    refine br_t (nI_lt (a := 0) (by omega) (by omega)) ?_
    rw [nI_pred t]
    intro y ey
    subst ey
    refine ⟨hin, ?_⟩
    rw [et]
    intro l el
    subst el
    refine kw_posBit (kw_negBit ?_)
    intro p ep q eq
    subst ep eq
    refine br_f (nI_ne0 (by omega) (by omega)) ?_
    rw [nI_pred t]
    intro y ey
    subst ey
    refine ⟨hin, ?_⟩
    rw [et]
    exact ⟨rfl, kr_in ⟨⟨hn1, hn8⟩, ⟨hm1, hm24⟩, hfull, hdr, hsl, kr_as_drop hn8 has, hw, hsz, hc⟩⟩
theorem kv_assumption (hF : kr_F n m ka f_fullMask f_draftPos f_draftNeg f_state f_assumedPos f_assumedNeg f_nodeCount f_root a_slotUsed a_slotPos a_slotNeg a_assumed a_weightPos a_weightNeg a_nodeChoice a_nodePos a_nodeNeg a_nodeFree a_nodeKids a_kids a_sizes ya_draft ya_has ya_compiledUsed ya_compiledHas ya_weights) (x : Int32) : wpX_assumption (fun r => wpY_assumption (fun r' => r' = r ∧ i_Rel (k + 4) ((nI n), (nI m), f_fullMask, f_draftPos, f_draftNeg, f_state, (nI ka), f_assumedPos, f_assumedNeg, f_clauseCount, f_nodeCount, f_root, f_depth, f_result, f_workPos, f_workNeg, f_workLive, a_slotUsed, a_slotPos, a_slotNeg, a_assumed, a_weightPos, a_weightNeg, a_clausePos, a_clauseNeg, a_nodeChoice, a_nodePos, a_nodeNeg, a_nodeFree, a_nodeKids, a_kids, a_cacheKey, a_cacheNode, a_framePos, a_frameNeg, a_frameFree, a_frameParts, a_frameNext, a_framePhase, a_frameVar, a_frameHigh, a_partVars, a_partClauses, a_partNode, a_value, a_sizes, a_poly, a_product, a_factorPos, a_factorNeg) ((nI n), (nI m), f_state, (nI ka), ya_draft, a_slotUsed, ya_has, ya_compiledUsed, ya_compiledHas, a_assumed, ya_weights)) ((nI n), (nI m), f_state, (nI ka), ya_draft, a_slotUsed, ya_has, ya_compiledUsed, ya_compiledHas, a_assumed, ya_weights) x) ((nI n), (nI m), f_fullMask, f_draftPos, f_draftNeg, f_state, (nI ka), f_assumedPos, f_assumedNeg, f_clauseCount, f_nodeCount, f_root, f_depth, f_result, f_workPos, f_workNeg, f_workLive, a_slotUsed, a_slotPos, a_slotNeg, a_assumed, a_weightPos, a_weightNeg, a_clausePos, a_clauseNeg, a_nodeChoice, a_nodePos, a_nodeNeg, a_nodeFree, a_nodeKids, a_kids, a_cacheKey, a_cacheNode, a_framePos, a_frameNeg, a_frameFree, a_frameParts, a_frameNext, a_framePhase, a_frameVar, a_frameHigh, a_partVars, a_partClauses, a_partNode, a_value, a_sizes, a_poly, a_product, a_factorPos, a_factorNeg) x := by
  have hF' := hF
  obtain ⟨⟨hn1, hn8⟩, ⟨hm1, hm24⟩, hfull, hdr, hsl, has, hw, hsz, hc⟩ := hF
  have hka := has.1
  rcases pk_ix x (n := ka) (by omega) with h | h | ⟨s, hs, rfl⟩
  · exact br_t h (br_t h ⟨rfl, kr_in hF'⟩)
  · by_cases h0 : x < 0
    · exact br_t h0 (br_t h0 ⟨rfl, kr_in hF'⟩)
    · exact br_f h0 (br_f (Int32.not_lt.mpr h) (br_f h0 (br_f (Int32.not_lt.mpr h) ⟨rfl, kr_in hF'⟩)))
  · have hin : vp_in (nI s) 8 := vp_in_nI (by omega) (by decide)
    exact br_f (nI_pos (by omega)) (br_t (nI_lt hs (by omega)) ⟨hin, br_f (nI_pos (by omega)) (br_t (nI_lt hs (by omega)) ⟨hin, rfl, kr_in hF'⟩)⟩)
end
end
section
/-! weights -/
theorem kr_mod (w : Int32) : (0 ≤ w - w / 32749 * 32749 ∧ ∃ a, a < 32749 ∧ w - w / 32749 * 32749 = nI a) ∨ (¬ 0 ≤ w - w / 32749 * 32749 ∧ ∃ a, a < 32749 ∧ (w - w / 32749 * 32749) + 32749 = nI a) := by
  have hM : (32749 : Int32).toInt = 32749 := by decide
  have h := rem_toInt w 32749
  rw [hM] at h
  obtain ⟨b1, b2⟩ := tmod_bounds (a := w.toInt) (M := 32749) (by decide)
  rw [← h] at b1 b2
  generalize w - w / 32749 * 32749 = x at b1 b2
  by_cases hx : 0 ≤ x
  · refine Or.inl ⟨hx, x.toInt.toNat, ?_, ?_⟩
    · rw [Int32.le_iff_toInt_le, kl_0T] at hx; omega
    · rw [Int32.le_iff_toInt_le, kl_0T] at hx
      apply Int32.toInt_inj.mp
      rw [nI_toInt (by omega)]; omega
  · refine Or.inr ⟨hx, (x.toInt + 32749).toNat, ?_, ?_⟩
    · rw [Int32.le_iff_toInt_le, kl_0T] at hx; omega
    · rw [Int32.le_iff_toInt_le, kl_0T] at hx
      apply Int32.toInt_inj.mp
      rw [nI_toInt (by omega), Int32.toInt_add, hM, Int.bmod_eq_of_le (by omega) (by omega)]; omega
section
variable {f_fullMask f_draftPos f_draftNeg f_state f_assumedPos f_assumedNeg f_clauseCount f_nodeCount f_root f_depth f_result f_workPos f_workNeg f_workLive : Int32} {a_slotUsed a_slotPos a_slotNeg a_assumed a_weightPos a_weightNeg a_clausePos a_clauseNeg a_nodeChoice a_nodePos a_nodeNeg a_nodeFree a_nodeKids a_kids a_cacheKey a_cacheNode a_framePos a_frameNeg a_frameFree a_frameParts a_frameNext a_framePhase a_frameVar a_frameHigh a_partVars a_partClauses a_partNode a_value a_sizes a_poly a_product a_factorPos a_factorNeg ya_draft ya_has ya_compiledUsed ya_compiledHas ya_weights : Nat → Int32} {n m ka : Nat} {k : Nat}
theorem kv_weight (hF : kr_F n m ka f_fullMask f_draftPos f_draftNeg f_state f_assumedPos f_assumedNeg f_nodeCount f_root a_slotUsed a_slotPos a_slotNeg a_assumed a_weightPos a_weightNeg a_nodeChoice a_nodePos a_nodeNeg a_nodeFree a_nodeKids a_kids a_sizes ya_draft ya_has ya_compiledUsed ya_compiledHas ya_weights) (x : Int32) : wpX_weight (fun r => wpY_weight (fun r' => r' = r ∧ i_Rel (k + 4) ((nI n), (nI m), f_fullMask, f_draftPos, f_draftNeg, f_state, (nI ka), f_assumedPos, f_assumedNeg, f_clauseCount, f_nodeCount, f_root, f_depth, f_result, f_workPos, f_workNeg, f_workLive, a_slotUsed, a_slotPos, a_slotNeg, a_assumed, a_weightPos, a_weightNeg, a_clausePos, a_clauseNeg, a_nodeChoice, a_nodePos, a_nodeNeg, a_nodeFree, a_nodeKids, a_kids, a_cacheKey, a_cacheNode, a_framePos, a_frameNeg, a_frameFree, a_frameParts, a_frameNext, a_framePhase, a_frameVar, a_frameHigh, a_partVars, a_partClauses, a_partNode, a_value, a_sizes, a_poly, a_product, a_factorPos, a_factorNeg) ((nI n), (nI m), f_state, (nI ka), ya_draft, a_slotUsed, ya_has, ya_compiledUsed, ya_compiledHas, a_assumed, ya_weights)) ((nI n), (nI m), f_state, (nI ka), ya_draft, a_slotUsed, ya_has, ya_compiledUsed, ya_compiledHas, a_assumed, ya_weights) x) ((nI n), (nI m), f_fullMask, f_draftPos, f_draftNeg, f_state, (nI ka), f_assumedPos, f_assumedNeg, f_clauseCount, f_nodeCount, f_root, f_depth, f_result, f_workPos, f_workNeg, f_workLive, a_slotUsed, a_slotPos, a_slotNeg, a_assumed, a_weightPos, a_weightNeg, a_clausePos, a_clauseNeg, a_nodeChoice, a_nodePos, a_nodeNeg, a_nodeFree, a_nodeKids, a_kids, a_cacheKey, a_cacheNode, a_framePos, a_frameNeg, a_frameFree, a_frameParts, a_frameNext, a_framePhase, a_frameVar, a_frameHigh, a_partVars, a_partClauses, a_partNode, a_value, a_sizes, a_poly, a_product, a_factorPos, a_factorNeg) x := by
  have hF' := hF
  obtain ⟨⟨hn1, hn8⟩, ⟨hm1, hm24⟩, hfull, hdr, hsl, has, hw, hsz, hc⟩ := hF
  unfold wpX_weight
  by_cases hx : kl_pos n x ∨ kl_neg n x
  · refine kw_isLit1 rfl hn8 hx (br_f (by decide) ?_)
    have hx' := hx
    rcases hx with ⟨v, hv, rfl⟩ | ⟨v, hv, rfl⟩
    · obtain ⟨⟨a, ha, e1, e2⟩, _⟩ := hw v (by omega)
      have ei : nI (v + 1) + 8 = nI (9 + v) := by rw [show (8 : Int32) = nI 8 from rfl, nI_add]; congr 1; omega
      refine br_f (by rw [Int32.le_iff_toInt_le, kl_pT (by omega), kl_0T]; omega) ?_
      rw [nI_pred, nI_clamp (n := v) (by omega), e1]
      refine ⟨vp_in_nI (by omega) (by decide), ?_⟩
      unfold wpY_weight
      refine ky_valid1 rfl hn8 hx' (br_f (by decide) ?_)
      rw [ei, nI_clamp (n := 9 + v) (by omega), e2]
      exact ⟨vp_in_nI (by omega) (by decide), rfl, kr_in hF'⟩
    · obtain ⟨_, ⟨a, ha, e1, e2⟩⟩ := hw v (by omega)
      have ei : -nI (v + 1) + 8 = nI (7 - v) := by
        have := kl_ix (a := 0) (b := v + 1) (by omega)
        rw [nI_0, Int32.zero_add] at this
        rw [this]; congr 1; omega
      refine br_t (by rw [Int32.le_iff_toInt_le, kl_nT (by omega), kl_0T]; omega) ?_
      rw [Int32.neg_neg, nI_pred, nI_clamp (n := v) (by omega), e1]
      refine ⟨vp_in_nI (by omega) (by decide), ?_⟩
      unfold wpY_weight
      refine ky_valid1 rfl hn8 hx' (br_f (by decide) ?_)
      rw [ei, nI_clamp (n := 7 - v) (by omega), e2]
      exact ⟨vp_in_nI (by omega) (by decide), rfl, kr_in hF'⟩
  · have hb : x = 0 ∨ kl_bad n x := by
      rcases kl_cases hn8 x with h | h | h | h
      · exact absurd (Or.inl h) hx
      · exact absurd (Or.inr h) hx
      · exact Or.inl h
      · exact Or.inr h.1
    refine kw_isLit0 rfl hb (br_t rfl ?_)
    unfold wpY_weight
    exact ky_valid0 rfl hn8 hn1 hb (br_t rfl ⟨rfl, kr_in hF'⟩)
theorem kv_setWeight (hF : kr_F n m ka f_fullMask f_draftPos f_draftNeg f_state f_assumedPos f_assumedNeg f_nodeCount f_root a_slotUsed a_slotPos a_slotNeg a_assumed a_weightPos a_weightNeg a_nodeChoice a_nodePos a_nodeNeg a_nodeFree a_nodeKids a_kids a_sizes ya_draft ya_has ya_compiledUsed ya_compiledHas ya_weights) (x w : Int32) : wpX_setWeight (fun r u' => wpY_setWeight (fun r' v' => r' = r ∧ i_Rel (k + 4) u' v') ((nI n), (nI m), f_state, (nI ka), ya_draft, a_slotUsed, ya_has, ya_compiledUsed, ya_compiledHas, a_assumed, ya_weights) x w) ((nI n), (nI m), f_fullMask, f_draftPos, f_draftNeg, f_state, (nI ka), f_assumedPos, f_assumedNeg, f_clauseCount, f_nodeCount, f_root, f_depth, f_result, f_workPos, f_workNeg, f_workLive, a_slotUsed, a_slotPos, a_slotNeg, a_assumed, a_weightPos, a_weightNeg, a_clausePos, a_clauseNeg, a_nodeChoice, a_nodePos, a_nodeNeg, a_nodeFree, a_nodeKids, a_kids, a_cacheKey, a_cacheNode, a_framePos, a_frameNeg, a_frameFree, a_frameParts, a_frameNext, a_framePhase, a_frameVar, a_frameHigh, a_partVars, a_partClauses, a_partNode, a_value, a_sizes, a_poly, a_product, a_factorPos, a_factorNeg) x w := by
  have hF' := hF
  obtain ⟨⟨hn1, hn8⟩, ⟨hm1, hm24⟩, hfull, hdr, hsl, has, hw, hsz, hc⟩ := hF
  unfold wpX_setWeight
  by_cases hx : kl_pos n x ∨ kl_neg n x
  · refine kw_isLit1 rfl hn8 hx (br_f (by decide) ⟨by decide, ?_⟩)
    have fin : ∀ a : Nat, a < 32749 → (∀ post : Int32 → SY → Prop, wY_setWeight_26 post x (nI a) (nI n) (nI m) f_state (nI ka) ya_draft a_slotUsed ya_has ya_compiledUsed ya_compiledHas a_assumed ya_weights → wpY_setWeight post ((nI n), (nI m), f_state, (nI ka), ya_draft, a_slotUsed, ya_has, ya_compiledUsed, ya_compiledHas, a_assumed, ya_weights) x w) → wX_setWeight_26 (fun r u' => wpY_setWeight (fun r' v' => r' = r ∧ i_Rel (k + 4) u' v') ((nI n), (nI m), f_state, (nI ka), ya_draft, a_slotUsed, ya_has, ya_compiledUsed, ya_compiledHas, a_assumed, ya_weights) x w) x (nI a) (nI n) (nI m) f_fullMask f_draftPos f_draftNeg f_state (nI ka) f_assumedPos f_assumedNeg f_clauseCount f_nodeCount f_root f_depth f_result f_workPos f_workNeg f_workLive a_slotUsed a_slotPos a_slotNeg a_assumed a_weightPos a_weightNeg a_clausePos a_clauseNeg a_nodeChoice a_nodePos a_nodeNeg a_nodeFree a_nodeKids a_kids a_cacheKey a_cacheNode a_framePos a_frameNeg a_frameFree a_frameParts a_frameNext a_framePhase a_frameVar a_frameHigh a_partVars a_partClauses a_partNode a_value a_sizes a_poly a_product a_factorPos a_factorNeg := by
      intro a ha hY
      rcases hx with ⟨v, hv, rfl⟩ | ⟨v, hv, rfl⟩
      · have ei : nI (v + 1) + 8 = nI (9 + v) := by rw [show (8 : Int32) = nI 8 from rfl, nI_add]; congr 1; omega
        refine br_f (by rw [Int32.le_iff_toInt_le, kl_pT (by omega), kl_0T]; omega) ?_
        rw [nI_pred, nI_clamp (n := v) (by omega)]
        refine ⟨vp_in_nI (by omega) (by decide), ?_⟩
        intro y ey
        subst ey
        refine hY _ ?_
        unfold wY_setWeight_26
        rw [ei, nI_clamp (n := 9 + v) (by omega)]
        refine ⟨vp_in_nI (by omega) (by decide), ?_⟩
        intro z ez
        subst ez
        refine ⟨rfl, kr_in ⟨⟨hn1, hn8⟩, ⟨hm1, hm24⟩, hfull, hdr, hsl, has, fun u hu => ⟨?_, ?_⟩, hsz, hc⟩⟩
        · by_cases e : u = v
          · subst e; exact ⟨a, ha, pk_us, pk_us⟩
          · rw [pk_un e, pk_un (by omega)]; exact (hw u hu).1
        · rw [pk_un (by omega)]; exact (hw u hu).2
      · have ei : -nI (v + 1) + 8 = nI (7 - v) := by
          have := kl_ix (a := 0) (b := v + 1) (by omega)
          rw [nI_0, Int32.zero_add] at this
          rw [this]; congr 1; omega
        refine br_t (by rw [Int32.le_iff_toInt_le, kl_nT (by omega), kl_0T]; omega) ?_
        rw [Int32.neg_neg, nI_pred, nI_clamp (n := v) (by omega)]
        refine ⟨vp_in_nI (by omega) (by decide), ?_⟩
        intro y ey
        subst ey
        refine hY _ ?_
        unfold wY_setWeight_26
        rw [ei, nI_clamp (n := 7 - v) (by omega)]
        refine ⟨vp_in_nI (by omega) (by decide), ?_⟩
        intro z ez
        subst ez
        refine ⟨rfl, kr_in ⟨⟨hn1, hn8⟩, ⟨hm1, hm24⟩, hfull, hdr, hsl, has, fun u hu => ⟨?_, ?_⟩, hsz, hc⟩⟩
        · rw [pk_un (by omega)]; exact (hw u hu).1
        · by_cases e : u = v
          · subst e; exact ⟨a, ha, pk_us, pk_us⟩
          · rw [pk_un e, pk_un (by omega)]; exact (hw u hu).2
    intro r er
    rcases kr_mod w with ⟨h0, a, ha, e⟩ | ⟨h0, a, ha, e⟩
    · rw [← er] at h0 e
      refine br_t h0 ?_
      rw [e]
      refine fin a ha (fun post hp => ?_)
      unfold wpY_setWeight
      refine ky_valid1 rfl hn8 hx (br_f (by decide) ⟨by decide, ?_⟩)
      intro r' er'
      have : r' = r := er'.trans er.symm
      subst this
      refine br_t h0 ?_
      rw [e]; exact hp
    · rw [← er] at h0 e
      refine br_f h0 ?_
      intro r2 er2
      rw [e] at er2
      subst er2
      refine fin a ha (fun post hp => ?_)
      unfold wpY_setWeight
      refine ky_valid1 rfl hn8 hx (br_f (by decide) ⟨by decide, ?_⟩)
      intro r' er'
      have : r' = r := er'.trans er.symm
      subst this
      refine br_f h0 ?_
      intro r3 er3
      rw [e] at er3
      subst er3
      exact hp
  · have hb : x = 0 ∨ kl_bad n x := by
      rcases kl_cases hn8 x with h | h | h | h
      · exact absurd (Or.inl h) hx
      · exact absurd (Or.inr h) hx
      · exact Or.inl h
      · exact Or.inr h.1
    refine kw_isLit0 rfl hb (br_t rfl ?_)
    unfold wpY_setWeight
    exact ky_valid0 rfl hn8 hn1 hb (br_t rfl ⟨rfl, kr_in hF'⟩)
end
end
section
/-! the constructors -/
theorem kr_one {n : Nat} (hn : n ≤ 8) (v : Nat) : bt (((1 : Int32) <<< (nI n &&& 31)) - 1) v = decide (v < n) := kb_all (by omega)
section
variable {f_varCount f_slotCount f_fullMask f_draftPos f_draftNeg f_state f_assumedCount f_assumedPos f_assumedNeg f_clauseCount f_nodeCount f_root f_depth f_result f_workPos f_workNeg f_workLive : Int32} {a_slotUsed a_slotPos a_slotNeg a_assumed a_weightPos a_weightNeg a_clausePos a_clauseNeg a_nodeChoice a_nodePos a_nodeNeg a_nodeFree a_nodeKids a_kids a_cacheKey a_cacheNode a_framePos a_frameNeg a_frameFree a_frameParts a_frameNext a_framePhase a_frameVar a_frameHigh a_partVars a_partClauses a_partNode a_value a_sizes a_poly a_product a_factorPos a_factorNeg : Nat → Int32}
theorem kw_init352 {post : SX → Prop} (K : ∀ wP wN, (∀ v, v < 8 → wP v = 1 ∧ wN v = 1) → post (f_varCount, f_slotCount, f_fullMask, f_draftPos, f_draftNeg, f_state, f_assumedCount, f_assumedPos, f_assumedNeg, f_clauseCount, f_nodeCount, f_root, f_depth, f_result, f_workPos, f_workNeg, f_workLive, a_slotUsed, a_slotPos, a_slotNeg, a_assumed, wP, wN, a_clausePos, a_clauseNeg, a_nodeChoice, a_nodePos, a_nodeNeg, a_nodeFree, a_nodeKids, a_kids, a_cacheKey, a_cacheNode, a_framePos, a_frameNeg, a_frameFree, a_frameParts, a_frameNext, a_framePhase, a_frameVar, a_frameHigh, a_partVars, a_partClauses, a_partNode, a_value, a_sizes, a_poly, a_product, a_factorPos, a_factorNeg)) : ∃ q, wX_init_352 post f_varCount f_slotCount f_fullMask f_draftPos f_draftNeg f_state f_assumedCount f_assumedPos f_assumedNeg f_clauseCount f_nodeCount f_root f_depth f_result f_workPos f_workNeg f_workLive q 0 a_slotUsed a_slotPos a_slotNeg a_assumed a_weightPos a_weightNeg a_clausePos a_clauseNeg a_nodeChoice a_nodePos a_nodeNeg a_nodeFree a_nodeKids a_kids a_cacheKey a_cacheNode a_framePos a_frameNeg a_frameFree a_frameParts a_frameNext a_framePhase a_frameVar a_frameHigh a_partVars a_partClauses a_partNode a_value a_sizes a_poly a_product a_factorPos a_factorNeg := by
  refine loop_0 (σ := (Nat → Int32) × (Nat → Int32)) (fun q i s => wX_init_352 post f_varCount f_slotCount f_fullMask f_draftPos f_draftNeg f_state f_assumedCount f_assumedPos f_assumedNeg f_clauseCount f_nodeCount f_root f_depth f_result f_workPos f_workNeg f_workLive q (nI i) a_slotUsed a_slotPos a_slotNeg a_assumed s.1 s.2 a_clausePos a_clauseNeg a_nodeChoice a_nodePos a_nodeNeg a_nodeFree a_nodeKids a_kids a_cacheKey a_cacheNode a_framePos a_frameNeg a_frameFree a_frameParts a_frameNext a_framePhase a_frameVar a_frameHigh a_partVars a_partClauses a_partNode a_value a_sizes a_poly a_product a_factorPos a_factorNeg) (fun i s => ∀ v, v < i → s.1 v = 1 ∧ s.2 v = 1) 8 (a_weightPos, a_weightNeg) (fun v hv => absurd hv (Nat.not_lt_zero _)) ?_ ?_
  · rintro q ⟨wP, wN⟩ hs
    exact br_t (by decide) (K wP wN hs)
  · rintro q i ⟨wP, wN⟩ hi hs hk
    dsimp only at hs hk ⊢
    have ei : (nI i).toNatClampNeg = i := nI_clamp (by omega)
    refine br_f (nI_ge (b := 8) hi (by decide)) ⟨vp_in_nI hi (by decide), fun a1 e1 => ⟨vp_in_nI hi (by decide), fun a2 e2 => ?_⟩⟩
    intro y ey
    rw [ei] at e1 e2
    subst e1 e2 ey
    rw [nI_1 i]
    refine hk (upd wP i 1, upd wN i 1) (fun v hv => ?_)
    dsimp only
    by_cases e : v = i
    · subst e; exact ⟨pk_us, pk_us⟩
    · rw [pk_un e, pk_un e]; exact hs v (by omega)
theorem kw_init300 (p1 : Int32) : ∃ m, 1 ≤ m ∧ m ≤ 24 ∧ (∀ (post : SX → Prop) (z0 : Int32) (f_varCount f_slotCount f_fullMask f_draftPos f_draftNeg f_state f_assumedCount f_assumedPos f_assumedNeg f_clauseCount f_nodeCount f_root f_depth f_result f_workPos f_workNeg f_workLive : Int32) (a_slotUsed a_slotPos a_slotNeg a_assumed a_weightPos a_weightNeg a_clausePos a_clauseNeg a_nodeChoice a_nodePos a_nodeNeg a_nodeFree a_nodeKids a_kids a_cacheKey a_cacheNode a_framePos a_frameNeg a_frameFree a_frameParts a_frameNext a_framePhase a_frameVar a_frameHigh a_partVars a_partClauses a_partNode a_value a_sizes a_poly a_product a_factorPos a_factorNeg : Nat → Int32), wX_init_325 post (nI m) z0 f_slotCount f_fullMask f_draftPos f_draftNeg f_state f_assumedCount f_assumedPos f_assumedNeg f_clauseCount f_nodeCount f_root f_depth f_result f_workPos f_workNeg f_workLive a_slotUsed a_slotPos a_slotNeg a_assumed a_weightPos a_weightNeg a_clausePos a_clauseNeg a_nodeChoice a_nodePos a_nodeNeg a_nodeFree a_nodeKids a_kids a_cacheKey a_cacheNode a_framePos a_frameNeg a_frameFree a_frameParts a_frameNext a_framePhase a_frameVar a_frameHigh a_partVars a_partClauses a_partNode a_value a_sizes a_poly a_product a_factorPos a_factorNeg → wX_init_300 post p1 z0 f_varCount f_slotCount f_fullMask f_draftPos f_draftNeg f_state f_assumedCount f_assumedPos f_assumedNeg f_clauseCount f_nodeCount f_root f_depth f_result f_workPos f_workNeg f_workLive a_slotUsed a_slotPos a_slotNeg a_assumed a_weightPos a_weightNeg a_clausePos a_clauseNeg a_nodeChoice a_nodePos a_nodeNeg a_nodeFree a_nodeKids a_kids a_cacheKey a_cacheNode a_framePos a_frameNeg a_frameFree a_frameParts a_frameNext a_framePhase a_frameVar a_frameHigh a_partVars a_partClauses a_partNode a_value a_sizes a_poly a_product a_factorPos a_factorNeg)
    ∧ (∀ (post : SY → Prop) (y1 y2 y3 y4 : Int32) (b1 b2 b3 b4 b5 b6 b7 : Nat → Int32), wY_init_128 post y1 (nI m) y3 y4 b1 b2 b3 b4 b5 b6 b7 → wY_init_95 post p1 y1 y2 y3 y4 b1 b2 b3 b4 b5 b6 b7) := by
  by_cases h1 : 1 ≤ p1
  · by_cases h2 : p1 ≤ 24
    · obtain ⟨j, hj, rfl⟩ := nI_of2 (x := p1) (M := 24) (n := 24) (by decide) (Int32.not_lt.mpr (Int32.le_trans (by decide) h1)) h2
      have hj1 : 1 ≤ j := by
        have : nI 1 ≤ nI j := h1
        rw [nI_leI (by omega) (by omega)] at this; exact this
      refine ⟨j, hj1, hj, ?_, ?_⟩
      · intros; rename_i h; exact br_t h1 (br_t h2 h)
      · intros; rename_i h; exact br_t h1 (br_t h2 h)
    · refine ⟨24, by decide, by decide, ?_, ?_⟩
      · intros; rename_i h; exact br_t h1 (br_f h2 h)
      · intros; rename_i h; exact br_t h1 (br_f h2 h)
  · refine ⟨1, by decide, by decide, ?_, ?_⟩
    · intros; rename_i h; exact br_f h1 h
    · intros; rename_i h; exact br_f h1 (br_t (by decide) h)
end
section
variable {yf_n yf_m yf_state yf_assumed : Int32} {ya_draft ya_used ya_has ya_compiledUsed ya_compiledHas ya_assumptions ya_weights : Nat → Int32}
theorem ky_init140 {post : SY → Prop} (K : ∀ ws, (∀ v, v < 17 → ws v = 1) → post (yf_n, yf_m, yf_state, yf_assumed, ya_draft, ya_used, ya_has, ya_compiledUsed, ya_compiledHas, ya_assumptions, ws)) : ∃ q, wY_init_140 post yf_n yf_m yf_state yf_assumed q 0 ya_draft ya_used ya_has ya_compiledUsed ya_compiledHas ya_assumptions ya_weights := by
  refine loop_0 (fun q i s => wY_init_140 post yf_n yf_m yf_state yf_assumed q (nI i) ya_draft ya_used ya_has ya_compiledUsed ya_compiledHas ya_assumptions s) (fun i s => ∀ v, v < i → s v = 1) 17 ya_weights (fun v hv => absurd hv (Nat.not_lt_zero _)) ?_ ?_
  · intro q s hs
    exact br_t (by decide) (K s hs)
  · intro q i s hi hs hk
    have ei : (nI i).toNatClampNeg = i := nI_clamp (by omega)
    refine br_f (nI_ge (b := 17) hi (by decide)) ⟨vp_in_nI hi (by decide), fun a1 e1 => ?_⟩
    intro y ey
    rw [ei] at e1
    subst e1 ey
    rw [nI_1 i]
    refine hk _ (fun v hv => ?_)
    by_cases e : v = i
    · subst e; exact pk_us
    · rw [pk_un e]; exact hs v (by omega)
end
theorem kw_init0 (p0 p1 : Int32) : ∃ n, 1 ≤ n ∧ n ≤ 8 ∧ (∀ post : SX → Prop, wX_init_300 post p1 (nI n) 0 0 0 0 0 0 0 0 0 0 0 0 0 0 0 0 0 (fun _ => 0) (fun _ => 0) (fun _ => 0) (fun _ => 0) (fun _ => 0) (fun _ => 0) (fun _ => 0) (fun _ => 0) (fun _ => 0) (fun _ => 0) (fun _ => 0) (fun _ => 0) (fun _ => 0) (fun _ => 0) (fun _ => 0) (fun _ => 0) (fun _ => 0) (fun _ => 0) (fun _ => 0) (fun _ => 0) (fun _ => 0) (fun _ => 0) (fun _ => 0) (fun _ => 0) (fun _ => 0) (fun _ => 0) (fun _ => 0) (fun _ => 0) (fun _ => 0) (fun _ => 0) (fun _ => 0) (fun _ => 0) (fun _ => 0) → wpX_init post p0 p1)
    ∧ (∀ post : SY → Prop, wY_init_95 post p1 (nI n) 0 0 0 (fun _ => 0) (fun _ => 0) (fun _ => 0) (fun _ => 0) (fun _ => 0) (fun _ => 0) (fun _ => 0) → wpY_init post p0 p1) := by
  by_cases h1 : 1 ≤ p0
  · by_cases h2 : p0 ≤ 8
    · obtain ⟨j, hj, rfl⟩ := nI_of2 (x := p0) (M := 8) (n := 8) (by decide) (Int32.not_lt.mpr (Int32.le_trans (by decide) h1)) h2
      have hj1 : 1 ≤ j := by
        have : nI 1 ≤ nI j := h1
        rw [nI_leI (by omega) (by omega)] at this; exact this
      exact ⟨j, hj1, hj, fun post h => br_t h1 (br_t h2 h), fun post h => br_t h1 (br_t h2 h)⟩
    · exact ⟨8, by decide, by decide, fun post h => br_t h1 (br_f h2 h), fun post h => br_t h1 (br_f h2 h)⟩
  · exact ⟨1, by decide, by decide, fun post h => br_f h1 h, fun post h => br_f h1 (br_t (by decide) h)⟩
theorem i_vc0 (k0 : Int32) (k1 : Int32) : wpX_init (fun u => wpY_init (fun v => i_Rel 2 u v) k0 k1) k0 k1 := by
  obtain ⟨n, hn1, hn8, hX, hY⟩ := kw_init0 k0 k1
  obtain ⟨m, hm1, hm24, hX2, hY2⟩ := kw_init300 k1
  refine hX _ (hX2 _ _ _ _ _ _ _ _ _ _ _ _ _ _ _ _ _ _ _ _ _ _ _ _ _ _ _ _ _ _ _ _ _ _ _ _ _ _ _ _ _ _ _ _ _ _ _ _ _ _ _ _ ?_)
  intro fm efm
  refine kw_init352 (fun wP wN hw => ?_)
  refine hY _ (hY2 _ _ _ _ _ _ _ _ _ _ _ _ ?_)
  refine ky_init140 (fun ws hws => ?_)
  refine ⟨n, m, 0, rfl, rfl, rfl, rfl, rfl, rfl, rfl, rfl, rfl, ?_⟩
  have b0' : ∀ v, ¬ bt 0 v = true := fun v h => by rw [b_0] at h; cases h
  have hne : ¬ (0 : Int32) = 1 := by decide
  refine ⟨⟨hn1, hn8⟩, ⟨hm1, hm24⟩, fun v => by rw [efm]; exact kr_one hn8 v, ?_, ?_, ?_, ?_, fun _ _ => rfl, fun h => absurd rfl h⟩
  · exact ⟨fun v h => absurd h (b0' v), fun v h => absurd h (b0' v), fun _ => Or.inl rfl, fun v _ => ⟨fun h => absurd h (b0' v), fun h => absurd h hne⟩, fun v _ => ⟨fun h => absurd h (b0' v), fun h => absurd h hne⟩, rfl⟩
  · exact ⟨fun _ => Or.inl rfl, fun _ => Or.inl rfl, fun s _ h => absurd rfl h⟩
  · refine ⟨Nat.zero_le _, fun i hi => absurd hi (Nat.not_lt_zero _), fun v => ⟨fun h => absurd h (b0' v), fun ⟨_, i, hi, _⟩ => absurd hi (Nat.not_lt_zero _)⟩, fun v => ⟨fun h => absurd h (b0' v), fun ⟨_, i, hi, _⟩ => absurd hi (Nat.not_lt_zero _)⟩, fun v h => b0' v h.1, ?_, fun i j hi => absurd hi (Nat.not_lt_zero _)⟩
    exact (kb_cdz (x := 0 ||| 0) (fun v h => absurd (by rw [b_or, b_0] at h; exact h) (by decide))).mpr (by decide)
  · exact fun v hv => ⟨⟨1, by decide, (hw v hv).1, hws _ (by omega)⟩, ⟨1, by decide, (hw v hv).2, hws _ (by omega)⟩⟩
end
section
/-! codes; compile -/
theorem kr_bc {c : Nat} (hc : c < 2 ^ 31) : bt (nI c) = kt_c c := funext (fun v => kb_nbig (by omega))
theorem kr_p8 {n : Nat} (hn : n ≤ 8) : 2 ^ n ≤ 256 := Nat.pow_le_pow_right (n := 2) (by decide) hn
theorem kr_T {V : Nat → Bool} {n : Nat} (hn : n ≤ 8) (hV : ∀ v, V v = decide (v < n)) (G : (Nat → Bool) → Nat) : kt_T 8 V G kc_a0 = ks_sm (2 ^ n) (fun c => G (kt_c c)) := by
  have e8 : 8 = n + (8 - n) := by omega
  rw [e8, kt_cut (8 - n) kc_a0 (fun v hv => by rw [hV v]; simp; omega), kt_congr (W := fun _ => true) (G := G) n kc_a0 (fun v hv => by rw [hV v]; simp; omega) (fun _ _ => rfl), ← kt_codes n kc_a0]
  apply ks_congr
  intro c hc
  congr 1
  funext v
  unfold kt_ac kt_c
  by_cases h : v < n
  · rw [if_pos h]
  · rw [if_neg h, Nat.testBit_lt_two_pow (Nat.lt_of_lt_of_le hc (Nat.pow_le_pow_right (by decide) (by omega)))]; rfl
theorem kr_W {f g : Nat → Nat} {nc rt n : Nat} {vs : Nat → Nat → Bool} {P : Nat → (Nat → Bool) → Prop} {F : Int32} {Q : (Nat → Bool) → Prop} (hn : n ≤ 8) (hF : ∀ v, bt F v = decide (v < n)) (h : kp_R nc vs P rt F Q) : kc_val f g vs P rt = ks_sm (2 ^ n) (fun c => kt_b (Q (kt_c c)) * kc_wt f g (bt F) (kt_c c)) := by
  rcases h with ⟨rfl, h⟩ | ⟨h1, h2, h3, h4⟩
  · rw [kc_val0]
    exact ((ks_zero _).mpr (fun c _ => by rw [kt_b0 (h _), Nat.zero_mul])).symm
  · rw [kc_valS h1, kc_Wc h3 h4]
    unfold kc_W
    rw [kr_T hn hF]; rfl
theorem kr_cnt {mt mf : Int32} {nc rt n : Nat} {vs : Nat → Nat → Bool} {P : Nat → (Nat → Bool) → Prop} {F : Int32} {Q : (Nat → Bool) → Prop} (hn : n ≤ 8) (hF : ∀ v, bt F v = decide (v < n)) (h : kp_R nc vs P rt F Q) : kc_val (kc_cf mf) (kc_cf mt) vs P rt = ks_sm (2 ^ n) (fun c => kt_b (Q (kt_c c) ∧ kc_con mt mf (bt F) (kt_c c))) := by
  rw [kr_W hn hF h]
  apply ks_congr
  intro c _
  rw [kc_wtcon (fun v hv => by rw [hF v] at hv; have : v < n := by simpa using hv
                               omega), ← kt_band]
theorem kr_satiff {n m : Nat} {us sp sn has cu ch : Nat → Int32} {F : Int32} (hn : n ≤ 8) (hm : m ≤ 24) (hF : ∀ v, bt F v = decide (v < n)) (h : kr_slots n m us sp sn has) (hcu : ∀ i, i < 24 → cu i = us i) (hch : ∀ i, i < 408 → ch i = has i) (a : Nat → Bool) :
    (∀ j, j < m → ¬ us j = 0 → kp_cs sp sn F a j) ↔ ky_Sat n m cu ch a := by
  have nz : ∀ i, ¬ has i = 0 ↔ has i = 1 := fun i => by
    rcases h.2.1 i with e | e
    · rw [e]; exact ⟨fun z => absurd rfl z, fun z => absurd z (by decide)⟩
    · rw [e]; exact ⟨fun _ => rfl, fun _ => by decide⟩
  have one : ∀ s, s < m → ¬ us s = 0 → (kp_cs sp sn F a s ↔ ∃ v, v < n ∧ ((¬ ch (s * 17 + 9 + v) = 0 ∧ a v = true) ∨ (¬ ch (s * 17 + 7 - v) = 0 ∧ a v = false))) := by
    intro s hs hu
    obtain ⟨g1, g2, g3⟩ := h.2.2 s hs hu
    constructor
    · rintro ⟨v, hv, h1⟩
      rw [hF v] at hv
      have hv : v < n := by simpa using hv
      refine ⟨v, hv, ?_⟩
      rw [hch _ (by omega), hch _ (by omega), nz, nz, ← (g3 v (by omega)).1, ← (g3 v (by omega)).2]
      exact h1
    · rintro ⟨v, hv, h1⟩
      refine ⟨v, by rw [hF v]; simpa using hv, ?_⟩
      rw [hch _ (by omega), hch _ (by omega), nz, nz, ← (g3 v (by omega)).1, ← (g3 v (by omega)).2] at h1
      exact h1
  constructor
  · intro H s hs hu
    rw [hcu s (by omega)] at hu
    exact (one s hs hu).mp (H s hs hu)
  · intro H s hs hu
    exact (one s hs hu).mpr (H s hs (by rw [hcu s (by omega)]; exact hu))
section
variable {yf_n yf_m yf_state yf_assumed : Int32} {ya_draft ya_used ya_has ya_compiledUsed ya_compiledHas ya_assumptions ya_weights : Nat → Int32}
variable {n m : Nat}
theorem ky_comp62 {post : Int32 → SY → Prop} (hvn : yf_n = nI n) (hvm : yf_m = nI m) (hn1 : 1 ≤ n) (hn : n ≤ 8) (hm : m ≤ 24)
    (K : post (nI (ks_sm (2 ^ n) (fun c => kt_b (ky_Sat n m ya_compiledUsed ya_compiledHas (kt_c c))))) (yf_n, yf_m, yf_state, yf_assumed, ya_draft, ya_used, ya_has, ya_compiledUsed, ya_compiledHas, ya_assumptions, ya_weights)) : ∃ q, wY_compile_62 post yf_n yf_m yf_state yf_assumed ya_draft ya_used ya_has ya_compiledUsed ya_compiledHas ya_assumptions ya_weights q 0 0 := by
  have hp := kr_p8 hn
  subst hvn
  refine loop_0 (fun q c t => wY_compile_62 post (nI n) yf_m yf_state yf_assumed ya_draft ya_used ya_has ya_compiledUsed ya_compiledHas ya_assumptions ya_weights q t (nI c)) (fun c t => t = nI (ks_sm c (fun c => kt_b (ky_Sat n m ya_compiledUsed ya_compiledHas (kt_c c))))) (2 ^ n) 0 rfl ?_ ?_
  · intro q t ht
    subst ht
    refine br_t ?_ K
    rw [kb_pow (by omega)]; exact Int32.le_refl _
  · intro q c t hc ht hk
    subst ht
    refine br_f ?_ ?_
    · rw [kb_pow (by omega)]; exact nI_ge hc (by omega)
    · refine ky_satisfies rfl hvm hn1 hn hm (fun h => br_f (by decide) ?_) (fun h => br_t rfl ?_)
      · rw [kr_bc (by omega)] at h
        intro y ey w ew
        subst ey ew
        rw [nI_1 c]
        refine hk _ ?_
        show _ = nI (ks_sm c (fun c => kt_b (ky_Sat n m ya_compiledUsed ya_compiledHas (kt_c c))) + kt_b (ky_Sat n m ya_compiledUsed ya_compiledHas (kt_c c)))
        rw [kt_b1 h, ← nI_1]
      · rw [kr_bc (by omega)] at h
        intro y ey
        subst ey
        rw [nI_1 c]
        refine hk _ ?_
        show _ = nI (ks_sm c (fun c => kt_b (ky_Sat n m ya_compiledUsed ya_compiledHas (kt_c c))) + kt_b (ky_Sat n m ya_compiledUsed ya_compiledHas (kt_c c)))
        rw [kt_b0 h, Nat.add_zero]
theorem ky_compile {post : Int32 → SY → Prop} (hvn : yf_n = nI n) (hvm : yf_m = nI m) (hn1 : 1 ≤ n) (hn : n ≤ 8) (hm : m ≤ 24) (hu : ∀ i, ya_used i = 0 ∨ ya_used i = 1) (hh : ∀ i, ya_has i = 0 ∨ ya_has i = 1)
    (K : ∀ cu ch, (∀ i, i < 24 → cu i = ya_used i) → (∀ i, i < 408 → ch i = ya_has i) → post (nI (ks_sm (2 ^ n) (fun c => kt_b (ky_Sat n m cu ch (kt_c c))))) (yf_n, yf_m, 1, yf_assumed, ya_draft, ya_used, ya_has, cu, ch, ya_assumptions, ya_weights)) : wpY_compile post (yf_n, yf_m, yf_state, yf_assumed, ya_draft, ya_used, ya_has, ya_compiledUsed, ya_compiledHas, ya_assumptions, ya_weights) := by
  refine loop_0 (fun q i s => wY_compile_2 post yf_n yf_m yf_state yf_assumed q (nI i) ya_draft ya_used ya_has s ya_compiledHas ya_assumptions ya_weights) (fun i s => ∀ j, j < i → s j = ya_used j) 24 ya_compiledUsed (fun j hj => absurd hj (Nat.not_lt_zero _)) ?_ ?_
  · intro q cu hcu
    refine br_t (by decide) ?_
    refine loop_0 (fun q i s => wY_compile_28 post yf_n yf_m yf_state yf_assumed q (nI i) ya_draft ya_used ya_has cu s ya_assumptions ya_weights) (fun i s => ∀ j, j < i → s j = ya_has j) 408 ya_compiledHas (fun j hj => absurd hj (Nat.not_lt_zero _)) ?_ ?_
    · intro q ch hch
      refine br_t (by decide) ?_
      exact ky_comp62 hvn hvm hn1 hn hm (K cu ch hcu hch)
    · intro q i s hi hs hk
      have ei : (nI i).toNatClampNeg = i := nI_clamp (by omega)
      refine br_f (nI_ge (b := 408) hi (by decide)) ⟨vp_in_nI hi (by decide), vp_in_nI hi (by decide), ?_⟩
      rw [ei, ky_nar (hh i)]
      intro a ea y ey
      subst ea ey
      rw [nI_1 i]
      refine hk _ (fun j hj => ?_)
      by_cases e : j = i
      · subst e; exact pk_us
      · rw [pk_un e]; exact hs j (by omega)
  · intro q i s hi hs hk
    have ei : (nI i).toNatClampNeg = i := nI_clamp (by omega)
    refine br_f (nI_ge (b := 24) hi (by decide)) ⟨vp_in_nI hi (by decide), vp_in_nI hi (by decide), ?_⟩
    rw [ei, ky_nar (hu i)]
    intro a ea y ey
    subst ea ey
    rw [nI_1 i]
    refine hk _ (fun j hj => ?_)
    by_cases e : j = i
    · subst e; exact pk_us
    · rw [pk_un e]; exact hs j (by omega)
end
section
variable {f_fullMask f_draftPos f_draftNeg f_state f_assumedPos f_assumedNeg f_clauseCount f_nodeCount f_root f_depth f_result f_workPos f_workNeg f_workLive : Int32} {a_slotUsed a_slotPos a_slotNeg a_assumed a_weightPos a_weightNeg a_clausePos a_clauseNeg a_nodeChoice a_nodePos a_nodeNeg a_nodeFree a_nodeKids a_kids a_cacheKey a_cacheNode a_framePos a_frameNeg a_frameFree a_frameParts a_frameNext a_framePhase a_frameVar a_frameHigh a_partVars a_partClauses a_partNode a_value a_sizes a_poly a_product a_factorPos a_factorNeg ya_draft ya_has ya_compiledUsed ya_compiledHas ya_weights : Nat → Int32} {n m ka : Nat} {k : Nat}
theorem kv_compile (hF : kr_F n m ka f_fullMask f_draftPos f_draftNeg f_state f_assumedPos f_assumedNeg f_nodeCount f_root a_slotUsed a_slotPos a_slotNeg a_assumed a_weightPos a_weightNeg a_nodeChoice a_nodePos a_nodeNeg a_nodeFree a_nodeKids a_kids a_sizes ya_draft ya_has ya_compiledUsed ya_compiledHas ya_weights) : wpX_compile (fun r u' => wpY_compile (fun r' v' => r' = r ∧ i_Rel (k + 4) u' v') ((nI n), (nI m), f_state, (nI ka), ya_draft, a_slotUsed, ya_has, ya_compiledUsed, ya_compiledHas, a_assumed, ya_weights)) ((nI n), (nI m), f_fullMask, f_draftPos, f_draftNeg, f_state, (nI ka), f_assumedPos, f_assumedNeg, f_clauseCount, f_nodeCount, f_root, f_depth, f_result, f_workPos, f_workNeg, f_workLive, a_slotUsed, a_slotPos, a_slotNeg, a_assumed, a_weightPos, a_weightNeg, a_clausePos, a_clauseNeg, a_nodeChoice, a_nodePos, a_nodeNeg, a_nodeFree, a_nodeKids, a_kids, a_cacheKey, a_cacheNode, a_framePos, a_frameNeg, a_frameFree, a_frameParts, a_frameNext, a_framePhase, a_frameVar, a_frameHigh, a_partVars, a_partClauses, a_partNode, a_value, a_sizes, a_poly, a_product, a_factorPos, a_factorNeg) := by
  obtain ⟨⟨hn1, hn8⟩, ⟨hm1, hm24⟩, hfull, hdr, hsl, has, hw, hsz, hc⟩ := hF
  have hlo : kb_lo8 f_fullMask := fun v hv => by rw [hfull v] at hv; have : v < n := by simpa using hv
                                                 omega
  refine kw_compile (m := m) rfl hm24 hlo (fun j hj hu => ?_) (fun w cc cp cn val nc rt vs P c1 c2 c3 c4 c5 => ?_)
  · obtain ⟨g1, g2, _⟩ := hsl.2.2 j hj hu
    exact ⟨fun v hv => by rw [hfull v]; simpa using g1 v hv, fun v hv => by rw [hfull v]; simpa using g2 v hv⟩
  · refine ky_compile rfl rfl hn1 hn8 hm24 hsl.1 hsl.2.1 (fun cu ch hcu hch => ?_)
    have hR : kp_R nc vs P rt f_fullMask (ky_Sat n m cu ch) := by
      rcases c5 with ⟨h1, h2⟩ | ⟨h1, h2, h3, h4⟩
      · exact Or.inl ⟨h1, fun a ha => h2 a ((kr_satiff hn8 hm24 hfull hsl hcu hch a).mpr ha)⟩
      · exact Or.inr ⟨h1, h2, h3, fun a => (h4 a).trans (kr_satiff hn8 hm24 hfull hsl hcu hch a)⟩
    refine ⟨?_, kr_in ⟨⟨hn1, hn8⟩, ⟨hm1, hm24⟩, hfull, hdr, hsl, has, hw, hsz, fun _ => ⟨nc, rt, vs, P, c1, c2, c3, rfl, rfl, c4, hR⟩⟩⟩
    rw [kr_cnt hn8 hfull hR]
    congr 1
    apply ks_congr
    intro c _
    exact kt_bc ⟨fun h => ⟨h, fun v _ => ⟨fun z => (by rw [b_0] at z; cases z), fun z => (by rw [b_0] at z; cases z)⟩⟩, fun h => h.1⟩
end
end
section
/-! questions: counting -/
def ky_M (n m ka : Nat) (ass cu ch : Nat → Int32) (a : Nat → Bool) : Prop := (∀ i, i < ka → kl_true (ass i) a) ∧ ky_Sat n m cu ch a
noncomputable def ky_Mb (n m ka : Nat) (ass cu ch : Nat → Int32) (c : Nat) : Nat := kt_b (ky_M n m ka ass cu ch (kt_c c))
noncomputable def kx_N (n m : Nat) (F : Int32) (cu ch : Nat → Int32) (mt mf : Int32) : Nat := ks_sm (2 ^ n) (fun c => kt_b (ky_Sat n m cu ch (kt_c c) ∧ kc_con mt mf (bt F) (kt_c c)))
theorem ks_b {f : Nat → Nat} (h : ∀ c, f c ≤ 1) (N : Nat) : ks_sm N f ≤ N := by
  have := ks_le (f := f) (g := fun _ => 1) N (fun c _ => h c)
  rw [ks_const] at this
  omega
theorem kx_Nle {n m : Nat} {F : Int32} {cu ch : Nat → Int32} {mt mf : Int32} (hn : n ≤ 8) : kx_N n m F cu ch mt mf ≤ 256 :=
  Nat.le_trans (ks_b (fun c => kt_ble _) _) (kr_p8 hn)
theorem kr_con {n ka : Nat} {ass : Nat → Int32} {aP aN F : Int32} (hn : n ≤ 8) (hF : ∀ v, bt F v = decide (v < n)) (h : kr_as n ka ass aP aN) (a : Nat → Bool) : kc_con aP aN (bt F) a ↔ ∀ i, i < ka → kl_true (ass i) a := by
  obtain ⟨h1, h2, h3, h4, h5, h6, h7⟩ := h
  constructor
  · intro H i hi
    rcases h2 i hi with ⟨v, hv, e⟩ | ⟨v, hv, e⟩
    · rw [e, kl_t1 (by omega)]
      exact (H v (by rw [hF v]; simpa using hv)).1 ((h3 v).mpr ⟨hv, i, hi, e⟩)
    · rw [e, kl_t2 (by omega)]
      exact (H v (by rw [hF v]; simpa using hv)).2 ((h4 v).mpr ⟨hv, i, hi, e⟩)
  · intro H v _
    refine ⟨fun hb => ?_, fun hb => ?_⟩
    · obtain ⟨hv, i, hi, e⟩ := (h3 v).mp hb
      have := H i hi
      rw [e, kl_t1 (by omega)] at this
      exact this
    · obtain ⟨hv, i, hi, e⟩ := (h4 v).mp hb
      have := H i hi
      rw [e, kl_t2 (by omega)] at this
      exact this
theorem kr_conlit {n : Nat} {aP aN F x : Int32} (hn : n ≤ 8) (hF : ∀ v, bt F v = decide (v < n)) (hx : kl_pos n x ∨ kl_neg n x) (a : Nat → Bool) : kc_con (aP ||| kl_pb x) (aN ||| kl_nb x) (bt F) a ↔ (kc_con aP aN (bt F) a ∧ kl_true x a) := by
  have hok : kl_ok n x := Or.inr hx
  constructor
  · intro H
    refine ⟨fun v hv => ⟨fun h => (H v hv).1 (kr_or.mpr (Or.inl h)), fun h => (H v hv).2 (kr_or.mpr (Or.inl h))⟩, ?_⟩
    rcases hx with ⟨v, hv, rfl⟩ | ⟨v, hv, rfl⟩
    · rw [kl_t1 (by omega)]
      exact (H v (by rw [hF v]; simpa using hv)).1 (kr_or.mpr (Or.inr ((kl_pbb hn hok v).mpr ⟨hv, rfl⟩)))
    · rw [kl_t2 (by omega)]
      exact (H v (by rw [hF v]; simpa using hv)).2 (kr_or.mpr (Or.inr ((kl_nbb hn hok v).mpr ⟨hv, rfl⟩)))
  · rintro ⟨H, ht⟩ v hv
    refine ⟨fun h => ?_, fun h => ?_⟩
    · rcases kr_or.mp h with h | h
      · exact (H v hv).1 h
      · obtain ⟨h1, h2⟩ := (kl_pbb hn hok v).mp h
        rw [h2, kl_t1 (by omega)] at ht
        exact ht
    · rcases kr_or.mp h with h | h
      · exact (H v hv).2 h
      · obtain ⟨h1, h2⟩ := (kl_nbb hn hok v).mp h
        rw [h2, kl_t2 (by omega)] at ht
        exact ht
section
variable {f_varCount f_slotCount f_fullMask f_draftPos f_draftNeg f_state f_assumedCount f_assumedPos f_assumedNeg f_clauseCount f_nodeCount f_root f_depth f_result f_workPos f_workNeg f_workLive : Int32} {a_slotUsed a_slotPos a_slotNeg a_assumed a_weightPos a_weightNeg a_clausePos a_clauseNeg a_nodeChoice a_nodePos a_nodeNeg a_nodeFree a_nodeKids a_kids a_cacheKey a_cacheNode a_framePos a_frameNeg a_frameFree a_frameParts a_frameNext a_framePhase a_frameVar a_frameHigh a_partVars a_partClauses a_partNode a_value a_sizes a_poly a_product a_factorPos a_factorNeg : Nat → Int32}
variable {n m : Nat} {cu ch : Nat → Int32}
theorem kx_cm {post : Int32 → SX → Prop} {mt mf : Int32} (hn : n ≤ 8) (hF : ∀ v, bt f_fullMask v = decide (v < n)) (hc : kr_c n m f_fullMask f_nodeCount f_root a_nodeChoice a_nodePos a_nodeNeg a_nodeFree a_nodeKids a_kids cu ch)
    (K : ∀ val, post (nI (kx_N n m f_fullMask cu ch mt mf)) (f_varCount, f_slotCount, f_fullMask, f_draftPos, f_draftNeg, f_state, f_assumedCount, f_assumedPos, f_assumedNeg, f_clauseCount, f_nodeCount, f_root, f_depth, f_result, f_workPos, f_workNeg, f_workLive, a_slotUsed, a_slotPos, a_slotNeg, a_assumed, a_weightPos, a_weightNeg, a_clausePos, a_clauseNeg, a_nodeChoice, a_nodePos, a_nodeNeg, a_nodeFree, a_nodeKids, a_kids, a_cacheKey, a_cacheNode, a_framePos, a_frameNeg, a_frameFree, a_frameParts, a_frameNext, a_framePhase, a_frameVar, a_frameHigh, a_partVars, a_partClauses, a_partNode, val, a_sizes, a_poly, a_product, a_factorPos, a_factorNeg)) : wpX_countModels post (f_varCount, f_slotCount, f_fullMask, f_draftPos, f_draftNeg, f_state, f_assumedCount, f_assumedPos, f_assumedNeg, f_clauseCount, f_nodeCount, f_root, f_depth, f_result, f_workPos, f_workNeg, f_workLive, a_slotUsed, a_slotPos, a_slotNeg, a_assumed, a_weightPos, a_weightNeg, a_clausePos, a_clauseNeg, a_nodeChoice, a_nodePos, a_nodeNeg, a_nodeFree, a_nodeKids, a_kids, a_cacheKey, a_cacheNode, a_framePos, a_frameNeg, a_frameFree, a_frameParts, a_frameNext, a_framePhase, a_frameVar, a_frameHigh, a_partVars, a_partClauses, a_partNode, a_value, a_sizes, a_poly, a_product, a_factorPos, a_factorNeg) mt mf := by
  obtain ⟨nc, rt, vs, P, c1, c2, c3, c4, c5, c6, c7⟩ := hc
  refine kw_countModels c4 c1 c2 c5 c3 c6 (fun val => ?_)
  rw [kr_cnt hn hF c7]
  exact K val
end
section
variable {yf_n yf_m yf_state yf_assumed : Int32} {ya_draft ya_used ya_has ya_compiledUsed ya_compiledHas ya_assumptions ya_weights : Nat → Int32}
variable {n m ka : Nat}
/-- what Y's loops over the codes rest on -/
def ky_H (n m ka : Nat) (yn ym ya : Int32) (ass : Nat → Int32) : Prop := yn = nI n ∧ ym = nI m ∧ ya = nI ka ∧ 1 ≤ n ∧ n ≤ 8 ∧ m ≤ 24 ∧ ka ≤ n ∧ ∀ i, i < ka → kl_pos n (ass i) ∨ kl_neg n (ass i)
theorem ky_im {post : Int32 → Prop} {c : Nat} (H : ky_H n m ka yf_n yf_m yf_assumed ya_assumptions) (hc : c < 2 ^ 31) (K1 : ky_M n m ka ya_assumptions ya_compiledUsed ya_compiledHas (kt_c c) → post 1) (K0 : ¬ ky_M n m ka ya_assumptions ya_compiledUsed ya_compiledHas (kt_c c) → post 0) : wpY_isModel post (yf_n, yf_m, yf_state, yf_assumed, ya_draft, ya_used, ya_has, ya_compiledUsed, ya_compiledHas, ya_assumptions, ya_weights) (nI c) := by
  obtain ⟨h1, h2, h3, h4, h5, h6, h7, h8⟩ := H
  refine ky_isModel h1 h2 h3 h4 h5 h6 h7 h8 (fun h => K1 ?_) (fun h => K0 ?_)
  · rw [kr_bc hc] at h; exact h
  · rw [kr_bc hc] at h; exact h
theorem ky_lt {c : Nat} (H : ky_H n m ka yf_n yf_m yf_assumed ya_assumptions) (hc : c < 2 ^ n) : ¬ ((1 : Int32) <<< (yf_n &&& 31)) ≤ nI c := by
  obtain ⟨h1, h2, h3, h4, h5, h6, h7, h8⟩ := H
  have := kr_p8 h5
  rw [h1, kb_pow (by omega)]; exact nI_ge hc (by omega)
theorem ky_ge (H : ky_H n m ka yf_n yf_m yf_assumed ya_assumptions) : ((1 : Int32) <<< (yf_n &&& 31)) ≤ nI (2 ^ n) := by
  obtain ⟨h1, h2, h3, h4, h5, h6, h7, h8⟩ := H
  rw [h1, kb_pow (by omega)]; exact Int32.le_refl _
theorem ky_p8 (H : ky_H n m ka yf_n yf_m yf_assumed ya_assumptions) : 2 ^ n ≤ 256 := kr_p8 H.2.2.2.2.1
theorem ky_count14 {post : Int32 → Prop} (H : ky_H n m ka yf_n yf_m yf_assumed ya_assumptions) (K : post (nI (ks_sm (2 ^ n) (ky_Mb n m ka ya_assumptions ya_compiledUsed ya_compiledHas)))) : ∃ q, wY_count_14 post yf_n yf_m yf_state yf_assumed ya_draft ya_used ya_has ya_compiledUsed ya_compiledHas ya_assumptions ya_weights q 0 0 := by
  have hp := ky_p8 H
  refine loop_0 (fun q c t => wY_count_14 post yf_n yf_m yf_state yf_assumed ya_draft ya_used ya_has ya_compiledUsed ya_compiledHas ya_assumptions ya_weights q t (nI c)) (fun c t => t = nI (ks_sm c (ky_Mb n m ka ya_assumptions ya_compiledUsed ya_compiledHas))) (2 ^ n) 0 rfl ?_ ?_
  · intro q t ht
    subst ht
    exact br_t (ky_ge H) K
  · intro q c t hc ht hk
    subst ht
    refine br_f (ky_lt H hc) ?_
    refine ky_im H (by omega) (fun h => br_f (by decide) ?_) (fun h => br_t rfl ?_)
    · intro y ey w ew
      subst ey ew
      rw [nI_1 c]
      refine hk _ ?_
      show _ = nI (ks_sm c (ky_Mb n m ka ya_assumptions ya_compiledUsed ya_compiledHas) + kt_b (ky_M n m ka ya_assumptions ya_compiledUsed ya_compiledHas (kt_c c)))
      rw [kt_b1 h, ← nI_1]
    · intro y ey
      subst ey
      rw [nI_1 c]
      refine hk _ ?_
      show _ = nI (ks_sm c (ky_Mb n m ka ya_assumptions ya_compiledUsed ya_compiledHas) + kt_b (ky_M n m ka ya_assumptions ya_compiledUsed ya_compiledHas (kt_c c)))
      rw [kt_b0 h, Nat.add_zero]
theorem ky_cw24 {post : Int32 → Prop} {x : Int32} (H : ky_H n m ka yf_n yf_m yf_assumed ya_assumptions) (hx : kl_pos n x ∨ kl_neg n x) (K : post (nI (ks_sm (2 ^ n) (fun c => kt_b (ky_M n m ka ya_assumptions ya_compiledUsed ya_compiledHas (kt_c c) ∧ kl_true x (kt_c c)))))) : ∃ q, wY_countWith_24 post x yf_n yf_m yf_state yf_assumed ya_draft ya_used ya_has ya_compiledUsed ya_compiledHas ya_assumptions ya_weights q 0 0 := by
  have hp := ky_p8 H
  refine loop_0 (fun q c t => wY_countWith_24 post x yf_n yf_m yf_state yf_assumed ya_draft ya_used ya_has ya_compiledUsed ya_compiledHas ya_assumptions ya_weights q t (nI c)) (fun c t => t = nI (ks_sm c (fun c => kt_b (ky_M n m ka ya_assumptions ya_compiledUsed ya_compiledHas (kt_c c) ∧ kl_true x (kt_c c))))) (2 ^ n) 0 rfl ?_ ?_
  · intro q t ht
    subst ht
    exact br_t (ky_ge H) K
  · intro q c t hc ht hk
    subst ht
    have no : ¬ (ky_M n m ka ya_assumptions ya_compiledUsed ya_compiledHas (kt_c c) ∧ kl_true x (kt_c c)) → ∀ y, y = nI c + 1 → wY_countWith_24 post x yf_n yf_m yf_state yf_assumed ya_draft ya_used ya_has ya_compiledUsed ya_compiledHas ya_assumptions ya_weights q (nI (ks_sm c (fun c => kt_b (ky_M n m ka ya_assumptions ya_compiledUsed ya_compiledHas (kt_c c) ∧ kl_true x (kt_c c))))) y := by
      intro h y ey
      subst ey
      rw [nI_1 c]
      refine hk _ ?_
      show _ = nI (ks_sm c (fun c => kt_b (ky_M n m ka ya_assumptions ya_compiledUsed ya_compiledHas (kt_c c) ∧ kl_true x (kt_c c))) + kt_b (ky_M n m ka ya_assumptions ya_compiledUsed ya_compiledHas (kt_c c) ∧ kl_true x (kt_c c)))
      rw [kt_b0 h, Nat.add_zero]
    refine br_f (ky_lt H hc) ?_
    refine ky_im H (by omega) (fun h => br_f (by decide) ?_) (fun h => br_t rfl (no (fun z => h z.1)))
    refine ky_isTrue H.2.2.2.2.1 hx (fun h2 => br_f (by decide) ?_) (fun h2 => br_t rfl (no (fun z => h2 (by rw [kr_bc (by omega)]; exact z.2))))
    rw [kr_bc (by omega)] at h2
    intro y ey w ew
    subst ey ew
    rw [nI_1 c]
    refine hk _ ?_
    show _ = nI (ks_sm c (fun c => kt_b (ky_M n m ka ya_assumptions ya_compiledUsed ya_compiledHas (kt_c c) ∧ kl_true x (kt_c c))) + kt_b (ky_M n m ka ya_assumptions ya_compiledUsed ya_compiledHas (kt_c c) ∧ kl_true x (kt_c c)))
    rw [kt_b1 ⟨h, h2⟩, ← nI_1]
end
section
variable {f_fullMask f_draftPos f_draftNeg f_state f_assumedPos f_assumedNeg f_clauseCount f_nodeCount f_root f_depth f_result f_workPos f_workNeg f_workLive : Int32} {a_slotUsed a_slotPos a_slotNeg a_assumed a_weightPos a_weightNeg a_clausePos a_clauseNeg a_nodeChoice a_nodePos a_nodeNeg a_nodeFree a_nodeKids a_kids a_cacheKey a_cacheNode a_framePos a_frameNeg a_frameFree a_frameParts a_frameNext a_framePhase a_frameVar a_frameHigh a_partVars a_partClauses a_partNode a_value a_sizes a_poly a_product a_factorPos a_factorNeg ya_draft ya_has ya_compiledUsed ya_compiledHas ya_weights : Nat → Int32} {n m ka : Nat} {k : Nat}
theorem kr_H (hF : kr_F n m ka f_fullMask f_draftPos f_draftNeg f_state f_assumedPos f_assumedNeg f_nodeCount f_root a_slotUsed a_slotPos a_slotNeg a_assumed a_weightPos a_weightNeg a_nodeChoice a_nodePos a_nodeNeg a_nodeFree a_nodeKids a_kids a_sizes ya_draft ya_has ya_compiledUsed ya_compiledHas ya_weights) : ky_H n m ka (nI n) (nI m) (nI ka) a_assumed := by
  obtain ⟨⟨hn1, hn8⟩, ⟨hm1, hm24⟩, hfull, hdr, hsl, has, hw, hsz, hc⟩ := hF
  exact ⟨rfl, rfl, rfl, hn1, hn8, hm24, has.1, has.2.1⟩
theorem kr_NM (hF : kr_F n m ka f_fullMask f_draftPos f_draftNeg f_state f_assumedPos f_assumedNeg f_nodeCount f_root a_slotUsed a_slotPos a_slotNeg a_assumed a_weightPos a_weightNeg a_nodeChoice a_nodePos a_nodeNeg a_nodeFree a_nodeKids a_kids a_sizes ya_draft ya_has ya_compiledUsed ya_compiledHas ya_weights) : kx_N n m f_fullMask ya_compiledUsed ya_compiledHas f_assumedPos f_assumedNeg = ks_sm (2 ^ n) (ky_Mb n m ka a_assumed ya_compiledUsed ya_compiledHas) := by
  obtain ⟨⟨hn1, hn8⟩, ⟨hm1, hm24⟩, hfull, hdr, hsl, has, hw, hsz, hc⟩ := hF
  apply ks_congr
  intro c _
  exact kt_bc ⟨fun h => ⟨(kr_con hn8 hfull has _).mp h.2, h.1⟩, fun h => ⟨h.2, (kr_con hn8 hfull has _).mpr h.1⟩⟩
theorem kv_count (hF : kr_F n m ka f_fullMask f_draftPos f_draftNeg f_state f_assumedPos f_assumedNeg f_nodeCount f_root a_slotUsed a_slotPos a_slotNeg a_assumed a_weightPos a_weightNeg a_nodeChoice a_nodePos a_nodeNeg a_nodeFree a_nodeKids a_kids a_sizes ya_draft ya_has ya_compiledUsed ya_compiledHas ya_weights) : wpX_count (fun r u' => wpY_count (fun r' => r' = r ∧ i_Rel (k + 4) u' ((nI n), (nI m), f_state, (nI ka), ya_draft, a_slotUsed, ya_has, ya_compiledUsed, ya_compiledHas, a_assumed, ya_weights)) ((nI n), (nI m), f_state, (nI ka), ya_draft, a_slotUsed, ya_has, ya_compiledUsed, ya_compiledHas, a_assumed, ya_weights)) ((nI n), (nI m), f_fullMask, f_draftPos, f_draftNeg, f_state, (nI ka), f_assumedPos, f_assumedNeg, f_clauseCount, f_nodeCount, f_root, f_depth, f_result, f_workPos, f_workNeg, f_workLive, a_slotUsed, a_slotPos, a_slotNeg, a_assumed, a_weightPos, a_weightNeg, a_clausePos, a_clauseNeg, a_nodeChoice, a_nodePos, a_nodeNeg, a_nodeFree, a_nodeKids, a_kids, a_cacheKey, a_cacheNode, a_framePos, a_frameNeg, a_frameFree, a_frameParts, a_frameNext, a_framePhase, a_frameVar, a_frameHigh, a_partVars, a_partClauses, a_partNode, a_value, a_sizes, a_poly, a_product, a_factorPos, a_factorNeg) := by
  have hF' := hF
  obtain ⟨⟨hn1, hn8⟩, ⟨hm1, hm24⟩, hfull, hdr, hsl, has, hw, hsz, hc⟩ := hF
  refine br_c (fun z => br_t z ⟨rfl, kr_in hF'⟩) (fun z => ?_)
  refine kx_cm hn8 hfull (hc z) (fun val => ?_)
  rw [kr_NM hF']
  exact br_f z (ky_count14 (kr_H hF') ⟨rfl, kr_in hF'⟩)
theorem kv_countWith (hF : kr_F n m ka f_fullMask f_draftPos f_draftNeg f_state f_assumedPos f_assumedNeg f_nodeCount f_root a_slotUsed a_slotPos a_slotNeg a_assumed a_weightPos a_weightNeg a_nodeChoice a_nodePos a_nodeNeg a_nodeFree a_nodeKids a_kids a_sizes ya_draft ya_has ya_compiledUsed ya_compiledHas ya_weights) (x : Int32) : wpX_countWith (fun r u' => wpY_countWith (fun r' => r' = r ∧ i_Rel (k + 4) u' ((nI n), (nI m), f_state, (nI ka), ya_draft, a_slotUsed, ya_has, ya_compiledUsed, ya_compiledHas, a_assumed, ya_weights)) ((nI n), (nI m), f_state, (nI ka), ya_draft, a_slotUsed, ya_has, ya_compiledUsed, ya_compiledHas, a_assumed, ya_weights) x) ((nI n), (nI m), f_fullMask, f_draftPos, f_draftNeg, f_state, (nI ka), f_assumedPos, f_assumedNeg, f_clauseCount, f_nodeCount, f_root, f_depth, f_result, f_workPos, f_workNeg, f_workLive, a_slotUsed, a_slotPos, a_slotNeg, a_assumed, a_weightPos, a_weightNeg, a_clausePos, a_clauseNeg, a_nodeChoice, a_nodePos, a_nodeNeg, a_nodeFree, a_nodeKids, a_kids, a_cacheKey, a_cacheNode, a_framePos, a_frameNeg, a_frameFree, a_frameParts, a_frameNext, a_framePhase, a_frameVar, a_frameHigh, a_partVars, a_partClauses, a_partNode, a_value, a_sizes, a_poly, a_product, a_factorPos, a_factorNeg) x := by
  have hF' := hF
  obtain ⟨⟨hn1, hn8⟩, ⟨hm1, hm24⟩, hfull, hdr, hsl, has, hw, hsz, hc⟩ := hF
  refine br_c (fun z => br_t z ⟨rfl, kr_in hF'⟩) (fun z => ?_)
  by_cases hx : kl_pos n x ∨ kl_neg n x
  · refine kw_isLit1 rfl hn8 hx (br_f (by decide) ?_)
    refine kw_posBit ?_
    intro p ep
    refine kw_negBit ?_
    intro q eq
    subst ep eq
    refine kx_cm hn8 hfull (hc z) (fun val => ?_)
    refine br_f z ?_
    refine ky_valid1 rfl hn8 hx (br_f (by decide) ?_)
    refine ky_cw24 (kr_H hF') hx ⟨?_, kr_in hF'⟩
    unfold kx_N
    congr 1
    apply ks_congr
    intro c _
    apply kt_bc
    rw [kr_conlit hn8 hfull hx, kr_con hn8 hfull has]
    exact ⟨fun h => ⟨h.1.2, h.1.1, h.2⟩, fun h => ⟨⟨h.2.1, h.1⟩, h.2.2⟩⟩
  · have hb : x = 0 ∨ kl_bad n x := by
      rcases kl_cases hn8 x with h | h | h | h
      · exact absurd (Or.inl h) hx
      · exact absurd (Or.inr h) hx
      · exact Or.inl h
      · exact Or.inr h.1
    refine kw_isLit0 rfl hb (br_t rfl ?_)
    refine br_f z ?_
    exact ky_valid0 rfl hn8 hn1 hb (br_t rfl ⟨rfl, kr_in hF'⟩)
end
end
section
/-! questions: weighted, countOfSize -/
theorem ks_prcut {f : Nat → Nat} {n : Nat} : ∀ j, (∀ v, n ≤ v → v < n + j → f v = 1) → ks_pr (n + j) f = ks_pr n f
  | 0, _ => rfl
  | j + 1, h => by
    show ks_pr (n + j) f * f (n + j) = ks_pr n f
    rw [h (n + j) (by omega) (by omega), Nat.mul_one, ks_prcut j (fun v h1 h2 => h v h1 (by omega))]
theorem ks_smcut {f : Nat → Nat} {n : Nat} : ∀ j, (∀ v, n ≤ v → v < n + j → f v = 0) → ks_sm (n + j) f = ks_sm n f
  | 0, _ => rfl
  | j + 1, h => by
    show ks_sm (n + j) f + f (n + j) = ks_sm n f
    rw [h (n + j) (by omega) (by omega), Nat.add_zero, ks_smcut j (fun v h1 h2 => h v h1 (by omega))]
theorem kr_wt {n : Nat} {F aP aN : Int32} {wP wN : Nat → Nat} {a : Nat → Bool} (hn : n ≤ 8) (hF : ∀ v, bt F v = decide (v < n)) :
    kc_wt (fun v => bif bt aN v then 0 else wP v) (fun v => bif bt aP v then 0 else wN v) (bt F) a = kt_b (kc_con aP aN (bt F) a) * ks_pr n (fun v => bif a v then wP v else wN v) := by
  unfold kc_wt
  rcases Classical.em (kc_con aP aN (bt F) a) with h | h
  · rw [kt_b1 h, Nat.one_mul]
    have e8 : 8 = n + (8 - n) := by omega
    rw [e8, ks_prcut (8 - n) (fun v h1 _ => by
      have : bt F v = false := by rw [hF v]; simp; omega
      rw [this]; rfl)]
    apply ks_prc
    intro v hv
    have hb : bt F v = true := by rw [hF v]; simpa using hv
    have hv' := h v hb
    rw [hb]
    cases ha : a v with
    | true =>
      have : bt aN v = false := ts_nt (fun e => by rw [hv'.2 e] at ha; cases ha)
      simp [this]
    | false =>
      have : bt aP v = false := ts_nt (fun e => by rw [hv'.1 e] at ha; cases ha)
      simp [this]
  · rw [kt_b0 h, Nat.zero_mul]
    have : ∃ v, bt F v = true ∧ ((bt aP v = true ∧ a v = false) ∨ (bt aN v = true ∧ a v = true)) := by
      apply Classical.byContradiction
      intro hno
      apply h
      intro v hv
      refine ⟨fun e => ts_nf (fun z => hno ⟨v, hv, Or.inl ⟨e, z⟩⟩), fun e => ts_nt (fun z => hno ⟨v, hv, Or.inr ⟨e, z⟩⟩)⟩
    obtain ⟨v, hv, h1⟩ := this
    have hvn : v < n := by rw [hF v] at hv; simpa using hv
    refine ks_pr0 (w := v) 8 (by omega) ?_
    rcases h1 with ⟨h1, h2⟩ | ⟨h1, h2⟩
    · simp [hv, h2, h1]
    · simp [hv, h2, h1]
theorem kr_S {mt mf : Int32} {nc rt n j : Nat} {vs : Nat → Nat → Bool} {P : Nat → (Nat → Bool) → Prop} {F : Int32} {Q : (Nat → Bool) → Prop} (hn : n ≤ 8) (hF : ∀ v, bt F v = decide (v < n)) (h : kp_R nc vs P rt F Q) : kc_Sv mt mf vs P rt j = ks_sm (2 ^ n) (fun c => kt_b (Q (kt_c c) ∧ kc_con mt mf (bt F) (kt_c c) ∧ ks_sm n (fun v => (kt_c c v).toNat) = j)) := by
  have epop : ∀ a : Nat → Bool, kc_pop (bt F) a = ks_sm n (fun v => (a v).toNat) := fun a => by
    unfold kc_pop
    have e8 : 8 = n + (8 - n) := by omega
    rw [e8, ks_smcut (8 - n) (fun v h1 _ => by
      have : bt F v = false := by rw [hF v]; simp; omega
      rw [this]; rfl)]
    apply ks_congr
    intro v hv
    have : bt F v = true := by rw [hF v]; simpa using hv
    rw [this]; rfl
  rcases h with ⟨rfl, h⟩ | ⟨h1, h2, h3, h4⟩
  · rw [kc_Sv0]
    exact ((ks_zero _).mpr (fun c _ => kt_b0 (fun z => h _ z.1))).symm
  · rw [kc_SvS h1, kc_Sc h3 h4]
    unfold kc_S
    rw [kr_T hn hF]
    apply ks_congr
    intro c _
    rw [epop]
section
variable {yf_n yf_m yf_state yf_assumed : Int32} {ya_draft ya_used ya_has ya_compiledUsed ya_compiledHas ya_assumptions ya_weights : Nat → Int32}
variable {n m ka : Nat} {wP wN : Nat → Nat}
theorem ky_w37 {post : Int32 → Prop} {J : Int32 → Int32 → Prop} {s c : Nat} (H : ky_H n m ka yf_n yf_m yf_assumed ya_assumptions) (hc : c < 2 ^ 31) (hs : s < 32749) (hP : ∀ v, v < 8 → wP v < 32749 ∧ ya_weights (9 + v) = nI (wP v)) (hN : ∀ v, v < 8 → wN v < 32749 ∧ ya_weights (7 - v) = nI (wN v))
    (K : J (nI ((s + ks_pr n (fun v => bif kt_c c v then wP v else wN v)) % 32749)) (nI (c + 1))) : ∃ q, wY_weighted_37 post J (nI s) (nI c) yf_n yf_m yf_state yf_assumed ya_draft ya_used ya_has ya_compiledUsed ya_compiledHas ya_assumptions ya_weights q 1 1 := by
  obtain ⟨h1, h2, h3, h4, h5, h6, h7, h8⟩ := H
  subst h1
  refine loop_0 (fun q v t => wY_weighted_37 post J (nI s) (nI c) (nI n) yf_m yf_state yf_assumed ya_draft ya_used ya_has ya_compiledUsed ya_compiledHas ya_assumptions ya_weights q t (nI (v + 1))) (fun v t => t = nI (ks_pr v (fun v => bif kt_c c v then wP v else wN v) % 32749)) n 1 rfl ?_ ?_
  · intro q t ht
    subst ht
    refine br_t (nI_lt (by omega) (by omega)) ⟨by decide, ?_⟩
    have : ks_pr n (fun v => bif kt_c c v then wP v else wN v) % 32749 < 32749 := Nat.mod_lt _ (by decide)
    rw [nI_add, kw_rem (by omega)]
    intro y ey z ez
    subst ey ez
    rw [nI_1 c, Nat.add_mod_mod]
    exact K
  · intro q v t hv ht hk
    subst ht
    have hm : ks_pr v (fun v => bif kt_c c v then wP v else wN v) % 32749 < 32749 := Nat.mod_lt _ (by decide)
    refine br_f (nI_nlt (by omega) (by omega)) ?_
    have fin : ∀ (z0 : Int32) (i b : Nat), z0 + 8 = nI i → i < 17 → b < 32749 → ya_weights i = nI b → b = (bif kt_c c v then wP v else wN v) → wY_weighted_64 post J (wY_weighted_37 post J (nI s) (nI c) (nI n) yf_m yf_state yf_assumed ya_draft ya_used ya_has ya_compiledUsed ya_compiledHas ya_assumptions ya_weights q) (nI s) (nI c) (nI (ks_pr v (fun v => bif kt_c c v then wP v else wN v) % 32749)) (nI (v + 1)) z0 (nI n) yf_m yf_state yf_assumed ya_draft ya_used ya_has ya_compiledUsed ya_compiledHas ya_assumptions ya_weights := by
      intro z0 i b ez hi hb hw he
      unfold wY_weighted_64
      rw [ez, nI_clamp (n := i) (by omega), hw, pk_mul, kw_rem (kw_lt2 hm hb), kw_mm]
      refine ⟨vp_in_nI hi (by decide), by decide, ?_⟩
      intro y ey w ew
      subst ey ew
      rw [nI_1 (v + 1)]
      refine hk _ ?_
      show _ = nI (ks_pr v (fun v => bif kt_c c v then wP v else wN v) * (bif kt_c c v then wP v else wN v) % 32749)
      rw [he]
    have h8' : v < 8 := by omega
    refine ky_isTrue (n := n) h5 (Or.inl ⟨v, hv, rfl⟩) (fun h => br_f (by decide) ?_) (fun h => br_t rfl ?_)
    · rw [kr_bc hc, kl_t1 h8'] at h
      refine fin _ (9 + v) (wP v) ?_ (by omega) (hP v h8').1 (hP v h8').2 (by rw [h]; rfl)
      rw [show (8 : Int32) = nI 8 from rfl, nI_add]; congr 1; omega
    · rw [kr_bc hc, kl_t1 h8'] at h
      refine fin _ (7 - v) (wN v) ?_ (by omega) (hN v h8').1 (hN v h8').2 (by rw [ts_nt h]; rfl)
      have := kl_ix (a := 0) (b := v + 1) (by omega)
      rw [nI_0, Int32.zero_add] at this
      rw [this]; congr 1; omega
theorem ky_w14 {post : Int32 → Prop} (H : ky_H n m ka yf_n yf_m yf_assumed ya_assumptions) (hP : ∀ v, v < 8 → wP v < 32749 ∧ ya_weights (9 + v) = nI (wP v)) (hN : ∀ v, v < 8 → wN v < 32749 ∧ ya_weights (7 - v) = nI (wN v))
    (K : post (nI (ks_sm (2 ^ n) (fun c => ky_Mb n m ka ya_assumptions ya_compiledUsed ya_compiledHas c * ks_pr n (fun v => bif kt_c c v then wP v else wN v)) % 32749))) : ∃ q, wY_weighted_14 post yf_n yf_m yf_state yf_assumed ya_draft ya_used ya_has ya_compiledUsed ya_compiledHas ya_assumptions ya_weights q 0 0 := by
  have hp := ky_p8 H
  refine loop_0 (fun q c t => wY_weighted_14 post yf_n yf_m yf_state yf_assumed ya_draft ya_used ya_has ya_compiledUsed ya_compiledHas ya_assumptions ya_weights q t (nI c)) (fun c t => t = nI (ks_sm c (fun c => ky_Mb n m ka ya_assumptions ya_compiledUsed ya_compiledHas c * ks_pr n (fun v => bif kt_c c v then wP v else wN v)) % 32749)) (2 ^ n) 0 rfl ?_ ?_
  · intro q t ht
    subst ht
    exact br_t (ky_ge H) K
  · intro q c t hc ht hk
    subst ht
    have hm : ks_sm c (fun c => ky_Mb n m ka ya_assumptions ya_compiledUsed ya_compiledHas c * ks_pr n (fun v => bif kt_c c v then wP v else wN v)) % 32749 < 32749 := Nat.mod_lt _ (by decide)
    have hs : ks_sm (c + 1) (fun c => ky_Mb n m ka ya_assumptions ya_compiledUsed ya_compiledHas c * ks_pr n (fun v => bif kt_c c v then wP v else wN v)) = ks_sm c (fun c => ky_Mb n m ka ya_assumptions ya_compiledUsed ya_compiledHas c * ks_pr n (fun v => bif kt_c c v then wP v else wN v)) + ky_Mb n m ka ya_assumptions ya_compiledUsed ya_compiledHas c * ks_pr n (fun v => bif kt_c c v then wP v else wN v) := rfl
    refine br_f (ky_lt H hc) ?_
    refine ky_im H (by omega) (fun h => br_f (by decide) ?_) (fun h => br_t rfl ?_)
    · refine ky_w37 H (by omega) hm hP hN (hk _ ?_)
      rw [hs, show ky_Mb n m ka ya_assumptions ya_compiledUsed ya_compiledHas c = 1 from kt_b1 h, Nat.one_mul, Nat.mod_add_mod]
    · intro y ey
      subst ey
      rw [nI_1 c]
      refine hk _ ?_
      rw [hs, show ky_Mb n m ka ya_assumptions ya_compiledUsed ya_compiledHas c = 0 from kt_b0 h, Nat.zero_mul, Nat.add_zero]
theorem ky_cs44 {post : Int32 → Prop} {J : Int32 → Int32 → Prop} {x2 : Int32} {c j : Nat} (H : ky_H n m ka yf_n yf_m yf_assumed ya_assumptions) (hc : c < 2 ^ 31) (hj : j < 2 ^ 31)
    (K1 : (ky_M n m ka ya_assumptions ya_compiledUsed ya_compiledHas (kt_c c) ∧ ks_sm n (fun v => (kt_c c v).toNat) = j) → J (x2 + 1) (nI (c + 1))) (K0 : ¬ (ky_M n m ka ya_assumptions ya_compiledUsed ya_compiledHas (kt_c c) ∧ ks_sm n (fun v => (kt_c c v).toNat) = j) → J x2 (nI (c + 1))) :
    ∃ q, wY_countOfSize_44 post J (nI j) x2 (nI c) yf_n yf_m yf_state yf_assumed ya_draft ya_used ya_has ya_compiledUsed ya_compiledHas ya_assumptions ya_weights q 0 1 := by
  have H' := H
  obtain ⟨h1, h2, h3, h4, h5, h6, h7, h8⟩ := H
  subst h1
  have hb : ks_sm n (fun v => (kt_c c v).toNat) ≤ n := ks_b (fun v => kb_tn1 _) n
  refine loop_0 (fun q v t => wY_countOfSize_44 post J (nI j) x2 (nI c) (nI n) yf_m yf_state yf_assumed ya_draft ya_used ya_has ya_compiledUsed ya_compiledHas ya_assumptions ya_weights q t (nI (v + 1))) (fun v t => t = nI (ks_sm v (fun v => (kt_c c v).toNat))) n 0 rfl ?_ ?_
  · intro q t ht
    subst ht
    refine br_t (nI_lt (by omega) (by omega)) (pk_eq _ j (fun e => ?_) (fun e => ?_))
    · refine ky_im H' hc (fun h => br_f (by decide) ?_) (fun h => br_t rfl ?_)
      · intro y ey z ez
        subst ey ez
        rw [nI_1 c]
        exact K1 ⟨h, e⟩
      · intro y ey
        subst ey
        rw [nI_1 c]
        exact K0 (fun z => h z.1)
    · intro y ey
      subst ey
      rw [nI_1 c]
      exact K0 (fun z => e z.2)
  · intro q v t hv ht hk
    subst ht
    have h8' : v < 8 := by omega
    refine br_f (nI_nlt (by omega) (by omega)) ?_
    refine ky_isTrue (n := n) h5 (Or.inl ⟨v, hv, rfl⟩) (fun h => br_f (by decide) ?_) (fun h => br_t rfl ?_)
    · rw [kr_bc hc, kl_t1 h8'] at h
      intro y ey z ez
      subst ey ez
      rw [nI_1 (v + 1)]
      refine hk _ ?_
      show _ = nI (ks_sm v (fun v => (kt_c c v).toNat) + (kt_c c v).toNat)
      rw [h, ← nI_add]; rfl
    · rw [kr_bc hc, kl_t1 h8'] at h
      intro y ey
      subst ey
      rw [nI_1 (v + 1)]
      refine hk _ ?_
      show _ = nI (ks_sm v (fun v => (kt_c c v).toNat) + (kt_c c v).toNat)
      rw [ts_nt h]; rfl
theorem ky_cs28 {post : Int32 → Prop} {j : Nat} (H : ky_H n m ka yf_n yf_m yf_assumed ya_assumptions) (hj : j < 2 ^ 31)
    (K : post (nI (ks_sm (2 ^ n) (fun c => kt_b (ky_M n m ka ya_assumptions ya_compiledUsed ya_compiledHas (kt_c c) ∧ ks_sm n (fun v => (kt_c c v).toNat) = j))))) : ∃ q, wY_countOfSize_28 post (nI j) yf_n yf_m yf_state yf_assumed ya_draft ya_used ya_has ya_compiledUsed ya_compiledHas ya_assumptions ya_weights q 0 0 := by
  have hp := ky_p8 H
  refine loop_0 (fun q c t => wY_countOfSize_28 post (nI j) yf_n yf_m yf_state yf_assumed ya_draft ya_used ya_has ya_compiledUsed ya_compiledHas ya_assumptions ya_weights q t (nI c)) (fun c t => t = nI (ks_sm c (fun c => kt_b (ky_M n m ka ya_assumptions ya_compiledUsed ya_compiledHas (kt_c c) ∧ ks_sm n (fun v => (kt_c c v).toNat) = j)))) (2 ^ n) 0 rfl ?_ ?_
  · intro q t ht
    subst ht
    exact br_t (ky_ge H) K
  · intro q c t hc ht hk
    subst ht
    refine br_f (ky_lt H hc) ?_
    refine ky_cs44 H (by omega) hj (fun h => hk _ ?_) (fun h => hk _ ?_)
    · show _ = nI (ks_sm c (fun c => kt_b (ky_M n m ka ya_assumptions ya_compiledUsed ya_compiledHas (kt_c c) ∧ ks_sm n (fun v => (kt_c c v).toNat) = j)) + kt_b (ky_M n m ka ya_assumptions ya_compiledUsed ya_compiledHas (kt_c c) ∧ ks_sm n (fun v => (kt_c c v).toNat) = j))
      rw [kt_b1 h, ← nI_1]
    · show _ = nI (ks_sm c (fun c => kt_b (ky_M n m ka ya_assumptions ya_compiledUsed ya_compiledHas (kt_c c) ∧ ks_sm n (fun v => (kt_c c v).toNat) = j)) + kt_b (ky_M n m ka ya_assumptions ya_compiledUsed ya_compiledHas (kt_c c) ∧ ks_sm n (fun v => (kt_c c v).toNat) = j))
      rw [kt_b0 h, Nat.add_zero]
end
section
variable {f_fullMask f_draftPos f_draftNeg f_state f_assumedPos f_assumedNeg f_clauseCount f_nodeCount f_root f_depth f_result f_workPos f_workNeg f_workLive : Int32} {a_slotUsed a_slotPos a_slotNeg a_assumed a_weightPos a_weightNeg a_clausePos a_clauseNeg a_nodeChoice a_nodePos a_nodeNeg a_nodeFree a_nodeKids a_kids a_cacheKey a_cacheNode a_framePos a_frameNeg a_frameFree a_frameParts a_frameNext a_framePhase a_frameVar a_frameHigh a_partVars a_partClauses a_partNode a_value a_sizes a_poly a_product a_factorPos a_factorNeg ya_draft ya_has ya_compiledUsed ya_compiledHas ya_weights : Nat → Int32} {n m ka : Nat} {k : Nat}
theorem kv_weighted (hF : kr_F n m ka f_fullMask f_draftPos f_draftNeg f_state f_assumedPos f_assumedNeg f_nodeCount f_root a_slotUsed a_slotPos a_slotNeg a_assumed a_weightPos a_weightNeg a_nodeChoice a_nodePos a_nodeNeg a_nodeFree a_nodeKids a_kids a_sizes ya_draft ya_has ya_compiledUsed ya_compiledHas ya_weights) : wpX_weighted (fun r u' => wpY_weighted (fun r' => r' = r ∧ i_Rel (k + 4) u' ((nI n), (nI m), f_state, (nI ka), ya_draft, a_slotUsed, ya_has, ya_compiledUsed, ya_compiledHas, a_assumed, ya_weights)) ((nI n), (nI m), f_state, (nI ka), ya_draft, a_slotUsed, ya_has, ya_compiledUsed, ya_compiledHas, a_assumed, ya_weights)) ((nI n), (nI m), f_fullMask, f_draftPos, f_draftNeg, f_state, (nI ka), f_assumedPos, f_assumedNeg, f_clauseCount, f_nodeCount, f_root, f_depth, f_result, f_workPos, f_workNeg, f_workLive, a_slotUsed, a_slotPos, a_slotNeg, a_assumed, a_weightPos, a_weightNeg, a_clausePos, a_clauseNeg, a_nodeChoice, a_nodePos, a_nodeNeg, a_nodeFree, a_nodeKids, a_kids, a_cacheKey, a_cacheNode, a_framePos, a_frameNeg, a_frameFree, a_frameParts, a_frameNext, a_framePhase, a_frameVar, a_frameHigh, a_partVars, a_partClauses, a_partNode, a_value, a_sizes, a_poly, a_product, a_factorPos, a_factorNeg) := by
  have hF' := hF
  obtain ⟨⟨hn1, hn8⟩, ⟨hm1, hm24⟩, hfull, hdr, hsl, has, hw, hsz, hc⟩ := hF
  by_cases z : f_state = 0
  · exact br_t z (br_t z ⟨rfl, kr_in hF'⟩)
  · obtain ⟨nc, rt, vs, P, c1, c2, c3, c4, c5, c6, c7⟩ := hc z
    have hP : ∀ v, v < 8 → kc_n (a_weightPos v) < 32749 ∧ a_weightPos v = nI (kc_n (a_weightPos v)) ∧ ya_weights (9 + v) = nI (kc_n (a_weightPos v)) := fun v hv => by
      obtain ⟨⟨a, ha, e1, e2⟩, _⟩ := hw v hv
      rw [e1, kc_nI (by omega)]
      exact ⟨ha, rfl, e2⟩
    have hN : ∀ v, v < 8 → kc_n (a_weightNeg v) < 32749 ∧ a_weightNeg v = nI (kc_n (a_weightNeg v)) ∧ ya_weights (7 - v) = nI (kc_n (a_weightNeg v)) := fun v hv => by
      obtain ⟨_, ⟨a, ha, e1, e2⟩⟩ := hw v hv
      rw [e1, kc_nI (by omega)]
      exact ⟨ha, rfl, e2⟩
    refine kw_weighted (wP := fun v => kc_n (a_weightPos v)) (wN := fun v => kc_n (a_weightNeg v)) z c4 c1 c2 c5 c3 c6 (fun v hv => ⟨(hP v hv).1, (hP v hv).2.1⟩) (fun v hv => ⟨(hN v hv).1, (hN v hv).2.1⟩) (fun val fp fn => ?_)
    refine br_f z ?_
    refine ky_w14 (wP := fun v => kc_n (a_weightPos v)) (wN := fun v => kc_n (a_weightNeg v)) (kr_H hF') (fun v hv => ⟨(hP v hv).1, (hP v hv).2.2⟩) (fun v hv => ⟨(hN v hv).1, (hN v hv).2.2⟩) ⟨?_, kr_in hF'⟩
    rw [kr_W hn8 hfull c7]
    congr 2
    apply ks_congr
    intro c _
    rw [kr_wt hn8 hfull, ← Nat.mul_assoc, ← kt_band]
    congr 1
    exact kt_bc ⟨fun h => ⟨h.2, (kr_con hn8 hfull has _).mpr h.1⟩, fun h => ⟨(kr_con hn8 hfull has _).mp h.2, h.1⟩⟩
theorem kv_countOfSize (hF : kr_F n m ka f_fullMask f_draftPos f_draftNeg f_state f_assumedPos f_assumedNeg f_nodeCount f_root a_slotUsed a_slotPos a_slotNeg a_assumed a_weightPos a_weightNeg a_nodeChoice a_nodePos a_nodeNeg a_nodeFree a_nodeKids a_kids a_sizes ya_draft ya_has ya_compiledUsed ya_compiledHas ya_weights) (x : Int32) : wpX_countOfSize (fun r u' => wpY_countOfSize (fun r' => r' = r ∧ i_Rel (k + 4) u' ((nI n), (nI m), f_state, (nI ka), ya_draft, a_slotUsed, ya_has, ya_compiledUsed, ya_compiledHas, a_assumed, ya_weights)) ((nI n), (nI m), f_state, (nI ka), ya_draft, a_slotUsed, ya_has, ya_compiledUsed, ya_compiledHas, a_assumed, ya_weights) x) ((nI n), (nI m), f_fullMask, f_draftPos, f_draftNeg, f_state, (nI ka), f_assumedPos, f_assumedNeg, f_clauseCount, f_nodeCount, f_root, f_depth, f_result, f_workPos, f_workNeg, f_workLive, a_slotUsed, a_slotPos, a_slotNeg, a_assumed, a_weightPos, a_weightNeg, a_clausePos, a_clauseNeg, a_nodeChoice, a_nodePos, a_nodeNeg, a_nodeFree, a_nodeKids, a_kids, a_cacheKey, a_cacheNode, a_framePos, a_frameNeg, a_frameFree, a_frameParts, a_frameNext, a_framePhase, a_frameVar, a_frameHigh, a_partVars, a_partClauses, a_partNode, a_value, a_sizes, a_poly, a_product, a_factorPos, a_factorNeg) x := by
  have hF' := hF
  obtain ⟨⟨hn1, hn8⟩, ⟨hm1, hm24⟩, hfull, hdr, hsl, has, hw, hsz, hc⟩ := hF
  by_cases z : f_state = 0
  · exact br_t z (br_t z ⟨rfl, kr_in hF'⟩)
  · by_cases h0 : x < 0
    · exact br_f z (br_t h0 (br_f z (br_t h0 ⟨rfl, kr_in hF'⟩)))
    · by_cases h1 : x ≤ nI n
      · obtain ⟨j, hj, rfl⟩ := nI_of2 (x := x) (M := nI n) (n := n) (nI_toInt (by omega)) h0 h1
        obtain ⟨nc, rt, vs, P, c1, c2, c3, c4, c5, c6, c7⟩ := hc z
        refine kw_countOfSize (k := j) z (n := n) rfl hn8 hj c4 c1 c2 c5 c3 c6 hsz (fun po pr sz hsz' => ?_)
        refine br_f z (br_f h0 (br_t h1 ?_))
        refine ky_cs28 (kr_H hF') (by omega) ⟨?_, kr_in ⟨⟨hn1, hn8⟩, ⟨hm1, hm24⟩, hfull, hdr, hsl, has, hw, hsz', hc⟩⟩
        rw [kr_S hn8 hfull c7]
        congr 1
        apply ks_congr
        intro c _
        exact kt_bc ⟨fun h => ⟨h.1.2, (kr_con hn8 hfull has _).mpr h.1.1, h.2⟩, fun h => ⟨⟨(kr_con hn8 hfull has _).mp h.2.1, h.1⟩, h.2.2⟩⟩
      · exact br_f z (br_f h0 (br_f h1 (br_f z (br_f h0 (br_f h1 ⟨rfl, kr_in hF'⟩)))))
end
end
section
/-! questions: modelAt, rankOf -/
theorem ks_range {A : Nat → Prop} {N D L : Nat} (h : D + L ≤ N) : ks_sm N (fun c => kt_b (A c ∧ (D ≤ c ∧ c < D + L))) = ks_sm L (fun t => kt_b (A (D + t))) := by
  obtain ⟨e, rfl⟩ : ∃ e, N = D + (L + e) := ⟨N - D - L, by omega⟩
  rw [ks_split, ks_split, (ks_zero (f := fun c => kt_b (A c ∧ (D ≤ c ∧ c < D + L))) D).mpr (fun c hc => kt_b0 (fun z => by omega)), (ks_zero (f := fun v => (fun v => kt_b (A (D + v) ∧ (D ≤ D + v ∧ D + v < D + L))) (L + v)) e).mpr (fun c hc => kt_b0 (fun z => by omega)), Nat.zero_add, Nat.add_zero]
  apply ks_congr
  intro t ht
  exact kt_bc ⟨fun z => z.1, fun z => ⟨z, by omega, by omega⟩⟩
/-- the codes that agree with D from bit k on -/
theorem kr_agree {n k e c : Nat} (hc : c < 2 ^ n) (hD : e * 2 ^ k < 2 ^ n) : (∀ v, k ≤ v → v < n → kt_c c v = kt_c (e * 2 ^ k) v) ↔ (e * 2 ^ k ≤ c ∧ c < e * 2 ^ k + 2 ^ k) := by
  have hpos : 0 < 2 ^ k := Nat.two_pow_pos k
  have hdiv : e * 2 ^ k / 2 ^ k = e := Nat.mul_div_cancel _ hpos
  have key : c / 2 ^ k = e ↔ (e * 2 ^ k ≤ c ∧ c < e * 2 ^ k + 2 ^ k) := by
    rw [Nat.div_eq_iff hpos]
    omega
  rw [← key]
  constructor
  · intro H
    rw [← hdiv]
    apply Nat.eq_of_testBit_eq
    intro i
    rw [Nat.testBit_div_two_pow, Nat.testBit_div_two_pow]
    by_cases hi : i + k < n
    · exact H (i + k) (by omega) hi
    · have hle : 2 ^ n ≤ 2 ^ (i + k) := Nat.pow_le_pow_right (by decide) (by omega)
      rw [Nat.testBit_lt_two_pow (Nat.lt_of_lt_of_le hc hle), Nat.testBit_lt_two_pow (Nat.lt_of_lt_of_le hD hle)]
  · intro H v h1 h2
    unfold kt_c
    obtain ⟨i, rfl⟩ : ∃ i, v = i + k := ⟨v - k, by omega⟩
    rw [← Nat.testBit_div_two_pow, ← Nat.testBit_div_two_pow, H, hdiv]
/-- masks that hold the assumptions and the bits of D from k on -/
def kr_mk (n k D : Nat) (aP aN mt mf : Int32) : Prop := ∀ v, v < n → (bt mt v = true ↔ (bt aP v = true ∨ (k ≤ v ∧ kt_c D v = true))) ∧ (bt mf v = true ↔ (bt aN v = true ∨ (k ≤ v ∧ kt_c D v = false)))
theorem kr_mkcon {n k D : Nat} {aP aN mt mf F : Int32} (hF : ∀ v, bt F v = decide (v < n)) (h : kr_mk n k D aP aN mt mf) (a : Nat → Bool) : kc_con mt mf (bt F) a ↔ (kc_con aP aN (bt F) a ∧ ∀ v, k ≤ v → v < n → a v = kt_c D v) := by
  have lt : ∀ v, bt F v = true → v < n := fun v hv => by rw [hF v] at hv; simpa using hv
  constructor
  · intro H
    refine ⟨fun v hv => ⟨fun z => (H v hv).1 (((h v (lt v hv)).1).mpr (Or.inl z)), fun z => (H v hv).2 (((h v (lt v hv)).2).mpr (Or.inl z))⟩, fun v h1 h2 => ?_⟩
    have hv : bt F v = true := by rw [hF v]; simpa using h2
    cases e : kt_c D v with
    | true => exact (H v hv).1 (((h v h2).1).mpr (Or.inr ⟨h1, e⟩))
    | false => exact (H v hv).2 (((h v h2).2).mpr (Or.inr ⟨h1, e⟩))
  · rintro ⟨H1, H2⟩ v hv
    refine ⟨fun z => ?_, fun z => ?_⟩
    · rcases ((h v (lt v hv)).1).mp z with z | ⟨z1, z2⟩
      · exact (H1 v hv).1 z
      · rw [H2 v z1 (lt v hv)]; exact z2
    · rcases ((h v (lt v hv)).2).mp z with z | ⟨z1, z2⟩
      · exact (H1 v hv).2 z
      · rw [H2 v z1 (lt v hv)]; exact z2
theorem kr_mk0 {n D : Nat} {aP aN : Int32} : kr_mk n n D aP aN aP aN := fun v hv => ⟨⟨Or.inl, fun h => h.resolve_right (fun z => by omega)⟩, ⟨Or.inl, fun h => h.resolve_right (fun z => by omega)⟩⟩
theorem kr_mkf {n k D E : Nat} {aP aN mt mf : Int32} (hk : k < 32) (h : kr_mk n (k + 1) D aP aN mt mf) (hE : ∀ v, k < v → kt_c E v = kt_c D v) (hb : kt_c E k = false) : kr_mk n k E aP aN mt (mf ||| ((1 : Int32) <<< (nI k &&& 31))) := fun v hv => by
  have h1 := h v hv
  constructor
  · rw [h1.1]
    constructor
    · rintro (z | ⟨z1, z2⟩)
      · exact Or.inl z
      · exact Or.inr ⟨by omega, by rw [hE v (by omega)]; exact z2⟩
    · rintro (z | ⟨z1, z2⟩)
      · exact Or.inl z
      · by_cases e : v = k
        · subst e; rw [hb] at z2; cases z2
        · exact Or.inr ⟨by omega, by rw [← hE v (by omega)]; exact z2⟩
  · rw [kr_or, h1.2, kb_one k hk]
    constructor
    · rintro ((z | ⟨z1, z2⟩) | z)
      · exact Or.inl z
      · exact Or.inr ⟨by omega, by rw [hE v (by omega)]; exact z2⟩
      · have e : v = k := by simpa using z
        subst e; exact Or.inr ⟨Nat.le_refl _, hb⟩
    · rintro (z | ⟨z1, z2⟩)
      · exact Or.inl (Or.inl z)
      · by_cases e : v = k
        · subst e; exact Or.inr (by simp)
        · exact Or.inl (Or.inr ⟨by omega, by rw [← hE v (by omega)]; exact z2⟩)
theorem kr_mkt {n k D E : Nat} {aP aN mt mf : Int32} (hk : k < 32) (h : kr_mk n (k + 1) D aP aN mt mf) (hE : ∀ v, k < v → kt_c E v = kt_c D v) (hb : kt_c E k = true) : kr_mk n k E aP aN (mt ||| ((1 : Int32) <<< (nI k &&& 31))) mf := fun v hv => by
  have h1 := h v hv
  constructor
  · rw [kr_or, h1.1, kb_one k hk]
    constructor
    · rintro ((z | ⟨z1, z2⟩) | z)
      · exact Or.inl z
      · exact Or.inr ⟨by omega, by rw [hE v (by omega)]; exact z2⟩
      · have e : v = k := by simpa using z
        subst e; exact Or.inr ⟨Nat.le_refl _, hb⟩
    · rintro (z | ⟨z1, z2⟩)
      · exact Or.inl (Or.inl z)
      · by_cases e : v = k
        · subst e; exact Or.inr (by simp)
        · exact Or.inl (Or.inr ⟨by omega, by rw [← hE v (by omega)]; exact z2⟩)
  · rw [h1.2]
    constructor
    · rintro (z | ⟨z1, z2⟩)
      · exact Or.inl z
      · exact Or.inr ⟨by omega, by rw [hE v (by omega)]; exact z2⟩
    · rintro (z | ⟨z1, z2⟩)
      · exact Or.inl z
      · by_cases e : v = k
        · subst e; rw [hb] at z2; cases z2
        · exact Or.inr ⟨by omega, by rw [← hE v (by omega)]; exact z2⟩
theorem kr_range {n m ka k e : Nat} {ass cu ch : Nat → Int32} {aP aN mt mf F : Int32} (hn : n ≤ 8) (hF : ∀ v, bt F v = decide (v < n)) (has : kr_as n ka ass aP aN) (h : kr_mk n k (e * 2 ^ k) aP aN mt mf) (hD : e * 2 ^ k + 2 ^ k ≤ 2 ^ n) :
    kx_N n m F cu ch mt mf = ks_sm (2 ^ k) (fun t => ky_Mb n m ka ass cu ch (e * 2 ^ k + t)) := by
  have hpos : 0 < 2 ^ k := Nat.two_pow_pos k
  refine Eq.trans ?_ (ks_range (A := fun c => ky_M n m ka ass cu ch (kt_c c)) (N := 2 ^ n) hD)
  apply ks_congr
  intro c hc
  apply kt_bc
  rw [kr_mkcon hF h, kr_agree hc (by omega), kr_con hn hF has]
  exact ⟨fun z => ⟨⟨z.2.1, z.1⟩, z.2.2⟩, fun z => ⟨z.1.2, z.1.1, z.2⟩⟩
theorem kr_dbl (k : Nat) : 2 ^ (k + 1) = 2 ^ k + 2 ^ k := by rw [Nat.pow_succ]; omega
theorem kr_e2 (e k : Nat) : e * 2 ^ (k + 1) = (2 * e) * 2 ^ k := by rw [Nat.pow_succ]; rw [Nat.mul_comm (2 ^ k) 2, ← Nat.mul_assoc, Nat.mul_comm e 2]
theorem kr_e21 (e k : Nat) : (2 * e + 1) * 2 ^ k = e * 2 ^ (k + 1) + 2 ^ k := by rw [kr_e2, Nat.add_mul, Nat.one_mul]
theorem kr_ehi {e k v : Nat} (hv : k < v) : kt_c ((2 * e + 1) * 2 ^ k) v = kt_c (e * 2 ^ (k + 1)) v := by
  have := Nat.two_pow_add_eq_or_of_lt (i := k + 1) (b := 2 ^ k) (Nat.pow_lt_pow_right (by decide) (by omega)) e
  rw [kr_e21, Nat.mul_comm e, this]
  unfold kt_c
  rw [Nat.testBit_or, Nat.testBit_two_pow]
  simp; omega
theorem kr_elo {e k : Nat} : kt_c ((2 * e) * 2 ^ k) k = false := by
  unfold kt_c
  rw [← kr_e2, Nat.mul_comm, Nat.testBit_two_pow_mul]
  simp
  intro h
  omega
theorem kr_e1 {e k : Nat} : kt_c ((2 * e + 1) * 2 ^ k) k = true := by
  unfold kt_c
  rw [Nat.mul_comm, Nat.testBit_two_pow_mul]
  simp
section
variable {f_varCount f_slotCount f_fullMask f_draftPos f_draftNeg f_state f_assumedCount f_assumedPos f_assumedNeg f_clauseCount f_nodeCount f_root f_depth f_result f_workPos f_workNeg f_workLive : Int32} {a_slotUsed a_slotPos a_slotNeg a_assumed a_weightPos a_weightNeg a_clausePos a_clauseNeg a_nodeChoice a_nodePos a_nodeNeg a_nodeFree a_nodeKids a_kids a_cacheKey a_cacheNode a_framePos a_frameNeg a_frameFree a_frameParts a_frameNext a_framePhase a_frameVar a_frameHigh a_partVars a_partClauses a_partNode a_value a_sizes a_poly a_product a_factorPos a_factorNeg : Nat → Int32}
variable {n m ka : Nat} {ass cu ch : Nat → Int32}
/-- X's search: k variables are left, the code so far is e * 2^k -/
theorem kx_mA {post : Int32 → SX → Prop} {rank : Nat} (hn : n ≤ 8) (hF : ∀ v, bt f_fullMask v = decide (v < n)) (has : kr_as n ka ass f_assumedPos f_assumedNeg)
    (hc : kr_c n m f_fullMask f_nodeCount f_root a_nodeChoice a_nodePos a_nodeNeg a_nodeFree a_nodeKids a_kids cu ch)
    (K : ∀ D val, D < 2 ^ n → ky_M n m ka ass cu ch (kt_c D) → ks_sm D (ky_Mb n m ka ass cu ch) = rank → post (nI D) (f_varCount, f_slotCount, f_fullMask, f_draftPos, f_draftNeg, f_state, f_assumedCount, f_assumedPos, f_assumedNeg, f_clauseCount, f_nodeCount, f_root, f_depth, f_result, f_workPos, f_workNeg, f_workLive, a_slotUsed, a_slotPos, a_slotNeg, a_assumed, a_weightPos, a_weightNeg, a_clausePos, a_clauseNeg, a_nodeChoice, a_nodePos, a_nodeNeg, a_nodeFree, a_nodeKids, a_kids, a_cacheKey, a_cacheNode, a_framePos, a_frameNeg, a_frameFree, a_frameParts, a_frameNext, a_framePhase, a_frameVar, a_frameHigh, a_partVars, a_partClauses, a_partNode, val, a_sizes, a_poly, a_product, a_factorPos, a_factorNeg)) :
    ∀ (k e l : Nat) (mt mf x5 : Int32) (val : Nat → Int32), x5 = nI (e * 2 ^ k) → k ≤ n → kr_mk n k (e * 2 ^ k) f_assumedPos f_assumedNeg mt mf → e * 2 ^ k + 2 ^ k ≤ 2 ^ n → ks_sm (e * 2 ^ k) (ky_Mb n m ka ass cu ch) + l = rank → l < ks_sm (2 ^ k) (fun t => ky_Mb n m ka ass cu ch (e * 2 ^ k + t)) →
      wX_modelAt_55 post (k + 1) mt mf x5 (nI l) (nI k - 1) f_varCount f_slotCount f_fullMask f_draftPos f_draftNeg f_state f_assumedCount f_assumedPos f_assumedNeg f_clauseCount f_nodeCount f_root f_depth f_result f_workPos f_workNeg f_workLive a_slotUsed a_slotPos a_slotNeg a_assumed a_weightPos a_weightNeg a_clausePos a_clauseNeg a_nodeChoice a_nodePos a_nodeNeg a_nodeFree a_nodeKids a_kids a_cacheKey a_cacheNode a_framePos a_frameNeg a_frameFree a_frameParts a_frameNext a_framePhase a_frameVar a_frameHigh a_partVars a_partClauses a_partNode val a_sizes a_poly a_product a_factorPos a_factorNeg := by
  intro k
  induction k with
  | zero =>
    intro e l mt mf x5 val ex5 _ _ hD hl hlt
    subst ex5
    have hb : ks_sm (2 ^ 0) (fun t => ky_Mb n m ka ass cu ch (e * 2 ^ 0 + t)) = ky_Mb n m ka ass cu ch (e * 2 ^ 0) := by
      show 0 + ky_Mb n m ka ass cu ch (e * 2 ^ 0 + 0) = _
      rw [Nat.zero_add, Nat.add_zero]
    rw [hb] at hlt
    have hle : ky_Mb n m ka ass cu ch (e * 2 ^ 0) ≤ 1 := kt_ble _
    have hM : ky_M n m ka ass cu ch (kt_c (e * 2 ^ 0)) := Classical.byContradiction (fun h => by
      have : ky_Mb n m ka ass cu ch (e * 2 ^ 0) = 0 := kt_b0 h
      omega)
    refine br_t (by decide) (K (e * 2 ^ 0) val ?_ hM (by omega))
    have : 2 ^ 0 = 1 := rfl
    omega
  | succ k ih =>
    intro e l mt mf x5 val ex5 hk hmk hD hl hlt
    subst ex5
    have hp := kr_p8 hn
    have hdbl := kr_dbl k
    have hpos := Nat.two_pow_pos k
    have hsp : ∀ D, ks_sm (2 ^ (k + 1)) (fun t => ky_Mb n m ka ass cu ch (D + t)) = ks_sm (2 ^ k) (fun t => ky_Mb n m ka ass cu ch (D + t)) + ks_sm (2 ^ k) (fun t => ky_Mb n m ka ass cu ch (D + 2 ^ k + t)) := fun D => by
      rw [hdbl, ks_split]
      congr 1
      apply ks_congr
      intro t _
      rw [Nat.add_assoc]
    have hsplit : ks_sm (2 ^ (k + 1)) (fun t => ky_Mb n m ka ass cu ch (e * 2 ^ (k + 1) + t)) = ks_sm (2 ^ k) (fun t => ky_Mb n m ka ass cu ch ((2 * e) * 2 ^ k + t)) + ks_sm (2 ^ k) (fun t => ky_Mb n m ka ass cu ch ((2 * e + 1) * 2 ^ k + t)) := by
      rw [hsp, kr_e21, kr_e2]
    have h21 := kr_e21 e k
    have h2 := kr_e2 e k
    rw [hsplit] at hlt
    have hmf : kr_mk n k ((2 * e) * 2 ^ k) f_assumedPos f_assumedNeg mt (mf ||| ((1 : Int32) <<< (nI k &&& 31))) := kr_mkf (by omega) hmk (fun v _ => by rw [kr_e2]) kr_elo
    have hNl := kr_range (m := m) (cu := cu) (ch := ch) hn hF has hmf (by omega)
    have hbl : ks_sm (2 ^ k) (fun t => ky_Mb n m ka ass cu ch ((2 * e) * 2 ^ k + t)) ≤ 2 ^ k := ks_b (fun t => kt_ble _) _
    have hbl2 : ks_sm (2 ^ k) (fun t => ky_Mb n m ka ass cu ch ((2 * e + 1) * 2 ^ k + t)) ≤ 2 ^ k := ks_b (fun t => kt_ble _) _
    rw [nI_pred k]
    refine br_f (nI_pos (by omega)) ?_
    intro x8 e8 x9 e9
    subst e8 e9
    refine kx_cm hn hF hc (fun val' => ?_)
    rw [hNl]
    have hks : ks_sm ((2 * e + 1) * 2 ^ k) (ky_Mb n m ka ass cu ch) = ks_sm (e * 2 ^ (k + 1)) (ky_Mb n m ka ass cu ch) + ks_sm (2 ^ k) (fun t => ky_Mb n m ka ass cu ch ((2 * e) * 2 ^ k + t)) := by
      rw [h21, ks_split, h2]
    generalize hL : ks_sm (2 ^ k) (fun t => ky_Mb n m ka ass cu ch ((2 * e) * 2 ^ k + t)) = L at *
    refine pk_le L l (fun hle => ?_) (fun hgt => ?_)
    · intro x6 e6 x2 e2 x5 e5 x7 e7
      rw [pk_sub hle] at e6
      rw [show nI k + (-1) = nI k - 1 from (Int32.sub_eq_add_neg _ _).symm] at e7
      have e5' : x5 = nI ((2 * e + 1) * 2 ^ k) := by
        rw [e5, kb_pow (by omega), h21, Nat.mul_comm e, Nat.two_pow_add_eq_or_of_lt (i := k + 1) (b := 2 ^ k) (Nat.pow_lt_pow_right (by decide) (by omega)) e]
        apply b_ext
        intro i hi
        rw [b_or, kb_nI _ hi, kb_nI _ hi, kb_nI _ hi, Nat.testBit_or]
      subst e6 e2 e7
      exact ih (2 * e + 1) (l - L) _ _ _ val' e5' (by omega) (kr_mkt (by omega) hmk (fun v hv => kr_ehi hv) kr_e1) (by omega) (by omega) (by omega)
    · intro x7 e7
      rw [show nI k + (-1) = nI k - 1 from (Int32.sub_eq_add_neg _ _).symm] at e7
      subst e7
      exact ih (2 * e) l _ _ _ val' (by rw [h2]) (by omega) hmf (by omega) (by rw [← h2]; exact hl) (by rw [hL]; exact hgt)
/-- X's rank: k variables are left -/
theorem kx_rO {post : Int32 → SX → Prop} {c : Nat} (hn : n ≤ 8) (hF : ∀ v, bt f_fullMask v = decide (v < n)) (has : kr_as n ka ass f_assumedPos f_assumedNeg)
    (hc : kr_c n m f_fullMask f_nodeCount f_root a_nodeChoice a_nodePos a_nodeNeg a_nodeFree a_nodeKids a_kids cu ch) (hc2 : c < 2 ^ n)
    (K : ∀ val, post (nI (ks_sm c (ky_Mb n m ka ass cu ch))) (f_varCount, f_slotCount, f_fullMask, f_draftPos, f_draftNeg, f_state, f_assumedCount, f_assumedPos, f_assumedNeg, f_clauseCount, f_nodeCount, f_root, f_depth, f_result, f_workPos, f_workNeg, f_workLive, a_slotUsed, a_slotPos, a_slotNeg, a_assumed, a_weightPos, a_weightNeg, a_clausePos, a_clauseNeg, a_nodeChoice, a_nodePos, a_nodeNeg, a_nodeFree, a_nodeKids, a_kids, a_cacheKey, a_cacheNode, a_framePos, a_frameNeg, a_frameFree, a_frameParts, a_frameNext, a_framePhase, a_frameVar, a_frameHigh, a_partVars, a_partClauses, a_partNode, val, a_sizes, a_poly, a_product, a_factorPos, a_factorNeg)) :
    ∀ (k e : Nat) (mt mf x4 : Int32) (val : Nat → Int32), x4 = nI (ks_sm (e * 2 ^ k) (ky_Mb n m ka ass cu ch)) → k ≤ n → e = c / 2 ^ k → kr_mk n k (e * 2 ^ k) f_assumedPos f_assumedNeg mt mf →
      wX_rankOf_78 post (nI c) (k + 1) mt mf x4 (nI k - 1) f_varCount f_slotCount f_fullMask f_draftPos f_draftNeg f_state f_assumedCount f_assumedPos f_assumedNeg f_clauseCount f_nodeCount f_root f_depth f_result f_workPos f_workNeg f_workLive a_slotUsed a_slotPos a_slotNeg a_assumed a_weightPos a_weightNeg a_clausePos a_clauseNeg a_nodeChoice a_nodePos a_nodeNeg a_nodeFree a_nodeKids a_kids a_cacheKey a_cacheNode a_framePos a_frameNeg a_frameFree a_frameParts a_frameNext a_framePhase a_frameVar a_frameHigh a_partVars a_partClauses a_partNode val a_sizes a_poly a_product a_factorPos a_factorNeg := by
  intro k
  induction k with
  | zero =>
    intro e mt mf x4 val ex4 _ he _
    subst ex4
    refine br_t (by decide) ?_
    have e0 : e * 2 ^ 0 = c := by rw [he]; simp
    rw [e0]
    exact K val
  | succ k ih =>
    intro e mt mf x4 val ex4 hk he hmk
    subst ex4
    have hp := kr_p8 hn
    have hpos : 0 < 2 ^ k := Nat.two_pow_pos k
    have hq : c / 2 ^ (k + 1) = c / 2 ^ k / 2 := by rw [Nat.pow_succ, Nat.div_div_eq_div_mul]
    have hbit : bt (nI c) k = decide (c / 2 ^ k % 2 = 1) := by
      rw [kb_nI _ (by omega), Nat.testBit_eq_decide_div_mod_eq]
    have hlec : c / 2 ^ k * 2 ^ k ≤ c := Nat.div_mul_le_self c (2 ^ k)
    have h21 := kr_e21 e k
    have h2 := kr_e2 e k
    rw [nI_pred k]
    refine br_f (nI_pos (by omega)) ?_
    intro x6 e6
    subst e6
    refine br_c (fun z => ?_) (fun z => ?_)
    · rw [kb_t _ (by omega), hbit] at z
      have z' : ¬ c / 2 ^ k % 2 = 1 := by simpa using z
      intro x3 e3 x5 e5
      rw [show nI k + (-1) = nI k - 1 from (Int32.sub_eq_add_neg _ _).symm] at e5
      subst e3 e5
      exact ih (2 * e) _ _ _ val (by rw [h2]) (by omega) (by omega) (kr_mkf (by omega) hmk (fun v _ => by rw [kr_e2]) kr_elo)
    · rw [kb_t _ (by omega), hbit] at z
      have z' : c / 2 ^ k % 2 = 1 := by simpa using z
      have hee : 2 * e + 1 = c / 2 ^ k := by omega
      have hDle : (2 * e + 1) * 2 ^ k < 2 ^ n := by rw [hee]; omega
      intro x7 e7
      subst e7
      refine kx_cm hn hF hc (fun val' => ?_)
      rw [kr_range (m := m) (cu := cu) (ch := ch) hn hF has (kr_mkf (E := (2 * e) * 2 ^ k) (by omega) hmk (fun v _ => by rw [kr_e2]) kr_elo) (by omega)]
      intro y4 e4 x2 e2 x5 e5
      rw [show nI k + (-1) = nI k - 1 from (Int32.sub_eq_add_neg _ _).symm] at e5
      have hks : ks_sm ((2 * e + 1) * 2 ^ k) (ky_Mb n m ka ass cu ch) = ks_sm (e * 2 ^ (k + 1)) (ky_Mb n m ka ass cu ch) + ks_sm (2 ^ k) (fun t => ky_Mb n m ka ass cu ch ((2 * e) * 2 ^ k + t)) := by
        rw [h21, ks_split, h2]
      rw [nI_add, ← hks] at e4
      subst e2 e5
      exact ih (2 * e + 1) _ _ _ val' e4 (by omega) hee (kr_mkt (by omega) hmk (fun v hv => kr_ehi hv) kr_e1)
end
end
section
/-! questions: modelAt, rankOf, accepts, entails -/
section
variable {yf_n yf_m yf_state yf_assumed : Int32} {ya_draft ya_used ya_has ya_compiledUsed ya_compiledHas ya_assumptions ya_weights : Nat → Int32}
variable {n m ka : Nat}
theorem ky_Mb1 {ass cu ch : Nat → Int32} {c : Nat} (h : ky_M n m ka ass cu ch (kt_c c)) : ky_Mb n m ka ass cu ch c = 1 := kt_b1 h
theorem ky_Mb0 {ass cu ch : Nat → Int32} {c : Nat} (h : ¬ ky_M n m ka ass cu ch (kt_c c)) : ky_Mb n m ka ass cu ch c = 0 := kt_b0 h
theorem ky_Ms {ass cu ch : Nat → Int32} {c : Nat} : ks_sm (c + 1) (ky_Mb n m ka ass cu ch) = ks_sm c (ky_Mb n m ka ass cu ch) + ky_Mb n m ka ass cu ch c := rfl
theorem ky_mAhit {post : Int32 → Prop} {D r : Nat} (H : ky_H n m ka yf_n yf_m yf_assumed ya_assumptions) (hD : D < 2 ^ n) (hM : ky_M n m ka ya_assumptions ya_compiledUsed ya_compiledHas (kt_c D)) (hr : ks_sm D (ky_Mb n m ka ya_assumptions ya_compiledUsed ya_compiledHas) = r) (K : post (nI D)) :
    ∃ q, wY_modelAt_14 post (nI r) yf_n yf_m yf_state yf_assumed ya_draft ya_used ya_has ya_compiledUsed ya_compiledHas ya_assumptions ya_weights q 0 0 := by
  have hp := ky_p8 H
  have hb : ∀ c, ks_sm c (ky_Mb n m ka ya_assumptions ya_compiledUsed ya_compiledHas) ≤ c := fun c => ks_b (fun t => kt_ble _) c
  have hbD := hb D
  refine loop_0 (fun q c t => wY_modelAt_14 post (nI r) yf_n yf_m yf_state yf_assumed ya_draft ya_used ya_has ya_compiledUsed ya_compiledHas ya_assumptions ya_weights q t (nI c)) (fun c t => t = nI (ks_sm c (ky_Mb n m ka ya_assumptions ya_compiledUsed ya_compiledHas))) D 0 rfl ?_ ?_
  · intro q t ht
    subst ht
    refine br_f (ky_lt H hD) ?_
    refine ky_im H (by omega) (fun _ => br_f (by decide) ?_) (fun h => absurd hM h)
    rw [hr]
    exact br_t rfl K
  · intro q c t hc ht hk
    subst ht
    have hbc := hb c
    refine br_f (ky_lt H (by omega)) ?_
    refine ky_im H (by omega) (fun h => br_f (by decide) (pk_eq _ r (fun e => ?_) (fun _ => ?_))) (fun h => br_t rfl ?_)
    · have h1 := ks_mono (ky_Mb n m ka ya_assumptions ya_compiledUsed ya_compiledHas) (a := c + 1) (b := D) (by omega)
      rw [ky_Ms, ky_Mb1 h] at h1
      omega
    · intro y ey w ew
      subst ey ew
      rw [nI_1 c]
      refine hk _ ?_
      rw [ky_Ms, ky_Mb1 h, ← nI_1]
    · intro y ey
      subst ey
      rw [nI_1 c]
      refine hk _ ?_
      rw [ky_Ms, ky_Mb0 h, Nat.add_zero]
theorem ky_mAno {post : Int32 → Prop} {x : Int32} (H : ky_H n m ka yf_n yf_m yf_assumed ya_assumptions) (hx : x < 0 ∨ ¬ x < nI (ks_sm (2 ^ n) (ky_Mb n m ka ya_assumptions ya_compiledUsed ya_compiledHas))) (K : post (-4)) :
    ∃ q, wY_modelAt_14 post x yf_n yf_m yf_state yf_assumed ya_draft ya_used ya_has ya_compiledUsed ya_compiledHas ya_assumptions ya_weights q 0 0 := by
  have hp := ky_p8 H
  have hb : ∀ c, ks_sm c (ky_Mb n m ka ya_assumptions ya_compiledUsed ya_compiledHas) ≤ c := fun c => ks_b (fun t => kt_ble _) c
  have hbT := hb (2 ^ n)
  refine loop_0 (fun q c t => wY_modelAt_14 post x yf_n yf_m yf_state yf_assumed ya_draft ya_used ya_has ya_compiledUsed ya_compiledHas ya_assumptions ya_weights q t (nI c)) (fun c t => t = nI (ks_sm c (ky_Mb n m ka ya_assumptions ya_compiledUsed ya_compiledHas))) (2 ^ n) 0 rfl ?_ ?_
  · intro q t _
    exact br_t (ky_ge H) K
  · intro q c t hc ht hk
    subst ht
    have hbc := hb c
    refine br_f (ky_lt H hc) ?_
    refine ky_im H (by omega) (fun h => br_f (by decide) (br_c (fun e => ?_) (fun _ => ?_))) (fun h => br_t rfl ?_)
    · exfalso
      have h1 := ks_mono (ky_Mb n m ka ya_assumptions ya_compiledUsed ya_compiledHas) (a := c + 1) (b := 2 ^ n) (by omega)
      rw [ky_Ms, ky_Mb1 h] at h1
      rcases hx with hx | hx
      · rw [← e] at hx; exact nI_pos (by omega) hx
      · rw [← e] at hx; exact hx (nI_lt (by omega) (by omega))
    · intro y ey w ew
      subst ey ew
      rw [nI_1 c]
      refine hk _ ?_
      rw [ky_Ms, ky_Mb1 h, ← nI_1]
    · intro y ey
      subst ey
      rw [nI_1 c]
      refine hk _ ?_
      rw [ky_Ms, ky_Mb0 h, Nat.add_zero]
theorem ky_rO {post : Int32 → Prop} {D : Nat} (H : ky_H n m ka yf_n yf_m yf_assumed ya_assumptions) (hD : D < 2 ^ n) (K : post (nI (ks_sm D (ky_Mb n m ka ya_assumptions ya_compiledUsed ya_compiledHas)))) : ∃ q, wY_rankOf_43 post (nI D) yf_n yf_m yf_state yf_assumed ya_draft ya_used ya_has ya_compiledUsed ya_compiledHas ya_assumptions ya_weights q 0 0 := by
  have hp := ky_p8 H
  refine loop_0 (fun q c t => wY_rankOf_43 post (nI D) yf_n yf_m yf_state yf_assumed ya_draft ya_used ya_has ya_compiledUsed ya_compiledHas ya_assumptions ya_weights q t (nI c)) (fun c t => t = nI (ks_sm c (ky_Mb n m ka ya_assumptions ya_compiledUsed ya_compiledHas))) D 0 rfl ?_ ?_
  · intro q t ht
    subst ht
    exact br_t (Int32.le_refl _) K
  · intro q c t hc ht hk
    subst ht
    refine br_f (nI_ge hc (by omega)) ?_
    refine ky_im H (by omega) (fun h => br_f (by decide) ?_) (fun h => br_t rfl ?_)
    · intro y ey w ew
      subst ey ew
      rw [nI_1 c]
      refine hk _ ?_
      rw [ky_Ms, ky_Mb1 h, ← nI_1]
    · intro y ey
      subst ey
      rw [nI_1 c]
      refine hk _ ?_
      rw [ky_Ms, ky_Mb0 h, Nat.add_zero]
/-- some of three literals (0: none) is true -/
def ky_some (a b c : Int32) (al : Nat → Bool) : Prop := (¬ a = 0 ∧ kl_true a al) ∨ (¬ b = 0 ∧ kl_true b al) ∨ (¬ c = 0 ∧ kl_true c al)
theorem ky_ent {post : Int32 → Prop} {a b c : Int32} (H : ky_H n m ka yf_n yf_m yf_assumed ya_assumptions) (ha : kl_ok n a) (hb : kl_ok n b) (hc : kl_ok n c)
    (K1 : (∀ d, d < 2 ^ n → ky_M n m ka ya_assumptions ya_compiledUsed ya_compiledHas (kt_c d) → ky_some a b c (kt_c d)) → post 1) (K0 : (∃ d, d < 2 ^ n ∧ ky_M n m ka ya_assumptions ya_compiledUsed ya_compiledHas (kt_c d) ∧ ¬ ky_some a b c (kt_c d)) → post 0) :
    ∃ q, wY_entails_39 post a b c yf_n yf_m yf_state yf_assumed ya_draft ya_used ya_has ya_compiledUsed ya_compiledHas ya_assumptions ya_weights q 0 := by
  have hp := ky_p8 H
  have hn := H.2.2.2.2.1
  refine loop_0 (fun q d (_ : Unit) => wY_entails_39 post a b c yf_n yf_m yf_state yf_assumed ya_draft ya_used ya_has ya_compiledUsed ya_compiledHas ya_assumptions ya_weights q (nI d)) (fun d _ => ∀ e, e < d → ky_M n m ka ya_assumptions ya_compiledUsed ya_compiledHas (kt_c e) → ky_some a b c (kt_c e)) (2 ^ n) () (fun e he => absurd he (Nat.not_lt_zero _)) ?_ ?_
  · intro q _ hs
    exact br_t (ky_ge H) (K1 hs)
  · intro q d _ hd hs hk
    have ext : (ky_M n m ka ya_assumptions ya_compiledUsed ya_compiledHas (kt_c d) → ky_some a b c (kt_c d)) → ∀ e, e < d + 1 → ky_M n m ka ya_assumptions ya_compiledUsed ya_compiledHas (kt_c e) → ky_some a b c (kt_c e) := fun h e he => by
      by_cases z : e = d
      · subst z; exact h
      · exact hs e (by omega)
    refine br_f (ky_lt H hd) ?_
    refine ky_im H (by omega) (fun h => br_f (by decide) ?_) (fun h => br_t rfl ?_)
    · have T101 : ky_some a b c (kt_c d) → wY_entails_101 post (wY_entails_39 post a b c yf_n yf_m yf_state yf_assumed ya_draft ya_used ya_has ya_compiledUsed ya_compiledHas ya_assumptions ya_weights q) a b c (nI d) yf_n yf_m yf_state yf_assumed ya_draft ya_used ya_has ya_compiledUsed ya_compiledHas ya_assumptions ya_weights := by
        intro hsome
        refine br_f (by decide) ?_
        intro y ey
        subst ey
        rw [nI_1 d]
        exact hk () (ext (fun _ => hsome))
      have T105 : ¬ ky_some a b c (kt_c d) → wY_entails_105 post (wY_entails_39 post a b c yf_n yf_m yf_state yf_assumed ya_draft ya_used ya_has ya_compiledUsed ya_compiledHas ya_assumptions ya_weights q) a b c (nI d) yf_n yf_m yf_state yf_assumed ya_draft ya_used ya_has ya_compiledUsed ya_compiledHas ya_assumptions ya_weights := fun hno => br_t rfl (K0 ⟨d, hd, h, hno⟩)
      have T87 : ¬ (¬ a = 0 ∧ kl_true a (kt_c d)) → ¬ (¬ b = 0 ∧ kl_true b (kt_c d)) → wY_entails_87 post (wY_entails_39 post a b c yf_n yf_m yf_state yf_assumed ya_draft ya_used ya_has ya_compiledUsed ya_compiledHas ya_assumptions ya_weights q) a b c (nI d) yf_n yf_m yf_state yf_assumed ya_draft ya_used ya_has ya_compiledUsed ya_compiledHas ya_assumptions ya_weights := by
        intro h1 h2
        refine br_c (fun z => T105 (fun s => ?_)) (fun z => ?_)
        · rcases s with s | s | s
          · exact h1 s
          · exact h2 s
          · exact s.1 z
        · refine ky_isTrue hn (hc.resolve_left z) (fun t => br_f (by decide) (T101 (Or.inr (Or.inr ⟨z, by rw [kr_bc (by omega)] at t; exact t⟩)))) (fun t => br_t rfl (T105 (fun s => ?_)))
          rw [kr_bc (by omega)] at t
          rcases s with s | s | s
          · exact h1 s
          · exact h2 s
          · exact t s.2
      have T73 : ¬ (¬ a = 0 ∧ kl_true a (kt_c d)) → wY_entails_73 post (wY_entails_39 post a b c yf_n yf_m yf_state yf_assumed ya_draft ya_used ya_has ya_compiledUsed ya_compiledHas ya_assumptions ya_weights q) a b c (nI d) yf_n yf_m yf_state yf_assumed ya_draft ya_used ya_has ya_compiledUsed ya_compiledHas ya_assumptions ya_weights := by
        intro h1
        refine br_c (fun z => T87 h1 (fun s => s.1 z)) (fun z => ?_)
        refine ky_isTrue hn (hb.resolve_left z) (fun t => br_f (by decide) (T101 (Or.inr (Or.inl ⟨z, by rw [kr_bc (by omega)] at t; exact t⟩)))) (fun t => br_t rfl (T87 h1 (fun s => ?_)))
        rw [kr_bc (by omega)] at t
        exact t s.2
      refine br_c (fun z => T73 (fun s => s.1 z)) (fun z => ?_)
      refine ky_isTrue hn (ha.resolve_left z) (fun t => br_f (by decide) (T101 (Or.inl ⟨z, by rw [kr_bc (by omega)] at t; exact t⟩))) (fun t => br_t rfl (T73 (fun s => ?_)))
      rw [kr_bc (by omega)] at t
      exact t s.2
    · intro y ey
      subst ey
      rw [nI_1 d]
      exact hk () (ext (fun z => absurd z h))
end
theorem kr_conneg {n : Nat} {p q F x : Int32} (hn : n ≤ 8) (hF : ∀ v, bt F v = decide (v < n)) (hx : kl_ok n x) (a : Nat → Bool) : kc_con (p ||| kl_nb x) (q ||| kl_pb x) (bt F) a ↔ (kc_con p q (bt F) a ∧ ¬ (¬ x = 0 ∧ kl_true x a)) := by
  constructor
  · intro H
    refine ⟨fun v hv => ⟨fun h => (H v hv).1 (kr_or.mpr (Or.inl h)), fun h => (H v hv).2 (kr_or.mpr (Or.inl h))⟩, ?_⟩
    rintro ⟨h0, ht⟩
    rcases hx.resolve_left h0 with ⟨v, hv, rfl⟩ | ⟨v, hv, rfl⟩
    · rw [kl_t1 (by omega)] at ht
      have := (H v (by rw [hF v]; simpa using hv)).2 (kr_or.mpr (Or.inr ((kl_pbb hn hx v).mpr ⟨hv, rfl⟩)))
      rw [ht] at this; cases this
    · rw [kl_t2 (by omega)] at ht
      have := (H v (by rw [hF v]; simpa using hv)).1 (kr_or.mpr (Or.inr ((kl_nbb hn hx v).mpr ⟨hv, rfl⟩)))
      rw [ht] at this; cases this
  · rintro ⟨H, ht⟩ v hv
    refine ⟨fun h => ?_, fun h => ?_⟩
    · rcases kr_or.mp h with h | h
      · exact (H v hv).1 h
      · obtain ⟨h1, h2⟩ := (kl_nbb hn hx v).mp h
        refine ts_nf (fun e => ht ⟨?_, ?_⟩)
        · rw [h2]; exact kl_n0 (by omega)
        · rw [h2, kl_t2 (by omega)]; exact e
    · rcases kr_or.mp h with h | h
      · exact (H v hv).2 h
      · obtain ⟨h1, h2⟩ := (kl_pbb hn hx v).mp h
        refine ts_nt (fun e => ht ⟨?_, ?_⟩)
        · rw [h2]; exact kl_p0 (by omega)
        · rw [h2, kl_t1 (by omega)]; exact e
theorem kr_fm {n : Nat} {F : Int32} (hn : n ≤ 8) (hF : ∀ v, bt F v = decide (v < n)) : F = nI (2 ^ n - 1) := by
  apply b_ext
  intro i hi
  rw [hF i, kb_nI _ hi, Nat.testBit_two_pow_sub_one]
theorem kr_fy {n : Nat} (hn : n ≤ 8) : ((1 : Int32) <<< (nI n &&& 31)) - 1 = nI (2 ^ n - 1) := by
  have h1 : 1 ≤ 2 ^ n := Nat.one_le_two_pow
  rw [kb_pow (by omega), show (1 : Int32) = nI 1 from rfl, pk_sub h1]
theorem kr_mkcode {n c : Nat} {aP aN F : Int32} (hn : n ≤ 8) (hF : ∀ v, bt F v = decide (v < n)) (hc : c < 2 ^ 31) : kr_mk n 0 (c * 2 ^ 0) aP aN (aP ||| nI c) (aN ||| (F &&& (nI c ^^^ (-1)))) := fun v hv => by
  have e0 : c * 2 ^ 0 = c := by simp
  have hFv : bt F v = true := by rw [hF v]; simpa using hv
  have hb : bt (nI c) v = kt_c c v := by rw [kr_bc hc]
  rw [e0, kr_or, kr_or, b_and, kb_not _ (by omega), hFv, hb]
  constructor
  · exact or_congr Iff.rfl ⟨fun h => ⟨Nat.zero_le _, h⟩, fun h => h.2⟩
  · refine or_congr Iff.rfl ⟨fun h => ⟨Nat.zero_le _, by simpa using h⟩, fun h => by simpa using h.2⟩
section
variable {f_fullMask f_draftPos f_draftNeg f_state f_assumedPos f_assumedNeg f_clauseCount f_nodeCount f_root f_depth f_result f_workPos f_workNeg f_workLive : Int32} {a_slotUsed a_slotPos a_slotNeg a_assumed a_weightPos a_weightNeg a_clausePos a_clauseNeg a_nodeChoice a_nodePos a_nodeNeg a_nodeFree a_nodeKids a_kids a_cacheKey a_cacheNode a_framePos a_frameNeg a_frameFree a_frameParts a_frameNext a_framePhase a_frameVar a_frameHigh a_partVars a_partClauses a_partNode a_value a_sizes a_poly a_product a_factorPos a_factorNeg ya_draft ya_has ya_compiledUsed ya_compiledHas ya_weights : Nat → Int32} {n m ka : Nat} {k : Nat}
theorem kv_modelAt (hF : kr_F n m ka f_fullMask f_draftPos f_draftNeg f_state f_assumedPos f_assumedNeg f_nodeCount f_root a_slotUsed a_slotPos a_slotNeg a_assumed a_weightPos a_weightNeg a_nodeChoice a_nodePos a_nodeNeg a_nodeFree a_nodeKids a_kids a_sizes ya_draft ya_has ya_compiledUsed ya_compiledHas ya_weights) (x : Int32) : wpX_modelAt (fun r u' => wpY_modelAt (fun r' => r' = r ∧ i_Rel (k + 4) u' ((nI n), (nI m), f_state, (nI ka), ya_draft, a_slotUsed, ya_has, ya_compiledUsed, ya_compiledHas, a_assumed, ya_weights)) ((nI n), (nI m), f_state, (nI ka), ya_draft, a_slotUsed, ya_has, ya_compiledUsed, ya_compiledHas, a_assumed, ya_weights) x) ((nI n), (nI m), f_fullMask, f_draftPos, f_draftNeg, f_state, (nI ka), f_assumedPos, f_assumedNeg, f_clauseCount, f_nodeCount, f_root, f_depth, f_result, f_workPos, f_workNeg, f_workLive, a_slotUsed, a_slotPos, a_slotNeg, a_assumed, a_weightPos, a_weightNeg, a_clausePos, a_clauseNeg, a_nodeChoice, a_nodePos, a_nodeNeg, a_nodeFree, a_nodeKids, a_kids, a_cacheKey, a_cacheNode, a_framePos, a_frameNeg, a_frameFree, a_frameParts, a_frameNext, a_framePhase, a_frameVar, a_frameHigh, a_partVars, a_partClauses, a_partNode, a_value, a_sizes, a_poly, a_product, a_factorPos, a_factorNeg) x := by
  have hF' := hF
  obtain ⟨⟨hn1, hn8⟩, ⟨hm1, hm24⟩, hfull, hdr, hsl, has, hw, hsz, hc⟩ := hF
  have hp := kr_p8 hn8
  have hb : ks_sm (2 ^ n) (ky_Mb n m ka a_assumed ya_compiledUsed ya_compiledHas) ≤ 2 ^ n := ks_b (fun t => kt_ble _) _
  by_cases z : f_state = 0
  · exact br_t z (br_t z ⟨rfl, kr_in hF'⟩)
  · refine br_f z ?_
    refine kx_cm hn8 hfull (hc z) (fun val => ?_)
    rw [kr_NM hF']
    refine br_c (fun h0 => ?_) (fun h0 => br_c (fun h1 => ?_) (fun h1 => ?_))
    · exact br_f z (ky_mAno (kr_H hF') (Or.inl h0) ⟨rfl, kr_in hF'⟩)
    · obtain ⟨r, hr, rfl⟩ := nI_of h0
      rw [nI_ltI hr (by omega)] at h1
      intro x7 e7
      subst e7
      exact ⟨n + 1, kx_mA (n := n) (m := m) (ka := ka) (ass := a_assumed) (cu := ya_compiledUsed) (ch := ya_compiledHas) (rank := r) hn8 hfull has (hc z) (fun D val' hD hM hks => br_f z (ky_mAhit (kr_H hF') hD hM hks ⟨rfl, kr_in hF'⟩)) n 0 r f_assumedPos f_assumedNeg 0 val (by rw [Nat.zero_mul]; rfl) (Nat.le_refl _) kr_mk0 (by rw [Nat.zero_mul]; omega) (by rw [Nat.zero_mul]; exact Nat.zero_add _) (by
        rw [Nat.zero_mul]
        simp only [Nat.zero_add]
        exact h1)⟩
    · exact br_f z (ky_mAno (kr_H hF') (Or.inr h1) ⟨rfl, kr_in hF'⟩)
theorem kv_rankOf (hF : kr_F n m ka f_fullMask f_draftPos f_draftNeg f_state f_assumedPos f_assumedNeg f_nodeCount f_root a_slotUsed a_slotPos a_slotNeg a_assumed a_weightPos a_weightNeg a_nodeChoice a_nodePos a_nodeNeg a_nodeFree a_nodeKids a_kids a_sizes ya_draft ya_has ya_compiledUsed ya_compiledHas ya_weights) (x : Int32) : wpX_rankOf (fun r u' => wpY_rankOf (fun r' => r' = r ∧ i_Rel (k + 4) u' ((nI n), (nI m), f_state, (nI ka), ya_draft, a_slotUsed, ya_has, ya_compiledUsed, ya_compiledHas, a_assumed, ya_weights)) ((nI n), (nI m), f_state, (nI ka), ya_draft, a_slotUsed, ya_has, ya_compiledUsed, ya_compiledHas, a_assumed, ya_weights) x) ((nI n), (nI m), f_fullMask, f_draftPos, f_draftNeg, f_state, (nI ka), f_assumedPos, f_assumedNeg, f_clauseCount, f_nodeCount, f_root, f_depth, f_result, f_workPos, f_workNeg, f_workLive, a_slotUsed, a_slotPos, a_slotNeg, a_assumed, a_weightPos, a_weightNeg, a_clausePos, a_clauseNeg, a_nodeChoice, a_nodePos, a_nodeNeg, a_nodeFree, a_nodeKids, a_kids, a_cacheKey, a_cacheNode, a_framePos, a_frameNeg, a_frameFree, a_frameParts, a_frameNext, a_framePhase, a_frameVar, a_frameHigh, a_partVars, a_partClauses, a_partNode, a_value, a_sizes, a_poly, a_product, a_factorPos, a_factorNeg) x := by
  have hF' := hF
  obtain ⟨⟨hn1, hn8⟩, ⟨hm1, hm24⟩, hfull, hdr, hsl, has, hw, hsz, hc⟩ := hF
  have hp := kr_p8 hn8
  have h1p : 1 ≤ 2 ^ n := Nat.one_le_two_pow
  have efm := kr_fm hn8 hfull
  have efy := kr_fy hn8
  by_cases z : f_state = 0
  · exact br_t z (br_t z ⟨rfl, kr_in hF'⟩)
  · by_cases h0 : x < 0
    · exact br_f z (br_t h0 (br_f z (br_t h0 ⟨rfl, kr_in hF'⟩)))
    · by_cases h1 : x ≤ nI (2 ^ n - 1)
      · obtain ⟨c, hcle, rfl⟩ := nI_of2 (x := x) (M := nI (2 ^ n - 1)) (n := 2 ^ n - 1) (nI_toInt (by omega)) h0 h1
        have hcn : c < 2 ^ n := by omega
        refine br_f z (br_f h0 (br_t (by rw [efm]; exact h1) ?_))
        intro x2 e2 x3 e3
        subst e2 e3
        refine kx_cm hn8 hfull (hc z) (fun val => ?_)
        have hN := kr_range (m := m) (cu := ya_compiledUsed) (ch := ya_compiledHas) hn8 hfull has (kr_mkcode (aP := f_assumedPos) (aN := f_assumedNeg) hn8 hfull (c := c) (by omega)) (by simp; omega)
        have hN' : kx_N n m f_fullMask ya_compiledUsed ya_compiledHas (f_assumedPos ||| nI c) (f_assumedNeg ||| (f_fullMask &&& (nI c ^^^ (-1)))) = ky_Mb n m ka a_assumed ya_compiledUsed ya_compiledHas c := by
          rw [hN]
          show 0 + ky_Mb n m ka a_assumed ya_compiledUsed ya_compiledHas (c * 2 ^ 0 + 0) = _
          simp
        rw [hN']
        rcases Classical.em (ky_M n m ka a_assumed ya_compiledUsed ya_compiledHas (kt_c c)) with hM | hM
        · rw [ky_Mb1 hM]
          refine br_f (by decide) ?_
          intro x5 e5
          subst e5
          refine ⟨n + 1, kx_rO (n := n) (m := m) (ka := ka) (ass := a_assumed) (cu := ya_compiledUsed) (ch := ya_compiledHas) (c := c) hn8 hfull has (hc z) hcn (fun val' => ?_) n 0 f_assumedPos f_assumedNeg 0 val (by rw [Nat.zero_mul]; rfl) (Nat.le_refl _) (Nat.div_eq_of_lt hcn).symm kr_mk0⟩
          · refine br_f z (br_f h0 (br_t (by rw [efy]; exact h1) ?_))
            refine ky_im (kr_H hF') (by omega) (fun _ => br_f (by decide) ?_) (fun h => absurd hM h)
            exact ky_rO (kr_H hF') hcn ⟨rfl, kr_in hF'⟩
        · rw [ky_Mb0 hM]
          refine br_t rfl ?_
          refine br_f z (br_f h0 (br_t (by rw [efy]; exact h1) ?_))
          exact ky_im (kr_H hF') (by omega) (fun h => absurd h hM) (fun _ => br_t rfl ⟨rfl, kr_in hF'⟩)
      · exact br_f z (br_f h0 (br_f (by rw [efm]; exact h1) (br_f z (br_f h0 (br_f (by rw [efy]; exact h1) ⟨rfl, kr_in hF'⟩)))))
theorem kv_accepts (hF : kr_F n m ka f_fullMask f_draftPos f_draftNeg f_state f_assumedPos f_assumedNeg f_nodeCount f_root a_slotUsed a_slotPos a_slotNeg a_assumed a_weightPos a_weightNeg a_nodeChoice a_nodePos a_nodeNeg a_nodeFree a_nodeKids a_kids a_sizes ya_draft ya_has ya_compiledUsed ya_compiledHas ya_weights) (x : Int32) : wpX_accepts (fun r u' => wpY_accepts (fun r' => r' = r ∧ i_Rel (k + 4) u' ((nI n), (nI m), f_state, (nI ka), ya_draft, a_slotUsed, ya_has, ya_compiledUsed, ya_compiledHas, a_assumed, ya_weights)) ((nI n), (nI m), f_state, (nI ka), ya_draft, a_slotUsed, ya_has, ya_compiledUsed, ya_compiledHas, a_assumed, ya_weights) x) ((nI n), (nI m), f_fullMask, f_draftPos, f_draftNeg, f_state, (nI ka), f_assumedPos, f_assumedNeg, f_clauseCount, f_nodeCount, f_root, f_depth, f_result, f_workPos, f_workNeg, f_workLive, a_slotUsed, a_slotPos, a_slotNeg, a_assumed, a_weightPos, a_weightNeg, a_clausePos, a_clauseNeg, a_nodeChoice, a_nodePos, a_nodeNeg, a_nodeFree, a_nodeKids, a_kids, a_cacheKey, a_cacheNode, a_framePos, a_frameNeg, a_frameFree, a_frameParts, a_frameNext, a_framePhase, a_frameVar, a_frameHigh, a_partVars, a_partClauses, a_partNode, a_value, a_sizes, a_poly, a_product, a_factorPos, a_factorNeg) x := by
  have hF' := hF
  obtain ⟨⟨hn1, hn8⟩, ⟨hm1, hm24⟩, hfull, hdr, hsl, has, hw, hsz, hc⟩ := hF
  have hp := kr_p8 hn8
  have h1p : 1 ≤ 2 ^ n := Nat.one_le_two_pow
  have efm := kr_fm hn8 hfull
  have efy := kr_fy hn8
  by_cases z : f_state = 0
  · exact br_t z (br_t z ⟨rfl, kr_in hF'⟩)
  · by_cases h0 : x < 0
    · exact br_f z (br_t h0 (br_f z (br_t h0 ⟨rfl, kr_in hF'⟩)))
    · by_cases h1 : x ≤ nI (2 ^ n - 1)
      · obtain ⟨c, hcle, rfl⟩ := nI_of2 (x := x) (M := nI (2 ^ n - 1)) (n := 2 ^ n - 1) (nI_toInt (by omega)) h0 h1
        have hcn : c < 2 ^ n := by omega
        refine br_f z (br_f h0 (br_t (by rw [efm]; exact h1) ?_))
        intro x2 e2
        subst e2
        refine kx_cm hn8 hfull (hc z) (fun val => ?_)
        have b0' : ∀ v, ¬ bt 0 v = true := fun v h => by rw [b_0] at h; cases h
        have has0 : kr_as n 0 a_assumed 0 0 := by
          refine ⟨Nat.zero_le _, fun i hi => absurd hi (Nat.not_lt_zero _), fun v => ⟨fun h => absurd h (b0' v), fun ⟨_, i, hi, _⟩ => absurd hi (Nat.not_lt_zero _)⟩, fun v => ⟨fun h => absurd h (b0' v), fun ⟨_, i, hi, _⟩ => absurd hi (Nat.not_lt_zero _)⟩, fun v h => b0' v h.1, ?_, fun i j hi => absurd hi (Nat.not_lt_zero _)⟩
          exact (kb_cdz (x := 0 ||| 0) (fun v h => absurd (by rw [b_or, b_0] at h; exact h) (by decide))).mpr (by decide)
        have hmk := kr_mkcode (aP := 0) (aN := 0) hn8 hfull (c := c) (by omega)
        have ez : ∀ y : Int32, (0 : Int32) ||| y = y := fun y => b_ext (fun i _ => by rw [b_or, b_0]; rfl)
        rw [ez, ez] at hmk
        have hN := kr_range (m := m) (cu := ya_compiledUsed) (ch := ya_compiledHas) hn8 hfull has0 hmk (by simp; omega)
        have hN' : kx_N n m f_fullMask ya_compiledUsed ya_compiledHas (nI c) (f_fullMask &&& (nI c ^^^ (-1))) = ky_Mb n m 0 a_assumed ya_compiledUsed ya_compiledHas c := by
          rw [hN]
          show 0 + ky_Mb n m 0 a_assumed ya_compiledUsed ya_compiledHas (c * 2 ^ 0 + 0) = _
          simp
        rw [hN']
        have hsat : ky_M n m 0 a_assumed ya_compiledUsed ya_compiledHas (kt_c c) ↔ ky_Sat n m ya_compiledUsed ya_compiledHas (kt_c c) := ⟨fun h => h.2, fun h => ⟨fun i hi => absurd hi (Nat.not_lt_zero _), h⟩⟩
        have hbc : bt (nI c) = kt_c c := kr_bc (by omega)
        rcases Classical.em (ky_M n m 0 a_assumed ya_compiledUsed ya_compiledHas (kt_c c)) with hM | hM
        · rw [ky_Mb1 hM]
          refine br_f (by decide) ?_
          refine br_f z (br_f h0 (br_t (by rw [efy]; exact h1) ?_))
          exact ky_satisfies rfl rfl hn1 hn8 hm24 (fun _ => br_f (by decide) ⟨rfl, kr_in hF'⟩) (fun h => absurd (hsat.mp hM) (by rw [hbc] at h; exact h))
        · rw [ky_Mb0 hM]
          refine br_t rfl ?_
          refine br_f z (br_f h0 (br_t (by rw [efy]; exact h1) ?_))
          exact ky_satisfies rfl rfl hn1 hn8 hm24 (fun h => absurd (hsat.mpr (by rw [hbc] at h; exact h)) hM) (fun _ => br_t rfl ⟨rfl, kr_in hF'⟩)
      · exact br_f z (br_f h0 (br_f (by rw [efm]; exact h1) (br_f z (br_f h0 (br_f (by rw [efy]; exact h1) ⟨rfl, kr_in hF'⟩)))))
theorem kv_entails (hF : kr_F n m ka f_fullMask f_draftPos f_draftNeg f_state f_assumedPos f_assumedNeg f_nodeCount f_root a_slotUsed a_slotPos a_slotNeg a_assumed a_weightPos a_weightNeg a_nodeChoice a_nodePos a_nodeNeg a_nodeFree a_nodeKids a_kids a_sizes ya_draft ya_has ya_compiledUsed ya_compiledHas ya_weights) (a b c : Int32) : wpX_entails (fun r u' => wpY_entails (fun r' => r' = r ∧ i_Rel (k + 4) u' ((nI n), (nI m), f_state, (nI ka), ya_draft, a_slotUsed, ya_has, ya_compiledUsed, ya_compiledHas, a_assumed, ya_weights)) ((nI n), (nI m), f_state, (nI ka), ya_draft, a_slotUsed, ya_has, ya_compiledUsed, ya_compiledHas, a_assumed, ya_weights) a b c) ((nI n), (nI m), f_fullMask, f_draftPos, f_draftNeg, f_state, (nI ka), f_assumedPos, f_assumedNeg, f_clauseCount, f_nodeCount, f_root, f_depth, f_result, f_workPos, f_workNeg, f_workLive, a_slotUsed, a_slotPos, a_slotNeg, a_assumed, a_weightPos, a_weightNeg, a_clausePos, a_clauseNeg, a_nodeChoice, a_nodePos, a_nodeNeg, a_nodeFree, a_nodeKids, a_kids, a_cacheKey, a_cacheNode, a_framePos, a_frameNeg, a_frameFree, a_frameParts, a_frameNext, a_framePhase, a_frameVar, a_frameHigh, a_partVars, a_partClauses, a_partNode, a_value, a_sizes, a_poly, a_product, a_factorPos, a_factorNeg) a b c := by
  have hF' := hF
  obtain ⟨⟨hn1, hn8⟩, ⟨hm1, hm24⟩, hfull, hdr, hsl, has, hw, hsz, hc⟩ := hF
  by_cases z : f_state = 0
  · exact br_t z (br_t z ⟨rfl, kr_in hF'⟩)
  · refine br_f z ?_
    rcases kl_okc hn8 a with ha | ha
    · refine kw_loz1 rfl hn8 ha (br_f (by decide) ?_)
      rcases kl_okc hn8 b with hb | hb
      · refine kw_loz1 rfl hn8 hb (br_f (by decide) ?_)
        rcases kl_okc hn8 c with hcc | hcc
        · refine kw_loz1 rfl hn8 hcc (br_f (by decide) ?_)
          refine kw_negBit (kw_negBit (kw_negBit ?_))
          intro p ep
          refine kw_posBit (kw_posBit (kw_posBit ?_))
          intro q eq
          subst ep eq
          refine kx_cm hn8 hfull (hc z) (fun val => ?_)
          have hN : kx_N n m f_fullMask ya_compiledUsed ya_compiledHas (((f_assumedPos ||| kl_nb a) ||| kl_nb b) ||| kl_nb c) (((f_assumedNeg ||| kl_pb a) ||| kl_pb b) ||| kl_pb c) = 0 ↔ ∀ d, d < 2 ^ n → ky_M n m ka a_assumed ya_compiledUsed ya_compiledHas (kt_c d) → ky_some a b c (kt_c d) := by
            unfold kx_N
            rw [ks_zero]
            constructor
            · intro H d hd hM
              apply Classical.byContradiction
              intro hno
              have h1 := kt_bz.mp (H d hd)
              rw [kr_conneg hn8 hfull hcc, kr_conneg hn8 hfull hb, kr_conneg hn8 hfull ha, kr_con hn8 hfull has] at h1
              exact h1 ⟨hM.2, ⟨⟨hM.1, fun s => hno (Or.inl s)⟩, fun s => hno (Or.inr (Or.inl s))⟩, fun s => hno (Or.inr (Or.inr s))⟩
            · intro H d hd
              apply kt_b0
              rw [kr_conneg hn8 hfull hcc, kr_conneg hn8 hfull hb, kr_conneg hn8 hfull ha, kr_con hn8 hfull has]
              rintro ⟨h1, ⟨⟨h2, h3⟩, h4⟩, h5⟩
              rcases H d hd ⟨h2, h1⟩ with s | s | s
              · exact h3 s
              · exact h4 s
              · exact h5 s
          have hle := kx_Nle (m := m) (F := f_fullMask) (cu := ya_compiledUsed) (ch := ya_compiledHas) (mt := ((f_assumedPos ||| kl_nb a) ||| kl_nb b) ||| kl_nb c) (mf := ((f_assumedNeg ||| kl_pb a) ||| kl_pb b) ||| kl_pb c) hn8
          refine pk_eq _ 0 (fun e => ?_) (fun e => ?_)
          · refine br_f z (ky_voz1 rfl hn8 ha (br_f (by decide) (ky_voz1 rfl hn8 hb (br_f (by decide) (ky_voz1 rfl hn8 hcc (br_f (by decide) ?_))))))
            refine ky_ent (kr_H hF') ha hb hcc (fun _ => ⟨rfl, kr_in hF'⟩) (fun h => ?_)
            obtain ⟨d, hd, hM, hno⟩ := h
            exact absurd (hN.mp e d hd hM) hno
          · refine br_f z (ky_voz1 rfl hn8 ha (br_f (by decide) (ky_voz1 rfl hn8 hb (br_f (by decide) (ky_voz1 rfl hn8 hcc (br_f (by decide) ?_))))))
            exact ky_ent (kr_H hF') ha hb hcc (fun h => absurd (hN.mpr h) e) (fun _ => ⟨rfl, kr_in hF'⟩)
        · refine kw_loz0 rfl hcc.1 (br_t rfl ?_)
          exact br_f z (ky_voz1 rfl hn8 ha (br_f (by decide) (ky_voz1 rfl hn8 hb (br_f (by decide) (ky_voz0 rfl hn8 hn1 hcc.2 hcc.1 (br_t rfl ⟨rfl, kr_in hF'⟩))))))
      · refine kw_loz0 rfl hb.1 (br_t rfl ?_)
        exact br_f z (ky_voz1 rfl hn8 ha (br_f (by decide) (ky_voz0 rfl hn8 hn1 hb.2 hb.1 (br_t rfl ⟨rfl, kr_in hF'⟩))))
    · refine kw_loz0 rfl ha.1 (br_t rfl ?_)
      exact br_f z (ky_voz0 rfl hn8 hn1 ha.2 ha.1 (br_t rfl ⟨rfl, kr_in hF'⟩))
end
end
section
/-! the owed theorems -/
theorem i_vc_feed {k : Nat} {u : SX} {v : SY} (I : i_Rel k u v) (hk : k + 4 ≤ 2050) (v1 : Int32) : wpX_feed (fun r u' => wpY_feed (fun r' v' => r' = r ∧ i_Rel (k + 4) u' v') v v1) u v1 :=
  kr_el (Pd := fun u v => wpX_feed (fun r u' => wpY_feed (fun r' v' => r' = r ∧ i_Rel (k + 4) u' v') v v1) u v1) (fun n m ka f_fullMask f_draftPos f_draftNeg f_state f_assumedPos f_assumedNeg f_clauseCount f_nodeCount f_root f_depth f_result f_workPos f_workNeg f_workLive a_slotUsed a_slotPos a_slotNeg a_assumed a_weightPos a_weightNeg a_clausePos a_clauseNeg a_nodeChoice a_nodePos a_nodeNeg a_nodeFree a_nodeKids a_kids a_cacheKey a_cacheNode a_framePos a_frameNeg a_frameFree a_frameParts a_frameNext a_framePhase a_frameVar a_frameHigh a_partVars a_partClauses a_partNode a_value a_sizes a_poly a_product a_factorPos a_factorNeg ya_draft ya_has ya_compiledUsed ya_compiledHas ya_weights hF => kv_feed hF v1) I
theorem i_vc_add {k : Nat} {u : SX} {v : SY} (I : i_Rel k u v) (hk : k + 4 ≤ 2050) (v1 : Int32) (v2 : Int32) (v3 : Int32) : wpX_add (fun r u' => wpY_add (fun r' v' => r' = r ∧ i_Rel (k + 4) u' v') v v1 v2 v3) u v1 v2 v3 :=
  kr_el (Pd := fun u v => wpX_add (fun r u' => wpY_add (fun r' v' => r' = r ∧ i_Rel (k + 4) u' v') v v1 v2 v3) u v1 v2 v3) (fun n m ka f_fullMask f_draftPos f_draftNeg f_state f_assumedPos f_assumedNeg f_clauseCount f_nodeCount f_root f_depth f_result f_workPos f_workNeg f_workLive a_slotUsed a_slotPos a_slotNeg a_assumed a_weightPos a_weightNeg a_clausePos a_clauseNeg a_nodeChoice a_nodePos a_nodeNeg a_nodeFree a_nodeKids a_kids a_cacheKey a_cacheNode a_framePos a_frameNeg a_frameFree a_frameParts a_frameNext a_framePhase a_frameVar a_frameHigh a_partVars a_partClauses a_partNode a_value a_sizes a_poly a_product a_factorPos a_factorNeg ya_draft ya_has ya_compiledUsed ya_compiledHas ya_weights hF => kv_add hF v1 v2 v3) I
theorem i_vc_drop {k : Nat} {u : SX} {v : SY} (I : i_Rel k u v) (hk : k + 4 ≤ 2050) (v1 : Int32) : wpX_drop (fun r u' => wpY_drop (fun r' v' => r' = r ∧ i_Rel (k + 4) u' v') v v1) u v1 :=
  kr_el (Pd := fun u v => wpX_drop (fun r u' => wpY_drop (fun r' v' => r' = r ∧ i_Rel (k + 4) u' v') v v1) u v1) (fun n m ka f_fullMask f_draftPos f_draftNeg f_state f_assumedPos f_assumedNeg f_clauseCount f_nodeCount f_root f_depth f_result f_workPos f_workNeg f_workLive a_slotUsed a_slotPos a_slotNeg a_assumed a_weightPos a_weightNeg a_clausePos a_clauseNeg a_nodeChoice a_nodePos a_nodeNeg a_nodeFree a_nodeKids a_kids a_cacheKey a_cacheNode a_framePos a_frameNeg a_frameFree a_frameParts a_frameNext a_framePhase a_frameVar a_frameHigh a_partVars a_partClauses a_partNode a_value a_sizes a_poly a_product a_factorPos a_factorNeg ya_draft ya_has ya_compiledUsed ya_compiledHas ya_weights hF => kv_drop hF v1) I
theorem i_vc_holds {k : Nat} {u : SX} {v : SY} (I : i_Rel k u v) (hk : k + 4 ≤ 2050) (v1 : Int32) (v2 : Int32) : wpX_holds (fun r => wpY_holds (fun r' => r' = r ∧ i_Rel (k + 4) u v) v v1 v2) u v1 v2 :=
  kr_el (Pd := fun u v => wpX_holds (fun r => wpY_holds (fun r' => r' = r ∧ i_Rel (k + 4) u v) v v1 v2) u v1 v2) (fun n m ka f_fullMask f_draftPos f_draftNeg f_state f_assumedPos f_assumedNeg f_clauseCount f_nodeCount f_root f_depth f_result f_workPos f_workNeg f_workLive a_slotUsed a_slotPos a_slotNeg a_assumed a_weightPos a_weightNeg a_clausePos a_clauseNeg a_nodeChoice a_nodePos a_nodeNeg a_nodeFree a_nodeKids a_kids a_cacheKey a_cacheNode a_framePos a_frameNeg a_frameFree a_frameParts a_frameNext a_framePhase a_frameVar a_frameHigh a_partVars a_partClauses a_partNode a_value a_sizes a_poly a_product a_factorPos a_factorNeg ya_draft ya_has ya_compiledUsed ya_compiledHas ya_weights hF => kv_holds hF v1 v2) I
theorem i_vc_drafted {k : Nat} {u : SX} {v : SY} (I : i_Rel k u v) (hk : k + 4 ≤ 2050) (v1 : Int32) : wpX_drafted (fun r => wpY_drafted (fun r' => r' = r ∧ i_Rel (k + 4) u v) v v1) u v1 :=
  kr_el (Pd := fun u v => wpX_drafted (fun r => wpY_drafted (fun r' => r' = r ∧ i_Rel (k + 4) u v) v v1) u v1) (fun n m ka f_fullMask f_draftPos f_draftNeg f_state f_assumedPos f_assumedNeg f_clauseCount f_nodeCount f_root f_depth f_result f_workPos f_workNeg f_workLive a_slotUsed a_slotPos a_slotNeg a_assumed a_weightPos a_weightNeg a_clausePos a_clauseNeg a_nodeChoice a_nodePos a_nodeNeg a_nodeFree a_nodeKids a_kids a_cacheKey a_cacheNode a_framePos a_frameNeg a_frameFree a_frameParts a_frameNext a_framePhase a_frameVar a_frameHigh a_partVars a_partClauses a_partNode a_value a_sizes a_poly a_product a_factorPos a_factorNeg ya_draft ya_has ya_compiledUsed ya_compiledHas ya_weights hF => kv_drafted hF v1) I
theorem i_vc_compile {k : Nat} {u : SX} {v : SY} (I : i_Rel k u v) (hk : k + 4 ≤ 2050) : wpX_compile (fun r u' => wpY_compile (fun r' v' => r' = r ∧ i_Rel (k + 4) u' v') v) u :=
  kr_el (Pd := fun u v => wpX_compile (fun r u' => wpY_compile (fun r' v' => r' = r ∧ i_Rel (k + 4) u' v') v) u) (fun n m ka f_fullMask f_draftPos f_draftNeg f_state f_assumedPos f_assumedNeg f_clauseCount f_nodeCount f_root f_depth f_result f_workPos f_workNeg f_workLive a_slotUsed a_slotPos a_slotNeg a_assumed a_weightPos a_weightNeg a_clausePos a_clauseNeg a_nodeChoice a_nodePos a_nodeNeg a_nodeFree a_nodeKids a_kids a_cacheKey a_cacheNode a_framePos a_frameNeg a_frameFree a_frameParts a_frameNext a_framePhase a_frameVar a_frameHigh a_partVars a_partClauses a_partNode a_value a_sizes a_poly a_product a_factorPos a_factorNeg ya_draft ya_has ya_compiledUsed ya_compiledHas ya_weights hF => kv_compile hF) I
theorem i_vc_assume {k : Nat} {u : SX} {v : SY} (I : i_Rel k u v) (hk : k + 4 ≤ 2050) (v1 : Int32) : wpX_assume (fun r u' => wpY_assume (fun r' v' => r' = r ∧ i_Rel (k + 4) u' v') v v1) u v1 :=
  kr_el (Pd := fun u v => wpX_assume (fun r u' => wpY_assume (fun r' v' => r' = r ∧ i_Rel (k + 4) u' v') v v1) u v1) (fun n m ka f_fullMask f_draftPos f_draftNeg f_state f_assumedPos f_assumedNeg f_clauseCount f_nodeCount f_root f_depth f_result f_workPos f_workNeg f_workLive a_slotUsed a_slotPos a_slotNeg a_assumed a_weightPos a_weightNeg a_clausePos a_clauseNeg a_nodeChoice a_nodePos a_nodeNeg a_nodeFree a_nodeKids a_kids a_cacheKey a_cacheNode a_framePos a_frameNeg a_frameFree a_frameParts a_frameNext a_framePhase a_frameVar a_frameHigh a_partVars a_partClauses a_partNode a_value a_sizes a_poly a_product a_factorPos a_factorNeg ya_draft ya_has ya_compiledUsed ya_compiledHas ya_weights hF => kv_assume hF v1) I
theorem i_vc_retract {k : Nat} {u : SX} {v : SY} (I : i_Rel k u v) (hk : k + 4 ≤ 2050) : wpX_retract (fun r u' => wpY_retract (fun r' v' => r' = r ∧ i_Rel (k + 4) u' v') v) u :=
  kr_el (Pd := fun u v => wpX_retract (fun r u' => wpY_retract (fun r' v' => r' = r ∧ i_Rel (k + 4) u' v') v) u) (fun n m ka f_fullMask f_draftPos f_draftNeg f_state f_assumedPos f_assumedNeg f_clauseCount f_nodeCount f_root f_depth f_result f_workPos f_workNeg f_workLive a_slotUsed a_slotPos a_slotNeg a_assumed a_weightPos a_weightNeg a_clausePos a_clauseNeg a_nodeChoice a_nodePos a_nodeNeg a_nodeFree a_nodeKids a_kids a_cacheKey a_cacheNode a_framePos a_frameNeg a_frameFree a_frameParts a_frameNext a_framePhase a_frameVar a_frameHigh a_partVars a_partClauses a_partNode a_value a_sizes a_poly a_product a_factorPos a_factorNeg ya_draft ya_has ya_compiledUsed ya_compiledHas ya_weights hF => kv_retract hF) I
theorem i_vc_assumption {k : Nat} {u : SX} {v : SY} (I : i_Rel k u v) (hk : k + 4 ≤ 2050) (v1 : Int32) : wpX_assumption (fun r => wpY_assumption (fun r' => r' = r ∧ i_Rel (k + 4) u v) v v1) u v1 :=
  kr_el (Pd := fun u v => wpX_assumption (fun r => wpY_assumption (fun r' => r' = r ∧ i_Rel (k + 4) u v) v v1) u v1) (fun n m ka f_fullMask f_draftPos f_draftNeg f_state f_assumedPos f_assumedNeg f_clauseCount f_nodeCount f_root f_depth f_result f_workPos f_workNeg f_workLive a_slotUsed a_slotPos a_slotNeg a_assumed a_weightPos a_weightNeg a_clausePos a_clauseNeg a_nodeChoice a_nodePos a_nodeNeg a_nodeFree a_nodeKids a_kids a_cacheKey a_cacheNode a_framePos a_frameNeg a_frameFree a_frameParts a_frameNext a_framePhase a_frameVar a_frameHigh a_partVars a_partClauses a_partNode a_value a_sizes a_poly a_product a_factorPos a_factorNeg ya_draft ya_has ya_compiledUsed ya_compiledHas ya_weights hF => kv_assumption hF v1) I
theorem i_vc_setWeight {k : Nat} {u : SX} {v : SY} (I : i_Rel k u v) (hk : k + 4 ≤ 2050) (v1 : Int32) (v2 : Int32) : wpX_setWeight (fun r u' => wpY_setWeight (fun r' v' => r' = r ∧ i_Rel (k + 4) u' v') v v1 v2) u v1 v2 :=
  kr_el (Pd := fun u v => wpX_setWeight (fun r u' => wpY_setWeight (fun r' v' => r' = r ∧ i_Rel (k + 4) u' v') v v1 v2) u v1 v2) (fun n m ka f_fullMask f_draftPos f_draftNeg f_state f_assumedPos f_assumedNeg f_clauseCount f_nodeCount f_root f_depth f_result f_workPos f_workNeg f_workLive a_slotUsed a_slotPos a_slotNeg a_assumed a_weightPos a_weightNeg a_clausePos a_clauseNeg a_nodeChoice a_nodePos a_nodeNeg a_nodeFree a_nodeKids a_kids a_cacheKey a_cacheNode a_framePos a_frameNeg a_frameFree a_frameParts a_frameNext a_framePhase a_frameVar a_frameHigh a_partVars a_partClauses a_partNode a_value a_sizes a_poly a_product a_factorPos a_factorNeg ya_draft ya_has ya_compiledUsed ya_compiledHas ya_weights hF => kv_setWeight hF v1 v2) I
theorem i_vc_weight {k : Nat} {u : SX} {v : SY} (I : i_Rel k u v) (hk : k + 4 ≤ 2050) (v1 : Int32) : wpX_weight (fun r => wpY_weight (fun r' => r' = r ∧ i_Rel (k + 4) u v) v v1) u v1 :=
  kr_el (Pd := fun u v => wpX_weight (fun r => wpY_weight (fun r' => r' = r ∧ i_Rel (k + 4) u v) v v1) u v1) (fun n m ka f_fullMask f_draftPos f_draftNeg f_state f_assumedPos f_assumedNeg f_clauseCount f_nodeCount f_root f_depth f_result f_workPos f_workNeg f_workLive a_slotUsed a_slotPos a_slotNeg a_assumed a_weightPos a_weightNeg a_clausePos a_clauseNeg a_nodeChoice a_nodePos a_nodeNeg a_nodeFree a_nodeKids a_kids a_cacheKey a_cacheNode a_framePos a_frameNeg a_frameFree a_frameParts a_frameNext a_framePhase a_frameVar a_frameHigh a_partVars a_partClauses a_partNode a_value a_sizes a_poly a_product a_factorPos a_factorNeg ya_draft ya_has ya_compiledUsed ya_compiledHas ya_weights hF => kv_weight hF v1) I
theorem i_vc_count {k : Nat} {u : SX} {v : SY} (I : i_Rel k u v) (hk : k + 4 ≤ 2050) : wpX_count (fun r u' => wpY_count (fun r' => r' = r ∧ i_Rel (k + 4) u' v) v) u :=
  kr_el (Pd := fun u v => wpX_count (fun r u' => wpY_count (fun r' => r' = r ∧ i_Rel (k + 4) u' v) v) u) (fun n m ka f_fullMask f_draftPos f_draftNeg f_state f_assumedPos f_assumedNeg f_clauseCount f_nodeCount f_root f_depth f_result f_workPos f_workNeg f_workLive a_slotUsed a_slotPos a_slotNeg a_assumed a_weightPos a_weightNeg a_clausePos a_clauseNeg a_nodeChoice a_nodePos a_nodeNeg a_nodeFree a_nodeKids a_kids a_cacheKey a_cacheNode a_framePos a_frameNeg a_frameFree a_frameParts a_frameNext a_framePhase a_frameVar a_frameHigh a_partVars a_partClauses a_partNode a_value a_sizes a_poly a_product a_factorPos a_factorNeg ya_draft ya_has ya_compiledUsed ya_compiledHas ya_weights hF => kv_count hF) I
theorem i_vc_countWith {k : Nat} {u : SX} {v : SY} (I : i_Rel k u v) (hk : k + 4 ≤ 2050) (v1 : Int32) : wpX_countWith (fun r u' => wpY_countWith (fun r' => r' = r ∧ i_Rel (k + 4) u' v) v v1) u v1 :=
  kr_el (Pd := fun u v => wpX_countWith (fun r u' => wpY_countWith (fun r' => r' = r ∧ i_Rel (k + 4) u' v) v v1) u v1) (fun n m ka f_fullMask f_draftPos f_draftNeg f_state f_assumedPos f_assumedNeg f_clauseCount f_nodeCount f_root f_depth f_result f_workPos f_workNeg f_workLive a_slotUsed a_slotPos a_slotNeg a_assumed a_weightPos a_weightNeg a_clausePos a_clauseNeg a_nodeChoice a_nodePos a_nodeNeg a_nodeFree a_nodeKids a_kids a_cacheKey a_cacheNode a_framePos a_frameNeg a_frameFree a_frameParts a_frameNext a_framePhase a_frameVar a_frameHigh a_partVars a_partClauses a_partNode a_value a_sizes a_poly a_product a_factorPos a_factorNeg ya_draft ya_has ya_compiledUsed ya_compiledHas ya_weights hF => kv_countWith hF v1) I
theorem i_vc_weighted {k : Nat} {u : SX} {v : SY} (I : i_Rel k u v) (hk : k + 4 ≤ 2050) : wpX_weighted (fun r u' => wpY_weighted (fun r' => r' = r ∧ i_Rel (k + 4) u' v) v) u :=
  kr_el (Pd := fun u v => wpX_weighted (fun r u' => wpY_weighted (fun r' => r' = r ∧ i_Rel (k + 4) u' v) v) u) (fun n m ka f_fullMask f_draftPos f_draftNeg f_state f_assumedPos f_assumedNeg f_clauseCount f_nodeCount f_root f_depth f_result f_workPos f_workNeg f_workLive a_slotUsed a_slotPos a_slotNeg a_assumed a_weightPos a_weightNeg a_clausePos a_clauseNeg a_nodeChoice a_nodePos a_nodeNeg a_nodeFree a_nodeKids a_kids a_cacheKey a_cacheNode a_framePos a_frameNeg a_frameFree a_frameParts a_frameNext a_framePhase a_frameVar a_frameHigh a_partVars a_partClauses a_partNode a_value a_sizes a_poly a_product a_factorPos a_factorNeg ya_draft ya_has ya_compiledUsed ya_compiledHas ya_weights hF => kv_weighted hF) I
theorem i_vc_countOfSize {k : Nat} {u : SX} {v : SY} (I : i_Rel k u v) (hk : k + 4 ≤ 2050) (v1 : Int32) : wpX_countOfSize (fun r u' => wpY_countOfSize (fun r' => r' = r ∧ i_Rel (k + 4) u' v) v v1) u v1 :=
  kr_el (Pd := fun u v => wpX_countOfSize (fun r u' => wpY_countOfSize (fun r' => r' = r ∧ i_Rel (k + 4) u' v) v v1) u v1) (fun n m ka f_fullMask f_draftPos f_draftNeg f_state f_assumedPos f_assumedNeg f_clauseCount f_nodeCount f_root f_depth f_result f_workPos f_workNeg f_workLive a_slotUsed a_slotPos a_slotNeg a_assumed a_weightPos a_weightNeg a_clausePos a_clauseNeg a_nodeChoice a_nodePos a_nodeNeg a_nodeFree a_nodeKids a_kids a_cacheKey a_cacheNode a_framePos a_frameNeg a_frameFree a_frameParts a_frameNext a_framePhase a_frameVar a_frameHigh a_partVars a_partClauses a_partNode a_value a_sizes a_poly a_product a_factorPos a_factorNeg ya_draft ya_has ya_compiledUsed ya_compiledHas ya_weights hF => kv_countOfSize hF v1) I
theorem i_vc_modelAt {k : Nat} {u : SX} {v : SY} (I : i_Rel k u v) (hk : k + 4 ≤ 2050) (v1 : Int32) : wpX_modelAt (fun r u' => wpY_modelAt (fun r' => r' = r ∧ i_Rel (k + 4) u' v) v v1) u v1 :=
  kr_el (Pd := fun u v => wpX_modelAt (fun r u' => wpY_modelAt (fun r' => r' = r ∧ i_Rel (k + 4) u' v) v v1) u v1) (fun n m ka f_fullMask f_draftPos f_draftNeg f_state f_assumedPos f_assumedNeg f_clauseCount f_nodeCount f_root f_depth f_result f_workPos f_workNeg f_workLive a_slotUsed a_slotPos a_slotNeg a_assumed a_weightPos a_weightNeg a_clausePos a_clauseNeg a_nodeChoice a_nodePos a_nodeNeg a_nodeFree a_nodeKids a_kids a_cacheKey a_cacheNode a_framePos a_frameNeg a_frameFree a_frameParts a_frameNext a_framePhase a_frameVar a_frameHigh a_partVars a_partClauses a_partNode a_value a_sizes a_poly a_product a_factorPos a_factorNeg ya_draft ya_has ya_compiledUsed ya_compiledHas ya_weights hF => kv_modelAt hF v1) I
theorem i_vc_rankOf {k : Nat} {u : SX} {v : SY} (I : i_Rel k u v) (hk : k + 4 ≤ 2050) (v1 : Int32) : wpX_rankOf (fun r u' => wpY_rankOf (fun r' => r' = r ∧ i_Rel (k + 4) u' v) v v1) u v1 :=
  kr_el (Pd := fun u v => wpX_rankOf (fun r u' => wpY_rankOf (fun r' => r' = r ∧ i_Rel (k + 4) u' v) v v1) u v1) (fun n m ka f_fullMask f_draftPos f_draftNeg f_state f_assumedPos f_assumedNeg f_clauseCount f_nodeCount f_root f_depth f_result f_workPos f_workNeg f_workLive a_slotUsed a_slotPos a_slotNeg a_assumed a_weightPos a_weightNeg a_clausePos a_clauseNeg a_nodeChoice a_nodePos a_nodeNeg a_nodeFree a_nodeKids a_kids a_cacheKey a_cacheNode a_framePos a_frameNeg a_frameFree a_frameParts a_frameNext a_framePhase a_frameVar a_frameHigh a_partVars a_partClauses a_partNode a_value a_sizes a_poly a_product a_factorPos a_factorNeg ya_draft ya_has ya_compiledUsed ya_compiledHas ya_weights hF => kv_rankOf hF v1) I
theorem i_vc_accepts {k : Nat} {u : SX} {v : SY} (I : i_Rel k u v) (hk : k + 4 ≤ 2050) (v1 : Int32) : wpX_accepts (fun r u' => wpY_accepts (fun r' => r' = r ∧ i_Rel (k + 4) u' v) v v1) u v1 :=
  kr_el (Pd := fun u v => wpX_accepts (fun r u' => wpY_accepts (fun r' => r' = r ∧ i_Rel (k + 4) u' v) v v1) u v1) (fun n m ka f_fullMask f_draftPos f_draftNeg f_state f_assumedPos f_assumedNeg f_clauseCount f_nodeCount f_root f_depth f_result f_workPos f_workNeg f_workLive a_slotUsed a_slotPos a_slotNeg a_assumed a_weightPos a_weightNeg a_clausePos a_clauseNeg a_nodeChoice a_nodePos a_nodeNeg a_nodeFree a_nodeKids a_kids a_cacheKey a_cacheNode a_framePos a_frameNeg a_frameFree a_frameParts a_frameNext a_framePhase a_frameVar a_frameHigh a_partVars a_partClauses a_partNode a_value a_sizes a_poly a_product a_factorPos a_factorNeg ya_draft ya_has ya_compiledUsed ya_compiledHas ya_weights hF => kv_accepts hF v1) I
theorem i_vc_entails {k : Nat} {u : SX} {v : SY} (I : i_Rel k u v) (hk : k + 4 ≤ 2050) (v1 : Int32) (v2 : Int32) (v3 : Int32) : wpX_entails (fun r u' => wpY_entails (fun r' => r' = r ∧ i_Rel (k + 4) u' v) v v1 v2 v3) u v1 v2 v3 :=
  kr_el (Pd := fun u v => wpX_entails (fun r u' => wpY_entails (fun r' => r' = r ∧ i_Rel (k + 4) u' v) v v1 v2 v3) u v1 v2 v3) (fun n m ka f_fullMask f_draftPos f_draftNeg f_state f_assumedPos f_assumedNeg f_clauseCount f_nodeCount f_root f_depth f_result f_workPos f_workNeg f_workLive a_slotUsed a_slotPos a_slotNeg a_assumed a_weightPos a_weightNeg a_clausePos a_clauseNeg a_nodeChoice a_nodePos a_nodeNeg a_nodeFree a_nodeKids a_kids a_cacheKey a_cacheNode a_framePos a_frameNeg a_frameFree a_frameParts a_frameNext a_framePhase a_frameVar a_frameHigh a_partVars a_partClauses a_partNode a_value a_sizes a_poly a_product a_factorPos a_factorNeg ya_draft ya_has ya_compiledUsed ya_compiledHas ya_weights hF => kv_entails hF v1 v2 v3) I
end
