section
/-! pure rows to paste: stores, nI and lN arithmetic, masks, shifts, narrowing, branches by naturals (pk_le, pk_lt, pk_eq), loops (lp1 .. lp16: the measure of the state; rp1 ..: recursion), negatives. Take what you need -/
theorem pk_us {f : Nat → Int32} {k : Nat} {x : Int32} : upd f k x k = x := if_pos rfl
theorem pk_un {f : Nat → Int32} {k j : Nat} {x : Int32} (h : j ≠ k) : upd f k x j = f j := if_neg h
theorem pk_uLs {f : Nat → Int64} {k : Nat} {x : Int64} : vp_updL f k x k = x := if_pos rfl
theorem pk_uLn {f : Nat → Int64} {k j : Nat} {x : Int64} (h : j ≠ k) : vp_updL f k x j = f j := if_neg h
theorem pk_sub {a b : Nat} (h : b ≤ a) : nI a - nI b = nI (a - b) := by
  obtain ⟨c, rfl⟩ : ∃ c, a = c + b := ⟨a - b, by omega⟩
  rw [← nI_add, Int32.add_sub_cancel, Nat.add_sub_cancel]
theorem pk_m1 (n : Nat) : nI (n + 1) + (-1) = nI n := by
  rw [← nI_1, Int32.add_assoc, show (1 : Int32) + (-1) = 0 from rfl, Int32.add_zero]
theorem pk_mul (a b : Nat) : nI a * nI b = nI (a * b) := (Int32.ofNat_mul a b).symm
theorem pk_div {a d : Nat} (ha : a < 2 ^ 31) (h0 : 0 < d) (hd : d < 2 ^ 31) : nI a / nI d = nI (a / d) := by
  apply Int32.toInt_inj.mp
  rw [lg_idiv_nonneg (by rw [nI_toInt ha]; omega) (by rw [nI_toInt hd]; omega), nI_toInt ha, nI_toInt hd, nI_toInt (Nat.lt_of_le_of_lt (Nat.div_le_self a d) ha)]
  first | rfl | exact (Int.natCast_ediv _ _).symm
theorem pk_rem {a d : Nat} (ha : a < 2 ^ 31) (h0 : 0 < d) (hd : d < 2 ^ 31) : nI a - nI a / nI d * nI d = nI (a % d) := by
  rw [pk_div ha h0 hd, pk_mul, pk_sub (Nat.div_mul_le_self a d)]
  exact congrArg nI (by have := Nat.div_add_mod' a d; omega)
theorem pk_sub_toInt {a b : Nat} (ha : a < 2 ^ 30) (hb : b < 2 ^ 30) : (nI a - nI b).toInt = (a : Int) - b := by
  rw [Int32.toInt_sub, nI_toInt (by omega), nI_toInt (by omega)]
  exact Int.bmod_eq_of_le (by omega) (by omega)
theorem pk_sneg {a b : Nat} (hb : b < 2 ^ 30) (h : a < b) : nI a - nI b < 0 := by
  rw [Int32.lt_iff_toInt_lt, pk_sub_toInt (by omega) hb, show (0 : Int32).toInt = 0 from by decide]
  omega
theorem pk_ix (x : Int32) {n : Nat} (hn : n < 2 ^ 31) : x < 0 ∨ nI n ≤ x ∨ ∃ j : Nat, j < n ∧ x = nI j := by
  by_cases h : x < 0
  · exact Or.inl h
  · obtain ⟨j, hj, rfl⟩ := nI_of h
    by_cases h2 : j < n
    · exact Or.inr (Or.inr ⟨j, h2, rfl⟩)
    · exact Or.inr (Or.inl (nI_le (by omega) hj))
theorem pk_le {x y : Int32} {A B : Prop} (a b : Nat) (f : a ≤ b → A) (g : b < a → B) (hx : x = nI a := by rfl) (hy : y = nI b := by rfl) (ha : a < 2 ^ 31 := by omega) (hb : b < 2 ^ 31 := by omega) : (x ≤ y → A) ∧ (¬ x ≤ y → B) := by
  subst hx hy
  rw [nI_leI ha hb]
  exact ⟨f, fun z => g (by omega)⟩
theorem pk_lt {x y : Int32} {A B : Prop} (a b : Nat) (f : a < b → A) (g : b ≤ a → B) (hx : x = nI a := by rfl) (hy : y = nI b := by rfl) (ha : a < 2 ^ 31 := by omega) (hb : b < 2 ^ 31 := by omega) : (x < y → A) ∧ (¬ x < y → B) := by
  subst hx hy
  rw [nI_ltI ha hb]
  exact ⟨f, fun z => g (by omega)⟩
theorem pk_eq {x y : Int32} {A B : Prop} (a b : Nat) (f : a = b → A) (g : a ≠ b → B) (hx : x = nI a := by rfl) (hy : y = nI b := by rfl) (ha : a < 2 ^ 31 := by omega) (hb : b < 2 ^ 31 := by omega) : (x = y → A) ∧ (¬ x = y → B) := by
  subst hx hy
  rw [nI_eq ha hb]
  exact ⟨f, g⟩
theorem pk_in {x : Int32} (n N : Nat) (h : n < N) (hx : x = nI n := by rfl) (hN : N < 2 ^ 31 := by omega) : vp_in x N := by
  subst hx
  exact vp_in_nI h hN
theorem pk_cl {x : Int32} (n : Nat) (hx : x = nI n := by rfl) (h : n < 2 ^ 31 := by omega) : x.toNatClampNeg = n := by
  subst hx
  exact nI_clamp h
theorem pk_tn {n : Nat} (h : n < 2 ^ 32) : (nI n).toBitVec.toNat = n := Nat.mod_eq_of_lt h
theorem pk_and (x : Int32) {m : Int32} (k : Nat) (hm : m.toBitVec.toNat = 2 ^ k - 1) : x &&& m = nI (x.toBitVec.toNat % 2 ^ k) := by
  apply Int32.toBitVec_inj.mp
  apply BitVec.eq_of_toNat_eq
  rw [Int32.toBitVec_and, BitVec.toNat_and, hm, Nat.and_two_pow_sub_one_eq_mod]
  show _ = (BitVec.ofNat 32 _).toNat
  rw [BitVec.toNat_ofNat]
  exact (Nat.mod_eq_of_lt (Nat.lt_of_le_of_lt (Nat.mod_le _ _) x.toBitVec.isLt)).symm
theorem pk_andN {n : Nat} (h : n < 2 ^ 32) {m : Int32} (k : Nat) (hm : m.toBitVec.toNat = 2 ^ k - 1) : nI n &&& m = nI (n % 2 ^ k) := by
  rw [pk_and _ k hm, pk_tn h]
theorem pk_andE (x : Int32) {m : Int32} (k : Nat) (hm : m.toBitVec.toNat = 2 ^ k - 1) : ∃ j : Nat, j < 2 ^ k ∧ x &&& m = nI j := ⟨_, Nat.mod_lt _ (Nat.two_pow_pos k), pk_and x k hm⟩
theorem pk_andIn (x : Int32) {m : Int32} (k : Nat) (hm : m.toBitVec.toNat = 2 ^ k - 1) (hk : k ≤ 30) : vp_in (x &&& m) (2 ^ k) := by
  obtain ⟨j, hj, e⟩ := pk_andE x k hm
  rw [e]
  exact vp_in_nI hj (Nat.lt_of_le_of_lt (Nat.pow_le_pow_right (by decide) hk) (by decide))
theorem pk_shl (a s : Int32) (k : Nat) (hs : (s.toBitVec.smod 32).toNat = k) : (a <<< s).toBitVec.toNat = a.toBitVec.toNat * 2 ^ k % 2 ^ 32 := by
  show (a.toBitVec <<< (s.toBitVec.smod 32).toNat).toNat = _
  rw [hs, BitVec.toNat_shiftLeft, Nat.shiftLeft_eq]
theorem pk_shlN {n : Nat} (s : Int32) (k : Nat) (hs : (s.toBitVec.smod 32).toNat = k) (h : n * 2 ^ k < 2 ^ 32) : nI n <<< s = nI (n * 2 ^ k) := by
  apply Int32.toBitVec_inj.mp
  apply BitVec.eq_of_toNat_eq
  have hn : n < 2 ^ 32 := Nat.lt_of_le_of_lt (Nat.le_mul_of_pos_right n (Nat.two_pow_pos k)) h
  rw [pk_shl _ _ k hs, pk_tn hn, pk_tn h, Nat.mod_eq_of_lt h]
theorem pk_shr (a s : Int32) (k : Nat) (hs : (s.toBitVec.smod 32).toNat = k) : (a >>> s).toInt = a.toInt >>> k := by
  show (a.toBitVec.sshiftRight (s.toBitVec.smod 32).toNat).toInt = _
  rw [hs, BitVec.toInt_sshiftRight]
  rfl
theorem pk_shrN {n : Nat} (h : n < 2 ^ 31) (s : Int32) (k : Nat) (hs : (s.toBitVec.smod 32).toNat = k) : nI n >>> s = nI (n / 2 ^ k) := by
  apply Int32.toInt_inj.mp
  have h2 : n / 2 ^ k ≤ n := Nat.div_le_self _ _
  rw [pk_shr _ _ k hs, nI_toInt h, nI_toInt (by omega), Int.shiftRight_eq_div_pow]
  rfl
theorem pk_ushr (x s : Int32) (k : Nat) (hs : ((s.toUInt32 &&& Int32.toUInt32 31).toBitVec % 32).toNat = k) : (x.toUInt32 >>> (s.toUInt32 &&& Int32.toUInt32 31)).toInt32.toBitVec.toNat = x.toBitVec.toNat / 2 ^ k := by
  have e : (x.toUInt32 >>> (s.toUInt32 &&& Int32.toUInt32 31)).toInt32.toBitVec = x.toBitVec >>> k := by
    rw [← hs]
    exact UInt32.toBitVec_shiftRight _ _
  rw [e, BitVec.toNat_ushiftRight, Nat.shiftRight_eq_div_pow]
theorem pk_ushrN {n : Nat} (hn : n < 2 ^ 32) (s : Int32) (k : Nat) (hs : ((s.toUInt32 &&& Int32.toUInt32 31).toBitVec % 32).toNat = k) : ((nI n).toUInt32 >>> (s.toUInt32 &&& Int32.toUInt32 31)).toInt32 = nI (n / 2 ^ k) := by
  apply Int32.toBitVec_inj.mp
  apply BitVec.eq_of_toNat_eq
  rw [pk_ushr _ s k hs, pk_tn hn, pk_tn (Nat.lt_of_le_of_lt (Nat.div_le_self _ _) hn)]
theorem pk_nb (z : Int32) : narrow .byte (.int z.toInt8.toInt32) = .int z.toInt8.toInt32 := congrArg Value.int (by simp)
theorem pk_ns (z : Int32) : narrow .short (.int z.toInt16.toInt32) = .int z.toInt16.toInt32 := congrArg Value.int (by simp)
theorem pk_fb (r : Int32) : fits .byte (.int r.toInt8.toInt32) = true := by
  have ⟨a, b⟩ := lg_i2b_range r
  have h1 : (-128 : Int32).toInt = -128 := by decide
  have h2 : (127 : Int32).toInt = 127 := by decide
  simp only [fits, Bool.and_eq_true, decide_eq_true_eq, Int32.le_iff_toInt_le, h1, h2]
  omega
theorem pk_fs (r : Int32) : fits .short (.int r.toInt16.toInt32) = true := by
  have ⟨a, b⟩ := lg_i2s_range r
  have h1 : (-32768 : Int32).toInt = -32768 := by decide
  have h2 : (32767 : Int32).toInt = 32767 := by decide
  simp only [fits, Bool.and_eq_true, decide_eq_true_eq, Int32.le_iff_toInt_le, h1, h2]
  omega
theorem pk_charN {q : Nat} (hq : q < 65536) : narrow .char (.int (nI q)) = .int (nI q) ∧ fits .char (.int (nI q)) = true := by
  constructor
  · have e : (nI q).toUInt32.toUInt16.toUInt32.toInt32 = nI q := by
      apply Int32.toBitVec_inj.mp
      apply BitVec.eq_of_toNat_eq
      show (nI q).toUInt32.toUInt16.toUInt32.toNat = q % 2 ^ 32
      rw [UInt16.toNat_toUInt32, UInt32.toNat_toUInt16, show (nI q).toUInt32.toNat = q % 2 ^ 32 from rfl]
      omega
    exact congrArg Value.int e
  · have a : (0 : Int32) ≤ nI q := nI_pos' (by omega)
    have b : nI q ≤ 65535 := nI_le (b := 65535) (by omega) (by decide)
    show (decide ((0 : Int32) ≤ nI q) && decide (nI q ≤ 65535)) = true
    rw [decide_eq_true a, decide_eq_true b]
    rfl
theorem pk_char (x : Int32) : (x.toUInt32 % 65536).toInt32 = nI (x.toBitVec.toNat % 65536) := by
  apply Int32.toBitVec_inj.mp
  apply BitVec.eq_of_toNat_eq
  rw [pk_tn (by omega)]
  show (x.toUInt32 % 65536).toNat = _
  rw [UInt32.toNat_mod]
  rfl
theorem pk_nc (x : Int32) : narrow .char (.int (x.toUInt32 % 65536).toInt32) = .int (x.toUInt32 % 65536).toInt32 := by
  rw [pk_char]
  exact (pk_charN (Nat.mod_lt _ (by decide))).1
theorem pk_fc (x : Int32) : fits .char (.int (x.toUInt32 % 65536).toInt32) = true := by
  rw [pk_char]
  exact (pk_charN (Nat.mod_lt _ (by decide))).2
theorem pk_vb (z : Int32) : vp_nar .byte z.toInt8.toInt32 = z.toInt8.toInt32 := by rw [vp_nar_byte]; simp
theorem pk_vs (z : Int32) : vp_nar .short z.toInt16.toInt32 = z.toInt16.toInt32 := by rw [vp_nar_short]; simp
theorem pk_vc (z : Int32) : vp_nar .char (z.toUInt32 % 65536).toInt32 = (z.toUInt32 % 65536).toInt32 := Value.int.inj (pk_nc z)
theorem pk_loop {σ : Type} (W : Nat → Nat → σ → Prop) (I : Nat → σ → Prop) (e i0 : Nat) (s : σ) (hi : i0 ≤ e) (h0 : I i0 s) (hx : ∀ n s, I e s → W (n + 1) e s)
    (hs : ∀ n i s, i < e → I i s → (∀ s', I (i + 1) s' → W n (i + 1) s') → W (n + 1) i s) : ∃ n, W n i0 s :=
  ⟨e + 1, loop_i W I e hx hs (e + 1) i0 s hi (by omega) h0⟩
theorem pk_loopD {σ : Type} (W : Nat → Nat → σ → Prop) (I : Nat → σ → Prop) (hx : ∀ n s, I 0 s → W (n + 1) 0 s)
    (hs : ∀ n i s, I (i + 1) s → (∀ s', I i s' → W n i s') → W (n + 1) (i + 1) s) : ∀ (e : Nat) (s : σ), I e s → W (e + 1) e s := by
  intro e
  induction e with
  | zero => exact fun s h => hx 0 s h
  | succ e ih => exact fun s h => hs (e + 1) e s h (fun s' h' => ih s' h')
theorem ek_u {A : Prop} {B : Nat → Prop} {k N : Nat} (hk : k < N) (h : B k) : (some k = none → A) ∧ (∀ y : Nat, some k = some y → (y < N ∧ B y)) :=
  ⟨fun z => absurd z (Option.some_ne_none k), fun _ e => (by cases e; exact ⟨hk, h⟩)⟩
theorem ek_nu {A : Prop} {B : Nat → Prop} (h : A) : ((none : Option Nat) = none → A) ∧ (∀ y : Nat, (none : Option Nat) = some y → B y) :=
  ⟨fun _ => h, fun _ e => (by cases e)⟩
theorem ek_if {c d A B : Prop} (e : c ↔ d) (f : d → A) (g : ¬ d → B) : (c → A) ∧ (¬ c → B) :=
  ⟨fun z => f (e.mp z), fun z => g (fun y => z (e.mpr y))⟩
theorem ek_v {α : Sort _} {P : α → Prop} {a b : α} (e : a = b) (h : P b) : P a := e ▸ h
theorem co_2 {P : Nat → Prop} (h0 : P 0) (h1 : P 1) {i : Nat} (hi : i < 2) : P i :=
  match i, hi with
  | 0, _ => h0
  | 1, _ => h1
theorem co_3 {P : Nat → Prop} (h0 : P 0) (h1 : P 1) (h2 : P 2) {i : Nat} (hi : i < 3) : P i :=
  match i, hi with
  | 0, _ => h0
  | 1, _ => h1
  | 2, _ => h2
theorem co_4 {P : Nat → Prop} (h0 : P 0) (h1 : P 1) (h2 : P 2) (h3 : P 3) {i : Nat} (hi : i < 4) : P i :=
  match i, hi with
  | 0, _ => h0
  | 1, _ => h1
  | 2, _ => h2
  | 3, _ => h3
theorem sb_shr0 (x : Int32) : x >>> ((0 : Int32) &&& 31) = x := by
  rw [show ((0 : Int32) &&& 31) = 0 by decide]
  simp
theorem sb_shl0 (x : Int32) : x <<< ((0 : Int32) &&& 31) = x := by
  rw [show ((0 : Int32) &&& 31) = 0 by decide]
  simp
theorem sb_cl0 : (0 : Int32).toNatClampNeg = 0 := by decide
theorem sb_m1 {p : Nat} (h : 0 < p) : nI p + (-1) = nI (p - 1) := by
  obtain ⟨q, rfl⟩ : ∃ q, p = q + 1 := ⟨p - 1, by omega⟩
  exact pk_m1 q
def sb_b (c : Nat) : Int32 := (nI c).toInt8.toInt32
theorem sb_byte : ∀ c, c < 256 → sb_b c &&& 255 = nI c ∧ ((nI c).toUInt32 % 65536).toInt32 = nI c ∧ nI c ≤ 255 := by decide +kernel
theorem sb_negT {w : Nat} (h : w < 2 ^ 31) : (-nI w).toInt = -(w : Int) := by
  rw [Int32.toInt_neg, nI_toInt h]
  exact Int.bmod_eq_of_le (by omega) (by omega)
theorem sb_nle {a b : Nat} (ha : a < 2 ^ 31) (hb : b < 2 ^ 31) : -nI a ≤ -nI b ↔ b ≤ a := by
  rw [Int32.le_iff_toInt_le, sb_negT ha, sb_negT hb]
  omega
theorem sb_nlt {a b : Nat} (ha : a < 2 ^ 31) (hb : b < 2 ^ 31) : -nI a < -nI b ↔ b < a := by
  rw [Int32.lt_iff_toInt_lt, sb_negT ha, sb_negT hb]
  omega
theorem sb_cmp {A B : Prop} {x : Int32} (v c : Nat) (f : c ≤ v → A) (g : v < c → B) (hv : v < 2 ^ 31) (hx : x = -nI c := by rfl) (hc : c < 2 ^ 31 := by omega) : (-nI v ≤ x → A) ∧ (¬ -nI v ≤ x → B) := by
  subst hx
  rw [sb_nle hv hc]
  exact ⟨f, fun z => g (by omega)⟩
end
section
/-! the window of 144 words at h in the ring; addresses; steps on the field; who stands -/
def zput (w : Nat → Int32) (h : Nat) (c : Nat → Int32) : Nat → Int32 := fun j => if h ≤ j ∧ j < h + 144 then c (j - h) else w j
theorem zp_rd {w c : Nat → Int32} {h j : Nat} (hj : j < 144) : zput w h c (h + j) = c j := by
  unfold zput
  rw [if_pos ⟨Nat.le_add_right h j, by omega⟩, Nat.add_sub_cancel_left]
theorem zp_wr {w c : Nat → Int32} {h j : Nat} {v : Int32} (hj : j < 144) : upd (zput w h c) (h + j) v = zput w h (upd c j v) := by
  funext i
  unfold zput upd
  by_cases e : i = h + j
  · subst e
    rw [if_pos rfl, if_pos ⟨Nat.le_add_right h j, by omega⟩, if_pos (by omega)]
  · rw [if_neg e]
    dsimp only
    by_cases g : h ≤ i ∧ i < h + 144
    · rw [if_pos g, if_pos g, if_neg (by omega)]
    · rw [if_neg g, if_neg g]
theorem zp_off {w c : Nat → Int32} {h j : Nat} (hj : ¬ (h ≤ j ∧ j < h + 144)) : zput w h c j = w j := if_neg hj
theorem zp_id {w c : Nat → Int32} {h : Nat} (H : ∀ j, j < 144 → w (h + j) = c j) : w = zput w h c := by
  funext i
  unfold zput
  by_cases g : h ≤ i ∧ i < h + 144
  · rw [if_pos g, ← H (i - h) (by omega)]
    exact congrArg w (by omega)
  · rw [if_neg g]
theorem zp_cg {w c c' : Nat → Int32} {h : Nat} (H : ∀ j, j < 144 → c j = c' j) : zput w h c = zput w h c' := by
  funext i
  unfold zput
  by_cases g : h ≤ i ∧ i < h + 144
  · rw [if_pos g, if_pos g, H (i - h) (by omega)]
  · rw [if_neg g, if_neg g]
theorem zp_zp {w c c' : Nat → Int32} {h : Nat} : zput (zput w h c) h c' = zput w h c' := by
  funext i
  unfold zput
  by_cases g : h ≤ i ∧ i < h + 144
  · rw [if_pos g, if_pos g]
  · rw [if_neg g, if_neg g, if_neg g]
theorem ad_p (h k : Nat) : nI h + 96 + 5 * nI k = nI (h + (96 + 5 * k)) := by
  show nI h + nI 96 + nI 5 * nI k = _
  rw [pk_mul, nI_add, nI_add, Nat.add_assoc]
theorem ad_d (h k : Nat) : nI h + 111 + 5 * nI k = nI (h + (111 + 5 * k)) := by
  show nI h + nI 111 + nI 5 * nI k = _
  rw [pk_mul, nI_add, nI_add, Nat.add_assoc]
theorem ad_b (h k : Nat) : nI h + 122 + 3 * nI k = nI (h + (122 + 3 * k)) := by
  show nI h + nI 122 + nI 3 * nI k = _
  rw [pk_mul, nI_add, nI_add, Nat.add_assoc]
theorem ad_z (h k : Nat) : nI h + 122 + nI k = nI (h + (122 + k)) := by
  show nI h + nI 122 + nI k = _
  rw [nI_add, nI_add, Nat.add_assoc]
theorem ad_p1 (h k : Nat) : nI (h + (96 + 5 * k)) + 1 = nI (h + (97 + 5 * k)) := by
  rw [nI_1]; exact congrArg nI (by omega)
theorem ad_p2 (h k : Nat) : nI (h + (96 + 5 * k)) + 2 = nI (h + (98 + 5 * k)) := by
  show nI _ + nI 2 = _
  rw [nI_add]; exact congrArg nI (by omega)
theorem ad_p3 (h k : Nat) : nI (h + (96 + 5 * k)) + 3 = nI (h + (99 + 5 * k)) := by
  show nI _ + nI 3 = _
  rw [nI_add]; exact congrArg nI (by omega)
theorem ad_p4 (h k : Nat) : nI (h + (96 + 5 * k)) + 4 = nI (h + (100 + 5 * k)) := by
  show nI _ + nI 4 = _
  rw [nI_add]; exact congrArg nI (by omega)
theorem ad_d1 (h k : Nat) : nI (h + (111 + 5 * k)) + 1 = nI (h + (112 + 5 * k)) := by
  rw [nI_1]; exact congrArg nI (by omega)
theorem ad_d2 (h k : Nat) : nI (h + (111 + 5 * k)) + 2 = nI (h + (113 + 5 * k)) := by
  show nI _ + nI 2 = _
  rw [nI_add]; exact congrArg nI (by omega)
theorem ad_d3 (h k : Nat) : nI (h + (111 + 5 * k)) + 3 = nI (h + (114 + 5 * k)) := by
  show nI _ + nI 3 = _
  rw [nI_add]; exact congrArg nI (by omega)
theorem ad_d4 (h k : Nat) : nI (h + (111 + 5 * k)) + 4 = nI (h + (115 + 5 * k)) := by
  show nI _ + nI 4 = _
  rw [nI_add]; exact congrArg nI (by omega)
theorem ad_b1 (h k : Nat) : nI (h + (122 + 3 * k)) + 1 = nI (h + (123 + 3 * k)) := by
  rw [nI_1]; exact congrArg nI (by omega)
theorem ad_b2 (h k : Nat) : nI (h + (122 + 3 * k)) + 2 = nI (h + (124 + 3 * k)) := by
  show nI _ + nI 2 = _
  rw [nI_add]; exact congrArg nI (by omega)
theorem ad_140 (h : Nat) : nI h + 140 = nI (h + 140) := by
  show nI h + nI 140 = _
  rw [nI_add]
theorem ad_121 (h : Nat) : nI h + 121 = nI (h + 121) := by
  show nI h + nI 121 = _
  rw [nI_add]
/-- a read, a write, by address -/
theorem xr {w c : Nat → Int32} {h : Nat} {e : Int32} {P : Int32 → Prop} (j : Nat) (he : e = nI (h + j)) (hj : j < 144) (hh : h ≤ 2160) (H : P (c j)) : vp_in e 2304 ∧ ∀ y, y = zput w h c e.toNatClampNeg → P y := by
  subst he
  refine ⟨vp_in_nI (by omega) (by decide), fun y ey => ?_⟩
  rw [ey, nI_clamp (by omega), zp_rd hj]
  exact H
theorem xw {w c : Nat → Int32} {h : Nat} {e v : Int32} {P : (Nat → Int32) → Prop} (j : Nat) (he : e = nI (h + j)) (hj : j < 144) (hh : h ≤ 2160) (H : P (zput w h (upd c j v))) : vp_in e 2304 ∧ ∀ y, y = upd (zput w h c) e.toNatClampNeg v → P y := by
  subst he
  refine ⟨vp_in_nI (by omega) (by decide), fun y ey => ?_⟩
  rw [ey, nI_clamp (by omega), zp_wr hj]
  exact H
theorem xv {h : Nat} {e : Int32} (j : Nat) (he : e = nI (h + j)) (hj : j < 144) (hh : h ≤ 2160) : vp_in e 2304 := by
  subst he
  exact vp_in_nI (by omega) (by decide)
theorem xe {w c : Nat → Int32} {h : Nat} {e : Int32} (j : Nat) (he : e = nI (h + j)) (hj : j < 144) (hh : h ≤ 2160) : zput w h c e.toNatClampNeg = c j := by
  subst he
  rw [nI_clamp (by omega), zp_rd hj]
/-- the cell n steps on, 96 outside -/
def bz (q d n : Nat) : Nat := if d = 0 then (if n ≤ q / 12 then q - 12 * n else 96) else if d = 1 then (if q % 12 + n < 12 then q + n else 96) else if d = 2 then (if q / 12 + n < 8 then q + 12 * n else 96) else (if n ≤ q % 12 then q - n else 96)
theorem bz_le {q d n : Nat} (hq : q < 96) : bz q d n ≤ 96 := by
  unfold bz
  repeat' split
  all_goals omega
theorem bz_s {q d n : Nat} (hq : q < 96) (h : bz q d n < 96) : bz (bz q d n) d 1 = bz q d (n + 1) := by
  unfold bz at h ⊢
  by_cases h0 : d = 0
  · simp only [if_pos h0] at h ⊢
    split at h
    · rename_i hn
      rw [if_pos hn]
      by_cases h1 : n + 1 ≤ q / 12
      · rw [if_pos h1, if_pos (by omega)]; omega
      · rw [if_neg h1, if_neg (by omega)]
    · omega
  · simp only [if_neg h0] at h ⊢
    by_cases h1 : d = 1
    · simp only [if_pos h1] at h ⊢
      split at h
      · rename_i hn
        rw [if_pos hn]
        by_cases h2 : q % 12 + (n + 1) < 12
        · rw [if_pos h2, if_pos (by omega)]; omega
        · rw [if_neg h2, if_neg (by omega)]
      · omega
    · simp only [if_neg h1] at h ⊢
      by_cases h2 : d = 2
      · simp only [if_pos h2] at h ⊢
        split at h
        · rename_i hn
          rw [if_pos hn]
          by_cases h3 : q / 12 + (n + 1) < 8
          · rw [if_pos h3, if_pos (by omega)]; omega
          · rw [if_neg h3, if_neg (by omega)]
        · omega
      · simp only [if_neg h2] at h ⊢
        split at h
        · rename_i hn
          rw [if_pos hn]
          by_cases h3 : n + 1 ≤ q % 12
          · rw [if_pos h3, if_pos (by omega)]; omega
          · rw [if_neg h3, if_neg (by omega)]
        · omega
theorem bz_o {q d n : Nat} (hq : q < 96) (h : ¬ bz q d n < 96) : bz q d (n + 1) = 96 := by
  unfold bz at h ⊢
  by_cases h0 : d = 0
  · simp only [if_pos h0] at h ⊢
    split at h
    · omega
    · rw [if_neg (by omega)]
  · simp only [if_neg h0] at h ⊢
    by_cases h1 : d = 1
    · simp only [if_pos h1] at h ⊢
      split at h
      · omega
      · rw [if_neg (by omega)]
    · simp only [if_neg h1] at h ⊢
      by_cases h2 : d = 2
      · simp only [if_pos h2] at h ⊢
        split at h
        · omega
        · rw [if_neg (by omega)]
      · simp only [if_neg h2] at h ⊢
        split at h
        · omega
        · rw [if_neg (by omega)]
theorem rm12 {q : Nat} (h : q < 2 ^ 31) : nI q - nI q / 12 * 12 = nI (q % 12) := pk_rem (d := 12) h (by decide) (by decide)
theorem dv12 {q : Nat} (h : q < 2 ^ 31) : nI q / 12 = nI (q / 12) := pk_div (d := 12) h (by decide) (by decide)
theorem i32_0 : (0 : Int32).toInt = 0 := by decide
theorem i32_m1 : (-1 : Int32).toInt = -1 := by decide
theorem ngm1 : (-1 : Int32) < 0 := by decide
theorem ng12 {q : Nat} (h : q < 12) : nI q - 12 < 0 := pk_sneg (b := 12) (by decide) h
theorem X_next {post : Int32 → Prop} {q d : Nat} (hq : q < 96) (hd : d < 4) (hi : bz q d 1 < 96 → post (nI (bz q d 1))) (ho : bz q d 1 = 96 → ∀ r : Int32, r < 0 → post r) : wpX_next post (nI q) (nI d) := by
  unfold wpX_next
  have e12 : ¬ (12 : Int32) = 0 := by decide
  have er := rm12 (q := q) (by omega)
  rw [er]
  refine br_f (nI_pos (by omega)) ?_
  have h3 : d = 0 ∨ d = 1 ∨ d = 2 ∨ d = 3 := by omega
  rcases h3 with rfl | rfl | rfl | rfl
  · refine br_f (by decide) (br_t (by decide) ?_)
    by_cases g : 1 ≤ q / 12
    · have e : bz q 0 1 = q - 12 := by unfold bz; rw [if_pos rfl, if_pos g]
      have e2 : nI q - 12 = nI (q - 12) := pk_sub (b := 12) (by omega)
      rw [e2, ← e]
      exact hi (by omega)
    · have e : bz q 0 1 = 96 := by unfold bz; rw [if_pos rfl, if_neg g]
      exact ho e _ (ng12 (by omega))
  · refine br_f (by decide) (br_f (by decide) (br_t (by decide) ⟨e12, ?_⟩))
    by_cases g : q % 12 + 1 < 12
    · have e : bz q 1 1 = q + 1 := by unfold bz; rw [if_neg (by decide), if_pos rfl, if_pos g]
      refine br_f (fun z => ?_) ?_
      · have := (nI_eq (b := 11) (by omega) (by decide)).mp z
        omega
      · rw [nI_1, ← e]
        exact hi (by omega)
    · have e : bz q 1 1 = 96 := by unfold bz; rw [if_neg (by decide), if_pos rfl, if_neg g]
      exact br_t ((nI_eq (b := 11) (by omega) (by decide)).mpr (by omega)) (ho e _ ngm1)
  · refine br_f (by decide) (br_f (by decide) (br_f (by decide) (br_t (by decide) ?_)))
    have e2 : nI q + 12 = nI (q + 12) := nI_add q 12
    rw [e2]
    by_cases g : q / 12 + 1 < 8
    · have e : bz q 2 1 = q + 12 := by unfold bz; rw [if_neg (by decide), if_neg (by decide), if_pos rfl, if_pos g]
      refine br_t (nI_le (b := 95) (by omega) (by decide)) ?_
      rw [← e]
      exact hi (by omega)
    · have e : bz q 2 1 = 96 := by unfold bz; rw [if_neg (by decide), if_neg (by decide), if_pos rfl, if_neg g]
      exact br_f (nI_ge (a := 95) (by omega) (by omega)) (ho e _ ngm1)
  · refine br_t (by decide) ⟨e12, ?_⟩
    by_cases g : 1 ≤ q % 12
    · have e : bz q 3 1 = q - 1 := by unfold bz; rw [if_neg (by decide), if_neg (by decide), if_neg (by decide), if_pos g]
      have e2 : nI q - 1 = nI (q - 1) := pk_sub (b := 1) (by omega)
      refine br_f (nI_ne0 (by omega) (by omega)) ?_
      rw [e2, ← e]
      exact hi (by omega)
    · have e : bz q 3 1 = 96 := by unfold bz; rw [if_neg (by decide), if_neg (by decide), if_neg (by decide), if_neg g]
      refine br_t ?_ (ho e _ ngm1)
      rw [show q % 12 = 0 by omega]
      exact nI_0
theorem Y_inside {post : Int32 → Prop} {x y : Int32} (h1 : 0 ≤ x.toInt ∧ x.toInt < 12 ∧ 0 ≤ y.toInt ∧ y.toInt < 8 → post 1) (h0 : ¬ (0 ≤ x.toInt ∧ x.toInt < 12 ∧ 0 ≤ y.toInt ∧ y.toInt < 8) → post 0) : wpY_inside post x y := by
  have e0 := i32_0
  have e12 : (12 : Int32).toInt = 12 := by decide
  have e8 : (8 : Int32).toInt = 8 := by decide
  unfold wpY_inside
  simp only [Int32.lt_iff_toInt_lt, Int32.le_iff_toInt_le, e0, e12, e8]
  refine br_c (fun z => h0 (by omega)) (fun z => br_c (fun z2 => h0 (by omega)) (fun z2 => br_c (fun z3 => h0 (by omega)) (fun z3 => br_c (fun z4 => h0 (by omega)) (fun z4 => h1 (by omega)))))
theorem Y_b49 {post : Int32 → Prop} {x z0 z1 : Int32} (h1 : 0 ≤ x.toInt ∧ x.toInt < 12 ∧ 0 ≤ (z1 + z0).toInt ∧ (z1 + z0).toInt < 8 → post (12 * (z1 + z0) + x)) (h0 : ¬ (0 ≤ x.toInt ∧ x.toInt < 12 ∧ 0 ≤ (z1 + z0).toInt ∧ (z1 + z0).toInt < 8) → post (-1)) : wY_beyond_49 post x z0 z1 := by
  unfold wY_beyond_49
  refine nm_e (Y_inside (fun z => br_f (by decide) (h1 z)) (fun z => br_t rfl (h0 z)))
theorem nI_cell {x y : Nat} : 12 * nI y + nI x = nI (12 * y + x) := by
  show nI 12 * nI y + nI x = _
  rw [pk_mul, nI_add]
theorem ad_neg (a b : Int32) : a + -b = a - b := (Int32.sub_eq_add_neg a b).symm
theorem Y_beyond {post : Int32 → Prop} {q d n : Nat} (hq : q < 96) (hd : d < 4) (hn : n < 100) (hi : bz q d n < 96 → post (nI (bz q d n))) (ho : bz q d n = 96 → post (-1)) : wpY_beyond post (nI q) (nI d) (nI n) := by
  unfold wpY_beyond
  have e12 : ¬ (12 : Int32) = 0 := by decide
  have er := rm12 (q := q) (by omega)
  have ed := dv12 (q := q) (by omega)
  have ex : (nI (q % 12)).toInt = ((q % 12 : Nat) : Int) := nI_toInt (by omega)
  have ey : (nI (q / 12)).toInt = ((q / 12 : Nat) : Int) := nI_toInt (by omega)
  rw [er]
  refine ⟨e12, ?_⟩
  have h3 : d = 0 ∨ d = 1 ∨ d = 2 ∨ d = 3 := by omega
  rcases h3 with rfl | rfl | rfl | rfl
  · refine br_f (by decide) (br_f (by decide) ?_)
    unfold wY_beyond_24
    refine nm_r (Int32.add_zero _) ⟨e12, br_f (by decide) (br_t (by decide) ?_)⟩
    rw [ed]
    have es : (nI (q / 12) + -nI n).toInt = ((q / 12 : Nat) : Int) - n := by rw [ad_neg]; exact pk_sub_toInt (by omega) (by omega)
    refine Y_b49 ?_ ?_
    · rw [es, ex]
      intro z
      have g : n ≤ q / 12 := by omega
      have e : bz q 0 n = q - 12 * n := by unfold bz; rw [if_pos rfl, if_pos g]
      rw [ad_neg, pk_sub g, nI_cell, show 12 * (q / 12 - n) + q % 12 = bz q 0 n by omega]
      exact hi (by omega)
    · rw [es, ex]
      intro z
      have g : ¬ n ≤ q / 12 := by omega
      exact ho (by unfold bz; rw [if_pos rfl, if_neg g])
  · refine br_t (by decide) ?_
    unfold wY_beyond_24
    refine nm_r (nI_add _ _) ⟨e12, br_f (by decide) (br_f (by decide) ?_)⟩
    rw [ed]
    have es : (nI (q / 12) + 0).toInt = ((q / 12 : Nat) : Int) := by rw [Int32.add_zero]; exact ey
    have ez : (nI (q % 12 + n)).toInt = ((q % 12 + n : Nat) : Int) := nI_toInt (by omega)
    refine Y_b49 ?_ ?_
    · rw [es, ez]
      intro z
      have g : q % 12 + n < 12 := by omega
      have e : bz q 1 n = q + n := by unfold bz; rw [if_neg (by decide), if_pos rfl, if_pos g]
      rw [Int32.add_zero, nI_cell, show 12 * (q / 12) + (q % 12 + n) = bz q 1 n by omega]
      exact hi (by omega)
    · rw [es, ez]
      intro z
      have g : ¬ q % 12 + n < 12 := by omega
      exact ho (by unfold bz; rw [if_neg (by decide), if_pos rfl, if_neg g])
  · refine br_f (by decide) (br_f (by decide) ?_)
    unfold wY_beyond_24
    refine nm_r (Int32.add_zero _) ⟨e12, br_t (by decide) ?_⟩
    rw [ed]
    have es : (nI (q / 12) + nI n).toInt = ((q / 12 + n : Nat) : Int) := by rw [nI_add]; exact nI_toInt (by omega)
    refine Y_b49 ?_ ?_
    · rw [es, ex]
      intro z
      have g : q / 12 + n < 8 := by omega
      have e : bz q 2 n = q + 12 * n := by unfold bz; rw [if_neg (by decide), if_neg (by decide), if_pos rfl, if_pos g]
      rw [nI_add, nI_cell, show 12 * (q / 12 + n) + q % 12 = bz q 2 n by omega]
      exact hi (by omega)
    · rw [es, ex]
      intro z
      have g : ¬ q / 12 + n < 8 := by omega
      exact ho (by unfold bz; rw [if_neg (by decide), if_neg (by decide), if_pos rfl, if_neg g])
  · refine br_f (by decide) (br_t (by decide) ?_)
    unfold wY_beyond_24
    refine nm_r (ad_neg _ _) ⟨e12, br_f (by decide) (br_f (by decide) ?_)⟩
    rw [ed]
    have es : (nI (q / 12) + 0).toInt = ((q / 12 : Nat) : Int) := by rw [Int32.add_zero]; exact ey
    have ez : (nI (q % 12) - nI n).toInt = ((q % 12 : Nat) : Int) - n := pk_sub_toInt (by omega) (by omega)
    refine Y_b49 ?_ ?_
    · rw [es, ez]
      intro z
      have g : n ≤ q % 12 := by omega
      have e : bz q 3 n = q - n := by unfold bz; rw [if_neg (by decide), if_neg (by decide), if_neg (by decide), if_pos g]
      rw [Int32.add_zero, pk_sub g, nI_cell, show 12 * (q / 12) + (q % 12 - n) = bz q 3 n by omega]
      exact hi (by omega)
    · rw [es, ez]
      intro z
      have g : ¬ n ≤ q % 12 := by omega
      exact ho (by unfold bz; rw [if_neg (by decide), if_neg (by decide), if_neg (by decide), if_neg g])
/-- who stands on a cell -/
def stf (c : Nat → Int32) (q : Int32) : Nat → Nat → Int32
  | 0, _ => -1
  | d + 1, k => if c (96 + 5 * k) = q then nI k else stf c q d (k + 1)
def st5 (c : Nat → Int32) (q : Int32) : Int32 := stf c q 5 0
theorem stf_c {c : Nat → Int32} {q : Int32} : ∀ d k, k + d = 5 → stf c q d k = -1 ∨ ∃ t, t < 5 ∧ stf c q d k = nI t := by
  intro d
  induction d with
  | zero => intro k hk; exact Or.inl rfl
  | succ d ih =>
    intro k hk
    by_cases e : c (96 + 5 * k) = q
    · exact Or.inr ⟨k, by omega, if_pos e⟩
    · rw [stf, if_neg e]
      exact ih (k + 1) (by omega)
theorem st5_c (c : Nat → Int32) (q : Int32) : st5 c q = -1 ∨ ∃ t, t < 5 ∧ st5 c q = nI t := stf_c 5 0 rfl
section
variable {xH fS pR xS xD xN xC xL xB xK : Int32} {wo be dr ho op ar le xk xc xl xb xs xa : Nat → Int32}
theorem X_stl {post : Int32 → Prop} {q : Int32} {w c : Nat → Int32} {h : Nat} (hh : h ≤ 2160) : ∀ d k, k + d = 5 → post (stf c q d k) → wX_standing_2 post q (nI h) fS pR xS xD xN xC xL xB xK (zput w h c) be dr ho op ar le xk xc xl xb xs xa (d + 1) (nI k) := by
  intro d
  induction d with
  | zero =>
    intro k hk hp
    obtain rfl : k = 5 := by omega
    exact br_t (by decide) hp
  | succ d ih =>
    intro k hk hp
    have er : zput w h c (nI h + 96 + 5 * nI k).toNatClampNeg = c (96 + 5 * k) := xe _ (ad_p h k) (by omega) hh
    refine br_f (nI_ge (b := 5) (by omega) (by decide)) ⟨xv _ (ad_p h k) (by omega) hh, ?_⟩
    rw [er]
    by_cases e : c (96 + 5 * k) = q
    · rw [stf, if_pos e] at hp
      exact br_t e hp
    · rw [stf, if_neg e] at hp
      exact br_f e (nm_r (nI_1 k) (ih (k + 1) (by omega) hp))
theorem X_standing {post : Int32 → Prop} {q : Int32} {w c : Nat → Int32} {h : Nat} (hh : h ≤ 2160) (hp : post (st5 c q)) : wpX_standing post (nI h, fS, pR, xS, xD, xN, xC, xL, xB, xK, zput w h c, be, dr, ho, op, ar, le, xk, xc, xl, xb, xs, xa) q := ⟨6, X_stl hh 5 0 rfl hp⟩
theorem X_kindOf {post : Int32 → Prop} {r : Nat} {w c : Nat → Int32} {h : Nat} (hh : h ≤ 2160) (hr : r < 96) (hp : post (c r)) : wpX_kindOf post (nI h, fS, pR, xS, xD, xN, xC, xL, xB, xK, zput w h c, be, dr, ho, op, ar, le, xk, xc, xl, xb, xs, xa) (nI r) := by
  unfold wpX_kindOf
  refine br_t (nI_pos' (by omega)) ⟨xv r (nI_add h r) (by omega) hh, ?_⟩
  rw [xe r (nI_add h r) (by omega) hh]
  exact hp
theorem X_kindOut {post : Int32 → Prop} {r : Int32} (hr : r < 0) (hp : post 1) : wpX_kindOf post (xH, fS, pR, xS, xD, xN, xC, xL, xB, xK, wo, be, dr, ho, op, ar, le, xk, xc, xl, xb, xs, xa) r := by
  unfold wpX_kindOf
  exact br_f (Int32.not_le.mpr hr) hp
end
section
variable {fS pR yL yF yK yC yS : Int32} {dr ho op ar le yk yl yf yr fd pl di sh sc aw nx aO bO bu tu ow : Nat → Int32}
theorem Y_whl {post : Int32 → Prop} {q : Int32} {c : Nat → Int32} (H : ∀ k, k < 5 → c (96 + 5 * k) = pl k) : ∀ d k, k + d = 5 → post (stf c q d k) → wY_who_2 post q fS pR yL yF yK yC yS dr ho op ar le yk yl yf yr fd pl di sh sc aw nx aO bO bu tu ow (d + 1) (nI k) := by
  intro d
  induction d with
  | zero =>
    intro k hk hp
    obtain rfl : k = 5 := by omega
    exact br_t (by decide) hp
  | succ d ih =>
    intro k hk hp
    have er : pl (nI k).toNatClampNeg = c (96 + 5 * k) := by rw [nI_clamp (by omega)]; exact (H k (by omega)).symm
    refine br_f (nI_ge (b := 5) (by omega) (by decide)) ⟨vp_in_nI (by omega) (by decide), ?_⟩
    rw [er]
    by_cases e : c (96 + 5 * k) = q
    · rw [stf, if_pos e] at hp
      exact br_t e hp
    · rw [stf, if_neg e] at hp
      exact br_f e (nm_r (nI_1 k) (ih (k + 1) (by omega) hp))
theorem Y_who {post : Int32 → Prop} {q : Int32} {c : Nat → Int32} (H : ∀ k, k < 5 → c (96 + 5 * k) = pl k) (hp : post (st5 c q)) : wpY_who post (fS, pR, yL, yF, yK, yC, yS, dr, ho, op, ar, le, yk, yl, yf, yr, fd, pl, di, sh, sc, aw, nx, aO, bO, bu, tu, ow) q := ⟨6, Y_whl H 5 0 rfl hp⟩
end
end
section
/-! the window against the reference: cells, players, drones, seed (rB); a bullet (rW) -/
def rB (c : Nat → Int32) (yS : Int32) (fd pl di sh sc aw nx aO bO : Nat → Int32) : Prop :=
  c 121 = yS ∧ (∀ k, k < 96 → c (k) = fd k) ∧ (∀ k, k < 5 → c (96 + 5 * k) = pl k) ∧ (∀ k, k < 5 → c (97 + 5 * k) = di k) ∧ (∀ k, k < 3 → c (98 + 5 * k) = sh k) ∧ (∀ k, k < 3 → c (99 + 5 * k) = sc k) ∧ (∀ k, k < 3 → c (100 + 5 * k) = aw k) ∧ (∀ k, k < 2 → c (113 + 5 * k) = nx k) ∧ (∀ k, k < 2 → c (114 + 5 * k) = aO k) ∧ (∀ k, k < 2 → c (115 + 5 * k) = bO k)
def rW (c bu tu ow : Nat → Int32) (j : Nat) : Prop := c (122 + 3 * j) = bu j ∧ c (123 + 3 * j) = tu j ∧ c (124 + 3 * j) = ow j
section
variable {c c1 : Nat → Int32} {yS v : Int32} {fd pl di sh sc aw nx aO bO : Nat → Int32} {k : Nat}
theorem rB_fd (H : rB c yS fd pl di sh sc aw nx aO bO) (hk : k < 96) : rB (upd c (k) v) yS (upd fd k v) pl di sh sc aw nx aO bO := by
  obtain ⟨hs, h0, h1, h2, h3, h4, h5, h6, h7, h8⟩ := H
  refine ⟨(pk_un (by omega)).trans hs, ?_, fun j hj => (pk_un (by omega)).trans (h1 j hj), fun j hj => (pk_un (by omega)).trans (h2 j hj), fun j hj => (pk_un (by omega)).trans (h3 j hj), fun j hj => (pk_un (by omega)).trans (h4 j hj), fun j hj => (pk_un (by omega)).trans (h5 j hj), fun j hj => (pk_un (by omega)).trans (h6 j hj), fun j hj => (pk_un (by omega)).trans (h7 j hj), fun j hj => (pk_un (by omega)).trans (h8 j hj)⟩
  intro j hj
  by_cases e : j = k
  · subst e; rw [pk_us, pk_us]
  · rw [pk_un (by omega), pk_un e]; exact h0 j hj
theorem rB_pl (H : rB c yS fd pl di sh sc aw nx aO bO) (hk : k < 5) : rB (upd c (96 + 5 * k) v) yS fd (upd pl k v) di sh sc aw nx aO bO := by
  obtain ⟨hs, h0, h1, h2, h3, h4, h5, h6, h7, h8⟩ := H
  refine ⟨(pk_un (by omega)).trans hs, fun j hj => (pk_un (by omega)).trans (h0 j hj), ?_, fun j hj => (pk_un (by omega)).trans (h2 j hj), fun j hj => (pk_un (by omega)).trans (h3 j hj), fun j hj => (pk_un (by omega)).trans (h4 j hj), fun j hj => (pk_un (by omega)).trans (h5 j hj), fun j hj => (pk_un (by omega)).trans (h6 j hj), fun j hj => (pk_un (by omega)).trans (h7 j hj), fun j hj => (pk_un (by omega)).trans (h8 j hj)⟩
  intro j hj
  by_cases e : j = k
  · subst e; rw [pk_us, pk_us]
  · rw [pk_un (by omega), pk_un e]; exact h1 j hj
theorem rB_di (H : rB c yS fd pl di sh sc aw nx aO bO) (hk : k < 5) : rB (upd c (97 + 5 * k) v) yS fd pl (upd di k v) sh sc aw nx aO bO := by
  obtain ⟨hs, h0, h1, h2, h3, h4, h5, h6, h7, h8⟩ := H
  refine ⟨(pk_un (by omega)).trans hs, fun j hj => (pk_un (by omega)).trans (h0 j hj), fun j hj => (pk_un (by omega)).trans (h1 j hj), ?_, fun j hj => (pk_un (by omega)).trans (h3 j hj), fun j hj => (pk_un (by omega)).trans (h4 j hj), fun j hj => (pk_un (by omega)).trans (h5 j hj), fun j hj => (pk_un (by omega)).trans (h6 j hj), fun j hj => (pk_un (by omega)).trans (h7 j hj), fun j hj => (pk_un (by omega)).trans (h8 j hj)⟩
  intro j hj
  by_cases e : j = k
  · subst e; rw [pk_us, pk_us]
  · rw [pk_un (by omega), pk_un e]; exact h2 j hj
theorem rB_sh (H : rB c yS fd pl di sh sc aw nx aO bO) (hk : k < 3) : rB (upd c (98 + 5 * k) v) yS fd pl di (upd sh k v) sc aw nx aO bO := by
  obtain ⟨hs, h0, h1, h2, h3, h4, h5, h6, h7, h8⟩ := H
  refine ⟨(pk_un (by omega)).trans hs, fun j hj => (pk_un (by omega)).trans (h0 j hj), fun j hj => (pk_un (by omega)).trans (h1 j hj), fun j hj => (pk_un (by omega)).trans (h2 j hj), ?_, fun j hj => (pk_un (by omega)).trans (h4 j hj), fun j hj => (pk_un (by omega)).trans (h5 j hj), fun j hj => (pk_un (by omega)).trans (h6 j hj), fun j hj => (pk_un (by omega)).trans (h7 j hj), fun j hj => (pk_un (by omega)).trans (h8 j hj)⟩
  intro j hj
  by_cases e : j = k
  · subst e; rw [pk_us, pk_us]
  · rw [pk_un (by omega), pk_un e]; exact h3 j hj
theorem rB_sc (H : rB c yS fd pl di sh sc aw nx aO bO) (hk : k < 3) : rB (upd c (99 + 5 * k) v) yS fd pl di sh (upd sc k v) aw nx aO bO := by
  obtain ⟨hs, h0, h1, h2, h3, h4, h5, h6, h7, h8⟩ := H
  refine ⟨(pk_un (by omega)).trans hs, fun j hj => (pk_un (by omega)).trans (h0 j hj), fun j hj => (pk_un (by omega)).trans (h1 j hj), fun j hj => (pk_un (by omega)).trans (h2 j hj), fun j hj => (pk_un (by omega)).trans (h3 j hj), ?_, fun j hj => (pk_un (by omega)).trans (h5 j hj), fun j hj => (pk_un (by omega)).trans (h6 j hj), fun j hj => (pk_un (by omega)).trans (h7 j hj), fun j hj => (pk_un (by omega)).trans (h8 j hj)⟩
  intro j hj
  by_cases e : j = k
  · subst e; rw [pk_us, pk_us]
  · rw [pk_un (by omega), pk_un e]; exact h4 j hj
theorem rB_aw (H : rB c yS fd pl di sh sc aw nx aO bO) (hk : k < 3) : rB (upd c (100 + 5 * k) v) yS fd pl di sh sc (upd aw k v) nx aO bO := by
  obtain ⟨hs, h0, h1, h2, h3, h4, h5, h6, h7, h8⟩ := H
  refine ⟨(pk_un (by omega)).trans hs, fun j hj => (pk_un (by omega)).trans (h0 j hj), fun j hj => (pk_un (by omega)).trans (h1 j hj), fun j hj => (pk_un (by omega)).trans (h2 j hj), fun j hj => (pk_un (by omega)).trans (h3 j hj), fun j hj => (pk_un (by omega)).trans (h4 j hj), ?_, fun j hj => (pk_un (by omega)).trans (h6 j hj), fun j hj => (pk_un (by omega)).trans (h7 j hj), fun j hj => (pk_un (by omega)).trans (h8 j hj)⟩
  intro j hj
  by_cases e : j = k
  · subst e; rw [pk_us, pk_us]
  · rw [pk_un (by omega), pk_un e]; exact h5 j hj
theorem rB_nx (H : rB c yS fd pl di sh sc aw nx aO bO) (hk : k < 2) : rB (upd c (113 + 5 * k) v) yS fd pl di sh sc aw (upd nx k v) aO bO := by
  obtain ⟨hs, h0, h1, h2, h3, h4, h5, h6, h7, h8⟩ := H
  refine ⟨(pk_un (by omega)).trans hs, fun j hj => (pk_un (by omega)).trans (h0 j hj), fun j hj => (pk_un (by omega)).trans (h1 j hj), fun j hj => (pk_un (by omega)).trans (h2 j hj), fun j hj => (pk_un (by omega)).trans (h3 j hj), fun j hj => (pk_un (by omega)).trans (h4 j hj), fun j hj => (pk_un (by omega)).trans (h5 j hj), ?_, fun j hj => (pk_un (by omega)).trans (h7 j hj), fun j hj => (pk_un (by omega)).trans (h8 j hj)⟩
  intro j hj
  by_cases e : j = k
  · subst e; rw [pk_us, pk_us]
  · rw [pk_un (by omega), pk_un e]; exact h6 j hj
theorem rB_aO (H : rB c yS fd pl di sh sc aw nx aO bO) (hk : k < 2) : rB (upd c (114 + 5 * k) v) yS fd pl di sh sc aw nx (upd aO k v) bO := by
  obtain ⟨hs, h0, h1, h2, h3, h4, h5, h6, h7, h8⟩ := H
  refine ⟨(pk_un (by omega)).trans hs, fun j hj => (pk_un (by omega)).trans (h0 j hj), fun j hj => (pk_un (by omega)).trans (h1 j hj), fun j hj => (pk_un (by omega)).trans (h2 j hj), fun j hj => (pk_un (by omega)).trans (h3 j hj), fun j hj => (pk_un (by omega)).trans (h4 j hj), fun j hj => (pk_un (by omega)).trans (h5 j hj), fun j hj => (pk_un (by omega)).trans (h6 j hj), ?_, fun j hj => (pk_un (by omega)).trans (h8 j hj)⟩
  intro j hj
  by_cases e : j = k
  · subst e; rw [pk_us, pk_us]
  · rw [pk_un (by omega), pk_un e]; exact h7 j hj
theorem rB_bO (H : rB c yS fd pl di sh sc aw nx aO bO) (hk : k < 2) : rB (upd c (115 + 5 * k) v) yS fd pl di sh sc aw nx aO (upd bO k v) := by
  obtain ⟨hs, h0, h1, h2, h3, h4, h5, h6, h7, h8⟩ := H
  refine ⟨(pk_un (by omega)).trans hs, fun j hj => (pk_un (by omega)).trans (h0 j hj), fun j hj => (pk_un (by omega)).trans (h1 j hj), fun j hj => (pk_un (by omega)).trans (h2 j hj), fun j hj => (pk_un (by omega)).trans (h3 j hj), fun j hj => (pk_un (by omega)).trans (h4 j hj), fun j hj => (pk_un (by omega)).trans (h5 j hj), fun j hj => (pk_un (by omega)).trans (h6 j hj), fun j hj => (pk_un (by omega)).trans (h7 j hj), ?_⟩
  intro j hj
  by_cases e : j = k
  · subst e; rw [pk_us, pk_us]
  · rw [pk_un (by omega), pk_un e]; exact h8 j hj
theorem rB_yS (H : rB c yS fd pl di sh sc aw nx aO bO) : rB (upd c 121 v) v fd pl di sh sc aw nx aO bO := by
  obtain ⟨hs, h0, h1, h2, h3, h4, h5, h6, h7, h8⟩ := H
  exact ⟨pk_us, fun j hj => (pk_un (by omega)).trans (h0 j hj), fun j hj => (pk_un (by omega)).trans (h1 j hj), fun j hj => (pk_un (by omega)).trans (h2 j hj), fun j hj => (pk_un (by omega)).trans (h3 j hj), fun j hj => (pk_un (by omega)).trans (h4 j hj), fun j hj => (pk_un (by omega)).trans (h5 j hj), fun j hj => (pk_un (by omega)).trans (h6 j hj), fun j hj => (pk_un (by omega)).trans (h7 j hj), fun j hj => (pk_un (by omega)).trans (h8 j hj)⟩
theorem rB_cg (H : rB c yS fd pl di sh sc aw nx aO bO) (E : ∀ j, j < 122 → c1 j = c j) : rB c1 yS fd pl di sh sc aw nx aO bO := by
  obtain ⟨hs, h0, h1, h2, h3, h4, h5, h6, h7, h8⟩ := H
  exact ⟨(E _ (by omega)).trans hs, fun j hj => (E _ (by omega)).trans (h0 j hj), fun j hj => (E _ (by omega)).trans (h1 j hj), fun j hj => (E _ (by omega)).trans (h2 j hj), fun j hj => (E _ (by omega)).trans (h3 j hj), fun j hj => (E _ (by omega)).trans (h4 j hj), fun j hj => (E _ (by omega)).trans (h5 j hj), fun j hj => (E _ (by omega)).trans (h6 j hj), fun j hj => (E _ (by omega)).trans (h7 j hj), fun j hj => (E _ (by omega)).trans (h8 j hj)⟩
theorem rB_rfd (H : rB c yS fd pl di sh sc aw nx aO bO) (hk : k < 96) : fd k = c (k) := by
  obtain ⟨hs, h0, h1, h2, h3, h4, h5, h6, h7, h8⟩ := H
  exact (h0 k hk).symm
theorem rB_rpl (H : rB c yS fd pl di sh sc aw nx aO bO) (hk : k < 5) : pl k = c (96 + 5 * k) := by
  obtain ⟨hs, h0, h1, h2, h3, h4, h5, h6, h7, h8⟩ := H
  exact (h1 k hk).symm
theorem rB_rdi (H : rB c yS fd pl di sh sc aw nx aO bO) (hk : k < 5) : di k = c (97 + 5 * k) := by
  obtain ⟨hs, h0, h1, h2, h3, h4, h5, h6, h7, h8⟩ := H
  exact (h2 k hk).symm
theorem rB_rsh (H : rB c yS fd pl di sh sc aw nx aO bO) (hk : k < 3) : sh k = c (98 + 5 * k) := by
  obtain ⟨hs, h0, h1, h2, h3, h4, h5, h6, h7, h8⟩ := H
  exact (h3 k hk).symm
theorem rB_rsc (H : rB c yS fd pl di sh sc aw nx aO bO) (hk : k < 3) : sc k = c (99 + 5 * k) := by
  obtain ⟨hs, h0, h1, h2, h3, h4, h5, h6, h7, h8⟩ := H
  exact (h4 k hk).symm
theorem rB_raw (H : rB c yS fd pl di sh sc aw nx aO bO) (hk : k < 3) : aw k = c (100 + 5 * k) := by
  obtain ⟨hs, h0, h1, h2, h3, h4, h5, h6, h7, h8⟩ := H
  exact (h5 k hk).symm
theorem rB_rnx (H : rB c yS fd pl di sh sc aw nx aO bO) (hk : k < 2) : nx k = c (113 + 5 * k) := by
  obtain ⟨hs, h0, h1, h2, h3, h4, h5, h6, h7, h8⟩ := H
  exact (h6 k hk).symm
theorem rB_raO (H : rB c yS fd pl di sh sc aw nx aO bO) (hk : k < 2) : aO k = c (114 + 5 * k) := by
  obtain ⟨hs, h0, h1, h2, h3, h4, h5, h6, h7, h8⟩ := H
  exact (h7 k hk).symm
theorem rB_rbO (H : rB c yS fd pl di sh sc aw nx aO bO) (hk : k < 2) : bO k = c (115 + 5 * k) := by
  obtain ⟨hs, h0, h1, h2, h3, h4, h5, h6, h7, h8⟩ := H
  exact (h8 k hk).symm
theorem rB_rS (H : rB c yS fd pl di sh sc aw nx aO bO) : yS = c 121 := H.1.symm
theorem rB_P (H : rB c yS fd pl di sh sc aw nx aO bO) : ∀ k, k < 5 → c (96 + 5 * k) = pl k := H.2.2.1
end
/-! the ranges -/
def vP (c : Nat → Int32) (k : Nat) : Prop := (c (96 + 5 * k) = -1 ∧ ∃ a, 1 ≤ a ∧ a ≤ 5 ∧ c (100 + 5 * k) = nI a) ∨ (∃ q, q < 96 ∧ c (96 + 5 * k) = nI q ∧ c (100 + 5 * k) = 0)
def vD (L : Nat → Nat) (c : Nat → Int32) (k : Nat) : Prop := 0 < L k → (∃ q, q < 96 ∧ c (111 + 5 * k) = nI q) ∧ (∃ d, d < 4 ∧ c (112 + 5 * k) = nI d) ∧ (∃ p, p < L k ∧ c (113 + 5 * k) = nI p)
def vB (L : Nat → Nat) (c : Nat → Int32) : Prop := (∀ k, k < 3 → vP c k) ∧ (∀ k, k < 3 → ∃ d, d < 4 ∧ c (97 + 5 * k) = nI d) ∧ (∀ k, k < 3 → ∃ s, s ≤ 9 ∧ c (98 + 5 * k) = nI s) ∧ (∀ k, k < 2 → vD L c k)
def vW (c : Nat → Int32) (j : Nat) : Prop := ∃ q d o, q < 96 ∧ d < 4 ∧ o < 3 ∧ c (122 + 3 * j) = nI q ∧ c (123 + 3 * j) = nI d ∧ c (124 + 3 * j) = nI o
def vL (c : Nat → Int32) : Prop := ∃ n, n ≤ 6 ∧ c 140 = nI n ∧ ∀ j, j < n → vW c j
theorem vP_cg {c c1 : Nat → Int32} {k : Nat} (H : vP c k) (e1 : c1 (96 + 5 * k) = c (96 + 5 * k)) (e2 : c1 (100 + 5 * k) = c (100 + 5 * k)) : vP c1 k := by
  unfold vP
  rw [e1, e2]
  exact H
theorem vD_cg {L : Nat → Nat} {c c1 : Nat → Int32} {k : Nat} (H : vD L c k) (e1 : c1 (111 + 5 * k) = c (111 + 5 * k)) (e2 : c1 (112 + 5 * k) = c (112 + 5 * k)) (e3 : c1 (113 + 5 * k) = c (113 + 5 * k)) : vD L c1 k := by
  unfold vD
  rw [e1, e2, e3]
  exact H
theorem vW_cg {c c1 : Nat → Int32} {j : Nat} (H : vW c j) (e1 : c1 (122 + 3 * j) = c (122 + 3 * j)) (e2 : c1 (123 + 3 * j) = c (123 + 3 * j)) (e3 : c1 (124 + 3 * j) = c (124 + 3 * j)) : vW c1 j := by
  unfold vW
  rw [e1, e2, e3]
  exact H
theorem rW_cg {c c1 bu tu ow : Nat → Int32} {j : Nat} (H : rW c bu tu ow j) (e1 : c1 (122 + 3 * j) = c (122 + 3 * j)) (e2 : c1 (123 + 3 * j) = c (123 + 3 * j)) (e3 : c1 (124 + 3 * j) = c (124 + 3 * j)) : rW c1 bu tu ow j := by
  unfold rW
  rw [e1, e2, e3]
  exact H
theorem vL_cg {c c1 : Nat → Int32} (H : vL c) (E : ∀ j, 121 < j → j < 144 → c1 j = c j) : vL c1 := by
  obtain ⟨n, hn, e, h⟩ := H
  exact ⟨n, hn, (E _ (by omega) (by omega)).trans e, fun j hj => vW_cg (h j hj) (E _ (by omega) (by omega)) (E _ (by omega) (by omega)) (E _ (by omega) (by omega))⟩
/-- one index that none of the ranges speaks of -/
def vfree (i : Nat) : Prop := (i < 96 ∨ 116 ≤ i ∧ 120 < i) ∨ (i = 99 ∨ i = 104 ∨ i = 109) ∨ (i = 114 ∨ i = 115 ∨ i = 119 ∨ i = 120)
theorem vB_fr {L : Nat → Nat} {c : Nat → Int32} {i : Nat} {v : Int32} (H : vB L c) (hi : vfree i) : vB L (upd c i v) := by
  obtain ⟨h1, h2, h3, h4⟩ := H
  unfold vfree at hi
  refine ⟨fun k hk => vP_cg (h1 k hk) (pk_un (by omega)) (pk_un (by omega)), fun k hk => ?_, fun k hk => ?_, fun k hk => vD_cg (h4 k hk) (pk_un (by omega)) (pk_un (by omega)) (pk_un (by omega))⟩
  · rw [pk_un (by omega)]; exact h2 k hk
  · rw [pk_un (by omega)]; exact h3 k hk
theorem vB_cg {L : Nat → Nat} {c c1 : Nat → Int32} (H : vB L c) (E : ∀ j, j < 144 → c1 j = c j) : vB L c1 := by
  obtain ⟨h1, h2, h3, h4⟩ := H
  refine ⟨fun k hk => vP_cg (h1 k hk) (E _ (by omega)) (E _ (by omega)), fun k hk => ?_, fun k hk => ?_, fun k hk => vD_cg (h4 k hk) (E _ (by omega)) (E _ (by omega)) (E _ (by omega))⟩
  · rw [E _ (by omega)]; exact h2 k hk
  · rw [E _ (by omega)]; exact h3 k hk
theorem vB_up {L : Nat → Nat} {c c1 : Nat → Int32} (H : vB L c) (E : ∀ j, j < 121 → c1 j = c j) : vB L c1 := by
  obtain ⟨h1, h2, h3, h4⟩ := H
  refine ⟨fun k hk => vP_cg (h1 k hk) (E _ (by omega)) (E _ (by omega)), fun k hk => ?_, fun k hk => ?_, fun k hk => vD_cg (h4 k hk) (E _ (by omega)) (E _ (by omega)) (E _ (by omega))⟩
  · rw [E _ (by omega)]; exact h2 k hk
  · rw [E _ (by omega)]; exact h3 k hk
theorem vB_di {L : Nat → Nat} {c : Nat → Int32} {k d : Nat} (H : vB L c) (hk : k < 3) (hd : d < 4) : vB L (upd c (97 + 5 * k) (nI d)) := by
  obtain ⟨h1, h2, h3, h4⟩ := H
  refine ⟨fun j hj => vP_cg (h1 j hj) (pk_un (by omega)) (pk_un (by omega)), fun j hj => ?_, fun j hj => ?_, fun j hj => vD_cg (h4 j hj) (pk_un (by omega)) (pk_un (by omega)) (pk_un (by omega))⟩
  · by_cases e : j = k
    · subst e; exact ⟨d, hd, pk_us⟩
    · rw [pk_un (by omega)]; exact h2 j hj
  · rw [pk_un (by omega)]; exact h3 j hj
theorem vB_sh {L : Nat → Nat} {c : Nat → Int32} {k d : Nat} (H : vB L c) (hk : k < 3) (hd : d ≤ 9) : vB L (upd c (98 + 5 * k) (nI d)) := by
  obtain ⟨h1, h2, h3, h4⟩ := H
  refine ⟨fun j hj => vP_cg (h1 j hj) (pk_un (by omega)) (pk_un (by omega)), fun j hj => ?_, fun j hj => ?_, fun j hj => vD_cg (h4 j hj) (pk_un (by omega)) (pk_un (by omega)) (pk_un (by omega))⟩
  · rw [pk_un (by omega)]; exact h2 j hj
  · by_cases e : j = k
    · subst e; exact ⟨d, hd, pk_us⟩
    · rw [pk_un (by omega)]; exact h3 j hj
/-- a player's place and time away are stored together -/
theorem vB_pa {L : Nat → Nat} {c c1 : Nat → Int32} {k : Nat} (H : vB L c) (hk : k < 3) (E : ∀ j, j < 121 → j ≠ 96 + 5 * k → j ≠ 100 + 5 * k → c1 j = c j) (N : vP c1 k) : vB L c1 := by
  obtain ⟨h1, h2, h3, h4⟩ := H
  refine ⟨fun j hj => ?_, fun j hj => ?_, fun j hj => ?_, fun j hj => vD_cg (h4 j hj) (E _ (by omega) (by omega) (by omega)) (E _ (by omega) (by omega) (by omega)) (E _ (by omega) (by omega) (by omega))⟩
  · by_cases e : j = k
    · subst e; exact N
    · exact vP_cg (h1 j hj) (E _ (by omega) (by omega) (by omega)) (E _ (by omega) (by omega) (by omega))
  · rw [E _ (by omega) (by omega) (by omega)]; exact h2 j hj
  · rw [E _ (by omega) (by omega) (by omega)]; exact h3 j hj
/-- a drone's place, direction and next instruction -/
theorem vB_dr {L : Nat → Nat} {c c1 : Nat → Int32} {k : Nat} (H : vB L c) (hk : k < 2) (E : ∀ j, j < 121 → j ≠ 111 + 5 * k → j ≠ 112 + 5 * k → j ≠ 113 + 5 * k → c1 j = c j) (N : vD L c1 k) : vB L c1 := by
  obtain ⟨h1, h2, h3, h4⟩ := H
  refine ⟨fun j hj => vP_cg (h1 j hj) (E _ (by omega) (by omega) (by omega) (by omega)) (E _ (by omega) (by omega) (by omega) (by omega)), fun j hj => ?_, fun j hj => ?_, fun j hj => ?_⟩
  · rw [E _ (by omega) (by omega) (by omega) (by omega)]; exact h2 j hj
  · rw [E _ (by omega) (by omega) (by omega) (by omega)]; exact h3 j hj
  · by_cases e : j = k
    · subst e; exact N
    · exact vD_cg (h4 j hj) (E _ (by omega) (by omega) (by omega) (by omega)) (E _ (by omega) (by omega) (by omega) (by omega)) (E _ (by omega) (by omega) (by omega) (by omega))
/-- the programs and starts -/
def cF (ho op ar le : Nat → Int32) (L : Nat → Nat) : Prop := (∀ k, k < 5 → ∃ q, q < 96 ∧ ho k = nI q) ∧ (∀ k, k < 2 → le k = nI (L k) ∧ L k ≤ 12) ∧ (∀ k, k < 2 → ∀ p, p < L k → ∃ o, o ≤ 12 ∧ op (12 * k + p) = nI o ∧ ((o = 10 ∨ o = 11) → ∃ a, a ≤ 11 ∧ ar (12 * k + p) = nI a) ∧ (o = 4 → ∃ a, a ≤ 2 ∧ ar (12 * k + p) = nI a))
end
section
/-! small helpers for the reference's reads and writes -/
theorem yw {f : Nat → Int32} {e v : Int32} {N : Nat} {P : (Nat → Int32) → Prop} (j : Nat) (he : e = nI j) (hj : j < N) (hN : N < 2 ^ 31) (H : P (upd f j v)) : vp_in e N ∧ ∀ y, y = upd f e.toNatClampNeg v → P y := by
  subst he
  refine ⟨vp_in_nI hj hN, fun y ey => ?_⟩
  rw [ey, nI_clamp (by omega)]
  exact H
theorem ye {f : Nat → Int32} {e x : Int32} (j : Nat) (he : e = nI j) (hj : j < 2 ^ 31) (hx : f j = x) : f e.toNatClampNeg = x := by
  subst he
  rw [nI_clamp hj]
  exact hx
theorem ad_s (t : Nat) : nI (3 + t) - 3 = nI t := by
  rw [show (3 : Int32) = nI 3 from rfl, pk_sub (by omega)]
  exact congrArg nI (by omega)
theorem ad_3 (t : Nat) : 3 + nI t = nI (3 + t) := nI_add 3 t
theorem X_nextI {post : Int32 → Prop} {q d r : Nat} (hq : q < 96) (hd : d < 4) (e : bz q d 1 = r) (hr : r < 96) (hp : post (nI r)) : wpX_next post (nI q) (nI d) := by
  subst e
  exact X_next hq hd (fun _ => hp) (fun z => by omega)
theorem X_nextO {post : Int32 → Prop} {q d : Nat} (hq : q < 96) (hd : d < 4) (hr : ¬ bz q d 1 < 96) (hp : ∀ r : Int32, r < 0 → post r) : wpX_next post (nI q) (nI d) := X_next hq hd (fun z => absurd z hr) (fun _ => hp)
theorem Y_beyondI {post : Int32 → Prop} {q d n r : Nat} (hq : q < 96) (hd : d < 4) (hn : n < 100) (e : bz q d n = r) (hr : r < 96) (hp : post (nI r)) : wpY_beyond post (nI q) (nI d) (nI n) := by
  subst e
  exact Y_beyond hq hd hn (fun _ => hp) (fun z => by omega)
theorem Y_beyondO {post : Int32 → Prop} {q d n : Nat} (hq : q < 96) (hd : d < 4) (hn : n < 100) (hr : ¬ bz q d n < 96) (hp : post (-1)) : wpY_beyond post (nI q) (nI d) (nI n) := Y_beyond hq hd hn (fun z => absurd z hr) (fun _ => hp)
/-- even or odd: a mask against a remainder -/
theorem par (x : Int32) : x &&& 1 = 0 ↔ x - x / 2 * 2 = 0 := by
  have e1 : x &&& 1 = nI (x.toBitVec.toNat % 2 ^ 1) := pk_and x 1 (by decide)
  have e2 : (x - x / 2 * 2).toInt = x.toInt.tmod 2 := rem_toInt x 2
  have e3 : x.toInt = x.toBitVec.toInt := rfl
  have e4 := BitVec.toInt_eq_toNat_cond x.toBitVec
  rw [e1, ← Int32.toInt_inj, ← Int32.toInt_inj, e2, nI_toInt (by omega), i32_0]
  have e5 : x.toInt.tmod 2 = 0 ↔ x.toInt % 2 = 0 := by
    rw [← Int.dvd_iff_tmod_eq_zero, Int.dvd_iff_emod_eq_zero]
  rw [e5, e3, e4]
  split <;> omega
/-- somebody is hit -/
theorem strike_ex {L : Nat → Nat} {c : Nat → Int32} {t o : Nat} (H : vB L c) (ht : t < 5) (h3 : o < 3) : ∃ c1, vB L c1 ∧ (∀ j, 121 ≤ j → c1 j = c j) ∧
    (∀ {fS pR xS xD xN xC xL xB xK : Int32} {be dr ho op ar le xk xc xl xb xs xa : Nat → Int32} {w : Nat → Int32} {h : Nat} {post : SX → Prop}, h ≤ 2160 → post (nI h, fS, pR, xS, xD, xN, xC, xL, xB, xK, zput w h c1, be, dr, ho, op, ar, le, xk, xc, xl, xb, xs, xa) → wpX_strike post (nI h, fS, pR, xS, xD, xN, xC, xL, xB, xK, zput w h c, be, dr, ho, op, ar, le, xk, xc, xl, xb, xs, xa) (nI t) (nI (h + (99 + 5 * o)))) ∧
    (∀ {fS pR yL yF yK yC yS : Int32} {dr ho op ar le yk yl yf yr fd pl di sh sc aw nx aO bO bu tu ow : Nat → Int32} {post : SY → Prop}, rB c yS fd pl di sh sc aw nx aO bO → (∀ {yS1 : Int32} {fd1 pl1 di1 sh1 sc1 aw1 nx1 aO1 bO1 : Nat → Int32}, rB c1 yS1 fd1 pl1 di1 sh1 sc1 aw1 nx1 aO1 bO1 → post (fS, pR, yL, yF, yK, yC, yS1, dr, ho, op, ar, le, yk, yl, yf, yr, fd1, pl1, di1, sh1, sc1, aw1, nx1, aO1, bO1, bu, tu, ow)) → wpY_hit post (fS, pR, yL, yF, yK, yC, yS, dr, ho, op, ar, le, yk, yl, yf, yr, fd, pl, di, sh, sc, aw, nx, aO, bO, bu, tu, ow) (nI t) (nI o)) := by
  by_cases h2 : t < 3
  · refine ⟨upd (upd (upd c (96 + 5 * t) (-1)) (100 + 5 * t) 5) (99 + 5 * o) (c (99 + 5 * o) + 3), ?_, ?_, ?_, ?_⟩
    · refine vB_fr (vB_pa H h2 (fun j _ z1 z2 => ?_) ?_) (by unfold vfree; omega)
      · rw [pk_un z2, pk_un z1]
      · refine Or.inl ⟨?_, 5, by omega, by omega, pk_us⟩
        rw [pk_un (by omega), pk_us]
    · intro j hj
      rw [pk_un (by omega), pk_un (by omega), pk_un (by omega)]
    · intro fS pR xS xD xN xC xL xB xK be dr ho op ar le xk xc xl xb xs xa w h post hh hp
      unfold wpX_strike
      refine nm_r (ad_p h t) (br_t (nI_le (b := 2) (by omega) (by decide)) (xw _ rfl (by omega) hh (xw _ (ad_p4 h t) (by omega) hh ⟨xv _ rfl (by omega) hh, ?_⟩)))
      rw [xe (99 + 5 * o) rfl (by omega) hh, pk_un (by omega), pk_un (by omega)]
      exact xw _ rfl (by omega) hh hp
    · intro fS pR yL yF yK yC yS dr ho op ar le yk yl yf yr fd pl di sh sc aw nx aO bO bu tu ow post HR hp
      unfold wpY_hit
      refine br_f (nI_ge (b := 3) h2 (by decide)) (yw t rfl (by omega) (by decide) (yw t rfl h2 (by decide) ⟨vp_in_nI h3 (by decide), ?_⟩))
      rw [ye o rfl (by omega) (rB_rsc HR h3)]
      exact yw o rfl h3 (by decide) (hp (rB_sc (rB_aw (rB_pl HR (by omega)) h2) h3))
  · obtain ⟨s, rfl⟩ : ∃ s, t = 3 + s := ⟨t - 3, by omega⟩
    refine ⟨upd (upd (upd c (113 + 5 * s) 0) (114 + 5 * s) 0) (115 + 5 * s) 0, ?_, ?_, ?_, ?_⟩
    · refine vB_fr (vB_fr (vB_dr (k := s) H (by omega) (fun j _ z1 z2 z3 => pk_un z3) ?_) (by unfold vfree; omega)) (by unfold vfree; omega)
      intro hL
      obtain ⟨h1, h2, h3, h4⟩ := H
      obtain ⟨a1, a2, a3⟩ := h4 s (by omega) hL
      rw [pk_un (by omega), pk_un (by omega)]
      exact ⟨a1, a2, 0, hL, pk_us⟩
    · intro j hj
      rw [pk_un (by omega), pk_un (by omega), pk_un (by omega)]
    · intro fS pR xS xD xN xC xL xB xK be dr ho op ar le xk xc xl xb xs xa w h post hh hp
      have e0 : nI h + 96 + 5 * nI (3 + s) = nI (h + (111 + 5 * s)) := (ad_p h (3 + s)).trans (congrArg nI (by omega))
      unfold wpX_strike
      exact nm_r e0 (br_f (nI_ge (a := 2) (by omega) (by omega)) (xw _ (ad_d2 h s) (by omega) hh (xw _ (ad_d3 h s) (by omega) hh (xw _ (ad_d4 h s) (by omega) hh hp))))
    · intro fS pR yL yF yK yC yS dr ho op ar le yk yl yf yr fd pl di sh sc aw nx aO bO bu tu ow post HR hp
      unfold wpY_hit
      exact br_t (nI_le (a := 3) (by omega) (by omega)) (yw s (ad_s s) (by omega) (by decide) (yw s (ad_s s) (by omega) (by decide) (yw s (ad_s s) (by omega) (by decide) (hp (rB_bO (rB_aO (rB_nx HR (by omega)) (by omega)) (by omega))))))
/-- one step of a bullet: it goes on to r, or is gone -/
theorem fly1 {L : Nat → Nat} {c : Nat → Int32} {k q d o : Nat} (H : vB L c) (hk : k < 6) (hq : q < 96) (hd : d < 4) (h3 : o < 3) (eq : c (122 + 3 * k) = nI q) (ed : c (123 + 3 * k) = nI d) :
    (∃ r, r < 96 ∧
      (∀ {fS pR xS xD xN xC xL xB xK : Int32} {be dr ho op ar le xk xc xl xb xs xa : Nat → Int32} {w : Nat → Int32} {h n s : Nat} {post : Int32 → SX → Prop}, h ≤ 2160 → s < 2 → wX_fly_39 post (nI (h + (122 + 3 * k))) (nI o) (nI (h + (99 + 5 * o))) (nI h) fS pR xS xD xN xC xL xB xK n (nI (s + 1)) (zput w h (upd c (122 + 3 * k) (nI r))) be dr ho op ar le xk xc xl xb xs xa → wX_fly_39 post (nI (h + (122 + 3 * k))) (nI o) (nI (h + (99 + 5 * o))) (nI h) fS pR xS xD xN xC xL xB xK (n + 1) (nI s) (zput w h c) be dr ho op ar le xk xc xl xb xs xa) ∧
      (∀ {fS pR yL yF yK yC yS : Int32} {dr ho op ar le yk yl yf yr fd pl di sh sc aw nx aO bO bu tu ow : Nat → Int32} {n s : Nat} {post : SY → Prop}, rB c yS fd pl di sh sc aw nx aO bO → s < 2 → wY_fly_6 post (nI d) (nI o) fS pR yL yF yK yC yS dr ho op ar le yk yl yf yr fd pl di sh sc aw nx aO bO bu tu ow n (nI r) (nI (s + 1)) → wY_fly_6 post (nI d) (nI o) fS pR yL yF yK yC yS dr ho op ar le yk yl yf yr fd pl di sh sc aw nx aO bO bu tu ow (n + 1) (nI q) (nI s))) ∨
    (∃ c1, vB L c1 ∧ (∀ j, 121 ≤ j → c1 j = c j) ∧
      (∀ {fS pR xS xD xN xC xL xB xK : Int32} {be dr ho op ar le xk xc xl xb xs xa : Nat → Int32} {w : Nat → Int32} {h n s : Nat} {post : Int32 → SX → Prop}, h ≤ 2160 → s < 2 → post 0 (nI h, fS, pR, xS, xD, xN, xC, xL, xB, xK, zput w h c1, be, dr, ho, op, ar, le, xk, xc, xl, xb, xs, xa) → wX_fly_39 post (nI (h + (122 + 3 * k))) (nI o) (nI (h + (99 + 5 * o))) (nI h) fS pR xS xD xN xC xL xB xK (n + 1) (nI s) (zput w h c) be dr ho op ar le xk xc xl xb xs xa) ∧
      (∀ {fS pR yL yF yK yC yS : Int32} {dr ho op ar le yk yl yf yr fd pl di sh sc aw nx aO bO bu tu ow : Nat → Int32} {n s : Nat} {post : SY → Prop}, rB c yS fd pl di sh sc aw nx aO bO → s < 2 → (∀ {yS1 : Int32} {fd1 pl1 di1 sh1 sc1 aw1 nx1 aO1 bO1 : Nat → Int32}, rB c1 yS1 fd1 pl1 di1 sh1 sc1 aw1 nx1 aO1 bO1 → post (fS, pR, yL, yF, yK, yC, yS1, dr, ho, op, ar, le, yk, yl, yf, yr, fd1, pl1, di1, sh1, sc1, aw1, nx1, aO1, bO1, bu, tu, ow)) → wY_fly_6 post (nI d) (nI o) fS pR yL yF yK yC yS dr ho op ar le yk yl yf yr fd pl di sh sc aw nx aO bO bu tu ow (n + 1) (nI q) (nI s))) := by
  have rdX : ∀ {w : Nat → Int32} {h : Nat}, h ≤ 2160 → zput w h c (nI (h + (122 + 3 * k))).toNatClampNeg = nI q ∧ zput w h c (nI (h + (122 + 3 * k)) + 1).toNatClampNeg = nI d := fun {w h} hh => ⟨(xe _ rfl (by omega) hh).trans eq, (xe _ (ad_b1 h k) (by omega) hh).trans ed⟩
  by_cases hr : bz q d 1 < 96
  · obtain ⟨r, er⟩ : ∃ r, bz q d 1 = r := ⟨_, rfl⟩
    rw [er] at hr
    by_cases k1 : c r = 1
    · refine Or.inr ⟨c, H, fun j _ => rfl, ?_, ?_⟩
      · intro fS pR xS xD xN xC xL xB xK be dr ho op ar le xk xc xl xb xs xa w h n s post hh hs hp
        refine br_f (nI_ge (b := 2) hs (by decide)) ⟨xv _ rfl (by omega) hh, xv _ (ad_b1 h k) (by omega) hh, ?_⟩
        rw [(rdX hh).1, (rdX hh).2]
        exact X_nextI hq hd er hr (X_kindOf hh hr (br_t k1 hp))
      · intro fS pR yL yF yK yC yS dr ho op ar le yk yl yf yr fd pl di sh sc aw nx aO bO bu tu ow n s post HR hs hp
        refine br_f (nI_ge (b := 2) hs (by decide)) (Y_beyondI (n := 1) hq hd (by decide) er hr (br_f (nI_pos (by omega)) ⟨vp_in_nI hr (by decide), ?_⟩))
        rw [ye r rfl (by omega) (rB_rfd HR hr)]
        exact br_t k1 (hp HR)
    · by_cases k2 : c r = 2
      · by_cases hs2 : c (99 + 5 * o) &&& 1 = 0
        · refine Or.inr ⟨upd c r 0, vB_fr H (by unfold vfree; omega), fun j hj => pk_un (by omega), ?_, ?_⟩
          · intro fS pR xS xD xN xC xL xB xK be dr ho op ar le xk xc xl xb xs xa w h n s post hh hs hp
            refine br_f (nI_ge (b := 2) hs (by decide)) ⟨xv _ rfl (by omega) hh, xv _ (ad_b1 h k) (by omega) hh, ?_⟩
            rw [(rdX hh).1, (rdX hh).2]
            refine X_nextI hq hd er hr (X_kindOf hh hr (br_f k1 (br_t k2 ⟨xv _ rfl (by omega) hh, ?_⟩)))
            rw [xe (99 + 5 * o) rfl (by omega) hh]
            exact br_t hs2 (xw _ (nI_add h r) (by omega) hh hp)
          · intro fS pR yL yF yK yC yS dr ho op ar le yk yl yf yr fd pl di sh sc aw nx aO bO bu tu ow n s post HR hs hp
            refine br_f (nI_ge (b := 2) hs (by decide)) (Y_beyondI (n := 1) hq hd (by decide) er hr (br_f (nI_pos (by omega)) ⟨vp_in_nI hr (by decide), ?_⟩))
            rw [ye r rfl (by omega) (rB_rfd HR hr)]
            refine br_f k1 ⟨vp_in_nI hr (by decide), br_t k2 ⟨vp_in_nI h3 (by decide), by decide, ?_⟩⟩
            rw [ye o rfl (by omega) (rB_rsc HR h3)]
            exact br_t ((par _).mp hs2) (yw r rfl hr (by decide) (hp (rB_fd HR hr)))
        · refine Or.inr ⟨upd c r 3, vB_fr H (by unfold vfree; omega), fun j hj => pk_un (by omega), ?_, ?_⟩
          · intro fS pR xS xD xN xC xL xB xK be dr ho op ar le xk xc xl xb xs xa w h n s post hh hs hp
            refine br_f (nI_ge (b := 2) hs (by decide)) ⟨xv _ rfl (by omega) hh, xv _ (ad_b1 h k) (by omega) hh, ?_⟩
            rw [(rdX hh).1, (rdX hh).2]
            refine X_nextI hq hd er hr (X_kindOf hh hr (br_f k1 (br_t k2 ⟨xv _ rfl (by omega) hh, ?_⟩)))
            rw [xe (99 + 5 * o) rfl (by omega) hh]
            exact br_f hs2 (xw _ (nI_add h r) (by omega) hh hp)
          · intro fS pR yL yF yK yC yS dr ho op ar le yk yl yf yr fd pl di sh sc aw nx aO bO bu tu ow n s post HR hs hp
            refine br_f (nI_ge (b := 2) hs (by decide)) (Y_beyondI (n := 1) hq hd (by decide) er hr (br_f (nI_pos (by omega)) ⟨vp_in_nI hr (by decide), ?_⟩))
            rw [ye r rfl (by omega) (rB_rfd HR hr)]
            refine br_f k1 ⟨vp_in_nI hr (by decide), br_t k2 ⟨vp_in_nI h3 (by decide), by decide, ?_⟩⟩
            rw [ye o rfl (by omega) (rB_rsc HR h3)]
            exact br_f (fun z => hs2 ((par _).mpr z)) (yw r rfl hr (by decide) (hp (rB_fd HR hr)))
      · have goX : ∀ {fS pR xS xD xN xC xL xB xK : Int32} {be dr ho op ar le xk xc xl xb xs xa : Nat → Int32} {w : Nat → Int32} {h n s : Nat} {post : Int32 → SX → Prop}, h ≤ 2160 → s < 2 → (st5 c (nI r) < 0 ∨ st5 c (nI r) = nI o) → ¬ (st5 c (nI r) < 0 ∧ False) → wX_fly_39 post (nI (h + (122 + 3 * k))) (nI o) (nI (h + (99 + 5 * o))) (nI h) fS pR xS xD xN xC xL xB xK n (nI (s + 1)) (zput w h (upd c (122 + 3 * k) (nI r))) be dr ho op ar le xk xc xl xb xs xa → wX_fly_39 post (nI (h + (122 + 3 * k))) (nI o) (nI (h + (99 + 5 * o))) (nI h) fS pR xS xD xN xC xL xB xK (n + 1) (nI s) (zput w h c) be dr ho op ar le xk xc xl xb xs xa := by
          intro fS pR xS xD xN xC xL xB xK be dr ho op ar le xk xc xl xb xs xa w h n s post hh hs hor _ hp
          refine br_f (nI_ge (b := 2) hs (by decide)) ⟨xv _ rfl (by omega) hh, xv _ (ad_b1 h k) (by omega) hh, ?_⟩
          rw [(rdX hh).1, (rdX hh).2]
          refine X_nextI hq hd er hr (X_kindOf hh hr (br_f k1 (br_f k2 (X_standing hh ?_))))
          refine br_c (fun _ => xw _ rfl (by omega) hh (nm_r (nI_1 s) hp)) (fun z => ?_)
          exact br_t (hor.resolve_left z) (xw _ rfl (by omega) hh (nm_r (nI_1 s) hp))
        have goY : ∀ {fS pR yL yF yK yC yS : Int32} {dr ho op ar le yk yl yf yr fd pl di sh sc aw nx aO bO bu tu ow : Nat → Int32} {n s : Nat} {post : SY → Prop}, rB c yS fd pl di sh sc aw nx aO bO → s < 2 → (st5 c (nI r) < 0 ∨ st5 c (nI r) = nI o) → wY_fly_6 post (nI d) (nI o) fS pR yL yF yK yC yS dr ho op ar le yk yl yf yr fd pl di sh sc aw nx aO bO bu tu ow n (nI r) (nI (s + 1)) → wY_fly_6 post (nI d) (nI o) fS pR yL yF yK yC yS dr ho op ar le yk yl yf yr fd pl di sh sc aw nx aO bO bu tu ow (n + 1) (nI q) (nI s) := by
          intro fS pR yL yF yK yC yS dr ho op ar le yk yl yf yr fd pl di sh sc aw nx aO bO bu tu ow n s post HR hs hor hp
          refine br_f (nI_ge (b := 2) hs (by decide)) (Y_beyondI (n := 1) hq hd (by decide) er hr (br_f (nI_pos (by omega)) ⟨vp_in_nI hr (by decide), ?_⟩))
          rw [ye r rfl (by omega) (rB_rfd HR hr)]
          refine br_f k1 ⟨vp_in_nI hr (by decide), br_f k2 (Y_who (rB_P HR) ?_)⟩
          exact br_c (fun _ => nm_r (nI_1 s) hp) (fun z => br_t (hor.resolve_left z) (nm_r (nI_1 s) hp))
        by_cases hor : st5 c (nI r) < 0 ∨ st5 c (nI r) = nI o
        · exact Or.inl ⟨r, hr, fun hh hs hp => goX hh hs hor (fun z => z.2) hp, fun HR hs hp => goY HR hs hor hp⟩
        · have hn0 : ¬ st5 c (nI r) < 0 := fun z => hor (Or.inl z)
          have hno : ¬ st5 c (nI r) = nI o := fun z => hor (Or.inr z)
          obtain ⟨t, ht, et⟩ : ∃ t, t < 5 ∧ st5 c (nI r) = nI t := (st5_c c (nI r)).resolve_left (fun z => hn0 (by rw [z]; exact ngm1))
          obtain ⟨c1, V1, E1, X1, Y1⟩ := strike_ex H ht h3
          refine Or.inr ⟨c1, V1, E1, ?_, ?_⟩
          · intro fS pR xS xD xN xC xL xB xK be dr ho op ar le xk xc xl xb xs xa w h n s post hh hs hp
            refine br_f (nI_ge (b := 2) hs (by decide)) ⟨xv _ rfl (by omega) hh, xv _ (ad_b1 h k) (by omega) hh, ?_⟩
            rw [(rdX hh).1, (rdX hh).2]
            refine X_nextI hq hd er hr (X_kindOf hh hr (br_f k1 (br_f k2 (X_standing hh (br_f hn0 (br_f hno ?_))))))
            rw [et]
            exact X1 hh hp
          · intro fS pR yL yF yK yC yS dr ho op ar le yk yl yf yr fd pl di sh sc aw nx aO bO bu tu ow n s post HR hs hp
            refine br_f (nI_ge (b := 2) hs (by decide)) (Y_beyondI (n := 1) hq hd (by decide) er hr (br_f (nI_pos (by omega)) ⟨vp_in_nI hr (by decide), ?_⟩))
            rw [ye r rfl (by omega) (rB_rfd HR hr)]
            refine br_f k1 ⟨vp_in_nI hr (by decide), br_f k2 (Y_who (rB_P HR) (br_f hn0 (br_f hno ?_)))⟩
            rw [et]
            exact Y1 HR hp
  · refine Or.inr ⟨c, H, fun j _ => rfl, ?_, ?_⟩
    · intro fS pR xS xD xN xC xL xB xK be dr ho op ar le xk xc xl xb xs xa w h n s post hh hs hp
      refine br_f (nI_ge (b := 2) hs (by decide)) ⟨xv _ rfl (by omega) hh, xv _ (ad_b1 h k) (by omega) hh, ?_⟩
      rw [(rdX hh).1, (rdX hh).2]
      exact X_nextO hq hd hr (fun r hr0 => X_kindOut hr0 (br_t rfl hp))
    · intro fS pR yL yF yK yC yS dr ho op ar le yk yl yf yr fd pl di sh sc aw nx aO bO bu tu ow n s post HR hs hp
      exact br_f (nI_ge (b := 2) hs (by decide)) (Y_beyondO (n := 1) hq hd (by decide) hr (br_t ngm1 (hp HR)))
end
section
section
variable {fS pR yL yF yK yC yS : Int32} {dr ho op ar le yk yl yf yr fd pl di sh sc aw nx aO bO bu tu ow : Nat → Int32}
theorem Y_add {post : SY → Prop} {p0 p1 p2 : Int32} {m : Nat} (hm : m < 7) (hp : post (fS, pR, yL, yF, yK, nI (m + 1), yS, dr, ho, op, ar, le, yk, yl, yf, yr, fd, pl, di, sh, sc, aw, nx, aO, bO, upd bu m p0, upd tu m p1, upd ow m p2)) : wpY_addBullet post (fS, pR, yL, yF, yK, nI m, yS, dr, ho, op, ar, le, yk, yl, yf, yr, fd, pl, di, sh, sc, aw, nx, aO, bO, bu, tu, ow) p0 p1 p2 := by
  unfold wpY_addBullet
  exact yw m rfl hm (by decide) (yw m rfl hm (by decide) (nm_r (nI_1 m) (yw m rfl hm (by decide) hp)))
end
/-- a bullet's two steps -/
theorem fly_ex {L : Nat → Nat} {c : Nat → Int32} {k q d o : Nat} (H : vB L c) (hk : k < 6) (hq : q < 96) (hd : d < 4) (h3 : o < 3) (eq : c (122 + 3 * k) = nI q) (ed : c (123 + 3 * k) = nI d) (eo : c (124 + 3 * k) = nI o) :
    (∃ c1, vB L c1 ∧ (∀ j, 121 ≤ j → j ≠ 122 + 3 * k → c1 j = c j) ∧
      (∀ {fS pR xS xD xN xC xL xB xK : Int32} {be dr ho op ar le xk xc xl xb xs xa : Nat → Int32} {w : Nat → Int32} {h : Nat} {post : Int32 → SX → Prop}, h ≤ 2160 → post 0 (nI h, fS, pR, xS, xD, xN, xC, xL, xB, xK, zput w h c1, be, dr, ho, op, ar, le, xk, xc, xl, xb, xs, xa) → wpX_fly post (nI h, fS, pR, xS, xD, xN, xC, xL, xB, xK, zput w h c, be, dr, ho, op, ar, le, xk, xc, xl, xb, xs, xa) (nI k)) ∧
      (∀ {fS pR yL yF yK yC yS : Int32} {dr ho op ar le yk yl yf yr fd pl di sh sc aw nx aO bO bu tu ow : Nat → Int32} {post : SY → Prop}, rB c yS fd pl di sh sc aw nx aO bO → (∀ {yS1 : Int32} {fd1 pl1 di1 sh1 sc1 aw1 nx1 aO1 bO1 : Nat → Int32}, rB c1 yS1 fd1 pl1 di1 sh1 sc1 aw1 nx1 aO1 bO1 → post (fS, pR, yL, yF, yK, yC, yS1, dr, ho, op, ar, le, yk, yl, yf, yr, fd1, pl1, di1, sh1, sc1, aw1, nx1, aO1, bO1, bu, tu, ow)) → wpY_fly post (fS, pR, yL, yF, yK, yC, yS, dr, ho, op, ar, le, yk, yl, yf, yr, fd, pl, di, sh, sc, aw, nx, aO, bO, bu, tu, ow) (nI q) (nI d) (nI o))) ∨
    (∃ c1 r, r < 96 ∧ vB L c1 ∧ (∀ j, j ≠ 122 + 3 * k → c1 j = c j) ∧ c1 (122 + 3 * k) = nI r ∧
      (∀ {fS pR xS xD xN xC xL xB xK : Int32} {be dr ho op ar le xk xc xl xb xs xa : Nat → Int32} {w : Nat → Int32} {h : Nat} {post : Int32 → SX → Prop}, h ≤ 2160 → post 1 (nI h, fS, pR, xS, xD, xN, xC, xL, xB, xK, zput w h c1, be, dr, ho, op, ar, le, xk, xc, xl, xb, xs, xa) → wpX_fly post (nI h, fS, pR, xS, xD, xN, xC, xL, xB, xK, zput w h c, be, dr, ho, op, ar, le, xk, xc, xl, xb, xs, xa) (nI k)) ∧
      (∀ {fS pR yL yF yK yS : Int32} {dr ho op ar le yk yl yf yr fd pl di sh sc aw nx aO bO bu tu ow : Nat → Int32} {m : Nat} {post : SY → Prop}, rB c yS fd pl di sh sc aw nx aO bO → m < 7 → post (fS, pR, yL, yF, yK, nI (m + 1), yS, dr, ho, op, ar, le, yk, yl, yf, yr, fd, pl, di, sh, sc, aw, nx, aO, bO, upd bu m (nI r), upd tu m (nI d), upd ow m (nI o)) → wpY_fly post (fS, pR, yL, yF, yK, nI m, yS, dr, ho, op, ar, le, yk, yl, yf, yr, fd, pl, di, sh, sc, aw, nx, aO, bO, bu, tu, ow) (nI q) (nI d) (nI o))) := by
  have inX : ∀ {fS pR xS xD xN xC xL xB xK : Int32} {be dr ho op ar le xk xc xl xb xs xa : Nat → Int32} {w : Nat → Int32} {h : Nat} {post : Int32 → SX → Prop}, h ≤ 2160 → (∃ n, wX_fly_39 post (nI (h + (122 + 3 * k))) (nI o) (nI (h + (99 + 5 * o))) (nI h) fS pR xS xD xN xC xL xB xK n (nI 0) (zput w h c) be dr ho op ar le xk xc xl xb xs xa) → wpX_fly post (nI h, fS, pR, xS, xD, xN, xC, xL, xB, xK, zput w h c, be, dr, ho, op, ar, le, xk, xc, xl, xb, xs, xa) (nI k) := by
    intro fS pR xS xD xN xC xL xB xK be dr ho op ar le xk xc xl xb xs xa w h post hh hp
    have e4 : nI h + 96 + 5 * nI o + 3 = nI (h + (99 + 5 * o)) := by rw [ad_p, ad_p3]
    unfold wpX_fly
    refine nm_r (ad_b h k) (xr _ (ad_b2 h k) (by omega) hh ?_)
    rw [eo]
    exact nm_r e4 hp
  rcases fly1 H hk hq hd h3 eq ed with ⟨r, hr, X1, Y1⟩ | ⟨c1, V1, E1, X1, Y1⟩
  · have H2 : vB L (upd c (122 + 3 * k) (nI r)) := vB_fr H (by unfold vfree; omega)
    rcases fly1 H2 hk hr hd h3 pk_us (by rw [pk_un (by omega)]; exact ed) with ⟨r2, hr2, X2, Y2⟩ | ⟨c1, V1, E1, X2, Y2⟩
    · refine Or.inr ⟨upd (upd c (122 + 3 * k) (nI r)) (122 + 3 * k) (nI r2), r2, hr2, vB_fr H2 (by unfold vfree; omega), fun j hj => ?_, pk_us, ?_, ?_⟩
      · rw [pk_un hj, pk_un hj]
      · intro fS pR xS xD xN xC xL xB xK be dr ho op ar le xk xc xl xb xs xa w h post hh hp
        exact inX hh ⟨3, X1 hh (by decide) (X2 hh (by decide) (br_t (by decide) hp))⟩
      · intro fS pR yL yF yK yS dr ho op ar le yk yl yf yr fd pl di sh sc aw nx aO bO bu tu ow m post HR hm hp
        have HR2 : rB (upd c (122 + 3 * k) (nI r)) yS fd pl di sh sc aw nx aO bO := rB_cg HR (fun j hj => pk_un (by omega))
        exact ⟨3, Y1 HR (by decide) (Y2 HR2 (by decide) (br_t (by decide) (Y_add hm hp)))⟩
    · refine Or.inl ⟨c1, V1, fun j hj hne => (E1 j hj).trans (pk_un hne), ?_, ?_⟩
      · intro fS pR xS xD xN xC xL xB xK be dr ho op ar le xk xc xl xb xs xa w h post hh hp
        exact inX hh ⟨2, X1 hh (by decide) (X2 hh (by decide) hp)⟩
      · intro fS pR yL yF yK yC yS dr ho op ar le yk yl yf yr fd pl di sh sc aw nx aO bO bu tu ow post HR hp
        have HR2 : rB (upd c (122 + 3 * k) (nI r)) yS fd pl di sh sc aw nx aO bO := rB_cg HR (fun j hj => pk_un (by omega))
        exact ⟨2, Y1 HR (by decide) (Y2 HR2 (by decide) hp)⟩
  · refine Or.inl ⟨c1, V1, fun j hj _ => E1 j hj, ?_, ?_⟩
    · intro fS pR xS xD xN xC xL xB xK be dr ho op ar le xk xc xl xb xs xa w h post hh hp
      exact inX hh ⟨1, X1 hh (by decide) hp⟩
    · intro fS pR yL yF yK yC yS dr ho op ar le yk yl yf yr fd pl di sh sc aw nx aO bO bu tu ow post HR hp
      exact ⟨1, Y1 HR (by decide) hp⟩
/-- the bullets of a frame, from the k-th on, m of them kept so far -/
theorem bul_ex {L : Nat → Nat} {n : Nat} (hn : n ≤ 6) : ∀ (e k m : Nat) (c : Nat → Int32), k + e = n → m ≤ k → vB L c → (∀ j, j < m → vW c j) → (∀ j, k ≤ j → j < n → vW c j) →
    ∃ c1 m1, m1 ≤ n ∧ vB L c1 ∧ (∀ j, j < m1 → vW c1 j) ∧
      (∀ {fS pR xS xD xN xC xL xB xK : Int32} {be dr ho op ar le xk xc xl xb xs xa : Nat → Int32} {x1 : Int32} {w : Nat → Int32} {h fu : Nat} {post : SX → Prop}, h ≤ 2160 → wX_frame_19 post x1 (nI n) fu (nI m1) (nI n) (nI h) fS pR xS xD xN xC xL xB xK (zput w h c1) be dr ho op ar le xk xc xl xb xs xa → wX_frame_19 post x1 (nI n) (fu + e) (nI m) (nI k) (nI h) fS pR xS xD xN xC xL xB xK (zput w h c) be dr ho op ar le xk xc xl xb xs xa) ∧
      (∀ {fS pR yL yF yK yS : Int32} {dr ho op ar le yk yl yf yr fd pl di sh sc aw nx aO bO bu tu ow : Nat → Int32} {x1 : Int32} {fu : Nat} {post : SY → Prop}, rB c yS fd pl di sh sc aw nx aO bO → (∀ j, j < m → rW c bu tu ow j) → (∀ j, k ≤ j → j < n → rW c bu tu ow j) →
        (∀ {yS1 : Int32} {fd1 pl1 di1 sh1 sc1 aw1 nx1 aO1 bO1 : Nat → Int32} {bu1 tu1 ow1 : Nat → Int32}, rB c1 yS1 fd1 pl1 di1 sh1 sc1 aw1 nx1 aO1 bO1 → (∀ j, j < m1 → rW c1 bu1 tu1 ow1 j) → wY_frame1_12 post x1 (nI n) fu (nI n) fS pR yL yF yK (nI m1) yS1 dr ho op ar le yk yl yf yr fd1 pl1 di1 sh1 sc1 aw1 nx1 aO1 bO1 bu1 tu1 ow1) →
        wY_frame1_12 post x1 (nI n) (fu + e) (nI k) fS pR yL yF yK (nI m) yS dr ho op ar le yk yl yf yr fd pl di sh sc aw nx aO bO bu tu ow) := by
  intro e
  induction e with
  | zero =>
    intro k m c hk hm H W1 W2
    obtain rfl : k = n := by omega
    refine ⟨c, m, hm, H, W1, ?_, ?_⟩
    · intro fS pR xS xD xN xC xL xB xK be dr ho op ar le xk xc xl xb xs xa x1 w h fu post hh hp
      exact hp
    · intro fS pR yL yF yK yS dr ho op ar le yk yl yf yr fd pl di sh sc aw nx aO bO bu tu ow x1 fu post HR R1 R2 hp
      exact hp HR R1
  | succ e ih =>
    intro k m c hk hm H W1 W2
    obtain ⟨q, d, o, hq, hd, h3, eq, ed, eo⟩ := W2 k (Nat.le_refl k) (by omega)
    rcases fly_ex H (by omega) hq hd h3 eq ed eo with ⟨c1, V1, E1, X1, Y1⟩ | ⟨c1, r, hr, V1, E1, er, X1, Y1⟩
    · obtain ⟨c2, m2, hm2, V2, W3, X2, Y2⟩ := ih (k + 1) m c1 (by omega) (by omega) V1
        (fun j hj => vW_cg (W1 j hj) (E1 _ (by omega) (by omega)) (E1 _ (by omega) (by omega)) (E1 _ (by omega) (by omega)))
        (fun j hj1 hj2 => vW_cg (W2 j (by omega) hj2) (E1 _ (by omega) (by omega)) (E1 _ (by omega) (by omega)) (E1 _ (by omega) (by omega)))
      refine ⟨c2, m2, hm2, V2, W3, ?_, ?_⟩
      · intro fS pR xS xD xN xC xL xB xK be dr ho op ar le xk xc xl xb xs xa x1 w h fu post hh hp
        exact br_f (nI_ge (by omega) (by omega)) (X1 hh (br_t rfl (nm_r (nI_1 k) (X2 hh hp))))
      · intro fS pR yL yF yK yS dr ho op ar le yk yl yf yr fd pl di sh sc aw nx aO bO bu tu ow x1 fu post HR R1 R2 hp
        obtain ⟨b1, b2, b3⟩ := R2 k (Nat.le_refl k) (by omega)
        have i7 : vp_in (nI k) 7 := vp_in_nI (by omega) (by decide)
        refine br_f (nI_ge (by omega) (by omega)) ⟨i7, i7, i7, ?_⟩
        rw [ye k rfl (by omega) (b1.symm.trans eq), ye k rfl (by omega) (b2.symm.trans ed), ye k rfl (by omega) (b3.symm.trans eo)]
        refine Y1 HR (fun HR1 => nm_r (nI_1 k) (Y2 HR1 ?_ ?_ hp))
        · intro j hj
          exact rW_cg (R1 j hj) (E1 _ (by omega) (by omega)) (E1 _ (by omega) (by omega)) (E1 _ (by omega) (by omega))
        · intro j hj1 hj2
          exact rW_cg (R2 j (by omega) hj2) (E1 _ (by omega) (by omega)) (E1 _ (by omega) (by omega)) (E1 _ (by omega) (by omega))
    · have g1 : ∀ j, j ≠ 122 + 3 * m → j ≠ 123 + 3 * m → j ≠ 124 + 3 * m → j ≠ 122 + 3 * k → upd (upd (upd c1 (122 + 3 * m) (nI r)) (123 + 3 * m) (nI d)) (124 + 3 * m) (nI o) j = c j := by
        intro j z1 z2 z3 z4
        rw [pk_un z3, pk_un z2, pk_un z1]
        exact E1 j z4
      have g2 : upd (upd (upd c1 (122 + 3 * m) (nI r)) (123 + 3 * m) (nI d)) (124 + 3 * m) (nI o) (122 + 3 * m) = nI r := by
        rw [pk_un (by omega), pk_un (by omega), pk_us]
      have g3 : upd (upd (upd c1 (122 + 3 * m) (nI r)) (123 + 3 * m) (nI d)) (124 + 3 * m) (nI o) (123 + 3 * m) = nI d := by
        rw [pk_un (by omega), pk_us]
      have g4 : upd (upd (upd c1 (122 + 3 * m) (nI r)) (123 + 3 * m) (nI d)) (124 + 3 * m) (nI o) (124 + 3 * m) = nI o := pk_us
      obtain ⟨c2, m2, hm2, V2, W3, X2, Y2⟩ := ih (k + 1) (m + 1) (upd (upd (upd c1 (122 + 3 * m) (nI r)) (123 + 3 * m) (nI d)) (124 + 3 * m) (nI o)) (by omega) (by omega)
        (vB_up H (fun j hj => g1 j (by omega) (by omega) (by omega) (by omega)))
        (fun j hj => by
          by_cases e : j = m
          · subst e
            exact ⟨r, d, o, hr, hd, h3, g2, g3, g4⟩
          · exact vW_cg (W1 j (by omega)) (g1 _ (by omega) (by omega) (by omega) (by omega)) (g1 _ (by omega) (by omega) (by omega) (by omega)) (g1 _ (by omega) (by omega) (by omega) (by omega)))
        (fun j hj1 hj2 => vW_cg (W2 j (by omega) hj2) (g1 _ (by omega) (by omega) (by omega) (by omega)) (g1 _ (by omega) (by omega) (by omega) (by omega)) (g1 _ (by omega) (by omega) (by omega) (by omega)))
      refine ⟨c2, m2, hm2, V2, W3, ?_, ?_⟩
      · intro fS pR xS xD xN xC xL xB xK be dr ho op ar le xk xc xl xb xs xa x1 w h fu post hh hp
        refine br_f (nI_ge (by omega) (by omega)) (X1 hh (br_f (by decide) (nm_r (ad_b h k) (nm_r (ad_b h m) ⟨xv _ rfl (by omega) hh, ?_⟩))))
        rw [xe (122 + 3 * k) rfl (by omega) hh, er]
        refine xw _ rfl (by omega) hh ⟨xv _ (ad_b1 h k) (by omega) hh, ?_⟩
        rw [xe (123 + 3 * k) (ad_b1 h k) (by omega) hh, pk_un (by omega), E1 _ (by omega), ed]
        refine xw _ (ad_b1 h m) (by omega) hh ⟨xv _ (ad_b2 h k) (by omega) hh, ?_⟩
        rw [xe (124 + 3 * k) (ad_b2 h k) (by omega) hh, pk_un (by omega), pk_un (by omega), E1 _ (by omega), eo]
        exact xw _ (ad_b2 h m) (by omega) hh (nm_r (nI_1 m) (nm_r (nI_1 k) (X2 hh hp)))
      · intro fS pR yL yF yK yS dr ho op ar le yk yl yf yr fd pl di sh sc aw nx aO bO bu tu ow x1 fu post HR R1 R2 hp
        obtain ⟨b1, b2, b3⟩ := R2 k (Nat.le_refl k) (by omega)
        have i7 : vp_in (nI k) 7 := vp_in_nI (by omega) (by decide)
        refine br_f (nI_ge (by omega) (by omega)) ⟨i7, i7, i7, ?_⟩
        rw [ye k rfl (by omega) (b1.symm.trans eq), ye k rfl (by omega) (b2.symm.trans ed), ye k rfl (by omega) (b3.symm.trans eo)]
        refine Y1 HR (by omega) (nm_r (nI_1 k) (Y2 (rB_cg HR (fun j hj => g1 j (by omega) (by omega) (by omega) (by omega))) ?_ ?_ hp))
        · intro j hj
          by_cases e : j = m
          · subst e
            exact ⟨g2.trans pk_us.symm, g3.trans pk_us.symm, g4.trans pk_us.symm⟩
          · obtain ⟨a1, a2, a3⟩ := R1 j (by omega)
            refine ⟨?_, ?_, ?_⟩
            · rw [pk_un e, g1 _ (by omega) (by omega) (by omega) (by omega)]; exact a1
            · rw [pk_un e, g1 _ (by omega) (by omega) (by omega) (by omega)]; exact a2
            · rw [pk_un e, g1 _ (by omega) (by omega) (by omega) (by omega)]; exact a3
        · intro j hj1 hj2
          obtain ⟨a1, a2, a3⟩ := R2 j (by omega) hj2
          have e : j ≠ m := by omega
          refine ⟨?_, ?_, ?_⟩
          · rw [pk_un e, g1 _ (by omega) (by omega) (by omega) (by omega)]; exact a1
          · rw [pk_un e, g1 _ (by omega) (by omega) (by omega) (by omega)]; exact a2
          · rw [pk_un e, g1 _ (by omega) (by omega) (by omega) (by omega)]; exact a3
/-- the places behind the kept ones are cleared -/
def zr (c : Nat → Int32) (a b : Nat) : Nat → Int32 := fun j => if 122 + a ≤ j ∧ j < 122 + b then 0 else c j
theorem zr_0 (c : Nat → Int32) (a : Nat) : zr c a a = c := by
  funext j
  unfold zr
  rw [if_neg (by omega)]
theorem zr_s {c : Nat → Int32} {a b : Nat} (h : a < b) : zr (upd c (122 + a) 0) (a + 1) b = zr c a b := by
  funext j
  unfold zr upd
  by_cases e : j = 122 + a
  · rw [if_neg (by omega), if_pos e, if_pos (by omega)]
  · by_cases g : 122 + a ≤ j ∧ j < 122 + b
    · rw [if_pos (by omega), if_pos g]
    · rw [if_neg (by omega), if_neg e, if_neg g]
theorem zr_n {c : Nat → Int32} {a b j : Nat} (h : j < 122 + a ∨ 122 + b ≤ j) : zr c a b j = c j := by
  unfold zr
  rw [if_neg (by omega)]
section
variable {xH fS pR xS xD xN xC xL xB xK : Int32} {wo be dr ho op ar le xk xc xl xb xs xa : Nat → Int32}
theorem X_zero {n m : Nat} {x1 : Int32} {w : Nat → Int32} {h : Nat} {post : SX → Prop} (hn : n ≤ 6) (hh : h ≤ 2160) : ∀ (e k : Nat) (c : Nat → Int32), k + e = 3 * n → (∃ f, wX_frame_179 post x1 f 0 (nI h) fS pR xS xD xN xC xL xB xK (zput w h (upd (zr c k (3 * n)) 140 (nI m))) be dr ho op ar le xk xc xl xb xs xa) → wX_frame_132 post x1 (nI n) (nI m) (nI h) fS pR xS xD xN xC xL xB xK (e + 1) (nI k) (zput w h c) be dr ho op ar le xk xc xl xb xs xa := by
  have e3 : 3 * nI n = nI (3 * n) := pk_mul 3 n
  intro e
  induction e with
  | zero =>
    intro k c hk hp
    obtain rfl : k = 3 * n := by omega
    rw [zr_0] at hp
    refine br_t ?_ (xw _ (ad_140 h) (by omega) hh hp)
    rw [e3]
    exact nI_le (by omega) (by omega)
  | succ e ih =>
    intro k c hk hp
    refine br_f ?_ (xw _ (ad_z h k) (by omega) hh (nm_r (nI_1 k) (ih (k + 1) _ (by omega) ?_)))
    · rw [e3]
      exact nI_ge (by omega) (by omega)
    · rw [zr_s (by omega)]
      exact hp
end
end
section
def rY (c : Nat → Int32) (yC yS : Int32) (fd pl di sh sc aw nx aO bO bu tu ow : Nat → Int32) : Prop := rB c yS fd pl di sh sc aw nx aO bO ∧ c 140 = yC ∧ ∀ j, j < (c 140).toNatClampNeg → rW c bu tu ow j
theorem rY_lo {c c1 : Nat → Int32} {yC yS yS1 : Int32} {fd pl di sh sc aw nx aO bO bu tu ow fd1 pl1 di1 sh1 sc1 aw1 nx1 aO1 bO1 : Nat → Int32} (H : rY c yC yS fd pl di sh sc aw nx aO bO bu tu ow) (E : ∀ j, 121 < j → c1 j = c j) (HB : rB c1 yS1 fd1 pl1 di1 sh1 sc1 aw1 nx1 aO1 bO1) : rY c1 yC yS1 fd1 pl1 di1 sh1 sc1 aw1 nx1 aO1 bO1 bu tu ow := by
  obtain ⟨_, h2, h3⟩ := H
  refine ⟨HB, (E _ (by omega)).trans h2, fun j hj => ?_⟩
  rw [E _ (by omega)] at hj
  exact rW_cg (h3 j hj) (E _ (by omega)) (E _ (by omega)) (E _ (by omega))
/-- a player comes back -/
theorem back_ex {L : Nat → Nat} {ho c : Nat → Int32} {k a q : Nat} (H : vB L c) (hk : k < 3) (ha1 : 1 ≤ a) (ha5 : a ≤ 5) (ep : c (96 + 5 * k) = -1) (ea : c (100 + 5 * k) = nI a) (hq : q < 96) (eh : ho k = nI q) : ∃ c1, vB L c1 ∧ (∀ j, 121 ≤ j → c1 j = c j) ∧
    (∀ {fS pR xS xD xN xC xL xB xK : Int32} {be dr op ar le xk xc xl xb xs xa : Nat → Int32} {w : Nat → Int32} {h : Nat} {post : SX → Prop}, h ≤ 2160 → post (nI h, fS, pR, xS, xD, xN, xC, xL, xB, xK, zput w h c1, be, dr, ho, op, ar, le, xk, xc, xl, xb, xs, xa) → wpX_comeBack post (nI h, fS, pR, xS, xD, xN, xC, xL, xB, xK, zput w h c, be, dr, ho, op, ar, le, xk, xc, xl, xb, xs, xa) (nI k) (nI (h + (96 + 5 * k)))) ∧
    (∀ {fS pR yL yF yK yC yS : Int32} {dr op ar le yk yl yf yr fd pl di sh sc aw nx aO bO bu tu ow : Nat → Int32} {post : SY → Prop}, rB c yS fd pl di sh sc aw nx aO bO → (∀ {yS1 : Int32} {fd1 pl1 di1 sh1 sc1 aw1 nx1 aO1 bO1 : Nat → Int32}, rB c1 yS1 fd1 pl1 di1 sh1 sc1 aw1 nx1 aO1 bO1 → post (fS, pR, yL, yF, yK, yC, yS1, dr, ho, op, ar, le, yk, yl, yf, yr, fd1, pl1, di1, sh1, sc1, aw1, nx1, aO1, bO1, bu, tu, ow)) → wpY_comeBack post (fS, pR, yL, yF, yK, yC, yS, dr, ho, op, ar, le, yk, yl, yf, yr, fd, pl, di, sh, sc, aw, nx, aO, bO, bu, tu, ow) (nI k)) := by
  have i5 : vp_in (nI k) 5 := vp_in_nI (by omega) (by decide)
  have i3 : vp_in (nI k) 3 := vp_in_nI (by omega) (by decide)
  have em : nI a - 1 = nI (a - 1) := pk_sub (b := 1) ha1
  have V1 : 1 ≤ a - 1 → vB L (upd c (100 + 5 * k) (nI (a - 1))) := fun h1 => vB_pa H hk (fun j _ _ z => pk_un z) (Or.inl ⟨(pk_un (by omega)).trans ep, a - 1, h1, by omega, pk_us⟩)
  have V2 : vB L (upd (upd c (100 + 5 * k) (nI (a - 1))) (100 + 5 * k) 1) := vB_pa H hk (fun j _ _ z => by rw [pk_un z, pk_un z]) (Or.inl ⟨by rw [pk_un (by omega), pk_un (by omega)]; exact ep, 1, by omega, by omega, pk_us⟩)
  have inX : ∀ {fS pR xS xD xN xC xL xB xK : Int32} {be dr op ar le xk xc xl xb xs xa : Nat → Int32} {w : Nat → Int32} {h : Nat} {post : SX → Prop}, h ≤ 2160 → (((nI (a - 1) ≤ 0 → (∀ y, y = c q → ((y = 1 → wX_comeBack_64 post (nI (h + (96 + 5 * k))) (nI h) fS pR xS xD xN xC xL xB xK (zput w h (upd c (100 + 5 * k) (nI (a - 1)))) be dr ho op ar le xk xc xl xb xs xa) ∧ (¬ y = 1 → ((y = 2 → wX_comeBack_64 post (nI (h + (96 + 5 * k))) (nI h) fS pR xS xD xN xC xL xB xK (zput w h (upd c (100 + 5 * k) (nI (a - 1)))) be dr ho op ar le xk xc xl xb xs xa) ∧ (¬ y = 2 → ((st5 (upd c (100 + 5 * k) (nI (a - 1))) (nI q) < 0 → post (nI h, fS, pR, xS, xD, xN, xC, xL, xB, xK, zput w h (upd (upd (upd c (100 + 5 * k) (nI (a - 1))) (96 + 5 * k) (nI q)) (97 + 5 * k) 2), be, dr, ho, op, ar, le, xk, xc, xl, xb, xs, xa)) ∧ (¬ st5 (upd c (100 + 5 * k) (nI (a - 1))) (nI q) < 0 → wX_comeBack_64 post (nI (h + (96 + 5 * k))) (nI h) fS pR xS xD xN xC xL xB xK (zput w h (upd c (100 + 5 * k) (nI (a - 1)))) be dr ho op ar le xk xc xl xb xs xa))))))))) ∧ (¬ nI (a - 1) ≤ 0 → post (nI h, fS, pR, xS, xD, xN, xC, xL, xB, xK, zput w h (upd c (100 + 5 * k) (nI (a - 1))), be, dr, ho, op, ar, le, xk, xc, xl, xb, xs, xa))) → wpX_comeBack post (nI h, fS, pR, xS, xD, xN, xC, xL, xB, xK, zput w h c, be, dr, ho, op, ar, le, xk, xc, xl, xb, xs, xa) (nI k) (nI (h + (96 + 5 * k))) := by
    intro fS pR xS xD xN xC xL xB xK be dr op ar le xk xc xl xb xs xa w h post hh hp
    have e4 := ad_p4 h k
    unfold wpX_comeBack
    refine ⟨i5, nm_r (ye k rfl (by omega) eh) ⟨xv _ e4 (by omega) hh, ?_⟩⟩
    rw [xe (100 + 5 * k) e4 (by omega) hh, ea, em]
    refine xw _ e4 (by omega) hh ⟨xv _ e4 (by omega) hh, ?_⟩
    rw [xe (100 + 5 * k) e4 (by omega) hh, pk_us]
    refine ⟨fun z => xr _ (nI_add h q) (by omega) hh ?_, hp.2⟩
    have hp1 := hp.1 z
    rw [pk_un (by omega)]
    obtain ⟨a1, a2⟩ := hp1 _ rfl
    refine ⟨a1, fun z1 => ⟨(a2 z1).1, fun z2 => X_standing hh ⟨fun z3 => ?_, fun z3 => ((a2 z1).2 z2).2 z3⟩⟩⟩
    exact xw _ rfl (by omega) hh (xw _ (ad_p1 h k) (by omega) hh (((a2 z1).2 z2).1 z3))
  by_cases h1 : 1 ≤ a - 1
  · refine ⟨_, V1 h1, fun j hj => pk_un (by omega), ?_, ?_⟩
    · intro fS pR xS xD xN xC xL xB xK be dr op ar le xk xc xl xb xs xa w h post hh hp
      exact inX hh (br_f (nI_nle h1 (by omega)) hp)
    · intro fS pR yL yF yK yC yS dr op ar le yk yl yf yr fd pl di sh sc aw nx aO bO bu tu ow post HR hp
      unfold wpY_comeBack
      refine ⟨i3, ?_⟩
      rw [ye k rfl (by omega) ((rB_raw HR hk).trans ea), em]
      refine yw k rfl hk (by decide) ⟨i3, ?_⟩
      rw [ye k rfl (by omega) pk_us]
      exact br_f (nI_nle h1 (by omega)) (hp (rB_aw HR hk))
  · have e0 : a - 1 = 0 := by omega
    have l0 : nI (a - 1) ≤ 0 := by rw [e0]; decide
    have inY : ∀ {fS pR yL yF yK yC yS : Int32} {dr op ar le yk yl yf yr fd pl di sh sc aw nx aO bO bu tu ow : Nat → Int32} {post : SY → Prop}, rB c yS fd pl di sh sc aw nx aO bO → (∀ y, y = nI q → vp_in y 96 ∧ ((c q = 1 → post (fS, pR, yL, yF, yK, yC, yS, dr, ho, op, ar, le, yk, yl, yf, yr, fd, pl, di, sh, sc, upd (upd aw k (nI (a - 1))) k 1, nx, aO, bO, bu, tu, ow)) ∧ (¬ c q = 1 → (vp_in y 96 ∧ ((c q = 2 → post (fS, pR, yL, yF, yK, yC, yS, dr, ho, op, ar, le, yk, yl, yf, yr, fd, pl, di, sh, sc, upd (upd aw k (nI (a - 1))) k 1, nx, aO, bO, bu, tu, ow)) ∧ (¬ c q = 2 → ((0 ≤ st5 (upd c (100 + 5 * k) (nI (a - 1))) (nI q) → post (fS, pR, yL, yF, yK, yC, yS, dr, ho, op, ar, le, yk, yl, yf, yr, fd, pl, di, sh, sc, upd (upd aw k (nI (a - 1))) k 1, nx, aO, bO, bu, tu, ow)) ∧ (¬ 0 ≤ st5 (upd c (100 + 5 * k) (nI (a - 1))) (nI q) → post (fS, pR, yL, yF, yK, yC, yS, dr, ho, op, ar, le, yk, yl, yf, yr, fd, upd pl k (nI q), upd di k 2, sh, sc, upd aw k (nI (a - 1)), nx, aO, bO, bu, tu, ow))))))))) → wpY_comeBack post (fS, pR, yL, yF, yK, yC, yS, dr, ho, op, ar, le, yk, yl, yf, yr, fd, pl, di, sh, sc, aw, nx, aO, bO, bu, tu, ow) (nI k) := by
      intro fS pR yL yF yK yC yS dr op ar le yk yl yf yr fd pl di sh sc aw nx aO bO bu tu ow post HR hp
      unfold wpY_comeBack
      refine ⟨i3, ?_⟩
      rw [ye k rfl (by omega) ((rB_raw HR hk).trans ea), em]
      refine yw k rfl hk (by decide) ⟨i3, ?_⟩
      rw [ye k rfl (by omega) pk_us]
      refine br_t l0 ⟨i5, nm_r (ye k rfl (by omega) eh) ?_⟩
      obtain ⟨b1, b2, b3⟩ := hp _ rfl
      rw [ye q rfl (by omega) (rB_rfd HR hq)]
      refine ⟨b1, fun z => yw k rfl hk (by decide) (b2 z), fun z => ⟨b1, fun z2 => yw k rfl hk (by decide) ((b3 z).2.1 z2), fun z2 => Y_who (rB_P (rB_aw (v := nI (a - 1)) HR hk)) ⟨fun z3 => ?_, fun z3 => ?_⟩⟩⟩
      · exact yw k rfl hk (by decide) (((b3 z).2.2 z2).1 z3)
      · exact yw k rfl (by omega) (by decide) (yw k rfl (by omega) (by decide) (((b3 z).2.2 z2).2 z3))
    by_cases hb : c q = 1 ∨ c q = 2 ∨ ¬ st5 (upd c (100 + 5 * k) (nI (a - 1))) (nI q) < 0
    · refine ⟨_, V2, fun j hj => by rw [pk_un (by omega), pk_un (by omega)], ?_, ?_⟩
      · intro fS pR xS xD xN xC xL xB xK be dr op ar le xk xc xl xb xs xa w h post hh hp
        have hp2 : wX_comeBack_64 post (nI (h + (96 + 5 * k))) (nI h) fS pR xS xD xN xC xL xB xK (zput w h (upd c (100 + 5 * k) (nI (a - 1)))) be dr ho op ar le xk xc xl xb xs xa := xw _ (ad_p4 h k) (by omega) hh hp
        refine inX hh (br_t l0 (nm_e ⟨fun _ => hp2, fun z1 => ⟨fun _ => hp2, fun z2 => ⟨fun z3 => ?_, fun _ => hp2⟩⟩⟩))
        exact absurd (hb.resolve_left z1 |>.resolve_left z2) (fun z => z z3)
      · intro fS pR yL yF yK yC yS dr op ar le yk yl yf yr fd pl di sh sc aw nx aO bO bu tu ow post HR hp
        have hp2 := hp (rB_aw (v := 1) (rB_aw (v := nI (a - 1)) HR hk) hk)
        refine inY HR (nm_e ⟨vp_in_nI hq (by decide), fun _ => hp2, fun z1 => ⟨vp_in_nI hq (by decide), fun _ => hp2, fun z2 => ⟨fun _ => hp2, fun z3 => ?_⟩⟩⟩)
        exact absurd (hb.resolve_left z1 |>.resolve_left z2) (fun z => z3 (Int32.not_lt.mp z))
    · have z1 : ¬ c q = 1 := fun z => hb (Or.inl z)
      have z2 : ¬ c q = 2 := fun z => hb (Or.inr (Or.inl z))
      have z3 : st5 (upd c (100 + 5 * k) (nI (a - 1))) (nI q) < 0 := Decidable.not_not.mp (fun z => hb (Or.inr (Or.inr z)))
      refine ⟨upd (upd (upd c (100 + 5 * k) (nI (a - 1))) (96 + 5 * k) (nI q)) (97 + 5 * k) (nI 2), ?_, ?_, ?_, ?_⟩
      · refine vB_di (vB_pa H hk (fun j _ y1 y2 => by rw [pk_un y1, pk_un y2]) (Or.inr ⟨q, hq, pk_us, ?_⟩)) hk (by decide)
        rw [pk_un (by omega), pk_us, e0]
        rfl
      · intro j hj
        rw [pk_un (by omega), pk_un (by omega), pk_un (by omega)]
      · intro fS pR xS xD xN xC xL xB xK be dr op ar le xk xc xl xb xs xa w h post hh hp
        exact inX hh (br_t l0 (nm_e (br_f z1 (br_f z2 (br_t z3 hp)))))
      · intro fS pR yL yF yK yC yS dr op ar le yk yl yf yr fd pl di sh sc aw nx aO bO bu tu ow post HR hp
        exact inY HR (nm_e ⟨vp_in_nI hq (by decide), br_f z1 ⟨vp_in_nI hq (by decide), br_f z2 (br_f (Int32.not_le.mpr z3) (hp (rB_di (rB_pl (rB_aw HR hk) (by omega)) (by omega))))⟩⟩)
end
section
/-- the end of a step: what lies on the cell r is taken, the player stands there -/
theorem take_ex {L : Nat → Nat} {c : Nat → Int32} {k r : Nat} {kd : Int32} (H : vB L c) (hk : k < 3) (hr : r < 96) (ea : c (100 + 5 * k) = 0) (er : c r = kd) : ∃ c1, vB L c1 ∧ c1 (96 + 5 * k) = nI r ∧ c1 (97 + 5 * k) = c (97 + 5 * k) ∧ (∀ j, 121 ≤ j → c1 j = c j) ∧
    (∀ {fS pR xS xD xN xC xL xB xK : Int32} {be dr ho op ar le xk xc xl xb xs xa : Nat → Int32} {w : Nat → Int32} {h : Nat} {post : SX → Prop}, h ≤ 2160 → post (nI h, fS, pR, xS, xD, xN, xC, xL, xB, xK, zput w h c1, be, dr, ho, op, ar, le, xk, xc, xl, xb, xs, xa) → wX_move_87 post (nI (h + (96 + 5 * k))) (nI r) kd (nI h) fS pR xS xD xN xC xL xB xK (zput w h c) be dr ho op ar le xk xc xl xb xs xa) ∧
    (∀ {fS pR yL yF yK yC yS : Int32} {dr ho op ar le yk yl yf yr fd pl di sh sc aw nx aO bO bu tu ow : Nat → Int32} {post : SY → Prop}, rB c yS fd pl di sh sc aw nx aO bO → (∀ {yS1 : Int32} {fd1 pl1 di1 sh1 sc1 aw1 nx1 aO1 bO1 : Nat → Int32}, rB c1 yS1 fd1 pl1 di1 sh1 sc1 aw1 nx1 aO1 bO1 → post (fS, pR, yL, yF, yK, yC, yS1, dr, ho, op, ar, le, yk, yl, yf, yr, fd1, pl1, di1, sh1, sc1, aw1, nx1, aO1, bO1, bu, tu, ow)) → wY_move_91 post (nI k) (nI r) fS pR yL yF yK yC yS dr ho op ar le yk yl yf yr fd pl di sh sc aw nx aO bO bu tu ow) := by
  have i96 : vp_in (nI r) 96 := vp_in_nI hr (by decide)
  have i3 : vp_in (nI k) 3 := vp_in_nI hk (by decide)
  have fin : ∀ c0 : Nat → Int32, vB L c0 → c0 (100 + 5 * k) = 0 → vB L (upd (upd c0 r 0) (96 + 5 * k) (nI r)) := fun c0 H0 e0 => vB_pa (vB_fr H0 (by unfold vfree; omega)) hk (fun j _ z1 _ => pk_un z1) (Or.inr ⟨r, hr, pk_us, by rw [pk_un (by omega), pk_un (by omega)]; exact e0⟩)
  have finX : ∀ {c0 : Nat → Int32} {fS pR xS xD xN xC xL xB xK : Int32} {be dr ho op ar le xk xc xl xb xs xa : Nat → Int32} {w : Nat → Int32} {h : Nat} {post : SX → Prop}, h ≤ 2160 → post (nI h, fS, pR, xS, xD, xN, xC, xL, xB, xK, zput w h (upd (upd c0 r 0) (96 + 5 * k) (nI r)), be, dr, ho, op, ar, le, xk, xc, xl, xb, xs, xa) → wX_move_147 post (nI (h + (96 + 5 * k))) (nI r) (nI h) fS pR xS xD xN xC xL xB xK (zput w h c0) be dr ho op ar le xk xc xl xb xs xa := by
    intro c0 fS pR xS xD xN xC xL xB xK be dr ho op ar le xk xc xl xb xs xa w h post hh hp
    exact xw _ (nI_add h r) (by omega) hh (xw _ rfl (by omega) hh hp)
  have cm : ∀ c0 : Nat → Int32, upd (upd c0 r 0) (96 + 5 * k) (nI r) = upd (upd c0 (96 + 5 * k) (nI r)) r 0 := by
    intro c0
    funext j
    unfold upd
    by_cases e1 : j = r
    · rw [if_neg (by omega), if_pos e1, if_pos e1]
    · by_cases e2 : j = 96 + 5 * k
      · rw [if_pos e2, if_neg e1, if_pos e2]
      · rw [if_neg e2, if_neg e1, if_neg e1, if_neg e2]
  have finY : ∀ {c0 : Nat → Int32} {fS pR yL yF yK yC yS : Int32} {dr ho op ar le yk yl yf yr fd pl di sh sc aw nx aO bO bu tu ow : Nat → Int32} {post : SY → Prop}, rB c0 yS fd pl di sh sc aw nx aO bO → (∀ {yS1 : Int32} {fd1 pl1 di1 sh1 sc1 aw1 nx1 aO1 bO1 : Nat → Int32}, rB (upd (upd c0 r 0) (96 + 5 * k) (nI r)) yS1 fd1 pl1 di1 sh1 sc1 aw1 nx1 aO1 bO1 → post (fS, pR, yL, yF, yK, yC, yS1, dr, ho, op, ar, le, yk, yl, yf, yr, fd1, pl1, di1, sh1, sc1, aw1, nx1, aO1, bO1, bu, tu, ow)) → wY_move_151 post (nI k) (nI r) fS pR yL yF yK yC yS dr ho op ar le yk yl yf yr fd pl di sh sc aw nx aO bO bu tu ow := by
    intro c0 fS pR yL yF yK yC yS dr ho op ar le yk yl yf yr fd pl di sh sc aw nx aO bO bu tu ow post HR hp
    refine yw k rfl (by omega) (by decide) (yw r rfl hr (by decide) (hp ?_))
    rw [cm]
    exact rB_fd (rB_pl HR (by omega)) hr
  by_cases k3 : kd = 3
  · subst k3
    have n34 : ¬ (3 : Int32) = 4 := by decide
    refine ⟨upd (upd (upd c (99 + 5 * k) (c (99 + 5 * k) + 1)) r 0) (96 + 5 * k) (nI r), fin _ (vB_fr H (by unfold vfree; omega)) ((pk_un (by omega)).trans ea), pk_us, ?_, ?_, ?_, ?_⟩
    · rw [pk_un (by omega), pk_un (by omega), pk_un (by omega)]
    · intro j hj
      rw [pk_un (by omega), pk_un (by omega), pk_un (by omega)]
    · intro fS pR xS xD xN xC xL xB xK be dr ho op ar le xk xc xl xb xs xa w h post hh hp
      refine br_t rfl ⟨xv _ (ad_p3 h k) (by omega) hh, ?_⟩
      rw [xe (99 + 5 * k) (ad_p3 h k) (by omega) hh]
      exact xw _ (ad_p3 h k) (by omega) hh (br_f n34 (finX hh hp))
    · intro fS pR yL yF yK yC yS dr ho op ar le yk yl yf yr fd pl di sh sc aw nx aO bO bu tu ow post HR hp
      refine ⟨i96, ?_⟩
      rw [ye r rfl (by omega) ((rB_rfd HR hr).trans er)]
      refine br_t rfl ⟨i3, ?_⟩
      rw [ye k rfl (by omega) (rB_rsc HR hk)]
      refine yw k rfl hk (by decide) ⟨i96, ?_⟩
      rw [ye r rfl (by omega) ((rB_rfd HR hr).trans er)]
      exact br_f n34 (finY (rB_sc HR hk) hp)
  · by_cases k4 : kd = 4
    · subst k4
      obtain ⟨s, hs, es⟩ := H.2.2.1 k hk
      have shX : ∀ {v : Int32} {fS pR xS xD xN xC xL xB xK : Int32} {be dr ho op ar le xk xc xl xb xs xa : Nat → Int32} {w : Nat → Int32} {h : Nat} {post : SX → Prop}, h ≤ 2160 → post (nI h, fS, pR, xS, xD, xN, xC, xL, xB, xK, zput w h (upd (upd (upd c (98 + 5 * k) v) r 0) (96 + 5 * k) (nI r)), be, dr, ho, op, ar, le, xk, xc, xl, xb, xs, xa) → wX_move_146 post (nI (h + (96 + 5 * k))) (nI r) v (nI (h + (96 + 5 * k)) + 2) (nI h) fS pR xS xD xN xC xL xB xK (zput w h c) be dr ho op ar le xk xc xl xb xs xa := by
        intro v fS pR xS xD xN xC xL xB xK be dr ho op ar le xk xc xl xb xs xa w h post hh hp
        exact xw _ (ad_p2 h k) (by omega) hh (finX hh hp)
      have shY : ∀ {v : Int32} {fS pR yL yF yK yC yS : Int32} {dr ho op ar le yk yl yf yr fd pl di sh sc aw nx aO bO bu tu ow : Nat → Int32} {post : SY → Prop}, rB c yS fd pl di sh sc aw nx aO bO → (∀ {yS1 : Int32} {fd1 pl1 di1 sh1 sc1 aw1 nx1 aO1 bO1 : Nat → Int32}, rB (upd (upd (upd c (98 + 5 * k) v) r 0) (96 + 5 * k) (nI r)) yS1 fd1 pl1 di1 sh1 sc1 aw1 nx1 aO1 bO1 → post (fS, pR, yL, yF, yK, yC, yS1, dr, ho, op, ar, le, yk, yl, yf, yr, fd1, pl1, di1, sh1, sc1, aw1, nx1, aO1, bO1, bu, tu, ow)) → wY_move_150 post (nI k) (nI r) v (nI k) fS pR yL yF yK yC yS dr ho op ar le yk yl yf yr fd pl di sh sc aw nx aO bO bu tu ow := by
        intro v fS pR yL yF yK yC yS dr ho op ar le yk yl yf yr fd pl di sh sc aw nx aO bO bu tu ow post HR hp
        exact yw k rfl hk (by decide) (finY (rB_sh HR hk) hp)
      by_cases s6 : s ≤ 6
      · have e3 : nI s + 3 = nI (s + 3) := nI_add s 3
        refine ⟨upd (upd (upd c (98 + 5 * k) (nI (s + 3))) r 0) (96 + 5 * k) (nI r), fin _ (vB_sh H hk (by omega)) ((pk_un (by omega)).trans ea), pk_us, ?_, ?_, ?_, ?_⟩
        · rw [pk_un (by omega), pk_un (by omega), pk_un (by omega)]
        · intro j hj
          rw [pk_un (by omega), pk_un (by omega), pk_un (by omega)]
        · intro fS pR xS xD xN xC xL xB xK be dr ho op ar le xk xc xl xb xs xa w h post hh hp
          refine br_f (by decide) (br_t rfl ⟨xv _ (ad_p2 h k) (by omega) hh, ?_⟩)
          rw [xe (98 + 5 * k) (ad_p2 h k) (by omega) hh, es]
          refine br_t (nI_le (b := 6) s6 (by decide)) ⟨xv _ (ad_p2 h k) (by omega) hh, ?_⟩
          rw [e3]
          exact shX hh hp
        · intro fS pR yL yF yK yC yS dr ho op ar le yk yl yf yr fd pl di sh sc aw nx aO bO bu tu ow post HR hp
          refine ⟨i96, ?_⟩
          rw [ye r rfl (by omega) ((rB_rfd HR hr).trans er)]
          refine br_f (by decide) ⟨i96, ?_⟩
          rw [ye r rfl (by omega) ((rB_rfd HR hr).trans er)]
          refine br_t rfl ⟨i3, ?_⟩
          rw [ye k rfl (by omega) ((rB_rsh HR hk).trans es)]
          refine br_t (nI_le (b := 6) s6 (by decide)) ⟨i3, ?_⟩
          rw [e3]
          exact shY HR hp
      · refine ⟨upd (upd (upd c (98 + 5 * k) (nI 9)) r 0) (96 + 5 * k) (nI r), fin _ (vB_sh H hk (by omega)) ((pk_un (by omega)).trans ea), pk_us, ?_, ?_, ?_, ?_⟩
        · rw [pk_un (by omega), pk_un (by omega), pk_un (by omega)]
        · intro j hj
          rw [pk_un (by omega), pk_un (by omega), pk_un (by omega)]
        · intro fS pR xS xD xN xC xL xB xK be dr ho op ar le xk xc xl xb xs xa w h post hh hp
          refine br_f (by decide) (br_t rfl ⟨xv _ (ad_p2 h k) (by omega) hh, ?_⟩)
          rw [xe (98 + 5 * k) (ad_p2 h k) (by omega) hh, es]
          exact br_f (nI_ge (a := 6) (by omega) (by omega)) (shX hh hp)
        · intro fS pR yL yF yK yC yS dr ho op ar le yk yl yf yr fd pl di sh sc aw nx aO bO bu tu ow post HR hp
          refine ⟨i96, ?_⟩
          rw [ye r rfl (by omega) ((rB_rfd HR hr).trans er)]
          refine br_f (by decide) ⟨i96, ?_⟩
          rw [ye r rfl (by omega) ((rB_rfd HR hr).trans er)]
          refine br_t rfl ⟨i3, ?_⟩
          rw [ye k rfl (by omega) ((rB_rsh HR hk).trans es)]
          exact br_f (nI_ge (a := 6) (by omega) (by omega)) (shY HR hp)
    · refine ⟨upd (upd c r 0) (96 + 5 * k) (nI r), fin _ H ea, pk_us, ?_, ?_, ?_, ?_⟩
      · rw [pk_un (by omega), pk_un (by omega)]
      · intro j hj
        rw [pk_un (by omega), pk_un (by omega)]
      · intro fS pR xS xD xN xC xL xB xK be dr ho op ar le xk xc xl xb xs xa w h post hh hp
        exact br_f k3 (br_f k4 (finX hh hp))
      · intro fS pR yL yF yK yC yS dr ho op ar le yk yl yf yr fd pl di sh sc aw nx aO bO bu tu ow post HR hp
        refine ⟨i96, ?_⟩
        rw [ye r rfl (by omega) ((rB_rfd HR hr).trans er)]
        refine br_f k3 ⟨i96, ?_⟩
        rw [ye r rfl (by omega) ((rB_rfd HR hr).trans er)]
        exact br_f k4 (finY HR hp)
/-- a player's step -/
theorem move_ex {L : Nat → Nat} {c : Nat → Int32} {k q d : Nat} (H : vB L c) (hk : k < 3) (hq : q < 96) (hd : d < 4) (ep : c (96 + 5 * k) = nI q) (ed : c (97 + 5 * k) = nI d) (ea : c (100 + 5 * k) = 0) : ∃ c1 q1, q1 < 96 ∧ vB L c1 ∧ c1 (96 + 5 * k) = nI q1 ∧ c1 (97 + 5 * k) = nI d ∧ (∀ j, 121 ≤ j → c1 j = c j) ∧
    (∀ {fS pR xS xD xN xC xL xB xK : Int32} {be dr ho op ar le xk xc xl xb xs xa : Nat → Int32} {w : Nat → Int32} {h : Nat} {post : SX → Prop}, h ≤ 2160 → post (nI h, fS, pR, xS, xD, xN, xC, xL, xB, xK, zput w h c1, be, dr, ho, op, ar, le, xk, xc, xl, xb, xs, xa) → wpX_move post (nI h, fS, pR, xS, xD, xN, xC, xL, xB, xK, zput w h c, be, dr, ho, op, ar, le, xk, xc, xl, xb, xs, xa) (nI (h + (96 + 5 * k)))) ∧
    (∀ {fS pR yL yF yK yC yS : Int32} {dr ho op ar le yk yl yf yr fd pl di sh sc aw nx aO bO bu tu ow : Nat → Int32} {post : SY → Prop}, rB c yS fd pl di sh sc aw nx aO bO → (∀ {yS1 : Int32} {fd1 pl1 di1 sh1 sc1 aw1 nx1 aO1 bO1 : Nat → Int32}, rB c1 yS1 fd1 pl1 di1 sh1 sc1 aw1 nx1 aO1 bO1 → post (fS, pR, yL, yF, yK, yC, yS1, dr, ho, op, ar, le, yk, yl, yf, yr, fd1, pl1, di1, sh1, sc1, aw1, nx1, aO1, bO1, bu, tu, ow)) → wpY_move post (fS, pR, yL, yF, yK, yC, yS, dr, ho, op, ar, le, yk, yl, yf, yr, fd, pl, di, sh, sc, aw, nx, aO, bO, bu, tu, ow) (nI k)) := by
  have i5 : vp_in (nI k) 5 := vp_in_nI (by omega) (by decide)
  by_cases hr : bz q d 1 < 96
  · obtain ⟨r, er⟩ : ∃ r, bz q d 1 = r := ⟨_, rfl⟩
    rw [er] at hr
    by_cases hs : c r = 1 ∨ ¬ st5 c (nI r) < 0
    · refine ⟨c, q, hq, H, ep, ed, fun j _ => rfl, ?_, ?_⟩
      · intro fS pR xS xD xN xC xL xB xK be dr ho op ar le xk xc xl xb xs xa w h post hh hp
        unfold wpX_move
        refine xr _ (ad_p1 h k) (by omega) hh ⟨xv _ rfl (by omega) hh, ?_⟩
        rw [xe (96 + 5 * k) rfl (by omega) hh, ep, ed]
        refine X_nextI hq hd er hr (X_kindOf hh hr ⟨fun _ => hp, fun z => X_standing hh ?_⟩)
        exact br_f (hs.resolve_left z) hp
      · intro fS pR yL yF yK yC yS dr ho op ar le yk yl yf yr fd pl di sh sc aw nx aO bO bu tu ow post HR hp
        unfold wpY_move
        refine ⟨i5, i5, ?_⟩
        rw [ye k rfl (by omega) ((rB_rpl HR (by omega)).trans ep), ye k rfl (by omega) ((rB_rdi HR (by omega)).trans ed)]
        refine Y_beyondI (n := 1) hq hd (by decide) er hr (br_f (nI_pos (by omega)) ⟨vp_in_nI hr (by decide), ?_⟩)
        rw [ye r rfl (by omega) (rB_rfd HR hr)]
        exact ⟨fun _ => hp HR, fun z => Y_who (rB_P HR) (br_f (hs.resolve_left z) (hp HR))⟩
    · have z1 : ¬ c r = 1 := fun z => hs (Or.inl z)
      have z3 : st5 c (nI r) < 0 := Decidable.not_not.mp (fun z => hs (Or.inr z))
      by_cases k2 : c r = 2
      · by_cases hb : bz r d 1 < 96
        · obtain ⟨b, eb⟩ : ∃ b, bz r d 1 = b := ⟨_, rfl⟩
          rw [eb] at hb
          by_cases hs2 : ¬ c b = 0 ∨ ¬ st5 c (nI b) < 0
          · refine ⟨c, q, hq, H, ep, ed, fun j _ => rfl, ?_, ?_⟩
            · intro fS pR xS xD xN xC xL xB xK be dr ho op ar le xk xc xl xb xs xa w h post hh hp
              unfold wpX_move
              refine xr _ (ad_p1 h k) (by omega) hh ⟨xv _ rfl (by omega) hh, ?_⟩
              rw [xe (96 + 5 * k) rfl (by omega) hh, ep, ed]
              refine X_nextI hq hd er hr (X_kindOf hh hr (br_f z1 (X_standing hh (br_t z3 (br_t k2 (X_nextI hr hd eb hb (X_kindOf hh hb ⟨fun z => X_standing hh ?_, fun _ => hp⟩)))))))
              exact br_f (hs2.resolve_left (fun y => y z)) hp
            · intro fS pR yL yF yK yC yS dr ho op ar le yk yl yf yr fd pl di sh sc aw nx aO bO bu tu ow post HR hp
              unfold wpY_move
              refine ⟨i5, i5, ?_⟩
              rw [ye k rfl (by omega) ((rB_rpl HR (by omega)).trans ep), ye k rfl (by omega) ((rB_rdi HR (by omega)).trans ed)]
              refine Y_beyondI (n := 1) hq hd (by decide) er hr (br_f (nI_pos (by omega)) ⟨vp_in_nI hr (by decide), ?_⟩)
              rw [ye r rfl (by omega) (rB_rfd HR hr)]
              refine br_f z1 (Y_who (rB_P HR) (br_t z3 ⟨vp_in_nI hr (by decide), br_t k2 ⟨i5, Y_beyondI (n := 1) hr hd (by decide) eb hb (br_f (nI_pos (by omega)) ⟨vp_in_nI hb (by decide), ?_⟩)⟩⟩))
              rw [ye b rfl (by omega) (rB_rfd HR hb)]
              exact ⟨fun z => Y_who (rB_P HR) (br_f (hs2.resolve_left (fun y => y z)) (hp HR)), fun _ => hp HR⟩
          · have y1 : c b = 0 := Decidable.not_not.mp (fun z => hs2 (Or.inl z))
            have y3 : st5 c (nI b) < 0 := Decidable.not_not.mp (fun z => hs2 (Or.inr z))
            have nb : b ≠ r := fun e => by
              rw [e] at y1
              rw [y1] at k2
              exact absurd k2 (by decide)
            obtain ⟨c1, V1, p1, d1, E1, X1, Y1⟩ := take_ex (kd := c r) (vB_fr (i := b) (v := 2) H (by unfold vfree; omega)) hk hr ((pk_un (by omega)).trans ea) (pk_un (fun e => nb e.symm))
            refine ⟨c1, r, hr, V1, p1, d1.trans ((pk_un (by omega)).trans ed), fun j hj => (E1 j hj).trans (pk_un (by omega)), ?_, ?_⟩
            · intro fS pR xS xD xN xC xL xB xK be dr ho op ar le xk xc xl xb xs xa w h post hh hp
              unfold wpX_move
              refine xr _ (ad_p1 h k) (by omega) hh ⟨xv _ rfl (by omega) hh, ?_⟩
              rw [xe (96 + 5 * k) rfl (by omega) hh, ep, ed]
              exact X_nextI hq hd er hr (X_kindOf hh hr (br_f z1 (X_standing hh (br_t z3 (br_t k2 (X_nextI hr hd eb hb (X_kindOf hh hb (br_t y1 (X_standing hh (br_t y3 (xw _ (nI_add h b) (by omega) hh (X1 hh hp))))))))))))
            · intro fS pR yL yF yK yC yS dr ho op ar le yk yl yf yr fd pl di sh sc aw nx aO bO bu tu ow post HR hp
              unfold wpY_move
              refine ⟨i5, i5, ?_⟩
              rw [ye k rfl (by omega) ((rB_rpl HR (by omega)).trans ep), ye k rfl (by omega) ((rB_rdi HR (by omega)).trans ed)]
              refine Y_beyondI (n := 1) hq hd (by decide) er hr (br_f (nI_pos (by omega)) ⟨vp_in_nI hr (by decide), ?_⟩)
              rw [ye r rfl (by omega) (rB_rfd HR hr)]
              refine br_f z1 (Y_who (rB_P HR) (br_t z3 ⟨vp_in_nI hr (by decide), br_t k2 ⟨i5, Y_beyondI (n := 1) hr hd (by decide) eb hb (br_f (nI_pos (by omega)) ⟨vp_in_nI hb (by decide), ?_⟩)⟩⟩))
              rw [ye b rfl (by omega) (rB_rfd HR hb)]
              exact br_t y1 (Y_who (rB_P HR) (br_t y3 (yw b rfl hb (by decide) (Y1 (rB_fd HR hb) hp))))
        · refine ⟨c, q, hq, H, ep, ed, fun j _ => rfl, ?_, ?_⟩
          · intro fS pR xS xD xN xC xL xB xK be dr ho op ar le xk xc xl xb xs xa w h post hh hp
            unfold wpX_move
            refine xr _ (ad_p1 h k) (by omega) hh ⟨xv _ rfl (by omega) hh, ?_⟩
            rw [xe (96 + 5 * k) rfl (by omega) hh, ep, ed]
            exact X_nextI hq hd er hr (X_kindOf hh hr (br_f z1 (X_standing hh (br_t z3 (br_t k2 (X_nextO hr hd hb (fun b hb0 => X_kindOut hb0 (br_f (by decide) hp))))))))
          · intro fS pR yL yF yK yC yS dr ho op ar le yk yl yf yr fd pl di sh sc aw nx aO bO bu tu ow post HR hp
            unfold wpY_move
            refine ⟨i5, i5, ?_⟩
            rw [ye k rfl (by omega) ((rB_rpl HR (by omega)).trans ep), ye k rfl (by omega) ((rB_rdi HR (by omega)).trans ed)]
            refine Y_beyondI (n := 1) hq hd (by decide) er hr (br_f (nI_pos (by omega)) ⟨vp_in_nI hr (by decide), ?_⟩)
            rw [ye r rfl (by omega) (rB_rfd HR hr)]
            exact br_f z1 (Y_who (rB_P HR) (br_t z3 ⟨vp_in_nI hr (by decide), br_t k2 ⟨i5, Y_beyondO (n := 1) hr hd (by decide) hb (br_t ngm1 (hp HR))⟩⟩))
      · obtain ⟨c1, V1, p1, d1, E1, X1, Y1⟩ := take_ex (kd := c r) H hk hr ea rfl
        refine ⟨c1, r, hr, V1, p1, d1.trans ed, E1, ?_, ?_⟩
        · intro fS pR xS xD xN xC xL xB xK be dr ho op ar le xk xc xl xb xs xa w h post hh hp
          unfold wpX_move
          refine xr _ (ad_p1 h k) (by omega) hh ⟨xv _ rfl (by omega) hh, ?_⟩
          rw [xe (96 + 5 * k) rfl (by omega) hh, ep, ed]
          exact X_nextI hq hd er hr (X_kindOf hh hr (br_f z1 (X_standing hh (br_t z3 (br_f k2 (X1 hh hp))))))
        · intro fS pR yL yF yK yC yS dr ho op ar le yk yl yf yr fd pl di sh sc aw nx aO bO bu tu ow post HR hp
          unfold wpY_move
          refine ⟨i5, i5, ?_⟩
          rw [ye k rfl (by omega) ((rB_rpl HR (by omega)).trans ep), ye k rfl (by omega) ((rB_rdi HR (by omega)).trans ed)]
          refine Y_beyondI (n := 1) hq hd (by decide) er hr (br_f (nI_pos (by omega)) ⟨vp_in_nI hr (by decide), ?_⟩)
          rw [ye r rfl (by omega) (rB_rfd HR hr)]
          exact br_f z1 (Y_who (rB_P HR) (br_t z3 ⟨vp_in_nI hr (by decide), br_f k2 (Y1 HR hp)⟩))
  · refine ⟨c, q, hq, H, ep, ed, fun j _ => rfl, ?_, ?_⟩
    · intro fS pR xS xD xN xC xL xB xK be dr ho op ar le xk xc xl xb xs xa w h post hh hp
      unfold wpX_move
      refine xr _ (ad_p1 h k) (by omega) hh ⟨xv _ rfl (by omega) hh, ?_⟩
      rw [xe (96 + 5 * k) rfl (by omega) hh, ep, ed]
      exact X_nextO hq hd hr (fun r hr0 => X_kindOut hr0 (br_t rfl hp))
    · intro fS pR yL yF yK yC yS dr ho op ar le yk yl yf yr fd pl di sh sc aw nx aO bO bu tu ow post HR hp
      unfold wpY_move
      refine ⟨i5, i5, ?_⟩
      rw [ye k rfl (by omega) ((rB_rpl HR (by omega)).trans ep), ye k rfl (by omega) ((rB_rdi HR (by omega)).trans ed)]
      exact Y_beyondO (n := 1) hq hd (by decide) hr (br_t ngm1 (hp HR))
end
section
/-- a player shoots, or doesn't -/
theorem shoot_ex {L : Nat → Nat} {c : Nat → Int32} {k q d : Nat} {i : Int32} (H : vB L c) (HL : vL c) (hk : k < 3) (hq : q < 96) (hd : d < 4) (ep : c (96 + 5 * k) = nI q) (ed : c (97 + 5 * k) = nI d) : ∃ c1, vB L c1 ∧ vL c1 ∧
    (∀ {fS pR xS xD xN xC xL xB xK : Int32} {be dr ho op ar le xk xc xl xb xs xa : Nat → Int32} {w : Nat → Int32} {h : Nat} {post : SX → Prop}, h ≤ 2160 → post (nI h, fS, pR, xS, xD, xN, xC, xL, xB, xK, zput w h c1, be, dr, ho, op, ar, le, xk, xc, xl, xb, xs, xa) → wX_act_50 post (nI k) i (nI (h + (96 + 5 * k))) (nI h) fS pR xS xD xN xC xL xB xK (zput w h c) be dr ho op ar le xk xc xl xb xs xa) ∧
    (∀ {fS pR yL yF yK yC yS : Int32} {dr ho op ar le yk yl yf yr fd pl di sh sc aw nx aO bO bu tu ow : Nat → Int32} {post : SY → Prop}, rY c yC yS fd pl di sh sc aw nx aO bO bu tu ow → (∀ {yC1 yS1 : Int32} {fd1 pl1 di1 sh1 sc1 aw1 nx1 aO1 bO1 bu1 tu1 ow1 : Nat → Int32}, rY c1 yC1 yS1 fd1 pl1 di1 sh1 sc1 aw1 nx1 aO1 bO1 bu1 tu1 ow1 → post (fS, pR, yL, yF, yK, yC1, yS1, dr, ho, op, ar, le, yk, yl, yf, yr, fd1, pl1, di1, sh1, sc1, aw1, nx1, aO1, bO1, bu1, tu1, ow1)) → wY_act_20 post (nI k) i fS pR yL yF yK yC yS dr ho op ar le yk yl yf yr fd pl di sh sc aw nx aO bO bu tu ow) := by
  obtain ⟨n, hn, e140, W⟩ := HL
  obtain ⟨s, hs, es⟩ := H.2.2.1 k hk
  have i3 : vp_in (nI k) 3 := vp_in_nI hk (by decide)
  have i5 : vp_in (nI k) 5 := vp_in_nI (by omega) (by decide)
  by_cases g : i &&& 8 = 0 ∨ s = 0 ∨ n = 6
  · refine ⟨c, H, ⟨n, hn, e140, W⟩, ?_, ?_⟩
    · intro fS pR xS xD xN xC xL xB xK be dr ho op ar le xk xc xl xb xs xa w h post hh hp
      refine xr _ (ad_140 h) (by omega) hh ⟨fun _ => hp, fun z => ⟨xv _ (ad_p2 h k) (by omega) hh, ?_⟩⟩
      rw [xe (98 + 5 * k) (ad_p2 h k) (by omega) hh, es, e140]
      refine ⟨fun _ => hp, fun z2 => br_t ?_ hp⟩
      have hs0 : ¬ s = 0 := fun y => z2 (by rw [y]; rfl)
      rw [(g.resolve_left z).resolve_left hs0]
      rfl
    · intro fS pR yL yF yK yC yS dr ho op ar le yk yl yf yr fd pl di sh sc aw nx aO bO bu tu ow post HR hp
      have HB := HR.1
      refine ⟨fun _ => hp HR, fun z => ⟨i3, ?_⟩⟩
      rw [ye k rfl (by omega) ((rB_rsh HB hk).trans es)]
      refine ⟨fun _ => hp HR, fun z2 => br_t ?_ (hp HR)⟩
      have hs0 : ¬ s = 0 := fun y => z2 (by rw [y]; decide)
      rw [← HR.2.1, e140, (g.resolve_left z).resolve_left hs0]
      decide
  · have g1 : ¬ i &&& 8 = 0 := fun z => g (Or.inl z)
    have g2 : ¬ s = 0 := fun z => g (Or.inr (Or.inl z))
    have g3 : ¬ n = 6 := fun z => g (Or.inr (Or.inr z))
    have em : nI s - 1 = nI (s - 1) := pk_sub (b := 1) (by omega)
    obtain ⟨c0, hc0⟩ : ∃ c0, c0 = upd c (98 + 5 * k) (nI (s - 1)) := ⟨_, rfl⟩
    obtain ⟨c1, hc1⟩ : ∃ c1, c1 = upd (upd (upd (upd c0 (122 + 3 * n) (nI q)) (123 + 3 * n) (nI d)) (124 + 3 * n) (nI k)) 140 (nI (n + 1)) := ⟨_, rfl⟩
    have V0 : vB L c0 := by rw [hc0]; exact vB_sh H hk (by omega)
    have g0 : ∀ j, j ≠ 98 + 5 * k → c0 j = c j := fun j hj => by rw [hc0]; exact pk_un hj
    have gg : ∀ j, j ≠ 122 + 3 * n → j ≠ 123 + 3 * n → j ≠ 124 + 3 * n → j ≠ 140 → c1 j = c0 j := fun j z1 z2 z3 z4 => by rw [hc1, pk_un z4, pk_un z3, pk_un z2, pk_un z1]
    have h140 : c1 140 = nI (n + 1) := by rw [hc1]; exact pk_us
    have w1 : c1 (122 + 3 * n) = nI q := by rw [hc1, pk_un (by omega), pk_un (by omega), pk_un (by omega), pk_us]
    have w2 : c1 (123 + 3 * n) = nI d := by rw [hc1, pk_un (by omega), pk_un (by omega), pk_us]
    have w3 : c1 (124 + 3 * n) = nI k := by rw [hc1, pk_un (by omega), pk_us]
    have ga : ∀ j, 121 ≤ j → j ≠ 122 + 3 * n → j ≠ 123 + 3 * n → j ≠ 124 + 3 * n → j ≠ 140 → c1 j = c j := fun j z0 z1 z2 z3 z4 => (gg j z1 z2 z3 z4).trans (g0 j (by omega))
    refine ⟨c1, vB_up V0 (fun j hj => gg j (by omega) (by omega) (by omega) (by omega)), ⟨n + 1, by omega, h140, fun j hj => ?_⟩, ?_, ?_⟩
    · by_cases e : j = n
      · subst e
        exact ⟨q, d, k, hq, hd, hk, w1, w2, w3⟩
      · exact vW_cg (W j (by omega)) (ga _ (by omega) (by omega) (by omega) (by omega) (by omega)) (ga _ (by omega) (by omega) (by omega) (by omega) (by omega)) (ga _ (by omega) (by omega) (by omega) (by omega) (by omega))
    · intro fS pR xS xD xN xC xL xB xK be dr ho op ar le xk xc xl xb xs xa w h post hh hp
      refine xr _ (ad_140 h) (by omega) hh (br_f g1 ⟨xv _ (ad_p2 h k) (by omega) hh, ?_⟩)
      rw [xe (98 + 5 * k) (ad_p2 h k) (by omega) hh, es, e140, em]
      refine br_f (nI_ne0 (by omega) (by omega)) (br_f (fun z => ?_) ⟨xv _ (ad_p2 h k) (by omega) hh, xw _ (ad_p2 h k) (by omega) hh (nm_r (ad_b h n) ⟨xv _ rfl (by omega) hh, ?_⟩)⟩)
      · exact g3 ((nI_eq (b := 6) (by omega) (by decide)).mp z)
      · rw [xe (96 + 5 * k) rfl (by omega) hh, pk_un (by omega), ep]
        refine xw _ rfl (by omega) hh ⟨xv _ (ad_p1 h k) (by omega) hh, ?_⟩
        rw [xe (97 + 5 * k) (ad_p1 h k) (by omega) hh, pk_un (by omega), pk_un (by omega), ed]
        refine xw _ (ad_b1 h n) (by omega) hh (xw _ (ad_b2 h n) (by omega) hh ?_)
        rw [nI_1 n]
        refine xw _ (ad_140 h) (by omega) hh ?_
        rw [hc1, hc0] at hp
        exact hp
    · intro fS pR yL yF yK yC yS dr ho op ar le yk yl yf yr fd pl di sh sc aw nx aO bO bu tu ow post HR hp
      obtain ⟨HB, HC, HW⟩ := HR
      rw [e140] at HC HW
      rw [nI_clamp (by omega)] at HW
      refine br_f g1 ⟨i3, ?_⟩
      rw [ye k rfl (by omega) ((rB_rsh HB hk).trans es), em]
      refine br_f (nI_nle (by omega) (by omega)) (br_f ?_ ⟨i3, yw k rfl hk (by decide) ⟨i5, i5, ?_⟩⟩)
      · rw [← HC]
        exact nI_ge (b := 6) (by omega) (by decide)
      · rw [ye k rfl (by omega) ((rB_rpl HB (by omega)).trans ep), ye k rfl (by omega) ((rB_rdi HB (by omega)).trans ed)]
        subst HC
        refine Y_add (by omega) (hp ⟨?_, h140, fun j hj => ?_⟩)
        · have HB0 := rB_sh (v := nI (s - 1)) HB hk
          rw [← hc0] at HB0
          exact rB_cg HB0 (fun j hj => gg j (by omega) (by omega) (by omega) (by omega))
        · rw [h140, nI_clamp (by omega)] at hj
          by_cases e : j = n
          · subst e
            exact ⟨w1.trans pk_us.symm, w2.trans pk_us.symm, w3.trans pk_us.symm⟩
          · obtain ⟨a1, a2, a3⟩ := HW j (by omega)
            refine ⟨?_, ?_, ?_⟩
            · rw [pk_un e, ga _ (by omega) (by omega) (by omega) (by omega) (by omega)]; exact a1
            · rw [pk_un e, ga _ (by omega) (by omega) (by omega) (by omega) (by omega)]; exact a2
            · rw [pk_un e, ga _ (by omega) (by omega) (by omega) (by omega) (by omega)]; exact a3
/-- a player's turn -/
theorem act_ex {L : Nat → Nat} {ho c : Nat → Int32} {k i q0 : Nat} (H : vB L c) (HL : vL c) (hk : k < 3) (hi : i < 16) (h0 : q0 < 96) (eh : ho k = nI q0) : ∃ c1, vB L c1 ∧ vL c1 ∧
    (∀ {fS pR xS xD xN xC xL xB xK : Int32} {be dr op ar le xk xc xl xb xs xa : Nat → Int32} {w : Nat → Int32} {h : Nat} {post : SX → Prop}, h ≤ 2160 → post (nI h, fS, pR, xS, xD, xN, xC, xL, xB, xK, zput w h c1, be, dr, ho, op, ar, le, xk, xc, xl, xb, xs, xa) → wpX_act post (nI h, fS, pR, xS, xD, xN, xC, xL, xB, xK, zput w h c, be, dr, ho, op, ar, le, xk, xc, xl, xb, xs, xa) (nI k) (nI i)) ∧
    (∀ {fS pR yL yF yK yC yS : Int32} {dr op ar le yk yl yf yr fd pl di sh sc aw nx aO bO bu tu ow : Nat → Int32} {post : SY → Prop}, rY c yC yS fd pl di sh sc aw nx aO bO bu tu ow → (∀ {yC1 yS1 : Int32} {fd1 pl1 di1 sh1 sc1 aw1 nx1 aO1 bO1 bu1 tu1 ow1 : Nat → Int32}, rY c1 yC1 yS1 fd1 pl1 di1 sh1 sc1 aw1 nx1 aO1 bO1 bu1 tu1 ow1 → post (fS, pR, yL, yF, yK, yC1, yS1, dr, ho, op, ar, le, yk, yl, yf, yr, fd1, pl1, di1, sh1, sc1, aw1, nx1, aO1, bO1, bu1, tu1, ow1)) → ((c (100 + 5 * k) ≤ 0 → wpY_act post (fS, pR, yL, yF, yK, yC, yS, dr, ho, op, ar, le, yk, yl, yf, yr, fd, pl, di, sh, sc, aw, nx, aO, bO, bu, tu, ow) (nI k) (nI i)) ∧ (¬ c (100 + 5 * k) ≤ 0 → wpY_comeBack post (fS, pR, yL, yF, yK, yC, yS, dr, ho, op, ar, le, yk, yl, yf, yr, fd, pl, di, sh, sc, aw, nx, aO, bO, bu, tu, ow) (nI k)))) := by
  rcases H.1 k hk with ⟨ep, a, ha1, ha5, ea⟩ | ⟨q, hq, ep, ea⟩
  · obtain ⟨c1, V1, E1, X1, Y1⟩ := back_ex H hk ha1 ha5 ep ea h0 eh
    refine ⟨c1, V1, vL_cg HL (fun j hj _ => E1 j (by omega)), ?_, ?_⟩
    · intro fS pR xS xD xN xC xL xB xK be dr op ar le xk xc xl xb xs xa w h post hh hp
      unfold wpX_act
      refine nm_r (ad_p h k) ⟨xv _ rfl (by omega) hh, ?_⟩
      rw [xe (96 + 5 * k) rfl (by omega) hh, ep]
      exact br_f (by decide) (X1 hh hp)
    · intro fS pR yL yF yK yC yS dr op ar le yk yl yf yr fd pl di sh sc aw nx aO bO bu tu ow post HR hp
      rw [ea]
      exact br_f (nI_nle ha1 (by omega)) (Y1 HR.1 (fun HB => hp (rY_lo HR (fun j hj => E1 j (by omega)) HB)))
  · have i5 : vp_in (nI k) 5 := vp_in_nI (by omega) (by decide)
    have em : nI i &&& 3 = nI (i % 4) := pk_andN (by omega) 2 (by decide)
    have V0 : vB L (upd c (97 + 5 * k) (nI (i % 4))) := vB_di H hk (by omega)
    have HL0 : vL (upd c (97 + 5 * k) (nI (i % 4))) := vL_cg HL (fun j hj _ => pk_un (by omega))
    have ep0 : upd c (97 + 5 * k) (nI (i % 4)) (96 + 5 * k) = nI q := (pk_un (by omega)).trans ep
    have ea0 : upd c (97 + 5 * k) (nI (i % 4)) (100 + 5 * k) = 0 := (pk_un (by omega)).trans ea
    by_cases b4 : nI i &&& 4 = 0
    · obtain ⟨c2, V2, L2, X2, Y2⟩ := shoot_ex (i := nI i) V0 HL0 hk hq (d := i % 4) (by omega) ep0 pk_us
      refine ⟨c2, V2, L2, ?_, ?_⟩
      · intro fS pR xS xD xN xC xL xB xK be dr op ar le xk xc xl xb xs xa w h post hh hp
        unfold wpX_act
        refine nm_r (ad_p h k) ⟨xv _ rfl (by omega) hh, ?_⟩
        rw [xe (96 + 5 * k) rfl (by omega) hh, ep, em]
        exact br_t (nI_pos' (by omega)) (xw _ (ad_p1 h k) (by omega) hh (br_t b4 (X2 hh hp)))
      · intro fS pR yL yF yK yC yS dr op ar le yk yl yf yr fd pl di sh sc aw nx aO bO bu tu ow post HR hp
        rw [ea]
        refine br_t (by decide) ?_
        unfold wpY_act
        rw [em]
        exact yw k rfl (by omega) (by decide) (br_t b4 (Y2 (rY_lo HR (fun j hj => pk_un (by omega)) (rB_di HR.1 (by omega))) hp))
    · obtain ⟨c1, q1, hq1, V1, p1, d1, E1, X1, Y1⟩ := move_ex V0 hk hq (d := i % 4) (by omega) ep0 pk_us ea0
      obtain ⟨c2, V2, L2, X2, Y2⟩ := shoot_ex (i := nI i) V1 (vL_cg HL0 (fun j hj _ => E1 j (by omega))) hk hq1 (d := i % 4) (by omega) p1 d1
      refine ⟨c2, V2, L2, ?_, ?_⟩
      · intro fS pR xS xD xN xC xL xB xK be dr op ar le xk xc xl xb xs xa w h post hh hp
        unfold wpX_act
        refine nm_r (ad_p h k) ⟨xv _ rfl (by omega) hh, ?_⟩
        rw [xe (96 + 5 * k) rfl (by omega) hh, ep, em]
        exact br_t (nI_pos' (by omega)) (xw _ (ad_p1 h k) (by omega) hh (br_f b4 (X1 hh (X2 hh hp))))
      · intro fS pR yL yF yK yC yS dr op ar le yk yl yf yr fd pl di sh sc aw nx aO bO bu tu ow post HR hp
        rw [ea]
        refine br_t (by decide) ?_
        unfold wpY_act
        rw [em]
        have HR0 := rY_lo HR (fun j hj => pk_un (by omega)) (rB_di (v := nI (i % 4)) HR.1 (k := k) (by omega))
        exact yw k rfl (by omega) (by decide) (br_f b4 (Y1 HR0.1 (fun HB => Y2 (rY_lo HR0 (fun j hj => E1 j (by omega)) HB) hp)))
end
section
theorem bz_up {q d n : Nat} (hq : q < 96) (h : ¬ bz q d n < 96) : ∀ e, ¬ bz q d (n + e) < 96 := by
  intro e
  induction e with
  | zero => exact h
  | succ e ih =>
    have := bz_o hq ih
    rw [show n + (e + 1) = n + e + 1 from rfl, this]
    omega
section
variable {xH fS pR xS xD xN xC xL xB xK : Int32} {wo be dr ho op ar le xk xc xl xb xs xa : Nat → Int32}
theorem X_look1 {post : Int32 → Prop} {w c : Nat → Int32} {h k q d t : Nat} (hh : h ≤ 2160) (hk : k < 2) (hq : q < 96) (hd : d < 4) (ht : t < 4) (ed : c (112 + 5 * k) = nI d) (hin : bz q d (t + 1) < 96 → wX_look_39 post (nI (bz q d (t + 1))) (nI h) fS pR xS xD xN xC xL xB xK (zput w h c) be dr ho op ar le xk xc xl xb xs xa) (hout : ¬ bz q d (t + 1) < 96 → post 1) : ∀ e j, j + e = t + 1 → bz q d j < 96 → wX_look_10 post (nI (h + (111 + 5 * k))) (nI t) (nI h) fS pR xS xD xN xC xL xB xK (zput w h c) be dr ho op ar le xk xc xl xb xs xa (e + 1) (nI (bz q d j)) (nI j) := by
  intro e
  induction e with
  | zero =>
    intro j hj hb
    obtain rfl : j = t + 1 := by omega
    exact br_t (nI_lt (by omega) (by omega)) (hin hb)
  | succ e ih =>
    intro j hj hb
    refine br_f (nI_nlt (by omega) (by omega)) (br_f (nI_pos (by omega)) ⟨xv _ (ad_d1 h k) (by omega) hh, ?_⟩)
    rw [xe (112 + 5 * k) (ad_d1 h k) (by omega) hh, ed]
    have es := bz_s (d := d) hq hb
    refine X_next hb hd (fun g => nm_r (nI_1 j) ?_) (fun g r hr => nm_r (nI_1 j) ?_)
    · rw [es] at g ⊢
      exact ih (j + 1) (by omega) g
    · have hx : wX_look_39 post r (nI h) fS pR xS xD xN xC xL xB xK (zput w h c) be dr ho op ar le xk xc xl xb xs xa := by
        have hn : ¬ bz q d (t + 1) < 96 := by
          have := bz_up (d := d) (n := j + 1) hq (by omega) (t - j)
          rw [show j + 1 + (t - j) = t + 1 by omega] at this
          exact this
        exact br_f (Int32.not_le.mpr hr) (hout hn)
      exact ⟨fun _ => hx, fun _ => br_t hr hx⟩
end
/-- what a drone sees -/
theorem look_ex {c : Nat → Int32} {k q d t : Nat} (hk : k < 2) (hq : q < 96) (hd : d < 4) (ht : t < 4) (ep : c (111 + 5 * k) = nI q) (ed : c (112 + 5 * k) = nI d) : ∃ v : Int32,
    (∀ {fS pR xS xD xN xC xL xB xK : Int32} {be dr ho op ar le xk xc xl xb xs xa : Nat → Int32} {w : Nat → Int32} {h : Nat} {post : Int32 → Prop}, h ≤ 2160 → post v → wpX_look post (nI h, fS, pR, xS, xD, xN, xC, xL, xB, xK, zput w h c, be, dr, ho, op, ar, le, xk, xc, xl, xb, xs, xa) (nI (h + (111 + 5 * k))) (nI t)) ∧
    (∀ {fS pR yL yF yK yC yS : Int32} {dr ho op ar le yk yl yf yr fd pl di sh sc aw nx aO bO bu tu ow : Nat → Int32} {post : Int32 → Prop}, rB c yS fd pl di sh sc aw nx aO bO → post v → wpY_seen post (fS, pR, yL, yF, yK, yC, yS, dr, ho, op, ar, le, yk, yl, yf, yr, fd, pl, di, sh, sc, aw, nx, aO, bO, bu, tu, ow) (nI k) (1 + nI t)) := by
  have e1 : 1 + nI t = nI (t + 1) := by rw [show (1 : Int32) = nI 1 from rfl, nI_add, Nat.add_comm]
  have i5 : vp_in (3 + nI k) 5 := by rw [ad_3]; exact vp_in_nI (by omega) (by decide)
  have inY : ∀ {fS pR yL yF yK yC yS : Int32} {dr ho op ar le yk yl yf yr fd pl di sh sc aw nx aO bO bu tu ow : Nat → Int32} {post : Int32 → Prop}, rB c yS fd pl di sh sc aw nx aO bO → (bz q d (t + 1) < 96 → ((0 ≤ st5 c (nI (bz q d (t + 1))) → ((3 ≤ st5 c (nI (bz q d (t + 1))) → post 6) ∧ (¬ 3 ≤ st5 c (nI (bz q d (t + 1))) → post 5))) ∧ (¬ 0 ≤ st5 c (nI (bz q d (t + 1))) → post (c (bz q d (t + 1)))))) → (¬ bz q d (t + 1) < 96 → post 1) → wpY_seen post (fS, pR, yL, yF, yK, yC, yS, dr, ho, op, ar, le, yk, yl, yf, yr, fd, pl, di, sh, sc, aw, nx, aO, bO, bu, tu, ow) (nI k) (1 + nI t) := by
    intro fS pR yL yF yK yC yS dr ho op ar le yk yl yf yr fd pl di sh sc aw nx aO bO bu tu ow post HR h1 h2
    unfold wpY_seen
    refine ⟨i5, i5, ?_⟩
    have p3 : pl (3 + k) = nI q := (rB_rpl HR (by omega)).trans ((congrArg c (by omega)).trans ep)
    have d3 : di (3 + k) = nI d := (rB_rdi HR (by omega)).trans ((congrArg c (by omega)).trans ed)
    rw [ye (3 + k) (ad_3 k) (by omega) p3, ye (3 + k) (ad_3 k) (by omega) d3, e1]
    refine Y_beyond hq hd (by omega) (fun g => br_t (nI_pos' (by omega)) (Y_who (rB_P HR) ⟨(h1 g).1, fun z => ⟨vp_in_nI g (by decide), ?_⟩⟩)) (fun g => br_f (by decide) (h2 (by omega)))
    rw [ye _ rfl (by omega) (rB_rfd HR g)]
    exact (h1 g).2 z
  by_cases hb : bz q d (t + 1) < 96
  · obtain ⟨r, er⟩ : ∃ r, bz q d (t + 1) = r := ⟨_, rfl⟩
    have inX : ∀ {fS pR xS xD xN xC xL xB xK : Int32} {be dr ho op ar le xk xc xl xb xs xa : Nat → Int32} {w : Nat → Int32} {h : Nat} {post : Int32 → Prop}, h ≤ 2160 → ((0 ≤ st5 c (nI r) → ((3 ≤ st5 c (nI r) → post 6) ∧ (¬ 3 ≤ st5 c (nI r) → post 5))) ∧ (¬ 0 ≤ st5 c (nI r) → post (c r))) → wpX_look post (nI h, fS, pR, xS, xD, xN, xC, xL, xB, xK, zput w h c, be, dr, ho, op, ar, le, xk, xc, xl, xb, xs, xa) (nI (h + (111 + 5 * k))) (nI t) := by
      intro fS pR xS xD xN xC xL xB xK be dr ho op ar le xk xc xl xb xs xa w h post hh hp
      unfold wpX_look
      refine xr _ rfl (by omega) hh ⟨t + 1 + 1, ?_⟩
      rw [ep]
      have e0 : q = bz q d 0 := by
        unfold bz
        by_cases h0 : d = 0
        · rw [if_pos h0, if_pos (by omega)]; omega
        · rw [if_neg h0]
          by_cases h1 : d = 1
          · rw [if_pos h1, if_pos (by omega)]; omega
          · rw [if_neg h1]
            by_cases h2 : d = 2
            · rw [if_pos h2, if_pos (by omega)]; omega
            · rw [if_neg h2, if_pos (by omega)]; omega
      have key := X_look1 (post := post) (fS := fS) (pR := pR) (xS := xS) (xD := xD) (xN := xN) (xC := xC) (xL := xL) (xB := xB) (xK := xK) (be := be) (dr := dr) (ho := ho) (op := op) (ar := ar) (le := le) (xk := xk) (xc := xc) (xl := xl) (xb := xb) (xs := xs) (xa := xa) (w := w) (c := c) hh hk hq hd ht ed (fun g => by
        rw [er]
        rw [er] at g
        refine br_t (nI_pos' (by omega)) (X_standing hh ⟨hp.1, fun z => ⟨xv _ (nI_add h r) (by omega) hh, ?_⟩⟩)
        rw [xe r (nI_add h r) (by omega) hh]
        exact hp.2 z) (fun g => absurd hb g) (t + 1) 0 (by omega) (by rw [← e0]; exact hq)
      rw [← e0] at key
      exact key
    rw [er] at hb
    by_cases z1 : 0 ≤ st5 c (nI r)
    · by_cases z2 : 3 ≤ st5 c (nI r)
      · exact ⟨6, fun hh hp => inX hh (br_t z1 (br_t z2 hp)), fun HR hp => inY HR (fun _ => by rw [er]; exact br_t z1 (br_t z2 hp)) (fun g => absurd (er ▸ hb) g)⟩
      · exact ⟨5, fun hh hp => inX hh (br_t z1 (br_f z2 hp)), fun HR hp => inY HR (fun _ => by rw [er]; exact br_t z1 (br_f z2 hp)) (fun g => absurd (er ▸ hb) g)⟩
    · exact ⟨c r, fun hh hp => inX hh (br_f z1 hp), fun HR hp => inY HR (fun _ => by rw [er]; exact br_f z1 hp) (fun g => absurd (er ▸ hb) g)⟩
  · refine ⟨1, ?_, fun HR hp => inY HR (fun g => absurd g hb) (fun _ => hp)⟩
    intro fS pR xS xD xN xC xL xB xK be dr ho op ar le xk xc xl xb xs xa w h post hh hp
    unfold wpX_look
    refine xr _ rfl (by omega) hh ⟨t + 1 + 1, ?_⟩
    rw [ep]
    have e0 : q = bz q d 0 := by
      unfold bz
      by_cases h0 : d = 0
      · rw [if_pos h0, if_pos (by omega)]; omega
      · rw [if_neg h0]
        by_cases h1 : d = 1
        · rw [if_pos h1, if_pos (by omega)]; omega
        · rw [if_neg h1]
          by_cases h2 : d = 2
          · rw [if_pos h2, if_pos (by omega)]; omega
          · rw [if_neg h2, if_pos (by omega)]; omega
    have key := X_look1 (post := post) (fS := fS) (pR := pR) (xS := xS) (xD := xD) (xN := xN) (xC := xC) (xL := xL) (xB := xB) (xK := xK) (be := be) (dr := dr) (ho := ho) (op := op) (ar := ar) (le := le) (xk := xk) (xc := xc) (xl := xl) (xb := xb) (xs := xs) (xa := xa) (w := w) (c := c) hh hk hq hd ht ed (fun g => absurd g hb) (fun _ => hp) (t + 1) 0 (by omega) (by rw [← e0]; exact hq)
    rw [← e0] at key
    exact key
/-- how far a player is -/
def dst (A B : Int32) : Int32 := if 0 ≤ B then (if 0 ≤ (A - A / 12 * 12) - (B - B / 12 * 12) then (A - A / 12 * 12) - (B - B / 12 * 12) else -((A - A / 12 * 12) - (B - B / 12 * 12))) + (if 0 ≤ A / 12 - B / 12 then A / 12 - B / 12 else -(A / 12 - B / 12)) else -1
theorem Y_distance {post : Int32 → Prop} {A B : Int32} (hp : post (dst A B)) : wpY_distance post A B := by
  have n12 : ¬ (12 : Int32) = 0 := by decide
  unfold wpY_distance
  unfold dst at hp
  by_cases h1 : 0 ≤ B
  · rw [if_pos h1] at hp
    refine br_t h1 ⟨n12, n12, nm_e ⟨n12, n12, nm_e ?_⟩⟩
    by_cases h2 : 0 ≤ (A - A / 12 * 12) - (B - B / 12 * 12)
    · rw [if_pos h2] at hp
      refine br_t h2 ?_
      unfold wY_distance_36
      by_cases h3 : 0 ≤ A / 12 - B / 12
      · rw [if_pos h3] at hp; exact br_t h3 hp
      · rw [if_neg h3] at hp; exact br_f h3 hp
    · rw [if_neg h2] at hp
      refine br_f h2 ?_
      unfold wY_distance_36
      by_cases h3 : 0 ≤ A / 12 - B / 12
      · rw [if_pos h3] at hp; exact br_t h3 hp
      · rw [if_neg h3] at hp; exact br_f h3 hp
  · rw [if_neg h1] at hp
    exact br_f h1 hp
section
variable {xH fS pR xS xD xN xC xL xB xK : Int32} {wo be dr ho op ar le xk xc xl xb xs xa : Nat → Int32}
theorem X_distance {post : Int32 → Prop} {w c : Nat → Int32} {h k t : Nat} (hh : h ≤ 2160) (hk : k < 2) (ht : t < 3) (hp : post (dst (c (111 + 5 * k)) (c (96 + 5 * t)))) : wpX_distance post (nI h, fS, pR, xS, xD, xN, xC, xL, xB, xK, zput w h c, be, dr, ho, op, ar, le, xk, xc, xl, xb, xs, xa) (nI (h + (111 + 5 * k))) (nI t) := by
  have n12 : ¬ (12 : Int32) = 0 := by decide
  have vi : vp_in (nI (h + (111 + 5 * k))) 2304 := xv _ rfl (by omega) hh
  unfold wpX_distance
  refine xr _ (ad_p h t) (by omega) hh ?_
  rw [xe (111 + 5 * k) rfl (by omega) hh]
  generalize c (111 + 5 * k) = A at hp ⊢
  generalize c (96 + 5 * t) = B at hp ⊢
  unfold dst at hp
  by_cases h1 : 0 ≤ B
  · rw [if_pos h1] at hp
    refine br_t h1 ⟨vi, n12, n12, nm_e ⟨vi, n12, n12, nm_e ?_⟩⟩
    by_cases h2 : 0 ≤ (A - A / 12 * 12) - (B - B / 12 * 12)
    · rw [if_pos h2] at hp
      refine br_t h2 ?_
      unfold wX_distance_68
      by_cases h3 : 0 ≤ A / 12 - B / 12
      · rw [if_pos h3] at hp; exact br_t h3 hp
      · rw [if_neg h3] at hp; exact br_f h3 hp
    · rw [if_neg h2] at hp
      refine br_f h2 ?_
      unfold wX_distance_68
      by_cases h3 : 0 ≤ A / 12 - B / 12
      · rw [if_pos h3] at hp; exact br_t h3 hp
      · rw [if_neg h3] at hp; exact br_f h3 hp
  · rw [if_neg h1] at hp
    exact br_f h1 hp
end
end
section
section
variable {c : Nat → Int32} {yS v : Int32} {fd pl di sh sc aw nx aO bO : Nat → Int32} {k : Nat}
theorem rB_pl3 (H : rB c yS fd pl di sh sc aw nx aO bO) (hk : k < 2) : rB (upd c (111 + 5 * k) v) yS fd (upd pl (3 + k) v) di sh sc aw nx aO bO := by
  have e : 96 + 5 * (3 + k) = 111 + 5 * k := by omega
  rw [← e]
  exact rB_pl H (by omega)
theorem rB_di3 (H : rB c yS fd pl di sh sc aw nx aO bO) (hk : k < 2) : rB (upd c (112 + 5 * k) v) yS fd pl (upd di (3 + k) v) sh sc aw nx aO bO := by
  have e : 97 + 5 * (3 + k) = 112 + 5 * k := by omega
  rw [← e]
  exact rB_di H (by omega)
theorem rB_rpl3 (H : rB c yS fd pl di sh sc aw nx aO bO) (hk : k < 2) : pl (3 + k) = c (111 + 5 * k) := (rB_rpl H (by omega)).trans (congrArg c (by omega))
theorem rB_rdi3 (H : rB c yS fd pl di sh sc aw nx aO bO) (hk : k < 2) : di (3 + k) = c (112 + 5 * k) := (rB_rdi H (by omega)).trans (congrArg c (by omega))
end
section
variable {xH fS pR xS xD xN xC xL xB xK : Int32} {wo be dr ho op ar le xk xc xl xb xs xa : Nat → Int32}
theorem X_nextSeed {post : Int32 → SX → Prop} {w c : Nat → Int32} {h : Nat} (hh : h ≤ 2160) (hp : post (c 121 * 1103515245 + 12345) (nI h, fS, pR, xS, xD, xN, xC, xL, xB, xK, zput w h (upd c 121 (c 121 * 1103515245 + 12345)), be, dr, ho, op, ar, le, xk, xc, xl, xb, xs, xa)) : wpX_nextSeed post (nI h, fS, pR, xS, xD, xN, xC, xL, xB, xK, zput w h c, be, dr, ho, op, ar, le, xk, xc, xl, xb, xs, xa) := by
  unfold wpX_nextSeed
  refine ⟨xv _ (ad_121 h) (by omega) hh, ?_⟩
  rw [xe 121 (ad_121 h) (by omega) hh]
  exact nm_e (xw _ (ad_121 h) (by omega) hh hp)
end
section
variable {fS pR yL yF yK yC yS : Int32} {dr ho op ar le yk yl yf yr fd pl di sh sc aw nx aO bO bu tu ow : Nat → Int32}
theorem Y_ins {post : SY → Prop} {c : Nat → Int32} {k q d : Nat} {oo a : Int32} (HR : rB c yS fd pl di sh sc aw nx aO bO) (hk : k < 2) (hq : q < 96) (hd : d < 4) (ep : c (111 + 5 * k) = nI q) (ed : c (112 + 5 * k) = nI d) (h1 : bz q d 1 < 96 → c (bz q d 1) = 0 → st5 c (nI (bz q d 1)) < 0 → wY_instruct_51 post (nI k) oo a (nI (bz q d 1)) 1 fS pR yL yF yK yC yS dr ho op ar le yk yl yf yr fd pl di sh sc aw nx aO bO bu tu ow) (h2 : ¬ (bz q d 1 < 96 ∧ c (bz q d 1) = 0 ∧ st5 c (nI (bz q d 1)) < 0) → ∀ x4, wY_instruct_51 post (nI k) oo a x4 0 fS pR yL yF yK yC yS dr ho op ar le yk yl yf yr fd pl di sh sc aw nx aO bO bu tu ow) : wpY_instruct post (fS, pR, yL, yF, yK, yC, yS, dr, ho, op, ar, le, yk, yl, yf, yr, fd, pl, di, sh, sc, aw, nx, aO, bO, bu, tu, ow) (nI k) oo a := by
  have i5 : vp_in (3 + nI k) 5 := by rw [ad_3]; exact vp_in_nI (by omega) (by decide)
  unfold wpY_instruct
  refine ⟨i5, i5, ?_⟩
  rw [ye (3 + k) (ad_3 k) (by omega) ((rB_rpl3 HR hk).trans ep), ye (3 + k) (ad_3 k) (by omega) ((rB_rdi3 HR hk).trans ed)]
  refine Y_beyond (n := 1) hq hd (by decide) (fun g => br_f (nI_pos (by omega)) ⟨vp_in_nI g (by decide), ?_⟩) (fun g => br_t ngm1 (h2 (fun z => by omega) _))
  rw [ye _ rfl (by omega) (rB_rfd HR g)]
  refine ⟨fun z => Y_who (rB_P HR) ⟨fun z2 => h2 (fun y => Int32.not_lt.mpr z2 y.2.2) _, fun z2 => h1 g z (Int32.not_le.mp z2)⟩, fun z => h2 (fun y => z y.2.1) _⟩
theorem Y_insA {post : SY → Prop} {c : Nat → Int32} {k q d : Nat} {oo a : Int32} (HR : rB c yS fd pl di sh sc aw nx aO bO) (hk : k < 2) (hq : q < 96) (hd : d < 4) (ep : c (111 + 5 * k) = nI q) (ed : c (112 + 5 * k) = nI d) (h1 : ∀ x4 z0, wY_instruct_51 post (nI k) oo a x4 z0 fS pR yL yF yK yC yS dr ho op ar le yk yl yf yr fd pl di sh sc aw nx aO bO bu tu ow) : wpY_instruct post (fS, pR, yL, yF, yK, yC, yS, dr, ho, op, ar, le, yk, yl, yf, yr, fd, pl, di, sh, sc, aw, nx, aO, bO, bu, tu, ow) (nI k) oo a := Y_ins HR hk hq hd ep ed (fun _ _ _ => h1 _ _) (fun _ x4 => h1 x4 0)
end
theorem op_0 {L : Nat → Nat} {c : Nat → Int32} {k : Nat} {a : Int32} (H : vB L c) (hk : k < 2) (hL : 0 < L k) : ∃ c1, vB L c1 ∧ (∀ j, 121 < j → c1 j = c j) ∧
    (∀ {fS pR xS xD xN xC xL xB xK : Int32} {be dr ho op ar le xk xc xl xb xs xa : Nat → Int32} {w : Nat → Int32} {h n s : Nat} {z0 : Int32} {post : SX → Prop}, h ≤ 2160 → wX_turn_17 post (nI k) (nI (h + (111 + 5 * k))) n z0 (nI (s + 1)) (nI h) fS pR xS xD xN xC xL xB xK (zput w h c1) be dr ho op ar le xk xc xl xb xs xa → wX_turn_144 post (wX_turn_17 post (nI k) (nI (h + (111 + 5 * k))) n) (nI k) (nI (h + (111 + 5 * k))) (nI s) (nI 0) a z0 (nI h) fS pR xS xD xN xC xL xB xK (zput w h c) be dr ho op ar le xk xc xl xb xs xa) ∧
    (∀ {fS pR yL yF yK yC yS : Int32} {dr ho op ar le yk yl yf yr fd pl di sh sc aw nx aO bO bu tu ow : Nat → Int32} {post : SY → Prop}, rB c yS fd pl di sh sc aw nx aO bO → (∀ {yS1 : Int32} {fd1 pl1 di1 sh1 sc1 aw1 nx1 aO1 bO1 : Nat → Int32}, rB c1 yS1 fd1 pl1 di1 sh1 sc1 aw1 nx1 aO1 bO1 → post (fS, pR, yL, yF, yK, yC, yS1, dr, ho, op, ar, le, yk, yl, yf, yr, fd1, pl1, di1, sh1, sc1, aw1, nx1, aO1, bO1, bu, tu, ow)) → wpY_instruct post (fS, pR, yL, yF, yK, yC, yS, dr, ho, op, ar, le, yk, yl, yf, yr, fd, pl, di, sh, sc, aw, nx, aO, bO, bu, tu, ow) (nI k) (nI 0) a) := by
  obtain ⟨⟨q, hq, ep⟩, ⟨d, hd, ed⟩, ⟨p, hp2, epc⟩⟩ := H.2.2.2 k hk hL
  have i2 : vp_in (nI k) 2 := vp_in_nI hk (by decide)
  have i5 : vp_in (3 + nI k) 5 := by rw [ad_3]; exact vp_in_nI (by omega) (by decide)
  by_cases g : bz q d 1 < 96 ∧ c (bz q d 1) = 0 ∧ st5 c (nI (bz q d 1)) < 0
  · obtain ⟨r, er⟩ : ∃ r, bz q d 1 = r := ⟨_, rfl⟩
    rw [er] at g
    obtain ⟨hr, g1, g2⟩ := g
    refine ⟨upd c (111 + 5 * k) (nI r), vB_dr H hk (fun j _ z _ _ => pk_un z) (fun _ => ⟨⟨r, hr, pk_us⟩, ⟨d, hd, (pk_un (by omega)).trans ed⟩, ⟨p, hp2, (pk_un (by omega)).trans epc⟩⟩), fun j hj => pk_un (by omega), ?_, ?_⟩
    · intro fS pR xS xD xN xC xL xB xK be dr ho op ar le xk xc xl xb xs xa w h n s z0 post hh hp
      unfold wX_turn_144
      refine br_t (by decide) ?_
      unfold wX_turn_157 wpX_work
      refine ⟨xv _ rfl (by omega) hh, xv _ (ad_d1 h k) (by omega) hh, ?_⟩
      rw [xe (111 + 5 * k) rfl (by omega) hh, xe (112 + 5 * k) (ad_d1 h k) (by omega) hh, ep, ed]
      exact X_nextI hq hd er hr (X_kindOf hh hr (br_t g1 (X_standing hh (br_t g2 (br_t (by decide) (xw _ rfl (by omega) hh (nm_r (nI_1 s) hp)))))))
    · intro fS pR yL yF yK yC yS dr ho op ar le yk yl yf yr fd pl di sh sc aw nx aO bO bu tu ow post HR hp
      refine Y_ins HR hk hq hd ep ed (fun _ _ _ => ?_) (fun z => absurd (by rw [er]; exact ⟨hr, g1, g2⟩) z)
      rw [er]
      unfold wY_instruct_51
      exact br_f (by decide) (br_f (by decide) (br_t (by decide) (br_f (by decide) (yw (3 + k) (ad_3 k) (by omega) (by decide) (hp (rB_pl3 HR hk))))))
  · refine ⟨c, H, fun j _ => rfl, ?_, ?_⟩
    · intro fS pR xS xD xN xC xL xB xK be dr ho op ar le xk xc xl xb xs xa w h n s z0 post hh hp
      unfold wX_turn_144
      refine br_t (by decide) ?_
      unfold wX_turn_157 wpX_work
      refine ⟨xv _ rfl (by omega) hh, xv _ (ad_d1 h k) (by omega) hh, ?_⟩
      rw [xe (111 + 5 * k) rfl (by omega) hh, xe (112 + 5 * k) (ad_d1 h k) (by omega) hh, ep, ed]
      refine X_next hq hd (fun hr => X_kindOf hh hr ⟨fun g1 => X_standing hh ⟨fun g2 => absurd ⟨hr, g1, g2⟩ g, fun _ => nm_r (nI_1 s) hp⟩, fun _ => nm_r (nI_1 s) hp⟩) (fun _ r hr0 => X_kindOut hr0 (br_f (by decide) (nm_r (nI_1 s) hp)))
    · intro fS pR yL yF yK yC yS dr ho op ar le yk yl yf yr fd pl di sh sc aw nx aO bO bu tu ow post HR hp
      refine Y_ins HR hk hq hd ep ed (fun z1 z2 z3 => absurd ⟨z1, z2, z3⟩ g) (fun _ x4 => ?_)
      unfold wY_instruct_51
      exact br_f (by decide) (br_f (by decide) (br_t (by decide) (br_t rfl (hp HR))))
theorem op_12 {L : Nat → Nat} {c : Nat → Int32} {k : Nat} {a : Int32} (H : vB L c) (hk : k < 2) (hL : 0 < L k) : ∃ c1, vB L c1 ∧ (∀ j, 121 < j → c1 j = c j) ∧
    (∀ {fS pR xS xD xN xC xL xB xK : Int32} {be dr ho op ar le xk xc xl xb xs xa : Nat → Int32} {w : Nat → Int32} {h n s : Nat} {z0 : Int32} {post : SX → Prop}, h ≤ 2160 → wX_turn_17 post (nI k) (nI (h + (111 + 5 * k))) n z0 (nI (s + 1)) (nI h) fS pR xS xD xN xC xL xB xK (zput w h c1) be dr ho op ar le xk xc xl xb xs xa → wX_turn_144 post (wX_turn_17 post (nI k) (nI (h + (111 + 5 * k))) n) (nI k) (nI (h + (111 + 5 * k))) (nI s) (nI 12) a z0 (nI h) fS pR xS xD xN xC xL xB xK (zput w h c) be dr ho op ar le xk xc xl xb xs xa) ∧
    (∀ {fS pR yL yF yK yC yS : Int32} {dr ho op ar le yk yl yf yr fd pl di sh sc aw nx aO bO bu tu ow : Nat → Int32} {post : SY → Prop}, rB c yS fd pl di sh sc aw nx aO bO → (∀ {yS1 : Int32} {fd1 pl1 di1 sh1 sc1 aw1 nx1 aO1 bO1 : Nat → Int32}, rB c1 yS1 fd1 pl1 di1 sh1 sc1 aw1 nx1 aO1 bO1 → post (fS, pR, yL, yF, yK, yC, yS1, dr, ho, op, ar, le, yk, yl, yf, yr, fd1, pl1, di1, sh1, sc1, aw1, nx1, aO1, bO1, bu, tu, ow)) → wpY_instruct post (fS, pR, yL, yF, yK, yC, yS, dr, ho, op, ar, le, yk, yl, yf, yr, fd, pl, di, sh, sc, aw, nx, aO, bO, bu, tu, ow) (nI k) (nI 12) a) := by
  obtain ⟨⟨q, hq, ep⟩, ⟨d, hd, ed⟩, ⟨p, hp2, epc⟩⟩ := H.2.2.2 k hk hL
  have i2 : vp_in (nI k) 2 := vp_in_nI hk (by decide)
  have i5 : vp_in (3 + nI k) 5 := by rw [ad_3]; exact vp_in_nI (by omega) (by decide)
  by_cases g : bz q d 1 < 96 ∧ c (bz q d 1) = 0 ∧ st5 c (nI (bz q d 1)) < 0
  · obtain ⟨r, er⟩ : ∃ r, bz q d 1 = r := ⟨_, rfl⟩
    rw [er] at g
    obtain ⟨hr, g1, g2⟩ := g
    refine ⟨upd c r 2, vB_fr H (by unfold vfree; omega), fun j hj => pk_un (by omega), ?_, ?_⟩
    · intro fS pR xS xD xN xC xL xB xK be dr ho op ar le xk xc xl xb xs xa w h n s z0 post hh hp
      unfold wX_turn_144
      refine br_f (by decide) (br_t (by decide) ?_)
      unfold wX_turn_157 wpX_work
      refine ⟨xv _ rfl (by omega) hh, xv _ (ad_d1 h k) (by omega) hh, ?_⟩
      rw [xe (111 + 5 * k) rfl (by omega) hh, xe (112 + 5 * k) (ad_d1 h k) (by omega) hh, ep, ed]
      exact X_nextI hq hd er hr (X_kindOf hh hr (br_t g1 (X_standing hh (br_t g2 (br_f (by decide) (xw _ (nI_add h r) (by omega) hh (nm_r (nI_1 s) hp)))))))
    · intro fS pR yL yF yK yC yS dr ho op ar le yk yl yf yr fd pl di sh sc aw nx aO bO bu tu ow post HR hp
      refine Y_ins HR hk hq hd ep ed (fun _ _ _ => ?_) (fun z => absurd (by rw [er]; exact ⟨hr, g1, g2⟩) z)
      rw [er]
      unfold wY_instruct_51
      exact br_f (by decide) (br_f (by decide) (br_f (by decide) (br_f (by decide) (br_f (by decide) (br_f (by decide) (br_f (by decide) (br_f (by decide) (br_f (by decide) (br_f (by decide) (br_f (by decide) (br_f (by decide) (br_f (by decide) (br_f (by decide) (br_t (by decide) (br_f (by decide) (yw r rfl hr (by decide) (hp (rB_fd HR hr))))))))))))))))))
  · refine ⟨c, H, fun j _ => rfl, ?_, ?_⟩
    · intro fS pR xS xD xN xC xL xB xK be dr ho op ar le xk xc xl xb xs xa w h n s z0 post hh hp
      unfold wX_turn_144
      refine br_f (by decide) (br_t (by decide) ?_)
      unfold wX_turn_157 wpX_work
      refine ⟨xv _ rfl (by omega) hh, xv _ (ad_d1 h k) (by omega) hh, ?_⟩
      rw [xe (111 + 5 * k) rfl (by omega) hh, xe (112 + 5 * k) (ad_d1 h k) (by omega) hh, ep, ed]
      refine X_next hq hd (fun hr => X_kindOf hh hr ⟨fun g1 => X_standing hh ⟨fun g2 => absurd ⟨hr, g1, g2⟩ g, fun _ => nm_r (nI_1 s) hp⟩, fun _ => nm_r (nI_1 s) hp⟩) (fun _ r hr0 => X_kindOut hr0 (br_f (by decide) (nm_r (nI_1 s) hp)))
    · intro fS pR yL yF yK yC yS dr ho op ar le yk yl yf yr fd pl di sh sc aw nx aO bO bu tu ow post HR hp
      refine Y_ins HR hk hq hd ep ed (fun z1 z2 z3 => absurd ⟨z1, z2, z3⟩ g) (fun _ x4 => ?_)
      unfold wY_instruct_51
      exact br_f (by decide) (br_f (by decide) (br_f (by decide) (br_f (by decide) (br_f (by decide) (br_f (by decide) (br_f (by decide) (br_f (by decide) (br_f (by decide) (br_f (by decide) (br_f (by decide) (br_f (by decide) (br_f (by decide) (br_f (by decide) (br_t (by decide) (br_t rfl (hp HR))))))))))))))))
theorem op_1 {L : Nat → Nat} {c : Nat → Int32} {k : Nat} {a : Int32} (H : vB L c) (hk : k < 2) (hL : 0 < L k) : ∃ c1, vB L c1 ∧ (∀ j, 121 < j → c1 j = c j) ∧
    (∀ {fS pR xS xD xN xC xL xB xK : Int32} {be dr ho op ar le xk xc xl xb xs xa : Nat → Int32} {w : Nat → Int32} {h n s : Nat} {z0 : Int32} {post : SX → Prop}, h ≤ 2160 → wX_turn_17 post (nI k) (nI (h + (111 + 5 * k))) n z0 (nI (s + 1)) (nI h) fS pR xS xD xN xC xL xB xK (zput w h c1) be dr ho op ar le xk xc xl xb xs xa → wX_turn_144 post (wX_turn_17 post (nI k) (nI (h + (111 + 5 * k))) n) (nI k) (nI (h + (111 + 5 * k))) (nI s) (nI 1) a z0 (nI h) fS pR xS xD xN xC xL xB xK (zput w h c) be dr ho op ar le xk xc xl xb xs xa) ∧
    (∀ {fS pR yL yF yK yC yS : Int32} {dr ho op ar le yk yl yf yr fd pl di sh sc aw nx aO bO bu tu ow : Nat → Int32} {post : SY → Prop}, rB c yS fd pl di sh sc aw nx aO bO → (∀ {yS1 : Int32} {fd1 pl1 di1 sh1 sc1 aw1 nx1 aO1 bO1 : Nat → Int32}, rB c1 yS1 fd1 pl1 di1 sh1 sc1 aw1 nx1 aO1 bO1 → post (fS, pR, yL, yF, yK, yC, yS1, dr, ho, op, ar, le, yk, yl, yf, yr, fd1, pl1, di1, sh1, sc1, aw1, nx1, aO1, bO1, bu, tu, ow)) → wpY_instruct post (fS, pR, yL, yF, yK, yC, yS, dr, ho, op, ar, le, yk, yl, yf, yr, fd, pl, di, sh, sc, aw, nx, aO, bO, bu, tu, ow) (nI k) (nI 1) a) := by
  obtain ⟨⟨q, hq, ep⟩, ⟨d, hd, ed⟩, ⟨p, hp2, epc⟩⟩ := H.2.2.2 k hk hL
  have i2 : vp_in (nI k) 2 := vp_in_nI hk (by decide)
  have i5 : vp_in (3 + nI k) 5 := by rw [ad_3]; exact vp_in_nI (by omega) (by decide)
  obtain ⟨d2, hd2, e2⟩ := pk_andE (c (112 + 5 * k) + a) (m := 3) 2 (by decide)
  refine ⟨upd c (112 + 5 * k) (nI d2), vB_dr H hk (fun j _ _ z _ => pk_un z) (fun _ => ⟨⟨q, hq, (pk_un (by omega)).trans ep⟩, ⟨d2, hd2, pk_us⟩, ⟨p, hp2, (pk_un (by omega)).trans epc⟩⟩), fun j hj => pk_un (by omega), ?_, ?_⟩
  · intro fS pR xS xD xN xC xL xB xK be dr ho op ar le xk xc xl xb xs xa w h n s z0 post hh hp
    unfold wX_turn_144
    refine br_f (by decide) (br_f (by decide) (br_t (by decide) ⟨xv _ (ad_d1 h k) (by omega) hh, ?_⟩))
    rw [xe (112 + 5 * k) (ad_d1 h k) (by omega) hh, e2]
    exact xw _ (ad_d1 h k) (by omega) hh (nm_r (nI_1 s) hp)
  · intro fS pR yL yF yK yC yS dr ho op ar le yk yl yf yr fd pl di sh sc aw nx aO bO bu tu ow post HR hp
    refine Y_insA HR hk hq hd ep ed (fun x4 z0 => ?_)
    unfold wY_instruct_51
    refine br_f (by decide) (br_f (by decide) (br_f (by decide) (br_t (by decide) ⟨i5, ?_⟩)))
    rw [ye (3 + k) (ad_3 k) (by omega) (rB_rdi3 HR hk), e2]
    exact yw (3 + k) (ad_3 k) (by omega) (by decide) (hp (rB_di3 HR hk))
theorem op_2 {L : Nat → Nat} {c : Nat → Int32} {k : Nat} {a : Int32} (H : vB L c) (hk : k < 2) (hL : 0 < L k) : ∃ c1, vB L c1 ∧ (∀ j, 121 < j → c1 j = c j) ∧
    (∀ {fS pR xS xD xN xC xL xB xK : Int32} {be dr ho op ar le xk xc xl xb xs xa : Nat → Int32} {w : Nat → Int32} {h n s : Nat} {z0 : Int32} {post : SX → Prop}, h ≤ 2160 → wX_turn_17 post (nI k) (nI (h + (111 + 5 * k))) n z0 (nI (s + 1)) (nI h) fS pR xS xD xN xC xL xB xK (zput w h c1) be dr ho op ar le xk xc xl xb xs xa → wX_turn_144 post (wX_turn_17 post (nI k) (nI (h + (111 + 5 * k))) n) (nI k) (nI (h + (111 + 5 * k))) (nI s) (nI 2) a z0 (nI h) fS pR xS xD xN xC xL xB xK (zput w h c) be dr ho op ar le xk xc xl xb xs xa) ∧
    (∀ {fS pR yL yF yK yC yS : Int32} {dr ho op ar le yk yl yf yr fd pl di sh sc aw nx aO bO bu tu ow : Nat → Int32} {post : SY → Prop}, rB c yS fd pl di sh sc aw nx aO bO → (∀ {yS1 : Int32} {fd1 pl1 di1 sh1 sc1 aw1 nx1 aO1 bO1 : Nat → Int32}, rB c1 yS1 fd1 pl1 di1 sh1 sc1 aw1 nx1 aO1 bO1 → post (fS, pR, yL, yF, yK, yC, yS1, dr, ho, op, ar, le, yk, yl, yf, yr, fd1, pl1, di1, sh1, sc1, aw1, nx1, aO1, bO1, bu, tu, ow)) → wpY_instruct post (fS, pR, yL, yF, yK, yC, yS, dr, ho, op, ar, le, yk, yl, yf, yr, fd, pl, di, sh, sc, aw, nx, aO, bO, bu, tu, ow) (nI k) (nI 2) a) := by
  obtain ⟨⟨q, hq, ep⟩, ⟨d, hd, ed⟩, ⟨p, hp2, epc⟩⟩ := H.2.2.2 k hk hL
  have i2 : vp_in (nI k) 2 := vp_in_nI hk (by decide)
  have i5 : vp_in (3 + nI k) 5 := by rw [ad_3]; exact vp_in_nI (by omega) (by decide)
  refine ⟨c, H, fun j _ => rfl, ?_, ?_⟩
  · intro fS pR xS xD xN xC xL xB xK be dr ho op ar le xk xc xl xb xs xa w h n s z0 post hh hp
    unfold wX_turn_144
    refine br_f (by decide) (br_f (by decide) (br_f (by decide) (br_f (by decide) (br_f (by decide) (br_f (by decide) (?_))))))
    unfold wpX_register
    exact xr _ (ad_d3 h k) (by omega) hh (xr _ (ad_d4 h k) (by omega) hh (br_t (by decide) (nm_r (nI_1 s) hp)))
  · intro fS pR yL yF yK yC yS dr ho op ar le yk yl yf yr fd pl di sh sc aw nx aO bO bu tu ow post HR hp
    refine Y_insA HR hk hq hd ep ed (fun x4 z0 => ?_)
    unfold wY_instruct_51
    exact br_f (by decide) (br_f (by decide) (br_f (by decide) (br_f (by decide) (br_t (by decide) (hp HR)))))
theorem op_3 {L : Nat → Nat} {c : Nat → Int32} {k : Nat} {a : Int32} (H : vB L c) (hk : k < 2) (hL : 0 < L k) : ∃ c1, vB L c1 ∧ (∀ j, 121 < j → c1 j = c j) ∧
    (∀ {fS pR xS xD xN xC xL xB xK : Int32} {be dr ho op ar le xk xc xl xb xs xa : Nat → Int32} {w : Nat → Int32} {h n s : Nat} {z0 : Int32} {post : SX → Prop}, h ≤ 2160 → wX_turn_17 post (nI k) (nI (h + (111 + 5 * k))) n z0 (nI (s + 1)) (nI h) fS pR xS xD xN xC xL xB xK (zput w h c1) be dr ho op ar le xk xc xl xb xs xa → wX_turn_144 post (wX_turn_17 post (nI k) (nI (h + (111 + 5 * k))) n) (nI k) (nI (h + (111 + 5 * k))) (nI s) (nI 3) a z0 (nI h) fS pR xS xD xN xC xL xB xK (zput w h c) be dr ho op ar le xk xc xl xb xs xa) ∧
    (∀ {fS pR yL yF yK yC yS : Int32} {dr ho op ar le yk yl yf yr fd pl di sh sc aw nx aO bO bu tu ow : Nat → Int32} {post : SY → Prop}, rB c yS fd pl di sh sc aw nx aO bO → (∀ {yS1 : Int32} {fd1 pl1 di1 sh1 sc1 aw1 nx1 aO1 bO1 : Nat → Int32}, rB c1 yS1 fd1 pl1 di1 sh1 sc1 aw1 nx1 aO1 bO1 → post (fS, pR, yL, yF, yK, yC, yS1, dr, ho, op, ar, le, yk, yl, yf, yr, fd1, pl1, di1, sh1, sc1, aw1, nx1, aO1, bO1, bu, tu, ow)) → wpY_instruct post (fS, pR, yL, yF, yK, yC, yS, dr, ho, op, ar, le, yk, yl, yf, yr, fd, pl, di, sh, sc, aw, nx, aO, bO, bu, tu, ow) (nI k) (nI 3) a) := by
  obtain ⟨⟨q, hq, ep⟩, ⟨d, hd, ed⟩, ⟨p, hp2, epc⟩⟩ := H.2.2.2 k hk hL
  have i2 : vp_in (nI k) 2 := vp_in_nI hk (by decide)
  have i5 : vp_in (3 + nI k) 5 := by rw [ad_3]; exact vp_in_nI (by omega) (by decide)
  obtain ⟨t, ht, e2⟩ := pk_andE a (m := 3) 2 (by decide)
  obtain ⟨v, X1, Y1⟩ := look_ex hk hq hd ht ep ed
  refine ⟨upd c (114 + 5 * k) v, vB_fr H (by unfold vfree; omega), fun j hj => pk_un (by omega), ?_, ?_⟩
  · intro fS pR xS xD xN xC xL xB xK be dr ho op ar le xk xc xl xb xs xa w h n s z0 post hh hp
    unfold wX_turn_144
    refine br_f (by decide) (br_f (by decide) (br_f (by decide) (br_t (by decide) ?_)))
    rw [e2]
    exact X1 hh (xw _ (ad_d3 h k) (by omega) hh (nm_r (nI_1 s) hp))
  · intro fS pR yL yF yK yC yS dr ho op ar le yk yl yf yr fd pl di sh sc aw nx aO bO bu tu ow post HR hp
    refine Y_insA HR hk hq hd ep ed (fun x4 z0 => ?_)
    unfold wY_instruct_51
    refine br_f (by decide) (br_f (by decide) (br_f (by decide) (br_f (by decide) (br_f (by decide) (br_t (by decide) ?_)))))
    rw [e2]
    exact Y1 HR (yw k rfl hk (by decide) (hp (rB_aO HR hk)))
theorem op_4 {L : Nat → Nat} {c : Nat → Int32} {k : Nat} {a : Int32} (H : vB L c) (hk : k < 2) (hL : 0 < L k) {t : Nat} (ht : t < 3) : ∃ c1, vB L c1 ∧ (∀ j, 121 < j → c1 j = c j) ∧
    (∀ {fS pR xS xD xN xC xL xB xK : Int32} {be dr ho op ar le xk xc xl xb xs xa : Nat → Int32} {w : Nat → Int32} {h n s : Nat} {z0 : Int32} {post : SX → Prop}, h ≤ 2160 → wX_turn_17 post (nI k) (nI (h + (111 + 5 * k))) n z0 (nI (s + 1)) (nI h) fS pR xS xD xN xC xL xB xK (zput w h c1) be dr ho op ar le xk xc xl xb xs xa → wX_turn_144 post (wX_turn_17 post (nI k) (nI (h + (111 + 5 * k))) n) (nI k) (nI (h + (111 + 5 * k))) (nI s) (nI 4) (nI t) z0 (nI h) fS pR xS xD xN xC xL xB xK (zput w h c) be dr ho op ar le xk xc xl xb xs xa) ∧
    (∀ {fS pR yL yF yK yC yS : Int32} {dr ho op ar le yk yl yf yr fd pl di sh sc aw nx aO bO bu tu ow : Nat → Int32} {post : SY → Prop}, rB c yS fd pl di sh sc aw nx aO bO → (∀ {yS1 : Int32} {fd1 pl1 di1 sh1 sc1 aw1 nx1 aO1 bO1 : Nat → Int32}, rB c1 yS1 fd1 pl1 di1 sh1 sc1 aw1 nx1 aO1 bO1 → post (fS, pR, yL, yF, yK, yC, yS1, dr, ho, op, ar, le, yk, yl, yf, yr, fd1, pl1, di1, sh1, sc1, aw1, nx1, aO1, bO1, bu, tu, ow)) → wpY_instruct post (fS, pR, yL, yF, yK, yC, yS, dr, ho, op, ar, le, yk, yl, yf, yr, fd, pl, di, sh, sc, aw, nx, aO, bO, bu, tu, ow) (nI k) (nI 4) (nI t)) := by
  obtain ⟨⟨q, hq, ep⟩, ⟨d, hd, ed⟩, ⟨p, hp2, epc⟩⟩ := H.2.2.2 k hk hL
  have i2 : vp_in (nI k) 2 := vp_in_nI hk (by decide)
  have i5 : vp_in (3 + nI k) 5 := by rw [ad_3]; exact vp_in_nI (by omega) (by decide)
  refine ⟨upd c (114 + 5 * k) (dst (c (111 + 5 * k)) (c (96 + 5 * t))), vB_fr H (by unfold vfree; omega), fun j hj => pk_un (by omega), ?_, ?_⟩
  · intro fS pR xS xD xN xC xL xB xK be dr ho op ar le xk xc xl xb xs xa w h n s z0 post hh hp
    unfold wX_turn_144
    exact br_f (by decide) (br_f (by decide) (br_f (by decide) (br_f (by decide) (br_t (by decide) (X_distance hh hk ht (xw _ (ad_d3 h k) (by omega) hh (nm_r (nI_1 s) hp)))))))
  · intro fS pR yL yF yK yC yS dr ho op ar le yk yl yf yr fd pl di sh sc aw nx aO bO bu tu ow post HR hp
    refine Y_insA HR hk hq hd ep ed (fun x4 z0 => ?_)
    unfold wY_instruct_51
    refine br_f (by decide) (br_f (by decide) (br_f (by decide) (br_f (by decide) (br_f (by decide) (br_f (by decide) (br_t (by decide) ⟨i5, vp_in_nI (by omega) (by decide), ?_⟩))))))
    rw [ye (3 + k) (ad_3 k) (by omega) (rB_rpl3 HR hk), ye t rfl (by omega) (rB_rpl HR (by omega))]
    exact Y_distance (yw k rfl hk (by decide) (hp (rB_aO HR hk)))
theorem op_5 {L : Nat → Nat} {c : Nat → Int32} {k : Nat} {a : Int32} (H : vB L c) (hk : k < 2) (hL : 0 < L k) : ∃ c1, vB L c1 ∧ (∀ j, 121 < j → c1 j = c j) ∧
    (∀ {fS pR xS xD xN xC xL xB xK : Int32} {be dr ho op ar le xk xc xl xb xs xa : Nat → Int32} {w : Nat → Int32} {h n s : Nat} {z0 : Int32} {post : SX → Prop}, h ≤ 2160 → wX_turn_17 post (nI k) (nI (h + (111 + 5 * k))) n z0 (nI (s + 1)) (nI h) fS pR xS xD xN xC xL xB xK (zput w h c1) be dr ho op ar le xk xc xl xb xs xa → wX_turn_144 post (wX_turn_17 post (nI k) (nI (h + (111 + 5 * k))) n) (nI k) (nI (h + (111 + 5 * k))) (nI s) (nI 5) a z0 (nI h) fS pR xS xD xN xC xL xB xK (zput w h c) be dr ho op ar le xk xc xl xb xs xa) ∧
    (∀ {fS pR yL yF yK yC yS : Int32} {dr ho op ar le yk yl yf yr fd pl di sh sc aw nx aO bO bu tu ow : Nat → Int32} {post : SY → Prop}, rB c yS fd pl di sh sc aw nx aO bO → (∀ {yS1 : Int32} {fd1 pl1 di1 sh1 sc1 aw1 nx1 aO1 bO1 : Nat → Int32}, rB c1 yS1 fd1 pl1 di1 sh1 sc1 aw1 nx1 aO1 bO1 → post (fS, pR, yL, yF, yK, yC, yS1, dr, ho, op, ar, le, yk, yl, yf, yr, fd1, pl1, di1, sh1, sc1, aw1, nx1, aO1, bO1, bu, tu, ow)) → wpY_instruct post (fS, pR, yL, yF, yK, yC, yS, dr, ho, op, ar, le, yk, yl, yf, yr, fd, pl, di, sh, sc, aw, nx, aO, bO, bu, tu, ow) (nI k) (nI 5) a) := by
  obtain ⟨⟨q, hq, ep⟩, ⟨d, hd, ed⟩, ⟨p, hp2, epc⟩⟩ := H.2.2.2 k hk hL
  have i2 : vp_in (nI k) 2 := vp_in_nI hk (by decide)
  have i5 : vp_in (3 + nI k) 5 := by rw [ad_3]; exact vp_in_nI (by omega) (by decide)
  refine ⟨upd c (115 + 5 * k) a, vB_fr H (by unfold vfree; omega), fun j hj => pk_un (by omega), ?_, ?_⟩
  · intro fS pR xS xD xN xC xL xB xK be dr ho op ar le xk xc xl xb xs xa w h n s z0 post hh hp
    unfold wX_turn_144
    refine br_f (by decide) (br_f (by decide) (br_f (by decide) (br_f (by decide) (br_f (by decide) (br_f (by decide) (?_))))))
    unfold wpX_register
    exact xr _ (ad_d3 h k) (by omega) hh (xr _ (ad_d4 h k) (by omega) hh (br_f (by decide) (br_f (by decide) (br_t (by decide) (xw _ (ad_d4 h k) (by omega) hh (nm_r (nI_1 s) hp))))))
  · intro fS pR yL yF yK yC yS dr ho op ar le yk yl yf yr fd pl di sh sc aw nx aO bO bu tu ow post HR hp
    refine Y_insA HR hk hq hd ep ed (fun x4 z0 => ?_)
    unfold wY_instruct_51
    exact br_f (by decide) (br_f (by decide) (br_f (by decide) (br_f (by decide) (br_f (by decide) (br_f (by decide) (br_f (by decide) (br_t (by decide) (yw k rfl hk (by decide) (hp (rB_bO HR hk))))))))))
theorem op_6 {L : Nat → Nat} {c : Nat → Int32} {k : Nat} {a : Int32} (H : vB L c) (hk : k < 2) (hL : 0 < L k) : ∃ c1, vB L c1 ∧ (∀ j, 121 < j → c1 j = c j) ∧
    (∀ {fS pR xS xD xN xC xL xB xK : Int32} {be dr ho op ar le xk xc xl xb xs xa : Nat → Int32} {w : Nat → Int32} {h n s : Nat} {z0 : Int32} {post : SX → Prop}, h ≤ 2160 → wX_turn_17 post (nI k) (nI (h + (111 + 5 * k))) n z0 (nI (s + 1)) (nI h) fS pR xS xD xN xC xL xB xK (zput w h c1) be dr ho op ar le xk xc xl xb xs xa → wX_turn_144 post (wX_turn_17 post (nI k) (nI (h + (111 + 5 * k))) n) (nI k) (nI (h + (111 + 5 * k))) (nI s) (nI 6) a z0 (nI h) fS pR xS xD xN xC xL xB xK (zput w h c) be dr ho op ar le xk xc xl xb xs xa) ∧
    (∀ {fS pR yL yF yK yC yS : Int32} {dr ho op ar le yk yl yf yr fd pl di sh sc aw nx aO bO bu tu ow : Nat → Int32} {post : SY → Prop}, rB c yS fd pl di sh sc aw nx aO bO → (∀ {yS1 : Int32} {fd1 pl1 di1 sh1 sc1 aw1 nx1 aO1 bO1 : Nat → Int32}, rB c1 yS1 fd1 pl1 di1 sh1 sc1 aw1 nx1 aO1 bO1 → post (fS, pR, yL, yF, yK, yC, yS1, dr, ho, op, ar, le, yk, yl, yf, yr, fd1, pl1, di1, sh1, sc1, aw1, nx1, aO1, bO1, bu, tu, ow)) → wpY_instruct post (fS, pR, yL, yF, yK, yC, yS, dr, ho, op, ar, le, yk, yl, yf, yr, fd, pl, di, sh, sc, aw, nx, aO, bO, bu, tu, ow) (nI k) (nI 6) a) := by
  obtain ⟨⟨q, hq, ep⟩, ⟨d, hd, ed⟩, ⟨p, hp2, epc⟩⟩ := H.2.2.2 k hk hL
  have i2 : vp_in (nI k) 2 := vp_in_nI hk (by decide)
  have i5 : vp_in (3 + nI k) 5 := by rw [ad_3]; exact vp_in_nI (by omega) (by decide)
  refine ⟨upd c (115 + 5 * k) (c (115 + 5 * k) + a), vB_fr H (by unfold vfree; omega), fun j hj => pk_un (by omega), ?_, ?_⟩
  · intro fS pR xS xD xN xC xL xB xK be dr ho op ar le xk xc xl xb xs xa w h n s z0 post hh hp
    unfold wX_turn_144
    refine br_f (by decide) (br_f (by decide) (br_f (by decide) (br_f (by decide) (br_f (by decide) (br_f (by decide) (?_))))))
    unfold wpX_register
    exact xr _ (ad_d3 h k) (by omega) hh (xr _ (ad_d4 h k) (by omega) hh (br_f (by decide) (br_f (by decide) (br_f (by decide) (br_t (by decide) (xw _ (ad_d4 h k) (by omega) hh (nm_r (nI_1 s) hp)))))))
  · intro fS pR yL yF yK yC yS dr ho op ar le yk yl yf yr fd pl di sh sc aw nx aO bO bu tu ow post HR hp
    refine Y_insA HR hk hq hd ep ed (fun x4 z0 => ?_)
    unfold wY_instruct_51
    refine br_f (by decide) (br_f (by decide) (br_f (by decide) (br_f (by decide) (br_f (by decide) (br_f (by decide) (br_f (by decide) (br_f (by decide) (br_t (by decide) ⟨i2, ?_⟩))))))))
    rw [ye k rfl (by omega) (rB_rbO HR hk)]
    exact yw k rfl hk (by decide) (hp (rB_bO HR hk))
theorem op_7 {L : Nat → Nat} {c : Nat → Int32} {k : Nat} {a : Int32} (H : vB L c) (hk : k < 2) (hL : 0 < L k) : ∃ c1, vB L c1 ∧ (∀ j, 121 < j → c1 j = c j) ∧
    (∀ {fS pR xS xD xN xC xL xB xK : Int32} {be dr ho op ar le xk xc xl xb xs xa : Nat → Int32} {w : Nat → Int32} {h n s : Nat} {z0 : Int32} {post : SX → Prop}, h ≤ 2160 → wX_turn_17 post (nI k) (nI (h + (111 + 5 * k))) n z0 (nI (s + 1)) (nI h) fS pR xS xD xN xC xL xB xK (zput w h c1) be dr ho op ar le xk xc xl xb xs xa → wX_turn_144 post (wX_turn_17 post (nI k) (nI (h + (111 + 5 * k))) n) (nI k) (nI (h + (111 + 5 * k))) (nI s) (nI 7) a z0 (nI h) fS pR xS xD xN xC xL xB xK (zput w h c) be dr ho op ar le xk xc xl xb xs xa) ∧
    (∀ {fS pR yL yF yK yC yS : Int32} {dr ho op ar le yk yl yf yr fd pl di sh sc aw nx aO bO bu tu ow : Nat → Int32} {post : SY → Prop}, rB c yS fd pl di sh sc aw nx aO bO → (∀ {yS1 : Int32} {fd1 pl1 di1 sh1 sc1 aw1 nx1 aO1 bO1 : Nat → Int32}, rB c1 yS1 fd1 pl1 di1 sh1 sc1 aw1 nx1 aO1 bO1 → post (fS, pR, yL, yF, yK, yC, yS1, dr, ho, op, ar, le, yk, yl, yf, yr, fd1, pl1, di1, sh1, sc1, aw1, nx1, aO1, bO1, bu, tu, ow)) → wpY_instruct post (fS, pR, yL, yF, yK, yC, yS, dr, ho, op, ar, le, yk, yl, yf, yr, fd, pl, di, sh, sc, aw, nx, aO, bO, bu, tu, ow) (nI k) (nI 7) a) := by
  obtain ⟨⟨q, hq, ep⟩, ⟨d, hd, ed⟩, ⟨p, hp2, epc⟩⟩ := H.2.2.2 k hk hL
  have i2 : vp_in (nI k) 2 := vp_in_nI hk (by decide)
  have i5 : vp_in (3 + nI k) 5 := by rw [ad_3]; exact vp_in_nI (by omega) (by decide)
  refine ⟨upd (upd c (114 + 5 * k) (c (115 + 5 * k))) (115 + 5 * k) (c (114 + 5 * k)), vB_fr (vB_fr H (by unfold vfree; omega)) (by unfold vfree; omega), fun j hj => by rw [pk_un (by omega), pk_un (by omega)], ?_, ?_⟩
  · intro fS pR xS xD xN xC xL xB xK be dr ho op ar le xk xc xl xb xs xa w h n s z0 post hh hp
    unfold wX_turn_144
    refine br_f (by decide) (br_f (by decide) (br_f (by decide) (br_f (by decide) (br_f (by decide) (br_f (by decide) (?_))))))
    unfold wpX_register
    exact xr _ (ad_d3 h k) (by omega) hh (xr _ (ad_d4 h k) (by omega) hh (br_f (by decide) (br_f (by decide) (br_f (by decide) (br_f (by decide) (br_t (by decide) (xw _ (ad_d3 h k) (by omega) hh (xw _ (ad_d4 h k) (by omega) hh (nm_r (nI_1 s) hp)))))))))
  · intro fS pR yL yF yK yC yS dr ho op ar le yk yl yf yr fd pl di sh sc aw nx aO bO bu tu ow post HR hp
    refine Y_insA HR hk hq hd ep ed (fun x4 z0 => ?_)
    unfold wY_instruct_51
    refine br_f (by decide) (br_f (by decide) (br_f (by decide) (br_f (by decide) (br_f (by decide) (br_f (by decide) (br_f (by decide) (br_f (by decide) (br_f (by decide) (br_t (by decide) ⟨i2, nm_r (ye k rfl (by omega) (rB_rbO HR hk)) ⟨i2, ?_⟩⟩)))))))))
    rw [ye k rfl (by omega) (rB_raO HR hk)]
    exact yw k rfl hk (by decide) (yw k rfl hk (by decide) (hp (rB_bO (rB_aO HR hk) hk)))
theorem op_8 {L : Nat → Nat} {c : Nat → Int32} {k : Nat} {a : Int32} (H : vB L c) (hk : k < 2) (hL : 0 < L k) : ∃ c1, vB L c1 ∧ (∀ j, 121 < j → c1 j = c j) ∧
    (∀ {fS pR xS xD xN xC xL xB xK : Int32} {be dr ho op ar le xk xc xl xb xs xa : Nat → Int32} {w : Nat → Int32} {h n s : Nat} {z0 : Int32} {post : SX → Prop}, h ≤ 2160 → wX_turn_17 post (nI k) (nI (h + (111 + 5 * k))) n z0 (nI (s + 1)) (nI h) fS pR xS xD xN xC xL xB xK (zput w h c1) be dr ho op ar le xk xc xl xb xs xa → wX_turn_144 post (wX_turn_17 post (nI k) (nI (h + (111 + 5 * k))) n) (nI k) (nI (h + (111 + 5 * k))) (nI s) (nI 8) a z0 (nI h) fS pR xS xD xN xC xL xB xK (zput w h c) be dr ho op ar le xk xc xl xb xs xa) ∧
    (∀ {fS pR yL yF yK yC yS : Int32} {dr ho op ar le yk yl yf yr fd pl di sh sc aw nx aO bO bu tu ow : Nat → Int32} {post : SY → Prop}, rB c yS fd pl di sh sc aw nx aO bO → (∀ {yS1 : Int32} {fd1 pl1 di1 sh1 sc1 aw1 nx1 aO1 bO1 : Nat → Int32}, rB c1 yS1 fd1 pl1 di1 sh1 sc1 aw1 nx1 aO1 bO1 → post (fS, pR, yL, yF, yK, yC, yS1, dr, ho, op, ar, le, yk, yl, yf, yr, fd1, pl1, di1, sh1, sc1, aw1, nx1, aO1, bO1, bu, tu, ow)) → wpY_instruct post (fS, pR, yL, yF, yK, yC, yS, dr, ho, op, ar, le, yk, yl, yf, yr, fd, pl, di, sh, sc, aw, nx, aO, bO, bu, tu, ow) (nI k) (nI 8) a) := by
  obtain ⟨⟨q, hq, ep⟩, ⟨d, hd, ed⟩, ⟨p, hp2, epc⟩⟩ := H.2.2.2 k hk hL
  have i2 : vp_in (nI k) 2 := vp_in_nI hk (by decide)
  have i5 : vp_in (3 + nI k) 5 := by rw [ad_3]; exact vp_in_nI (by omega) (by decide)
  by_cases g : c (115 + 5 * k) ≤ c (114 + 5 * k)
  · refine ⟨upd c (114 + 5 * k) 0, vB_fr H (by unfold vfree; omega), fun j hj => pk_un (by omega), ?_, ?_⟩
    · intro fS pR xS xD xN xC xL xB xK be dr ho op ar le xk xc xl xb xs xa w h n s z0 post hh hp
      unfold wX_turn_144
      refine br_f (by decide) (br_f (by decide) (br_f (by decide) (br_f (by decide) (br_f (by decide) (br_f (by decide) (?_))))))
      unfold wpX_register
      exact xr _ (ad_d3 h k) (by omega) hh (xr _ (ad_d4 h k) (by omega) hh (br_f (by decide) (br_f (by decide) (br_f (by decide) (br_f (by decide) (br_f (by decide) (br_t (by decide) (br_t g (xw _ (ad_d3 h k) (by omega) hh (nm_r (nI_1 s) hp))))))))))
    · intro fS pR yL yF yK yC yS dr ho op ar le yk yl yf yr fd pl di sh sc aw nx aO bO bu tu ow post HR hp
      refine Y_insA HR hk hq hd ep ed (fun x4 z0 => ?_)
      unfold wY_instruct_51
      refine br_f (by decide) (br_f (by decide) (br_f (by decide) (br_f (by decide) (br_f (by decide) (br_f (by decide) (br_f (by decide) (br_f (by decide) (br_f (by decide) (br_f (by decide) (br_t (by decide) ⟨i2, i2, ?_⟩))))))))))
      rw [ye k rfl (by omega) (rB_raO HR hk), ye k rfl (by omega) (rB_rbO HR hk)]
      exact br_t g (yw k rfl hk (by decide) (hp (rB_aO HR hk)))
  · refine ⟨upd c (114 + 5 * k) 1, vB_fr H (by unfold vfree; omega), fun j hj => pk_un (by omega), ?_, ?_⟩
    · intro fS pR xS xD xN xC xL xB xK be dr ho op ar le xk xc xl xb xs xa w h n s z0 post hh hp
      unfold wX_turn_144
      refine br_f (by decide) (br_f (by decide) (br_f (by decide) (br_f (by decide) (br_f (by decide) (br_f (by decide) (?_))))))
      unfold wpX_register
      exact xr _ (ad_d3 h k) (by omega) hh (xr _ (ad_d4 h k) (by omega) hh (br_f (by decide) (br_f (by decide) (br_f (by decide) (br_f (by decide) (br_f (by decide) (br_t (by decide) (br_f g (xw _ (ad_d3 h k) (by omega) hh (nm_r (nI_1 s) hp))))))))))
    · intro fS pR yL yF yK yC yS dr ho op ar le yk yl yf yr fd pl di sh sc aw nx aO bO bu tu ow post HR hp
      refine Y_insA HR hk hq hd ep ed (fun x4 z0 => ?_)
      unfold wY_instruct_51
      refine br_f (by decide) (br_f (by decide) (br_f (by decide) (br_f (by decide) (br_f (by decide) (br_f (by decide) (br_f (by decide) (br_f (by decide) (br_f (by decide) (br_f (by decide) (br_t (by decide) ⟨i2, i2, ?_⟩))))))))))
      rw [ye k rfl (by omega) (rB_raO HR hk), ye k rfl (by omega) (rB_rbO HR hk)]
      exact br_f g (yw k rfl hk (by decide) (hp (rB_aO HR hk)))
theorem op_9 {L : Nat → Nat} {c : Nat → Int32} {k : Nat} {a : Int32} (H : vB L c) (hk : k < 2) (hL : 0 < L k) : ∃ c1, vB L c1 ∧ (∀ j, 121 < j → c1 j = c j) ∧
    (∀ {fS pR xS xD xN xC xL xB xK : Int32} {be dr ho op ar le xk xc xl xb xs xa : Nat → Int32} {w : Nat → Int32} {h n s : Nat} {z0 : Int32} {post : SX → Prop}, h ≤ 2160 → wX_turn_17 post (nI k) (nI (h + (111 + 5 * k))) n z0 (nI (s + 1)) (nI h) fS pR xS xD xN xC xL xB xK (zput w h c1) be dr ho op ar le xk xc xl xb xs xa → wX_turn_144 post (wX_turn_17 post (nI k) (nI (h + (111 + 5 * k))) n) (nI k) (nI (h + (111 + 5 * k))) (nI s) (nI 9) a z0 (nI h) fS pR xS xD xN xC xL xB xK (zput w h c) be dr ho op ar le xk xc xl xb xs xa) ∧
    (∀ {fS pR yL yF yK yC yS : Int32} {dr ho op ar le yk yl yf yr fd pl di sh sc aw nx aO bO bu tu ow : Nat → Int32} {post : SY → Prop}, rB c yS fd pl di sh sc aw nx aO bO → (∀ {yS1 : Int32} {fd1 pl1 di1 sh1 sc1 aw1 nx1 aO1 bO1 : Nat → Int32}, rB c1 yS1 fd1 pl1 di1 sh1 sc1 aw1 nx1 aO1 bO1 → post (fS, pR, yL, yF, yK, yC, yS1, dr, ho, op, ar, le, yk, yl, yf, yr, fd1, pl1, di1, sh1, sc1, aw1, nx1, aO1, bO1, bu, tu, ow)) → wpY_instruct post (fS, pR, yL, yF, yK, yC, yS, dr, ho, op, ar, le, yk, yl, yf, yr, fd, pl, di, sh, sc, aw, nx, aO, bO, bu, tu, ow) (nI k) (nI 9) a) := by
  obtain ⟨⟨q, hq, ep⟩, ⟨d, hd, ed⟩, ⟨p, hp2, epc⟩⟩ := H.2.2.2 k hk hL
  have i2 : vp_in (nI k) 2 := vp_in_nI hk (by decide)
  have i5 : vp_in (3 + nI k) 5 := by rw [ad_3]; exact vp_in_nI (by omega) (by decide)
  refine ⟨upd (upd c 121 (c 121 * 1103515245 + 12345)) (114 + 5 * k) (((c 121 * 1103515245 + 12345).toUInt32 >>> ((24 : Int32).toUInt32 &&& Int32.toUInt32 31)).toInt32), vB_fr (vB_fr H (by unfold vfree; omega)) (by unfold vfree; omega), fun j hj => by rw [pk_un (by omega), pk_un (by omega)], ?_, ?_⟩
  · intro fS pR xS xD xN xC xL xB xK be dr ho op ar le xk xc xl xb xs xa w h n s z0 post hh hp
    unfold wX_turn_144
    refine br_f (by decide) (br_f (by decide) (br_f (by decide) (br_f (by decide) (br_f (by decide) (br_f (by decide) (?_))))))
    unfold wpX_register
    exact xr _ (ad_d3 h k) (by omega) hh (xr _ (ad_d4 h k) (by omega) hh (br_f (by decide) (br_f (by decide) (br_f (by decide) (br_f (by decide) (br_f (by decide) (br_f (by decide) (br_t (by decide) (X_nextSeed hh (xw _ (ad_d3 h k) (by omega) hh (nm_r (nI_1 s) hp)))))))))))
  · intro fS pR yL yF yK yC yS dr ho op ar le yk yl yf yr fd pl di sh sc aw nx aO bO bu tu ow post HR hp
    refine Y_insA HR hk hq hd ep ed (fun x4 z0 => ?_)
    unfold wY_instruct_51
    refine br_f (by decide) (br_f (by decide) (br_f (by decide) (br_f (by decide) (br_f (by decide) (br_f (by decide) (br_f (by decide) (br_f (by decide) (br_f (by decide) (br_f (by decide) (br_f (by decide) (br_t (by decide) ?_)))))))))))
    rw [rB_rS HR]
    exact nm_e (yw k rfl hk (by decide) (hp (rB_aO (rB_yS HR) hk)))
end
section
theorem upd_upd {f : Nat → Int32} {k : Nat} {x y : Int32} : upd (upd f k x) k y = upd f k y := by
  funext j
  unfold upd
  by_cases e : j = k
  · rw [if_pos e, if_pos e]
  · rw [if_neg e, if_neg e, if_neg e]
theorem op_all {L : Nat → Nat} {c : Nat → Int32} {k o : Nat} {a : Int32} (H : vB L c) (hk : k < 2) (hL : 0 < L k) (h12 : o ≤ 12) (n10 : o ≠ 10) (n11 : o ≠ 11) (h4 : o = 4 → ∃ t, t ≤ 2 ∧ a = nI t) : ∃ c1, vB L c1 ∧ (∀ j, 121 < j → c1 j = c j) ∧
    (∀ {fS pR xS xD xN xC xL xB xK : Int32} {be dr ho op ar le xk xc xl xb xs xa : Nat → Int32} {w : Nat → Int32} {h n s : Nat} {z0 : Int32} {post : SX → Prop}, h ≤ 2160 → wX_turn_17 post (nI k) (nI (h + (111 + 5 * k))) n z0 (nI (s + 1)) (nI h) fS pR xS xD xN xC xL xB xK (zput w h c1) be dr ho op ar le xk xc xl xb xs xa → wX_turn_144 post (wX_turn_17 post (nI k) (nI (h + (111 + 5 * k))) n) (nI k) (nI (h + (111 + 5 * k))) (nI s) (nI o) a z0 (nI h) fS pR xS xD xN xC xL xB xK (zput w h c) be dr ho op ar le xk xc xl xb xs xa) ∧
    (∀ {fS pR yL yF yK yC yS : Int32} {dr ho op ar le yk yl yf yr fd pl di sh sc aw nx aO bO bu tu ow : Nat → Int32} {post : SY → Prop}, rB c yS fd pl di sh sc aw nx aO bO → (∀ {yS1 : Int32} {fd1 pl1 di1 sh1 sc1 aw1 nx1 aO1 bO1 : Nat → Int32}, rB c1 yS1 fd1 pl1 di1 sh1 sc1 aw1 nx1 aO1 bO1 → post (fS, pR, yL, yF, yK, yC, yS1, dr, ho, op, ar, le, yk, yl, yf, yr, fd1, pl1, di1, sh1, sc1, aw1, nx1, aO1, bO1, bu, tu, ow)) → wpY_instruct post (fS, pR, yL, yF, yK, yC, yS, dr, ho, op, ar, le, yk, yl, yf, yr, fd, pl, di, sh, sc, aw, nx, aO, bO, bu, tu, ow) (nI k) (nI o) a) := by
  have ho : o = 0 ∨ o = 1 ∨ o = 2 ∨ o = 3 ∨ o = 4 ∨ o = 5 ∨ o = 6 ∨ o = 7 ∨ o = 8 ∨ o = 9 ∨ o = 12 := by omega
  rcases ho with rfl | rfl | rfl | rfl | rfl | rfl | rfl | rfl | rfl | rfl | rfl
  · exact op_0 H hk hL
  · exact op_1 H hk hL
  · exact op_2 H hk hL
  · exact op_3 H hk hL
  · obtain ⟨t, ht, rfl⟩ := h4 rfl
    exact op_4 (a := 0) H hk hL (by omega)
  · exact op_5 H hk hL
  · exact op_6 H hk hL
  · exact op_7 H hk hL
  · exact op_8 H hk hL
  · exact op_9 H hk hL
  · exact op_12 H hk hL
/-- where the next instruction is -/
def wrp (l e : Nat) : Nat := if l ≤ e then 0 else e
theorem wrp_lt {l e : Nat} (h : 0 < l) : wrp l e < l := by
  unfold wrp
  split <;> omega
def mor (o : Nat) : Nat := if o ≤ 2 then 0 else if 12 ≤ o then 0 else 1
theorem ad_o (k p : Nat) : 12 * nI k + nI p = nI (12 * k + p) := nI_cell
section
variable {xH fS pR xS xD xN xC xL xB xK : Int32} {wo be dr ho op ar le xk xc xl xb xs xa : Nat → Int32}
theorem X_t101 {post : SX → Prop} {w c : Nat → Int32} {h k n s o e l : Nat} {a : Int32} (hh : h ≤ 2160) (hk : k < 2) (h12 : o ≤ 12) (he : e < 100) (el : le k = nI l) (hl : l ≤ 12) (hp : wX_turn_144 post (wX_turn_17 post (nI k) (nI (h + (111 + 5 * k))) n) (nI k) (nI (h + (111 + 5 * k))) (nI s) (nI o) a (nI (mor o)) (nI h) fS pR xS xD xN xC xL xB xK (zput w h (upd c (113 + 5 * k) (nI (wrp l e)))) be dr ho op ar le xk xc xl xb xs xa) : wX_turn_101 post (wX_turn_17 post (nI k) (nI (h + (111 + 5 * k))) n) (nI k) (nI (h + (111 + 5 * k))) (nI s) (nI o) a (nI e) (nI h) fS pR xS xD xN xC xL xB xK (zput w h c) be dr ho op ar le xk xc xl xb xs xa := by
  have i2 : vp_in (nI k) 2 := vp_in_nI hk (by decide)
  have key : ∀ e2, e2 = wrp l e → wX_turn_125 post (wX_turn_17 post (nI k) (nI (h + (111 + 5 * k))) n) (nI k) (nI (h + (111 + 5 * k))) (nI s) (nI o) a (nI e2) ((nI (h + (111 + 5 * k))) + 2) (nI h) fS pR xS xD xN xC xL xB xK (zput w h c) be dr ho op ar le xk xc xl xb xs xa := by
    intro e2 h2
    subst h2
    unfold wX_turn_125
    refine xw _ (ad_d2 h k) (by omega) hh ?_
    unfold mor at hp
    by_cases h1 : o ≤ 2
    · rw [if_pos h1] at hp
      exact br_t (nI_le (b := 2) h1 (by decide)) hp
    · rw [if_neg h1] at hp
      refine br_f (nI_ge (a := 2) (by omega) (by omega)) ?_
      by_cases h2 : 12 ≤ o
      · rw [if_pos h2] at hp
        exact br_t (nI_le (a := 12) h2 (by omega)) hp
      · rw [if_neg h2] at hp
        exact br_f (nI_ge (b := 12) (by omega) (by decide)) hp
  unfold wX_turn_101
  refine ⟨i2, ?_⟩
  rw [ye k rfl (by omega) el]
  by_cases h1 : l ≤ e
  · exact br_t (nI_le h1 (by omega)) (key 0 (by unfold wrp; rw [if_pos h1]))
  · exact br_f (nI_ge (by omega) (by omega)) (key e (by unfold wrp; rw [if_neg h1]))
theorem X_t17 {post : SX → Prop} {w c : Nat → Int32} {h k n s o p : Nat} {a : Int32} (hh : h ≤ 2160) (hk : k < 2) (hs : s < 6) (hp12 : p < 12) (epc : c (113 + 5 * k) = nI p) (eo : op (12 * k + p) = nI o) (ea : ar (12 * k + p) = a) (hp : ((nI o = 10 → wX_turn_97 post (wX_turn_17 post (nI k) (nI (h + (111 + 5 * k))) n) (nI k) (nI (h + (111 + 5 * k))) (nI s) (nI o) a (nI h) fS pR xS xD xN xC xL xB xK (zput w h c) be dr ho op ar le xk xc xl xb xs xa) ∧ (¬ nI o = 10 → ((nI o = 11 → ((c (114 + 5 * k) = 0 → wX_turn_97 post (wX_turn_17 post (nI k) (nI (h + (111 + 5 * k))) n) (nI k) (nI (h + (111 + 5 * k))) (nI s) (nI o) a (nI h) fS pR xS xD xN xC xL xB xK (zput w h c) be dr ho op ar le xk xc xl xb xs xa) ∧ (¬ c (114 + 5 * k) = 0 → wX_turn_101 post (wX_turn_17 post (nI k) (nI (h + (111 + 5 * k))) n) (nI k) (nI (h + (111 + 5 * k))) (nI s) (nI o) a (nI (p + 1)) (nI h) fS pR xS xD xN xC xL xB xK (zput w h c) be dr ho op ar le xk xc xl xb xs xa))) ∧ (¬ nI o = 11 → wX_turn_101 post (wX_turn_17 post (nI k) (nI (h + (111 + 5 * k))) n) (nI k) (nI (h + (111 + 5 * k))) (nI s) (nI o) a (nI (p + 1)) (nI h) fS pR xS xD xN xC xL xB xK (zput w h c) be dr ho op ar le xk xc xl xb xs xa))))) : wX_turn_17 post (nI k) (nI (h + (111 + 5 * k))) (n + 1) 1 (nI s) (nI h) fS pR xS xD xN xC xL xB xK (zput w h c) be dr ho op ar le xk xc xl xb xs xa := by
  have i24 : vp_in (12 * nI k + nI p) 24 := by rw [ad_o]; exact vp_in_nI (by omega) (by decide)
  refine br_f (nI_ge (b := 6) hs (by decide)) (br_f (by decide) (xr _ (ad_d2 h k) (by omega) hh ?_))
  rw [epc]
  refine ⟨i24, nm_r (ye _ (ad_o k p) (by omega) eo) ⟨i24, nm_r (ye _ (ad_o k p) (by omega) ea) (nm_r (nI_1 p) ⟨hp.1, fun z => ⟨fun z2 => ⟨xv _ (ad_d3 h k) (by omega) hh, ?_⟩, (hp.2 z).2⟩⟩)⟩⟩
  rw [xe (114 + 5 * k) (ad_d3 h k) (by omega) hh]
  exact (hp.2 z).1 z2
end
section
variable {fS pR yL yF yK yC yS : Int32} {dr ho op ar le yk yl yf yr fd pl di sh sc aw nx aO bO bu tu ow : Nat → Int32}
theorem Y_d4 {post : SY → Prop} {c : Nat → Int32} {k n s o p l : Nat} {a : Int32} (HR : rB c yS fd pl di sh sc aw nx aO bO) (hk : k < 2) (hs : s < 6) (epc : c (113 + 5 * k) = nI p) (hpl : p < l) (el : le k = nI l) (hl : l ≤ 12) (eo : op (12 * k + p) = nI o) (h12 : o ≤ 12) (ea : ar (12 * k + p) = a)
    (hp : ∀ post2 : SY → Prop, (∀ {yS1 : Int32} {fd1 pl1 di1 sh1 sc1 aw1 nx1 aO1 bO1 : Nat → Int32}, wY_drive_4 post (nI k) n (nI (1 - mor o)) (nI (s + 1)) fS pR yL yF yK yC yS1 dr ho op ar le yk yl yf yr fd1 pl1 di1 sh1 sc1 aw1 nx1 aO1 bO1 bu tu ow → post2 (fS, pR, yL, yF, yK, yC, yS1, dr, ho, op, ar, le, yk, yl, yf, yr, fd1, pl1, di1, sh1, sc1, aw1, nx1, aO1, bO1, bu, tu, ow)) → wpY_instruct post2 (fS, pR, yL, yF, yK, yC, yS, dr, ho, op, ar, le, yk, yl, yf, yr, fd, pl, di, sh, sc, aw, upd nx k (nI (wrp l (p + 1))), aO, bO, bu, tu, ow) (nI k) (nI o) a) : wY_drive_4 post (nI k) (n + 1) 0 (nI s) fS pR yL yF yK yC yS dr ho op ar le yk yl yf yr fd pl di sh sc aw nx aO bO bu tu ow := by
  have i2 : vp_in (nI k) 2 := vp_in_nI hk (by decide)
  have i24 : vp_in (nI (12 * k + p)) 24 := vp_in_nI (by omega) (by decide)
  have en : nx (nI k).toNatClampNeg = nI p := ye k rfl (by omega) ((rB_rnx HR hk).trans epc)
  have k90 : ∀ z : Int32, z = nI (1 - mor o) → wY_drive_90 post (wY_drive_4 post (nI k) n) (nI k) (nI s) (nI (12 * k + p)) z fS pR yL yF yK yC yS dr ho op ar le yk yl yf yr fd pl di sh sc aw (upd nx k (nI (wrp l (p + 1)))) aO bO bu tu ow := by
    intro z hz
    subst hz
    unfold wY_drive_90
    refine ⟨i24, i24, ?_⟩
    rw [ye _ rfl (by omega) eo, ye _ rfl (by omega) ea]
    exact hp _ (fun hd => nm_r (nI_1 s) hd)
  have key : ∀ e2 : Int32, e2 = nI (wrp l (p + 1)) → wY_drive_61 post (wY_drive_4 post (nI k) n) (nI k) (nI s) (nI (12 * k + p)) e2 (nI k) fS pR yL yF yK yC yS dr ho op ar le yk yl yf yr fd pl di sh sc aw nx aO bO bu tu ow := by
    intro e2 h2
    subst h2
    unfold wY_drive_61
    refine yw k rfl hk (by decide) ⟨i24, ?_⟩
    rw [ye _ rfl (by omega) eo]
    by_cases h1 : o ≤ 2
    · exact br_t (nI_lt (b := 3) (by omega) (by decide)) (k90 1 (by unfold mor; rw [if_pos h1]; rfl))
    · refine br_f (nI_nlt (b := 3) (by omega) (by omega)) ⟨i24, ?_⟩
      by_cases h2 : o = 12
      · subst h2
        exact br_t (by decide) (k90 1 (by decide))
      · exact br_f (fun z => h2 ((nI_eq (b := 12) (by omega) (by decide)).mp z)) (k90 0 (by unfold mor; rw [if_neg h1, if_neg (by omega)]; rfl))
  refine br_f (nI_ge (b := 6) hs (by decide)) (br_t rfl ⟨i2, ?_⟩)
  rw [en, ye k rfl (by omega) el, nI_1 p]
  refine nm_r (ad_o k p) ⟨i2, i2, ?_⟩
  by_cases h1 : p + 1 = l
  · exact br_t (by rw [h1]) (key 0 (by unfold wrp; rw [if_pos (by omega)]; rfl))
  · exact br_f (fun z => h1 ((nI_eq (by omega) (by omega)).mp z)) ⟨i2, key _ (by unfold wrp; rw [if_neg (by omega)])⟩
theorem Y_354 {post : SY → Prop} {k e l : Nat} (hk : k < 2) (el : le k = nI l) (hl : l ≤ 12) (he : e < 100) (hp : post (fS, pR, yL, yF, yK, yC, yS, dr, ho, op, ar, le, yk, yl, yf, yr, fd, pl, di, sh, sc, aw, upd nx k (nI (wrp l e)), aO, bO, bu, tu, ow)) : wY_instruct_354 post (nI k) (nI e) fS pR yL yF yK yC yS dr ho op ar le yk yl yf yr fd pl di sh sc aw nx aO bO bu tu ow := by
  have i2 : vp_in (nI k) 2 := vp_in_nI hk (by decide)
  unfold wY_instruct_354
  refine ⟨i2, ?_⟩
  rw [ye k rfl (by omega) el]
  unfold wrp at hp
  by_cases h1 : l ≤ e
  · rw [if_pos h1] at hp
    exact br_t (nI_le h1 (by omega)) (yw k rfl hk (by decide) hp)
  · rw [if_neg h1] at hp
    exact br_f (nI_ge (by omega) (by omega)) (yw k rfl hk (by decide) hp)
end
/-- one instruction of a drone -/
theorem drone1 {L : Nat → Nat} {ho op ar le c : Nat → Int32} {k : Nat} (C : cF ho op ar le L) (H : vB L c) (hk : k < 2) (hL : 0 < L k) : ∃ c1 m, vB L c1 ∧ (∀ j, 121 < j → c1 j = c j) ∧ (m = 0 ∨ m = 1) ∧
    (∀ {fS pR xS xD xN xC xL xB xK : Int32} {be dr ho xk xc xl xb xs xa : Nat → Int32} {w : Nat → Int32} {h n s : Nat} {post : SX → Prop}, h ≤ 2160 → s < 6 → wX_turn_17 post (nI k) (nI (h + (111 + 5 * k))) n (nI m) (nI (s + 1)) (nI h) fS pR xS xD xN xC xL xB xK (zput w h c1) be dr ho op ar le xk xc xl xb xs xa → wX_turn_17 post (nI k) (nI (h + (111 + 5 * k))) (n + 1) 1 (nI s) (nI h) fS pR xS xD xN xC xL xB xK (zput w h c) be dr ho op ar le xk xc xl xb xs xa) ∧
    (∀ {fS pR yL yF yK yC yS : Int32} {dr ho yk yl yf yr fd pl di sh sc aw nx aO bO bu tu ow : Nat → Int32} {n s : Nat} {post : SY → Prop}, rB c yS fd pl di sh sc aw nx aO bO → s < 6 → (∀ {yS1 : Int32} {fd1 pl1 di1 sh1 sc1 aw1 nx1 aO1 bO1 : Nat → Int32}, rB c1 yS1 fd1 pl1 di1 sh1 sc1 aw1 nx1 aO1 bO1 → wY_drive_4 post (nI k) n (nI (1 - m)) (nI (s + 1)) fS pR yL yF yK yC yS1 dr ho op ar le yk yl yf yr fd1 pl1 di1 sh1 sc1 aw1 nx1 aO1 bO1 bu tu ow) → wY_drive_4 post (nI k) (n + 1) 0 (nI s) fS pR yL yF yK yC yS dr ho op ar le yk yl yf yr fd pl di sh sc aw nx aO bO bu tu ow) := by
  obtain ⟨⟨q, hq, ep⟩, ⟨d, hd, ed⟩, ⟨p, hpL, epc⟩⟩ := H.2.2.2 k hk hL
  obtain ⟨el, hl⟩ := C.2.1 k hk
  obtain ⟨o, h12, eo, oj, o4⟩ := C.2.2 k hk p hpL
  have setV : ∀ e, vB L (upd c (113 + 5 * k) (nI (wrp (L k) e))) := fun e => vB_dr H hk (fun j _ _ _ z => pk_un z) (fun _ => ⟨⟨q, hq, (pk_un (by omega)).trans ep⟩, ⟨d, hd, (pk_un (by omega)).trans ed⟩, ⟨_, wrp_lt hL, pk_us⟩⟩)
  by_cases hj : o = 10 ∨ o = 11
  · obtain ⟨t, ht, ea⟩ := oj hj
    have emor : mor o = 1 := by
      unfold mor
      rw [if_neg (by omega), if_neg (by omega)]
    have jX : ∀ {e : Nat} {fS pR xS xD xN xC xL xB xK : Int32} {be dr ho xk xc xl xb xs xa : Nat → Int32} {w : Nat → Int32} {h n s : Nat} {post : SX → Prop}, h ≤ 2160 → e < 100 → wX_turn_17 post (nI k) (nI (h + (111 + 5 * k))) n (nI 1) (nI (s + 1)) (nI h) fS pR xS xD xN xC xL xB xK (zput w h (upd c (113 + 5 * k) (nI (wrp (L k) e)))) be dr ho op ar le xk xc xl xb xs xa → wX_turn_101 post (wX_turn_17 post (nI k) (nI (h + (111 + 5 * k))) n) (nI k) (nI (h + (111 + 5 * k))) (nI s) (nI o) (nI t) (nI e) (nI h) fS pR xS xD xN xC xL xB xK (zput w h c) be dr ho op ar le xk xc xl xb xs xa := by
      intro e fS pR xS xD xN xC xL xB xK be dr ho xk xc xl xb xs xa w h n s post hh he hp
      refine X_t101 hh hk h12 he el hl ?_
      rw [emor]
      unfold wX_turn_144
      have ge : (10 : Int32) ≤ nI o := nI_le (a := 10) (by omega) (by omega)
      exact br_f (fun z => absurd ((nI_eq (b := 0) (by omega) (by decide)).mp z) (by omega)) (br_f (fun z => absurd ((nI_eq (b := 12) (by omega) (by decide)).mp z) (by omega)) (br_f (fun z => absurd ((nI_eq (b := 1) (by omega) (by decide)).mp z) (by omega)) (br_f (fun z => absurd ((nI_eq (b := 3) (by omega) (by decide)).mp z) (by omega)) (br_f (fun z => absurd ((nI_eq (b := 4) (by omega) (by decide)).mp z) (by omega)) (br_t ge (nm_r (nI_1 s) hp))))))
    by_cases g : o = 10 ∨ c (114 + 5 * k) = 0
    · refine ⟨upd c (113 + 5 * k) (nI (wrp (L k) t)), 1, setV t, fun j hj => pk_un (by omega), Or.inr rfl, ?_, ?_⟩
      · intro fS pR xS xD xN xC xL xB xK be dr ho xk xc xl xb xs xa w h n s post hh hs hp
        refine X_t17 hh hk hs (by omega) epc eo ea ⟨fun _ => jX hh (by omega) hp, fun z => ⟨fun z2 => ⟨fun _ => jX hh (by omega) hp, fun z3 => absurd (g.resolve_left (fun y => z (by rw [y]; rfl))) z3⟩, fun z2 => ?_⟩⟩
        rcases hj with hj | hj
        · exact absurd (by rw [hj]; rfl) z
        · exact absurd (by rw [hj]; rfl) z2
      · intro fS pR yL yF yK yC yS dr ho yk yl yf yr fd pl di sh sc aw nx aO bO bu tu ow n s post HR hs hp
        refine Y_d4 HR hk hs epc hpL el hl eo h12 ea (fun post2 h2 => ?_)
        rw [emor] at h2
        have HR1 := rB_nx (v := nI (wrp (L k) (p + 1))) HR hk
        have fin : post2 (fS, pR, yL, yF, yK, yC, yS, dr, ho, op, ar, le, yk, yl, yf, yr, fd, pl, di, sh, sc, aw, upd (upd nx k (nI (wrp (L k) (p + 1)))) k (nI (wrp (L k) t)), aO, bO, bu, tu, ow) := by
          rw [upd_upd]
          exact h2 (hp (rB_nx HR hk))
        refine Y_insA HR1 hk hq hd ((pk_un (by omega)).trans ep) ((pk_un (by omega)).trans ed) (fun x4 z0 => ?_)
        have f354 := Y_354 (post := post2) (nx := upd nx k (nI (wrp (L k) (p + 1)))) hk el hl (e := t) (by omega) fin
        have ea0 : aO (nI k).toNatClampNeg = c (114 + 5 * k) := ye k rfl (by omega) (rB_raO HR hk)
        rcases hj with rfl | rfl
        · unfold wY_instruct_51
          exact br_f (by decide) (br_f (by decide) (br_f (by decide) (br_f (by decide) (br_f (by decide) (br_f (by decide) (br_f (by decide) (br_f (by decide) (br_f (by decide) (br_f (by decide) (br_f (by decide) (br_f (by decide) (br_t (by decide) (br_t (by decide) f354)))))))))))))
        · unfold wY_instruct_51
          have g0 : c (114 + 5 * k) = 0 := g.resolve_left (by decide)
          refine br_f (by decide) (br_f (by decide) (br_f (by decide) (br_f (by decide) (br_f (by decide) (br_f (by decide) (br_f (by decide) (br_f (by decide) (br_f (by decide) (br_f (by decide) (br_f (by decide) (br_f (by decide) (br_f (by decide) (br_t (by decide) (br_f (by decide) ⟨vp_in_nI hk (by decide), ?_⟩))))))))))))))
          rw [ea0]
          exact br_t g0 f354
    · have ho : o = 11 := hj.resolve_left (fun z => g (Or.inl z))
      have g0 : ¬ c (114 + 5 * k) = 0 := fun z => g (Or.inr z)
      subst ho
      refine ⟨upd c (113 + 5 * k) (nI (wrp (L k) (p + 1))), 1, setV _, fun j hj => pk_un (by omega), Or.inr rfl, ?_, ?_⟩
      · intro fS pR xS xD xN xC xL xB xK be dr ho xk xc xl xb xs xa w h n s post hh hs hp
        exact X_t17 hh hk hs (by omega) epc eo ea (br_f (by decide) (br_t (by decide) (br_f g0 (jX hh (by omega) hp))))
      · intro fS pR yL yF yK yC yS dr ho yk yl yf yr fd pl di sh sc aw nx aO bO bu tu ow n s post HR hs hp
        refine Y_d4 HR hk hs epc hpL el hl eo h12 ea (fun post2 h2 => ?_)
        have HR1 := rB_nx (v := nI (wrp (L k) (p + 1))) HR hk
        have ea0 : aO (nI k).toNatClampNeg = c (114 + 5 * k) := ye k rfl (by omega) (rB_raO HR hk)
        refine Y_insA HR1 hk hq hd ((pk_un (by omega)).trans ep) ((pk_un (by omega)).trans ed) (fun x4 z0 => ?_)
        unfold wY_instruct_51
        refine br_f (by decide) (br_f (by decide) (br_f (by decide) (br_f (by decide) (br_f (by decide) (br_f (by decide) (br_f (by decide) (br_f (by decide) (br_f (by decide) (br_f (by decide) (br_f (by decide) (br_f (by decide) (br_f (by decide) (br_t (by decide) (br_f (by decide) ⟨vp_in_nI hk (by decide), ?_⟩))))))))))))))
        rw [ea0]
        exact br_f g0 (h2 (hp HR1))
  · obtain ⟨c1, V1, E1, X1, Y1⟩ := op_all (k := k) (o := o) (a := ar (12 * k + p)) (setV (p + 1)) hk hL h12 (fun z => hj (Or.inl z)) (fun z => hj (Or.inr z)) o4
    refine ⟨c1, mor o, V1, fun j hj => (E1 j hj).trans (pk_un (by omega)), ?_, ?_, ?_⟩
    · unfold mor
      split
      · exact Or.inl rfl
      · split
        · exact Or.inl rfl
        · exact Or.inr rfl
    · intro fS pR xS xD xN xC xL xB xK be dr ho xk xc xl xb xs xa w h n s post hh hs hp
      exact X_t17 hh hk hs (by omega) epc eo rfl (br_f (fun z => hj (Or.inl ((nI_eq (b := 10) (by omega) (by decide)).mp z))) (br_f (fun z => hj (Or.inr ((nI_eq (b := 11) (by omega) (by decide)).mp z))) (X_t101 hh hk h12 (by omega) el hl (X1 hh hp))))
    · intro fS pR yL yF yK yC yS dr ho yk yl yf yr fd pl di sh sc aw nx aO bO bu tu ow n s post HR hs hp
      exact Y_d4 HR hk hs epc hpL el hl eo h12 rfl (fun post2 h2 => Y1 (rB_nx HR hk) (fun HB => h2 (hp HB)))
end
section
/-- a drone's instructions of a frame -/
theorem drive_ex {L : Nat → Nat} {ho op ar le : Nat → Int32} {k : Nat} (C : cF ho op ar le L) (hk : k < 2) (hL : 0 < L k) : ∀ (e s : Nat) (c : Nat → Int32), s + e = 6 → vB L c → ∃ c1, vB L c1 ∧ (∀ j, 121 < j → c1 j = c j) ∧
    (∀ {fS pR xS xD xN xC xL xB xK : Int32} {be dr ho xk xc xl xb xs xa : Nat → Int32} {w : Nat → Int32} {h : Nat} {post : SX → Prop}, h ≤ 2160 → post (nI h, fS, pR, xS, xD, xN, xC, xL, xB, xK, zput w h c1, be, dr, ho, op, ar, le, xk, xc, xl, xb, xs, xa) → wX_turn_17 post (nI k) (nI (h + (111 + 5 * k))) (e + 1) 1 (nI s) (nI h) fS pR xS xD xN xC xL xB xK (zput w h c) be dr ho op ar le xk xc xl xb xs xa) ∧
    (∀ {fS pR yL yF yK yC yS : Int32} {dr ho yk yl yf yr fd pl di sh sc aw nx aO bO bu tu ow : Nat → Int32} {post : SY → Prop}, rB c yS fd pl di sh sc aw nx aO bO → (∀ {yS1 : Int32} {fd1 pl1 di1 sh1 sc1 aw1 nx1 aO1 bO1 : Nat → Int32}, rB c1 yS1 fd1 pl1 di1 sh1 sc1 aw1 nx1 aO1 bO1 → post (fS, pR, yL, yF, yK, yC, yS1, dr, ho, op, ar, le, yk, yl, yf, yr, fd1, pl1, di1, sh1, sc1, aw1, nx1, aO1, bO1, bu, tu, ow)) → wY_drive_4 post (nI k) (e + 1) 0 (nI s) fS pR yL yF yK yC yS dr ho op ar le yk yl yf yr fd pl di sh sc aw nx aO bO bu tu ow) := by
  intro e
  induction e with
  | zero =>
    intro s c hs H
    obtain rfl : s = 6 := by omega
    refine ⟨c, H, fun j _ => rfl, ?_, ?_⟩
    · intro fS pR xS xD xN xC xL xB xK be dr ho xk xc xl xb xs xa w h post hh hp
      exact br_t (by decide) hp
    · intro fS pR yL yF yK yC yS dr ho yk yl yf yr fd pl di sh sc aw nx aO bO bu tu ow post HR hp
      exact br_t (by decide) (hp HR)
  | succ e ih =>
    intro s c hs H
    obtain ⟨c1, m, V1, E1, hm, X1, Y1⟩ := drone1 C H hk hL
    rcases hm with rfl | rfl
    · refine ⟨c1, V1, E1, ?_, ?_⟩
      · intro fS pR xS xD xN xC xL xB xK be dr ho xk xc xl xb xs xa w h post hh hp
        exact X1 hh (by omega) ⟨fun _ => hp, fun _ => br_t rfl hp⟩
      · intro fS pR yL yF yK yC yS dr ho yk yl yf yr fd pl di sh sc aw nx aO bO bu tu ow post HR hp
        exact Y1 HR (by omega) (fun HB => ⟨fun _ => hp HB, fun _ => br_f (by decide) (hp HB)⟩)
    · obtain ⟨c2, V2, E2, X2, Y2⟩ := ih (s + 1) c1 (by omega) V1
      refine ⟨c2, V2, fun j hj => (E2 j hj).trans (E1 j hj), ?_, ?_⟩
      · intro fS pR xS xD xN xC xL xB xK be dr ho xk xc xl xb xs xa w h post hh hp
        exact X1 hh (by omega) (X2 hh hp)
      · intro fS pR yL yF yK yC yS dr ho yk yl yf yr fd pl di sh sc aw nx aO bO bu tu ow post HR hp
        exact Y1 HR (by omega) (fun HB => Y2 HB hp)
/-- the k-th drone, if it has a program -/
theorem turn_ex {L : Nat → Nat} {ho op ar le c : Nat → Int32} {k : Nat} (C : cF ho op ar le L) (hk : k < 2) (H : vB L c) : ∃ c1, vB L c1 ∧ (∀ j, 121 < j → c1 j = c j) ∧
    (∀ {fS pR xS xD xN xC xL xB xK : Int32} {be dr ho xk xc xl xb xs xa : Nat → Int32} {w : Nat → Int32} {h n : Nat} {post : SX → Prop}, h ≤ 2160 → wX_frame_213 post n (nI (k + 1)) (nI h) fS pR xS xD xN xC xL xB xK (zput w h c1) be dr ho op ar le xk xc xl xb xs xa → wX_frame_213 post (n + 1) (nI k) (nI h) fS pR xS xD xN xC xL xB xK (zput w h c) be dr ho op ar le xk xc xl xb xs xa) ∧
    (∀ {fS pR yL yF yK yC yS : Int32} {dr ho yk yl yf yr fd pl di sh sc aw nx aO bO bu tu ow : Nat → Int32} {n : Nat} {post : SY → Prop}, rB c yS fd pl di sh sc aw nx aO bO → (∀ {yS1 : Int32} {fd1 pl1 di1 sh1 sc1 aw1 nx1 aO1 bO1 : Nat → Int32}, rB c1 yS1 fd1 pl1 di1 sh1 sc1 aw1 nx1 aO1 bO1 → wY_frame1_88 post n (nI (k + 1)) fS pR yL yF yK yC yS1 dr ho op ar le yk yl yf yr fd1 pl1 di1 sh1 sc1 aw1 nx1 aO1 bO1 bu tu ow) → wY_frame1_88 post (n + 1) (nI k) fS pR yL yF yK yC yS dr ho op ar le yk yl yf yr fd pl di sh sc aw nx aO bO bu tu ow) := by
  have i2 : vp_in (nI k) 2 := vp_in_nI hk (by decide)
  obtain ⟨el, hl⟩ := C.2.1 k hk
  have g2 : ¬ (2 : Int32) ≤ nI k := nI_ge (b := 2) hk (by decide)
  by_cases hL : 0 < L k
  · obtain ⟨c1, V1, E1, X1, Y1⟩ := drive_ex C hk hL 6 0 c rfl H
    refine ⟨c1, V1, E1, ?_, ?_⟩
    · intro fS pR xS xD xN xC xL xB xK be dr ho xk xc xl xb xs xa w h n post hh hp
      refine br_f g2 ⟨i2, ?_⟩
      rw [ye k rfl (by omega) el]
      refine br_f (nI_nle hL (by omega)) ?_
      unfold wpX_turn
      exact nm_r (ad_d h k) ⟨7, X1 hh (nm_r (nI_1 k) hp)⟩
    · intro fS pR yL yF yK yC yS dr ho yk yl yf yr fd pl di sh sc aw nx aO bO bu tu ow n post HR hp
      refine br_f g2 ⟨i2, ?_⟩
      rw [ye k rfl (by omega) el]
      refine br_f (nI_nle hL (by omega)) ?_
      exact ⟨7, Y1 HR (fun HB => nm_r (nI_1 k) (hp HB))⟩
  · have l0 : nI (L k) ≤ 0 := by
      rw [show L k = 0 by omega]
      decide
    refine ⟨c, H, fun j _ => rfl, ?_, ?_⟩
    · intro fS pR xS xD xN xC xL xB xK be dr ho xk xc xl xb xs xa w h n post hh hp
      refine br_f g2 ⟨i2, ?_⟩
      rw [ye k rfl (by omega) el]
      exact br_t l0 (nm_r (nI_1 k) hp)
    · intro fS pR yL yF yK yC yS dr ho yk yl yf yr fd pl di sh sc aw nx aO bO bu tu ow n post HR hp
      refine br_f g2 ⟨i2, ?_⟩
      rw [ye k rfl (by omega) el]
      exact br_t l0 (nm_r (nI_1 k) (hp HR))
theorem us16 (v : Int32) : (v.toUInt32 >>> ((16 : Int32).toUInt32 &&& Int32.toUInt32 31)).toInt32 = nI (v.toBitVec.toNat / 65536) := by
  apply Int32.toBitVec_inj.mp
  apply BitVec.eq_of_toNat_eq
  have hv := v.toBitVec.isLt
  rw [pk_ushr v 16 16 (by decide), pk_tn (by omega)]
/-- a thing may appear -/
theorem chance_ex {L : Nat → Nat} {c : Nat → Int32} (H : vB L c) : ∃ c1, vB L c1 ∧ (∀ j, 121 < j → c1 j = c j) ∧
    (∀ {fS pR xS xD xN xC xL xB xK : Int32} {be dr ho op ar le xk xc xl xb xs xa : Nat → Int32} {w : Nat → Int32} {h n : Nat} {post : SX → Prop}, h ≤ 2160 → post (nI h, fS, pR, xS, xD, xN, xC, xL, xB, xK, zput w h c1, be, dr, ho, op, ar, le, xk, xc, xl, xb, xs, xa) → wX_frame_213 post (n + 1) (nI 2) (nI h) fS pR xS xD xN xC xL xB xK (zput w h c) be dr ho op ar le xk xc xl xb xs xa) ∧
    (∀ {fS pR yL yF yK yC yS : Int32} {dr ho op ar le yk yl yf yr fd pl di sh sc aw nx aO bO bu tu ow : Nat → Int32} {n : Nat} {post : SY → Prop}, rB c yS fd pl di sh sc aw nx aO bO → (∀ {yS1 : Int32} {fd1 pl1 di1 sh1 sc1 aw1 nx1 aO1 bO1 : Nat → Int32}, rB c1 yS1 fd1 pl1 di1 sh1 sc1 aw1 nx1 aO1 bO1 → post (fS, pR, yL, yF, yK, yC, yS1, dr, ho, op, ar, le, yk, yl, yf, yr, fd1, pl1, di1, sh1, sc1, aw1, nx1, aO1, bO1, bu, tu, ow)) → wY_frame1_88 post (n + 1) (nI 2) fS pR yL yF yK yC yS dr ho op ar le yk yl yf yr fd pl di sh sc aw nx aO bO bu tu ow) := by
  obtain ⟨sd, esd⟩ : ∃ sd, sd = c 121 * 1103515245 + 12345 := ⟨_, rfl⟩
  obtain ⟨R, eR⟩ : ∃ R, R = sd.toBitVec.toNat / 65536 := ⟨_, rfl⟩
  have hR : R < 65536 := by
    have := sd.toBitVec.isLt
    omega
  have eus := us16 sd
  rw [← eR] at eus
  have n4 : ¬ (4 : Int32) = 0 := by decide
  have n96 : ¬ (96 : Int32) = 0 := by decide
  have n512 : ¬ (512 : Int32) = 0 := by decide
  have n2 : ¬ (2 : Int32) = 0 := by decide
  have e4 : nI R / 4 = nI (R / 4) := pk_div (d := 4) (by omega) (by decide) (by decide)
  have e96 : nI R / 4 - nI R / 4 / 96 * 96 = nI (R / 4 % 96) := by
    rw [e4]
    exact pk_rem (d := 96) (by omega) (by decide) (by decide)
  have ea3 : nI R &&& 3 = nI (R % 4) := pk_andN (by omega) 2 (by decide)
  have er4 : nI R - nI R / 4 * 4 = nI (R % 4) := pk_rem (d := 4) (by omega) (by decide) (by decide)
  have ea9 : (nI R >>> ((9 : Int32) &&& 31)) &&& 1 = nI (R / 512 % 2) := by
    rw [pk_shrN (by omega) _ 9 (by decide), show (2 : Nat) ^ 9 = 512 from rfl]
    exact pk_andN (by omega) 1 (by decide)
  have er9 : nI R / 512 - nI R / 512 / 2 * 2 = nI (R / 512 % 2) := by
    have e5 : nI R / 512 = nI (R / 512) := pk_div (d := 512) (by omega) (by decide) (by decide)
    rw [e5]
    exact pk_rem (d := 2) (by omega) (by decide) (by decide)
  obtain ⟨q, eq⟩ : ∃ q, q = R / 4 % 96 := ⟨_, rfl⟩
  have hq : q < 96 := by omega
  rw [← eq] at e96
  have V0 : vB L (upd c 121 sd) := vB_fr H (by unfold vfree; omega)
  have inX : ∀ {fS pR xS xD xN xC xL xB xK : Int32} {be dr ho op ar le xk xc xl xb xs xa : Nat → Int32} {w : Nat → Int32} {h n : Nat} {post : SX → Prop}, h ≤ 2160 → ((nI (R % 4) = 0 → ((upd c 121 sd q = 0 → ((st5 (upd c 121 sd) (nI q) < 0 → ((nI (R / 512 % 2) = 0 → post (nI h, fS, pR, xS, xD, xN, xC, xL, xB, xK, zput w h (upd (upd c 121 sd) q 3), be, dr, ho, op, ar, le, xk, xc, xl, xb, xs, xa)) ∧ (¬ nI (R / 512 % 2) = 0 → post (nI h, fS, pR, xS, xD, xN, xC, xL, xB, xK, zput w h (upd (upd c 121 sd) q 4), be, dr, ho, op, ar, le, xk, xc, xl, xb, xs, xa)))) ∧ (¬ st5 (upd c 121 sd) (nI q) < 0 → post (nI h, fS, pR, xS, xD, xN, xC, xL, xB, xK, zput w h (upd c 121 sd), be, dr, ho, op, ar, le, xk, xc, xl, xb, xs, xa)))) ∧ (¬ upd c 121 sd q = 0 → post (nI h, fS, pR, xS, xD, xN, xC, xL, xB, xK, zput w h (upd c 121 sd), be, dr, ho, op, ar, le, xk, xc, xl, xb, xs, xa)))) ∧ (¬ nI (R % 4) = 0 → post (nI h, fS, pR, xS, xD, xN, xC, xL, xB, xK, zput w h (upd c 121 sd), be, dr, ho, op, ar, le, xk, xc, xl, xb, xs, xa))) → wX_frame_213 post (n + 1) (nI 2) (nI h) fS pR xS xD xN xC xL xB xK (zput w h c) be dr ho op ar le xk xc xl xb xs xa := by
    intro fS pR xS xD xN xC xL xB xK be dr ho op ar le xk xc xl xb xs xa w h n post hh hp
    refine br_t (by decide) ?_
    unfold wpX_chance
    refine X_nextSeed hh ?_
    rw [← esd]
    refine nm_r eus ⟨n4, n96, nm_r e96 ?_⟩
    rw [ea3, ea9]
    refine ⟨fun z => ⟨xv q (nI_add h q) (by omega) hh, ?_⟩, hp.2⟩
    rw [xe q (nI_add h q) (by omega) hh]
    refine ⟨fun z2 => X_standing hh ⟨fun z3 => ⟨fun z4 => xw q (nI_add h q) (by omega) hh ((((hp.1 z).1 z2).1 z3).1 z4), fun z4 => xw q (nI_add h q) (by omega) hh ((((hp.1 z).1 z2).1 z3).2 z4)⟩, ((hp.1 z).1 z2).2⟩, (hp.1 z).2⟩
  have inY : ∀ {fS pR yL yF yK yC yS : Int32} {dr ho op ar le yk yl yf yr fd pl di sh sc aw nx aO bO bu tu ow : Nat → Int32} {n : Nat} {post : SY → Prop}, rB c yS fd pl di sh sc aw nx aO bO → ((nI (R % 4) = 0 → ((upd c 121 sd q = 0 → ((st5 (upd c 121 sd) (nI q) < 0 → ((nI (R / 512 % 2) = 0 → post (fS, pR, yL, yF, yK, yC, sd, dr, ho, op, ar, le, yk, yl, yf, yr, upd fd q 3, pl, di, sh, sc, aw, nx, aO, bO, bu, tu, ow)) ∧ (¬ nI (R / 512 % 2) = 0 → post (fS, pR, yL, yF, yK, yC, sd, dr, ho, op, ar, le, yk, yl, yf, yr, upd fd q 4, pl, di, sh, sc, aw, nx, aO, bO, bu, tu, ow)))) ∧ (¬ st5 (upd c 121 sd) (nI q) < 0 → post (fS, pR, yL, yF, yK, yC, sd, dr, ho, op, ar, le, yk, yl, yf, yr, fd, pl, di, sh, sc, aw, nx, aO, bO, bu, tu, ow)))) ∧ (¬ upd c 121 sd q = 0 → post (fS, pR, yL, yF, yK, yC, sd, dr, ho, op, ar, le, yk, yl, yf, yr, fd, pl, di, sh, sc, aw, nx, aO, bO, bu, tu, ow)))) ∧ (¬ nI (R % 4) = 0 → post (fS, pR, yL, yF, yK, yC, sd, dr, ho, op, ar, le, yk, yl, yf, yr, fd, pl, di, sh, sc, aw, nx, aO, bO, bu, tu, ow))) → wY_frame1_88 post (n + 1) (nI 2) fS pR yL yF yK yC yS dr ho op ar le yk yl yf yr fd pl di sh sc aw nx aO bO bu tu ow := by
    intro fS pR yL yF yK yC yS dr ho op ar le yk yl yf yr fd pl di sh sc aw nx aO bO bu tu ow n post HR hp
    have HR0 := rB_yS (v := sd) HR
    refine br_t (by decide) ?_
    rw [rB_rS HR, ← esd]
    refine nm_e (nm_r eus ⟨n4, n96, nm_r e96 ⟨n4, ?_⟩⟩)
    rw [er4, er9]
    refine ⟨fun z => ⟨vp_in_nI hq (by decide), ?_⟩, hp.2⟩
    rw [ye q rfl (by omega) (rB_rfd HR0 hq)]
    refine ⟨fun z2 => Y_who (rB_P HR0) ⟨fun z3 => ((hp.1 z).1 z2).2 (Int32.not_lt.mpr z3), fun z3 => ⟨n512, n2, fun z4 => yw q rfl hq (by decide) ((((hp.1 z).1 z2).1 (Int32.not_le.mp z3)).1 z4), fun z4 => yw q rfl hq (by decide) ((((hp.1 z).1 z2).1 (Int32.not_le.mp z3)).2 z4)⟩⟩, (hp.1 z).2⟩
  by_cases z1 : nI (R % 4) = 0
  · by_cases z2 : upd c 121 sd q = 0
    · by_cases z3 : st5 (upd c 121 sd) (nI q) < 0
      · by_cases z4 : nI (R / 512 % 2) = 0
        · refine ⟨_, vB_fr (i := q) (v := 3) V0 (by unfold vfree; omega), fun j hj => by rw [pk_un (by omega), pk_un (by omega)], ?_, ?_⟩
          · intro fS pR xS xD xN xC xL xB xK be dr ho op ar le xk xc xl xb xs xa w h n post hh hp
            exact inX hh (br_t z1 (br_t z2 (br_t z3 (br_t z4 hp))))
          · intro fS pR yL yF yK yC yS dr ho op ar le yk yl yf yr fd pl di sh sc aw nx aO bO bu tu ow n post HR hp
            exact inY HR (br_t z1 (br_t z2 (br_t z3 (br_t z4 (hp (rB_fd (rB_yS HR) hq))))))
        · refine ⟨_, vB_fr (i := q) (v := 4) V0 (by unfold vfree; omega), fun j hj => by rw [pk_un (by omega), pk_un (by omega)], ?_, ?_⟩
          · intro fS pR xS xD xN xC xL xB xK be dr ho op ar le xk xc xl xb xs xa w h n post hh hp
            exact inX hh (br_t z1 (br_t z2 (br_t z3 (br_f z4 hp))))
          · intro fS pR yL yF yK yC yS dr ho op ar le yk yl yf yr fd pl di sh sc aw nx aO bO bu tu ow n post HR hp
            exact inY HR (br_t z1 (br_t z2 (br_t z3 (br_f z4 (hp (rB_fd (rB_yS HR) hq))))))
      · refine ⟨_, V0, fun j hj => pk_un (by omega), ?_, ?_⟩
        · intro fS pR xS xD xN xC xL xB xK be dr ho op ar le xk xc xl xb xs xa w h n post hh hp
          exact inX hh (br_t z1 (br_t z2 (br_f z3 hp)))
        · intro fS pR yL yF yK yC yS dr ho op ar le yk yl yf yr fd pl di sh sc aw nx aO bO bu tu ow n post HR hp
          exact inY HR (br_t z1 (br_t z2 (br_f z3 (hp (rB_yS HR)))))
    · refine ⟨_, V0, fun j hj => pk_un (by omega), ?_, ?_⟩
      · intro fS pR xS xD xN xC xL xB xK be dr ho op ar le xk xc xl xb xs xa w h n post hh hp
        exact inX hh (br_t z1 (br_f z2 hp))
      · intro fS pR yL yF yK yC yS dr ho op ar le yk yl yf yr fd pl di sh sc aw nx aO bO bu tu ow n post HR hp
        exact inY HR (br_t z1 (br_f z2 (hp (rB_yS HR))))
  · refine ⟨_, V0, fun j hj => pk_un (by omega), ?_, ?_⟩
    · intro fS pR xS xD xN xC xL xB xK be dr ho op ar le xk xc xl xb xs xa w h n post hh hp
      exact inX hh (br_f z1 hp)
    · intro fS pR yL yF yK yC yS dr ho op ar le yk yl yf yr fd pl di sh sc aw nx aO bO bu tu ow n post HR hp
      exact inY HR (br_f z1 (hp (rB_yS HR)))
/-- what an input counts as -/
def gs (yk : Nat → Int32) (p : Nat) : Nat → Int32
  | 0 => 0
  | f + 1 => if yk (127 * p + (f + 1)) < 0 then gs yk p f else yk (127 * p + (f + 1))
theorem ad_k (p f : Nat) : 127 * nI p + nI f = nI (127 * p + f) := by
  show nI 127 * nI p + nI f = _
  rw [pk_mul, nI_add]
theorem ad_c (p f : Nat) : 128 * nI p + nI f = nI (128 * p + f) := by
  show nI 128 * nI p + nI f = _
  rw [pk_mul, nI_add]
section
variable {fS pR yL yF yK yC yS : Int32} {dr ho op ar le yk yl yf yr fd pl di sh sc aw nx aO bO bu tu ow : Nat → Int32}
theorem Y_gl {post : Int32 → Prop} {p : Nat} (hp3 : p < 3) : ∀ f, f < 127 → post (gs yk p f) → wY_guess_2 post (nI p) fS pR yL yF yK yC yS dr ho op ar le yk yl yf yr fd pl di sh sc aw nx aO bO bu tu ow (f + 1) (nI f) := by
  intro f
  induction f with
  | zero => intro _ hp; exact br_t (by decide) hp
  | succ f ih =>
    intro hf hp
    have i381 : vp_in (127 * nI p + nI (f + 1)) 381 := by rw [ad_k]; exact vp_in_nI (by omega) (by decide)
    refine br_f (nI_nle (by omega) (by omega)) ⟨i381, ?_⟩
    rw [ye (f := yk) _ (ad_k p (f + 1)) (by omega) rfl]
    rw [gs] at hp
    by_cases z : yk (127 * p + (f + 1)) < 0
    · rw [if_pos z] at hp
      exact br_t z (nm_r (pk_m1 f) (ih (by omega) hp))
    · rw [if_neg z] at hp
      exact br_f z ⟨i381, hp⟩
theorem Y_guess {post : Int32 → Prop} {p f : Nat} (hp3 : p < 3) (hf : f < 127) (hp : post (gs yk p f)) : wpY_guess post (fS, pR, yL, yF, yK, yC, yS, dr, ho, op, ar, le, yk, yl, yf, yr, fd, pl, di, sh, sc, aw, nx, aO, bO, bu, tu, ow) (nI p) (nI f) := ⟨f + 1, Y_gl hp3 f hf hp⟩
end
/-- the players' turns, from the k-th on -/
theorem acts_ex {L : Nat → Nat} {ho op ar le : Nat → Int32} {i : Nat → Nat} (C : cF ho op ar le L) (hi : ∀ p, p < 3 → i p < 16) : ∀ (e k : Nat) (c : Nat → Int32), k + e = 3 → vB L c → vL c → ∃ c1, vB L c1 ∧ vL c1 ∧
    (∀ {fS pR xS xD xN xC xL xB xK : Int32} {be dr op ar le xk xc xl xb xs xa : Nat → Int32} {w : Nat → Int32} {h f n : Nat} {post : SX → Prop}, h ≤ 2160 → f < 128 → (∀ p, p < 3 → xc (128 * p + f) = nI (i p)) → wX_frame_179 post (nI f) n (nI 3) (nI h) fS pR xS xD xN xC xL xB xK (zput w h c1) be dr ho op ar le xk xc xl xb xs xa → wX_frame_179 post (nI f) (n + e) (nI k) (nI h) fS pR xS xD xN xC xL xB xK (zput w h c) be dr ho op ar le xk xc xl xb xs xa) ∧
    (∀ {fS pR yL yF yK yC yS : Int32} {dr op ar le yk yl yf yr fd pl di sh sc aw nx aO bO bu tu ow : Nat → Int32} {f n : Nat} {post : SY → Prop}, rY c yC yS fd pl di sh sc aw nx aO bO bu tu ow → f < 127 → (∀ p, p < 3 → gs yk p f = nI (i p)) → (∀ {yC1 yS1 : Int32} {fd1 pl1 di1 sh1 sc1 aw1 nx1 aO1 bO1 bu1 tu1 ow1 : Nat → Int32}, rY c1 yC1 yS1 fd1 pl1 di1 sh1 sc1 aw1 nx1 aO1 bO1 bu1 tu1 ow1 → wY_frame1_47 post (nI f) n (nI 3) fS pR yL yF yK yC1 yS1 dr ho op ar le yk yl yf yr fd1 pl1 di1 sh1 sc1 aw1 nx1 aO1 bO1 bu1 tu1 ow1) → wY_frame1_47 post (nI f) (n + e) (nI k) fS pR yL yF yK yC yS dr ho op ar le yk yl yf yr fd pl di sh sc aw nx aO bO bu tu ow) := by
  intro e
  induction e with
  | zero =>
    intro k c hk H HL
    obtain rfl : k = 3 := by omega
    refine ⟨c, H, HL, ?_, ?_⟩
    · intro fS pR xS xD xN xC xL xB xK be dr op ar le xk xc xl xb xs xa w h f n post hh hf hc hp
      exact hp
    · intro fS pR yL yF yK yC yS dr op ar le yk yl yf yr fd pl di sh sc aw nx aO bO bu tu ow f n post HR hf hg hp
      exact hp HR
  | succ e ih =>
    intro k c hk H HL
    obtain ⟨q0, h0, eh⟩ := C.1 k (by omega)
    obtain ⟨c1, V1, L1, X1, Y1⟩ := act_ex (i := i k) H HL (by omega) (hi k (by omega)) h0 eh
    obtain ⟨c2, V2, L2, X2, Y2⟩ := ih (k + 1) c1 (by omega) V1 L1
    refine ⟨c2, V2, L2, ?_, ?_⟩
    · intro fS pR xS xD xN xC xL xB xK be dr op ar le xk xc xl xb xs xa w h f n post hh hf hc hp
      refine br_f (nI_ge (b := 3) (by omega) (by decide)) ⟨by rw [ad_c]; exact vp_in_nI (by omega) (by decide), ?_⟩
      rw [ye _ (ad_c k f) (by omega) (hc k (by omega))]
      exact X1 hh (nm_r (nI_1 k) (X2 hh hf hc hp))
    · intro fS pR yL yF yK yC yS dr op ar le yk yl yf yr fd pl di sh sc aw nx aO bO bu tu ow f n post HR hf hg hp
      refine br_f (nI_ge (b := 3) (by omega) (by decide)) ⟨vp_in_nI (by omega) (by decide), ?_⟩
      rw [ye k rfl (by omega) (rB_raw HR.1 (by omega))]
      refine ⟨fun z => Y_guess (by omega) hf ?_, fun z => ?_⟩
      · rw [hg k (by omega)]
        exact (Y1 HR (fun HR1 => nm_r (nI_1 k) (Y2 HR1 hf hg hp))).1 z
      · exact (Y1 HR (fun HR1 => nm_r (nI_1 k) (Y2 HR1 hf hg hp))).2 z
/-- a frame -/
theorem frame_ex {L : Nat → Nat} {ho op ar le c : Nat → Int32} {i : Nat → Nat} (C : cF ho op ar le L) (hi : ∀ p, p < 3 → i p < 16) (H : vB L c) (HL : vL c) : ∃ c1, vB L c1 ∧ vL c1 ∧
    (∀ {fS pR xS xD xN xC xL xB xK : Int32} {be dr xk xc xl xb xs xa : Nat → Int32} {w : Nat → Int32} {h f : Nat} {post : SX → Prop}, h ≤ 2160 → f < 128 → (∀ p, p < 3 → xc (128 * p + f) = nI (i p)) → post (nI h, fS, pR, xS, xD, xN, xC, xL, xB, xK, zput w h c1, be, dr, ho, op, ar, le, xk, xc, xl, xb, xs, xa) → wpX_frame post (nI h, fS, pR, xS, xD, xN, xC, xL, xB, xK, zput w h c, be, dr, ho, op, ar, le, xk, xc, xl, xb, xs, xa) (nI f)) ∧
    (∀ {fS pR yL yF yK yC yS : Int32} {dr yk yl yf yr fd pl di sh sc aw nx aO bO bu tu ow : Nat → Int32} {f : Nat} {post : SY → Prop}, rY c yC yS fd pl di sh sc aw nx aO bO bu tu ow → f < 127 → (∀ p, p < 3 → gs yk p f = nI (i p)) → (∀ {yC1 yS1 : Int32} {fd1 pl1 di1 sh1 sc1 aw1 nx1 aO1 bO1 bu1 tu1 ow1 : Nat → Int32}, rY c1 yC1 yS1 fd1 pl1 di1 sh1 sc1 aw1 nx1 aO1 bO1 bu1 tu1 ow1 → post (fS, pR, yL, yF, yK, yC1, yS1, dr, ho, op, ar, le, yk, yl, yf, yr, fd1, pl1, di1, sh1, sc1, aw1, nx1, aO1, bO1, bu1, tu1, ow1)) → wpY_frame1 post (fS, pR, yL, yF, yK, yC, yS, dr, ho, op, ar, le, yk, yl, yf, yr, fd, pl, di, sh, sc, aw, nx, aO, bO, bu, tu, ow) (nI f)) := by
  obtain ⟨n, hn, e140, W⟩ := HL
  obtain ⟨c1, m, hm, V1, W1, X1, Y1⟩ := bul_ex hn n 0 0 c (by omega) (by omega) H (fun j hj => absurd hj (by omega)) (fun j _ hj => W j hj)
  have E2 : ∀ j, j < 122 + 3 * m → upd (zr c1 (3 * m) (3 * n)) 140 (nI m) j = c1 j := fun j hj => by rw [pk_un (by omega), zr_n (by omega)]
  have V2 : vB L (upd (zr c1 (3 * m) (3 * n)) 140 (nI m)) := vB_up V1 (fun j hj => E2 j (by omega))
  have L2 : vL (upd (zr c1 (3 * m) (3 * n)) 140 (nI m)) := ⟨m, by omega, pk_us, fun j hj => vW_cg (W1 j hj) (E2 _ (by omega)) (E2 _ (by omega)) (E2 _ (by omega))⟩
  obtain ⟨c3, V3, L3, X3, Y3⟩ := acts_ex C hi 3 0 _ rfl V2 L2
  obtain ⟨c4, V4, E4, X4, Y4⟩ := turn_ex (k := 0) C (by decide) V3
  obtain ⟨c5, V5, E5, X5, Y5⟩ := turn_ex (k := 1) C (by decide) V4
  obtain ⟨c6, V6, E6, X6, Y6⟩ := chance_ex V5
  have E : ∀ j, 121 < j → c6 j = c3 j := fun j hj => (E6 j hj).trans ((E5 j hj).trans (E4 j hj))
  refine ⟨c6, V6, vL_cg L3 (fun j hj _ => E j hj), ?_, ?_⟩
  · intro fS pR xS xD xN xC xL xB xK be dr xk xc xl xb xs xa w h f post hh hf hc hp
    unfold wpX_frame
    refine xr _ (ad_140 h) (by omega) hh ⟨1 + n, ?_⟩
    rw [e140]
    refine X1 hh (br_t (nI_le (by omega) (by omega)) (nm_r (pk_mul 3 m) ⟨3 * n - 3 * m + 1, X_zero hn hh _ _ _ (by omega) ⟨1 + 3, X3 hh hf hc (br_t (by decide) ⟨3, ?_⟩)⟩⟩))
    exact X4 hh (X5 hh (X6 hh hp))
  · intro fS pR yL yF yK yC yS dr yk yl yf yr fd pl di sh sc aw nx aO bO bu tu ow f post HR hf hg hp
    obtain ⟨HB, HC, HW⟩ := HR
    rw [e140] at HC HW
    rw [nI_clamp (by omega)] at HW
    subst HC
    refine ⟨1 + n, Y1 HB (fun j hj => absurd hj (by omega)) (fun j _ hj => HW j hj) (fun HB1 HW1 => br_t (nI_le (by omega) (by omega)) ⟨1 + 3, Y3 ⟨rB_cg HB1 (fun j hj => E2 j (by omega)), pk_us, fun j hj => ?_⟩ hf hg (fun HR3 => br_t (by decide) ⟨3, ?_⟩)⟩)⟩
    · rw [pk_us, nI_clamp (by omega)] at hj
      exact rW_cg (HW1 j hj) (E2 _ (by omega)) (E2 _ (by omega)) (E2 _ (by omega))
    · exact Y4 HR3.1 (fun HB4 => Y5 HB4 (fun HB5 => Y6 HB5 (fun HB6 => hp (rY_lo HR3 E HB6))))
end
section
/-! frame 0 -/
def hN (ho : Nat → Int32) (k : Nat) : Nat := (ho k).toNatClampNeg
def pf (dr c : Nat → Int32) (k : Nat) : Nat → Int32 := fun j => if j < k then dr j else c j
def s28 (ho c : Nat → Int32) (k : Nat) : Nat → Int32 := upd (upd (upd (upd c (hN ho k) 0) (96 + 5 * k) (ho k)) (97 + 5 * k) 2) (98 + 5 * k) 2
def s90 (ho le c : Nat → Int32) (k : Nat) : Nat → Int32 := if le k ≤ 0 then upd (upd c (111 + 5 * k) (-1)) (112 + 5 * k) 2 else upd (upd (upd c (111 + 5 * k) (ho (3 + k))) (112 + 5 * k) 2) (hN ho (3 + k)) 0
def cP (dr ho le : Nat → Int32) (fS : Int32) (c : Nat → Int32) : Nat → Int32 := upd (s90 ho le (s90 ho le (s28 ho (s28 ho (s28 ho (pf dr c 96) 0) 1) 2) 0) 1) 121 fS
def cI (dr ho le : Nat → Int32) (fS : Int32) : Nat → Int32 := cP dr ho le fS (fun _ => 0)
theorem pf_s (dr c : Nat → Int32) (k : Nat) : upd (pf dr c k) k (dr k) = pf dr c (k + 1) := by
  funext j
  unfold upd pf
  by_cases e : j = k
  · rw [if_pos e, if_pos (by omega), e]
  · rw [if_neg e]
    by_cases g : j < k
    · rw [if_pos g, if_pos (by omega)]
    · rw [if_neg g, if_neg (by omega)]
theorem pf_0 (dr c : Nat → Int32) : pf dr c 0 = c := by
  funext j
  unfold pf
  rw [if_neg (by omega)]
theorem hN_of {ho op ar le : Nat → Int32} {L : Nat → Nat} {k : Nat} (C : cF ho op ar le L) (hk : k < 5) : hN ho k < 96 ∧ ho k = nI (hN ho k) := by
  obtain ⟨q, hq, e⟩ := C.1 k hk
  unfold hN
  rw [e, nI_clamp (by omega)]
  exact ⟨hq, rfl⟩
/-- the indices above the cells that frame 0 leaves alone -/
def wfr (j : Nat) : Prop := (∀ k, k < 3 → j ≠ 96 + 5 * k ∧ j ≠ 97 + 5 * k ∧ j ≠ 98 + 5 * k) ∧ (∀ k, k < 2 → j ≠ 111 + 5 * k ∧ j ≠ 112 + 5 * k) ∧ j ≠ 121
theorem s28_cg {ho f g : Nat → Int32} {k : Nat} {S : Nat → Prop} (h : ∀ j, S j → (j ≠ 96 + 5 * k ∧ j ≠ 97 + 5 * k ∧ j ≠ 98 + 5 * k) → f j = g j) : ∀ j, S j → s28 ho f k j = s28 ho g k j := by
  intro j hj
  unfold s28
  by_cases e3 : j = 98 + 5 * k
  · subst e3; rw [pk_us, pk_us]
  · by_cases e2 : j = 97 + 5 * k
    · subst e2; rw [pk_un e3, pk_un e3, pk_us, pk_us]
    · by_cases e1 : j = 96 + 5 * k
      · subst e1; rw [pk_un e3, pk_un e3, pk_un e2, pk_un e2, pk_us, pk_us]
      · rw [pk_un e3, pk_un e3, pk_un e2, pk_un e2, pk_un e1, pk_un e1]
        by_cases e0 : j = hN ho k
        · subst e0; rw [pk_us, pk_us]
        · rw [pk_un e0, pk_un e0]; exact h j hj ⟨e1, e2, e3⟩
theorem s90_cg {ho le f g : Nat → Int32} {k : Nat} {S : Nat → Prop} (h : ∀ j, S j → (j ≠ 111 + 5 * k ∧ j ≠ 112 + 5 * k) → f j = g j) : ∀ j, S j → s90 ho le f k j = s90 ho le g k j := by
  intro j hj
  unfold s90
  split
  · by_cases e2 : j = 112 + 5 * k
    · subst e2; rw [pk_us, pk_us]
    · by_cases e1 : j = 111 + 5 * k
      · subst e1; rw [pk_un e2, pk_un e2, pk_us, pk_us]
      · rw [pk_un e2, pk_un e2, pk_un e1, pk_un e1]; exact h j hj ⟨e1, e2⟩
  · by_cases e3 : j = hN ho (3 + k)
    · subst e3; rw [pk_us, pk_us]
    · by_cases e2 : j = 112 + 5 * k
      · subst e2; rw [pk_un e3, pk_un e3, pk_us, pk_us]
      · by_cases e1 : j = 111 + 5 * k
        · subst e1; rw [pk_un e3, pk_un e3, pk_un e2, pk_un e2, pk_us, pk_us]
        · rw [pk_un e3, pk_un e3, pk_un e2, pk_un e2, pk_un e1, pk_un e1]; exact h j hj ⟨e1, e2⟩
theorem cP_cI {dr ho le c : Nat → Int32} {fS : Int32} (hz : ∀ j, 96 ≤ j → wfr j → c j = 0) : cP dr ho le fS c = cI dr ho le fS := by
  funext j
  unfold cI cP
  by_cases e : j = 121
  · subst e; rw [pk_us, pk_us]
  · rw [pk_un e, pk_un e]
    refine s90_cg (S := fun j => j ≠ 121) (fun j h1 h2 => ?_) j e
    refine s90_cg (S := fun j => j ≠ 121 ∧ (j ≠ 111 + 5 * 1 ∧ j ≠ 112 + 5 * 1)) (fun j h1 h2 => ?_) j ⟨h1, h2⟩
    refine s28_cg (S := fun j => (j ≠ 121 ∧ (j ≠ 111 + 5 * 1 ∧ j ≠ 112 + 5 * 1)) ∧ (j ≠ 111 + 5 * 0 ∧ j ≠ 112 + 5 * 0)) (fun j h1 h2 => ?_) j ⟨h1, h2⟩
    refine s28_cg (S := fun j => ((j ≠ 121 ∧ (j ≠ 111 + 5 * 1 ∧ j ≠ 112 + 5 * 1)) ∧ (j ≠ 111 + 5 * 0 ∧ j ≠ 112 + 5 * 0)) ∧ (j ≠ 96 + 5 * 2 ∧ j ≠ 97 + 5 * 2 ∧ j ≠ 98 + 5 * 2)) (fun j h1 h2 => ?_) j ⟨h1, h2⟩
    refine s28_cg (S := fun j => (((j ≠ 121 ∧ (j ≠ 111 + 5 * 1 ∧ j ≠ 112 + 5 * 1)) ∧ (j ≠ 111 + 5 * 0 ∧ j ≠ 112 + 5 * 0)) ∧ (j ≠ 96 + 5 * 2 ∧ j ≠ 97 + 5 * 2 ∧ j ≠ 98 + 5 * 2)) ∧ (j ≠ 96 + 5 * 1 ∧ j ≠ 97 + 5 * 1 ∧ j ≠ 98 + 5 * 1)) (fun j h1 h2 => ?_) j ⟨h1, h2⟩
    unfold pf
    by_cases g : j < 96
    · rw [if_pos g, if_pos g]
    · rw [if_neg g, if_neg g]
      refine hz j (by omega) ⟨fun k hk => ?_, fun k hk => ?_, h1.1.1.1.1⟩
      · have : k = 0 ∨ k = 1 ∨ k = 2 := by omega
        rcases this with rfl | rfl | rfl
        · exact h2
        · exact h1.2
        · exact h1.1.2
      · have : k = 0 ∨ k = 1 := by omega
        rcases this with rfl | rfl
        · exact h1.1.1.2
        · exact h1.1.1.1.2
section
variable {dr ho op ar le : Nat → Int32} {fS : Int32} {L : Nat → Nat}
theorem s28_hi {c : Nat → Int32} {j k : Nat} (C : cF ho op ar le L) (hk : k < 3) (hj : 96 ≤ j) : s28 ho c k j = if j = 98 + 5 * k then 2 else if j = 97 + 5 * k then 2 else if j = 96 + 5 * k then ho k else c j := by
  have h := (hN_of C (k := k) (by omega)).1
  unfold s28 upd
  rw [if_neg (show ¬ j = hN ho k by omega)]
theorem s28_lo {c : Nat → Int32} {j k : Nat} (hj : j < 96) : s28 ho c k j = upd c (hN ho k) 0 j := by
  unfold s28
  rw [pk_un (by omega), pk_un (by omega), pk_un (by omega)]
theorem s90_hi {c : Nat → Int32} {j k : Nat} (C : cF ho op ar le L) (hk : k < 2) (hj : 96 ≤ j) : s90 ho le c k j = if j = 112 + 5 * k then 2 else if j = 111 + 5 * k then (if le k ≤ 0 then -1 else ho (3 + k)) else c j := by
  have h := (hN_of C (k := 3 + k) (by omega)).1
  unfold s90 upd
  by_cases g : le k ≤ 0
  · simp only [if_pos g]
  · simp only [if_neg g]
    rw [if_neg (show ¬ j = hN ho (3 + k) by omega)]
theorem s90_lo {c : Nat → Int32} {j k : Nat} (hj : j < 96) : s90 ho le c k j = if le k ≤ 0 then c j else upd c (hN ho (3 + k)) 0 j := by
  unfold s90
  by_cases g : le k ≤ 0
  · rw [if_pos g, if_pos g, pk_un (by omega), pk_un (by omega)]
  · rw [if_neg g, if_neg g]
    unfold upd
    by_cases e : j = hN ho (3 + k)
    · rw [if_pos e, if_pos e]
    · rw [if_neg e, if_neg e, if_neg (by omega), if_neg (by omega)]
theorem cI_hi {j : Nat} (C : cF ho op ar le L) (hj : 96 ≤ j) : cI dr ho le fS j = if j = 121 then fS else if j = 112 + 5 * 1 then 2 else if j = 111 + 5 * 1 then (if le 1 ≤ 0 then -1 else ho (3 + 1)) else if j = 112 + 5 * 0 then 2 else if j = 111 + 5 * 0 then (if le 0 ≤ 0 then -1 else ho (3 + 0)) else if j = 98 + 5 * 2 then 2 else if j = 97 + 5 * 2 then 2 else if j = 96 + 5 * 2 then ho 2 else if j = 98 + 5 * 1 then 2 else if j = 97 + 5 * 1 then 2 else if j = 96 + 5 * 1 then ho 1 else if j = 98 + 5 * 0 then 2 else if j = 97 + 5 * 0 then 2 else if j = 96 + 5 * 0 then ho 0 else 0 := by
  have ep : pf dr (fun _ => 0) 96 j = 0 := by
    unfold pf
    rw [if_neg (by omega)]
  show (if j = 121 then fS else s90 ho le (s90 ho le (s28 ho (s28 ho (s28 ho (pf dr (fun _ => 0) 96) 0) 1) 2) 0) 1 j) = _
  rw [s90_hi C (by decide) hj, s90_hi C (by decide) hj, s28_hi C (by decide) hj, s28_hi C (by decide) hj, s28_hi C (by decide) hj, ep]
theorem cI_z {j : Nat} (C : cF ho op ar le L) (hj : 96 ≤ j) (w : wfr j) : cI dr ho le fS j = 0 := by
  obtain ⟨h1, h2, h3⟩ := w
  have a0 := h1 0 (by decide)
  have a1 := h1 1 (by decide)
  have a2 := h1 2 (by decide)
  have b0 := h2 0 (by decide)
  have b1 := h2 1 (by decide)
  rw [cI_hi C hj, if_neg h3, if_neg b1.2, if_neg b1.1, if_neg b0.2, if_neg b0.1, if_neg a2.2.2, if_neg a2.2.1, if_neg a2.1, if_neg a1.2.2, if_neg a1.2.1, if_neg a1.1, if_neg a0.2.2, if_neg a0.2.1, if_neg a0.1]
theorem cI_pl {k : Nat} (C : cF ho op ar le L) (hk : k < 3) : cI dr ho le fS (96 + 5 * k) = ho k := by
  have : k = 0 ∨ k = 1 ∨ k = 2 := by omega
  rcases this with rfl | rfl | rfl <;> exact (cI_hi C (by decide)).trans rfl
theorem cI_di {k : Nat} (C : cF ho op ar le L) (hk : k < 5) : cI dr ho le fS (97 + 5 * k) = 2 := by
  have : k = 0 ∨ k = 1 ∨ k = 2 ∨ k = 3 ∨ k = 4 := by omega
  rcases this with rfl | rfl | rfl | rfl | rfl <;> exact (cI_hi C (by decide)).trans rfl
theorem cI_sh {k : Nat} (C : cF ho op ar le L) (hk : k < 3) : cI dr ho le fS (98 + 5 * k) = 2 := by
  have : k = 0 ∨ k = 1 ∨ k = 2 := by omega
  rcases this with rfl | rfl | rfl <;> exact (cI_hi C (by decide)).trans rfl
theorem cI_dp {k : Nat} (C : cF ho op ar le L) (hk : k < 2) : cI dr ho le fS (111 + 5 * k) = if le k ≤ 0 then -1 else ho (3 + k) := by
  have : k = 0 ∨ k = 1 := by omega
  rcases this with rfl | rfl <;> exact (cI_hi C (by decide)).trans rfl
theorem wfr_lit {j : Nat} (h : j = 99 ∨ j = 100 ∨ j = 104 ∨ j = 105 ∨ j = 109 ∨ j = 110 ∨ j = 113 ∨ j = 114 ∨ j = 115 ∨ j = 118 ∨ j = 119 ∨ j = 120 ∨ 122 ≤ j) : wfr j := by
  refine ⟨fun k hk => ?_, fun k hk => ?_, ?_⟩ <;> omega
theorem cI_vB (C : cF ho op ar le L) : vB L (cI dr ho le fS) ∧ vL (cI dr ho le fS) := by
  refine ⟨⟨fun k hk => ?_, fun k hk => ⟨2, by decide, cI_di C (by omega)⟩, fun k hk => ⟨2, by decide, cI_sh C hk⟩, fun k hk hL => ?_⟩, ⟨0, by decide, cI_z C (by decide) (wfr_lit (by decide)), fun j hj => absurd hj (by omega)⟩⟩
  · obtain ⟨h1, h2⟩ := hN_of C (k := k) (by omega)
    exact Or.inr ⟨_, h1, (cI_pl C hk).trans h2, cI_z C (by omega) (wfr_lit (by omega))⟩
  · obtain ⟨h1, h2⟩ := hN_of C (k := 3 + k) (by omega)
    obtain ⟨el, hl⟩ := C.2.1 k hk
    refine ⟨⟨_, h1, ?_⟩, ⟨2, by decide, ?_⟩, ⟨0, hL, cI_z C (by omega) (wfr_lit (by omega))⟩⟩
    · rw [cI_dp C hk, el, if_neg (nI_nle hL (by omega))]
      exact h2
    · exact (congrArg _ (by omega : 112 + 5 * k = 97 + 5 * (3 + k))).trans (cI_di C (by omega))
end
theorem a0 (j : Nat) : nI j = nI (0 + j) := by rw [Nat.zero_add]
section
variable {xH fS pR xS xD xN xC xL xB xK : Int32} {wo be dr ho op ar le xk xc xl xb xs xa : Nat → Int32}
theorem X_pr2 {post : SX → Prop} {w c : Nat → Int32} (hp : ∃ n, wX_prepare_28 post xH fS pR xS xD xN xC xL xB xK n 0 (zput w 0 (pf dr c 96)) be dr ho op ar le xk xc xl xb xs xa) : ∀ e k, k + e = 96 → wX_prepare_2 post xH fS pR xS xD xN xC xL xB xK (e + 1) (nI k) (zput w 0 (pf dr c k)) be dr ho op ar le xk xc xl xb xs xa := by
  intro e
  induction e with
  | zero =>
    intro k hk
    obtain rfl : k = 96 := by omega
    exact br_t (by decide) hp
  | succ e ih =>
    intro k hk
    refine br_f (nI_ge (b := 96) (by omega) (by decide)) ⟨vp_in_nI (by omega) (by decide), ?_⟩
    rw [ye (f := dr) k rfl (by omega) rfl]
    refine xw k (a0 k) (by omega) (by decide) (nm_r (nI_1 k) ?_)
    rw [pf_s]
    exact ih (k + 1) (by omega)
theorem X_pr28 {post : SX → Prop} {L : Nat → Nat} {w c : Nat → Int32} {k n : Nat} (C : cF ho op ar le L) (hk : k < 3) (hp : wX_prepare_28 post xH fS pR xS xD xN xC xL xB xK n (nI (k + 1)) (zput w 0 (s28 ho c k)) be dr ho op ar le xk xc xl xb xs xa) : wX_prepare_28 post xH fS pR xS xD xN xC xL xB xK (n + 1) (nI k) (zput w 0 c) be dr ho op ar le xk xc xl xb xs xa := by
  have i5 : vp_in (nI k) 5 := vp_in_nI (by omega) (by decide)
  obtain ⟨h1, h2⟩ := hN_of C (k := k) (by omega)
  have e1 : (96 : Int32) + 5 * nI k = nI (0 + (96 + 5 * k)) := by
    show nI 96 + nI 5 * nI k = _
    rw [pk_mul, nI_add, Nat.zero_add]
  refine br_f (nI_ge (b := 3) hk (by decide)) (nm_r e1 ⟨i5, ?_⟩)
  rw [ye k rfl (by omega) h2]
  exact xw _ (a0 _) (by omega) (by decide) ⟨i5, xw _ rfl (by omega) (by decide) (xw _ (ad_p1 0 k) (by omega) (by decide) (xw _ (ad_p2 0 k) (by omega) (by decide) (nm_r (nI_1 k) (by unfold s28 at hp; rw [h2] at hp; exact hp))))⟩
theorem X_pr90 {post : SX → Prop} {L : Nat → Nat} {w c : Nat → Int32} {k n : Nat} (C : cF ho op ar le L) (hk : k < 2) (hp : wX_prepare_90 post xH fS pR xS xD xN xC xL xB xK n (nI (k + 1)) (zput w 0 (s90 ho le c k)) be dr ho op ar le xk xc xl xb xs xa) : wX_prepare_90 post xH fS pR xS xD xN xC xL xB xK (n + 1) (nI k) (zput w 0 c) be dr ho op ar le xk xc xl xb xs xa := by
  have i2 : vp_in (nI k) 2 := vp_in_nI (by omega) (by decide)
  have i5 : vp_in (3 + nI k) 5 := by rw [ad_3]; exact vp_in_nI (by omega) (by decide)
  obtain ⟨h1, h2⟩ := hN_of C (k := 3 + k) (by omega)
  have e1 : (111 : Int32) + 5 * nI k = nI (0 + (111 + 5 * k)) := by
    show nI 111 + nI 5 * nI k = _
    rw [pk_mul, nI_add, Nat.zero_add]
  refine br_f (nI_ge (b := 2) hk (by decide)) (nm_r e1 ⟨i2, ?_⟩)
  unfold s90 at hp
  unfold wX_prepare_128
  rw [ye (f := le) k rfl (by omega) rfl]
  by_cases g : le k ≤ 0
  · rw [if_pos g] at hp
    refine br_t g (xw _ rfl (by omega) (by decide) (xw _ (ad_d1 0 k) (by omega) (by decide) ⟨i2, br_t g (nm_r (nI_1 k) hp)⟩))
  · rw [if_neg g] at hp
    refine br_f g ⟨i5, ?_⟩
    rw [ye (3 + k) (ad_3 k) (by omega) h2]
    refine xw _ rfl (by omega) (by decide) (xw _ (ad_d1 0 k) (by omega) (by decide) ⟨i2, br_f g ⟨i5, ?_⟩⟩)
    rw [← h2]
    rw [h2] at hp ⊢
    exact xw _ (a0 _) (by omega) (by decide) (nm_r (nI_1 k) hp)
theorem X_prepare {post : SX → Prop} {L : Nat → Nat} {w c : Nat → Int32} (C : cF ho op ar le L) (hz : ∀ j, 96 ≤ j → wfr j → c j = 0) (hp : post (xH, fS, pR, xS, 1, 0, xC, xL, xB, xK, zput w 0 (cI dr ho le fS), be, dr, ho, op, ar, le, xk, xc, xl, xb, xs, xa)) : wpX_prepare post (xH, fS, pR, xS, xD, xN, xC, xL, xB, xK, zput w 0 c, be, dr, ho, op, ar, le, xk, xc, xl, xb, xs, xa) := by
  have key := X_pr2 (post := post) (xH := xH) (xD := xD) (xN := xN) (fS := fS) (pR := pR) (xS := xS) (xC := xC) (xL := xL) (xB := xB) (xK := xK) (be := be) (dr := dr) (ho := ho) (op := op) (ar := ar) (le := le) (xk := xk) (xc := xc) (xl := xl) (xb := xb) (xs := xs) (xa := xa) (w := w) (c := c) ⟨4, X_pr28 (k := 0) C (by decide) (X_pr28 (k := 1) C (by decide) (X_pr28 (k := 2) C (by decide) (br_t (by decide) ⟨3, X_pr90 (k := 0) C (by decide) (X_pr90 (k := 1) C (by decide) (br_t (by decide) (nm_r (zp_wr (h := 0) (j := 121) (by decide)) (by rw [← cP_cI hz] at hp; exact hp))))⟩)))⟩ 96 0 rfl
  rw [pf_0] at key
  exact ⟨97, key⟩
end
end
section
def gF (ho le f : Nat → Int32) (k : Nat) : Nat → Int32 := if le k ≤ 0 then f else upd f (hN ho (3 + k)) 0
def dpl (ho le : Nat → Int32) (k : Nat) : Int32 := if le k ≤ 0 then -1 else ho (3 + k)
section
variable {fS pR yL yF yK yC yS : Int32} {dr ho op ar le yk yl yf yr fd pl di sh sc aw nx aO bO bu tu ow : Nat → Int32}
theorem Y_st2 {post : SY → Prop} {x1 : Int32} {f0 : Nat → Int32} (hp : ∃ n, wY_state_41 post x1 fS pR yL yF yK 0 fS n 0 dr ho op ar le yk yl yf yr (pf dr f0 96) pl di sh sc aw nx aO bO bu tu ow) : ∀ e k, k + e = 96 → wY_state_2 post x1 fS pR yL yF yK yC yS (e + 1) (nI k) dr ho op ar le yk yl yf yr (pf dr f0 k) pl di sh sc aw nx aO bO bu tu ow := by
  intro e
  induction e with
  | zero =>
    intro k hk
    obtain rfl : k = 96 := by omega
    exact br_t (by decide) hp
  | succ e ih =>
    intro k hk
    refine br_f (nI_ge (b := 96) (by omega) (by decide)) ⟨vp_in_nI (by omega) (by decide), ?_⟩
    rw [ye (f := dr) k rfl (by omega) rfl]
    refine yw k rfl (by omega) (by decide) (nm_r (nI_1 k) ?_)
    rw [pf_s]
    exact ih (k + 1) (by omega)
theorem Y_87 {post : SY → Prop} {L : Nat → Nat} {x1 : Int32} {k n : Nat} (C : cF ho op ar le L) (hk : k < 5) (hp : wY_state_41 post x1 fS pR yL yF yK yC yS n (nI (k + 1)) dr ho op ar le yk yl yf yr (upd fd (hN ho k) 0) (upd pl k (ho k)) (upd di k 2) sh sc aw nx aO bO bu tu ow) : wY_state_62 post (wY_state_41 post x1 fS pR yL yF yK yC yS n) x1 (nI k) fS pR yL yF yK yC yS dr ho op ar le yk yl yf yr fd pl di sh sc aw nx aO bO bu tu ow := by
  have i5 : vp_in (nI k) 5 := vp_in_nI hk (by decide)
  obtain ⟨h1, h2⟩ := hN_of C hk
  refine br_f (by decide) ⟨i5, ?_⟩
  unfold wY_state_87
  rw [ye k rfl (by omega) h2]
  refine yw k rfl hk (by decide) (yw k rfl hk (by decide) (br_f (by decide) ⟨i5, ?_⟩))
  rw [h2] at hp
  exact yw _ rfl h1 (by decide) (nm_r (nI_1 k) hp)
theorem Y_41a {post : SY → Prop} {L : Nat → Nat} {x1 : Int32} {k n : Nat} (C : cF ho op ar le L) (hk : k < 3) (hp : wY_state_41 post x1 fS pR yL yF yK yC yS n (nI (k + 1)) dr ho op ar le yk yl yf yr (upd fd (hN ho k) 0) (upd pl k (ho k)) (upd di k 2) sh sc aw nx aO bO bu tu ow) : wY_state_41 post x1 fS pR yL yF yK yC yS (n + 1) (nI k) dr ho op ar le yk yl yf yr fd pl di sh sc aw nx aO bO bu tu ow :=
  br_f (nI_ge (b := 5) (by omega) (by decide)) (br_t (nI_lt (b := 3) hk (by decide)) (Y_87 C (by omega) hp))
theorem Y_41b {post : SY → Prop} {L : Nat → Nat} {x1 : Int32} {k n : Nat} (C : cF ho op ar le L) (hk : k < 2) (hp : wY_state_41 post x1 fS pR yL yF yK yC yS n (nI (3 + k + 1)) dr ho op ar le yk yl yf yr (gF ho le fd k) (upd pl (3 + k) (dpl ho le k)) (upd di (3 + k) 2) sh sc aw nx aO bO bu tu ow) : wY_state_41 post x1 fS pR yL yF yK yC yS (n + 1) (nI (3 + k)) dr ho op ar le yk yl yf yr fd pl di sh sc aw nx aO bO bu tu ow := by
  have i2 : vp_in (nI (3 + k) - 3) 2 := by rw [ad_s]; exact vp_in_nI hk (by decide)
  refine br_f (nI_ge (b := 5) (by omega) (by decide)) (br_f (nI_nlt (b := 3) (by omega) (by omega)) ⟨i2, ?_⟩)
  rw [ye (f := le) k (ad_s k) (by omega) rfl]
  unfold gF dpl at hp
  by_cases g : le k ≤ 0
  · rw [if_pos g, if_pos g] at hp
    refine br_t g (br_t rfl ?_)
    exact yw (3 + k) rfl (by omega) (by decide) (yw (3 + k) rfl (by omega) (by decide) (br_t rfl (nm_r (nI_1 (3 + k)) hp)))
  · rw [if_neg g, if_neg g] at hp
    exact br_f g (Y_87 C (by omega) hp)
theorem Y_119 {post : SY → Prop} {x1 : Int32} {k n : Nat} (hk : k < 3) (hp : wY_state_119 post x1 fS pR yL yF yK yC yS n (nI (k + 1)) dr ho op ar le yk yl yf yr fd pl di (upd sh k 2) (upd sc k 0) (upd aw k 0) nx aO bO bu tu ow) : wY_state_119 post x1 fS pR yL yF yK yC yS (n + 1) (nI k) dr ho op ar le yk yl yf yr fd pl di sh sc aw nx aO bO bu tu ow :=
  br_f (nI_ge (b := 3) (by omega) (by decide)) (yw k rfl hk (by decide) (yw k rfl hk (by decide) (yw k rfl hk (by decide) (nm_r (nI_1 k) hp))))
theorem Y_153 {post : SY → Prop} {x1 : Int32} {k n : Nat} (hk : k < 2) (hp : wY_state_153 post x1 fS pR yL yF yK yC yS n (nI (k + 1)) dr ho op ar le yk yl yf yr fd pl di sh sc aw (upd nx k 0) (upd aO k 0) (upd bO k 0) bu tu ow) : wY_state_153 post x1 fS pR yL yF yK yC yS (n + 1) (nI k) dr ho op ar le yk yl yf yr fd pl di sh sc aw nx aO bO bu tu ow :=
  br_f (nI_ge (b := 2) (by omega) (by decide)) (yw k rfl hk (by decide) (yw k rfl hk (by decide) (yw k rfl hk (by decide) (nm_r (nI_1 k) hp))))
theorem Y_init0 {post : SY → Prop} {L : Nat → Nat} {x1 : Int32} (C : cF ho op ar le L) (hp : ∀ {yC1 yS1 : Int32} {fd1 pl1 di1 sh1 sc1 aw1 nx1 aO1 bO1 bu1 tu1 ow1 : Nat → Int32}, rY (cI dr ho le fS) yC1 yS1 fd1 pl1 di1 sh1 sc1 aw1 nx1 aO1 bO1 bu1 tu1 ow1 → ∃ n, wY_state_187 post x1 n 1 fS pR yL yF yK yC1 yS1 dr ho op ar le yk yl yf yr fd1 pl1 di1 sh1 sc1 aw1 nx1 aO1 bO1 bu1 tu1 ow1) : wpY_state post (fS, pR, yL, yF, yK, yC, yS, dr, ho, op, ar, le, yk, yl, yf, yr, fd, pl, di, sh, sc, aw, nx, aO, bO, bu, tu, ow) x1 := by
  have key : ∃ n, wY_state_187 post x1 n 1 fS pR yL yF yK 0 fS dr ho op ar le yk yl yf yr (gF ho le (gF ho le (upd (upd (upd (pf dr fd 96) (hN ho 0) 0) (hN ho 1) 0) (hN ho 2) 0) 0) 1) (upd (upd (upd (upd (upd pl 0 (ho 0)) 1 (ho 1)) 2 (ho 2)) (3 + 0) (dpl ho le 0)) (3 + 1) (dpl ho le 1)) (upd (upd (upd (upd (upd di 0 2) 1 2) 2 2) (3 + 0) 2) (3 + 1) 2) (upd (upd (upd sh 0 2) 1 2) 2 2) (upd (upd (upd sc 0 0) 1 0) 2 0) (upd (upd (upd aw 0 0) 1 0) 2 0) (upd (upd nx 0 0) 1 0) (upd (upd aO 0 0) 1 0) (upd (upd bO 0 0) 1 0) bu tu ow := by
    refine hp ⟨⟨?_, ?_, ?_, ?_, ?_, ?_, ?_, ?_, ?_, ?_⟩, ?_, ?_⟩
    · exact (cI_hi C (by decide)).trans rfl
    · intro j hj
      have e1 : cI dr ho le fS j = s90 ho le (s90 ho le (s28 ho (s28 ho (s28 ho (pf dr (fun _ => 0) 96) 0) 1) 2) 0) 1 j := pk_un (by omega)
      have ep : pf dr (fun _ => 0) 96 j = pf dr fd 96 j := by
        unfold pf
        rw [if_pos hj, if_pos hj]
      have cgu : ∀ (f g : Nat → Int32) (i : Nat), f j = g j → upd f i 0 j = upd g i 0 j := by
        intro f g i h
        unfold upd
        rw [h]
      have cgs : ∀ (f g : Nat → Int32) (k : Nat), f j = g j → s28 ho f k j = upd g (hN ho k) 0 j := fun f g k h => (s28_lo hj).trans (cgu _ _ _ h)
      have cgg : ∀ (f g : Nat → Int32) (k : Nat), f j = g j → s90 ho le f k j = gF ho le g k j := by
        intro f g k h
        rw [s90_lo hj]
        unfold gF
        by_cases z : le k ≤ 0
        · rw [if_pos z, if_pos z]; exact h
        · rw [if_neg z, if_neg z]; exact cgu _ _ _ h
      rw [e1]
      exact cgg _ _ _ (cgg _ _ _ (cgs _ _ _ (cgs _ _ _ (cgs _ _ _ ep))))
    · intro k hk
      have : k = 0 ∨ k = 1 ∨ k = 2 ∨ k = 3 ∨ k = 4 := by omega
      rcases this with rfl | rfl | rfl | rfl | rfl <;> exact (cI_hi C (by decide)).trans rfl
    · intro k hk
      have : k = 0 ∨ k = 1 ∨ k = 2 ∨ k = 3 ∨ k = 4 := by omega
      rcases this with rfl | rfl | rfl | rfl | rfl <;> exact (cI_hi C (by decide)).trans rfl
    · intro k hk
      have : k = 0 ∨ k = 1 ∨ k = 2 := by omega
      rcases this with rfl | rfl | rfl <;> exact (cI_hi C (by decide)).trans rfl
    · intro k hk
      have : k = 0 ∨ k = 1 ∨ k = 2 := by omega
      rcases this with rfl | rfl | rfl <;> exact (cI_hi C (by decide)).trans rfl
    · intro k hk
      have : k = 0 ∨ k = 1 ∨ k = 2 := by omega
      rcases this with rfl | rfl | rfl <;> exact (cI_hi C (by decide)).trans rfl
    · intro k hk
      have : k = 0 ∨ k = 1 := by omega
      rcases this with rfl | rfl <;> exact (cI_hi C (by decide)).trans rfl
    · intro k hk
      have : k = 0 ∨ k = 1 := by omega
      rcases this with rfl | rfl <;> exact (cI_hi C (by decide)).trans rfl
    · intro k hk
      have : k = 0 ∨ k = 1 := by omega
      rcases this with rfl | rfl <;> exact (cI_hi C (by decide)).trans rfl
    · exact (cI_hi C (by decide)).trans rfl
    · intro j hj
      have e : cI dr ho le fS 140 = 0 := (cI_hi C (by decide)).trans rfl
      rw [e, sb_cl0] at hj
      omega
  have k2 := Y_st2 (post := post) (x1 := x1) (fS := fS) (pR := pR) (yL := yL) (yF := yF) (yK := yK) (yC := yC) (yS := yS) (dr := dr) (ho := ho) (op := op) (ar := ar) (le := le) (yk := yk) (yl := yl) (yf := yf) (yr := yr) (pl := pl) (di := di) (sh := sh) (sc := sc) (aw := aw) (nx := nx) (aO := aO) (bO := bO) (bu := bu) (tu := tu) (ow := ow) (f0 := fd) ⟨6, Y_41a (k := 0) C (by decide) (Y_41a (k := 1) C (by decide) (Y_41a (k := 2) C (by decide) (Y_41b (k := 0) C (by decide) (Y_41b (k := 1) C (by decide) (br_t (by decide) ⟨4, Y_119 (k := 0) (by decide) (Y_119 (k := 1) (by decide) (Y_119 (k := 2) (by decide) (br_t (by decide) ⟨3, Y_153 (k := 0) (by decide) (Y_153 (k := 1) (by decide) (br_t (by decide) key))⟩)))⟩)))))⟩ 96 0 rfl
  rw [pf_0] at k2
  exact ⟨97, k2⟩
end
end
section
/-! the state of a frame -/
def lNn (le : Nat → Int32) (k : Nat) : Nat := (le k).toNatClampNeg
def cG (ho op ar le : Nat → Int32) : Prop := cF ho op ar le (lNn le)
def zt (c : Nat → Int32) : Nat → Int32 := fun j => if j < 144 then c j else 0
theorem zt_e {c : Nat → Int32} {j : Nat} (h : j < 144) : zt c j = c j := if_pos h
def FR (ho op ar le : Nat → Int32) (i : Nat → Nat) (c c1 : Nat → Int32) : Prop := vB (lNn le) c1 ∧ vL c1 ∧ (∀ j, 144 ≤ j → c1 j = 0) ∧
    (∀ {fS pR xS xD xN xC xL xB xK : Int32} {be dr xk xc xl xb xs xa : Nat → Int32} {w : Nat → Int32} {h f : Nat} {post : SX → Prop}, h ≤ 2160 → f < 128 → (∀ p, p < 3 → xc (128 * p + f) = nI (i p)) → post (nI h, fS, pR, xS, xD, xN, xC, xL, xB, xK, zput w h c1, be, dr, ho, op, ar, le, xk, xc, xl, xb, xs, xa) → wpX_frame post (nI h, fS, pR, xS, xD, xN, xC, xL, xB, xK, zput w h c, be, dr, ho, op, ar, le, xk, xc, xl, xb, xs, xa) (nI f)) ∧
    (∀ {fS pR yL yF yK yC yS : Int32} {dr yk yl yf yr fd pl di sh sc aw nx aO bO bu tu ow : Nat → Int32} {f : Nat} {post : SY → Prop}, rY c yC yS fd pl di sh sc aw nx aO bO bu tu ow → f < 127 → (∀ p, p < 3 → gs yk p f = nI (i p)) → (∀ {yC1 yS1 : Int32} {fd1 pl1 di1 sh1 sc1 aw1 nx1 aO1 bO1 bu1 tu1 ow1 : Nat → Int32}, rY c1 yC1 yS1 fd1 pl1 di1 sh1 sc1 aw1 nx1 aO1 bO1 bu1 tu1 ow1 → post (fS, pR, yL, yF, yK, yC1, yS1, dr, ho, op, ar, le, yk, yl, yf, yr, fd1, pl1, di1, sh1, sc1, aw1, nx1, aO1, bO1, bu1, tu1, ow1)) → wpY_frame1 post (fS, pR, yL, yF, yK, yC, yS, dr, ho, op, ar, le, yk, yl, yf, yr, fd, pl, di, sh, sc, aw, nx, aO, bO, bu, tu, ow) (nI f))
theorem rY_cg {c c1 : Nat → Int32} {yC yS : Int32} {fd pl di sh sc aw nx aO bO bu tu ow : Nat → Int32} (hL : vL c) (E : ∀ j, j < 144 → c1 j = c j) (H : rY c1 yC yS fd pl di sh sc aw nx aO bO bu tu ow) : rY c yC yS fd pl di sh sc aw nx aO bO bu tu ow := by
  obtain ⟨n, hn, en, hW⟩ := hL
  obtain ⟨h1, h2, h3⟩ := H
  refine ⟨rB_cg h1 (fun j hj => (E j (by omega)).symm), (E 140 (by omega)).symm.trans h2, fun j hj => ?_⟩
  have hj2 := hj
  rw [en, nI_clamp (by omega)] at hj2
  rw [← E 140 (by omega)] at hj
  exact rW_cg (h3 j hj) (E _ (by omega)).symm (E _ (by omega)).symm (E _ (by omega)).symm
theorem FR_ex {ho op ar le c : Nat → Int32} {i : Nat → Nat} (C : cG ho op ar le) (hi : ∀ p, p < 3 → i p < 16) (H : vB (lNn le) c) (HL : vL c) : ∃ c1, FR ho op ar le i c c1 := by
  obtain ⟨c1, V1, L1, X1, Y1⟩ := frame_ex C hi H HL
  have E : ∀ j, j < 144 → zt c1 j = c1 j := fun j hj => zt_e hj
  refine ⟨zt c1, vB_cg V1 E, vL_cg L1 (fun j _ hj => E j hj), fun j hj => if_neg (by omega), ?_, ?_⟩
  · intro fS pR xS xD xN xC xL xB xK be dr xk xc xl xb xs xa w h f post hh hf hc hp
    rw [zp_cg E] at hp
    exact X1 hh hf hc hp
  · intro fS pR yL yF yK yC yS dr yk yl yf yr fd pl di sh sc aw nx aO bO bu tu ow f post HR hf hg hp
    exact Y1 HR hf hg (fun HR1 => hp (rY_cg (vL_cg L1 (fun j _ hj => E j hj)) (fun j hj => (E j hj).symm) HR1))
noncomputable def stp (ho op ar le : Nat → Int32) (i : Nat → Nat) (c : Nat → Int32) : Nat → Int32 := Classical.epsilon (FR ho op ar le i c)
def iN (yk : Nat → Int32) (f p : Nat) : Nat := (gs yk p f).toNatClampNeg
noncomputable def St (dr ho op ar le : Nat → Int32) (fS : Int32) (yk : Nat → Int32) : Nat → Nat → Int32
  | 0 => cI dr ho le fS
  | f + 1 => stp ho op ar le (iN yk (f + 1)) (St dr ho op ar le fS yk f)
/-- the reference's inputs: unknown, or 0 .. 15 -/
def kV (yk : Nat → Int32) : Prop := ∀ p f, p < 3 → 0 < f → f < 127 → yk (127 * p + f) < 0 ∨ ∃ v, v < 16 ∧ yk (127 * p + f) = nI v
theorem gs_v {yk : Nat → Int32} {p : Nat} (K : kV yk) (hp : p < 3) : ∀ f, f < 127 → ∃ v, v < 16 ∧ gs yk p f = nI v := by
  intro f
  induction f with
  | zero => intro _; exact ⟨0, by decide, rfl⟩
  | succ f ih =>
    intro hf
    rw [gs]
    rcases K p (f + 1) hp (by omega) hf with h | ⟨v, hv, e⟩
    · rw [if_pos h]; exact ih (by omega)
    · rw [if_neg (by rw [e]; exact nI_pos (by omega))]; exact ⟨v, hv, e⟩
theorem iN_v {yk : Nat → Int32} {p f : Nat} (K : kV yk) (hp : p < 3) (hf : f < 127) : iN yk f p < 16 ∧ gs yk p f = nI (iN yk f p) := by
  obtain ⟨v, hv, e⟩ := gs_v K hp f hf
  unfold iN
  rw [e, nI_clamp (by omega)]
  exact ⟨hv, rfl⟩
section
variable {dr ho op ar le : Nat → Int32} {fS : Int32} {yk : Nat → Int32}
theorem St_ok (C : cG ho op ar le) (K : kV yk) : ∀ f, f < 127 → vB (lNn le) (St dr ho op ar le fS yk f) ∧ vL (St dr ho op ar le fS yk f) ∧ (∀ j, 144 ≤ j → St dr ho op ar le fS yk f j = 0) := by
  intro f
  induction f with
  | zero =>
    intro _
    obtain ⟨h1, h2⟩ := cI_vB (dr := dr) (fS := fS) C
    exact ⟨h1, h2, fun j hj => cI_z C (by omega) (wfr_lit (by omega))⟩
  | succ f ih =>
    intro hf
    obtain ⟨h1, h2, h3⟩ := ih (by omega)
    obtain ⟨a1, a2, a3, _⟩ := Classical.epsilon_spec (FR_ex (i := iN yk (f + 1)) C (fun p hp => (iN_v K hp hf).1) h1 h2)
    exact ⟨a1, a2, a3⟩
theorem St_FR (C : cG ho op ar le) (K : kV yk) {f : Nat} (hf : f + 1 < 127) : FR ho op ar le (iN yk (f + 1)) (St dr ho op ar le fS yk f) (St dr ho op ar le fS yk (f + 1)) := by
  obtain ⟨h1, h2, _⟩ := St_ok (dr := dr) (fS := fS) C K f (by omega)
  exact Classical.epsilon_spec (FR_ex (i := iN yk (f + 1)) C (fun p hp => (iN_v K hp hf).1) h1 h2)
end
section
variable {fS pR yL yF yK yC yS : Int32} {dr ho op ar le yk yl yf yr fd pl di sh sc aw nx aO bO bu tu ow : Nat → Int32}
theorem Y_run {post : SY → Prop} {F : Nat} (C : cG ho op ar le) (K : kV yk) (hF : F < 127) (hp : ∀ {yC1 yS1 : Int32} {fd1 pl1 di1 sh1 sc1 aw1 nx1 aO1 bO1 bu1 tu1 ow1 : Nat → Int32}, rY (St dr ho op ar le fS yk F) yC1 yS1 fd1 pl1 di1 sh1 sc1 aw1 nx1 aO1 bO1 bu1 tu1 ow1 → post (fS, pR, yL, yF, yK, yC1, yS1, dr, ho, op, ar, le, yk, yl, yf, yr, fd1, pl1, di1, sh1, sc1, aw1, nx1, aO1, bO1, bu1, tu1, ow1)) : ∀ (e f : Nat) {yC1 yS1 : Int32} {fd1 pl1 di1 sh1 sc1 aw1 nx1 aO1 bO1 bu1 tu1 ow1 : Nat → Int32}, f + e = F → rY (St dr ho op ar le fS yk f) yC1 yS1 fd1 pl1 di1 sh1 sc1 aw1 nx1 aO1 bO1 bu1 tu1 ow1 → wY_state_187 post (nI F) (e + 1) (nI (f + 1)) fS pR yL yF yK yC1 yS1 dr ho op ar le yk yl yf yr fd1 pl1 di1 sh1 sc1 aw1 nx1 aO1 bO1 bu1 tu1 ow1 := by
  intro e
  induction e with
  | zero =>
    intro f yC1 yS1 fd1 pl1 di1 sh1 sc1 aw1 nx1 aO1 bO1 bu1 tu1 ow1 hf HR
    obtain rfl : f = F := by omega
    exact br_t (nI_lt (by omega) (by omega)) (hp HR)
  | succ e ih =>
    intro f yC1 yS1 fd1 pl1 di1 sh1 sc1 aw1 nx1 aO1 bO1 bu1 tu1 ow1 hf HR
    obtain ⟨_, _, _, _, Y1⟩ := St_FR (dr := dr) (fS := fS) C K (f := f) (by omega)
    exact br_f (nI_nlt (by omega) (by omega)) (Y1 HR (by omega) (fun p hp3 => (iN_v K hp3 (by omega)).2) (fun HR1 => nm_r (nI_1 (f + 1)) (ih (f + 1) (by omega) HR1)))
theorem Y_state {post : SY → Prop} {F : Nat} (C : cG ho op ar le) (K : kV yk) (hF : F < 127) (hp : ∀ {yC1 yS1 : Int32} {fd1 pl1 di1 sh1 sc1 aw1 nx1 aO1 bO1 bu1 tu1 ow1 : Nat → Int32}, rY (St dr ho op ar le fS yk F) yC1 yS1 fd1 pl1 di1 sh1 sc1 aw1 nx1 aO1 bO1 bu1 tu1 ow1 → post (fS, pR, yL, yF, yK, yC1, yS1, dr, ho, op, ar, le, yk, yl, yf, yr, fd1, pl1, di1, sh1, sc1, aw1, nx1, aO1, bO1, bu1, tu1, ow1)) : wpY_state post (fS, pR, yL, yF, yK, yC, yS, dr, ho, op, ar, le, yk, yl, yf, yr, fd, pl, di, sh, sc, aw, nx, aO, bO, bu, tu, ow) (nI F) :=
  Y_init0 C (fun HR => ⟨F + 1, Y_run C K hF hp F 0 (by omega) HR⟩)
end
end
section
/-! the ring -/
def slt (wo : Nat → Int32) (g : Nat) : Nat → Int32 := zt (fun j => wo (144 * (g % 16) + j))
theorem slt_put {w c : Nat → Int32} {f : Nat} (hc : ∀ j, 144 ≤ j → c j = 0) : slt (zput w (144 * (f % 16)) c) f = c := by
  funext j
  unfold slt zt
  by_cases h : j < 144
  · rw [if_pos h]
    exact zp_rd h
  · rw [if_neg h]
    exact (hc j (by omega)).symm
theorem slt_off {w c : Nat → Int32} {f g : Nat} (h : f % 16 ≠ g % 16) : slt (zput w (144 * (f % 16)) c) g = slt w g := by
  funext j
  unfold slt zt
  by_cases hj : j < 144
  · rw [if_pos hj, if_pos hj]
    exact zp_off (by omega)
  · rw [if_neg hj, if_neg hj]
theorem nI_and15 {f : Nat} (h : f < 200) : (144 : Int32) * (nI f &&& 15) = nI (144 * (f % 16)) := by
  rw [pk_andN (by omega) 4 (by decide)]
  exact pk_mul 144 (f % 16)
/-- a state after k of the words are copied -/
def cpy (w : Nat → Int32) (h h2 k : Nat) : Nat → Int32 := fun j => if j < k then w (h2 + j) else w (h + j)
theorem cpy_0 (w : Nat → Int32) (h h2 : Nat) : zput w h (cpy w h h2 0) = w := by
  refine (zp_id (fun j hj => ?_)).symm
  unfold cpy
  rw [if_neg (by omega)]
theorem cpy_s (w : Nat → Int32) (h h2 k : Nat) : upd (cpy w h h2 k) k (w (h2 + k)) = cpy w h h2 (k + 1) := by
  funext j
  unfold upd cpy
  by_cases e : j = k
  · subst e; rw [if_pos rfl, if_pos (by omega)]
  · rw [if_neg e]
    by_cases g : j < k
    · rw [if_pos g, if_pos (by omega)]
    · rw [if_neg g, if_neg (by omega)]
section
variable {xH fS pR xS xD xN xC xL xB xK : Int32} {wo be dr ho op ar le xk xc xl xb xs xa : Nat → Int32}
theorem X_copy {post : SX → Prop} {J : (Int32 → Int32 → Int32 → Int32 → Int32 → Int32 → Int32 → Int32 → Int32 → Int32 → Int32 → (Nat → Int32) → (Nat → Int32) → (Nat → Int32) → (Nat → Int32) → (Nat → Int32) → (Nat → Int32) → (Nat → Int32) → (Nat → Int32) → (Nat → Int32) → (Nat → Int32) → (Nat → Int32) → (Nat → Int32) → (Nat → Int32) → Prop)} {x2 x4 : Int32} {w : Nat → Int32} {h h2 : Nat} (hh : h ≤ 2160) (hh2 : h2 ≤ 2160) (hd : h2 + 144 ≤ h ∨ h + 144 ≤ h2)
    (hp : ∀ be1 : Nat → Int32, (∀ j, j < 144 → be1 j = w (h + j)) → wX_settle_75 post J x2 (nI h2) x4 (nI h) fS pR xS xD xN xC xL xB xK 1 (nI 144) (zput w h (cpy w h h2 144)) be1 dr ho op ar le xk xc xl xb xs xa) : ∀ (e k : Nat) (be : Nat → Int32), k + e = 144 → (∀ j, j < k → be j = w (h + j)) → wX_settle_75 post J x2 (nI h2) x4 (nI h) fS pR xS xD xN xC xL xB xK (e + 1) (nI k) (zput w h (cpy w h h2 k)) be dr ho op ar le xk xc xl xb xs xa := by
  intro e
  induction e with
  | zero =>
    intro k be hk hb
    obtain rfl : k = 144 := by omega
    exact hp be hb
  | succ e ih =>
    intro k be hk hb
    have e1 : zput w h (cpy w h h2 k) (nI h + nI k).toNatClampNeg = w (h + k) := by
      rw [xe k (nI_add h k) (by omega) hh]
      unfold cpy
      rw [if_neg (by omega)]
    have e2 : zput w h (cpy w h h2 k) (nI h2 + nI k).toNatClampNeg = w (h2 + k) := by
      rw [nI_add, nI_clamp (by omega)]
      exact zp_off (by omega)
    refine br_f (nI_ge (b := 144) (by omega) (by decide)) ⟨xv k (nI_add h k) (by omega) hh, ?_⟩
    rw [e1, e2]
    refine yw k rfl (by omega) (by decide) ⟨by rw [nI_add]; exact vp_in_nI (by omega) (by decide), xw k (nI_add h k) (by omega) hh (nm_r (nI_1 k) ?_)⟩
    rw [cpy_s]
    refine ih (k + 1) _ (by omega) (fun j hj => ?_)
    by_cases e : j = k
    · subst e; exact pk_us
    · rw [pk_un e]; exact hb j (by omega)
theorem X_same {post : Int32 → Prop} {w c : Nat → Int32} {h : Nat} (hh : h ≤ 2160) (h1 : (∀ j, j < 144 → c j = be j) → post 1) (h0 : post 0) : ∀ e k, k + e = 144 → (∀ j, j < k → c j = be j) → wX_sameAsBefore_2 post (nI h) fS pR xS xD xN xC xL xB xK (zput w h c) be dr ho op ar le xk xc xl xb xs xa (e + 1) (nI k) := by
  intro e
  induction e with
  | zero =>
    intro k hk hb
    obtain rfl : k = 144 := by omega
    exact br_t (by decide) (h1 hb)
  | succ e ih =>
    intro k hk hb
    refine br_f (nI_ge (b := 144) (by omega) (by decide)) ⟨xv k (nI_add h k) (by omega) hh, vp_in_nI (by omega) (by decide), ?_⟩
    rw [xe k (nI_add h k) (by omega) hh, ye (f := be) k rfl (by omega) rfl]
    refine ⟨fun z => nm_r (nI_1 k) (ih (k + 1) (by omega) (fun j hj => ?_)), fun _ => h0⟩
    by_cases e : j = k
    · subst e; exact z
    · exact hb j (by omega)
end
/-- the slots from f on follow one from the other -/
theorem chn {ho op ar le wo yk dr : Nat → Int32} {fS : Int32} {f N : Nat} (h0 : slt wo f = St dr ho op ar le fS yk f) (hc : ∀ g, f ≤ g → g < N → slt wo (g + 1) = stp ho op ar le (iN yk (g + 1)) (slt wo g)) : ∀ e, f + e ≤ N → slt wo (f + e) = St dr ho op ar le fS yk (f + e) := by
  intro e
  induction e with
  | zero => intro _; exact h0
  | succ e ih =>
    intro he
    have := hc (f + e) (by omega) (by omega)
    rw [ih (by omega)] at this
    exact this
section
variable {xH fS pR xS xD xN xC xL xB xK : Int32} {wo be dr ho op ar le xk xc xl xb xs xa : Nat → Int32}
/-- the loop of settle, from frame D on -/
theorem X_settle_l {post : SX → Prop} {P N Ch : Nat} {yk : Nat → Int32} (C : cG ho op ar le) (K : kV yk) (hP : P ≤ 120) (hN : N ≤ P) (hC : Ch < 200) (hcn : ∀ p f, p < 3 → 0 < f → f < 127 → xc (128 * p + f) = gs yk p f)
    (hp : ∀ wo be : Nat → Int32, (∀ g, g ≤ P → P ≤ g + 15 → slt wo g = St dr ho op ar le fS yk g) → post (nI (144 * (P % 16)), fS, nI P, xS, nI (P + 1), nI P, 0, xL, xB, xK, wo, be, dr, ho, op, ar, le, xk, xc, xl, xb, xs, xa)) :
    ∀ (m D : Nat) (xH : Int32) (wo be : Nat → Int32), 1 ≤ D → D ≤ P + 1 → N ≤ D + 9 → P + 1 ≤ D + m → (∀ g, g < D → N ≤ g + 15 → D ≤ g + 16 → slt wo g = St dr ho op ar le fS yk g) → (∀ g, Ch ≤ g → D ≤ g → g < N → slt wo (g + 1) = stp ho op ar le (iN yk (g + 1)) (slt wo g)) →
      wX_settle_17 post (m + 1) (nI (if P < D then 0 else 1)) xH fS (nI P) xS (nI D) (nI N) (nI Ch) xL xB xK wo be dr ho op ar le xk xc xl xb xs xa := by
  have fin : ∀ (m : Nat) (xH : Int32) (wo be : Nat → Int32), (∀ g, g < P + 1 → N ≤ g + 15 → P + 1 ≤ g + 16 → slt wo g = St dr ho op ar le fS yk g) → wX_settle_17 post (m + 1) (nI (if P < P + 1 then 0 else 1)) xH fS (nI P) xS (nI (P + 1)) (nI N) (nI Ch) xL xB xK wo be dr ho op ar le xk xc xl xb xs xa := by
    intro m xH wo be hA
    rw [if_pos (by omega)]
    have hp1 := hp wo be (fun g h1 h2 => hA g (by omega) (by omega) (by omega))
    refine br_t (by decide) ?_
    by_cases z : P ≤ N
    · obtain rfl : N = P := by omega
      exact br_t (nI_le (by omega) (by omega)) (nm_r (nI_1 N) (nm_r (nI_and15 (by omega)) hp1))
    · exact br_f (nI_ge (by omega) (by omega)) (nm_r (nI_1 P) (nm_r (nI_and15 (by omega)) hp1))
  intro m
  induction m with
  | zero =>
    intro D xH wo be h1 h2 h3 h4 hA hB
    obtain rfl : D = P + 1 := by omega
    exact fin 0 xH wo be hA
  | succ m ih =>
    intro D xH wo be h1 h2 h3 h4 hA hB
    by_cases hD : P < D
    · obtain rfl : D = P + 1 := by omega
      exact fin (m + 1) xH wo be hA
    · rw [if_neg hD]
      obtain ⟨f, rfl⟩ : ∃ f, D = f + 1 := ⟨D - 1, by omega⟩
      have em : nI (f + 1) - 1 = nI f := nI_pred f
      have ehf : (144 : Int32) * (nI (f + 1) &&& 15) = nI (144 * ((f + 1) % 16)) := nI_and15 (by omega)
      have ehg : (144 : Int32) * (nI (f + 1) - 1 &&& 15) = nI (144 * (f % 16)) := by rw [em]; exact nI_and15 (by omega)
      obtain ⟨_, _, Z1, X1, _⟩ := St_FR (dr := dr) (fS := fS) C K (f := f) (by omega)
      have sf : slt wo f = St dr ho op ar le fS yk f := hA f (by omega) (by omega) (by omega)
      have nxt : ∀ (D2 : Nat) (be1 : Nat → Int32), f + 2 ≤ D2 → D2 ≤ P + 1 → (D2 = f + 2 ∨ (D2 = N + 1 ∧ slt wo (f + 1) = St dr ho op ar le fS yk (f + 1) ∧ Ch ≤ f + 1 ∧ f + 1 ≤ N)) → wX_settle_17 post (m + 1) (nI (if P < D2 then 0 else 1)) (nI (144 * ((f + 1) % 16))) fS (nI P) xS (nI D2) (nI N) (nI Ch) xL xB xK (zput wo (144 * ((f + 1) % 16)) (St dr ho op ar le fS yk (f + 1))) be1 dr ho op ar le xk xc xl xb xs xa := by
        intro D2 be1 g1 g2 g3
        have own : slt (zput wo (144 * ((f + 1) % 16)) (St dr ho op ar le fS yk (f + 1))) (f + 1) = St dr ho op ar le fS yk (f + 1) := slt_put Z1
        have oth : ∀ g, g ≠ f + 1 → g ≤ f + 16 → f + 1 ≤ g + 15 → slt (zput wo (144 * ((f + 1) % 16)) (St dr ho op ar le fS yk (f + 1))) g = slt wo g := fun g y1 y2 y3 => slt_off (by omega)
        refine ih D2 _ _ be1 (by omega) g2 (by omega) (by omega) (fun g y1 y2 y3 => ?_) (fun g y1 y2 y3 => ?_)
        · by_cases e : g = f + 1
          · subst e; exact own
          · by_cases e2 : g < f + 1
            · rw [oth g e (by omega) (by omega)]
              exact hA g (by omega) y2 (by omega)
            · rcases g3 with g3 | ⟨g3, g4, g5, g6⟩
              · omega
              · rw [oth g e (by omega) (by omega)]
                have := chn (dr := dr) (fS := fS) g4 (fun g' z1 z2 => hB g' (by omega) z1 z2) (g - (f + 1)) (by omega)
                rw [show f + 1 + (g - (f + 1)) = g by omega] at this
                exact this
        · rw [oth g (by omega) (by omega) (by omega), oth (g + 1) (by omega) (by omega) (by omega)]
          exact hB g y1 (by omega) y3
      have jmp : ∀ (D2 : Nat) (be1 : Nat → Int32), f + 2 ≤ D2 → D2 ≤ P + 1 → (D2 = f + 2 ∨ (D2 = N + 1 ∧ slt wo (f + 1) = St dr ho op ar le fS yk (f + 1) ∧ Ch ≤ f + 1 ∧ f + 1 ≤ N)) → wX_settle_166 post (wX_settle_17 post (m + 1)) (nI (144 * ((f + 1) % 16))) fS (nI P) xS (nI D2) (nI N) (nI Ch) xL xB xK (zput wo (144 * ((f + 1) % 16)) (St dr ho op ar le fS yk (f + 1))) be1 dr ho op ar le xk xc xl xb xs xa := by
        intro D2 be1 g1 g2 g3
        have h := nxt D2 be1 g1 g2 g3
        by_cases z : P < D2
        · rw [if_pos z] at h
          exact br_t (nI_lt z (by omega)) h
        · rw [if_neg z] at h
          exact br_f (nI_nlt (by omega) (by omega)) h
      have cyc : zput wo (144 * ((f + 1) % 16)) (cpy wo (144 * ((f + 1) % 16)) (144 * (f % 16)) 144) = zput wo (144 * ((f + 1) % 16)) (St dr ho op ar le fS yk f) := by
        refine zp_cg (fun j hj => ?_)
        rw [← sf]
        unfold cpy slt zt
        rw [if_pos hj, if_pos hj]
      have body : ∀ (x4 : Int32), ¬ x4 = 0 → (Ch ≤ f + 1 ∧ f + 1 ≤ N) → ∃ n, wX_settle_75 post (wX_settle_17 post (m + 1)) (nI (f + 1)) (nI (144 * (f % 16))) x4 (nI (144 * ((f + 1) % 16))) fS (nI P) xS (nI (f + 1)) (nI N) (nI Ch) xL xB xK n 0 wo be dr ho op ar le xk xc xl xb xs xa := by
        intro x4 hx hcmp
        have key := X_copy (post := post) (J := wX_settle_17 post (m + 1)) (x2 := nI (f + 1)) (x4 := x4) (w := wo) (h := 144 * ((f + 1) % 16)) (h2 := 144 * (f % 16)) (pR := nI P) (xD := nI (f + 1)) (xN := nI N) (xC := nI Ch) (fS := fS) (xS := xS) (xL := xL) (xB := xB) (xK := xK) (dr := dr) (ho := ho) (op := op) (ar := ar) (le := le) (xk := xk) (xc := xc) (xl := xl) (xb := xb) (xs := xs) (xa := xa) (by omega) (by omega) (by omega) (fun be1 hb1 => by
          rw [cyc]
          refine br_t (by decide) (X1 (by omega) (by omega) (fun p hp3 => ?_) (nm_r (nI_1 (f + 1)) (br_f hx ⟨145, X_same (by omega) (fun hs => br_f (by decide) (nm_r (nI_1 N) (jmp (N + 1) be1 (by omega) (by omega) (Or.inr ⟨rfl, ?_, hcmp⟩)))) (br_t rfl (jmp (f + 2) be1 (by omega) (by omega) (Or.inl rfl))) 144 0 rfl (fun j hj => absurd hj (by omega))⟩)))
          · rw [hcn p (f + 1) hp3 (by omega) (by omega)]
            exact (iN_v K hp3 (by omega)).2
          · funext j
            unfold slt zt
            by_cases hj : j < 144
            · rw [if_pos hj, hs j hj, hb1 j hj]
            · rw [if_neg hj, Z1 j (by omega)]) 144 0 be rfl (fun j hj => absurd hj (by omega))
        rw [cpy_0] at key
        exact ⟨145, key⟩
      have body0 : ∃ n, wX_settle_75 post (wX_settle_17 post (m + 1)) (nI (f + 1)) (nI (144 * (f % 16))) 0 (nI (144 * ((f + 1) % 16))) fS (nI P) xS (nI (f + 1)) (nI N) (nI Ch) xL xB xK n 0 wo be dr ho op ar le xk xc xl xb xs xa := by
        have key := X_copy (post := post) (J := wX_settle_17 post (m + 1)) (x2 := nI (f + 1)) (x4 := 0) (w := wo) (h := 144 * ((f + 1) % 16)) (h2 := 144 * (f % 16)) (pR := nI P) (xD := nI (f + 1)) (xN := nI N) (xC := nI Ch) (fS := fS) (xS := xS) (xL := xL) (xB := xB) (xK := xK) (dr := dr) (ho := ho) (op := op) (ar := ar) (le := le) (xk := xk) (xc := xc) (xl := xl) (xb := xb) (xs := xs) (xa := xa) (by omega) (by omega) (by omega) (fun be1 hb1 => by
          rw [cyc]
          refine br_t (by decide) (X1 (by omega) (by omega) (fun p hp3 => ?_) (nm_r (nI_1 (f + 1)) (br_t rfl (jmp (f + 2) be1 (by omega) (by omega) (Or.inl rfl)))))
          rw [hcn p (f + 1) hp3 (by omega) (by omega)]
          exact (iN_v K hp3 (by omega)).2) 144 0 be rfl (fun j hj => absurd hj (by omega))
        rw [cpy_0] at key
        exact ⟨145, key⟩
      refine br_f (by decide) (nm_r ehf (nm_r ehg ?_))
      by_cases c1 : N < f + 1
      · exact br_t (nI_lt c1 (by omega)) body0
      · refine br_f (nI_nlt (by omega) (by omega)) ?_
        by_cases c2 : f + 1 < Ch
        · exact br_t (nI_lt c2 (by omega)) body0
        · exact br_f (nI_nlt (by omega) (by omega)) (body 1 (by decide) ⟨by omega, by omega⟩)
/-- the ring's part of the relation -/
def rG (dr ho op ar le : Nat → Int32) (fS : Int32) (yk wo : Nat → Int32) (P D N Ch : Nat) : Prop := P ≤ 120 ∧ 1 ≤ D ∧ D ≤ N + 1 ∧ N ≤ P ∧ N ≤ D + 9 ∧ Ch ≤ N ∧ (∀ g, g < D → N ≤ g + 15 → slt wo g = St dr ho op ar le fS yk g) ∧ (∀ g, Ch ≤ g → g < N → N ≤ g + 15 → slt wo (g + 1) = stp ho op ar le (iN yk (g + 1)) (slt wo g))
theorem X_settle {post : SX → Prop} {P D N Ch : Nat} {yk : Nat → Int32} (C : cG ho op ar le) (K : kV yk) (hcn : ∀ p f, p < 3 → 0 < f → f < 127 → xc (128 * p + f) = gs yk p f) (R : rG dr ho op ar le fS yk wo P D N Ch)
    (hp : ∀ wo be : Nat → Int32, rG dr ho op ar le fS yk wo P (P + 1) P 0 → (∀ g, g ≤ P → P ≤ g + 15 → slt wo g = St dr ho op ar le fS yk g) → post (nI (144 * (P % 16)), fS, nI P, xS, nI (P + 1), nI P, 0, xL, xB, xK, wo, be, dr, ho, op, ar, le, xk, xc, xl, xb, xs, xa)) : wpX_settle post (xH, fS, nI P, xS, nI D, nI N, nI Ch, xL, xB, xK, wo, be, dr, ho, op, ar, le, xk, xc, xl, xb, xs, xa) := by
  obtain ⟨hP, h1, h2, h3, h4, h5, hA, hB⟩ := R
  have key := X_settle_l (post := post) (yk := yk) (fS := fS) C K hP h3 (by omega) hcn (fun wo be hs => hp wo be ⟨hP, by omega, by omega, by omega, by omega, by omega, fun g y1 y2 => hs g (by omega) y2, fun g _ y1 y2 => by
    rw [hs g (by omega) y2, hs (g + 1) (by omega) (by omega)]
    rfl⟩ hs) (P + 1 - D) D xH wo be h1 (by omega) h4 (by omega) (fun g y1 y2 _ => hA g y1 y2) (fun g y1 y2 y3 => hB g y1 y3 (by omega))
  by_cases z : P < D
  · rw [if_pos z] at key
    exact br_t (nI_lt z (by omega)) ⟨_, key⟩
  · rw [if_neg z] at key
    exact br_f (nI_nlt (by omega) (by omega)) ⟨_, key⟩
end
end
section
/-! the relation -/
def cS (yk : Nat → Int32) (Su : Nat) : Prop := Su ≤ 126 ∧ (∀ f, 0 < f → f ≤ Su → ∀ p, p < 3 → ¬ yk (127 * p + f) < 0) ∧ (Su < 126 → ∃ p, p < 3 ∧ yk (127 * p + (Su + 1)) < 0)
def cC (yk xk xc : Nat → Int32) : Prop := ∀ p f, p < 3 → 0 < f → f < 127 → xc (128 * p + f) = gs yk p f ∧ (xk (128 * p + f) = 0 ↔ yk (127 * p + f) < 0)
def cL (xl yl : Nat → Int32) (Ln : Nat) : Prop := Ln ≤ 512 ∧ ∀ j, j < Ln → xl j &&& 255 = yl j
def cB (xb yf : Nat → Int32) (Bn : Nat) : Prop := Bn ≤ 512 ∧ ∀ j, j < Bn → ∃ b, b < 256 ∧ xb j = sb_b b ∧ yf j = nI b
def RL (dr ho op ar le : Nat → Int32) (fS : Int32) (yk xk xc wo xl yl xb yf : Nat → Int32) (P Su D N Ch Ln Bn : Nat) : Prop := cG ho op ar le ∧ kV yk ∧ cC yk xk xc ∧ cS yk Su ∧ rG dr ho op ar le fS yk wo P D N Ch ∧ cL xl yl Ln ∧ cB xb yf Bn
/-- the relation: shared starts, programs and inputs; the ring; the log; the bytes -/
def i_Rel (k : Nat) (u : SX) (v : SY) : Prop := ∃ (P Su D N Ch Ln Bn : Nat) (xH fS bk yC yS : Int32) (wo be dr ho op ar le xk xc xl xb xs xa yk yl yf yr fd pl di sh sc aw nx aO bO bu tu ow : Nat → Int32), u = (xH, fS, nI P, nI Su, nI D, nI N, nI Ch, nI Ln, nI Bn, bk, wo, be, dr, ho, op, ar, le, xk, xc, xl, xb, xs, xa) ∧ v = (fS, nI P, nI Ln, nI Bn, bk, yC, yS, dr, ho, op, ar, le, yk, yl, yf, yr, fd, pl, di, sh, sc, aw, nx, aO, bO, bu, tu, ow) ∧ RL dr ho op ar le fS yk xk xc wo xl yl xb yf P Su D N Ch Ln Bn
theorem zz_el {k : Nat} {u : SX} {v : SY} {M : SX → SY → Prop} (I : i_Rel k u v) (h : ∀ (P Su D N Ch Ln Bn : Nat) (xH fS bk yC yS : Int32) (wo be dr ho op ar le xk xc xl xb xs xa yk yl yf yr fd pl di sh sc aw nx aO bO bu tu ow : Nat → Int32), RL dr ho op ar le fS yk xk xc wo xl yl xb yf P Su D N Ch Ln Bn → M (xH, fS, nI P, nI Su, nI D, nI N, nI Ch, nI Ln, nI Bn, bk, wo, be, dr, ho, op, ar, le, xk, xc, xl, xb, xs, xa) (fS, nI P, nI Ln, nI Bn, bk, yC, yS, dr, ho, op, ar, le, yk, yl, yf, yr, fd, pl, di, sh, sc, aw, nx, aO, bO, bu, tu, ow)) : M u v :=
  Exists.elim I fun P I => Exists.elim I fun Su I => Exists.elim I fun D I => Exists.elim I fun N I => Exists.elim I fun Ch I => Exists.elim I fun Ln I => Exists.elim I fun Bn I => Exists.elim I fun xH I => Exists.elim I fun fS I => Exists.elim I fun bk I => Exists.elim I fun yC I => Exists.elim I fun yS I => Exists.elim I fun wo I => Exists.elim I fun be I => Exists.elim I fun dr I => Exists.elim I fun ho I => Exists.elim I fun op I => Exists.elim I fun ar I => Exists.elim I fun le I => Exists.elim I fun xk I => Exists.elim I fun xc I => Exists.elim I fun xl I => Exists.elim I fun xb I => Exists.elim I fun xs I => Exists.elim I fun xa I => Exists.elim I fun yk I => Exists.elim I fun yl I => Exists.elim I fun yf I => Exists.elim I fun yr I => Exists.elim I fun fd I => Exists.elim I fun pl I => Exists.elim I fun di I => Exists.elim I fun sh I => Exists.elim I fun sc I => Exists.elim I fun aw I => Exists.elim I fun nx I => Exists.elim I fun aO I => Exists.elim I fun bO I => Exists.elim I fun bu I => Exists.elim I fun tu I => Exists.elim I fun ow I => (I.1.symm ▸ I.2.1.symm ▸ h P Su D N Ch Ln Bn xH fS bk yC yS wo be dr ho op ar le xk xc xl xb xs xa yk yl yf yr fd pl di sh sc aw nx aO bO bu tu ow I.2.2 : M u v)
theorem zz_in {k : Nat} {P Su D N Ch Ln Bn : Nat} {xH fS bk yC yS : Int32} {wo be dr ho op ar le xk xc xl xb xs xa yk yl yf yr fd pl di sh sc aw nx aO bO bu tu ow : Nat → Int32} (H : RL dr ho op ar le fS yk xk xc wo xl yl xb yf P Su D N Ch Ln Bn) : i_Rel k (xH, fS, nI P, nI Su, nI D, nI N, nI Ch, nI Ln, nI Bn, bk, wo, be, dr, ho, op, ar, le, xk, xc, xl, xb, xs, xa) (fS, nI P, nI Ln, nI Bn, bk, yC, yS, dr, ho, op, ar, le, yk, yl, yf, yr, fd, pl, di, sh, sc, aw, nx, aO, bO, bu, tu, ow) := ⟨P, Su, D, N, Ch, Ln, Bn, xH, fS, bk, yC, yS, wo, be, dr, ho, op, ar, le, xk, xc, xl, xb, xs, xa, yk, yl, yf, yr, fd, pl, di, sh, sc, aw, nx, aO, bO, bu, tu, ow, rfl, rfl, H⟩
theorem i_up {k : Nat} {u : SX} {v : SY} (h : i_Rel k u v) : i_Rel (k + 4) u v := h
theorem X_outside {post : Int32 → Prop} {v lo hi : Int32} (h1 : lo ≤ v ∧ v ≤ hi → post 0) (h0 : ¬ (lo ≤ v ∧ v ≤ hi) → post 1) : wpX_outside post v lo hi := by
  have e0 : (0 : Int32) ||| 0 = 0 := by decide
  have e1 : (0 : Int32) ||| 1 = 1 := by decide
  have e2 : (1 : Int32) ||| 0 = 1 := by decide
  have e3 : (1 : Int32) ||| 1 = 1 := by decide
  unfold wpX_outside wX_outside_10
  rw [e0, e1, e2, e3]
  refine ⟨fun z => ⟨fun z2 => ⟨rfl, h1 ⟨z, z2⟩⟩, fun z2 => ⟨rfl, h0 (fun y => z2 y.2)⟩⟩, fun z => ⟨fun z2 => ⟨rfl, h0 (fun y => z y.1)⟩, fun z2 => ⟨rfl, h0 (fun y => z y.1)⟩⟩⟩
/-- an int in a small range is a number -/
theorem rng {v lo hi : Int32} {a b : Nat} (ha : lo = nI a) (hb : hi = nI b) (h : lo ≤ v ∧ v ≤ hi) (h1 : a < 2 ^ 31 := by decide) (h2 : b < 2 ^ 31 := by decide) : ∃ j, a ≤ j ∧ j ≤ b ∧ v = nI j := by
  subst ha hb
  obtain ⟨z1, z2⟩ := h
  rw [Int32.le_iff_toInt_le, nI_toInt h1] at z1
  rw [Int32.le_iff_toInt_le, nI_toInt h2] at z2
  refine ⟨v.toInt.toNat, by omega, by omega, Int32.toInt_inj.mp ?_⟩
  rw [nI_toInt (by omega)]
  omega
theorem nrl {v : Int32} (h : ¬ v < 0) : 0 ≤ v := Int32.not_lt.mp h
theorem i8s {d : Nat} (h : d < 128) : (nI d).toInt8.toInt32 = nI d := lg_i2b_small (by rw [nI_toInt (by omega)]; omega) (by rw [nI_toInt (by omega)]; omega)
theorem v8s {d : Nat} (h : d < 128) : vp_nar .byte (nI d).toInt8.toInt32 = nI d := by rw [pk_vb, i8s h]
section
variable {xH fS pR xS xD xN xC xL xB xK : Int32} {wo be dr ho op ar le xk xc xl xb xs xa : Nat → Int32}
theorem X_prep0 {post : SX → Prop} {yk dr2 ho2 op2 ar2 le2 : Nat → Int32} (R0 : slt wo 0 = cI dr ho le fS) (C0 : cG ho op ar le) (C : cG ho2 op2 ar2 le2) (hp : ∀ wo : Nat → Int32, rG dr2 ho2 op2 ar2 le2 fS yk wo 0 1 0 0 → post (xH, fS, pR, xS, 1, 0, xC, xL, xB, xK, wo, be, dr2, ho2, op2, ar2, le2, xk, xc, xl, xb, xs, xa)) : wpX_prepare post (xH, fS, pR, xS, xD, xN, xC, xL, xB, xK, wo, be, dr2, ho2, op2, ar2, le2, xk, xc, xl, xb, xs, xa) := by
  have e : wo = zput wo 0 (cI dr ho le fS) := zp_id (fun j hj => by
    have h := congrFun R0 j
    unfold slt zt at h
    rw [if_pos hj] at h
    exact h)
  have h0 : slt (zput wo 0 (cI dr2 ho2 le2 fS)) 0 = cI dr2 ho2 le2 fS := slt_put (f := 0) (fun j hj => cI_z C (by omega) (wfr_lit (by omega)))
  rw [e]
  refine X_prepare C (fun j h1 h2 => cI_z C0 h1 h2) (hp _ ⟨by omega, by omega, by omega, by omega, by omega, by omega, fun g h1 h2 => ?_, fun g h1 h2 => absurd h2 (by omega)⟩)
  obtain rfl : g = 0 := by omega
  exact h0
end
end
section
theorem l7 : (7 : Int32).toInt = 7 := by decide
theorem l11 : (11 : Int32).toInt = 11 := by decide
theorem Y_insideR {post : Int32 → Prop} {x y : Int32} (h1 : (0 ≤ x ∧ x ≤ 11) ∧ (0 ≤ y ∧ y ≤ 7) → post 1) (h0 : ¬ ((0 ≤ x ∧ x ≤ 11) ∧ (0 ≤ y ∧ y ≤ 7)) → post 0) : wpY_inside post x y := by
  simp only [Int32.le_iff_toInt_le, i32_0, l7, l11] at h1 h0
  exact Y_inside (fun z => h1 (by omega)) (fun z => h0 (by omega))
/-- the facts of a game that hasn't begun -/
theorem rg0 {dr ho op ar le : Nat → Int32} {fS : Int32} {yk wo : Nat → Int32} {D N Ch : Nat} (R : rG dr ho op ar le fS yk wo 0 D N Ch) : D = 1 ∧ N = 0 ∧ Ch = 0 ∧ slt wo 0 = cI dr ho le fS := by
  obtain ⟨h1, h2, h3, h4, h5, h6, h7, h8⟩ := R
  exact ⟨by omega, by omega, by omega, h7 0 (by omega) (by omega)⟩
section
variable {fS pR yL yF yK yC yS : Int32} {dr ho op ar le yk yl yf yr fd pl di sh sc aw nx aO bO bu tu ow : Nat → Int32}
theorem Y_draw_no {post : Int32 → SY → Prop} {x y kd : Int32} (h : ¬ (pR = 0 ∧ (0 ≤ x ∧ x ≤ 11) ∧ (0 ≤ y ∧ y ≤ 7) ∧ (0 ≤ kd ∧ kd ≤ 4))) (hp : post (-1) (fS, pR, yL, yF, yK, yC, yS, dr, ho, op, ar, le, yk, yl, yf, yr, fd, pl, di, sh, sc, aw, nx, aO, bO, bu, tu, ow)) : wpY_draw post (fS, pR, yL, yF, yK, yC, yS, dr, ho, op, ar, le, yk, yl, yf, yr, fd, pl, di, sh, sc, aw, nx, aO, bO, bu, tu, ow) x y kd := by
  unfold wpY_draw
  refine ⟨fun z0 => Y_insideR (fun z1 => br_f (by decide) ⟨fun _ => hp, fun z2 => ⟨fun z3 => ?_, fun _ => hp⟩⟩) (fun z1 => br_t rfl hp), fun _ => hp⟩
  exact absurd ⟨z0, z1.1, z1.2, nrl z2, z3⟩ h
theorem Y_draw_yes {post : Int32 → SY → Prop} {a b d : Nat} (ha : a < 12) (hb : b < 8) (hd : d < 5) (hp : post (dr (12 * b + a)) (fS, 0, yL, yF, yK, yC, yS, upd dr (12 * b + a) (nI d), ho, op, ar, le, yk, yl, yf, yr, fd, pl, di, sh, sc, aw, nx, aO, bO, bu, tu, ow)) : wpY_draw post (fS, 0, yL, yF, yK, yC, yS, dr, ho, op, ar, le, yk, yl, yf, yr, fd, pl, di, sh, sc, aw, nx, aO, bO, bu, tu, ow) (nI a) (nI b) (nI d) := by
  have i96 : vp_in (12 * nI b + nI a) 96 := by rw [nI_cell]; exact vp_in_nI (by omega) (by decide)
  unfold wpY_draw
  refine br_t rfl (Y_insideR (fun _ => br_f (by decide) (br_f (nI_pos (by omega)) (br_t (nI_le (b := 4) (by omega) (by decide)) ⟨i96, nm_r (ye (f := dr) _ nI_cell (by omega) rfl) ?_⟩))) (fun z => absurd ⟨⟨nI_pos' (by omega), nI_le (b := 11) (by omega) (by decide)⟩, ⟨nI_pos' (by omega), nI_le (b := 7) (by omega) (by decide)⟩⟩ z))
  exact yw _ nI_cell (by omega) (by decide) hp
end
theorem c_draw {k : Nat} {P Su D N Ch Ln Bn : Nat} {xH fS bk yC yS : Int32} {wo be dr ho op ar le xk xc xl xb xs xa yk yl yf yr fd pl di sh sc aw nx aO bO bu tu ow : Nat → Int32} (H : RL dr ho op ar le fS yk xk xc wo xl yl xb yf P Su D N Ch Ln Bn) (v1 v2 v3 : Int32) : wpX_draw (fun r u' => wpY_draw (fun r' v' => r' = r ∧ i_Rel (k + 4) u' v') (fS, nI P, nI Ln, nI Bn, bk, yC, yS, dr, ho, op, ar, le, yk, yl, yf, yr, fd, pl, di, sh, sc, aw, nx, aO, bO, bu, tu, ow) v1 v2 v3) (xH, fS, nI P, nI Su, nI D, nI N, nI Ch, nI Ln, nI Bn, bk, wo, be, dr, ho, op, ar, le, xk, xc, xl, xb, xs, xa) v1 v2 v3 := by
  have no : ¬ (nI P = 0 ∧ (0 ≤ v1 ∧ v1 ≤ 11) ∧ (0 ≤ v2 ∧ v2 ≤ 7) ∧ (0 ≤ v3 ∧ v3 ≤ 4)) → wpY_draw (fun r' v' => r' = -1 ∧ i_Rel (k + 4) (xH, fS, nI P, nI Su, nI D, nI N, nI Ch, nI Ln, nI Bn, bk, wo, be, dr, ho, op, ar, le, xk, xc, xl, xb, xs, xa) v') (fS, nI P, nI Ln, nI Bn, bk, yC, yS, dr, ho, op, ar, le, yk, yl, yf, yr, fd, pl, di, sh, sc, aw, nx, aO, bO, bu, tu, ow) v1 v2 v3 := fun h => Y_draw_no h ⟨rfl, zz_in H⟩
  obtain ⟨C, K, hC, hS, R, hL, hB⟩ := H
  unfold wpX_draw
  by_cases hP : 0 < P
  · have hP2 : P < 2 ^ 31 := by have := R.1; omega
    exact br_t (nI_lt (a := 0) hP hP2) (no (fun z => nI_ne0 hP hP2 z.1))
  · obtain rfl : P = 0 := by omega
    obtain ⟨rfl, rfl, rfl, R0⟩ := rg0 R
    refine br_f (by decide) (X_outside (fun a1 => br_t rfl (X_outside (fun a2 => br_t rfl (X_outside (fun a3 => br_t rfl ?_) (fun a3 => br_f (by decide) (no (fun z => a3 z.2.2.2))))) (fun a2 => br_f (by decide) (no (fun z => a2 z.2.2.1))))) (fun a1 => br_f (by decide) (no (fun z => a1 z.2.1))))
    obtain ⟨a, _, ha, rfl⟩ := rng (a := 0) (b := 11) rfl rfl a1
    obtain ⟨b, _, hb, rfl⟩ := rng (a := 0) (b := 7) rfl rfl a2
    obtain ⟨d, _, hd, rfl⟩ := rng (a := 0) (b := 4) rfl rfl a3
    have i96 : vp_in (nI (12 * b + a)) 96 := vp_in_nI (by omega) (by decide)
    rw [v8s (d := d) (by omega)]
    refine nm_r nI_cell ⟨i96, nm_r (ye (f := dr) _ rfl (by omega) rfl) (yw _ rfl (by omega) (by decide) (X_prep0 (yk := yk) R0 C C (fun wo1 R1 => ?_)))⟩
    exact Y_draw_yes (by omega) (by omega) (by omega) ⟨rfl, zz_in ⟨C, K, hC, hS, R1, hL, hB⟩⟩
theorem i_vc_draw {k : Nat} {u : SX} {v : SY} (I : i_Rel k u v) (hk : k + 4 ≤ 2049) (v1 : Int32) (v2 : Int32) (v3 : Int32) : wpX_draw (fun r u' => wpY_draw (fun r' v' => r' = r ∧ i_Rel (k + 4) u' v') v v1 v2 v3) u v1 v2 v3 := by
  refine zz_el (M := fun u v => wpX_draw (fun r u' => wpY_draw (fun r' v' => r' = r ∧ i_Rel (k + 4) u' v') v v1 v2 v3) u v1 v2 v3) I ?_
  intro P Su D N Ch Ln Bn xH fS bk yC yS wo be dr ho op ar le xk xc xl xb xs xa yk yl yf yr fd pl di sh sc aw nx aO bO bu tu ow H
  exact c_draw H v1 v2 v3
/-! start -/
section
variable {xH fS pR xS xD xN xC xL xB xK : Int32} {wo be dr ho op ar le xk xc xl xb xs xa : Nat → Int32}
theorem X_stl49 {post : Int32 → SX → Prop} {w q : Nat} (hw : w < 5) (hq : q < 96) (h1 : (∃ k, k < 5 ∧ k ≠ w ∧ ho k = nI q) → post (-1) (xH, fS, pR, xS, xD, xN, xC, xL, xB, xK, wo, be, dr, ho, op, ar, le, xk, xc, xl, xb, xs, xa)) (h0 : ¬ (∃ k, k < 5 ∧ k ≠ w ∧ ho k = nI q) → wpX_prepare (fun u => post (nI q) u) (xH, fS, pR, xS, xD, xN, xC, xL, xB, xK, wo, be, dr, upd ho w (nI q), op, ar, le, xk, xc, xl, xb, xs, xa)) : ∀ e k, k + e = 5 → (∀ j, j < k → j ≠ w → ¬ ho j = nI q) → wX_start_49 post (nI w) (nI q) xH fS pR xS xD xN xC xL xB xK wo be dr ho op ar le xk xc xl xb xs xa (e + 1) (nI k) := by
  intro e
  induction e with
  | zero =>
    intro k hk hn
    obtain rfl : k = 5 := by omega
    refine br_t (by decide) ?_
    rw [v8s (by omega)]
    exact yw w rfl hw (by decide) (h0 (fun ⟨j, j1, j2, j3⟩ => hn j j1 j2 j3))
  | succ e ih =>
    intro k hk hn
    refine br_f (nI_ge (b := 5) (by omega) (by decide)) ⟨fun z => nm_r (nI_1 k) (ih (k + 1) (by omega) (fun j j1 j2 => ?_)), fun z => ⟨vp_in_nI (by omega) (by decide), ?_⟩⟩
    · have hkw : k = w := (nI_eq (by omega) (by omega)).mp z
      exact hn j (by omega) j2
    · rw [ye (f := ho) k rfl (by omega) rfl]
      refine ⟨fun z2 => h1 ⟨k, by omega, fun e => z (by rw [e]), z2⟩, fun z2 => nm_r (nI_1 k) (ih (k + 1) (by omega) (fun j j1 j2 => ?_))⟩
      by_cases e2 : j = k
      · subst e2; exact z2
      · exact hn j (by omega) j2
end
section
variable {fS pR yL yF yK yC yS : Int32} {dr ho op ar le yk yl yf yr fd pl di sh sc aw nx aO bO bu tu ow : Nat → Int32}
theorem Y_stl37 {post : Int32 → SY → Prop} {w q : Nat} (hw : w < 5) (hq : q < 96) (h1 : (∃ k, k < 5 ∧ k ≠ w ∧ ho k = nI q) → post (-1) (fS, pR, yL, yF, yK, yC, yS, dr, ho, op, ar, le, yk, yl, yf, yr, fd, pl, di, sh, sc, aw, nx, aO, bO, bu, tu, ow)) (h0 : ¬ (∃ k, k < 5 ∧ k ≠ w ∧ ho k = nI q) → post (nI q) (fS, pR, yL, yF, yK, yC, yS, dr, upd ho w (nI q), op, ar, le, yk, yl, yf, yr, fd, pl, di, sh, sc, aw, nx, aO, bO, bu, tu, ow)) : ∀ e k, k + e = 5 → (∀ j, j < k → j ≠ w → ¬ ho j = nI q) → wY_start_37 post (nI w) (nI q) fS pR yL yF yK yC yS dr ho op ar le yk yl yf yr fd pl di sh sc aw nx aO bO bu tu ow (e + 1) (nI k) := by
  intro e
  induction e with
  | zero =>
    intro k hk hn
    obtain rfl : k = 5 := by omega
    exact br_t (by decide) (yw w rfl hw (by decide) (h0 (fun ⟨j, j1, j2, j3⟩ => hn j j1 j2 j3)))
  | succ e ih =>
    intro k hk hn
    refine br_f (nI_ge (b := 5) (by omega) (by decide)) ⟨fun z => nm_r (nI_1 k) (ih (k + 1) (by omega) (fun j j1 j2 => ?_)), fun z => ⟨vp_in_nI (by omega) (by decide), ?_⟩⟩
    · have hkw : k = w := (nI_eq (by omega) (by omega)).mp z
      exact hn j (by omega) j2
    · rw [ye (f := ho) k rfl (by omega) rfl]
      refine ⟨fun z2 => h1 ⟨k, by omega, fun e => z (by rw [e]), z2⟩, fun z2 => nm_r (nI_1 k) (ih (k + 1) (by omega) (fun j j1 j2 => ?_))⟩
      by_cases e2 : j = k
      · subst e2; exact z2
      · exact hn j (by omega) j2
theorem Y_start_no {post : Int32 → SY → Prop} {w x y : Int32} (h : ¬ (pR = 0 ∧ (0 ≤ w ∧ w ≤ 4) ∧ (0 ≤ x ∧ x ≤ 11) ∧ (0 ≤ y ∧ y ≤ 7))) (hp : post (-1) (fS, pR, yL, yF, yK, yC, yS, dr, ho, op, ar, le, yk, yl, yf, yr, fd, pl, di, sh, sc, aw, nx, aO, bO, bu, tu, ow)) : wpY_start post (fS, pR, yL, yF, yK, yC, yS, dr, ho, op, ar, le, yk, yl, yf, yr, fd, pl, di, sh, sc, aw, nx, aO, bO, bu, tu, ow) w x y := by
  unfold wpY_start
  exact ⟨fun z0 => ⟨fun _ => hp, fun z1 => ⟨fun _ => hp, fun z2 => Y_insideR (fun z3 => absurd ⟨z0, ⟨nrl z1, Int32.not_lt.mp z2⟩, z3.1, z3.2⟩ h) (fun _ => br_t rfl hp)⟩⟩, fun _ => hp⟩
theorem Y_start_yes {post : Int32 → SY → Prop} {w a b : Nat} (hw : w < 5) (ha : a < 12) (hb : b < 8) (hp : ∃ n, wY_start_37 post (nI w) (nI (12 * b + a)) fS 0 yL yF yK yC yS dr ho op ar le yk yl yf yr fd pl di sh sc aw nx aO bO bu tu ow n 0) : wpY_start post (fS, 0, yL, yF, yK, yC, yS, dr, ho, op, ar, le, yk, yl, yf, yr, fd, pl, di, sh, sc, aw, nx, aO, bO, bu, tu, ow) (nI w) (nI a) (nI b) := by
  unfold wpY_start
  exact br_t rfl (br_f (nI_pos (by omega)) (br_f (nI_nlt (b := w) (a := 4) (by omega) (by decide)) (Y_insideR (fun _ => br_f (by decide) (nm_r nI_cell hp)) (fun z => absurd ⟨⟨nI_pos' (by omega), nI_le (b := 11) (by omega) (by decide)⟩, ⟨nI_pos' (by omega), nI_le (b := 7) (by omega) (by decide)⟩⟩ z))))
end
theorem c_start {k : Nat} {P Su D N Ch Ln Bn : Nat} {xH fS bk yC yS : Int32} {wo be dr ho op ar le xk xc xl xb xs xa yk yl yf yr fd pl di sh sc aw nx aO bO bu tu ow : Nat → Int32} (H : RL dr ho op ar le fS yk xk xc wo xl yl xb yf P Su D N Ch Ln Bn) (v1 v2 v3 : Int32) : wpX_start (fun r u' => wpY_start (fun r' v' => r' = r ∧ i_Rel (k + 4) u' v') (fS, nI P, nI Ln, nI Bn, bk, yC, yS, dr, ho, op, ar, le, yk, yl, yf, yr, fd, pl, di, sh, sc, aw, nx, aO, bO, bu, tu, ow) v1 v2 v3) (xH, fS, nI P, nI Su, nI D, nI N, nI Ch, nI Ln, nI Bn, bk, wo, be, dr, ho, op, ar, le, xk, xc, xl, xb, xs, xa) v1 v2 v3 := by
  have no : ¬ (nI P = 0 ∧ (0 ≤ v1 ∧ v1 ≤ 4) ∧ (0 ≤ v2 ∧ v2 ≤ 11) ∧ (0 ≤ v3 ∧ v3 ≤ 7)) → wpY_start (fun r' v' => r' = -1 ∧ i_Rel (k + 4) (xH, fS, nI P, nI Su, nI D, nI N, nI Ch, nI Ln, nI Bn, bk, wo, be, dr, ho, op, ar, le, xk, xc, xl, xb, xs, xa) v') (fS, nI P, nI Ln, nI Bn, bk, yC, yS, dr, ho, op, ar, le, yk, yl, yf, yr, fd, pl, di, sh, sc, aw, nx, aO, bO, bu, tu, ow) v1 v2 v3 := fun h => Y_start_no h ⟨rfl, zz_in H⟩
  have H0 := H
  obtain ⟨C, K, hC, hS, R, hL, hB⟩ := H
  unfold wpX_start
  by_cases hP : 0 < P
  · have hP2 : P < 2 ^ 31 := by have := R.1; omega
    exact br_t (nI_lt (a := 0) hP hP2) (no (fun z => nI_ne0 hP hP2 z.1))
  · obtain rfl : P = 0 := by omega
    obtain ⟨rfl, rfl, rfl, R0⟩ := rg0 R
    refine br_f (by decide) (X_outside (fun a1 => br_t rfl (X_outside (fun a2 => br_t rfl (X_outside (fun a3 => br_t rfl ?_) (fun a3 => br_f (by decide) (no (fun z => a3 z.2.2.2))))) (fun a2 => br_f (by decide) (no (fun z => a2 z.2.2.1))))) (fun a1 => br_f (by decide) (no (fun z => a1 z.2.1))))
    obtain ⟨w, _, hw, rfl⟩ := rng (a := 0) (b := 4) rfl rfl a1
    obtain ⟨a, _, ha, rfl⟩ := rng (a := 0) (b := 11) rfl rfl a2
    obtain ⟨b, _, hb, rfl⟩ := rng (a := 0) (b := 7) rfl rfl a3
    refine nm_r nI_cell ⟨6, X_stl49 (by omega) (by omega) (fun hh => ?_) (fun hh => ?_) 5 0 rfl (fun j hj => absurd hj (by omega))⟩
    · exact Y_start_yes (by omega) (by omega) (by omega) ⟨6, Y_stl37 (by omega) (by omega) (fun _ => ⟨rfl, zz_in H0⟩) (fun z => absurd hh z) 5 0 rfl (fun j hj => absurd hj (by omega))⟩
    · have C2 : cG (upd ho w (nI (12 * b + a))) op ar le := by
        refine ⟨fun k hk => ?_, C.2.1, C.2.2⟩
        by_cases e : k = w
        · subst e; exact ⟨12 * b + a, by omega, pk_us⟩
        · rw [pk_un e]; exact C.1 k hk
      refine X_prep0 (yk := yk) R0 C C2 (fun wo1 R1 => ?_)
      exact Y_start_yes (by omega) (by omega) (by omega) ⟨6, Y_stl37 (by omega) (by omega) (fun z => absurd z hh) (fun _ => ⟨rfl, zz_in ⟨C2, K, hC, hS, R1, hL, hB⟩⟩) 5 0 rfl (fun j hj => absurd hj (by omega))⟩
theorem i_vc_start {k : Nat} {u : SX} {v : SY} (I : i_Rel k u v) (hk : k + 4 ≤ 2049) (v1 : Int32) (v2 : Int32) (v3 : Int32) : wpX_start (fun r u' => wpY_start (fun r' v' => r' = r ∧ i_Rel (k + 4) u' v') v v1 v2 v3) u v1 v2 v3 := by
  refine zz_el (M := fun u v => wpX_start (fun r u' => wpY_start (fun r' v' => r' = r ∧ i_Rel (k + 4) u' v') v v1 v2 v3) u v1 v2 v3) I ?_
  intro P Su D N Ch Ln Bn xH fS bk yC yS wo be dr ho op ar le xk xc xl xb xs xa yk yl yf yr fd pl di sh sc aw nx aO bO bu tu ow H
  exact c_start H v1 v2 v3
end
section
/-! program -/
theorem cG_pr {ho op ar le : Nat → Int32} {d o l : Nat} {a : Int32} (C : cG ho op ar le) (hd : d < 2) (h12 : o ≤ 12) (el : le d = nI l) (hl : l < 12) (g1 : (o = 10 ∨ o = 11) → ∃ t, t ≤ 11 ∧ a = nI t) (g2 : o = 4 → ∃ t, t ≤ 2 ∧ a = nI t) : cG ho (upd op (12 * d + l) (nI o)) (upd ar (12 * d + l) a) (upd le d (nI (l + 1))) := by
  have e1 : lNn (upd le d (nI (l + 1))) d = l + 1 := by
    unfold lNn
    rw [pk_us, nI_clamp (by omega)]
  have e2 : ∀ k, k ≠ d → lNn (upd le d (nI (l + 1))) k = lNn le k := by
    intro k hk
    unfold lNn
    rw [pk_un hk]
  have e3 : lNn le d = l := by
    unfold lNn
    rw [el, nI_clamp (by omega)]
  refine ⟨C.1, fun k hk => ?_, fun k hk p hp => ?_⟩
  · by_cases e : k = d
    · subst e
      rw [e1, pk_us]
      exact ⟨rfl, by omega⟩
    · rw [e2 k e, pk_un e]
      exact C.2.1 k hk
  · by_cases e : k = d
    · subst e
      rw [e1] at hp
      by_cases e4 : p = l
      · subst e4
        exact ⟨o, h12, pk_us, fun z => by rw [pk_us]; exact g1 z, fun z => by rw [pk_us]; exact g2 z⟩
      · rw [pk_un (by omega), pk_un (by omega)]
        exact C.2.2 k hk p (by rw [e3]; omega)
    · rw [e2 k e] at hp
      have := (C.2.1 k hk).2
      rw [pk_un (by omega), pk_un (by omega)]
      exact C.2.2 k hk p hp
section
variable {xH fS pR xS xD xN xC xL xB xK : Int32} {wo be dr ho op ar le xk xc xl xb xs xa : Nat → Int32}
theorem X_p85 {post : Int32 → SX → Prop} {d o l : Nat} {a : Int32} (hd : d < 2) (h12 : o ≤ 12) (el : le d = nI l) (hl : l < 12) (hp : wpX_prepare (fun u => match u with | (xH, fS, pR, xS, xD, xN, xC, xL, xB, xK, wo, be, dr, ho, op, ar, le, xk, xc, xl, xb, xs, xa) => vp_in (nI d) 2 ∧ post (le (nI d).toNatClampNeg) (xH, fS, pR, xS, xD, xN, xC, xL, xB, xK, wo, be, dr, ho, op, ar, le, xk, xc, xl, xb, xs, xa)) (xH, fS, pR, xS, xD, xN, xC, xL, xB, xK, wo, be, dr, ho, upd op (12 * d + l) (nI o), upd ar (12 * d + l) a, upd le d (nI (l + 1)), xk, xc, xl, xb, xs, xa)) : wX_program_85 post (nI d) (nI o) a xH fS pR xS xD xN xC xL xB xK wo be dr ho op ar le xk xc xl xb xs xa := by
  have i2 : vp_in (nI d) 2 := vp_in_nI hd (by decide)
  unfold wX_program_85
  rw [ye d rfl (by omega) el, nI_1 l, v8s (by omega), v8s (by omega)]
  exact ⟨i2, yw d rfl hd (by decide) (nm_r (ad_o d l) (yw _ rfl (by omega) (by decide) (yw _ rfl (by omega) (by decide) hp)))⟩
end
section
variable {fS pR yL yF yK yC yS : Int32} {dr ho op ar le yk yl yf yr fd pl di sh sc aw nx aO bO bu tu ow : Nat → Int32}
theorem Y_p77 {post : Int32 → SY → Prop} {d o l : Nat} {a : Int32} (hd : d < 2) (el : le d = nI l) (hl : l < 12) (hp : post (nI (l + 1)) (fS, pR, yL, yF, yK, yC, yS, dr, ho, upd op (12 * d + l) (nI o), upd ar (12 * d + l) a, upd le d (nI (l + 1)), yk, yl, yf, yr, fd, pl, di, sh, sc, aw, nx, aO, bO, bu, tu, ow)) : wY_program_77 post (nI d) (nI o) a fS pR yL yF yK yC yS dr ho op ar le yk yl yf yr fd pl di sh sc aw nx aO bO bu tu ow := by
  have i2 : vp_in (nI d) 2 := vp_in_nI hd (by decide)
  unfold wY_program_77
  rw [ye d rfl (by omega) el, nI_1 l]
  refine ⟨i2, yw _ (ad_o d l) (by omega) (by decide) ⟨i2, yw d rfl hd (by decide) (yw _ (ad_o d l) (by omega) (by decide) ⟨i2, ?_⟩)⟩⟩
  rw [ye d rfl (by omega) pk_us]
  exact hp
theorem Y_prog_no {post : Int32 → SY → Prop} {p0 p1 p2 : Int32} (h : ¬ (pR = 0 ∧ (0 ≤ p0 ∧ p0 ≤ 1) ∧ (0 ≤ p1 ∧ p1 ≤ 12))) (hp : post (-1) (fS, pR, yL, yF, yK, yC, yS, dr, ho, op, ar, le, yk, yl, yf, yr, fd, pl, di, sh, sc, aw, nx, aO, bO, bu, tu, ow)) : wpY_program post (fS, pR, yL, yF, yK, yC, yS, dr, ho, op, ar, le, yk, yl, yf, yr, fd, pl, di, sh, sc, aw, nx, aO, bO, bu, tu, ow) p0 p1 p2 := by
  unfold wpY_program
  refine ⟨fun z0 => ⟨fun _ => hp, fun z1 => ⟨fun _ => hp, fun z2 => ⟨?_, fun _ => hp, fun _ => ⟨fun _ => hp, fun z3 => ⟨fun z4 => absurd ⟨z0, ⟨nrl z1, Int32.not_lt.mp z2⟩, ⟨nrl z3, z4⟩⟩ h, fun _ => hp⟩⟩⟩⟩⟩, fun _ => hp⟩
  obtain ⟨j, _, hj, rfl⟩ := rng (a := 0) (b := 1) rfl rfl ⟨nrl z1, Int32.not_lt.mp z2⟩
  exact vp_in_nI (by omega) (by decide)
theorem Y_prog_in {post : Int32 → SY → Prop} {d o l : Nat} {a : Int32} (hd : d < 2) (h12 : o ≤ 12) (el : le d = nI l) (hl : l ≤ 12) (h1 : l = 12 → post (-1) (fS, 0, yL, yF, yK, yC, yS, dr, ho, op, ar, le, yk, yl, yf, yr, fd, pl, di, sh, sc, aw, nx, aO, bO, bu, tu, ow)) (hp : l < 12 → ((nI o = 10 → wY_program_51 post (nI d) (nI o) a fS 0 yL yF yK yC yS dr ho op ar le yk yl yf yr fd pl di sh sc aw nx aO bO bu tu ow) ∧ (¬ nI o = 10 → ((nI o = 11 → wY_program_51 post (nI d) (nI o) a fS 0 yL yF yK yC yS dr ho op ar le yk yl yf yr fd pl di sh sc aw nx aO bO bu tu ow) ∧ (¬ nI o = 11 → wY_program_61 post (nI d) (nI o) a fS 0 yL yF yK yC yS dr ho op ar le yk yl yf yr fd pl di sh sc aw nx aO bO bu tu ow))))) : wpY_program post (fS, 0, yL, yF, yK, yC, yS, dr, ho, op, ar, le, yk, yl, yf, yr, fd, pl, di, sh, sc, aw, nx, aO, bO, bu, tu, ow) (nI d) (nI o) a := by
  unfold wpY_program
  refine br_t rfl (br_f (nI_pos (by omega)) (br_f (nI_nlt (a := 1) (by omega) (by decide)) ⟨vp_in_nI hd (by decide), ?_⟩))
  rw [ye d rfl (by omega) el]
  exact ⟨fun z => h1 ((nI_eq (b := 12) (by omega) (by decide)).mp z), fun z => br_f (nI_pos (by omega)) (br_t (nI_le (b := 12) h12 (by decide)) (hp (by
    have : l ≠ 12 := fun e => z (by rw [e]; rfl)
    omega)))⟩
end
theorem c_program {k : Nat} {P Su D N Ch Ln Bn : Nat} {xH fS bk yC yS : Int32} {wo be dr ho op ar le xk xc xl xb xs xa yk yl yf yr fd pl di sh sc aw nx aO bO bu tu ow : Nat → Int32} (H : RL dr ho op ar le fS yk xk xc wo xl yl xb yf P Su D N Ch Ln Bn) (v1 v2 v3 : Int32) : wpX_program (fun r u' => wpY_program (fun r' v' => r' = r ∧ i_Rel (k + 4) u' v') (fS, nI P, nI Ln, nI Bn, bk, yC, yS, dr, ho, op, ar, le, yk, yl, yf, yr, fd, pl, di, sh, sc, aw, nx, aO, bO, bu, tu, ow) v1 v2 v3) (xH, fS, nI P, nI Su, nI D, nI N, nI Ch, nI Ln, nI Bn, bk, wo, be, dr, ho, op, ar, le, xk, xc, xl, xb, xs, xa) v1 v2 v3 := by
  have no : ¬ (nI P = 0 ∧ (0 ≤ v1 ∧ v1 ≤ 1) ∧ (0 ≤ v2 ∧ v2 ≤ 12)) → wpY_program (fun r' v' => r' = -1 ∧ i_Rel (k + 4) (xH, fS, nI P, nI Su, nI D, nI N, nI Ch, nI Ln, nI Bn, bk, wo, be, dr, ho, op, ar, le, xk, xc, xl, xb, xs, xa) v') (fS, nI P, nI Ln, nI Bn, bk, yC, yS, dr, ho, op, ar, le, yk, yl, yf, yr, fd, pl, di, sh, sc, aw, nx, aO, bO, bu, tu, ow) v1 v2 v3 := fun h => Y_prog_no h ⟨rfl, zz_in H⟩
  have H0 := H
  obtain ⟨C, K, hC, hS, R, hL, hB⟩ := H
  unfold wpX_program
  by_cases hP : 0 < P
  · have hP2 : P < 2 ^ 31 := by have := R.1; omega
    exact br_t (nI_lt (a := 0) hP hP2) (no (fun z => nI_ne0 hP hP2 z.1))
  · obtain rfl : P = 0 := by omega
    obtain ⟨rfl, rfl, rfl, R0⟩ := rg0 R
    refine br_f (by decide) (X_outside (fun a1 => br_t rfl (X_outside (fun a2 => br_t rfl ?_) (fun a2 => br_f (by decide) (no (fun z => a2 z.2.2))))) (fun a1 => br_f (by decide) (no (fun z => a1 z.2.1))))
    obtain ⟨d, _, hd, rfl⟩ := rng (a := 0) (b := 1) rfl rfl a1
    obtain ⟨o, _, ho12, rfl⟩ := rng (a := 0) (b := 12) rfl rfl a2
    obtain ⟨el, hl⟩ := C.2.1 d (by omega)
    obtain ⟨l, el2⟩ : ∃ l, lNn le d = l := ⟨_, rfl⟩
    rw [el2] at el hl
    refine ⟨vp_in_nI (by omega) (by decide), ?_⟩
    rw [ye d rfl (by omega) el]
    by_cases h12 : l = 12
    · subst h12
      exact br_t (by decide) (Y_prog_in (by omega) ho12 el hl (fun _ => ⟨rfl, zz_in H0⟩) (fun z => absurd z (by omega)))
    · refine br_f (fun z => h12 ((nI_eq (b := 12) (by omega) (by decide)).mp z)) ?_
      have hlt : l < 12 := by omega
      have yes : ((o = 10 ∨ o = 11) → ∃ t, t ≤ 11 ∧ v3 = nI t) → (o = 4 → ∃ t, t ≤ 2 ∧ v3 = nI t) → wX_program_85 (fun r u' => wpY_program (fun r' v' => r' = r ∧ i_Rel (k + 4) u' v') (fS, nI 0, nI Ln, nI Bn, bk, yC, yS, dr, ho, op, ar, le, yk, yl, yf, yr, fd, pl, di, sh, sc, aw, nx, aO, bO, bu, tu, ow) (nI d) (nI o) v3) (nI d) (nI o) v3 xH fS (nI 0) (nI Su) (nI 1) (nI 0) (nI 0) (nI Ln) (nI Bn) bk wo be dr ho op ar le xk xc xl xb xs xa := by
        intro g1 g2
        have C2 := cG_pr C (by omega) ho12 el hlt g1 g2
        refine X_p85 (by omega) ho12 el hlt (X_prep0 (yk := yk) R0 C C2 (fun wo1 R1 => ⟨vp_in_nI (by omega) (by decide), ?_⟩))
        rw [ye d rfl (by omega) pk_us]
        have y77 : wY_program_77 (fun r' v' => r' = nI (l + 1) ∧ i_Rel (k + 4) (xH, fS, nI 0, nI Su, 1, 0, nI 0, nI Ln, nI Bn, bk, wo1, be, dr, ho, upd op (12 * d + l) (nI o), upd ar (12 * d + l) v3, upd le d (nI (l + 1)), xk, xc, xl, xb, xs, xa) v') (nI d) (nI o) v3 fS (nI 0) (nI Ln) (nI Bn) bk yC yS dr ho op ar le yk yl yf yr fd pl di sh sc aw nx aO bO bu tu ow := Y_p77 (by omega) el hlt ⟨rfl, zz_in ⟨C2, K, hC, hS, R1, hL, hB⟩⟩
        refine Y_prog_in (by omega) ho12 el hl (fun z => absurd z (by omega)) (fun _ => ?_)
        have y61 : wY_program_61 (fun r' v' => r' = nI (l + 1) ∧ i_Rel (k + 4) (xH, fS, nI 0, nI Su, 1, 0, nI 0, nI Ln, nI Bn, bk, wo1, be, dr, ho, upd op (12 * d + l) (nI o), upd ar (12 * d + l) v3, upd le d (nI (l + 1)), xk, xc, xl, xb, xs, xa) v') (nI d) (nI o) v3 fS (nI 0) (nI Ln) (nI Bn) bk yC yS dr ho op ar le yk yl yf yr fd pl di sh sc aw nx aO bO bu tu ow := by
          refine ⟨fun z => ?_, fun _ => y77⟩
          obtain ⟨t, ht, e⟩ := g2 ((nI_eq (b := 4) (by omega) (by decide)).mp z)
          rw [e] at y77 ⊢
          exact br_f (nI_pos (by omega)) (br_t (nI_le (b := 2) ht (by decide)) y77)
        have y51 : (o = 10 ∨ o = 11) → wY_program_51 (fun r' v' => r' = nI (l + 1) ∧ i_Rel (k + 4) (xH, fS, nI 0, nI Su, 1, 0, nI 0, nI Ln, nI Bn, bk, wo1, be, dr, ho, upd op (12 * d + l) (nI o), upd ar (12 * d + l) v3, upd le d (nI (l + 1)), xk, xc, xl, xb, xs, xa) v') (nI d) (nI o) v3 fS (nI 0) (nI Ln) (nI Bn) bk yC yS dr ho op ar le yk yl yf yr fd pl di sh sc aw nx aO bO bu tu ow := by
          intro z
          obtain ⟨t, ht, e⟩ := g1 z
          rw [e] at y61 ⊢
          exact br_f (nI_pos (by omega)) (br_f (nI_nlt (a := 11) ht (by decide)) y61)
        exact ⟨fun z => y51 (Or.inl ((nI_eq (b := 10) (by omega) (by decide)).mp z)), fun _ => ⟨fun z => y51 (Or.inr ((nI_eq (b := 11) (by omega) (by decide)).mp z)), fun _ => y61⟩⟩
      by_cases hj : o = 10 ∨ o = 11
      · have key : wX_program_51 (fun r u' => wpY_program (fun r' v' => r' = r ∧ i_Rel (k + 4) u' v') (fS, nI 0, nI Ln, nI Bn, bk, yC, yS, dr, ho, op, ar, le, yk, yl, yf, yr, fd, pl, di, sh, sc, aw, nx, aO, bO, bu, tu, ow) (nI d) (nI o) v3) (nI d) (nI o) v3 xH fS (nI 0) (nI Su) (nI 1) (nI 0) (nI 0) (nI Ln) (nI Bn) bk wo be dr ho op ar le xk xc xl xb xs xa := by
          refine br_f (by decide) (X_outside (fun a3 => br_t rfl (yes (fun _ => ?_) (fun z => absurd z (by omega)))) (fun a3 => br_f (by decide) ?_))
          · obtain ⟨t, _, ht, e⟩ := rng (a := 0) (b := 11) rfl rfl a3
            exact ⟨t, ht, e⟩
          · have y51 : wY_program_51 (fun r' v' => r' = -1 ∧ i_Rel (k + 4) (xH, fS, nI 0, nI Su, nI 1, nI 0, nI 0, nI Ln, nI Bn, bk, wo, be, dr, ho, op, ar, le, xk, xc, xl, xb, xs, xa) v') (nI d) (nI o) v3 fS (nI 0) (nI Ln) (nI Bn) bk yC yS dr ho op ar le yk yl yf yr fd pl di sh sc aw nx aO bO bu tu ow := ⟨fun _ => ⟨rfl, zz_in H0⟩, fun z => ⟨fun _ => ⟨rfl, zz_in H0⟩, fun z2 => absurd ⟨nrl z, Int32.not_lt.mp z2⟩ a3⟩⟩
            refine Y_prog_in (by omega) ho12 el hl (fun z => absurd z (by omega)) (fun _ => ⟨fun _ => y51, fun z => ⟨fun _ => y51, fun z2 => ?_⟩⟩)
            rcases hj with rfl | rfl
            · exact absurd rfl z
            · exact absurd rfl z2
        exact ⟨fun _ => key, fun z => ⟨fun _ => key, fun z2 => by
          rcases hj with rfl | rfl
          · exact absurd rfl z
          · exact absurd rfl z2⟩⟩
      · refine br_f (fun z => hj (Or.inl ((nI_eq (b := 10) (by omega) (by decide)).mp z))) (br_f (fun z => hj (Or.inr ((nI_eq (b := 11) (by omega) (by decide)).mp z))) ⟨fun z => ?_, fun z => ?_⟩)
        · have h4 : o = 4 := (nI_eq (b := 4) (by omega) (by decide)).mp z
          refine br_f (by decide) (X_outside (fun a3 => br_t rfl (yes (fun z => absurd z hj) (fun _ => ?_))) (fun a3 => br_f (by decide) ?_))
          · obtain ⟨t, _, ht, e⟩ := rng (a := 0) (b := 2) rfl rfl a3
            exact ⟨t, ht, e⟩
          · refine Y_prog_in (by omega) ho12 el hl (fun z => absurd z (by omega)) (fun _ => br_f (fun z => hj (Or.inl ((nI_eq (b := 10) (by omega) (by decide)).mp z))) (br_f (fun z => hj (Or.inr ((nI_eq (b := 11) (by omega) (by decide)).mp z))) (br_t z ⟨fun _ => ⟨rfl, zz_in H0⟩, fun z1 => ⟨fun z2 => absurd ⟨nrl z1, z2⟩ a3, fun _ => ⟨rfl, zz_in H0⟩⟩⟩)))
        · exact br_t (by decide) (yes (fun z => absurd z hj) (fun z4 => absurd (by rw [z4]; rfl) z))
theorem i_vc_program {k : Nat} {u : SX} {v : SY} (I : i_Rel k u v) (hk : k + 4 ≤ 2049) (v1 : Int32) (v2 : Int32) (v3 : Int32) : wpX_program (fun r u' => wpY_program (fun r' v' => r' = r ∧ i_Rel (k + 4) u' v') v v1 v2 v3) u v1 v2 v3 := by
  refine zz_el (M := fun u v => wpX_program (fun r u' => wpY_program (fun r' v' => r' = r ∧ i_Rel (k + 4) u' v') v v1 v2 v3) u v1 v2 v3) I ?_
  intro P Su D N Ch Ln Bn xH fS bk yC yS wo be dr ho op ar le xk xc xl xb xs xa yk yl yf yr fd pl di sh sc aw nx aO bO bu tu ow H
  exact c_program H v1 v2 v3
/-! the constructors -/
section
variable {fS pR yL yF yK yC yS : Int32} {dr ho op ar le yk yl yf yr fd pl di sh sc aw nx aO bO bu tu ow : Nat → Int32}
theorem Y_in202 {post : SY → Prop} {f0 : Nat → Int32} (hp : post (fS, pR, yL, yF, yK, yC, yS, dr, ho, op, ar, le, pf (fun _ => -1) f0 381, yl, yf, yr, fd, pl, di, sh, sc, aw, nx, aO, bO, bu, tu, ow)) : ∀ e k, k + e = 381 → wY_init_202 post fS pR yL yF yK yC yS (e + 1) (nI k) dr ho op ar le (pf (fun _ => -1) f0 k) yl yf yr fd pl di sh sc aw nx aO bO bu tu ow := by
  intro e
  induction e with
  | zero =>
    intro k hk
    obtain rfl : k = 381 := by omega
    exact br_t (by decide) hp
  | succ e ih =>
    intro k hk
    refine br_f (nI_ge (b := 381) (by omega) (by decide)) (yw k rfl (by omega) (by decide) (nm_r (nI_1 k) ?_))
    have e1 := pf_s (fun _ => -1) f0 k
    rw [e1]
    exact ih (k + 1) (by omega)
end
theorem gs_un {yk : Nat → Int32} {p : Nat} (h : ∀ f, 0 < f → f < 127 → yk (127 * p + f) < 0) : ∀ f, f < 127 → gs yk p f = 0 := by
  intro f
  induction f with
  | zero => intro _; rfl
  | succ f ih =>
    intro hf
    rw [gs, if_pos (h (f + 1) (by omega) hf)]
    exact ih (by omega)
theorem i_vc0 (k0 : Int32) : wpX_init (fun u => wpY_init (fun v => i_Rel 1 u v) k0) k0 := by
  obtain ⟨h5, e5⟩ : ∃ h5 : Nat → Int32, h5 = upd (upd (upd (upd (fun _ => 0) 1 11) 2 84) 3 95) 4 41 := ⟨_, rfl⟩
  have n1 : vp_nar .byte 11 = 11 := by rw [vp_nar_byte]; decide
  have n2 : vp_nar .byte 84 = 84 := by rw [vp_nar_byte]; decide
  have n3 : vp_nar .byte 95 = 95 := by rw [vp_nar_byte]; decide
  have n4 : vp_nar .byte 41 = 41 := by rw [vp_nar_byte]; decide
  have C : cG h5 (fun _ => 0) (fun _ => 0) (fun _ => 0) := by
    have z0 : ∀ k, lNn (fun _ => 0) k = 0 := fun k => sb_cl0
    refine ⟨fun k hk => ?_, fun k hk => ⟨by rw [z0]; rfl, by rw [z0]; omega⟩, fun k hk p hp => absurd hp (by rw [z0]; omega)⟩
    subst e5
    have : k = 0 ∨ k = 1 ∨ k = 2 ∨ k = 3 ∨ k = 4 := by omega
    rcases this with rfl | rfl | rfl | rfl | rfl
    · exact ⟨0, by decide, rfl⟩
    · exact ⟨11, by decide, rfl⟩
    · exact ⟨84, by decide, rfl⟩
    · exact ⟨95, by decide, rfl⟩
    · exact ⟨41, by decide, rfl⟩
  unfold wpX_init
  rw [n1, n2, n3, n4]
  refine nm_e (nm_e (nm_e (nm_r e5.symm ?_)))
  have ez : (fun _ => 0 : Nat → Int32) = zput (fun _ => 0) 0 (fun _ => 0) := zp_id (fun _ _ => rfl)
  have h0 : slt (zput (fun _ => 0) 0 (cI (fun _ => 0) h5 (fun _ => 0) k0)) 0 = cI (fun _ => 0) h5 (fun _ => 0) k0 := slt_put (f := 0) (fun j hj => cI_z C (by omega) (wfr_lit (by omega)))
  have key : wpX_prepare (fun u => wpY_init (fun v => i_Rel 1 u v) k0) (0, k0, 0, 0, 1, 0, 0, 0, 0, -1, zput (fun _ => 0) 0 (fun _ => 0), fun _ => 0, fun _ => 0, h5, fun _ => 0, fun _ => 0, fun _ => 0, fun _ => 0, fun _ => 0, fun _ => 0, fun _ => 0, fun _ => 0, fun _ => 0) := by
    refine X_prepare C (fun _ _ _ => rfl) ?_
    unfold wpY_init
    have u0 : upd (fun _ => 0) 0 0 = (fun _ => 0 : Nat → Int32) := by
      funext j
      unfold upd
      split <;> rfl
    rw [u0]
    have kk : ∀ p f, p < 3 → 0 < f → f < 127 → pf (fun _ => -1) (fun _ => 0) 381 (127 * p + f) = -1 := fun p f h1 h2 h3 => if_pos (by omega)
    refine nm_e (nm_e (nm_e (nm_e (nm_r e5.symm ⟨382, ?_⟩))))
    have k2 := Y_in202 (post := fun v => i_Rel 1 (0, k0, 0, 0, 1, 0, 0, 0, 0, -1, zput (fun _ => 0) 0 (cI (fun _ => 0) h5 (fun _ => 0) k0), fun _ => 0, fun _ => 0, h5, fun _ => 0, fun _ => 0, fun _ => 0, fun _ => 0, fun _ => 0, fun _ => 0, fun _ => 0, fun _ => 0, fun _ => 0) v) (fS := k0) (pR := 0) (yL := 0) (yF := 0) (yK := -1) (yC := 0) (yS := 0) (dr := fun _ => 0) (ho := h5) (op := fun _ => 0) (ar := fun _ => 0) (le := fun _ => 0) (yl := fun _ => 0) (yf := fun _ => 0) (yr := fun _ => 0) (fd := fun _ => 0) (pl := fun _ => 0) (di := fun _ => 0) (sh := fun _ => 0) (sc := fun _ => 0) (aw := fun _ => 0) (nx := fun _ => 0) (aO := fun _ => 0) (bO := fun _ => 0) (bu := fun _ => 0) (tu := fun _ => 0) (ow := fun _ => 0) (f0 := fun _ => 0)
      (zz_in (P := 0) (Su := 0) (D := 1) (N := 0) (Ch := 0) (Ln := 0) (Bn := 0) ⟨C, fun p f h1 h2 h3 => Or.inl (by rw [kk p f h1 h2 h3]; exact ngm1), fun p f h1 h2 h3 => ⟨?_, fun _ => by rw [kk p f h1 h2 h3]; exact ngm1, fun _ => rfl⟩, ⟨by omega, fun f h1 h2 => absurd h2 (by omega), fun _ => ⟨0, by decide, by rw [kk 0 1 (by decide) (by decide) (by decide)]; exact ngm1⟩⟩, ⟨by omega, by omega, by omega, by omega, by omega, by omega, fun g h1 h2 => ?_, fun g h1 h2 => absurd h2 (by omega)⟩, ⟨by omega, fun j hj => absurd hj (by omega)⟩, ⟨by omega, fun j hj => absurd hj (by omega)⟩⟩) 381 0 rfl
    · rw [pf_0] at k2
      exact k2
    · exact (gs_un (fun f h2 h3 => by rw [kk p f h1 h2 h3]; exact ngm1) f h3).symm
    · obtain rfl : g = 0 := by omega
      exact h0
  rw [← ez] at key
  exact key
end
section
theorem rdw {wo c : Nat → Int32} {g j : Nat} (h : slt wo g = c) (hj : j < 144) : wo (144 * (g % 16) + j) = c j := by
  have e := congrFun h j
  unfold slt zt at e
  rw [if_pos hj] at e
  exact e
theorem xrw {wo c : Nat → Int32} {g : Nat} {e : Int32} (j : Nat) (h : slt wo g = c) (hj : j < 144) (he : e = nI (144 * (g % 16) + j)) : vp_in e 2304 ∧ wo e.toNatClampNeg = c j := by
  subst he
  refine ⟨vp_in_nI (by omega) (by decide), ?_⟩
  rw [nI_clamp (by omega)]
  exact rdw h hj
section
variable {fS pR yL yF yK yC yS : Int32} {dr ho op ar le yk yl yf yr fd pl di sh sc aw nx aO bO bu tu ow : Nat → Int32}
theorem Y_ofP {post : Int32 → Prop} {c : Nat → Int32} {a b : Nat} (HR : rB c yS fd pl di sh sc aw nx aO bO) (ha : a < 3) (hb : b < 5) (hp : post (c (96 + 5 * a + b))) : wpY_ofPlayer post (fS, pR, yL, yF, yK, yC, yS, dr, ho, op, ar, le, yk, yl, yf, yr, fd, pl, di, sh, sc, aw, nx, aO, bO, bu, tu, ow) (nI a) (nI b) := by
  have i5 : vp_in (nI a) 5 := vp_in_nI (by omega) (by decide)
  have i3 : vp_in (nI a) 3 := vp_in_nI (by omega) (by decide)
  have h5 : b = 0 ∨ b = 1 ∨ b = 2 ∨ b = 3 ∨ b = 4 := by omega
  unfold wpY_ofPlayer
  rcases h5 with rfl | rfl | rfl | rfl | rfl
  · refine br_t (by decide) ⟨i5, ?_⟩
    rw [ye a rfl (by omega) (rB_rpl HR (by omega))]
    exact hp
  · refine br_f (by decide) (br_t (by decide) ⟨i5, ?_⟩)
    rw [ye a rfl (by omega) (rB_rdi HR (by omega)), show 97 + 5 * a = 96 + 5 * a + 1 by omega]
    exact hp
  · refine br_f (by decide) (br_f (by decide) (br_t (by decide) ⟨i3, ?_⟩))
    rw [ye a rfl (by omega) (rB_rsh HR (by omega)), show 98 + 5 * a = 96 + 5 * a + 2 by omega]
    exact hp
  · refine br_f (by decide) (br_f (by decide) (br_f (by decide) (br_t (by decide) ⟨i3, ?_⟩)))
    rw [ye a rfl (by omega) (rB_rsc HR (by omega)), show 99 + 5 * a = 96 + 5 * a + 3 by omega]
    exact hp
  · refine br_f (by decide) (br_f (by decide) (br_f (by decide) (br_f (by decide) ⟨i3, ?_⟩)))
    rw [ye a rfl (by omega) (rB_raw HR (by omega)), show 100 + 5 * a = 96 + 5 * a + 4 by omega]
    exact hp
theorem Y_ofD {post : Int32 → Prop} {c : Nat → Int32} {a b : Nat} (HR : rB c yS fd pl di sh sc aw nx aO bO) (ha : a < 2) (hb : b < 5) (hp : post (c (111 + 5 * a + b))) : wpY_ofDrone post (fS, pR, yL, yF, yK, yC, yS, dr, ho, op, ar, le, yk, yl, yf, yr, fd, pl, di, sh, sc, aw, nx, aO, bO, bu, tu, ow) (nI a) (nI b) := by
  have i5 : vp_in (3 + nI a) 5 := by rw [ad_3]; exact vp_in_nI (by omega) (by decide)
  have i2 : vp_in (nI a) 2 := vp_in_nI (by omega) (by decide)
  have h5 : b = 0 ∨ b = 1 ∨ b = 2 ∨ b = 3 ∨ b = 4 := by omega
  unfold wpY_ofDrone
  rcases h5 with rfl | rfl | rfl | rfl | rfl
  · refine br_t (by decide) ⟨i5, ?_⟩
    rw [ye (3 + a) (ad_3 a) (by omega) (rB_rpl3 HR ha)]
    exact hp
  · refine br_f (by decide) (br_t (by decide) ⟨i5, ?_⟩)
    rw [ye (3 + a) (ad_3 a) (by omega) (rB_rdi3 HR ha), show 112 + 5 * a = 111 + 5 * a + 1 by omega]
    exact hp
  · refine br_f (by decide) (br_f (by decide) (br_t (by decide) ⟨i2, ?_⟩))
    rw [ye a rfl (by omega) (rB_rnx HR (by omega)), show 113 + 5 * a = 111 + 5 * a + 2 by omega]
    exact hp
  · refine br_f (by decide) (br_f (by decide) (br_f (by decide) (br_t (by decide) ⟨i2, ?_⟩)))
    rw [ye a rfl (by omega) (rB_raO HR (by omega)), show 114 + 5 * a = 111 + 5 * a + 3 by omega]
    exact hp
  · refine br_f (by decide) (br_f (by decide) (br_f (by decide) (br_f (by decide) ⟨i2, ?_⟩)))
    rw [ye a rfl (by omega) (rB_rbO HR (by omega)), show 115 + 5 * a = 111 + 5 * a + 4 by omega]
    exact hp
end
/-- both sides ask for the present -/
theorem ask {k F : Nat} {P Su D N Ch Ln Bn : Nat} {xH fS bk yC yS : Int32} {wo be dr ho op ar le xk xc xl xb xs xa yk yl yf yr fd pl di sh sc aw nx aO bO bu tu ow : Nat → Int32} (H : RL dr ho op ar le fS yk xk xc wo xl yl xb yf P Su D N Ch Ln Bn) {post : SX → Prop} (hF : F ≤ P) (hF9 : P ≤ F + 15)
    (hp : ∀ wo1 be1 : Nat → Int32, slt wo1 P = St dr ho op ar le fS yk P → slt wo1 F = St dr ho op ar le fS yk F → vL (St dr ho op ar le fS yk P) → vL (St dr ho op ar le fS yk F) → (∀ {post2 : SY → Prop}, (∀ {yC1 yS1 : Int32} {fd1 pl1 di1 sh1 sc1 aw1 nx1 aO1 bO1 bu1 tu1 ow1 : Nat → Int32}, rY (St dr ho op ar le fS yk F) yC1 yS1 fd1 pl1 di1 sh1 sc1 aw1 nx1 aO1 bO1 bu1 tu1 ow1 → i_Rel k (nI (144 * (P % 16)), fS, nI P, nI Su, nI (P + 1), nI P, 0, nI Ln, nI Bn, bk, wo1, be1, dr, ho, op, ar, le, xk, xc, xl, xb, xs, xa) (fS, nI P, nI Ln, nI Bn, bk, yC1, yS1, dr, ho, op, ar, le, yk, yl, yf, yr, fd1, pl1, di1, sh1, sc1, aw1, nx1, aO1, bO1, bu1, tu1, ow1) → post2 (fS, nI P, nI Ln, nI Bn, bk, yC1, yS1, dr, ho, op, ar, le, yk, yl, yf, yr, fd1, pl1, di1, sh1, sc1, aw1, nx1, aO1, bO1, bu1, tu1, ow1)) → wpY_state post2 (fS, nI P, nI Ln, nI Bn, bk, yC, yS, dr, ho, op, ar, le, yk, yl, yf, yr, fd, pl, di, sh, sc, aw, nx, aO, bO, bu, tu, ow) (nI F)) → post (nI (144 * (P % 16)), fS, nI P, nI Su, nI (P + 1), nI P, 0, nI Ln, nI Bn, bk, wo1, be1, dr, ho, op, ar, le, xk, xc, xl, xb, xs, xa)) : wpX_settle post (xH, fS, nI P, nI Su, nI D, nI N, nI Ch, nI Ln, nI Bn, bk, wo, be, dr, ho, op, ar, le, xk, xc, xl, xb, xs, xa) := by
  obtain ⟨C, K, hC, hS, R, hL, hB⟩ := H
  have hP := R.1
  refine X_settle C K (fun p f h1 h2 h3 => (hC p f h1 h2 h3).1) R (fun wo1 be1 R1 hs => ?_)
  refine hp wo1 be1 (hs P (by omega) (by omega)) (hs F hF (by omega)) (St_ok C K P (by omega)).2.1 (St_ok C K F (by omega)).2.1 (fun {post2} h2 => ?_)
  exact Y_state C K (by omega) (fun HR => h2 HR (zz_in ⟨C, K, hC, hS, R1, hL, hB⟩))
section
variable {fS pR yL yF yK yC yS : Int32} {dr ho op ar le yk yl yf yr fd pl di sh sc aw nx aO bO bu tu ow : Nat → Int32}
theorem Y_player_no {post : Int32 → SY → Prop} {p0 p1 : Int32} (h : ¬ ((0 ≤ p0 ∧ p0 ≤ 2) ∧ (0 ≤ p1 ∧ p1 ≤ 4))) (hp : post 0 (fS, pR, yL, yF, yK, yC, yS, dr, ho, op, ar, le, yk, yl, yf, yr, fd, pl, di, sh, sc, aw, nx, aO, bO, bu, tu, ow)) : wpY_player post (fS, pR, yL, yF, yK, yC, yS, dr, ho, op, ar, le, yk, yl, yf, yr, fd, pl, di, sh, sc, aw, nx, aO, bO, bu, tu, ow) p0 p1 := by
  unfold wpY_player
  exact ⟨fun _ => hp, fun z1 => ⟨fun _ => hp, fun z2 => ⟨fun _ => hp, fun z3 => ⟨fun z4 => absurd ⟨⟨nrl z1, Int32.not_lt.mp z2⟩, ⟨nrl z3, z4⟩⟩ h, fun _ => hp⟩⟩⟩⟩
theorem Y_player_in {post : Int32 → SY → Prop} {a b : Nat} (ha : a ≤ 2) (hb : b ≤ 4) (hp : wpY_state (fun u => match u with | (fS, pR, yL, yF, yK, yC, yS, dr, ho, op, ar, le, yk, yl, yf, yr, fd, pl, di, sh, sc, aw, nx, aO, bO, bu, tu, ow) => wpY_ofPlayer (fun r => post r (fS, pR, yL, yF, yK, yC, yS, dr, ho, op, ar, le, yk, yl, yf, yr, fd, pl, di, sh, sc, aw, nx, aO, bO, bu, tu, ow)) (fS, pR, yL, yF, yK, yC, yS, dr, ho, op, ar, le, yk, yl, yf, yr, fd, pl, di, sh, sc, aw, nx, aO, bO, bu, tu, ow) (nI a) (nI b)) (fS, pR, yL, yF, yK, yC, yS, dr, ho, op, ar, le, yk, yl, yf, yr, fd, pl, di, sh, sc, aw, nx, aO, bO, bu, tu, ow) pR) : wpY_player post (fS, pR, yL, yF, yK, yC, yS, dr, ho, op, ar, le, yk, yl, yf, yr, fd, pl, di, sh, sc, aw, nx, aO, bO, bu, tu, ow) (nI a) (nI b) := by
  unfold wpY_player
  exact br_f (nI_pos (by omega)) (br_f (nI_nlt (a := 2) ha (by decide)) (br_f (nI_pos (by omega)) (br_t (nI_le (b := 4) hb (by decide)) hp)))
end
theorem c_player {k : Nat} {P Su D N Ch Ln Bn : Nat} {xH fS bk yC yS : Int32} {wo be dr ho op ar le xk xc xl xb xs xa yk yl yf yr fd pl di sh sc aw nx aO bO bu tu ow : Nat → Int32} (H : RL dr ho op ar le fS yk xk xc wo xl yl xb yf P Su D N Ch Ln Bn) (v1 v2 : Int32) : wpX_player (fun r u' => wpY_player (fun r' v' => r' = r ∧ i_Rel (k + 4) u' v') (fS, nI P, nI Ln, nI Bn, bk, yC, yS, dr, ho, op, ar, le, yk, yl, yf, yr, fd, pl, di, sh, sc, aw, nx, aO, bO, bu, tu, ow) v1 v2) (xH, fS, nI P, nI Su, nI D, nI N, nI Ch, nI Ln, nI Bn, bk, wo, be, dr, ho, op, ar, le, xk, xc, xl, xb, xs, xa) v1 v2 := by
  have no : ¬ ((0 ≤ v1 ∧ v1 ≤ 2) ∧ (0 ≤ v2 ∧ v2 ≤ 4)) → wpY_player (fun r' v' => r' = 0 ∧ i_Rel (k + 4) (xH, fS, nI P, nI Su, nI D, nI N, nI Ch, nI Ln, nI Bn, bk, wo, be, dr, ho, op, ar, le, xk, xc, xl, xb, xs, xa) v') (fS, nI P, nI Ln, nI Bn, bk, yC, yS, dr, ho, op, ar, le, yk, yl, yf, yr, fd, pl, di, sh, sc, aw, nx, aO, bO, bu, tu, ow) v1 v2 := fun h => Y_player_no h ⟨rfl, zz_in H⟩
  unfold wpX_player
  refine X_outside (fun a1 => br_t rfl (X_outside (fun a2 => br_t rfl ?_) (fun a2 => br_f (by decide) (no (fun z => a2 z.2))))) (fun a1 => br_f (by decide) (no (fun z => a1 z.1)))
  obtain ⟨a, _, ha, rfl⟩ := rng (a := 0) (b := 2) rfl rfl a1
  obtain ⟨b, _, hb, rfl⟩ := rng (a := 0) (b := 4) rfl rfl a2
  refine ask (k := k + 4) (F := P) (yr := yr) (yC := yC) (yS := yS) (fd := fd) (pl := pl) (di := di) (sh := sh) (sc := sc) (aw := aw) (nx := nx) (aO := aO) (bO := bO) (bu := bu) (tu := tu) (ow := ow) H (by omega) (by omega) (fun wo1 be1 s1 _ _ _ hY => ?_)
  have e : nI (144 * (P % 16)) + 96 + 5 * nI a + nI b = nI (144 * (P % 16) + (96 + 5 * a + b)) := by
    rw [ad_p, nI_add]
    exact congrArg nI (by omega)
  obtain ⟨g1, g2⟩ := xrw (96 + 5 * a + b) s1 (by omega) e
  refine ⟨g1, ?_⟩
  rw [g2]
  exact Y_player_in ha hb (hY (fun HR I => Y_ofP HR.1 (by omega) (by omega) ⟨rfl, I⟩))
theorem i_vc_player {k : Nat} {u : SX} {v : SY} (I : i_Rel k u v) (hk : k + 4 ≤ 2049) (v1 : Int32) (v2 : Int32) : wpX_player (fun r u' => wpY_player (fun r' v' => r' = r ∧ i_Rel (k + 4) u' v') v v1 v2) u v1 v2 := by
  refine zz_el (M := fun u v => wpX_player (fun r u' => wpY_player (fun r' v' => r' = r ∧ i_Rel (k + 4) u' v') v v1 v2) u v1 v2) I ?_
  intro P Su D N Ch Ln Bn xH fS bk yC yS wo be dr ho op ar le xk xc xl xb xs xa yk yl yf yr fd pl di sh sc aw nx aO bO bu tu ow H
  exact c_player H v1 v2
section
variable {fS pR yL yF yK yC yS : Int32} {dr ho op ar le yk yl yf yr fd pl di sh sc aw nx aO bO bu tu ow : Nat → Int32}
theorem Y_drone_no {post : Int32 → SY → Prop} {p0 p1 : Int32} (h : ¬ ((0 ≤ p0 ∧ p0 ≤ 1) ∧ (0 ≤ p1 ∧ p1 ≤ 4))) (hp : post 0 (fS, pR, yL, yF, yK, yC, yS, dr, ho, op, ar, le, yk, yl, yf, yr, fd, pl, di, sh, sc, aw, nx, aO, bO, bu, tu, ow)) : wpY_drone post (fS, pR, yL, yF, yK, yC, yS, dr, ho, op, ar, le, yk, yl, yf, yr, fd, pl, di, sh, sc, aw, nx, aO, bO, bu, tu, ow) p0 p1 := by
  unfold wpY_drone
  exact ⟨fun _ => hp, fun z1 => ⟨fun _ => hp, fun z2 => ⟨fun _ => hp, fun z3 => ⟨fun z4 => absurd ⟨⟨nrl z1, Int32.not_lt.mp z2⟩, ⟨nrl z3, z4⟩⟩ h, fun _ => hp⟩⟩⟩⟩
theorem Y_drone_in {post : Int32 → SY → Prop} {a b : Nat} (ha : a ≤ 1) (hb : b ≤ 4) (hp : wpY_state (fun u => match u with | (fS, pR, yL, yF, yK, yC, yS, dr, ho, op, ar, le, yk, yl, yf, yr, fd, pl, di, sh, sc, aw, nx, aO, bO, bu, tu, ow) => wpY_ofDrone (fun r => post r (fS, pR, yL, yF, yK, yC, yS, dr, ho, op, ar, le, yk, yl, yf, yr, fd, pl, di, sh, sc, aw, nx, aO, bO, bu, tu, ow)) (fS, pR, yL, yF, yK, yC, yS, dr, ho, op, ar, le, yk, yl, yf, yr, fd, pl, di, sh, sc, aw, nx, aO, bO, bu, tu, ow) (nI a) (nI b)) (fS, pR, yL, yF, yK, yC, yS, dr, ho, op, ar, le, yk, yl, yf, yr, fd, pl, di, sh, sc, aw, nx, aO, bO, bu, tu, ow) pR) : wpY_drone post (fS, pR, yL, yF, yK, yC, yS, dr, ho, op, ar, le, yk, yl, yf, yr, fd, pl, di, sh, sc, aw, nx, aO, bO, bu, tu, ow) (nI a) (nI b) := by
  unfold wpY_drone
  exact br_f (nI_pos (by omega)) (br_f (nI_nlt (a := 1) ha (by decide)) (br_f (nI_pos (by omega)) (br_t (nI_le (b := 4) hb (by decide)) hp)))
end
theorem c_drone {k : Nat} {P Su D N Ch Ln Bn : Nat} {xH fS bk yC yS : Int32} {wo be dr ho op ar le xk xc xl xb xs xa yk yl yf yr fd pl di sh sc aw nx aO bO bu tu ow : Nat → Int32} (H : RL dr ho op ar le fS yk xk xc wo xl yl xb yf P Su D N Ch Ln Bn) (v1 v2 : Int32) : wpX_drone (fun r u' => wpY_drone (fun r' v' => r' = r ∧ i_Rel (k + 4) u' v') (fS, nI P, nI Ln, nI Bn, bk, yC, yS, dr, ho, op, ar, le, yk, yl, yf, yr, fd, pl, di, sh, sc, aw, nx, aO, bO, bu, tu, ow) v1 v2) (xH, fS, nI P, nI Su, nI D, nI N, nI Ch, nI Ln, nI Bn, bk, wo, be, dr, ho, op, ar, le, xk, xc, xl, xb, xs, xa) v1 v2 := by
  have no : ¬ ((0 ≤ v1 ∧ v1 ≤ 1) ∧ (0 ≤ v2 ∧ v2 ≤ 4)) → wpY_drone (fun r' v' => r' = 0 ∧ i_Rel (k + 4) (xH, fS, nI P, nI Su, nI D, nI N, nI Ch, nI Ln, nI Bn, bk, wo, be, dr, ho, op, ar, le, xk, xc, xl, xb, xs, xa) v') (fS, nI P, nI Ln, nI Bn, bk, yC, yS, dr, ho, op, ar, le, yk, yl, yf, yr, fd, pl, di, sh, sc, aw, nx, aO, bO, bu, tu, ow) v1 v2 := fun h => Y_drone_no h ⟨rfl, zz_in H⟩
  unfold wpX_drone
  refine X_outside (fun a1 => br_t rfl (X_outside (fun a2 => br_t rfl ?_) (fun a2 => br_f (by decide) (no (fun z => a2 z.2))))) (fun a1 => br_f (by decide) (no (fun z => a1 z.1)))
  obtain ⟨a, _, ha, rfl⟩ := rng (a := 0) (b := 1) rfl rfl a1
  obtain ⟨b, _, hb, rfl⟩ := rng (a := 0) (b := 4) rfl rfl a2
  refine ask (k := k + 4) (F := P) (yr := yr) (yC := yC) (yS := yS) (fd := fd) (pl := pl) (di := di) (sh := sh) (sc := sc) (aw := aw) (nx := nx) (aO := aO) (bO := bO) (bu := bu) (tu := tu) (ow := ow) H (by omega) (by omega) (fun wo1 be1 s1 _ _ _ hY => ?_)
  have e : nI (144 * (P % 16)) + 111 + 5 * nI a + nI b = nI (144 * (P % 16) + (111 + 5 * a + b)) := by
    rw [ad_d, nI_add]
    exact congrArg nI (by omega)
  obtain ⟨g1, g2⟩ := xrw (111 + 5 * a + b) s1 (by omega) e
  refine ⟨g1, ?_⟩
  rw [g2]
  exact Y_drone_in ha hb (hY (fun HR I => Y_ofD HR.1 (by omega) (by omega) ⟨rfl, I⟩))
theorem i_vc_drone {k : Nat} {u : SX} {v : SY} (I : i_Rel k u v) (hk : k + 4 ≤ 2049) (v1 : Int32) (v2 : Int32) : wpX_drone (fun r u' => wpY_drone (fun r' v' => r' = r ∧ i_Rel (k + 4) u' v') v v1 v2) u v1 v2 := by
  refine zz_el (M := fun u v => wpX_drone (fun r u' => wpY_drone (fun r' v' => r' = r ∧ i_Rel (k + 4) u' v') v v1 v2) u v1 v2) I ?_
  intro P Su D N Ch Ln Bn xH fS bk yC yS wo be dr ho op ar le xk xc xl xb xs xa yk yl yf yr fd pl di sh sc aw nx aO bO bu tu ow H
  exact c_drone H v1 v2
theorem c_cell {k : Nat} {P Su D N Ch Ln Bn : Nat} {xH fS bk yC yS : Int32} {wo be dr ho op ar le xk xc xl xb xs xa yk yl yf yr fd pl di sh sc aw nx aO bO bu tu ow : Nat → Int32} (H : RL dr ho op ar le fS yk xk xc wo xl yl xb yf P Su D N Ch Ln Bn) (v1 v2 : Int32) : wpX_cell (fun r u' => wpY_cell (fun r' v' => r' = r ∧ i_Rel (k + 4) u' v') (fS, nI P, nI Ln, nI Bn, bk, yC, yS, dr, ho, op, ar, le, yk, yl, yf, yr, fd, pl, di, sh, sc, aw, nx, aO, bO, bu, tu, ow) v1 v2) (xH, fS, nI P, nI Su, nI D, nI N, nI Ch, nI Ln, nI Bn, bk, wo, be, dr, ho, op, ar, le, xk, xc, xl, xb, xs, xa) v1 v2 := by
  have no : ¬ ((0 ≤ v1 ∧ v1 ≤ 11) ∧ (0 ≤ v2 ∧ v2 ≤ 7)) → wpY_cell (fun r' v' => r' = 1 ∧ i_Rel (k + 4) (xH, fS, nI P, nI Su, nI D, nI N, nI Ch, nI Ln, nI Bn, bk, wo, be, dr, ho, op, ar, le, xk, xc, xl, xb, xs, xa) v') (fS, nI P, nI Ln, nI Bn, bk, yC, yS, dr, ho, op, ar, le, yk, yl, yf, yr, fd, pl, di, sh, sc, aw, nx, aO, bO, bu, tu, ow) v1 v2 := fun h => by
    unfold wpY_cell
    exact Y_insideR (fun z => absurd z h) (fun _ => br_t rfl ⟨rfl, zz_in H⟩)
  unfold wpX_cell
  refine X_outside (fun a1 => br_t rfl (X_outside (fun a2 => br_t rfl ?_) (fun a2 => br_f (by decide) (no (fun z => a2 z.2))))) (fun a1 => br_f (by decide) (no (fun z => a1 z.1)))
  obtain ⟨a, _, ha, rfl⟩ := rng (a := 0) (b := 11) rfl rfl a1
  obtain ⟨b, _, hb, rfl⟩ := rng (a := 0) (b := 7) rfl rfl a2
  refine ask (k := k + 4) (F := P) (yr := yr) (yC := yC) (yS := yS) (fd := fd) (pl := pl) (di := di) (sh := sh) (sc := sc) (aw := aw) (nx := nx) (aO := aO) (bO := bO) (bu := bu) (tu := tu) (ow := ow) H (by omega) (by omega) (fun wo1 be1 s1 _ _ _ hY => ?_)
  have e : nI (144 * (P % 16)) + 12 * nI b + nI a = nI (144 * (P % 16) + (12 * b + a)) := by
    show nI (144 * (P % 16)) + nI 12 * nI b + nI a = _
    rw [pk_mul, nI_add, nI_add, Nat.add_assoc]
  obtain ⟨g1, g2⟩ := xrw (12 * b + a) s1 (by omega) e
  refine ⟨g1, ?_⟩
  rw [g2]
  unfold wpY_cell
  refine Y_insideR (fun _ => br_f (by decide) (hY (fun HR I => ⟨by rw [nI_cell]; exact vp_in_nI (by omega) (by decide), ?_, I⟩))) (fun z => absurd ⟨a1, a2⟩ z)
  exact ye _ nI_cell (by omega) (rB_rfd HR.1 (by omega))
theorem i_vc_cell {k : Nat} {u : SX} {v : SY} (I : i_Rel k u v) (hk : k + 4 ≤ 2049) (v1 : Int32) (v2 : Int32) : wpX_cell (fun r u' => wpY_cell (fun r' v' => r' = r ∧ i_Rel (k + 4) u' v') v v1 v2) u v1 v2 := by
  refine zz_el (M := fun u v => wpX_cell (fun r u' => wpY_cell (fun r' v' => r' = r ∧ i_Rel (k + 4) u' v') v v1 v2) u v1 v2) I ?_
  intro P Su D N Ch Ln Bn xH fS bk yC yS wo be dr ho op ar le xk xc xl xb xs xa yk yl yf yr fd pl di sh sc aw nx aO bO bu tu ow H
  exact c_cell H v1 v2
theorem c_bullets {k : Nat} {P Su D N Ch Ln Bn : Nat} {xH fS bk yC yS : Int32} {wo be dr ho op ar le xk xc xl xb xs xa yk yl yf yr fd pl di sh sc aw nx aO bO bu tu ow : Nat → Int32} (H : RL dr ho op ar le fS yk xk xc wo xl yl xb yf P Su D N Ch Ln Bn) : wpX_bullets (fun r u' => wpY_bullets (fun r' v' => r' = r ∧ i_Rel (k + 4) u' v') (fS, nI P, nI Ln, nI Bn, bk, yC, yS, dr, ho, op, ar, le, yk, yl, yf, yr, fd, pl, di, sh, sc, aw, nx, aO, bO, bu, tu, ow)) (xH, fS, nI P, nI Su, nI D, nI N, nI Ch, nI Ln, nI Bn, bk, wo, be, dr, ho, op, ar, le, xk, xc, xl, xb, xs, xa) := by
  unfold wpX_bullets
  refine ask (k := k + 4) (F := P) (yr := yr) (yC := yC) (yS := yS) (fd := fd) (pl := pl) (di := di) (sh := sh) (sc := sc) (aw := aw) (nx := nx) (aO := aO) (bO := bO) (bu := bu) (tu := tu) (ow := ow) H (by omega) (by omega) (fun wo1 be1 s1 _ _ _ hY => ?_)
  obtain ⟨g1, g2⟩ := xrw 140 s1 (by omega) (ad_140 _)
  refine ⟨g1, ?_⟩
  rw [g2]
  exact hY (fun HR I => ⟨HR.2.1.symm, I⟩)
theorem i_vc_bullets {k : Nat} {u : SX} {v : SY} (I : i_Rel k u v) (hk : k + 4 ≤ 2049) : wpX_bullets (fun r u' => wpY_bullets (fun r' v' => r' = r ∧ i_Rel (k + 4) u' v') v) u := by
  refine zz_el (M := fun u v => wpX_bullets (fun r u' => wpY_bullets (fun r' v' => r' = r ∧ i_Rel (k + 4) u' v') v) u) I ?_
  intro P Su D N Ch Ln Bn xH fS bk yC yS wo be dr ho op ar le xk xc xl xb xs xa yk yl yf yr fd pl di sh sc aw nx aO bO bu tu ow H
  exact c_bullets H
theorem le_pr {v : Int32} {n : Nat} (hn : n < 100) : v ≤ nI n - 1 ↔ v < nI n := by
  have e : (nI n - 1).toInt = (n : Int) - 1 := pk_sub_toInt (b := 1) (by omega) (by decide)
  rw [Int32.le_iff_toInt_le, Int32.lt_iff_toInt_lt, e, nI_toInt (by omega)]
  omega
theorem c_bullet {k : Nat} {P Su D N Ch Ln Bn : Nat} {xH fS bk yC yS : Int32} {wo be dr ho op ar le xk xc xl xb xs xa yk yl yf yr fd pl di sh sc aw nx aO bO bu tu ow : Nat → Int32} (H : RL dr ho op ar le fS yk xk xc wo xl yl xb yf P Su D N Ch Ln Bn) (v1 v2 : Int32) : wpX_bullet (fun r u' => wpY_bullet (fun r' v' => r' = r ∧ i_Rel (k + 4) u' v') (fS, nI P, nI Ln, nI Bn, bk, yC, yS, dr, ho, op, ar, le, yk, yl, yf, yr, fd, pl, di, sh, sc, aw, nx, aO, bO, bu, tu, ow) v1 v2) (xH, fS, nI P, nI Su, nI D, nI N, nI Ch, nI Ln, nI Bn, bk, wo, be, dr, ho, op, ar, le, xk, xc, xl, xb, xs, xa) v1 v2 := by
  unfold wpX_bullet
  refine ask (k := k + 4) (F := P) (yr := yr) (yC := yC) (yS := yS) (fd := fd) (pl := pl) (di := di) (sh := sh) (sc := sc) (aw := aw) (nx := nx) (aO := aO) (bO := bO) (bu := bu) (tu := tu) (ow := ow) H (by omega) (by omega) (fun wo1 be1 s1 _ hv _ hY => ?_)
  obtain ⟨n, hn, en, _⟩ := hv
  obtain ⟨g1, g2⟩ := xrw 140 s1 (by omega) (ad_140 _)
  refine ⟨g1, ?_⟩
  rw [g2, en]
  have no : ¬ ((0 ≤ v1 ∧ v1 ≤ nI n - 1) ∧ (0 ≤ v2 ∧ v2 ≤ 2)) → wpY_bullet (fun r' v' => r' = -1 ∧ i_Rel (k + 4) (nI (144 * (P % 16)), fS, nI P, nI Su, nI (P + 1), nI P, 0, nI Ln, nI Bn, bk, wo1, be1, dr, ho, op, ar, le, xk, xc, xl, xb, xs, xa) v') (fS, nI P, nI Ln, nI Bn, bk, yC, yS, dr, ho, op, ar, le, yk, yl, yf, yr, fd, pl, di, sh, sc, aw, nx, aO, bO, bu, tu, ow) v1 v2 := fun h => hY (fun HR I => by
    have ec := HR.2.1
    rw [en] at ec
    subst ec
    refine ⟨fun _ => ⟨rfl, I⟩, fun z1 => ⟨fun _ => ⟨rfl, I⟩, fun z2 => ⟨fun _ => ⟨rfl, I⟩, fun z3 => ⟨fun z4 => ?_, fun _ => ⟨rfl, I⟩⟩⟩⟩⟩
    exact absurd ⟨⟨nrl z1, (le_pr (by omega)).mpr (Int32.not_le.mp z2)⟩, ⟨nrl z3, z4⟩⟩ h)
  refine X_outside (fun a1 => br_t rfl (X_outside (fun a2 => br_t rfl ?_) (fun a2 => br_f (by decide) (no (fun z => a2 z.2))))) (fun a1 => br_f (by decide) (no (fun z => a1 z.1)))
  obtain ⟨a, ha, rfl⟩ : ∃ a, a < n ∧ v1 = nI a := by
    have h1 := (le_pr (by omega)).mp a1.2
    obtain ⟨j, hj, rfl⟩ := nI_of (Int32.not_lt.mpr a1.1)
    exact ⟨j, (nI_ltI hj (by omega)).mp h1, rfl⟩
  obtain ⟨b, _, hb, rfl⟩ := rng (a := 0) (b := 2) rfl rfl a2
  have e : nI (144 * (P % 16)) + 122 + 3 * nI a + nI b = nI (144 * (P % 16) + (122 + 3 * a + b)) := by
    rw [ad_b, nI_add]
    exact congrArg nI (by omega)
  obtain ⟨g3, g4⟩ := xrw (122 + 3 * a + b) s1 (by omega) e
  refine ⟨g3, ?_⟩
  rw [g4]
  have i7 : vp_in (nI a) 7 := vp_in_nI (by omega) (by decide)
  refine hY (fun HR I => ?_)
  have ec := HR.2.1
  have hW := HR.2.2
  rw [en] at ec hW
  subst ec
  rw [nI_clamp (by omega)] at hW
  obtain ⟨w1, w2, w3⟩ := hW a ha
  refine br_f (nI_pos (by omega)) (br_f (nI_ge ha (by omega)) (br_f (nI_pos (by omega)) (br_t (nI_le (b := 2) hb (by decide)) ?_)))
  have h3 : b = 0 ∨ b = 1 ∨ b = 2 := by omega
  rcases h3 with rfl | rfl | rfl
  · exact br_t (by decide) ⟨i7, ye a rfl (by omega) w1.symm, I⟩
  · exact br_f (by decide) (br_t (by decide) ⟨i7, ye a rfl (by omega) (w2.symm.trans (congrArg _ (by omega))), I⟩)
  · exact br_f (by decide) (br_f (by decide) ⟨i7, ye a rfl (by omega) (w3.symm.trans (congrArg _ (by omega))), I⟩)
theorem i_vc_bullet {k : Nat} {u : SX} {v : SY} (I : i_Rel k u v) (hk : k + 4 ≤ 2049) (v1 : Int32) (v2 : Int32) : wpX_bullet (fun r u' => wpY_bullet (fun r' v' => r' = r ∧ i_Rel (k + 4) u' v') v v1 v2) u v1 v2 := by
  refine zz_el (M := fun u v => wpX_bullet (fun r u' => wpY_bullet (fun r' v' => r' = r ∧ i_Rel (k + 4) u' v') v v1 v2) u v1 v2) I ?_
  intro P Su D N Ch Ln Bn xH fS bk yC yS wo be dr ho op ar le xk xc xl xb xs xa yk yl yf yr fd pl di sh sc aw nx aO bO bu tu ow H
  exact c_bullet H v1 v2
end
section
/-! digest -/
def hsh (c : Nat → Int32) : Nat → Int64
  | 0 => 1
  | k + 1 => hsh c k * 31 + (c k).toInt64
theorem hsh_s (c : Nat → Int32) (k : Nat) : hsh c (k + 1) = hsh c k * 31 + (c k).toInt64 := rfl
section
variable {xH fS pR xS xD xN xC xL xB xK : Int32} {wo be dr ho op ar le xk xc xl xb xs xa : Nat → Int32}
theorem X_d60 {post : Int64 → SX → Prop} {c : Nat → Int32} {F T : Nat} (hs : slt wo F = c) (hT : T ≤ 144) (hp : post (hsh c T) (xH, fS, pR, xS, xD, xN, xC, xL, xB, xK, wo, be, dr, ho, op, ar, le, xk, xc, xl, xb, xs, xa)) : ∀ e k, k + e = T → wX_digest_60 post (nI (144 * (F % 16))) (nI T) xH fS pR xS xD xN xC xL xB xK wo be dr ho op ar le xk xc xl xb xs xa (e + 1) (hsh c k) (nI k) := by
  intro e
  induction e with
  | zero =>
    intro k hk
    obtain rfl : k = T := by omega
    exact br_t (nI_le (by omega) (by omega)) hp
  | succ e ih =>
    intro k hk
    obtain ⟨g1, g2⟩ := xrw k hs (by omega) (nI_add (144 * (F % 16)) k)
    refine br_f (nI_ge (by omega) (by omega)) ⟨g1, ?_⟩
    rw [g2]
    exact nm_r (hsh_s c k).symm (nm_r (nI_1 k) (ih (k + 1) (by omega)))
end
section
variable {fS pR yL yF yK yC yS : Int32} {dr ho op ar le yk yl yf yr fd pl di sh sc aw nx aO bO bu tu ow : Nat → Int32}
theorem Y_d170 {post : Int64 → SY → Prop} {c : Nat → Int32} {n : Nat} (hn : n ≤ 6) (hW : ∀ j, j < n → rW c bu tu ow j) (hp : post (hsh c (122 + 3 * n)) (fS, pR, yL, yF, yK, nI n, yS, dr, ho, op, ar, le, yk, yl, yf, yr, fd, pl, di, sh, sc, aw, nx, aO, bO, bu, tu, ow)) : ∀ e k, k + e = n → wY_digest_170 post fS pR yL yF yK (nI n) yS dr ho op ar le yk yl yf yr fd pl di sh sc aw nx aO bO bu tu ow (e + 1) (hsh c (122 + 3 * k)) (nI k) := by
  intro e
  induction e with
  | zero =>
    intro k hk
    obtain rfl : k = n := by omega
    exact br_t (nI_le (by omega) (by omega)) hp
  | succ e ih =>
    intro k hk
    have i7 : vp_in (nI k) 7 := vp_in_nI (by omega) (by decide)
    obtain ⟨w1, w2, w3⟩ := hW k (by omega)
    refine br_f (nI_ge (by omega) (by omega)) ⟨i7, i7, i7, ?_⟩
    rw [ye k rfl (by omega) w1.symm, ye k rfl (by omega) w2.symm, ye k rfl (by omega) w3.symm]
    refine nm_r (e' := hsh c (122 + 3 * (k + 1))) ?_ (nm_r (nI_1 k) (ih (k + 1) (by omega)))
    rw [show 122 + 3 * (k + 1) = 122 + 3 * k + 1 + 1 + 1 by omega, hsh_s, hsh_s, hsh_s, show 122 + 3 * k + 1 = 123 + 3 * k by omega, show 122 + 3 * k + 2 = 124 + 3 * k by omega]
theorem Y_d121 {post : Int64 → SY → Prop} {J : Int64 → Int32 → Prop} {c : Nat → Int32} {p : Nat} (HR : rB c yS fd pl di sh sc aw nx aO bO) (hp2 : p < 2) (hp : J (hsh c (111 + 5 * (p + 1))) (nI (p + 1))) : ∀ e k, k + e = 5 → wY_digest_121 post J (nI p) fS pR yL yF yK yC yS dr ho op ar le yk yl yf yr fd pl di sh sc aw nx aO bO bu tu ow (e + 1) (hsh c (111 + 5 * p + k)) (nI k) := by
  intro e
  induction e with
  | zero =>
    intro k hk
    obtain rfl : k = 5 := by omega
    refine br_t (by decide) (nm_r (nI_1 p) ?_)
    rw [show 111 + 5 * p + 5 = 111 + 5 * (p + 1) by omega]
    exact hp
  | succ e ih =>
    intro k hk
    exact br_f (nI_ge (b := 5) (by omega) (by decide)) (Y_ofD HR hp2 (by omega) (nm_r (hsh_s c _).symm (nm_r (nI_1 k) (ih (k + 1) (by omega)))))
theorem Y_d75 {post : Int64 → SY → Prop} {J : Int64 → Int32 → Prop} {c : Nat → Int32} {p : Nat} (HR : rB c yS fd pl di sh sc aw nx aO bO) (hp2 : p < 3) (hp : J (hsh c (96 + 5 * (p + 1))) (nI (p + 1))) : ∀ e k, k + e = 5 → wY_digest_75 post J (nI p) fS pR yL yF yK yC yS dr ho op ar le yk yl yf yr fd pl di sh sc aw nx aO bO bu tu ow (e + 1) (hsh c (96 + 5 * p + k)) (nI k) := by
  intro e
  induction e with
  | zero =>
    intro k hk
    obtain rfl : k = 5 := by omega
    refine br_t (by decide) (nm_r (nI_1 p) ?_)
    rw [show 96 + 5 * p + 5 = 96 + 5 * (p + 1) by omega]
    exact hp
  | succ e ih =>
    intro k hk
    exact br_f (nI_ge (b := 5) (by omega) (by decide)) (Y_ofP HR hp2 (by omega) (nm_r (hsh_s c _).symm (nm_r (nI_1 k) (ih (k + 1) (by omega)))))
theorem Y_d35 {post : Int64 → SY → Prop} {c : Nat → Int32} (HR : rB c yS fd pl di sh sc aw nx aO bO) (hp : ∃ n, wY_digest_66 post fS pR yL yF yK yC yS dr ho op ar le yk yl yf yr fd pl di sh sc aw nx aO bO bu tu ow n (hsh c 96) 0) : ∀ e k, k + e = 96 → wY_digest_35 post fS pR yL yF yK yC yS dr ho op ar le yk yl yf yr fd pl di sh sc aw nx aO bO bu tu ow (e + 1) (hsh c k) (nI k) := by
  intro e
  induction e with
  | zero =>
    intro k hk
    obtain rfl : k = 96 := by omega
    exact br_t (by decide) hp
  | succ e ih =>
    intro k hk
    refine br_f (nI_ge (b := 96) (by omega) (by decide)) ⟨vp_in_nI (by omega) (by decide), ?_⟩
    rw [ye k rfl (by omega) (rB_rfd HR (by omega))]
    exact nm_r (hsh_s c k).symm (nm_r (nI_1 k) (ih (k + 1) (by omega)))
theorem Y_dig {post : Int64 → SY → Prop} {c : Nat → Int32} {n : Nat} (hn : n ≤ 6) (HR : rB c yS fd pl di sh sc aw nx aO bO) (hW : ∀ j, j < n → rW c bu tu ow j) (hp : post (hsh c (122 + 3 * n)) (fS, pR, yL, yF, yK, nI n, yS, dr, ho, op, ar, le, yk, yl, yf, yr, fd, pl, di, sh, sc, aw, nx, aO, bO, bu, tu, ow)) : ∃ m, wY_digest_35 post fS pR yL yF yK (nI n) yS dr ho op ar le yk yl yf yr fd pl di sh sc aw nx aO bO bu tu ow m 1 0 := by
  refine ⟨97, Y_d35 HR ⟨4, ?_⟩ 96 0 rfl⟩
  have d3 : wY_digest_112 post fS pR yL yF yK (nI n) yS dr ho op ar le yk yl yf yr fd pl di sh sc aw nx aO bO bu tu ow 3 (hsh c (111 + 5 * 0)) (nI 0) := by
    refine br_f (by decide) ⟨6, Y_d121 HR (by decide) ?_ 5 0 rfl⟩
    refine br_f (by decide) ⟨6, Y_d121 HR (by decide) ?_ 5 0 rfl⟩
    refine br_t (by decide) ?_
    refine nm_r (e' := hsh c (122 + 3 * 0)) ?_ ⟨n + 1, Y_d170 hn hW hp n 0 (by omega)⟩
    rw [rB_rS HR]
    rfl
  refine br_f (by decide) ⟨6, Y_d75 (p := 0) HR (by decide) ?_ 5 0 rfl⟩
  refine br_f (by decide) ⟨6, Y_d75 HR (by decide) ?_ 5 0 rfl⟩
  refine br_f (by decide) ⟨6, Y_d75 HR (by decide) ?_ 5 0 rfl⟩
  exact br_t (by decide) ⟨3, d3⟩
theorem Y_dig_no {post : Int64 → SY → Prop} {p0 : Int32} (h : ¬ ((0 ≤ p0 ∧ p0 ≤ pR) ∧ pR - 9 ≤ p0)) (hp : post 0 (fS, pR, yL, yF, yK, yC, yS, dr, ho, op, ar, le, yk, yl, yf, yr, fd, pl, di, sh, sc, aw, nx, aO, bO, bu, tu, ow)) : wpY_digest post (fS, pR, yL, yF, yK, yC, yS, dr, ho, op, ar, le, yk, yl, yf, yr, fd, pl, di, sh, sc, aw, nx, aO, bO, bu, tu, ow) p0 := by
  unfold wpY_digest
  exact ⟨fun _ => hp, fun z1 => ⟨fun _ => hp, fun z2 => ⟨fun z3 => absurd ⟨⟨nrl z1, z3⟩, Int32.not_lt.mp z2⟩ h, fun _ => hp⟩⟩⟩
end
theorem c_digest {k : Nat} {P Su D N Ch Ln Bn : Nat} {xH fS bk yC yS : Int32} {wo be dr ho op ar le xk xc xl xb xs xa yk yl yf yr fd pl di sh sc aw nx aO bO bu tu ow : Nat → Int32} (H : RL dr ho op ar le fS yk xk xc wo xl yl xb yf P Su D N Ch Ln Bn) (v1 : Int32) : wpX_digest (fun r u' => wpY_digest (fun r' v' => r' = r ∧ i_Rel (k + 4) u' v') (fS, nI P, nI Ln, nI Bn, bk, yC, yS, dr, ho, op, ar, le, yk, yl, yf, yr, fd, pl, di, sh, sc, aw, nx, aO, bO, bu, tu, ow) v1) (xH, fS, nI P, nI Su, nI D, nI N, nI Ch, nI Ln, nI Bn, bk, wo, be, dr, ho, op, ar, le, xk, xc, xl, xb, xs, xa) v1 := by
  have no : ¬ ((0 ≤ v1 ∧ v1 ≤ nI P) ∧ nI P - 9 ≤ v1) → wpY_digest (fun r' v' => r' = 0 ∧ i_Rel (k + 4) (xH, fS, nI P, nI Su, nI D, nI N, nI Ch, nI Ln, nI Bn, bk, wo, be, dr, ho, op, ar, le, xk, xc, xl, xb, xs, xa) v') (fS, nI P, nI Ln, nI Bn, bk, yC, yS, dr, ho, op, ar, le, yk, yl, yf, yr, fd, pl, di, sh, sc, aw, nx, aO, bO, bu, tu, ow) v1 := fun h => Y_dig_no h ⟨rfl, zz_in H⟩
  have hP : P ≤ 120 := H.2.2.2.2.1.1
  unfold wpX_digest
  refine X_outside (fun a1 => br_t rfl ⟨fun a2 => ?_, fun a2 => no (fun z => a2 z.2)⟩) (fun a1 => br_f (by decide) (no (fun z => a1 z.1)))
  obtain ⟨F, _, hF, rfl⟩ := rng (a := 0) (b := P) rfl rfl a1 (by decide) (by omega)
  have h9 : P ≤ F + 9 := by
    have e : (nI P - 9).toInt = (P : Int) - 9 := pk_sub_toInt (b := 9) (by omega) (by decide)
    rw [Int32.le_iff_toInt_le, e, nI_toInt (by omega)] at a2
    omega
  refine ask (k := k + 4) (F := F) (yr := yr) (yC := yC) (yS := yS) (fd := fd) (pl := pl) (di := di) (sh := sh) (sc := sc) (aw := aw) (nx := nx) (aO := aO) (bO := bO) (bu := bu) (tu := tu) (ow := ow) H (by omega) (by omega) (fun wo1 be1 _ s1 _ hv hY => ?_)
  obtain ⟨n, hn, en, _⟩ := hv
  obtain ⟨g1, g2⟩ := xrw 140 s1 (by omega) (ad_140 _)
  refine nm_r (nI_and15 (by omega)) ⟨g1, ?_⟩
  rw [g2, en]
  have e3 : 122 + 3 * nI n = nI (122 + 3 * n) := by
    show nI 122 + nI 3 * nI n = _
    rw [pk_mul, nI_add]
  refine nm_r e3 ⟨122 + 3 * n + 1, X_d60 s1 (by omega) ?_ (122 + 3 * n) 0 (by omega)⟩
  unfold wpY_digest
  refine br_f (nI_pos (by omega)) (br_f (Int32.not_lt.mpr a2) (br_t a1.2 (hY (fun HR I => ?_))))
  obtain ⟨HB, HC, HW⟩ := HR
  rw [en] at HC HW
  rw [nI_clamp (by omega)] at HW
  subst HC
  exact Y_dig hn HB HW ⟨rfl, I⟩
theorem i_vc_digest {k : Nat} {u : SX} {v : SY} (I : i_Rel k u v) (hk : k + 4 ≤ 2049) (v1 : Int32) : wpX_digest (fun r u' => wpY_digest (fun r' v' => r' = r ∧ i_Rel (k + 4) u' v') v v1) u v1 := by
  refine zz_el (M := fun u v => wpX_digest (fun r u' => wpY_digest (fun r' v' => r' = r ∧ i_Rel (k + 4) u' v') v v1) u v1) I ?_
  intro P Su D N Ch Ln Bn xH fS bk yC yS wo be dr ho op ar le xk xc xl xb xs xa yk yl yf yr fd pl di sh sc aw nx aO bO bu tu ow H
  exact c_digest H v1
end
section
/-! confirmed, given, logged, broken, feed -/
theorem ad_c1 (c : Nat) : 128 + nI c = nI (127 * 1 + (c + 1)) := by
  rw [show (128 : Int32) = nI 128 from rfl, nI_add]
  exact congrArg nI (by omega)
theorem ad_c2 (c : Nat) : 255 + nI c = nI (127 * 2 + (c + 1)) := by
  rw [show (255 : Int32) = nI 255 from rfl, nI_add]
  exact congrArg nI (by omega)
theorem ad_c0 (c : Nat) : nI c + 1 = nI (127 * 0 + (c + 1)) := by
  rw [nI_1]
  exact congrArg nI (by omega)
section
variable {fS pR yL yF yK yC yS : Int32} {dr ho op ar le yk yl yf yr fd pl di sh sc aw nx aO bO bu tu ow : Nat → Int32}
theorem Y_cl {post : Int32 → Prop} {Su : Nat} (hS : cS yk Su) (hp : post (nI Su)) : ∀ e c, c + e = Su → wY_confirmed_2 post fS pR yL yF yK yC yS dr ho op ar le yk yl yf yr fd pl di sh sc aw nx aO bO bu tu ow (e + 1) (nI c) := by
  obtain ⟨h1, h2, h3⟩ := hS
  have rd : ∀ c, c < 126 → vp_in (nI c + 1) 381 ∧ vp_in (128 + nI c) 381 ∧ vp_in (255 + nI c) 381 := fun c hc => ⟨by rw [ad_c0]; exact vp_in_nI (by omega) (by decide), by rw [ad_c1]; exact vp_in_nI (by omega) (by decide), by rw [ad_c2]; exact vp_in_nI (by omega) (by decide)⟩
  intro e
  induction e with
  | zero =>
    intro c hc
    obtain rfl : c = Su := by omega
    by_cases g : 126 ≤ c
    · exact br_t (nI_le (a := 126) g (by omega)) hp
    · obtain ⟨r1, r2, r3⟩ := rd c (by omega)
      refine br_f (nI_ge (b := 126) (by omega) (by decide)) ⟨r1, ?_⟩
      rw [ye (f := yk) _ (ad_c0 c) (by omega) rfl]
      refine ⟨fun _ => hp, fun z0 => ⟨r2, ?_⟩⟩
      rw [ye (f := yk) _ (ad_c1 c) (by omega) rfl]
      refine ⟨fun _ => hp, fun z1 => ⟨r3, ?_⟩⟩
      rw [ye (f := yk) _ (ad_c2 c) (by omega) rfl]
      refine ⟨fun _ => hp, fun z2 => ?_⟩
      obtain ⟨p, hp3, hlt⟩ := h3 (by omega)
      have : p = 0 ∨ p = 1 ∨ p = 2 := by omega
      rcases this with rfl | rfl | rfl
      · exact absurd hlt z0
      · exact absurd hlt z1
      · exact absurd hlt z2
  | succ e ih =>
    intro c hc
    obtain ⟨r1, r2, r3⟩ := rd c (by omega)
    refine br_f (nI_ge (b := 126) (by omega) (by decide)) ⟨r1, ?_⟩
    rw [ye (f := yk) _ (ad_c0 c) (by omega) rfl]
    refine br_f (h2 (c + 1) (by omega) (by omega) 0 (by decide)) ⟨r2, ?_⟩
    rw [ye (f := yk) _ (ad_c1 c) (by omega) rfl]
    refine br_f (h2 (c + 1) (by omega) (by omega) 1 (by decide)) ⟨r3, ?_⟩
    rw [ye (f := yk) _ (ad_c2 c) (by omega) rfl]
    exact br_f (h2 (c + 1) (by omega) (by omega) 2 (by decide)) (nm_r (nI_1 c) (ih (c + 1) (by omega)))
theorem Y_conf {post : Int32 → Prop} {Su : Nat} (hS : cS yk Su) (hp : post (nI Su)) : wpY_confirmed post (fS, pR, yL, yF, yK, yC, yS, dr, ho, op, ar, le, yk, yl, yf, yr, fd, pl, di, sh, sc, aw, nx, aO, bO, bu, tu, ow) := ⟨Su + 1, Y_cl hS hp Su 0 (by omega)⟩
end
theorem i_vc_confirmed {k : Nat} {u : SX} {v : SY} (I : i_Rel k u v) (hk : k + 4 ≤ 2049) : wpX_confirmed (fun r => wpY_confirmed (fun r' => r' = r ∧ i_Rel (k + 4) u v) v) u := by
  refine zz_el (M := fun u v => wpX_confirmed (fun r => wpY_confirmed (fun r' => r' = r ∧ i_Rel (k + 4) u v) v) u) I ?_
  intro P Su D N Ch Ln Bn xH fS bk yC yS wo be dr ho op ar le xk xc xl xb xs xa yk yl yf yr fd pl di sh sc aw nx aO bO bu tu ow H
  exact Y_conf H.2.2.2.1 ⟨rfl, zz_in H⟩
theorem i_vc_broken {k : Nat} {u : SX} {v : SY} (I : i_Rel k u v) (hk : k + 4 ≤ 2049) : wpX_broken (fun r => wpY_broken (fun r' => r' = r ∧ i_Rel (k + 4) u v) v) u := by
  refine zz_el (M := fun u v => wpX_broken (fun r => wpY_broken (fun r' => r' = r ∧ i_Rel (k + 4) u v) v) u) I ?_
  intro P Su D N Ch Ln Bn xH fS bk yC yS wo be dr ho op ar le xk xc xl xb xs xa yk yl yf yr fd pl di sh sc aw nx aO bO bu tu ow H
  exact ⟨rfl, zz_in H⟩
section
variable {fS pR yL yF yK yC yS : Int32} {dr ho op ar le yk yl yf yr fd pl di sh sc aw nx aO bO bu tu ow : Nat → Int32}
theorem Y_given_no {post : Int32 → Prop} {p0 p1 : Int32} (h : ¬ ((0 ≤ p0 ∧ p0 ≤ 2) ∧ ¬ p1 < 1 ∧ ¬ p1 < pR - 9 ∧ p1 ≤ pR + 6)) (hp : post (-1)) : wpY_given post (fS, pR, yL, yF, yK, yC, yS, dr, ho, op, ar, le, yk, yl, yf, yr, fd, pl, di, sh, sc, aw, nx, aO, bO, bu, tu, ow) p0 p1 := by
  unfold wpY_given
  exact ⟨fun _ => hp, fun z1 => ⟨fun _ => hp, fun z2 => ⟨fun _ => hp, fun z3 => ⟨fun _ => hp, fun z4 => ⟨fun z5 => absurd ⟨⟨nrl z1, Int32.not_lt.mp z2⟩, z3, z4, z5⟩ h, fun _ => hp⟩⟩⟩⟩⟩
end
/-- a frame whose input may be given or asked for -/
theorem frm {P : Nat} {v : Int32} (hP : P ≤ 120) (h1 : ¬ v < 1) (h9 : ¬ v < nI P - 9) (h6 : v ≤ nI P + 6) : ∃ f, 0 < f ∧ f < 127 ∧ f ≤ P + 6 ∧ P ≤ f + 9 ∧ v = nI f := by
  have e9 : (nI P - 9).toInt = (P : Int) - 9 := pk_sub_toInt (b := 9) (by omega) (by decide)
  have e6 : nI P + 6 = nI (P + 6) := nI_add P 6
  have e1 : (1 : Int32).toInt = 1 := by decide
  rw [Int32.lt_iff_toInt_lt, e1] at h1
  rw [Int32.lt_iff_toInt_lt, e9] at h9
  rw [e6, Int32.le_iff_toInt_le, nI_toInt (by omega)] at h6
  refine ⟨v.toInt.toNat, by omega, by omega, by omega, by omega, Int32.toInt_inj.mp ?_⟩
  rw [nI_toInt (by omega)]
  omega
theorem c_given {k : Nat} {P Su D N Ch Ln Bn : Nat} {xH fS bk yC yS : Int32} {wo be dr ho op ar le xk xc xl xb xs xa yk yl yf yr fd pl di sh sc aw nx aO bO bu tu ow : Nat → Int32} (H : RL dr ho op ar le fS yk xk xc wo xl yl xb yf P Su D N Ch Ln Bn) (v1 v2 : Int32) : wpX_given (fun r => wpY_given (fun r' => r' = r ∧ i_Rel (k + 4) (xH, fS, nI P, nI Su, nI D, nI N, nI Ch, nI Ln, nI Bn, bk, wo, be, dr, ho, op, ar, le, xk, xc, xl, xb, xs, xa) (fS, nI P, nI Ln, nI Bn, bk, yC, yS, dr, ho, op, ar, le, yk, yl, yf, yr, fd, pl, di, sh, sc, aw, nx, aO, bO, bu, tu, ow)) (fS, nI P, nI Ln, nI Bn, bk, yC, yS, dr, ho, op, ar, le, yk, yl, yf, yr, fd, pl, di, sh, sc, aw, nx, aO, bO, bu, tu, ow) v1 v2) (xH, fS, nI P, nI Su, nI D, nI N, nI Ch, nI Ln, nI Bn, bk, wo, be, dr, ho, op, ar, le, xk, xc, xl, xb, xs, xa) v1 v2 := by
  have I : i_Rel (k + 4) (xH, fS, nI P, nI Su, nI D, nI N, nI Ch, nI Ln, nI Bn, bk, wo, be, dr, ho, op, ar, le, xk, xc, xl, xb, xs, xa) (fS, nI P, nI Ln, nI Bn, bk, yC, yS, dr, ho, op, ar, le, yk, yl, yf, yr, fd, pl, di, sh, sc, aw, nx, aO, bO, bu, tu, ow) := zz_in H
  have no : ¬ ((0 ≤ v1 ∧ v1 ≤ 2) ∧ ¬ v2 < 1 ∧ ¬ v2 < nI P - 9 ∧ v2 ≤ nI P + 6) → wpY_given (fun r' => r' = -1 ∧ i_Rel (k + 4) (xH, fS, nI P, nI Su, nI D, nI N, nI Ch, nI Ln, nI Bn, bk, wo, be, dr, ho, op, ar, le, xk, xc, xl, xb, xs, xa) (fS, nI P, nI Ln, nI Bn, bk, yC, yS, dr, ho, op, ar, le, yk, yl, yf, yr, fd, pl, di, sh, sc, aw, nx, aO, bO, bu, tu, ow)) (fS, nI P, nI Ln, nI Bn, bk, yC, yS, dr, ho, op, ar, le, yk, yl, yf, yr, fd, pl, di, sh, sc, aw, nx, aO, bO, bu, tu, ow) v1 v2 := fun h => Y_given_no h ⟨rfl, I⟩
  obtain ⟨C, K, hC, hS, R, hL, hB⟩ := H
  unfold wpX_given
  refine X_outside (fun a1 => br_t rfl ⟨fun z => no (fun y => y.2.1 z), fun z1 => ⟨fun z => no (fun y => y.2.2.1 z), fun z2 => ⟨fun z3 => ?_, fun z3 => no (fun y => z3 y.2.2.2)⟩⟩⟩) (fun a1 => br_f (by decide) (no (fun y => a1 y.1)))
  obtain ⟨p, _, hp, rfl⟩ := rng (a := 0) (b := 2) rfl rfl a1
  obtain ⟨f, f0, f127, _, _, rfl⟩ := frm R.1 z1 z2 z3
  have i384 : vp_in (nI (128 * p + f)) 384 := vp_in_nI (by omega) (by decide)
  obtain ⟨c1, c2⟩ := hC p f (by omega) f0 f127
  refine nm_r (ad_c p f) ⟨i384, i384, ?_⟩
  rw [ye (f := xk) _ rfl (by omega) rfl, ye _ rfl (by omega) c1]
  have i381 : vp_in (127 * nI p + nI f) 381 := by rw [ad_k]; exact vp_in_nI (by omega) (by decide)
  refine ⟨fun y => ?_, fun y => ?_⟩
  · unfold wpY_given
    refine br_f (nI_pos (by omega)) (br_f (Int32.not_lt.mpr a1.2) (br_f z1 (br_f z2 (br_t z3 (Y_guess (by omega) f127 ⟨i381, ?_⟩)))))
    rw [ye (f := yk) _ (ad_k p f) (by omega) rfl]
    exact br_t (c2.mp y) ⟨rfl, I⟩
  · unfold wpY_given
    refine br_f (nI_pos (by omega)) (br_f (Int32.not_lt.mpr a1.2) (br_f z1 (br_f z2 (br_t z3 (Y_guess (by omega) f127 ⟨i381, ?_⟩)))))
    rw [ye (f := yk) _ (ad_k p f) (by omega) rfl]
    exact br_f (fun x => y (c2.mpr x)) ⟨rfl, I⟩
theorem i_vc_given {k : Nat} {u : SX} {v : SY} (I : i_Rel k u v) (hk : k + 4 ≤ 2049) (v1 : Int32) (v2 : Int32) : wpX_given (fun r => wpY_given (fun r' => r' = r ∧ i_Rel (k + 4) u v) v v1 v2) u v1 v2 := by
  refine zz_el (M := fun u v => wpX_given (fun r => wpY_given (fun r' => r' = r ∧ i_Rel (k + 4) u v) v v1 v2) u v1 v2) I ?_
  intro P Su D N Ch Ln Bn xH fS bk yC yS wo be dr ho op ar le xk xc xl xb xs xa yk yl yf yr fd pl di sh sc aw nx aO bO bu tu ow H
  exact c_given H v1 v2
theorem le_pr2 {v : Int32} {n : Nat} (hn : n < 1000) : v ≤ nI n - 1 ↔ v < nI n := by
  have e : (nI n - 1).toInt = (n : Int) - 1 := pk_sub_toInt (b := 1) (by omega) (by decide)
  rw [Int32.le_iff_toInt_le, Int32.lt_iff_toInt_lt, e, nI_toInt (by omega)]
  omega
theorem c_logged {k : Nat} {P Su D N Ch Ln Bn : Nat} {xH fS bk yC yS : Int32} {wo be dr ho op ar le xk xc xl xb xs xa yk yl yf yr fd pl di sh sc aw nx aO bO bu tu ow : Nat → Int32} (H : RL dr ho op ar le fS yk xk xc wo xl yl xb yf P Su D N Ch Ln Bn) (v1 : Int32) : wpX_logged (fun r => wpY_logged (fun r' => r' = r ∧ i_Rel (k + 4) (xH, fS, nI P, nI Su, nI D, nI N, nI Ch, nI Ln, nI Bn, bk, wo, be, dr, ho, op, ar, le, xk, xc, xl, xb, xs, xa) (fS, nI P, nI Ln, nI Bn, bk, yC, yS, dr, ho, op, ar, le, yk, yl, yf, yr, fd, pl, di, sh, sc, aw, nx, aO, bO, bu, tu, ow)) (fS, nI P, nI Ln, nI Bn, bk, yC, yS, dr, ho, op, ar, le, yk, yl, yf, yr, fd, pl, di, sh, sc, aw, nx, aO, bO, bu, tu, ow) v1) (xH, fS, nI P, nI Su, nI D, nI N, nI Ch, nI Ln, nI Bn, bk, wo, be, dr, ho, op, ar, le, xk, xc, xl, xb, xs, xa) v1 := by
  have I : i_Rel (k + 4) (xH, fS, nI P, nI Su, nI D, nI N, nI Ch, nI Ln, nI Bn, bk, wo, be, dr, ho, op, ar, le, xk, xc, xl, xb, xs, xa) (fS, nI P, nI Ln, nI Bn, bk, yC, yS, dr, ho, op, ar, le, yk, yl, yf, yr, fd, pl, di, sh, sc, aw, nx, aO, bO, bu, tu, ow) := zz_in H
  obtain ⟨C, K, hC, hS, R, ⟨hL, hl⟩, hB⟩ := H
  unfold wpX_logged wpY_logged
  refine X_outside (fun a1 => br_t rfl ?_) (fun a1 => br_f (by decide) ⟨fun _ => ⟨rfl, I⟩, fun z1 => ⟨fun z2 => absurd ⟨nrl z1, (le_pr2 (by omega)).mpr z2⟩ a1, fun _ => ⟨rfl, I⟩⟩⟩)
  have h1 := (le_pr2 (by omega)).mp a1.2
  obtain ⟨j, hj, rfl⟩ := nI_of (Int32.not_lt.mpr a1.1)
  have hj2 : j < Ln := (nI_ltI hj (by omega)).mp h1
  refine ⟨vp_in_nI (by omega) (by decide), br_f (nI_pos (by omega)) (br_t h1 ⟨vp_in_nI (by omega) (by decide), ?_, I⟩)⟩
  rw [ye (f := yl) j rfl (by omega) rfl, ye (f := xl) j rfl (by omega) rfl]
  exact (hl j hj2).symm
theorem i_vc_logged {k : Nat} {u : SX} {v : SY} (I : i_Rel k u v) (hk : k + 4 ≤ 2049) (v1 : Int32) : wpX_logged (fun r => wpY_logged (fun r' => r' = r ∧ i_Rel (k + 4) u v) v v1) u v1 := by
  refine zz_el (M := fun u v => wpX_logged (fun r => wpY_logged (fun r' => r' = r ∧ i_Rel (k + 4) u v) v v1) u v1) I ?_
  intro P Su D N Ch Ln Bn xH fS bk yC yS wo be dr ho op ar le xk xc xl xb xs xa yk yl yf yr fd pl di sh sc aw nx aO bO bu tu ow H
  exact c_logged H v1
end
section
/-! feed -/
theorem byt (z : Int32) : z.toInt8.toInt32 = sb_b (z.toBitVec.toNat % 256) ∧ z &&& 255 = nI (z.toBitVec.toNat % 256) := by
  have e : z &&& 255 = nI (z.toBitVec.toNat % 256) := pk_and z 8 (by decide)
  refine ⟨?_, e⟩
  unfold sb_b
  rw [← e]
  have e8 : z.toInt8 = (z &&& 255).toInt8 := by
    apply Int8.toBitVec_inj.mp
    rw [Int32.toBitVec_toInt8, Int32.toBitVec_toInt8, Int32.toBitVec_and]
    apply BitVec.eq_of_getLsbD_eq
    intro i hi
    have hm : ∀ i < 8, (255 : Int32).toBitVec.getLsbD i = true := by decide
    rw [BitVec.getLsbD_signExtend, BitVec.getLsbD_signExtend, if_pos (by omega), if_pos (by omega), BitVec.getLsbD_and, hm i hi, Bool.and_true]
  rw [e8]
theorem feed_ex {n : Nat} {w : Int32} : ∀ (e k Bn : Nat) (xb yf : Nat → Int32), k + e = n → n ≤ 4 → cB xb yf Bn → ∃ (Bm : Nat) (xb1 yf1 : Nat → Int32), cB xb1 yf1 Bm ∧
    (∀ {xH fS pR xS xD xN xC xL xK : Int32} {wo be dr ho op ar le xk xc xl xs xa : Nat → Int32} {post : Int32 → SX → Prop}, post (nI Bm) (xH, fS, pR, xS, xD, xN, xC, xL, nI Bm, xK, wo, be, dr, ho, op, ar, le, xk, xc, xl, xb1, xs, xa) → wX_feed_13 post w (nI n) xH fS pR xS xD xN xC xL xK (e + 1) (nI k) (nI Bn) wo be dr ho op ar le xk xc xl xb xs xa) ∧
    (∀ {fS pR yL yK yC yS : Int32} {dr ho op ar le yk yl yr fd pl di sh sc aw nx aO bO bu tu ow : Nat → Int32} {post : Int32 → SY → Prop}, post (nI Bm) (fS, pR, yL, nI Bm, yK, yC, yS, dr, ho, op, ar, le, yk, yl, yf1, yr, fd, pl, di, sh, sc, aw, nx, aO, bO, bu, tu, ow) → wY_feed_14 post w (nI n) fS pR yL yK yC yS (e + 1) (nI k) (nI Bn) dr ho op ar le yk yl yf yr fd pl di sh sc aw nx aO bO bu tu ow) := by
  intro e
  induction e with
  | zero =>
    intro k Bn xb yf hk hn hB
    obtain rfl : k = n := by omega
    refine ⟨Bn, xb, yf, hB, ?_, ?_⟩
    · intro xH fS pR xS xD xN xC xL xK wo be dr ho op ar le xk xc xl xs xa post hp
      exact br_t (nI_le (by omega) (by omega)) hp
    · intro fS pR yL yK yC yS dr ho op ar le yk yl yr fd pl di sh sc aw nx aO bO bu tu ow post hp
      exact br_t (nI_le (by omega) (by omega)) hp
  | succ e ih =>
    intro k Bn xb yf hk hn hB
    by_cases g : 512 ≤ Bn
    · have hb := hB.1
      obtain ⟨Bm, xb1, yf1, h1, h2, h3⟩ := ih (k + 1) Bn xb yf (by omega) hn hB
      have stay : ∀ (e2 k2 : Nat) {xH fS pR xS xD xN xC xL xK : Int32} {wo be dr ho op ar le xk xc xl xs xa : Nat → Int32} {post : Int32 → SX → Prop}, k2 + e2 = n → post (nI Bn) (xH, fS, pR, xS, xD, xN, xC, xL, nI Bn, xK, wo, be, dr, ho, op, ar, le, xk, xc, xl, xb, xs, xa) → wX_feed_13 post w (nI n) xH fS pR xS xD xN xC xL xK (e2 + 1) (nI k2) (nI Bn) wo be dr ho op ar le xk xc xl xb xs xa := by
        intro e2
        induction e2 with
        | zero =>
          intro k2 xH fS pR xS xD xN xC xL xK wo be dr ho op ar le xk xc xl xs xa post hk2 hp
          exact br_t (nI_le (by omega) (by omega)) hp
        | succ e2 ih2 =>
          intro k2 xH fS pR xS xD xN xC xL xK wo be dr ho op ar le xk xc xl xs xa post hk2 hp
          exact br_f (nI_ge (by omega) (by omega)) (br_t (nI_le (a := 512) g (by omega)) (nm_r (nI_1 k2) (ih2 (k2 + 1) (by omega) hp)))
      refine ⟨Bn, xb, yf, hB, ?_, ?_⟩
      · intro xH fS pR xS xD xN xC xL xK wo be dr ho op ar le xk xc xl xs xa post hp
        exact stay (e + 1) k (by omega) hp
      · intro fS pR yL yK yC yS dr ho op ar le yk yl yr fd pl di sh sc aw nx aO bO bu tu ow post hp
        exact br_f (nI_ge (by omega) (by omega)) (br_t (nI_le (a := 512) g (by omega)) hp)
    · obtain ⟨z, ez⟩ : ∃ z, z = w >>> ((8 * nI k) &&& 31) := ⟨_, rfl⟩
      obtain ⟨b1, b2⟩ := byt z
      have hb : z.toBitVec.toNat % 256 < 256 := Nat.mod_lt _ (by decide)
      obtain ⟨Bm, xb1, yf1, h1, h2, h3⟩ := ih (k + 1) (Bn + 1) (upd xb Bn (sb_b (z.toBitVec.toNat % 256))) (upd yf Bn (nI (z.toBitVec.toNat % 256))) (by omega) hn ⟨by omega, fun j hj => by
        by_cases ej : j = Bn
        · subst ej
          exact ⟨_, hb, pk_us, pk_us⟩
        · rw [pk_un ej, pk_un ej]
          exact hB.2 j (by omega)⟩
      refine ⟨Bm, xb1, yf1, h1, ?_, ?_⟩
      · intro xH fS pR xS xD xN xC xL xK wo be dr ho op ar le xk xc xl xs xa post hp
        refine br_f (nI_ge (by omega) (by omega)) (br_f (nI_ge (b := 512) (by omega) (by decide)) ?_)
        rw [← ez, pk_vb, b1]
        exact nm_r (nI_1 Bn) (yw Bn rfl (by omega) (by decide) (nm_r (nI_1 k) (h2 hp)))
      · intro fS pR yL yK yC yS dr ho op ar le yk yl yr fd pl di sh sc aw nx aO bO bu tu ow post hp
        refine br_f (nI_ge (by omega) (by omega)) (br_f (nI_ge (b := 512) (by omega) (by decide)) ?_)
        rw [← ez, b2]
        exact nm_r (nI_1 Bn) (yw Bn rfl (by omega) (by decide) (nm_r (nI_1 k) (h3 hp)))
theorem c_feed {k : Nat} {P Su D N Ch Ln Bn : Nat} {xH fS bk yC yS : Int32} {wo be dr ho op ar le xk xc xl xb xs xa yk yl yf yr fd pl di sh sc aw nx aO bO bu tu ow : Nat → Int32} (H : RL dr ho op ar le fS yk xk xc wo xl yl xb yf P Su D N Ch Ln Bn) (v1 v2 : Int32) : wpX_feed (fun r u' => wpY_feed (fun r' v' => r' = r ∧ i_Rel (k + 4) u' v') (fS, nI P, nI Ln, nI Bn, bk, yC, yS, dr, ho, op, ar, le, yk, yl, yf, yr, fd, pl, di, sh, sc, aw, nx, aO, bO, bu, tu, ow) v1 v2) (xH, fS, nI P, nI Su, nI D, nI N, nI Ch, nI Ln, nI Bn, bk, wo, be, dr, ho, op, ar, le, xk, xc, xl, xb, xs, xa) v1 v2 := by
  have H0 := H
  obtain ⟨C, K, hC, hS, R, hL, hB⟩ := H
  unfold wpX_feed
  refine X_outside (fun a1 => br_t rfl ?_) (fun a1 => br_f (by decide) ?_)
  · obtain ⟨n, hn1, hn, rfl⟩ := rng (a := 1) (b := 4) rfl rfl a1
    obtain ⟨Bm, xb1, yf1, h1, h2, h3⟩ := feed_ex (w := v1) n 0 Bn xb yf (by omega) hn hB
    refine ⟨n + 1, h2 ?_⟩
    unfold wpY_feed
    exact br_f (Int32.not_lt.mpr a1.1) (br_t a1.2 ⟨n + 1, h3 ⟨rfl, zz_in ⟨C, K, hC, hS, R, hL, h1⟩⟩⟩)
  · unfold wpY_feed
    exact ⟨fun _ => ⟨rfl, zz_in H0⟩, fun z1 => ⟨fun z2 => absurd ⟨Int32.not_lt.mp z1, z2⟩ a1, fun _ => ⟨rfl, zz_in H0⟩⟩⟩
theorem i_vc_feed {k : Nat} {u : SX} {v : SY} (I : i_Rel k u v) (hk : k + 4 ≤ 2049) (v1 : Int32) (v2 : Int32) : wpX_feed (fun r u' => wpY_feed (fun r' v' => r' = r ∧ i_Rel (k + 4) u' v') v v1 v2) u v1 v2 := by
  refine zz_el (M := fun u v => wpX_feed (fun r u' => wpY_feed (fun r' v' => r' = r ∧ i_Rel (k + 4) u' v') v v1 v2) u v1 v2) I ?_
  intro P Su D N Ch Ln Bn xH fS bk yC yS wo be dr ho op ar le xk xc xl xb xs xa yk yl yf yr fd pl di sh sc aw nx aO bO bu tu ow H
  exact c_feed H v1 v2
/-! the inputs that are sure -/
theorem cS_ex {yk : Nat → Int32} : ∀ e Su, Su + e = 126 → (∀ f, 0 < f → f ≤ Su → ∀ p, p < 3 → ¬ yk (127 * p + f) < 0) → ∃ S2, Su ≤ S2 ∧ cS yk S2 := by
  intro e
  induction e with
  | zero =>
    intro Su hs h
    exact ⟨Su, Nat.le_refl _, by omega, h, fun z => absurd z (by omega)⟩
  | succ e ih =>
    intro Su hs h
    by_cases g : ∃ p, p < 3 ∧ yk (127 * p + (Su + 1)) < 0
    · exact ⟨Su, Nat.le_refl _, by omega, h, fun _ => g⟩
    · obtain ⟨S2, h1, h2⟩ := ih (Su + 1) (by omega) (fun f f0 fS p hp => by
        by_cases ef : f = Su + 1
        · subst ef
          exact fun z => g ⟨p, hp, z⟩
        · exact h f f0 (by omega) p hp)
      exact ⟨S2, by omega, h2⟩
section
variable {xH fS pR xS xD xN xC xL xB xK : Int32} {wo be dr ho op ar le xk xc xl xb xs xa : Nat → Int32}
theorem X_allK {post : Int32 → Prop} {yk : Nat → Int32} {c : Nat} (hC : cC yk xk xc) (hc : c < 126) (h1 : (∀ p, p < 3 → ¬ yk (127 * p + (c + 1)) < 0) → post 1) (h0 : ¬ (∀ p, p < 3 → ¬ yk (127 * p + (c + 1)) < 0) → post 0) : wpX_allKnown post (xH, fS, pR, xS, xD, xN, xC, xL, xB, xK, wo, be, dr, ho, op, ar, le, xk, xc, xl, xb, xs, xa) (nI (c + 1)) := by
  have e1 : 128 + nI (c + 1) = nI (128 * 1 + (c + 1)) := nI_add 128 (c + 1)
  have e2 : 256 + nI (c + 1) = nI (128 * 2 + (c + 1)) := nI_add 256 (c + 1)
  have e0 : nI (c + 1) = nI (128 * 0 + (c + 1)) := congrArg nI (by omega)
  have k0 := (hC 0 (c + 1) (by decide) (by omega) (by omega)).2
  have k1 := (hC 1 (c + 1) (by decide) (by omega) (by omega)).2
  have k2 := (hC 2 (c + 1) (by decide) (by omega) (by omega)).2
  unfold wpX_allKnown
  refine ⟨by rw [e0]; exact vp_in_nI (by omega) (by decide), ?_⟩
  rw [ye (f := xk) _ e0 (by omega) rfl]
  refine ⟨fun z => h0 (fun y => y 0 (by decide) (k0.mp z)), fun z0 => ⟨by rw [e1]; exact vp_in_nI (by omega) (by decide), ?_⟩⟩
  rw [ye (f := xk) _ e1 (by omega) rfl]
  refine ⟨fun z => h0 (fun y => y 1 (by decide) (k1.mp z)), fun z1 => ⟨by rw [e2]; exact vp_in_nI (by omega) (by decide), ?_⟩⟩
  rw [ye (f := xk) _ e2 (by omega) rfl]
  refine ⟨fun z => h0 (fun y => y 2 (by decide) (k2.mp z)), fun z2 => h1 (fun p hp => ?_)⟩
  have : p = 0 ∨ p = 1 ∨ p = 2 := by omega
  rcases this with rfl | rfl | rfl
  · exact fun y => z0 (k0.mpr y)
  · exact fun y => z1 (k1.mpr y)
  · exact fun y => z2 (k2.mpr y)
theorem X_confl {post : SX → Prop} {yk : Nat → Int32} {S2 : Nat} (hC : cC yk xk xc) (hS : cS yk S2) (hp : post (xH, fS, pR, nI S2, xD, xN, xC, xL, xB, xK, wo, be, dr, ho, op, ar, le, xk, xc, xl, xb, xs, xa)) : ∀ e c, c + e = S2 → wX_confirm_0 post xH fS pR xD xN xC xL xB xK wo be dr ho op ar le xk xc xl xb xs xa (e + 1) (nI c) := by
  obtain ⟨h1, h2, h3⟩ := hS
  intro e
  induction e with
  | zero =>
    intro c hc
    obtain rfl : c = S2 := by omega
    refine ⟨fun _ => hp, fun z => ?_⟩
    have hc126 : c < 126 := by
      by_cases g : c < 126
      · exact g
      · exact absurd (nI_le (a := 126) (by omega) (by omega)) z
    rw [nI_1 c]
    refine X_allK hC hc126 (fun y => ?_) (fun _ => br_t rfl hp)
    obtain ⟨p, hp3, hlt⟩ := h3 hc126
    exact absurd hlt (y p hp3)
  | succ e ih =>
    intro c hc
    refine br_f (nI_ge (b := 126) (by omega) (by decide)) ?_
    rw [nI_1 c]
    exact X_allK hC (by omega) (fun _ => br_f (by decide) (nm_e (ih (c + 1) (by omega)))) (fun y => absurd (h2 (c + 1) (by omega) (by omega)) y)
theorem X_confirm {post : SX → Prop} {yk : Nat → Int32} {Su S2 : Nat} (hC : cC yk xk xc) (hS : cS yk S2) (hle : Su ≤ S2) (hp : post (xH, fS, pR, nI S2, xD, xN, xC, xL, xB, xK, wo, be, dr, ho, op, ar, le, xk, xc, xl, xb, xs, xa)) : wpX_confirm post (xH, fS, pR, nI Su, xD, xN, xC, xL, xB, xK, wo, be, dr, ho, op, ar, le, xk, xc, xl, xb, xs, xa) := ⟨S2 - Su + 1, X_confl hC hS hp (S2 - Su) Su (by omega)⟩
end
/-! advance -/
theorem gs_seal {yk : Nat → Int32} {p f : Nat} (K : kV yk) (hp : p < 3) (f0 : 0 < f) (hf : f < 127) (q : Nat) : ∀ g, g < 127 → gs (upd yk (127 * p + f) (gs yk p f)) q g = gs yk q g := by
  intro g
  induction g with
  | zero => intro _; rfl
  | succ g ih =>
    intro hg
    rw [gs, gs]
    by_cases e : 127 * q + (g + 1) = 127 * p + f
    · obtain rfl : q = p := by omega
      obtain rfl : f = g + 1 := by omega
      obtain ⟨v, hv, ev⟩ := gs_v K hp (g + 1) hf
      rw [pk_us, if_neg (by rw [ev]; exact nI_pos (by omega))]
      rfl
    · rw [pk_un e, ih (by omega)]
theorem seal1 {yk xk xc : Nat → Int32} {p f : Nat} {v : Int32} (K : kV yk) (hC : cC yk xk xc) (hp : p < 3) (f0 : 0 < f) (hf : f < 127) (hv : ¬ v = 0) : kV (upd yk (127 * p + f) (gs yk p f)) ∧ cC (upd yk (127 * p + f) (gs yk p f)) (upd xk (128 * p + f) v) xc := by
  obtain ⟨w, hw, ew⟩ := gs_v K hp f hf
  refine ⟨fun q g hq g0 hg => ?_, fun q g hq g0 hg => ⟨?_, ?_⟩⟩
  · by_cases e : 127 * q + g = 127 * p + f
    · rw [e, pk_us]
      exact Or.inr ⟨w, hw, ew⟩
    · rw [pk_un e]
      exact K q g hq g0 hg
  · rw [gs_seal K hp f0 hf q g hg]
    exact (hC q g hq g0 hg).1
  · by_cases e : q = p ∧ g = f
    · obtain ⟨rfl, rfl⟩ := e
      rw [pk_us, pk_us, ew]
      exact ⟨fun z => absurd z hv, fun z => absurd z (nI_pos (by omega))⟩
    · rw [pk_un (by omega), pk_un (by omega)]
      exact (hC q g hq g0 hg).2
theorem St_cg {dr ho op ar le yk yk2 : Nat → Int32} {fS : Int32} : ∀ f, (∀ g, 0 < g → g ≤ f → iN yk2 g = iN yk g) → St dr ho op ar le fS yk2 f = St dr ho op ar le fS yk f := by
  intro f
  induction f with
  | zero => intro _; rfl
  | succ f ih =>
    intro h
    rw [St, St, ih (fun g g0 hg => h g g0 (by omega)), h (f + 1) (by omega) (by omega)]
theorem rG_cg {dr ho op ar le yk yk2 wo : Nat → Int32} {fS : Int32} {P P2 D N Ch : Nat} (R : rG dr ho op ar le fS yk wo P D N Ch) (hP : P ≤ P2) (hP2 : P2 ≤ 120) (h : ∀ g, g < 127 → iN yk2 g = iN yk g) : rG dr ho op ar le fS yk2 wo P2 D N Ch := by
  obtain ⟨r1, r2, r3, r4, r5, r6, r7, r8⟩ := R
  refine ⟨hP2, r2, r3, by omega, r5, r6, fun g g1 g2 => ?_, fun g g1 g2 g3 => ?_⟩
  · rw [St_cg g (fun g' _ h2 => h g' (by omega))]
    exact r7 g g1 g2
  · rw [h (g + 1) (by omega)]
    exact r8 g g1 g2 g3
section
variable {fS pR yL yF yK yC yS : Int32} {dr ho op ar le yk yl yf yr fd pl di sh sc aw nx aO bO bu tu ow : Nat → Int32}
theorem Y_a52 {post : Int32 → SY → Prop} {J : Int32 → Int32 → (Nat → Int32) → (Nat → Int32) → (Nat → Int32) → (Nat → Int32) → (Nat → Int32) → (Nat → Int32) → (Nat → Int32) → (Nat → Int32) → (Nat → Int32) → (Nat → Int32) → (Nat → Int32) → (Nat → Int32) → (Nat → Int32) → (Nat → Int32) → (Nat → Int32) → (Nat → Int32) → (Nat → Int32) → (Nat → Int32) → (Nat → Int32) → (Nat → Int32) → (Nat → Int32) → Prop} {x1 x2 : Int32} {f p n : Nat} (hp : p < 3) (f0 : 0 < f) (hf : f < 127) (h : wY_advance_52 post J x1 x2 (nI f) fS pR yL yF yK yC yS n (nI (p + 1)) dr ho op ar le (upd yk (127 * p + f) (gs yk p f)) yl yf yr fd pl di sh sc aw nx aO bO bu tu ow) : wY_advance_52 post J x1 x2 (nI f) fS pR yL yF yK yC yS (n + 1) (nI p) dr ho op ar le yk yl yf yr fd pl di sh sc aw nx aO bO bu tu ow :=
  br_f (nI_ge (b := 3) hp (by decide)) (br_f (nI_nle f0 (by omega)) (Y_guess hp hf (yw _ (ad_k p f) (by omega) (by decide) (nm_r (nI_1 p) h))))
end
theorem gs_iN {yk yk2 : Nat → Int32} {g : Nat} (h : ∀ q, gs yk2 q g = gs yk q g) : iN yk2 g = iN yk g := by
  funext q
  unfold iN
  rw [h q]
theorem adv_ex {n : Nat} (hn : n ≤ 8) : ∀ (e k P : Nat) (yk xk xc : Nat → Int32), k + e = n → P + e ≤ 120 → kV yk → cC yk xk xc → ∃ yk1 xk1 : Nat → Int32, kV yk1 ∧ cC yk1 xk1 xc ∧ (∀ g, g < 127 → iN yk1 g = iN yk g) ∧ (∀ j, ¬ yk j < 0 → ¬ yk1 j < 0) ∧
    (∀ {xH fS xS xD xN xC xL xB xK : Int32} {wo be dr ho op ar le xl xb xs xa : Nat → Int32} {post : Int32 → SX → Prop}, wpX_confirm (fun u => match u with | (xH, fS, pR, xS, xD, xN, xC, xL, xB, xK, wo, be, dr, ho, op, ar, le, xk, xc, xl, xb, xs, xa) => post pR (xH, fS, pR, xS, xD, xN, xC, xL, xB, xK, wo, be, dr, ho, op, ar, le, xk, xc, xl, xb, xs, xa)) (xH, fS, nI (P + e), xS, xD, xN, xC, xL, xB, xK, wo, be, dr, ho, op, ar, le, xk1, xc, xl, xb, xs, xa) → wX_advance_25 post (nI n) xH fS xS xD xN xC xL xB xK (e + 1) (nI k) (nI P) wo be dr ho op ar le xk xc xl xb xs xa) ∧
    (∀ {fS yL yF yK yC yS : Int32} {dr ho op ar le yl yf yr fd pl di sh sc aw nx aO bO bu tu ow : Nat → Int32} {post : Int32 → SY → Prop}, post (nI (P + e)) (fS, nI (P + e), yL, yF, yK, yC, yS, dr, ho, op, ar, le, yk1, yl, yf, yr, fd, pl, di, sh, sc, aw, nx, aO, bO, bu, tu, ow) → wY_advance_26 post (nI n) fS yL yF yK yC yS (e + 1) (nI k) (nI P) dr ho op ar le yk yl yf yr fd pl di sh sc aw nx aO bO bu tu ow) := by
  intro e
  induction e with
  | zero =>
    intro k P yk xk xc hk hP K hC
    obtain rfl : k = n := by omega
    refine ⟨yk, xk, K, hC, fun _ _ => rfl, fun _ h => h, ?_, ?_⟩
    · intro xH fS xS xD xN xC xL xB xK wo be dr ho op ar le xl xb xs xa post hp
      exact br_t (nI_le (by omega) (by omega)) hp
    · intro fS yL yF yK yC yS dr ho op ar le yl yf yr fd pl di sh sc aw nx aO bO bu tu ow post hp
      exact br_t (nI_le (by omega) (by omega)) hp
  | succ e ih =>
    intro k P yk xk xc hk hP K hC
    by_cases g : 10 ≤ P
    · obtain ⟨f, ef⟩ : ∃ f, f = P + 1 - 10 := ⟨_, rfl⟩
      have e10 : nI (P + 1) - 10 = nI f := by
        rw [ef]
        exact pk_sub (b := 10) (by omega)
      have n1 : ¬ vp_nar .boolean 1 = 0 := by decide
      obtain ⟨K1, C1⟩ := seal1 (p := 0) K hC (by decide) (show 0 < f by omega) (by omega) n1
      obtain ⟨K2, C2⟩ := seal1 (p := 1) K1 C1 (by decide) (show 0 < f by omega) (by omega) n1
      obtain ⟨K3, C3⟩ := seal1 (p := 2) K2 C2 (by decide) (show 0 < f by omega) (by omega) n1
      obtain ⟨yk1, xk1, h1, h2, h3, h4, h5, h6⟩ := ih (k + 1) (P + 1) _ _ xc (by omega) (by omega) K3 C3
      have mono : ∀ (y : Nat → Int32) (p : Nat), kV y → p < 3 → ∀ j, ¬ y j < 0 → ¬ upd y (127 * p + f) (gs y p f) j < 0 := by
        intro y p Ky hp j hj
        by_cases ej : j = 127 * p + f
        · subst ej
          obtain ⟨v, hv, ev⟩ := gs_v Ky hp f (by omega)
          rw [pk_us, ev]
          exact nI_pos (by omega)
        · rw [pk_un ej]; exact hj
      refine ⟨yk1, xk1, h1, h2, fun i hi => (h3 i hi).trans ?_, fun j hj => h4 j (mono _ 2 K2 (by decide) j (mono _ 1 K1 (by decide) j (mono _ 0 K (by decide) j hj))), ?_, ?_⟩
      · exact ((gs_iN (fun q => gs_seal K2 (by decide) (by omega) (by omega) q i hi)).trans (gs_iN (fun q => gs_seal K1 (by decide) (by omega) (by omega) q i hi))).trans (gs_iN (fun q => gs_seal K (by decide) (by omega) (by omega) q i hi))
      · intro xH fS xS xD xN xC xL xB xK wo be dr ho op ar le xl xb xs xa post hp
        rw [show P + (e + 1) = P + 1 + e by omega] at hp
        have a0 : nI f = nI (128 * 0 + f) := congrArg nI (by omega)
        exact br_f (nI_ge (by omega) (by omega)) (nm_r (nI_1 P) (nm_r e10 (br_t (nI_le (a := 1) (by omega) (by omega)) (yw _ a0 (by omega) (by decide) (yw _ (nI_add 128 f) (by omega) (by decide) (yw _ (nI_add 256 f) (by omega) (by decide) (nm_r (nI_1 k) (h5 hp))))))))
      · intro fS yL yF yK yC yS dr ho op ar le yl yf yr fd pl di sh sc aw nx aO bO bu tu ow post hp
        rw [show P + (e + 1) = P + 1 + e by omega] at hp
        exact br_f (nI_ge (by omega) (by omega)) (nm_r (nI_1 P) (nm_r e10 ⟨4, Y_a52 (p := 0) (by decide) (by omega) (by omega) (Y_a52 (p := 1) (by decide) (by omega) (by omega) (Y_a52 (p := 2) (by decide) (by omega) (by omega) (br_t (by decide) (nm_r (nI_1 k) (h6 hp)))))⟩))
    · have neg : (nI (P + 1) - 10).toInt = ((P + 1 : Nat) : Int) - 10 := pk_sub_toInt (b := 10) (by omega) (by decide)
      have e1 : (1 : Int32).toInt = 1 := by decide
      obtain ⟨yk1, xk1, h1, h2, h3, h4, h5, h6⟩ := ih (k + 1) (P + 1) yk xk xc (by omega) (by omega) K hC
      refine ⟨yk1, xk1, h1, h2, h3, h4, ?_, ?_⟩
      · intro xH fS xS xD xN xC xL xB xK wo be dr ho op ar le xl xb xs xa post hp
        rw [show P + (e + 1) = P + 1 + e by omega] at hp
        refine br_f (nI_ge (by omega) (by omega)) (nm_r (nI_1 P) (nm_e (br_f ?_ (nm_r (nI_1 k) (h5 hp)))))
        rw [Int32.le_iff_toInt_le, neg, e1]
        omega
      · intro fS yL yF yK yC yS dr ho op ar le yl yf yr fd pl di sh sc aw nx aO bO bu tu ow post hp
        rw [show P + (e + 1) = P + 1 + e by omega] at hp
        refine br_f (nI_ge (by omega) (by omega)) (nm_r (nI_1 P) (nm_e ⟨1, br_f (by decide) (br_t ?_ (nm_r (nI_1 k) (h6 hp)))⟩))
        rw [Int32.le_iff_toInt_le, neg, i32_0]
        omega
section
variable {fS pR yL yF yK yC yS : Int32} {dr ho op ar le yk yl yf yr fd pl di sh sc aw nx aO bO bu tu ow : Nat → Int32}
theorem Y_adv_no {post : Int32 → SY → Prop} {p0 : Int32} (h : ¬ ((1 ≤ p0 ∧ p0 ≤ 8) ∧ pR + p0 ≤ 120)) (hp : post (-1) (fS, pR, yL, yF, yK, yC, yS, dr, ho, op, ar, le, yk, yl, yf, yr, fd, pl, di, sh, sc, aw, nx, aO, bO, bu, tu, ow)) : wpY_advance post (fS, pR, yL, yF, yK, yC, yS, dr, ho, op, ar, le, yk, yl, yf, yr, fd, pl, di, sh, sc, aw, nx, aO, bO, bu, tu, ow) p0 := by
  unfold wpY_advance
  exact ⟨fun _ => hp, fun z1 => ⟨fun _ => hp, fun z2 => ⟨fun z3 => absurd ⟨⟨Int32.not_lt.mp z1, Int32.not_lt.mp z2⟩, z3⟩ h, fun _ => hp⟩⟩⟩
end
theorem c_advance {k : Nat} {P Su D N Ch Ln Bn : Nat} {xH fS bk yC yS : Int32} {wo be dr ho op ar le xk xc xl xb xs xa yk yl yf yr fd pl di sh sc aw nx aO bO bu tu ow : Nat → Int32} (H : RL dr ho op ar le fS yk xk xc wo xl yl xb yf P Su D N Ch Ln Bn) (v1 : Int32) : wpX_advance (fun r u' => wpY_advance (fun r' v' => r' = r ∧ i_Rel (k + 4) u' v') (fS, nI P, nI Ln, nI Bn, bk, yC, yS, dr, ho, op, ar, le, yk, yl, yf, yr, fd, pl, di, sh, sc, aw, nx, aO, bO, bu, tu, ow) v1) (xH, fS, nI P, nI Su, nI D, nI N, nI Ch, nI Ln, nI Bn, bk, wo, be, dr, ho, op, ar, le, xk, xc, xl, xb, xs, xa) v1 := by
  have no : ¬ ((1 ≤ v1 ∧ v1 ≤ 8) ∧ nI P + v1 ≤ 120) → wpY_advance (fun r' v' => r' = -1 ∧ i_Rel (k + 4) (xH, fS, nI P, nI Su, nI D, nI N, nI Ch, nI Ln, nI Bn, bk, wo, be, dr, ho, op, ar, le, xk, xc, xl, xb, xs, xa) v') (fS, nI P, nI Ln, nI Bn, bk, yC, yS, dr, ho, op, ar, le, yk, yl, yf, yr, fd, pl, di, sh, sc, aw, nx, aO, bO, bu, tu, ow) v1 := fun h => Y_adv_no h ⟨rfl, zz_in H⟩
  obtain ⟨C, K, hC, hS, R, hL, hB⟩ := H
  have hP := R.1
  unfold wpX_advance
  refine X_outside (fun a1 => br_t rfl ⟨fun a2 => ?_, fun a2 => no (fun z => a2 z.2)⟩) (fun a1 => br_f (by decide) (no (fun z => a1 z.1)))
  obtain ⟨n, hn1, hn, rfl⟩ := rng (a := 1) (b := 8) rfl rfl a1
  have hPn : P + n ≤ 120 := by
    have h := a2
    rw [nI_add] at h
    exact (nI_leI (b := 120) (by omega) (by decide)).mp h
  obtain ⟨yk1, xk1, h1, h2, h3, h4, h5, h6⟩ := adv_ex hn n 0 P yk xk xc (by omega) hPn K hC
  obtain ⟨S2, hS2, cS2⟩ := cS_ex (yk := yk1) (126 - Su) Su (by have := hS.1; omega) (fun f f0 fS p hp => h4 _ (hS.2.1 f f0 fS p hp))
  refine ⟨n + 1, h5 (X_confirm h2 cS2 hS2 ?_)⟩
  unfold wpY_advance
  exact br_f (Int32.not_lt.mpr a1.1) (br_f (Int32.not_lt.mpr a1.2) (br_t a2 ⟨n + 1, h6 ⟨rfl, zz_in ⟨C, h1, h2, cS2, rG_cg R (by omega) hPn h3, hL, hB⟩⟩⟩))
theorem i_vc_advance {k : Nat} {u : SX} {v : SY} (I : i_Rel k u v) (hk : k + 4 ≤ 2049) (v1 : Int32) : wpX_advance (fun r u' => wpY_advance (fun r' v' => r' = r ∧ i_Rel (k + 4) u' v') v v1) u v1 := by
  refine zz_el (M := fun u v => wpX_advance (fun r u' => wpY_advance (fun r' v' => r' = r ∧ i_Rel (k + 4) u' v') v v1) u v1) I ?_
  intro P Su D N Ch Ln Bn xH fS bk yC yS wo be dr ho op ar le xk xc xl xb xs xa yk yl yf yr fd pl di sh sc aw nx aO bO bu tu ow H
  exact c_advance H v1
end
section
/-! input -/
/-- where the loop over the frames from f0 on stands: it is at f -/
def iV (yk xc : Nat → Int32) (p f0 v N D0 C0 f D Ch : Nat) : Prop :=
  (∀ q g, q < 3 → 0 < g → g < 127 → xc (128 * q + g) = if q = p ∧ f0 ≤ g ∧ g < f then nI v else gs yk q g) ∧
  (∀ g, f0 ≤ g → g < f → g < 127 → ¬ gs yk p g = nI v → D ≤ g ∧ (g ≤ N → g ≤ Ch)) ∧
  (D ≤ D0 ∧ (D = D0 ∨ f0 ≤ D) ∧ C0 ≤ Ch ∧ Ch ≤ N) ∧
  (∀ g, f0 < g → g < f → g < 127 → yk (127 * p + g) < 0)
section
variable {xH fS pR xS xD xN xC xL xB xK : Int32} {wo be dr ho op ar le xk xc xl xb xs xa : Nat → Int32}
theorem X_in84 {post : Int32 → SX → Prop} {yk : Nat → Int32} {p f0 v N D0 C0 : Nat} (hp3 : p < 3) (h0 : 0 < f0) (hv : v < 16) (hN : N ≤ 120) (hD0 : D0 ≤ 121) (hk : ∀ g, f0 < g → g < 127 → (xk (128 * p + g) = 0 ↔ yk (127 * p + g) < 0))
    (hx : ∀ (f D Ch : Nat) (xc : Nat → Int32), iV yk xc p f0 v N D0 C0 f D Ch → f0 < f → (127 ≤ f ∨ ¬ yk (127 * p + f) < 0) → wpX_confirm (fun u => match u with | (xH, fS, pR, xS, xD, xN, xC, xL, xB, xK, wo, be, dr, ho, op, ar, le, xk, xc, xl, xb, xs, xa) => post xS (xH, fS, pR, xS, xD, xN, xC, xL, xB, xK, wo, be, dr, ho, op, ar, le, xk, xc, xl, xb, xs, xa)) (xH, fS, pR, xS, nI D, nI N, nI Ch, xL, xB, xK, wo, be, dr, ho, op, ar, le, xk, xc, xl, xb, xs, xa)) :
    ∀ (e f D Ch : Nat) (xc : Nat → Int32), f + e = 127 → f0 ≤ f → iV yk xc p f0 v N D0 C0 f D Ch → (f0 < f → f < 127 → yk (127 * p + f) < 0) → wX_input_84 post (nI p) (nI v) xH fS pR xS (nI N) xL xB xK (e + 2) 1 (nI f) (nI D) (nI Ch) wo be dr ho op ar le xk xc xl xb xs xa := by
  intro e
  induction e with
  | zero =>
    intro f D Ch xc hf hf0 hI hun
    obtain rfl : f = 127 := by omega
    obtain ⟨i1, i2, i3, i4⟩ := hI
    have i384 : vp_in (nI (128 * p + 127)) 384 := vp_in_nI (by omega) (by decide)
    have fin : ∀ xc2 : Nat → Int32, (∀ j, j ≠ 128 * p + 127 → xc2 j = xc j) → wX_input_158 post (wX_input_84 post (nI p) (nI v) xH fS pR xS (nI N) xL xB xK 1) (nI p) (nI v) (nI 127) xH fS pR xS (nI D) (nI N) (nI Ch) xL xB xK wo be dr ho op ar le xk xc2 xl xb xs xa := by
      intro xc2 hx2
      refine nm_r (nI_1 127) (br_t (by decide) (br_t rfl (hx 128 D Ch xc2 ⟨fun q g hq g0 hg => ?_, fun g g1 g2 g3 => i2 g g1 (by omega) g3, i3, fun g g1 g2 g3 => i4 g g1 (by omega) g3⟩ (by omega) (Or.inl (by omega)))))
      rw [hx2 _ (by omega), i1 q g hq g0 hg]
      by_cases c : q = p ∧ f0 ≤ g ∧ g < 127
      · rw [if_pos c, if_pos ⟨c.1, c.2.1, by omega⟩]
      · rw [if_neg c, if_neg (by omega)]
    refine br_f (by decide) (nm_r (ad_c p 127) ⟨i384, ?_⟩)
    rw [ye (f := xc) _ rfl (by omega) rfl]
    refine ⟨fun _ => fin xc (fun _ _ => rfl), fun _ => ?_⟩
    rw [v8s (d := v) (by omega)]
    refine yw _ rfl (by omega) (by decide) (br_t (nI_le (by omega) (by omega)) (br_t (nI_lt (by omega) (by omega)) (fin _ (fun j hj => pk_un hj))))
  | succ e ih =>
    intro f D Ch xc hf hf0 hI hun
    obtain ⟨i1, i2, i3, i4⟩ := hI
    have i384 : vp_in (nI (128 * p + f)) 384 := vp_in_nI (by omega) (by decide)
    have exc : xc (128 * p + f) = gs yk p f := by
      rw [i1 p f hp3 (by omega) (by omega), if_neg (by omega)]
    have fin : ∀ (xc2 : Nat → Int32) (D2 C2 : Nat), (∀ j, j ≠ 128 * p + f → xc2 j = xc j) → xc2 (128 * p + f) = nI v → D2 ≤ D → (D2 = D ∨ D2 = f) → Ch ≤ C2 → C2 ≤ N → (¬ gs yk p f = nI v → D2 ≤ f ∧ (f ≤ N → f ≤ C2)) → wX_input_158 post (wX_input_84 post (nI p) (nI v) xH fS pR xS (nI N) xL xB xK (e + 2)) (nI p) (nI v) (nI f) xH fS pR xS (nI D2) (nI N) (nI C2) xL xB xK wo be dr ho op ar le xk xc2 xl xb xs xa := by
      intro xc2 D2 C2 hx2 hx3 d1 d2 d3 d4 d5
      have I2 : iV yk xc2 p f0 v N D0 C0 (f + 1) D2 C2 := by
        refine ⟨fun q g hq g0 hg => ?_, fun g g1 g2 g3 g4 => ?_, ⟨by omega, ?_, by omega, d4⟩, fun g g1 g2 g3 => ?_⟩
        · by_cases c : q = p ∧ g = f
          · obtain ⟨rfl, rfl⟩ := c
            rw [hx3, if_pos ⟨rfl, hf0, by omega⟩]
          · rw [hx2 _ (by omega), i1 q g hq g0 hg]
            by_cases c2 : q = p ∧ f0 ≤ g ∧ g < f
            · rw [if_pos c2, if_pos ⟨c2.1, c2.2.1, by omega⟩]
            · rw [if_neg c2, if_neg (by omega)]
        · by_cases c : g = f
          · subst c; exact d5 g4
          · obtain ⟨a1, a2⟩ := i2 g g1 (by omega) g3 g4
            exact ⟨by omega, fun z => by have := a2 z; omega⟩
        · rcases d2 with d2 | d2
          · rw [d2]; exact i3.2.1
          · right; omega
        · by_cases c : g = f
          · subst c; exact hun g1 g3
          · exact i4 g g1 (by omega) g3
      refine nm_r (nI_1 f) ?_
      by_cases c128 : 128 ≤ f + 1
      · exact absurd c128 (by omega)
      · have j384 : vp_in (128 * nI p + nI (f + 1)) 384 := by rw [ad_c]; exact vp_in_nI (by omega) (by decide)
        refine br_f (nI_ge (b := 128) (by omega) (by decide)) ⟨j384, ?_⟩
        rw [ye (f := xk) _ (ad_c p (f + 1)) (by omega) rfl]
        refine ⟨fun z => ih (f + 1) D2 C2 xc2 (by omega) (by omega) I2 (fun _ hf2 => (hk (f + 1) (by omega) hf2).mp z), fun z => br_t rfl (hx (f + 1) D2 C2 xc2 I2 (by omega) ?_)⟩
        by_cases c127 : 127 ≤ f + 1
        · exact Or.inl c127
        · exact Or.inr (fun y => z ((hk (f + 1) (by omega) (by omega)).mpr y))
    refine br_f (by decide) (nm_r (ad_c p f) ⟨i384, ?_⟩)
    rw [ye _ rfl (by omega) exc]
    refine ⟨fun z => fin xc D Ch (fun _ _ => rfl) (exc.trans z) (by omega) (Or.inl rfl) (by omega) i3.2.2.2 (fun y => absurd z y), fun z => ?_⟩
    rw [v8s (d := v) (by omega)]
    have c34 : ∀ D2 : Nat, D2 ≤ D → (D2 = D ∨ D2 = f) → D2 ≤ f → wX_input_134 post (wX_input_84 post (nI p) (nI v) xH fS pR xS (nI N) xL xB xK (e + 2)) (nI p) (nI v) (nI f) xH fS pR xS (nI D2) (nI N) (nI Ch) xL xB xK wo be dr ho op ar le xk (upd xc (128 * p + f) (nI v)) xl xb xs xa := by
      intro D2 g1 g2 g3
      by_cases n1 : N < f
      · exact br_t (nI_lt n1 (by omega)) (fin _ D2 Ch (fun j hj => pk_un hj) pk_us g1 g2 (by omega) i3.2.2.2 (fun _ => ⟨g3, fun y => by omega⟩))
      · refine br_f (nI_nlt (by omega) (by omega)) ?_
        by_cases n2 : f ≤ Ch
        · exact br_t (nI_le n2 (by omega)) (fin _ D2 Ch (fun j hj => pk_un hj) pk_us g1 g2 (by omega) i3.2.2.2 (fun _ => ⟨g3, fun y => n2⟩))
        · exact br_f (nI_ge (by omega) (by omega)) (fin _ D2 f (fun j hj => pk_un hj) pk_us g1 g2 (by omega) (by omega) (fun _ => ⟨g3, fun y => by omega⟩))
    refine yw _ rfl (by omega) (by decide) ?_
    by_cases d : D ≤ f
    · exact br_t (nI_le d (by omega)) (c34 D (by omega) (Or.inl rfl) d)
    · exact br_f (nI_ge (by omega) (by omega)) (c34 f (by omega) (Or.inr rfl) (by omega))
end
/-- what the inputs count as with one more known -/
theorem gs_in_o {yk : Nat → Int32} {p f0 : Nat} {x : Int32} (hp : p < 3) (h0 : 0 < f0) (hf : f0 < 127) {q : Nat} (hq : q ≠ p) : ∀ g, g < 127 → gs (upd yk (127 * p + f0) x) q g = gs yk q g := by
  intro g
  induction g with
  | zero => intro _; rfl
  | succ g ih =>
    intro hg
    rw [gs, gs, pk_un (by omega), ih (by omega)]
theorem gs_in_lo {yk : Nat → Int32} {p f0 : Nat} {x : Int32} : ∀ g, g < f0 → gs (upd yk (127 * p + f0) x) p g = gs yk p g := by
  intro g
  induction g with
  | zero => intro _; rfl
  | succ g ih =>
    intro hg
    rw [gs, gs, pk_un (by omega), ih (by omega)]
theorem gs_in_mid {yk : Nat → Int32} {p f0 v : Nat} (hv : v < 16) : ∀ e, (∀ i, f0 < i → i ≤ f0 + e → yk (127 * p + i) < 0) → 0 < f0 → gs (upd yk (127 * p + f0) (nI v)) p (f0 + e) = nI v := by
  intro e
  induction e with
  | zero =>
    intro _ h0
    obtain ⟨m, rfl⟩ : ∃ m, f0 = m + 1 := ⟨f0 - 1, by omega⟩
    show gs _ p (m + 1) = _
    rw [gs, pk_us, if_neg (nI_pos (by omega))]
  | succ e ih =>
    intro h h0
    show gs _ p (f0 + e + 1) = _
    rw [gs, pk_un (by omega), if_pos (h (f0 + e + 1) (by omega) (by omega))]
    exact ih (fun i i1 i2 => h i i1 (by omega)) h0
theorem gs_in_hi {yk : Nat → Int32} {p f0 f : Nat} {x : Int32} (h : f0 < f) (hk : ¬ yk (127 * p + f) < 0) : ∀ e, gs (upd yk (127 * p + f0) x) p (f + e) = gs yk p (f + e) := by
  intro e
  induction e with
  | zero =>
    obtain ⟨m, rfl⟩ : ∃ m, f = m + 1 := ⟨f - 1, by omega⟩
    show gs _ p (m + 1) = gs _ p (m + 1)
    rw [gs, gs, pk_un (by omega), if_neg hk, if_neg hk]
  | succ e ih =>
    show gs _ p (f + e + 1) = gs _ p (f + e + 1)
    rw [gs, gs, pk_un (by omega), ih]
section
variable {fS pR yL yF yK yC yS : Int32} {dr ho op ar le yk yl yf yr fd pl di sh sc aw nx aO bO bu tu ow : Nat → Int32}
theorem Y_input_no {post : Int32 → SY → Prop} {p0 p1 p2 : Int32} (h : ¬ ((0 ≤ p0 ∧ p0 ≤ 2) ∧ (0 ≤ p2 ∧ p2 ≤ 15) ∧ ¬ p1 < 1 ∧ ¬ p1 < pR - 9 ∧ p1 ≤ pR + 6)) (hp : post (-1) (fS, pR, yL, yF, yK, yC, yS, dr, ho, op, ar, le, yk, yl, yf, yr, fd, pl, di, sh, sc, aw, nx, aO, bO, bu, tu, ow)) : wpY_input post (fS, pR, yL, yF, yK, yC, yS, dr, ho, op, ar, le, yk, yl, yf, yr, fd, pl, di, sh, sc, aw, nx, aO, bO, bu, tu, ow) p0 p1 p2 := by
  unfold wpY_input
  exact ⟨fun _ => hp, fun z1 => ⟨fun _ => hp, fun z2 => ⟨fun _ => hp, fun z3 => ⟨fun _ => hp, fun z4 => ⟨fun _ => hp, fun z5 => ⟨fun _ => hp, fun z6 => ⟨fun z7 => absurd ⟨⟨nrl z1, Int32.not_lt.mp z2⟩, ⟨nrl z3, Int32.not_lt.mp z4⟩, z5, z6, z7⟩ h, fun _ => hp⟩⟩⟩⟩⟩⟩⟩
theorem Y_input_in {post : Int32 → SY → Prop} {p f v : Nat} (hp : p < 3) (hv : v < 16) (f0 : 0 < f) (hf : f < 127) (z1 : ¬ nI f < 1) (z2 : ¬ nI f < pR - 9) (z3 : nI f ≤ pR + 6) (h1 : yk (127 * p + f) < 0 → wpY_confirmed (fun r => post r (fS, pR, yL, yF, yK, yC, yS, dr, ho, op, ar, le, upd yk (127 * p + f) (nI v), yl, yf, yr, fd, pl, di, sh, sc, aw, nx, aO, bO, bu, tu, ow)) (fS, pR, yL, yF, yK, yC, yS, dr, ho, op, ar, le, upd yk (127 * p + f) (nI v), yl, yf, yr, fd, pl, di, sh, sc, aw, nx, aO, bO, bu, tu, ow)) (h0 : ¬ yk (127 * p + f) < 0 → post (-1) (fS, pR, yL, yF, yK, yC, yS, dr, ho, op, ar, le, yk, yl, yf, yr, fd, pl, di, sh, sc, aw, nx, aO, bO, bu, tu, ow)) : wpY_input post (fS, pR, yL, yF, yK, yC, yS, dr, ho, op, ar, le, yk, yl, yf, yr, fd, pl, di, sh, sc, aw, nx, aO, bO, bu, tu, ow) (nI p) (nI f) (nI v) := by
  have i381 : vp_in (127 * nI p + nI f) 381 := by rw [ad_k]; exact vp_in_nI (by omega) (by decide)
  unfold wpY_input
  refine br_f (nI_pos (by omega)) (br_f (nI_nlt (a := 2) (by omega) (by decide)) (br_f (nI_pos (by omega)) (br_f (nI_nlt (a := 15) (by omega) (by decide)) (br_f z1 (br_f z2 (br_t z3 ⟨i381, ?_⟩))))))
  rw [ye (f := yk) _ (ad_k p f) (by omega) rfl]
  exact ⟨fun z => yw _ (ad_k p f) (by omega) (by decide) (h1 z), h0⟩
end
theorem c_input {k : Nat} {P Su D N Ch Ln Bn : Nat} {xH fS bk yC yS : Int32} {wo be dr ho op ar le xk xc xl xb xs xa yk yl yf yr fd pl di sh sc aw nx aO bO bu tu ow : Nat → Int32} (H : RL dr ho op ar le fS yk xk xc wo xl yl xb yf P Su D N Ch Ln Bn) (v1 v2 v3 : Int32) : wpX_input (fun r u' => wpY_input (fun r' v' => r' = r ∧ i_Rel (k + 4) u' v') (fS, nI P, nI Ln, nI Bn, bk, yC, yS, dr, ho, op, ar, le, yk, yl, yf, yr, fd, pl, di, sh, sc, aw, nx, aO, bO, bu, tu, ow) v1 v2 v3) (xH, fS, nI P, nI Su, nI D, nI N, nI Ch, nI Ln, nI Bn, bk, wo, be, dr, ho, op, ar, le, xk, xc, xl, xb, xs, xa) v1 v2 v3 := by
  have no : ¬ ((0 ≤ v1 ∧ v1 ≤ 2) ∧ (0 ≤ v3 ∧ v3 ≤ 15) ∧ ¬ v2 < 1 ∧ ¬ v2 < nI P - 9 ∧ v2 ≤ nI P + 6) → wpY_input (fun r' v' => r' = -1 ∧ i_Rel (k + 4) (xH, fS, nI P, nI Su, nI D, nI N, nI Ch, nI Ln, nI Bn, bk, wo, be, dr, ho, op, ar, le, xk, xc, xl, xb, xs, xa) v') (fS, nI P, nI Ln, nI Bn, bk, yC, yS, dr, ho, op, ar, le, yk, yl, yf, yr, fd, pl, di, sh, sc, aw, nx, aO, bO, bu, tu, ow) v1 v2 v3 := fun h => Y_input_no h ⟨rfl, zz_in H⟩
  have H0 := H
  obtain ⟨C, K, hC, hS, R, hL, hB⟩ := H
  have hP := R.1
  unfold wpX_input
  refine X_outside (fun a1 => br_t rfl (X_outside (fun a2 => br_t rfl ⟨fun z1 => ⟨fun z => no (fun y => y.2.2.2.1 z), fun z2 => ⟨fun z => no (fun y => Int32.not_lt.mpr y.2.2.2.2 z), fun z3 => ?_⟩⟩, fun z => no (fun y => z (Int32.not_lt.mp y.2.2.1))⟩) (fun a2 => br_f (by decide) (no (fun y => a2 y.2.1))))) (fun a1 => br_f (by decide) (no (fun y => a1 y.1)))
  have z1' : ¬ v2 < 1 := Int32.not_lt.mpr z1
  have z3' : v2 ≤ nI P + 6 := Int32.not_lt.mp z3
  obtain ⟨p, _, hp, rfl⟩ := rng (a := 0) (b := 2) rfl rfl a1
  obtain ⟨v, _, hv, rfl⟩ := rng (a := 0) (b := 15) rfl rfl a2
  obtain ⟨f0, h0, h127, _, h9, rfl⟩ := frm hP z1' z2 z3'
  have i384 : vp_in (128 * nI p + nI f0) 384 := by rw [ad_c]; exact vp_in_nI (by omega) (by decide)
  refine ⟨i384, ?_⟩
  rw [ye (f := xk) _ (ad_c p f0) (by omega) rfl]
  have kk := (hC p f0 (by omega) h0 h127).2
  refine ⟨fun zk => yw _ (ad_c p f0) (by omega) (by decide) ⟨127 - f0 + 2, ?_⟩, fun zk => Y_input_in (by omega) (by omega) h0 h127 z1' z2 z3' (fun y => absurd (kk.mpr y) zk) (fun _ => ⟨rfl, zz_in H0⟩)⟩
  obtain ⟨r1, r2, r3, r4, r5, r6, r7, r8⟩ := R
  have n1 : ¬ vp_nar .boolean 1 = 0 := by decide
  refine X_in84 (yk := yk) (f0 := f0) (D0 := D) (C0 := Ch) (by omega) h0 (by omega) (by omega) (by omega) (fun g g1 g2 => ?_) (fun f D2 C2 xc2 hI hf hend => ?_) (127 - f0) f0 D Ch xc (by omega) (by omega) ⟨fun q g hq g0 hg => ?_, fun g g1 g2 => absurd g2 (by omega), ⟨by omega, Or.inl rfl, by omega, by omega⟩, fun g g1 g2 => absurd g2 (by omega)⟩ (fun y => absurd y (by omega))
  · rw [pk_un (by omega)]
    exact (hC p g (by omega) (by omega) g2).2
  · obtain ⟨i1, i2, ⟨i3, i3b, i3c, i3d⟩, i4⟩ := hI
    have hyk : yk (127 * p + f0) < 0 := kk.mp zk
    -- the new guesses
    have gp : ∀ g, g < 127 → gs (upd yk (127 * p + f0) (nI v)) p g = if f0 ≤ g ∧ g < f then nI v else gs yk p g := by
      intro g hg
      by_cases c : f0 ≤ g ∧ g < f
      · rw [if_pos c]
        have := gs_in_mid (yk := yk) (p := p) (f0 := f0) (v := v) (by omega) (g - f0) (fun i j1 j2 => i4 i j1 (by omega) (by omega)) h0
        rw [show f0 + (g - f0) = g by omega] at this
        exact this
      · rw [if_neg c]
        by_cases c2 : g < f0
        · exact gs_in_lo g c2
        · have c3 : f ≤ g := by omega
          have := gs_in_hi (x := nI v) hf (hend.resolve_left (by omega)) (g - f)
          rw [show f + (g - f) = g by omega] at this
          exact this
    have ga : ∀ q g, g < 127 → gs (upd yk (127 * p + f0) (nI v)) q g = if q = p ∧ f0 ≤ g ∧ g < f then nI v else gs yk q g := by
      intro q g hg
      by_cases c : q = p
      · subst c
        rw [gp g hg]
        by_cases c2 : f0 ≤ g ∧ g < f
        · rw [if_pos c2, if_pos ⟨rfl, c2⟩]
        · rw [if_neg c2, if_neg (fun y => c2 y.2)]
      · rw [gs_in_o (by omega) h0 h127 c g hg, if_neg (fun y => c y.1)]
    have gi : ∀ g, g < 127 → (f0 ≤ g → g < f → gs yk p g = nI v) → iN (upd yk (127 * p + f0) (nI v)) g = iN yk g := by
      intro g hg hc
      refine gs_iN (fun q => ?_)
      rw [ga q g hg]
      by_cases c : q = p ∧ f0 ≤ g ∧ g < f
      · rw [if_pos c, c.1, hc c.2.1 c.2.2]
      · rw [if_neg c]
    have K2 : kV (upd yk (127 * p + f0) (nI v)) := by
      intro q g hq g0 hg
      by_cases c : 127 * q + g = 127 * p + f0
      · rw [c, pk_us]
        exact Or.inr ⟨v, by omega, rfl⟩
      · rw [pk_un c]
        exact K q g hq g0 hg
    have hC2 : cC (upd yk (127 * p + f0) (nI v)) (upd xk (128 * p + f0) (vp_nar .boolean 1)) xc2 := by
      intro q g hq g0 hg
      refine ⟨?_, ?_⟩
      · rw [i1 q g hq g0 hg, ga q g hg]
      · by_cases c : q = p ∧ g = f0
        · obtain ⟨rfl, rfl⟩ := c
          rw [pk_us, pk_us]
          exact ⟨fun z => absurd z n1, fun z => absurd z (nI_pos (by omega))⟩
        · rw [pk_un (by omega), pk_un (by omega)]
          exact (hC q g hq g0 hg).2
    obtain ⟨S2, hS2, cS2⟩ := cS_ex (yk := upd yk (127 * p + f0) (nI v)) (126 - Su) Su (by have := hS.1; omega) (fun g g0 gS q hq => by
      by_cases c : 127 * q + g = 127 * p + f0
      · rw [c, pk_us]
        exact nI_pos (by omega)
      · rw [pk_un c]
        exact hS.2.1 g g0 gS q hq)
    have R2 : rG dr ho op ar le fS (upd yk (127 * p + f0) (nI v)) wo P D2 N C2 := by
      refine ⟨r1, ?_, by omega, r4, ?_, i3d, fun g g1 g2 => ?_, fun g g1 g2 g3 => ?_⟩
      · rcases i3b with i | i <;> omega
      · rcases i3b with i | i <;> omega
      · rw [St_cg g (fun g' b1 b2 => gi g' (by omega) (fun c1 c2 => Decidable.not_not.mp (fun y => by
          have := (i2 g' c1 c2 (by omega) y).1
          omega)))]
        exact r7 g (by omega) g2
      · rw [gi (g + 1) (by omega) (fun c1 c2 => Decidable.not_not.mp (fun y => by
          have := (i2 (g + 1) c1 c2 (by omega) y).2 (by omega)
          omega))]
        exact r8 g (by omega) g2 g3
    refine X_confirm hC2 cS2 hS2 ?_
    exact Y_input_in (by omega) (by omega) h0 h127 z1' z2 z3' (fun _ => Y_conf cS2 ⟨rfl, zz_in ⟨C, K2, hC2, cS2, R2, hL, hB⟩⟩) (fun y => absurd hyk y)
  · rw [if_neg (by omega)]
    exact (hC q g hq g0 hg).1
theorem i_vc_input {k : Nat} {u : SX} {v : SY} (I : i_Rel k u v) (hk : k + 4 ≤ 2049) (v1 : Int32) (v2 : Int32) (v3 : Int32) : wpX_input (fun r u' => wpY_input (fun r' v' => r' = r ∧ i_Rel (k + 4) u' v') v v1 v2 v3) u v1 v2 v3 := by
  refine zz_el (M := fun u v => wpX_input (fun r u' => wpY_input (fun r' v' => r' = r ∧ i_Rel (k + 4) u' v') v v1 v2 v3) u v1 v2 v3) I ?_
  intro P Su D N Ch Ln Bn xH fS bk yC yS wo be dr ho op ar le xk xc xl xb xs xa yk yl yf yr fd pl di sh sc aw nx aO bO bu tu ow H
  exact c_input H v1 v2 v3
end
section
/-! the log: which inputs change -/
def bef (yk : Nat → Int32) (p f : Nat) : Int32 := if f = 1 then 0 else yk (127 * p + (f - 1))
def bk1 (yk : Nat → Int32) (p f : Nat) : Nat := if yk (127 * p + f) = bef yk p f then 0 else 1
def mk (yk : Nat → Int32) (f : Nat) : Nat := bk1 yk 0 f + 2 * bk1 yk 1 f + 4 * bk1 yk 2 f
theorem bk_le (yk : Nat → Int32) (p f : Nat) : bk1 yk p f ≤ 1 := by
  unfold bk1
  split <;> omega
theorem mk_lt (yk : Nat → Int32) (f : Nat) : mk yk f < 8 := by
  have h0 := bk_le yk 0 f
  have h1 := bk_le yk 1 f
  have h2 := bk_le yk 2 f
  unfold mk
  omega
theorem mk_bit {yk : Nat → Int32} {p f : Nat} (hp : p < 3) : mk yk f / 2 ^ p % 2 = bk1 yk p f := by
  have h0 := bk_le yk 0 f
  have h1 := bk_le yk 1 f
  have h2 := bk_le yk 2 f
  have : p = 0 ∨ p = 1 ∨ p = 2 := by omega
  unfold mk
  rcases this with rfl | rfl | rfl
  · rw [show (2 : Nat) ^ 0 = 1 from rfl]; omega
  · rw [show (2 : Nat) ^ 1 = 2 from rfl]; omega
  · rw [show (2 : Nat) ^ 2 = 4 from rfl]; omega
theorem mk_up {m p : Nat} : m % 2 ^ (p + 1) = m % 2 ^ p + (m / 2 ^ p % 2) * 2 ^ p := by
  rw [Nat.pow_succ, Nat.mod_mul, Nat.mul_comm (2 ^ p)]
theorem or_bit : ∀ k, k < 3 → ∀ m, m < 8 → m < 2 ^ k → nI m ||| ((1 : Int32) <<< (nI k &&& 31)) = nI (m + 2 ^ k) := by decide +kernel
theorem or_bit2 : ∀ k, k < 3 → ∀ m, m < 8 → m < 2 ^ k → nI (128 + m) ||| ((1 : Int32) <<< (nI k &&& 31)) = nI (128 + (m + 2 ^ k)) := by decide +kernel
theorem sh_bit : ∀ k, k < 3 → ∀ m, m < 8 → (nI m >>> (nI k &&& 31)) &&& 1 = nI (m / 2 ^ k % 2) := by decide +kernel
theorem b255 (z : Int32) : z.toInt8.toInt32 &&& 255 = z &&& 255 := by
  obtain ⟨h1, h2⟩ := byt z
  rw [h1, h2]
  exact (sb_byte _ (Nat.mod_lt _ (by decide))).1
theorem n255 {n : Nat} (h : n < 256) : nI n &&& 255 = nI n := by
  rw [pk_andN (by omega) 8 (by decide)]
  exact congrArg nI (by omega)
theorem ad_km (p f : Nat) (h : 0 < f) : 127 * nI p + nI f - 1 = nI (127 * p + (f - 1)) := by
  rw [ad_k, show (1 : Int32) = nI 1 from rfl, pk_sub (by omega)]
  exact congrArg nI (by omega)
theorem ad_cm (p f : Nat) (h : 0 < f) : 128 * nI p + nI f - 1 = nI (128 * p + (f - 1)) := by
  rw [ad_c, show (1 : Int32) = nI 1 from rfl, pk_sub (by omega)]
  exact congrArg nI (by omega)
/-- up to Su all inputs are known, and the same on both sides -/
def wK (yk xc : Nat → Int32) (Su : Nat) : Prop := Su ≤ 126 ∧ ∀ p g, p < 3 → 0 < g → g ≤ Su → xc (128 * p + g) = yk (127 * p + g) ∧ ∃ v, v < 16 ∧ yk (127 * p + g) = nI v
section
variable {fS pR yL yF yK yC yS : Int32} {dr ho op ar le yk yl yf yr fd pl di sh sc aw nx aO bO bu tu ow : Nat → Int32}
theorem Y_before {post : Int32 → Prop} {p f : Nat} (hp : p < 3) (f0 : 0 < f) (hf : f < 127) (h : post (bef yk p f)) : wpY_before post (fS, pR, yL, yF, yK, yC, yS, dr, ho, op, ar, le, yk, yl, yf, yr, fd, pl, di, sh, sc, aw, nx, aO, bO, bu, tu, ow) (nI p) (nI f) := by
  unfold wpY_before
  unfold bef at h
  by_cases e : f = 1
  · rw [if_pos e] at h
    subst e
    exact br_t rfl h
  · rw [if_neg e] at h
    refine br_f (fun z => e ((nI_eq (b := 1) (by omega) (by decide)).mp z)) ⟨?_, ?_⟩
    · rw [ad_km p f f0]
      exact vp_in_nI (by omega) (by decide)
    · rw [ye (f := yk) _ (ad_km p f f0) (by omega) rfl]
      exact h
theorem Y_same1 {post : Int32 → Prop} {p f n : Nat} (hp : p < 3) (f0 : 0 < f) (hf : f < 127) (h1 : bk1 yk p f = 0 → wY_same_2 post (nI f) fS pR yL yF yK yC yS dr ho op ar le yk yl yf yr fd pl di sh sc aw nx aO bO bu tu ow n (nI (p + 1))) (h0 : bk1 yk p f ≠ 0 → post 0) : wY_same_2 post (nI f) fS pR yL yF yK yC yS dr ho op ar le yk yl yf yr fd pl di sh sc aw nx aO bO bu tu ow (n + 1) (nI p) := by
  have i381 : vp_in (127 * nI p + nI f) 381 := by rw [ad_k]; exact vp_in_nI (by omega) (by decide)
  refine br_f (nI_ge (b := 3) hp (by decide)) ⟨i381, Y_before hp f0 hf ?_⟩
  rw [ye (f := yk) _ (ad_k p f) (by omega) rfl]
  unfold bk1 at h1 h0
  refine ⟨fun z => nm_r (nI_1 p) (h1 (if_pos z)), fun z => h0 (by rw [if_neg z]; decide)⟩
theorem Y_same {post : Int32 → Prop} {f : Nat} (f0 : 0 < f) (hf : f < 127) (h1 : mk yk f = 0 → post 1) (h0 : mk yk f ≠ 0 → post 0) : wpY_same post (fS, pR, yL, yF, yK, yC, yS, dr, ho, op, ar, le, yk, yl, yf, yr, fd, pl, di, sh, sc, aw, nx, aO, bO, bu, tu, ow) (nI f) := by
  unfold mk at h1 h0
  exact ⟨4, Y_same1 (p := 0) (by decide) f0 hf (fun a => Y_same1 (p := 1) (by decide) f0 hf (fun b => Y_same1 (p := 2) (by decide) f0 hf (fun c => br_t (by decide) (h1 (by omega))) (fun c => h0 (by omega))) (fun b => h0 (by omega))) (fun a => h0 (by omega))⟩
end
section
variable {xH fS pR xS xD xN xC xL xB xK : Int32} {wo be dr ho op ar le xk xc xl xb xs xa : Nat → Int32}
theorem X_oth1 {post : Int32 → Prop} {yk : Nat → Int32} {p f n m Su : Nat} (K : wK yk xc Su) (hp : p < 3) (f0 : 0 < f) (hf : f ≤ Su) (hm : m < 2 ^ p) (h : wX_others_4 post (nI f) xH fS pR xS xD xN xC xL xB xK wo be dr ho op ar le xk xc xl xb xs xa n (nI (m + bk1 yk p f * 2 ^ p)) (nI (p + 1))) : wX_others_4 post (nI f) xH fS pR xS xD xN xC xL xB xK wo be dr ho op ar le xk xc xl xb xs xa (n + 1) (nI m) (nI p) := by
  obtain ⟨hS, hK⟩ := K
  have m8 : m < 8 := by
    have : p = 0 ∨ p = 1 ∨ p = 2 := by omega
    rcases this with rfl | rfl | rfl
    · have : (2 : Nat) ^ 0 = 1 := rfl
      omega
    · have : (2 : Nat) ^ 1 = 2 := rfl
      omega
    · have : (2 : Nat) ^ 2 = 4 := rfl
      omega
  have key : ∀ z0, z0 = bef yk p f → wX_others_32 post (wX_others_4 post (nI f) xH fS pR xS xD xN xC xL xB xK wo be dr ho op ar le xk xc xl xb xs xa n) (nI f) (nI m) (nI p) z0 xH fS pR xS xD xN xC xL xB xK wo be dr ho op ar le xk xc xl xb xs xa := by
    intro z0 hz
    subst hz
    have i384 : vp_in (128 * nI p + nI f) 384 := by rw [ad_c]; exact vp_in_nI (by omega) (by decide)
    refine ⟨i384, ?_⟩
    rw [ye _ (ad_c p f) (by omega) (hK p f hp f0 hf).1, or_bit p hp m m8 hm]
    unfold bk1 at h
    refine ⟨fun z => nm_r (nI_1 p) ?_, fun z => nm_e (nm_r (nI_1 p) ?_)⟩
    · rw [if_pos z, Nat.zero_mul, Nat.add_zero] at h
      exact h
    · rw [if_neg z, Nat.one_mul] at h
      exact h
  refine br_f (nI_ge (b := 3) hp (by decide)) ?_
  by_cases e : f = 1
  · subst e
    exact br_t rfl (key 0 (by unfold bef; rw [if_pos rfl]))
  · refine br_f (fun z => e ((nI_eq (b := 1) (by omega) (by decide)).mp z)) ⟨?_, ?_⟩
    · rw [ad_cm p f f0]
      exact vp_in_nI (by omega) (by decide)
    · rw [ye _ (ad_cm p f f0) (by omega) (hK p (f - 1) hp (by omega) (by omega)).1]
      exact key _ (by unfold bef; rw [if_neg e])
theorem X_others {post : Int32 → Prop} {yk : Nat → Int32} {f Su : Nat} (K : wK yk xc Su) (f0 : 0 < f) (hf : f ≤ Su) (h : post (nI (mk yk f))) : wpX_others post (xH, fS, pR, xS, xD, xN, xC, xL, xB, xK, wo, be, dr, ho, op, ar, le, xk, xc, xl, xb, xs, xa) (nI f) := by
  have b0 := bk_le yk 0 f
  have b1 := bk_le yk 1 f
  refine ⟨4, X_oth1 (p := 0) (m := 0) K (by decide) f0 hf (by decide) (X_oth1 (p := 1) K (by decide) f0 hf (by
    rw [show (2 : Nat) ^ 1 = 2 from rfl, show (2 : Nat) ^ 0 = 1 from rfl]; omega) (X_oth1 (p := 2) K (by decide) f0 hf (by
    rw [show (2 : Nat) ^ 2 = 4 from rfl, show (2 : Nat) ^ 1 = 2 from rfl, show (2 : Nat) ^ 0 = 1 from rfl]; omega) (br_t (by decide) ?_)))⟩
  unfold mk at h
  rw [show 0 + bk1 yk 0 f * 2 ^ 0 + bk1 yk 1 f * 2 ^ 1 + bk1 yk 2 f * 2 ^ 2 = bk1 yk 0 f + 2 * bk1 yk 1 f + 4 * bk1 yk 2 f by
    rw [show (2 : Nat) ^ 2 = 4 from rfl, show (2 : Nat) ^ 1 = 2 from rfl, show (2 : Nat) ^ 0 = 1 from rfl]; omega]
  exact h
theorem X_put {post : SX → Prop} {n : Nat} {v : Int32} (hn : n < 512) (hp : post (xH, fS, pR, xS, xD, xN, xC, nI (n + 1), xB, xK, wo, be, dr, ho, op, ar, le, xk, xc, upd xl n v.toInt8.toInt32, xb, xs, xa)) : wpX_put post (xH, fS, pR, xS, xD, xN, xC, nI n, xB, xK, wo, be, dr, ho, op, ar, le, xk, xc, xl, xb, xs, xa) v := by
  unfold wpX_put
  rw [pk_vb]
  exact nm_r (nI_1 n) (yw n rfl hn (by decide) hp)
end
/-- a frame with changes -/
theorem blk_ex {yk xc : Nat → Int32} {f Su tt : Nat} (K : wK yk xc Su) (f0 : 0 < f) (hf : f ≤ Su) (ht : tt < 508) : ∀ (e k n : Nat) (xl yl : Nat → Int32), k + e = 3 → tt + 1 ≤ n → n ≤ tt + 1 + k → (∀ j, j < n → j ≠ tt → xl j &&& 255 = yl j) → xl tt &&& 255 = nI (128 + mk yk f) → yl tt = nI (128 + mk yk f % 2 ^ k) →
    ∃ (n1 : Nat) (xl1 yl1 : Nat → Int32), tt + 1 ≤ n1 ∧ n1 ≤ tt + 4 ∧ (∀ j, j < n1 → xl1 j &&& 255 = yl1 j) ∧
      (∀ {xH fS pR xD xN xC xB xK : Int32} {wo be dr ho op ar le xk xb xs xa : Nat → Int32} {fu : Nat} {post : Int32 → SX → Prop}, wX_write_9 post fu 0 (nI (f + 1)) xH fS pR (nI Su) xD xN xC (nI n1) xB xK wo be dr ho op ar le xk xc xl1 xb xs xa → wX_write_66 post (wX_write_9 post fu) 0 (nI f) (nI (mk yk f)) (e + 1) (nI k) xH fS pR (nI Su) xD xN xC (nI n) xB xK wo be dr ho op ar le xk xc xl xb xs xa) ∧
      (∀ {fS pR yL yF yK yC yS : Int32} {dr ho op ar le yf yr fd pl di sh sc aw nx aO bO bu tu ow : Nat → Int32} {fu : Nat} {post : Int32 → SY → Prop}, wY_write_9 post (nI Su) fS pR yL yF yK yC yS fu (nI n1) (nI (f + 1)) dr ho op ar le yk yl1 yf yr fd pl di sh sc aw nx aO bO bu tu ow → wY_write_87 post (wY_write_9 post (nI Su) fS pR yL yF yK yC yS fu) (nI Su) (nI f) 0 (nI tt) fS pR yL yF yK yC yS (e + 1) (nI n) (nI k) dr ho op ar le yk yl yf yr fd pl di sh sc aw nx aO bO bu tu ow) := by
  have hS := K.1
  have m8 := mk_lt yk f
  intro e
  induction e with
  | zero =>
    intro k n xl yl hk n1 n2 h1 h2 h3
    obtain rfl : k = 3 := by omega
    refine ⟨n, xl, yl, n1, by omega, fun j hj => ?_, ?_, ?_⟩
    · by_cases ej : j = tt
      · subst ej
        rw [h2, h3, Nat.mod_eq_of_lt (by rw [show (2 : Nat) ^ 3 = 8 from rfl]; exact m8)]
      · exact h1 j hj ej
    · intro xH fS pR xD xN xC xB xK wo be dr ho op ar le xk xb xs xa fu post hp
      exact br_t (by decide) (nm_r (nI_1 f) hp)
    · intro fS pR yL yF yK yC yS dr ho op ar le yf yr fd pl di sh sc aw nx aO bO bu tu ow fu post hp
      exact br_t (by decide) (br_t (by decide) (nm_r (nI_1 f) hp))
  | succ e ih =>
    intro k n xl yl hk n1 n2 h1 h2 h3
    have hk3 : k < 3 := by omega
    have eb := mk_bit (yk := yk) (f := f) hk3
    have eu := mk_up (m := mk yk f) (p := k)
    rw [eb] at eu
    have esh := sh_bit k hk3 (mk yk f) m8
    rw [eb] at esh
    obtain ⟨ec, v, hv, ev⟩ := K.2 k f hk3 f0 hf
    have i381 : vp_in (127 * nI k + nI f) 381 := by rw [ad_k]; exact vp_in_nI (by omega) (by decide)
    have i384 : vp_in (128 * nI k + nI f) 384 := by rw [ad_c]; exact vp_in_nI (by omega) (by decide)
    have m2 : mk yk f % 2 ^ k < 2 ^ k := Nat.mod_lt _ (Nat.two_pow_pos k)
    have m28 : mk yk f % 2 ^ k < 8 := Nat.lt_of_le_of_lt (Nat.mod_le _ _) m8
    by_cases g : yk (127 * k + f) = bef yk k f
    · have b0 : bk1 yk k f = 0 := if_pos g
      rw [b0, Nat.zero_mul, Nat.add_zero] at eu
      rw [b0] at esh
      obtain ⟨n3, xl1, yl1, r1, r2, r3, r4, r5⟩ := ih (k + 1) n xl yl (by omega) n1 (by omega) h1 h2 (by rw [eu]; exact h3)
      refine ⟨n3, xl1, yl1, r1, r2, r3, ?_, ?_⟩
      · intro xH fS pR xD xN xC xB xK wo be dr ho op ar le xk xb xs xa fu post hp
        refine br_f (nI_ge (b := 3) hk3 (by decide)) ?_
        rw [esh]
        exact br_t rfl (nm_r (nI_1 k) (r4 hp))
      · intro fS pR yL yF yK yC yS dr ho op ar le yf yr fd pl di sh sc aw nx aO bO bu tu ow fu post hp
        refine br_f (nI_ge (b := 3) hk3 (by decide)) ⟨i381, Y_before hk3 f0 (by omega) ?_⟩
        rw [ye (f := yk) _ (ad_k k f) (by omega) rfl]
        exact br_t g (nm_r (nI_1 k) (r5 hp))
    · have b1 : bk1 yk k f = 1 := if_neg g
      rw [b1, Nat.one_mul] at eu
      rw [b1] at esh
      have eo := or_bit2 k hk3 (mk yk f % 2 ^ k) m28 m2
      obtain ⟨n3, xl1, yl1, r1, r2, r3, r4, r5⟩ := ih (k + 1) (n + 1) (upd xl n (nI v).toInt8.toInt32) (upd (upd yl tt (nI (128 + (mk yk f % 2 ^ k + 2 ^ k)))) n (nI v)) (by omega) (by omega) (by omega) (fun j hj hne => by
        by_cases ej : j = n
        · subst ej
          rw [pk_us, pk_us, b255, n255 (by omega)]
        · rw [pk_un ej, pk_un ej, pk_un hne]
          exact h1 j (by omega) hne) (by rw [pk_un (by omega)]; exact h2) (by rw [pk_un (by omega), pk_us, eu])
      refine ⟨n3, xl1, yl1, r1, r2, r3, ?_, ?_⟩
      · intro xH fS pR xD xN xC xB xK wo be dr ho op ar le xk xb xs xa fu post hp
        refine br_f (nI_ge (b := 3) hk3 (by decide)) ?_
        rw [esh]
        refine br_f (by decide) ⟨i384, ?_⟩
        rw [ye _ (ad_c k f) (by omega) (ec.trans ev)]
        exact X_put (by omega) (nm_r (nI_1 k) (r4 hp))
      · intro fS pR yL yF yK yC yS dr ho op ar le yf yr fd pl di sh sc aw nx aO bO bu tu ow fu post hp
        have it : vp_in (nI tt) 520 := vp_in_nI (by omega) (by decide)
        refine br_f (nI_ge (b := 3) hk3 (by decide)) ⟨i381, Y_before hk3 f0 (by omega) ?_⟩
        rw [ye (f := yk) _ (ad_k k f) (by omega) rfl]
        refine br_f g ⟨it, ?_⟩
        rw [ye tt rfl (by omega) h3, eo, ev]
        exact yw tt rfl (by omega) (by decide) (nm_r (nI_1 n) ⟨i381, yw n rfl (by omega) (by decide) (nm_r (nI_1 k) (r5 hp))⟩)
/-- the sum of the bytes -/
def smy (yl : Nat → Int32) : Nat → Int32
  | 0 => 0
  | k + 1 => smy yl k + yl k
section
variable {xH fS pR xS xD xN xC xL xB xK : Int32} {wo be dr ho op ar le xk xc xl xb xs xa : Nat → Int32}
theorem X_sum {post : Int32 → SX → Prop} {yl : Nat → Int32} {n : Nat} (hn : n < 512) (hc : ∀ j, j < n → xl j &&& 255 = yl j) (hp : post (nI (n + 1)) (xH, fS, pR, xS, xD, xN, xC, nI (n + 1), xB, xK, wo, be, dr, ho, op, ar, le, xk, xc, upd xl n (smy yl n).toInt8.toInt32, xb, xs, xa)) : ∀ e k, k + e = n → wX_write_128 post xH fS pR xS xD xN xC (nI n) xB xK wo be dr ho op ar le xk xc xl xb xs xa (e + 1) (smy yl k) (nI k) := by
  intro e
  induction e with
  | zero =>
    intro k hk
    obtain rfl : k = n := by omega
    exact br_t (nI_le (by omega) (by omega)) (X_put hn hp)
  | succ e ih =>
    intro k hk
    refine br_f (nI_ge (by omega) (by omega)) ⟨vp_in_nI (by omega) (by decide), ?_⟩
    rw [ye (f := xl) k rfl (by omega) rfl, hc k (by omega)]
    exact nm_e (nm_r (nI_1 k) (ih (k + 1) (by omega)))
end
section
variable {fS pR yL yF yK yC yS : Int32} {dr ho op ar le yk yl yf yr fd pl di sh sc aw nx aO bO bu tu ow : Nat → Int32}
theorem Y_sum {post : Int32 → SY → Prop} {n : Nat} (hn : n < 520) (hp : post (nI (n + 1)) (fS, pR, nI (n + 1), yF, yK, yC, yS, dr, ho, op, ar, le, yk, upd yl n (smy yl n &&& 255), yf, yr, fd, pl, di, sh, sc, aw, nx, aO, bO, bu, tu, ow)) : ∀ e k, k + e = n → wY_write_189 post (nI n) fS pR yL yF yK yC yS dr ho op ar le yk yl yf yr fd pl di sh sc aw nx aO bO bu tu ow (e + 1) (smy yl k) (nI k) := by
  intro e
  induction e with
  | zero =>
    intro k hk
    obtain rfl : k = n := by omega
    exact br_t (nI_le (by omega) (by omega)) (nm_r (nI_1 k) (yw k rfl hn (by decide) hp))
  | succ e ih =>
    intro k hk
    refine br_f (nI_ge (by omega) (by omega)) ⟨vp_in_nI (by omega) (by decide), ?_⟩
    rw [ye (f := yl) k rfl (by omega) rfl]
    exact nm_e (nm_r (nI_1 k) (ih (k + 1) (by omega)))
end
end
section
/-- the longest run from f on -/
theorem run_mx {yk : Nat → Int32} {f Su : Nat} : ∀ e r, r + e = 120 → 1 ≤ r → f + r ≤ Su + 1 → (∀ i, i < r → mk yk (f + i) = 0) → ∃ r1, 1 ≤ r1 ∧ r1 ≤ 120 ∧ f + r1 ≤ Su + 1 ∧ (∀ i, i < r1 → mk yk (f + i) = 0) ∧ (r1 = 120 ∨ Su < f + r1 ∨ mk yk (f + r1) ≠ 0) := by
  intro e
  induction e with
  | zero =>
    intro r hr h1 h2 h3
    exact ⟨r, h1, by omega, h2, h3, Or.inl (by omega)⟩
  | succ e ih =>
    intro r hr h1 h2 h3
    by_cases g : Su < f + r ∨ mk yk (f + r) ≠ 0
    · exact ⟨r, h1, by omega, h2, h3, Or.inr g⟩
    · have g1 : ¬ Su < f + r := fun z => g (Or.inl z)
      have g2 : mk yk (f + r) = 0 := Decidable.not_not.mp (fun z => g (Or.inr z))
      refine ih (r + 1) (by omega) (by omega) (by omega) (fun i hi => ?_)
      by_cases ei : i = r
      · subst ei; exact g2
      · exact h3 i (by omega)
section
variable {xH fS pR xS xD xN xC xL xB xK : Int32} {wo be dr ho op ar le xk xc xl xb xs xa : Nat → Int32}
/-- at a frame, nothing pending -/
theorem X_w0 {post : Int32 → SX → Prop} {yk : Nat → Int32} {f Su fu : Nat} (K : wK yk xc Su) (f0 : 0 < f) (hf : f ≤ Su + 1) (h : (Su < f → wX_write_119 post xH fS pR (nI Su) xD xN xC xL xB xK wo be dr ho op ar le xk xc xl xb xs xa) ∧ (f ≤ Su → wX_write_44 post (wX_write_9 post fu) 0 (nI f) (nI (mk yk f)) xH fS pR (nI Su) xD xN xC xL xB xK wo be dr ho op ar le xk xc xl xb xs xa)) : wX_write_9 post (fu + 1) 0 (nI f) xH fS pR (nI Su) xD xN xC xL xB xK wo be dr ho op ar le xk xc xl xb xs xa := by
  have hS := K.1
  by_cases g : Su < f
  · exact br_t (nI_lt g (by omega)) (br_t (by decide) (h.1 g))
  · exact br_f (nI_nlt (by omega) (by omega)) (X_others K f0 (by omega) (br_t (by decide) (h.2 (by omega))))
/-- .. and with a run of r that ends here -/
theorem X_wr {post : Int32 → SX → Prop} {yk : Nat → Int32} {f Su fu r n : Nat} (K : wK yk xc Su) (f0 : 0 < f) (hf : f ≤ Su + 1) (hr : 1 ≤ r) (hr2 : r ≤ 120) (hn : n < 512) (hend : r = 120 ∨ Su < f ∨ mk yk f ≠ 0) (h : (Su < f → wX_write_119 post xH fS pR (nI Su) xD xN xC (nI (n + 1)) xB xK wo be dr ho op ar le xk xc (upd xl n (nI r).toInt8.toInt32) xb xs xa) ∧ (f ≤ Su → wX_write_44 post (wX_write_9 post fu) 0 (nI f) (nI (mk yk f)) xH fS pR (nI Su) xD xN xC (nI (n + 1)) xB xK wo be dr ho op ar le xk xc (upd xl n (nI r).toInt8.toInt32) xb xs xa)) : wX_write_9 post (fu + 1) (nI r) (nI f) xH fS pR (nI Su) xD xN xC (nI n) xB xK wo be dr ho op ar le xk xc xl xb xs xa := by
  have hS := K.1
  have m8 := mk_lt yk f
  by_cases g : Su < f
  · exact br_t (nI_lt g (by omega)) (br_f (nI_nle hr (by omega)) (X_put hn (h.1 g)))
  · have h37 : wX_write_37 post (wX_write_9 post fu) (nI r) (nI f) (nI (mk yk f)) xH fS pR (nI Su) xD xN xC (nI n) xB xK wo be dr ho op ar le xk xc xl xb xs xa := X_put hn (h.2 (by omega))
    refine br_f (nI_nlt (by omega) (by omega)) (X_others K f0 (by omega) (br_f (nI_nle hr (by omega)) ⟨fun z => ?_, fun _ => h37⟩))
    have z2 : mk yk f = 0 := (nI_eq (b := 0) (by omega) (by decide)).mp z
    have r120 : r = 120 := hend.resolve_right (fun y => y.elim (fun y => g y) (fun y => y z2))
    exact br_t (by rw [r120]; rfl) h37
theorem X_wrun {post : Int32 → SX → Prop} {yk : Nat → Int32} {f Su fu r : Nat} (K : wK yk xc Su) (f0 : 0 < f) (hr2 : r ≤ 120) (hf : f + r ≤ Su + 1) (hz : ∀ i, i < r → mk yk (f + i) = 0) (h : wX_write_9 post fu (nI r) (nI (f + r)) xH fS pR (nI Su) xD xN xC xL xB xK wo be dr ho op ar le xk xc xl xb xs xa) : ∀ e i, i + e = r → wX_write_9 post (fu + e) (nI i) (nI (f + i)) xH fS pR (nI Su) xD xN xC xL xB xK wo be dr ho op ar le xk xc xl xb xs xa := by
  have hS := K.1
  intro e
  induction e with
  | zero =>
    intro i hi
    obtain rfl : i = r := by omega
    exact h
  | succ e ih =>
    intro i hi
    have k44 : wX_write_44 post (wX_write_9 post (fu + e)) (nI i) (nI (f + i)) (nI 0) xH fS pR (nI Su) xD xN xC xL xB xK wo be dr ho op ar le xk xc xl xb xs xa := br_t rfl (nm_r (nI_1 i) (nm_r (nI_1 (f + i)) (ih (i + 1) (by omega))))
    refine br_f (nI_nlt (by omega) (by omega)) (X_others K (by omega) (by omega) ?_)
    rw [hz i (by omega)]
    exact ⟨fun _ => k44, fun _ => br_t rfl (br_f (fun z => absurd ((nI_eq (b := 120) (by omega) (by decide)).mp z) (by omega)) k44)⟩
end
section
variable {fS pR yL yF yK yC yS : Int32} {dr ho op ar le yk yl yf yr fd pl di sh sc aw nx aO bO bu tu ow : Nat → Int32}
theorem Y_w17 {post : Int32 → SY → Prop} {J : Int32 → Int32 → (Nat → Int32) → (Nat → Int32) → (Nat → Int32) → (Nat → Int32) → (Nat → Int32) → (Nat → Int32) → (Nat → Int32) → (Nat → Int32) → (Nat → Int32) → (Nat → Int32) → (Nat → Int32) → (Nat → Int32) → (Nat → Int32) → (Nat → Int32) → (Nat → Int32) → (Nat → Int32) → (Nat → Int32) → (Nat → Int32) → (Nat → Int32) → (Nat → Int32) → (Nat → Int32) → Prop} {x2 : Int32} {f Su r : Nat} (hS : Su ≤ 126) (f0 : 0 < f) (hr2 : r ≤ 120) (hf : f + r ≤ Su + 1) (hz : ∀ i, i < r → mk yk (f + i) = 0) (hend : r = 120 ∨ Su < f + r ∨ mk yk (f + r) ≠ 0) (h : wY_write_49 post J (nI Su) x2 (nI f) (nI r) fS pR yL yF yK yC yS dr ho op ar le yk yl yf yr fd pl di sh sc aw nx aO bO bu tu ow) : ∀ e i, i + e = r → wY_write_17 post J (nI Su) x2 (nI f) fS pR yL yF yK yC yS dr ho op ar le yk yl yf yr fd pl di sh sc aw nx aO bO bu tu ow (e + 1) (nI i) := by
  intro e
  induction e with
  | zero =>
    intro i hi
    obtain rfl : i = r := by omega
    refine ⟨fun _ => h, fun z => ?_⟩
    rw [nI_add f i]
    refine ⟨fun _ => h, fun z2 => ?_⟩
    have n1 : ¬ i = 120 := fun y => z (by rw [y]; decide)
    have n2 : ¬ Su < f + i := fun y => z2 (nI_lt y (by omega))
    exact Y_same (by omega) (by omega) (fun y => absurd y ((hend.resolve_left n1).resolve_left n2)) (fun _ => br_t rfl h)
  | succ e ih =>
    intro i hi
    refine br_f (nI_ge (b := 120) (by omega) (by decide)) ?_
    rw [nI_add f i]
    exact br_f (nI_nlt (by omega) (by omega)) (Y_same (by omega) (by omega) (fun _ => br_f (by decide) (nm_r (nI_1 i) (ih (i + 1) (by omega)))) (fun y => absurd (hz i (by omega)) y))
end
/-- from a frame on, nothing pending: both logs -/
theorem wr_ex {yk xc : Nat → Int32} {Su : Nat} (K : wK yk xc Su) : ∀ (m e f n : Nat) (xl yl : Nat → Int32), e ≤ m → f + e = Su + 1 → 0 < f → n ≤ 4 * (f - 1) → (∀ j, j < n → xl j &&& 255 = yl j) → ∃ (n1 : Nat) (xl1 yl1 : Nat → Int32), n1 ≤ 512 ∧ (∀ j, j < n1 → xl1 j &&& 255 = yl1 j) ∧
    (∀ {xH fS pR xD xN xC xB xK : Int32} {wo be dr ho op ar le xk xb xs xa : Nat → Int32} {fu : Nat} {post : Int32 → SX → Prop}, e ≤ fu → post (nI n1) (xH, fS, pR, nI Su, xD, xN, xC, nI n1, xB, xK, wo, be, dr, ho, op, ar, le, xk, xc, xl1, xb, xs, xa) → ((Su < f → wX_write_119 post xH fS pR (nI Su) xD xN xC (nI n) xB xK wo be dr ho op ar le xk xc xl xb xs xa) ∧ (f ≤ Su → wX_write_44 post (wX_write_9 post fu) 0 (nI f) (nI (mk yk f)) xH fS pR (nI Su) xD xN xC (nI n) xB xK wo be dr ho op ar le xk xc xl xb xs xa))) ∧
    (∀ {fS pR yL yF yK yC yS : Int32} {dr ho op ar le yf yr fd pl di sh sc aw nx aO bO bu tu ow : Nat → Int32} {fu : Nat} {post : Int32 → SY → Prop}, e < fu → post (nI n1) (fS, pR, nI n1, yF, yK, yC, yS, dr, ho, op, ar, le, yk, yl1, yf, yr, fd, pl, di, sh, sc, aw, nx, aO, bO, bu, tu, ow) → wY_write_9 post (nI Su) fS pR yL yF yK yC yS fu (nI n) (nI f) dr ho op ar le yk yl yf yr fd pl di sh sc aw nx aO bO bu tu ow) := by
  have hS := K.1
  intro m
  induction m with
  | zero =>
    intro e f n xl yl he hf f0 hn hl
    obtain rfl : e = 0 := by omega
    have hc : ∀ j, j < n + 1 → upd xl n (0 : Int32).toInt8.toInt32 j &&& 255 = upd yl n 0 j := by
      intro j hj
      by_cases ej : j = n
      · subst ej; rw [pk_us, pk_us, b255]; decide
      · rw [pk_un ej, pk_un ej]; exact hl j (by omega)
    refine ⟨n + 1 + 1, upd (upd xl n (0 : Int32).toInt8.toInt32) (n + 1) (smy (upd yl n 0) (n + 1)).toInt8.toInt32, upd (upd yl n 0) (n + 1) (smy (upd yl n 0) (n + 1) &&& 255), by omega, fun j hj => ?_, ?_, ?_⟩
    · by_cases ej : j = n + 1
      · subst ej; rw [pk_us, pk_us, b255]
      · rw [pk_un ej, pk_un ej]; exact hc j (by omega)
    · intro xH fS pR xD xN xC xB xK wo be dr ho op ar le xk xb xs xa fu post hfu hp
      refine ⟨fun _ => X_put (by omega) ⟨n + 1 + 1, X_sum (yl := upd yl n 0) (by omega) hc hp (n + 1) 0 (by omega)⟩, fun z => absurd z (by omega)⟩
    · intro fS pR yL yF yK yC yS dr ho op ar le yf yr fd pl di sh sc aw nx aO bO bu tu ow fu post hfu hp
      obtain ⟨fu2, rfl⟩ : ∃ fu2, fu = fu2 + 1 := ⟨fu - 1, by omega⟩
      exact br_t (nI_lt (by omega) (by omega)) (nm_r (nI_1 n) (yw n rfl (by omega) (by decide) ⟨n + 1 + 1, Y_sum (by omega) hp (n + 1) 0 (by omega)⟩))
  | succ m ihm =>
    intro e f n xl yl he hf f0 hn hl
    by_cases e0 : e ≤ m
    · exact ihm e f n xl yl e0 hf f0 hn hl
    · have m8 := mk_lt yk f
      by_cases g : mk yk f = 0
      · obtain ⟨r, r1, r2, r3, r4, r5⟩ := run_mx (yk := yk) (f := f) (Su := Su) 119 1 (by omega) (by omega) (by omega) (fun i hi => by
          rw [show f + i = f by omega]; exact g)
        have hl2 : ∀ j, j < n + 1 → upd xl n (nI r).toInt8.toInt32 j &&& 255 = upd yl n (nI r) j := by
          intro j hj
          by_cases ej : j = n
          · subst ej; rw [pk_us, pk_us, b255, n255 (by omega)]
          · rw [pk_un ej, pk_un ej]; exact hl j (by omega)
        obtain ⟨n1, xl1, yl1, q1, q2, q3, q4⟩ := ihm (e - r) (f + r) (n + 1) _ _ (by omega) (by omega) (by omega) (by omega) hl2
        refine ⟨n1, xl1, yl1, q1, q2, ?_, ?_⟩
        · intro xH fS pR xD xN xC xB xK wo be dr ho op ar le xk xb xs xa fu post hfu hp
          refine ⟨fun z => absurd z (by omega), fun _ => ?_⟩
          rw [g]
          have k1 := X_wr (fu := fu - r) K (by omega) r3 r1 r2 (by omega) r5 (q3 (by omega) hp)
          have k2 := X_wrun K f0 r2 r3 r4 k1 (r - 1) 1 (by omega)
          rw [show fu - r + 1 + (r - 1) = fu by omega] at k2
          exact br_t rfl (nm_e (nm_r (nI_1 f) k2))
        · intro fS pR yL yF yK yC yS dr ho op ar le yf yr fd pl di sh sc aw nx aO bO bu tu ow fu post hfu hp
          obtain ⟨fu2, rfl⟩ : ∃ fu2, fu = fu2 + 1 := ⟨fu - 1, by omega⟩
          refine br_f (nI_nlt (by omega) (by omega)) ⟨r + 1, Y_w17 hS f0 r2 r3 r4 r5 ?_ r 0 (by omega)⟩
          refine br_f (nI_nle r1 (by omega)) (nm_r (nI_1 n) (yw n rfl (by omega) (by decide) (br_f (nI_nle r1 (by omega)) (nm_r (nI_add f r) (q4 (by omega) hp)))))
      · have hl2 : ∀ j, j < n + 1 → j ≠ n → upd xl n (nI (128 + mk yk f)).toInt8.toInt32 j &&& 255 = upd yl n 128 j := by
          intro j hj ej
          rw [pk_un ej, pk_un ej]; exact hl j (by omega)
        obtain ⟨n2, xl2, yl2, p1, p2, p3, p4, p5⟩ := blk_ex (tt := n) K f0 (by omega) (by omega) 3 0 (n + 1) (upd xl n (nI (128 + mk yk f)).toInt8.toInt32) (upd yl n 128) rfl (by omega) (by omega) hl2 (by rw [pk_us, b255, n255 (by omega)]) (by rw [pk_us, show (2 : Nat) ^ 0 = 1 from rfl, Nat.mod_one]; rfl)
        obtain ⟨n1, xl1, yl1, q1, q2, q3, q4⟩ := ihm (e - 1) (f + 1) n2 xl2 yl2 (by omega) (by omega) (by omega) (by omega) p3
        refine ⟨n1, xl1, yl1, q1, q2, ?_, ?_⟩
        · intro xH fS pR xD xN xC xB xK wo be dr ho op ar le xk xb xs xa fu post hfu hp
          refine ⟨fun z => absurd z (by omega), fun _ => ?_⟩
          obtain ⟨fu2, rfl⟩ : ∃ fu2, fu = fu2 + 1 := ⟨fu - 1, by omega⟩
          have e128 : (128 : Int32) + nI (mk yk f) = nI (128 + mk yk f) := nI_add 128 (mk yk f)
          refine br_f (fun z => g ((nI_eq (b := 0) (by omega) (by decide)).mp z)) ?_
          rw [e128]
          exact X_put (by omega) ⟨4, p4 (X_w0 K (by omega) (by omega) (q3 (by omega) hp))⟩
        · intro fS pR yL yF yK yC yS dr ho op ar le yf yr fd pl di sh sc aw nx aO bO bu tu ow fu post hfu hp
          obtain ⟨fu2, rfl⟩ : ∃ fu2, fu = fu2 + 1 := ⟨fu - 1, by omega⟩
          refine br_f (nI_nlt (by omega) (by omega)) ⟨1, Y_w17 (r := 0) hS f0 (by omega) (by omega) (fun i hi => absurd hi (by omega)) (Or.inr (Or.inr g)) ?_ 0 0 rfl⟩
          exact br_t (by decide) (nm_r (nI_1 n) (yw n rfl (by omega) (by decide) ⟨4, p5 (q4 (by omega) hp)⟩))
theorem c_write {k : Nat} {P Su D N Ch Ln Bn : Nat} {xH fS bk yC yS : Int32} {wo be dr ho op ar le xk xc xl xb xs xa yk yl yf yr fd pl di sh sc aw nx aO bO bu tu ow : Nat → Int32} (H : RL dr ho op ar le fS yk xk xc wo xl yl xb yf P Su D N Ch Ln Bn) : wpX_write (fun r u' => wpY_write (fun r' v' => r' = r ∧ i_Rel (k + 4) u' v') (fS, nI P, nI Ln, nI Bn, bk, yC, yS, dr, ho, op, ar, le, yk, yl, yf, yr, fd, pl, di, sh, sc, aw, nx, aO, bO, bu, tu, ow)) (xH, fS, nI P, nI Su, nI D, nI N, nI Ch, nI Ln, nI Bn, bk, wo, be, dr, ho, op, ar, le, xk, xc, xl, xb, xs, xa) := by
  obtain ⟨C, V, hC, hS, R, hL, hB⟩ := H
  have K : wK yk xc Su := by
    refine ⟨hS.1, fun p g hp g0 hg => ?_⟩
    have hlt : g < 127 := by have := hS.1; omega
    obtain ⟨c1, c2⟩ := hC p g hp g0 hlt
    have hk := hS.2.1 g g0 hg p hp
    refine ⟨?_, (V p g hp g0 hlt).resolve_left hk⟩
    rw [c1]
    obtain ⟨m, rfl⟩ : ∃ m, g = m + 1 := ⟨g - 1, by omega⟩
    rw [gs, if_neg hk]
  obtain ⟨n1, xl1, yl1, q1, q2, q3, q4⟩ := wr_ex K Su Su 1 0 xl yl (by omega) (by omega) (by omega) (by omega) (fun j hj => absurd hj (by omega))
  refine ⟨Su + 1, X_w0 (f := 1) K (by omega) (by omega) (q3 (by omega) ?_)⟩
  exact Y_conf hS ⟨Su + 1, q4 (by omega) ⟨rfl, zz_in ⟨C, V, hC, hS, R, ⟨q1, q2⟩, hB⟩⟩⟩
theorem i_vc_write {k : Nat} {u : SX} {v : SY} (I : i_Rel k u v) (hk : k + 4 ≤ 2049) : wpX_write (fun r u' => wpY_write (fun r' v' => r' = r ∧ i_Rel (k + 4) u' v') v) u := by
  refine zz_el (M := fun u v => wpX_write (fun r u' => wpY_write (fun r' v' => r' = r ∧ i_Rel (k + 4) u' v') v) u) I ?_
  intro P Su D N Ch Ln Bn xH fS bk yC yS wo be dr ho op ar le xk xc xl xb xs xa yk yl yf yr fd pl di sh sc aw nx aO bO bu tu ow H
  exact c_write H
end
section
/-! reading a log: the frames that it says -/
def lst (yr : Nat → Int32) (p F : Nat) : Int32 := if F = 0 then 0 else yr (127 * p + F)
def rdR (xs yr : Nat → Int32) (F : Nat) : Prop := (∀ p g, p < 3 → 0 < g → g ≤ F → ∃ v, v < 16 ∧ xs (128 * p + g) = nI v ∧ yr (127 * p + g) = nI v) ∧ (∀ p g, p < 3 → g < 127 → (g = 0 ∨ F < g) → yr (127 * p + g) = -1)
def rdL (xa yr : Nat → Int32) (F : Nat) : Prop := ∀ p, p < 3 → ∃ v, v < 16 ∧ xa p = nI v ∧ lst yr p F = nI v
section
variable {xH fS pR xS xD xN xC xL xB xK : Int32} {wo be dr ho op ar le xk xc xl xb xs xa : Nat → Int32}
theorem X_242 {post : Int32 → SX → Prop} {J : (Int32 → Int32 → Int32 → Int32 → Int32 → Int32 → Int32 → Int32 → Int32 → Int32 → Int32 → Int32 → Int32 → Int32 → (Nat → Int32) → (Nat → Int32) → (Nat → Int32) → (Nat → Int32) → (Nat → Int32) → (Nat → Int32) → (Nat → Int32) → (Nat → Int32) → (Nat → Int32) → (Nat → Int32) → (Nat → Int32) → (Nat → Int32) → (Nat → Int32) → Prop)} {J2 : (Int32 → (Nat → Int32) → (Nat → Int32) → (Nat → Int32) → (Nat → Int32) → (Nat → Int32) → (Nat → Int32) → (Nat → Int32) → (Nat → Int32) → (Nat → Int32) → (Nat → Int32) → (Nat → Int32) → (Nat → Int32) → (Nat → Int32) → Prop)} {x1 x3 x4 x5 x10 : Int32} {g p n : Nat} (hp : p < 3) (hg : g < 128) (hv : ∃ v, v < 16 ∧ xa p = nI v) (h : wX_scan_242 post J J2 x1 (nI g) x3 x4 x5 x10 xH fS pR xS xD xN xC xL xB xK n (nI (p + 1)) wo be dr ho op ar le xk xc xl xb (upd xs (128 * p + g) (xa p)) xa) : wX_scan_242 post J J2 x1 (nI g) x3 x4 x5 x10 xH fS pR xS xD xN xC xL xB xK (n + 1) (nI p) wo be dr ho op ar le xk xc xl xb xs xa := by
  obtain ⟨v, hv, ev⟩ := hv
  refine br_f (nI_ge (b := 3) hp (by decide)) ⟨vp_in_nI hp (by decide), ?_⟩
  rw [ye p rfl (by omega) ev, vp_nar_byte, i8s (by omega)]
  rw [ev] at h
  exact yw _ (ad_c p g) (by omega) (by decide) (nm_r (nI_1 p) h)
end
/-- X: from frame F on, up to F + t -/
theorem X_230 {xa : Nat → Int32} (hv : ∀ p, p < 3 → ∃ v, v < 16 ∧ xa p = nI v) {xb : Nat → Int32} : ∀ (t : Nat) (F : Nat) (xs : Nat → Int32), F + t ≤ 126 → ∃ xs1 : Nat → Int32, (∀ p g, p < 3 → g < 127 → xs1 (128 * p + g) = if F < g ∧ g ≤ F + t then xa p else xs (128 * p + g)) ∧
    (∀ {xH fS pR xS xD xN xC xL xB : Int32} {wo be dr ho op ar le xk xc xl : Nat → Int32} {xK : Int32} {post : Int32 → SX → Prop} {J : (Int32 → Int32 → Int32 → Int32 → Int32 → Int32 → Int32 → Int32 → Int32 → Int32 → Int32 → Int32 → Int32 → Int32 → (Nat → Int32) → (Nat → Int32) → (Nat → Int32) → (Nat → Int32) → (Nat → Int32) → (Nat → Int32) → (Nat → Int32) → (Nat → Int32) → (Nat → Int32) → (Nat → Int32) → (Nat → Int32) → (Nat → Int32) → (Nat → Int32) → Prop)} {x1 x3 x4 x5 : Int32}, J (nI (F + t)) x3 x4 x5 xH fS pR xS xD xN xC xL xB xK wo be dr ho op ar le xk xc xl xb xs1 xa → wX_scan_230 post J x1 x3 x4 x5 (nI (F + t)) xH fS pR xS xD xN xC xL xB xK (t + 1) (nI F) wo be dr ho op ar le xk xc xl xb xs xa) := by
  intro t
  induction t with
  | zero =>
    intro F xs hF
    refine ⟨xs, fun p g hp hg => by rw [if_neg (by omega)], ?_⟩
    intro xH fS pR xS xD xN xC xL xB wo be dr ho op ar le xk xc xl xK post J x1 x3 x4 x5 h
    exact br_t (nI_le (by omega) (by omega)) h
  | succ t ih =>
    intro F xs hF
    obtain ⟨xs1, h1, h2⟩ := ih (F + 1) (upd (upd (upd xs (128 * 0 + (F + 1)) (xa 0)) (128 * 1 + (F + 1)) (xa 1)) (128 * 2 + (F + 1)) (xa 2)) (by omega)
    refine ⟨xs1, fun p g hp hg => ?_, ?_⟩
    · rw [h1 p g hp hg]
      by_cases c : F + 1 < g ∧ g ≤ F + 1 + t
      · rw [if_pos c, if_pos (by omega)]
      · rw [if_neg c]
        by_cases e : g = F + 1
        · rw [if_pos (by omega)]
          subst e
          have : p = 0 ∨ p = 1 ∨ p = 2 := by omega
          rcases this with rfl | rfl | rfl
          · rw [pk_un (by omega), pk_un (by omega), pk_us]
          · rw [pk_un (by omega), pk_us]
          · rw [pk_us]
        · rw [if_neg (by omega), pk_un (by omega), pk_un (by omega), pk_un (by omega)]
    · intro xH fS pR xS xD xN xC xL xB wo be dr ho op ar le xk xc xl xK post J x1 x3 x4 x5 h
      rw [show F + (t + 1) = F + 1 + t by omega] at h ⊢
      refine br_f (nI_ge (by omega) (by omega)) (nm_r (nI_1 F) ⟨4, X_242 (p := 0) (by decide) (by omega) (hv 0 (by decide)) (X_242 (p := 1) (by decide) (by omega) (hv 1 (by decide)) (X_242 (p := 2) (by decide) (by omega) (hv 2 (by decide)) (br_t (by decide) (h2 h))))⟩)
section
variable {fS pR yL yF yK yC yS : Int32} {dr ho op ar le yk yl yf yr fd pl di sh sc aw nx aO bO bu tu ow : Nat → Int32}
theorem Y_last {post : Int32 → Prop} {p F : Nat} (hp : p < 3) (hF : F < 127) (h : post (lst yr p F)) : wpY_last post (fS, pR, yL, yF, yK, yC, yS, dr, ho, op, ar, le, yk, yl, yf, yr, fd, pl, di, sh, sc, aw, nx, aO, bO, bu, tu, ow) (nI p) (nI F) := by
  unfold wpY_last
  unfold lst at h
  by_cases e : F = 0
  · rw [if_pos e] at h
    subst e
    exact br_t rfl h
  · rw [if_neg e] at h
    refine br_f (nI_ne0 (by omega) (by omega)) ⟨?_, ?_⟩
    · rw [ad_k]
      exact vp_in_nI (by omega) (by decide)
    · rw [ye (f := yr) _ (ad_k p F) (by omega) rfl]
      exact h
theorem Y_143 {post : Int32 → SY → Prop} {J : (Int32 → Int32 → Int32 → Int32 → (Nat → Int32) → (Nat → Int32) → (Nat → Int32) → (Nat → Int32) → (Nat → Int32) → (Nat → Int32) → (Nat → Int32) → (Nat → Int32) → (Nat → Int32) → (Nat → Int32) → (Nat → Int32) → (Nat → Int32) → (Nat → Int32) → (Nat → Int32) → (Nat → Int32) → (Nat → Int32) → (Nat → Int32) → (Nat → Int32) → (Nat → Int32) → (Nat → Int32) → (Nat → Int32) → Prop)} {J2 : Int32 → Int32 → (Nat → Int32) → (Nat → Int32) → (Nat → Int32) → (Nat → Int32) → (Nat → Int32) → (Nat → Int32) → (Nat → Int32) → (Nat → Int32) → (Nat → Int32) → (Nat → Int32) → (Nat → Int32) → (Nat → Int32) → (Nat → Int32) → (Nat → Int32) → (Nat → Int32) → (Nat → Int32) → (Nat → Int32) → (Nat → Int32) → (Nat → Int32) → (Nat → Int32) → (Nat → Int32) → Prop} {x1 x3 x4 x5 x6 x7 x8 : Int32} {F p n : Nat} (hp : p < 3) (hF : F < 126) (h : wY_parse_143 post J J2 x1 (nI F) x3 x4 x5 x6 x7 x8 fS pR yL yF yK yC yS n (nI (p + 1)) dr ho op ar le yk yl yf (upd yr (127 * p + (F + 1)) (lst yr p F)) fd pl di sh sc aw nx aO bO bu tu ow) : wY_parse_143 post J J2 x1 (nI F) x3 x4 x5 x6 x7 x8 fS pR yL yF yK yC yS (n + 1) (nI p) dr ho op ar le yk yl yf yr fd pl di sh sc aw nx aO bO bu tu ow := by
  have e : 127 * nI p + nI F + 1 = nI (127 * p + (F + 1)) := by
    rw [ad_k, nI_1]
    exact congrArg nI (by omega)
  exact br_f (nI_ge (b := 3) hp (by decide)) (Y_last hp (by omega) (yw _ e (by omega) (by decide) (nm_r (nI_1 p) h)))
end
theorem lst_up {yr : Nat → Int32} {p q F : Nat} {x : Int32} (hp : p < 3) (hq : q < 3) (hF : F < 126) : lst (upd yr (127 * q + (F + 1)) x) p F = lst yr p F := by
  unfold lst
  by_cases e : F = 0
  · rw [if_pos e, if_pos e]
  · rw [if_neg e, if_neg e, pk_un (by omega)]
/-- Y: from frame F on, up to F + t -/
theorem Y_124 {yf : Nat → Int32} : ∀ (t F c : Nat) (yr : Nat → Int32), F + t ≤ 126 → ∃ yr1 : Nat → Int32, (∀ p g, p < 3 → g < 127 → yr1 (127 * p + g) = if F < g ∧ g ≤ F + t then lst yr p F else yr (127 * p + g)) ∧
    (∀ {fS pR yL yF yK yC yS : Int32} {dr ho op ar le yk yl fd pl di sh sc aw nx aO bO bu tu ow : Nat → Int32} {post : Int32 → SY → Prop} {J : (Int32 → Int32 → Int32 → Int32 → (Nat → Int32) → (Nat → Int32) → (Nat → Int32) → (Nat → Int32) → (Nat → Int32) → (Nat → Int32) → (Nat → Int32) → (Nat → Int32) → (Nat → Int32) → (Nat → Int32) → (Nat → Int32) → (Nat → Int32) → (Nat → Int32) → (Nat → Int32) → (Nat → Int32) → (Nat → Int32) → (Nat → Int32) → (Nat → Int32) → (Nat → Int32) → (Nat → Int32) → (Nat → Int32) → Prop)} {x1 x3 x4 x5 x6 x7 : Int32}, c + t < 1000 → ((x7 = 0 → c + t = 1) ∧ (¬ x7 = 0 → x6 = nI (c + t))) → (∃ n, wY_parse_188 post J x1 (nI (F + t)) x5 x6 x7 fS pR yL yF yK yC yS n x3 x4 0 dr ho op ar le yk yl yf yr1 fd pl di sh sc aw nx aO bO bu tu ow) → wY_parse_124 post J x1 x3 x4 x5 x6 x7 fS pR yL yF yK yC yS (t + 1) (nI F) (nI c) dr ho op ar le yk yl yf yr fd pl di sh sc aw nx aO bO bu tu ow) := by
  intro t
  induction t with
  | zero =>
    intro F c yr hF
    refine ⟨yr, fun p g hp hg => by rw [if_neg (by omega)], ?_⟩
    intro fS pR yL yF yK yC yS dr ho op ar le yk yl fd pl di sh sc aw nx aO bO bu tu ow post J x1 x3 x4 x5 x6 x7 hc hx h
    refine ⟨fun z => ?_, fun z => ?_⟩
    · obtain rfl : c = 1 := hx.1 z
      exact br_t (by decide) h
    · rw [hx.2 z] at h ⊢
      exact br_t (nI_le (by omega) (by omega)) h
  | succ t ih =>
    intro F c yr hF
    obtain ⟨yr1, h1, h2⟩ := ih (F + 1) (c + 1) (upd (upd (upd yr (127 * 0 + (F + 1)) (lst yr 0 F)) (127 * 1 + (F + 1)) (lst yr 1 F)) (127 * 2 + (F + 1)) (lst yr 2 F)) (by omega)
    have own : ∀ p, p < 3 → upd (upd (upd yr (127 * 0 + (F + 1)) (lst yr 0 F)) (127 * 1 + (F + 1)) (lst yr 1 F)) (127 * 2 + (F + 1)) (lst yr 2 F) (127 * p + (F + 1)) = lst yr p F := by
      intro p hp
      have : p = 0 ∨ p = 1 ∨ p = 2 := by omega
      rcases this with rfl | rfl | rfl
      · rw [pk_un (by omega), pk_un (by omega), pk_us]
      · rw [pk_un (by omega), pk_us]
      · rw [pk_us]
    refine ⟨yr1, fun p g hp hg => ?_, ?_⟩
    · rw [h1 p g hp hg]
      by_cases c : F + 1 < g ∧ g ≤ F + 1 + t
      · rw [if_pos c, if_pos (by omega)]
        show lst _ p (F + 1) = _
        unfold lst
        rw [if_neg (by omega)]
        exact own p hp
      · rw [if_neg c]
        by_cases e : g = F + 1
        · rw [if_pos (by omega)]
          subst e
          exact own p hp
        · rw [if_neg (by omega), pk_un (by omega), pk_un (by omega), pk_un (by omega)]
    · intro fS pR yL yF yK yC yS dr ho op ar le yk yl fd pl di sh sc aw nx aO bO bu tu ow post J x1 x3 x4 x5 x6 x7 hc hx h
      rw [show F + (t + 1) = F + 1 + t by omega] at h
      rw [show c + (t + 1) = c + 1 + t by omega] at hx
      have e1 := lst_up (yr := yr) (p := 1) (q := 0) (F := F) (x := lst yr 0 F) (by decide) (by decide) (by omega)
      have e2 : lst (upd (upd yr (127 * 0 + (F + 1)) (lst yr 0 F)) (127 * 1 + (F + 1)) (lst yr 1 F)) 2 F = lst yr 2 F := by
        rw [lst_up (by decide) (by decide) (by omega), lst_up (by decide) (by decide) (by omega)]
      have body : ∃ n, wY_parse_143 post J (wY_parse_124 post J x1 x3 x4 x5 x6 x7 fS pR yL yF yK yC yS (t + 1)) x1 (nI F) x3 x4 x5 x6 x7 (nI c) fS pR yL yF yK yC yS n 0 dr ho op ar le yk yl yf yr fd pl di sh sc aw nx aO bO bu tu ow := by
        refine ⟨4, Y_143 (p := 0) (by decide) (by omega) (Y_143 (p := 1) (by decide) (by omega) (Y_143 (p := 2) (by decide) (by omega) (br_t (by decide) (nm_r (nI_1 F) (nm_r (nI_1 c) ?_)))))⟩
        rw [e1, e2]
        exact h2 (by omega) hx h
      refine ⟨fun z => ?_, fun z => ?_⟩
      · obtain hc1 := hx.1 z
        obtain rfl : c = 0 := by omega
        exact br_f (by decide) body
      · refine br_f ?_ body
        rw [hx.2 z]
        exact nI_ge (by omega) (by omega)
end
section
theorem sh_bit3 : ∀ k, k < 3 → ∀ m, m < 8 → (nI (128 + m) >>> (nI k &&& 31)) &&& 1 = nI (m / 2 ^ k % 2) := by decide +kernel
theorem sb_15 : ∀ b, b < 256 → ((0 ≤ sb_b b ∧ sb_b b ≤ 15) ↔ b ≤ 15) := by decide +kernel
theorem sb_sm {b : Nat} (h : b ≤ 127) : sb_b b = nI b := i8s (by omega)
/-- a sum as it grows -/
def acc (yf : Nat → Int32) : Int32 → Nat → Nat → Int32
  | s, _, 0 => s
  | s, a, e + 1 => acc yf (s + yf a) (a + 1) e
/-- the new inputs of a frame: F + 1 is the frame, m says whose -/
theorem chg_ex {xb yf : Nat → Int32} {n F m : Nat} (hB : cB xb yf n) (hF : F < 126) (hm : m < 8) : ∀ (e k A : Nat) (s : Int32) (xa yr : Nat → Int32), k + e = 3 → A ≤ n → (∀ p, p < 3 → ∃ v, v < 16 ∧ xa p = nI v ∧ yr (127 * p + (F + 1)) = nI v) → (∀ p, p < 3 → k ≤ p → lst yr p F = xa p) →
    (∃ (w : Nat) (xa1 yr1 : Nat → Int32), w ≤ n ∧
      (∀ {xH fS pR xS xD xN xC xL xB : Int32} {wo be dr ho op ar le xk xc xl : Nat → Int32} {xs : Nat → Int32} {xK : Int32} {post : Int32 → SX → Prop}, post (-1) (xH, fS, pR, xS, xD, xN, xC, xL, xB, nI w, wo, be, dr, ho, op, ar, le, xk, xc, xl, xb, xs, xa1) → wX_changes_6 post (nI n) (nI m) xH fS pR xS xD xN xC xL xB xK (e + 1) (nI A) (nI k) wo be dr ho op ar le xk xc xl xb xs xa) ∧
      (∀ {fS pR yL yF yK yC yS : Int32} {dr ho op ar le yk yl fd pl di sh sc aw nx aO bO bu tu ow : Nat → Int32} {post : Int32 → SY → Prop} {J : (Int32 → Int32 → Int32 → Int32 → (Nat → Int32) → (Nat → Int32) → (Nat → Int32) → (Nat → Int32) → (Nat → Int32) → (Nat → Int32) → (Nat → Int32) → (Nat → Int32) → (Nat → Int32) → (Nat → Int32) → (Nat → Int32) → (Nat → Int32) → (Nat → Int32) → (Nat → Int32) → (Nat → Int32) → (Nat → Int32) → (Nat → Int32) → (Nat → Int32) → (Nat → Int32) → (Nat → Int32) → (Nat → Int32) → Prop)}, post (nI w) (fS, pR, yL, yF, yK, yC, yS, dr, ho, op, ar, le, yk, yl, yf, yr1, fd, pl, di, sh, sc, aw, nx, aO, bO, bu, tu, ow) → wY_parse_188 post J (nI n) (nI (F + 1)) 120 (nI (128 + m)) 0 fS pR yL yF yK yC yS (e + 1) (nI A) s (nI k) dr ho op ar le yk yl yf yr fd pl di sh sc aw nx aO bO bu tu ow)) ∨
    (∃ (d : Nat) (xa1 yr1 : Nat → Int32), A + d ≤ n ∧ (∀ j, A ≤ j → j < A + d → xb j = yf j) ∧ (∀ p, p < 3 → ∃ v, v < 16 ∧ xa1 p = nI v ∧ yr1 (127 * p + (F + 1)) = nI v) ∧ (∀ p g, p < 3 → g < 127 → g ≠ F + 1 → yr1 (127 * p + g) = yr (127 * p + g)) ∧
      (∀ {xH fS pR xS xD xN xC xL xB : Int32} {wo be dr ho op ar le xk xc xl : Nat → Int32} {xs : Nat → Int32} {xK : Int32} {post : Int32 → SX → Prop}, post (nI (A + d)) (xH, fS, pR, xS, xD, xN, xC, xL, xB, xK, wo, be, dr, ho, op, ar, le, xk, xc, xl, xb, xs, xa1) → wX_changes_6 post (nI n) (nI m) xH fS pR xS xD xN xC xL xB xK (e + 1) (nI A) (nI k) wo be dr ho op ar le xk xc xl xb xs xa) ∧
      (∀ {fS pR yL yF yK yC yS : Int32} {dr ho op ar le yk yl fd pl di sh sc aw nx aO bO bu tu ow : Nat → Int32} {post : Int32 → SY → Prop} {J : (Int32 → Int32 → Int32 → Int32 → (Nat → Int32) → (Nat → Int32) → (Nat → Int32) → (Nat → Int32) → (Nat → Int32) → (Nat → Int32) → (Nat → Int32) → (Nat → Int32) → (Nat → Int32) → (Nat → Int32) → (Nat → Int32) → (Nat → Int32) → (Nat → Int32) → (Nat → Int32) → (Nat → Int32) → (Nat → Int32) → (Nat → Int32) → (Nat → Int32) → (Nat → Int32) → (Nat → Int32) → (Nat → Int32) → Prop)}, J (nI (F + 1)) (nI (A + d)) (acc yf s A d) 120 dr ho op ar le yk yl yf yr1 fd pl di sh sc aw nx aO bO bu tu ow → wY_parse_188 post J (nI n) (nI (F + 1)) 120 (nI (128 + m)) 0 fS pR yL yF yK yC yS (e + 1) (nI A) s (nI k) dr ho op ar le yk yl yf yr fd pl di sh sc aw nx aO bO bu tu ow)) := by
  have hn := hB.1
  intro e
  induction e with
  | zero =>
    intro k A s xa yr hk hA h1 h2
    obtain rfl : k = 3 := by omega
    refine Or.inr ⟨0, xa, yr, by omega, fun j j1 j2 => absurd j2 (by omega), h1, fun _ _ _ _ _ => rfl, ?_, ?_⟩
    · intro xH fS pR xS xD xN xC xL xB wo be dr ho op ar le xk xc xl xs xK post hp
      exact br_t (by decide) hp
    · intro fS pR yL yF yK yC yS dr ho op ar le yk yl fd pl di sh sc aw nx aO bO bu tu ow post J hp
      exact br_t (by decide) hp
  | succ e ih =>
    intro k A s xa yr hk hA h1 h2
    have hk3 : k < 3 := by omega
    have g3 : ¬ (3 : Int32) ≤ nI k := nI_ge (b := 3) hk3 (by decide)
    have ex := sh_bit k hk3 m hm
    have ey := sh_bit3 k hk3 m hm
    have i3 : vp_in (nI k) 3 := vp_in_nI hk3 (by decide)
    by_cases b0 : m / 2 ^ k % 2 = 0
    · rw [b0] at ex ey
      rcases ih (k + 1) A s xa yr (by omega) hA h1 (fun p hp h => h2 p hp (by omega)) with ⟨w, xa1, yr1, hw, X1, Y1⟩ | ⟨d, xa1, yr1, q1, q2, q3, q4, X1, Y1⟩
      · refine Or.inl ⟨w, xa1, yr1, hw, ?_, ?_⟩
        · intro xH fS pR xS xD xN xC xL xB wo be dr ho op ar le xk xc xl xs xK post hp
          refine br_f g3 ?_
          rw [ex]
          exact br_t rfl (nm_r (nI_1 k) (X1 hp))
        · intro fS pR yL yF yK yC yS dr ho op ar le yk yl fd pl di sh sc aw nx aO bO bu tu ow post J hp
          refine br_f g3 (br_t rfl ?_)
          rw [ey]
          exact br_t rfl (nm_r (nI_1 k) (Y1 hp))
      · refine Or.inr ⟨d, xa1, yr1, q1, q2, q3, q4, ?_, ?_⟩
        · intro xH fS pR xS xD xN xC xL xB wo be dr ho op ar le xk xc xl xs xK post hp
          refine br_f g3 ?_
          rw [ex]
          exact br_t rfl (nm_r (nI_1 k) (X1 hp))
        · intro fS pR yL yF yK yC yS dr ho op ar le yk yl fd pl di sh sc aw nx aO bO bu tu ow post J hp
          refine br_f g3 (br_t rfl ?_)
          rw [ey]
          exact br_t rfl (nm_r (nI_1 k) (Y1 hp))
    · have b1 : m / 2 ^ k % 2 = 1 := by omega
      rw [b1] at ex ey
      by_cases eA : A = n
      · refine Or.inl ⟨n, xa, yr, Nat.le_refl _, ?_, ?_⟩
        · intro xH fS pR xS xD xN xC xL xB wo be dr ho op ar le xk xc xl xs xK post hp
          refine br_f g3 ?_
          rw [ex, eA]
          exact br_f (by decide) (br_t (nI_le (by omega) (by omega)) hp)
        · intro fS pR yL yF yK yC yS dr ho op ar le yk yl fd pl di sh sc aw nx aO bO bu tu ow post J hp
          refine br_f g3 (br_t rfl ?_)
          rw [ey, eA]
          exact br_f (by decide) (br_t rfl hp)
      · have i512 : vp_in (nI A) 512 := vp_in_nI (by omega) (by decide)
        obtain ⟨b, hb, ebx, eby⟩ := hB.2 A (by omega)
        have nA : ¬ nI n ≤ nI A := nI_ge (by omega) (by omega)
        have nE : ¬ nI A = nI n := fun z => eA ((nI_eq (by omega) (by omega)).mp z)
        have e15 := sb_15 b hb
        have hl := h2 k hk3 (Nat.le_refl k)
        have em : nI (F + 1) - 1 = nI F := nI_pred F
        have i381 : vp_in (127 * nI k + nI (F + 1)) 381 := by rw [ad_k]; exact vp_in_nI (by omega) (by decide)
        by_cases c15 : b ≤ 15
        · have ebs : xb A = nI b := ebx.trans (sb_sm (by omega))
          by_cases cl : nI b = xa k
          · refine Or.inl ⟨A, xa, yr, hA, ?_, ?_⟩
            · intro xH fS pR xS xD xN xC xL xB wo be dr ho op ar le xk xc xl xs xK post hp
              refine br_f g3 ?_
              rw [ex]
              refine br_f (by decide) (br_f nA ⟨i512, ?_⟩)
              rw [ye A rfl (by omega) ebs]
              refine X_outside (fun _ => br_t rfl ⟨i512, i3, ?_⟩) (fun z => absurd ⟨nI_pos' (by omega), nI_le (b := 15) c15 (by decide)⟩ z)
              rw [ye (f := xa) k rfl (by omega) rfl]
              exact br_t cl hp
            · intro fS pR yL yF yK yC yS dr ho op ar le yk yl fd pl di sh sc aw nx aO bO bu tu ow post J hp
              refine br_f g3 (br_t rfl ?_)
              rw [ey]
              refine br_f (by decide) (br_f nE ⟨i512, ?_⟩)
              rw [ye A rfl (by omega) eby, em]
              refine br_f (nI_nlt (a := 15) c15 (by decide)) ⟨i512, Y_last hk3 (by omega) ?_⟩
              rw [hl]
              exact br_t cl hp
          · have h1' : ∀ p, p < 3 → ∃ v, v < 16 ∧ upd xa k (nI b) p = nI v ∧ upd yr (127 * k + (F + 1)) (nI b) (127 * p + (F + 1)) = nI v := by
              intro p hp
              by_cases e : p = k
              · subst e
                exact ⟨b, by omega, pk_us, pk_us⟩
              · rw [pk_un e, pk_un (by omega)]
                exact h1 p hp
            have h2' : ∀ p, p < 3 → k + 1 ≤ p → lst (upd yr (127 * k + (F + 1)) (nI b)) p F = upd xa k (nI b) p := by
              intro p hp hkp
              rw [lst_up hp hk3 hF, pk_un (by omega)]
              exact h2 p hp (by omega)
            have stepX : ∀ {xH fS pR xS xD xN xC xL xB : Int32} {wo be dr ho op ar le xk xc xl : Nat → Int32} {xs : Nat → Int32} {xK : Int32} {post : Int32 → SX → Prop}, wX_changes_6 post (nI n) (nI m) xH fS pR xS xD xN xC xL xB xK (e + 1) (nI (A + 1)) (nI (k + 1)) wo be dr ho op ar le xk xc xl xb xs (upd xa k (nI b)) → wX_changes_6 post (nI n) (nI m) xH fS pR xS xD xN xC xL xB xK (e + 1 + 1) (nI A) (nI k) wo be dr ho op ar le xk xc xl xb xs xa := by
              intro xH fS pR xS xD xN xC xL xB wo be dr ho op ar le xk xc xl xs xK post hp
              refine br_f g3 ?_
              rw [ex]
              refine br_f (by decide) (br_f nA ⟨i512, ?_⟩)
              rw [ye A rfl (by omega) ebs, vp_nar_byte, i8s (by omega)]
              refine X_outside (fun _ => br_t rfl ⟨i512, i3, ?_⟩) (fun z => absurd ⟨nI_pos' (by omega), nI_le (b := 15) c15 (by decide)⟩ z)
              rw [ye (f := xa) k rfl (by omega) rfl]
              exact br_f cl (nm_r (nI_1 A) ⟨i512, yw k rfl hk3 (by decide) (nm_r (nI_1 k) hp)⟩)
            have stepY : ∀ {fS pR yL yF yK yC yS : Int32} {dr ho op ar le yk yl fd pl di sh sc aw nx aO bO bu tu ow : Nat → Int32} {post : Int32 → SY → Prop} {J : (Int32 → Int32 → Int32 → Int32 → (Nat → Int32) → (Nat → Int32) → (Nat → Int32) → (Nat → Int32) → (Nat → Int32) → (Nat → Int32) → (Nat → Int32) → (Nat → Int32) → (Nat → Int32) → (Nat → Int32) → (Nat → Int32) → (Nat → Int32) → (Nat → Int32) → (Nat → Int32) → (Nat → Int32) → (Nat → Int32) → (Nat → Int32) → (Nat → Int32) → (Nat → Int32) → (Nat → Int32) → (Nat → Int32) → Prop)}, wY_parse_188 post J (nI n) (nI (F + 1)) 120 (nI (128 + m)) 0 fS pR yL yF yK yC yS (e + 1) (nI (A + 1)) (s + yf A) (nI (k + 1)) dr ho op ar le yk yl yf (upd yr (127 * k + (F + 1)) (nI b)) fd pl di sh sc aw nx aO bO bu tu ow → wY_parse_188 post J (nI n) (nI (F + 1)) 120 (nI (128 + m)) 0 fS pR yL yF yK yC yS (e + 1 + 1) (nI A) s (nI k) dr ho op ar le yk yl yf yr fd pl di sh sc aw nx aO bO bu tu ow := by
              intro fS pR yL yF yK yC yS dr ho op ar le yk yl fd pl di sh sc aw nx aO bO bu tu ow post J hp
              refine br_f g3 (br_t rfl ?_)
              rw [ey]
              refine br_f (by decide) (br_f nE ⟨i512, ?_⟩)
              rw [ye A rfl (by omega) eby, em]
              refine br_f (nI_nlt (a := 15) c15 (by decide)) ⟨i512, Y_last hk3 (by omega) ?_⟩
              rw [hl]
              rw [eby] at hp
              exact br_f cl ⟨i512, yw _ (ad_k k (F + 1)) (by omega) (by decide) ⟨i512, nm_e (nm_r (nI_1 A) (nm_r (nI_1 k) hp))⟩⟩
            rcases ih (k + 1) (A + 1) (s + yf A) (upd xa k (nI b)) (upd yr (127 * k + (F + 1)) (nI b)) (by omega) (by omega) h1' h2' with ⟨w, xa1, yr1, hw, X1, Y1⟩ | ⟨d, xa1, yr1, q1, q2, q3, q4, X1, Y1⟩
            · refine Or.inl ⟨w, xa1, yr1, hw, ?_, ?_⟩
              · intro xH fS pR xS xD xN xC xL xB wo be dr ho op ar le xk xc xl xs xK post hp
                exact stepX (X1 hp)
              · intro fS pR yL yF yK yC yS dr ho op ar le yk yl fd pl di sh sc aw nx aO bO bu tu ow post J hp
                exact stepY (Y1 hp)
            · refine Or.inr ⟨d + 1, xa1, yr1, by omega, fun j j1 j2 => ?_, q3, fun p g hp hg hne => ?_, ?_, ?_⟩
              · by_cases ej : j = A
                · subst ej; exact ebs.trans eby.symm
                · exact q2 j (by omega) (by omega)
              · rw [q4 p g hp hg hne, pk_un (by omega)]
              · intro xH fS pR xS xD xN xC xL xB wo be dr ho op ar le xk xc xl xs xK post hp
                rw [show A + (d + 1) = A + 1 + d by omega] at hp
                exact stepX (X1 hp)
              · intro fS pR yL yF yK yC yS dr ho op ar le yk yl fd pl di sh sc aw nx aO bO bu tu ow post J hp
                rw [show A + (d + 1) = A + 1 + d by omega] at hp
                exact stepY (Y1 hp)
        · refine Or.inl ⟨A, xa, yr, hA, ?_, ?_⟩
          · intro xH fS pR xS xD xN xC xL xB wo be dr ho op ar le xk xc xl xs xK post hp
            refine br_f g3 ?_
            rw [ex]
            refine br_f (by decide) (br_f nA ⟨i512, ?_⟩)
            rw [ye A rfl (by omega) ebx]
            exact X_outside (fun z => absurd (e15.mp z) c15) (fun _ => br_f (by decide) hp)
          · intro fS pR yL yF yK yC yS dr ho op ar le yk yl fd pl di sh sc aw nx aO bO bu tu ow post J hp
            refine br_f g3 (br_t rfl ?_)
            rw [ey]
            refine br_f (by decide) (br_f nE ⟨i512, ?_⟩)
            rw [ye A rfl (by omega) eby]
            exact br_t (nI_lt (a := 15) (by omega) (by omega)) hp
end
section
theorem sb_inj {a b : Nat} (ha : a < 256) (hb : b < 256) (h : sb_b a = sb_b b) : a = b := by
  have h1 := (sb_byte a ha).1
  have h2 := (sb_byte b hb).1
  rw [h, h2] at h1
  exact ((nI_eq (by omega) (by omega)).mp h1).symm
/-- how reading ends: no log, broken at w, or F frames -/
def rdO (xs yr : Nat → Int32) (rx ry bk : Int32) : Prop := (rx = -1 ∧ ∃ w, w < 1000 ∧ ry = nI w ∧ bk = nI w) ∨ (∃ F, F ≤ 126 ∧ rx = nI F ∧ ry = -1 ∧ bk = -1 ∧ rdR xs yr F)
theorem end_ex {xb yf : Nat → Int32} {n F A : Nat} {s : Int32} (hB : cB xb yf n) (hA : A ≤ n) : ∃ rx ry bk : Int32, ((rx = -1 ∧ ∃ w, w < 1000 ∧ ry = nI w ∧ bk = nI w) ∨ (rx = nI F ∧ ry = -1 ∧ bk = -1)) ∧
    (∀ {xH fS pR xS xD xN xC xL xB : Int32} {wo be dr ho op ar le xk xc xl : Nat → Int32} {xs xa : Nat → Int32} {post : Int32 → SX → Prop}, post rx (xH, fS, pR, xS, xD, xN, xC, xL, xB, bk, wo, be, dr, ho, op, ar, le, xk, xc, xl, xb, xs, xa) → wX_scan_280 post (nI n) (nI F) s (nI A) xH fS pR xS xD xN xC xL xB (-1) wo be dr ho op ar le xk xc xl xb xs xa) ∧
    (∀ {fS pR yL yF yK yC yS : Int32} {dr ho op ar le yk yl fd pl di sh sc aw nx aO bO bu tu ow : Nat → Int32} {yr : Nat → Int32} {post : Int32 → SY → Prop}, post ry (fS, pR, yL, yF, yK, yC, yS, dr, ho, op, ar, le, yk, yl, yf, yr, fd, pl, di, sh, sc, aw, nx, aO, bO, bu, tu, ow) → wY_parse_291 post (nI n) (nI A) s fS pR yL yF yK yC yS dr ho op ar le yk yl yf yr fd pl di sh sc aw nx aO bO bu tu ow) := by
  have hn := hB.1
  have en : (nI n - 1).toInt = (n : Int) - 1 := pk_sub_toInt (b := 1) (by omega) (by decide)
  by_cases g : A + 1 < n
  · have lx : nI A < nI n - 1 := by
      rw [Int32.lt_iff_toInt_lt, en, nI_toInt (by omega)]
      omega
    have ly : nI (A + 1) < nI n := nI_lt g (by omega)
    have i512 : vp_in (nI (A + 1)) 512 := vp_in_nI (by omega) (by decide)
    obtain ⟨b, hb, ebx, eby⟩ := hB.2 (A + 1) g
    obtain ⟨s1, s2⟩ := byt s
    have hs : s.toBitVec.toNat % 256 < 256 := Nat.mod_lt _ (by decide)
    have e2 : nI A + 2 = nI (A + 2) := nI_add A 2
    by_cases c : b = s.toBitVec.toNat % 256
    · by_cases c2 : n ≤ A + 2
      · refine ⟨nI F, -1, -1, Or.inr ⟨rfl, rfl, rfl⟩, ?_, ?_⟩
        · intro xH fS pR xS xD xN xC xL xB wo be dr ho op ar le xk xc xl xs xa post hp
          unfold wX_scan_280
          rw [nI_1 A, ye _ rfl (by omega) ebx, s1, ← c]
          refine br_t lx ⟨i512, br_t rfl (br_f (by decide) ?_)⟩
          rw [e2]
          exact br_t (nI_le c2 (by omega)) hp
        · intro fS pR yL yF yK yC yS dr ho op ar le yk yl fd pl di sh sc aw nx aO bO bu tu ow yr post hp
          unfold wY_parse_291
          rw [nI_1 A, ye _ rfl (by omega) eby, s2, ← c, e2]
          exact br_t ly ⟨i512, br_t rfl (br_t (nI_le c2 (by omega)) hp)⟩
      · refine ⟨-1, nI (A + 2), nI (A + 2), Or.inl ⟨rfl, A + 2, by omega, rfl, rfl⟩, ?_, ?_⟩
        · intro xH fS pR xS xD xN xC xL xB wo be dr ho op ar le xk xc xl xs xa post hp
          unfold wX_scan_280
          rw [nI_1 A, ye _ rfl (by omega) ebx, s1, ← c]
          refine br_t lx ⟨i512, br_t rfl (br_f (by decide) ?_)⟩
          rw [e2]
          exact br_f (nI_ge (by omega) (by omega)) hp
        · intro fS pR yL yF yK yC yS dr ho op ar le yk yl fd pl di sh sc aw nx aO bO bu tu ow yr post hp
          unfold wY_parse_291
          rw [nI_1 A, ye _ rfl (by omega) eby, s2, ← c, e2]
          exact br_t ly ⟨i512, br_t rfl (br_f (nI_ge (by omega) (by omega)) hp)⟩
    · refine ⟨-1, nI (A + 1), nI (A + 1), Or.inl ⟨rfl, A + 1, by omega, rfl, rfl⟩, ?_, ?_⟩
      · intro xH fS pR xS xD xN xC xL xB wo be dr ho op ar le xk xc xl xs xa post hp
        unfold wX_scan_280
        rw [nI_1 A, ye _ rfl (by omega) ebx, s1]
        refine br_t lx ⟨i512, br_f (fun z => c (sb_inj hb hs z)) (br_t rfl ?_)⟩
        rw [nI_1 A]
        exact hp
      · intro fS pR yL yF yK yC yS dr ho op ar le yk yl fd pl di sh sc aw nx aO bO bu tu ow yr post hp
        unfold wY_parse_291
        rw [nI_1 A, ye _ rfl (by omega) eby, s2]
        exact br_t ly ⟨i512, br_f (fun z => c ((nI_eq (by omega) (by omega)).mp z)) hp⟩
  · have lx : ¬ nI A < nI n - 1 := by
      rw [Int32.lt_iff_toInt_lt, en, nI_toInt (by omega)]
      omega
    refine ⟨-1, nI n, nI n, Or.inl ⟨rfl, n, by omega, rfl, rfl⟩, ?_, ?_⟩
    · intro xH fS pR xS xD xN xC xL xB wo be dr ho op ar le xk xc xl xs xa post hp
      exact br_f lx hp
    · intro fS pR yL yF yK yC yS dr ho op ar le yk yl fd pl di sh sc aw nx aO bO bu tu ow yr post hp
      unfold wY_parse_291
      rw [nI_1 A]
      exact br_f (nI_nlt (by omega) (by omega)) hp
section
variable {xH fS pR xS xD xN xC xL xB xK : Int32} {wo be dr ho op ar le xk xc xl xb xs xa : Nat → Int32}
theorem X_190 {post : Int32 → SX → Prop} {J : (Int32 → Int32 → Int32 → Int32 → Int32 → Int32 → Int32 → Int32 → Int32 → Int32 → Int32 → Int32 → Int32 → Int32 → (Nat → Int32) → (Nat → Int32) → (Nat → Int32) → (Nat → Int32) → (Nat → Int32) → (Nat → Int32) → (Nat → Int32) → (Nat → Int32) → (Nat → Int32) → (Nat → Int32) → (Nat → Int32) → (Nat → Int32) → (Nat → Int32) → Prop)} {yf : Nat → Int32} {x1 x2 x3 x6 x8 : Int32} : ∀ (d : Nat) (s : Int32) (a : Nat), (∀ j, a ≤ j → j < a + d → xb j = yf j) → a + d ≤ 512 → wX_scan_215 post J x1 x2 x3 (acc yf s a d) (nI (a + d)) x6 x8 xH fS pR xS xD xN xC xL xB xK wo be dr ho op ar le xk xc xl xb xs xa → wX_scan_190 post J x1 x2 x3 x6 x8 (nI (a + d)) xH fS pR xS xD xN xC xL xB xK wo be dr ho op ar le xk xc xl xb xs xa (d + 1) s (nI a) := by
  intro d
  induction d with
  | zero =>
    intro s a h1 h2 h
    exact br_t (nI_le (by omega) (by omega)) h
  | succ d ih =>
    intro s a h1 h2 h
    refine br_f (nI_ge (by omega) (by omega)) ⟨vp_in_nI (by omega) (by decide), ?_⟩
    rw [ye a rfl (by omega) (h1 a (by omega) (by omega))]
    rw [show a + (d + 1) = a + 1 + d by omega] at h ⊢
    exact nm_e (nm_r (nI_1 a) (ih (s + yf a) (a + 1) (fun j j1 j2 => h1 j (by omega) (by omega)) (by omega) h))
/-- a byte that doesn't fit -/
theorem X_bad {post : Int32 → SX → Prop} {J : (Int32 → Int32 → Int32 → Int32 → Int32 → Int32 → Int32 → Int32 → Int32 → Int32 → Int32 → Int32 → Int32 → Int32 → (Nat → Int32) → (Nat → Int32) → (Nat → Int32) → (Nat → Int32) → (Nat → Int32) → (Nat → Int32) → (Nat → Int32) → (Nat → Int32) → (Nat → Int32) → (Nat → Int32) → (Nat → Int32) → (Nat → Int32) → (Nat → Int32) → Prop)} {x1 x4 : Int32} {F A b : Nat} (hF : F ≤ 126) (hb : b < 256) (hbad : b ≤ 128 ∨ 136 ≤ b ∨ F = 126) (hp : post (-1) (xH, fS, pR, xS, xD, xN, xC, xL, xB, nI A, wo, be, dr, ho, op, ar, le, xk, xc, xl, xb, xs, xa)) : wX_scan_100 post J x1 (nI F) x4 (nI A) (nI b) (nI b - 128) xH fS pR xS xD xN xC xL xB xK wo be dr ho op ar le xk xc xl xb xs xa := by
  have e : (nI b - 128).toInt = (b : Int) - 128 := pk_sub_toInt (b := 128) (by omega) (by decide)
  have e8 : (8 : Int32).toInt = 8 := by decide
  have h125 : wX_scan_125 post J x1 (nI F) x4 (nI A) (nI b) (nI b - 128) 0 xH fS pR xS xD xN xC xL xB xK wo be dr ho op ar le xk xc xl xb xs xa := br_t rfl (br_t rfl hp)
  by_cases c1 : b ≤ 128
  · refine br_t ?_ h125
    rw [Int32.le_iff_toInt_le, e, i32_0]
    omega
  · refine br_f ?_ ?_
    · rw [Int32.le_iff_toInt_le, e, i32_0]
      omega
    · by_cases c2 : 136 ≤ b
      · refine br_t ?_ h125
        rw [Int32.le_iff_toInt_le, e, e8]
        omega
      · refine br_f ?_ ?_
        · rw [Int32.le_iff_toInt_le, e, e8]
          omega
        · exact br_t (nI_le (a := 126) (by omega) (by omega)) h125
end
theorem sb_z : ∀ b, b < 256 → (sb_b b = 0 ↔ b = 0) := by decide +kernel
def yru (ru : Nat) : Nat := if ru = 0 then 120 else ru
/-- the whole scan -/
theorem rd_ex {xb yf : Nat → Int32} {n : Nat} (hB : cB xb yf n) : ∀ (m A F ru : Nat) (s : Int32) (xs xa yr : Nat → Int32), n - A ≤ m → A ≤ n → F ≤ 126 → ru ≤ 120 → rdR xs yr F → rdL xa yr F → ∃ (rx ry bk : Int32) (xs1 xa1 yr1 : Nat → Int32), rdO xs1 yr1 rx ry bk ∧
    (∀ {xH fS pR xS xD xN xC xL xB : Int32} {wo be dr ho op ar le xk xc xl : Nat → Int32} {fu : Nat} {post : Int32 → SX → Prop}, m < fu → post rx (xH, fS, pR, xS, xD, xN, xC, xL, xB, bk, wo, be, dr, ho, op, ar, le, xk, xc, xl, xb, xs1, xa1) → wX_scan_33 post (nI n) fu (nI F) (nI ru) s (nI A) xH fS pR xS xD xN xC xL xB (-1) wo be dr ho op ar le xk xc xl xb xs xa) ∧
    (∀ {fS pR yL yF yK yC yS : Int32} {dr ho op ar le yk yl fd pl di sh sc aw nx aO bO bu tu ow : Nat → Int32} {fu : Nat} {post : Int32 → SY → Prop}, m < fu → post ry (fS, pR, yL, yF, yK, yC, yS, dr, ho, op, ar, le, yk, yl, yf, yr1, fd, pl, di, sh, sc, aw, nx, aO, bO, bu, tu, ow) → wY_parse_11 post (nI n) fS pR yL yF yK yC yS fu (nI F) (nI A) s (nI (yru ru)) dr ho op ar le yk yl yf yr fd pl di sh sc aw nx aO bO bu tu ow) := by
  have hn := hB.1
  intro m
  induction m with
  | zero =>
    intro A F ru s xs xa yr hm hA hF hru hR hLs
    obtain rfl : A = n := by omega
    obtain ⟨rx, ry, bk, ho, X1, Y1⟩ := end_ex (F := F) (s := s) hB (Nat.le_refl A)
    refine ⟨rx, ry, bk, xs, xa, yr, ?_, ?_, ?_⟩
    · rcases ho with ho | ⟨h1, h2, h3⟩
      · exact Or.inl ho
      · exact Or.inr ⟨F, hF, h1, h2, h3, hR⟩
    · intro xH fS pR xS xD xN xC xL xB wo be dr ho op ar le xk xc xl fu post hfu hp
      obtain ⟨f2, rfl⟩ : ∃ f2, fu = f2 + 1 := ⟨fu - 1, by omega⟩
      exact br_t (nI_le (by omega) (by omega)) (X1 hp)
    · intro fS pR yL yF yK yC yS dr ho op ar le yk yl fd pl di sh sc aw nx aO bO bu tu ow fu post hfu hp
      obtain ⟨f2, rfl⟩ : ∃ f2, fu = f2 + 1 := ⟨fu - 1, by omega⟩
      exact br_t (nI_le (by omega) (by omega)) (Y1 hp)
  | succ m ih =>
    intro A F ru s xs xa yr hm hA hF hru hR hLs
    by_cases eA : A = n
    · subst eA
      obtain ⟨rx, ry, bk, ho, X1, Y1⟩ := end_ex (F := F) (s := s) hB (Nat.le_refl A)
      refine ⟨rx, ry, bk, xs, xa, yr, ?_, ?_, ?_⟩
      · rcases ho with ho | ⟨h1, h2, h3⟩
        · exact Or.inl ho
        · exact Or.inr ⟨F, hF, h1, h2, h3, hR⟩
      · intro xH fS pR xS xD xN xC xL xB wo be dr ho op ar le xk xc xl fu post hfu hp
        obtain ⟨f2, rfl⟩ : ∃ f2, fu = f2 + 1 := ⟨fu - 1, by omega⟩
        exact br_t (nI_le (by omega) (by omega)) (X1 hp)
      · intro fS pR yL yF yK yC yS dr ho op ar le yk yl fd pl di sh sc aw nx aO bO bu tu ow fu post hfu hp
        obtain ⟨f2, rfl⟩ : ∃ f2, fu = f2 + 1 := ⟨fu - 1, by omega⟩
        exact br_t (nI_le (by omega) (by omega)) (Y1 hp)
    · have i512 : vp_in (nI A) 512 := vp_in_nI (by omega) (by decide)
      have nA : ¬ nI n ≤ nI A := nI_ge (by omega) (by omega)
      obtain ⟨b, hb, ebx, eby⟩ := hB.2 A (by omega)
      by_cases b0 : b = 0
      · obtain ⟨rx, ry, bk, ho, X1, Y1⟩ := end_ex (F := F) (s := s) hB hA
        refine ⟨rx, ry, bk, xs, xa, yr, ?_, ?_, ?_⟩
        · rcases ho with ho | ⟨h1, h2, h3⟩
          · exact Or.inl ho
          · exact Or.inr ⟨F, hF, h1, h2, h3, hR⟩
        · intro xH fS pR xS xD xN xC xL xB wo be dr ho op ar le xk xc xl fu post hfu hp
          obtain ⟨f2, rfl⟩ : ∃ f2, fu = f2 + 1 := ⟨fu - 1, by omega⟩
          refine br_f nA ⟨i512, ?_⟩
          rw [ye A rfl (by omega) ebx]
          exact br_t ((sb_z b hb).mpr b0) (X1 hp)
        · intro fS pR yL yF yK yC yS dr ho op ar le yk yl fd pl di sh sc aw nx aO bO bu tu ow fu post hfu hp
          obtain ⟨f2, rfl⟩ : ∃ f2, fu = f2 + 1 := ⟨fu - 1, by omega⟩
          refine br_f nA ⟨i512, ?_⟩
          rw [ye A rfl (by omega) eby]
          exact br_t (by rw [b0]; rfl) (Y1 hp)
      · have nx0 : ¬ sb_b b = 0 := fun z => b0 ((sb_z b hb).mp z)
        have ny0 : ¬ nI b = 0 := nI_ne0 (by omega) (by omega)
        have e255 := (sb_byte b hb).1
        have inX : ∀ {xH fS pR xS xD xN xC xL xB : Int32} {wo be dr ho op ar le xk xc xl : Nat → Int32} {fu : Nat} {post : Int32 → SX → Prop}, ((120 < nI b → wX_scan_100 post (wX_scan_33 post (nI n) fu) (nI n) (nI F) s (nI A) (nI b) (nI b - 128) xH fS pR xS xD xN xC xL xB (-1) wo be dr ho op ar le xk xc xl xb xs xa) ∧ (¬ 120 < nI b → ((nI ru = 0 → wX_scan_87 post (wX_scan_33 post (nI n) fu) (nI n) (nI F) s (nI A) (nI b) (nI b - 128) xH fS pR xS xD xN xC xL xB (-1) wo be dr ho op ar le xk xc xl xb xs xa) ∧ (¬ nI ru = 0 → ((nI ru = 120 → wX_scan_87 post (wX_scan_33 post (nI n) fu) (nI n) (nI F) s (nI A) (nI b) (nI b - 128) xH fS pR xS xD xN xC xL xB (-1) wo be dr ho op ar le xk xc xl xb xs xa) ∧ (¬ nI ru = 120 → wX_scan_100 post (wX_scan_33 post (nI n) fu) (nI n) (nI F) s (nI A) (nI b) (nI b - 128) xH fS pR xS xD xN xC xL xB (-1) wo be dr ho op ar le xk xc xl xb xs xa)))))) → wX_scan_33 post (nI n) (fu + 1) (nI F) (nI ru) s (nI A) xH fS pR xS xD xN xC xL xB (-1) wo be dr ho op ar le xk xc xl xb xs xa := by
          intro xH fS pR xS xD xN xC xL xB wo be dr ho op ar le xk xc xl fu post hp
          refine br_f nA ⟨i512, ?_⟩
          rw [ye A rfl (by omega) ebx, e255]
          exact br_f nx0 ⟨i512, nm_e (nm_e hp)⟩
        have inY : ∀ {fS pR yL yF yK yC yS : Int32} {dr ho op ar le yk yl fd pl di sh sc aw nx aO bO bu tu ow : Nat → Int32} {fu : Nat} {post : Int32 → SY → Prop}, ((120 < nI b → wY_parse_45 post (wY_parse_11 post (nI n) fS pR yL yF yK yC yS fu) (nI n) (nI F) (nI A) s (nI (yru ru)) (nI b) 0 fS pR yL yF yK yC yS dr ho op ar le yk yl yf yr fd pl di sh sc aw nx aO bO bu tu ow) ∧ (¬ 120 < nI b → wY_parse_45 post (wY_parse_11 post (nI n) fS pR yL yF yK yC yS fu) (nI n) (nI F) (nI A) s (nI (yru ru)) (nI b) 1 fS pR yL yF yK yC yS dr ho op ar le yk yl yf yr fd pl di sh sc aw nx aO bO bu tu ow)) → wY_parse_11 post (nI n) fS pR yL yF yK yC yS (fu + 1) (nI F) (nI A) s (nI (yru ru)) dr ho op ar le yk yl yf yr fd pl di sh sc aw nx aO bO bu tu ow := by
          intro fS pR yL yF yK yC yS dr ho op ar le yk yl fd pl di sh sc aw nx aO bO bu tu ow fu post hp
          refine br_f nA ⟨i512, ?_⟩
          rw [ye A rfl (by omega) eby]
          exact br_f ny0 ⟨i512, nm_e hp⟩
        have hyr : yru ru ≤ 120 := by
          unfold yru
          split <;> omega
        by_cases b120 : b ≤ 120
        · have n120 : ¬ (120 : Int32) < nI b := nI_nlt (a := 120) b120 (by decide)
          by_cases ok : (ru = 0 ∨ ru = 120) ∧ F + b ≤ 126
          · obtain ⟨xs1, x1, x2⟩ := X_230 (xb := xb) (fun p hp => by
              obtain ⟨v, hv, e1, _⟩ := hLs p hp
              exact ⟨v, hv, e1⟩) b F xs ok.2
            obtain ⟨yr1, y1, y2⟩ := Y_124 (yf := yf) b F 0 yr ok.2
            have R1 : rdR xs1 yr1 (F + b) := by
              refine ⟨fun p g hp g0 hg => ?_, fun p g hp hg hz => ?_⟩
              · rw [x1 p g hp (by omega), y1 p g hp (by omega)]
                by_cases c : F < g ∧ g ≤ F + b
                · rw [if_pos c, if_pos c]
                  exact hLs p hp
                · rw [if_neg c, if_neg c]
                  exact hR.1 p g hp g0 (by omega)
              · rw [y1 p g hp hg, if_neg (by omega)]
                exact hR.2 p g hp hg (by omega)
            have L1 : rdL xa yr1 (F + b) := by
              intro p hp
              obtain ⟨v, hv, e1, e2⟩ := hLs p hp
              refine ⟨v, hv, e1, ?_⟩
              show lst yr1 p (F + b) = _
              unfold lst
              rw [if_neg (by omega), y1 p (F + b) hp (by omega), if_pos (by omega)]
              exact e2
            obtain ⟨rx, ry, bk, xs2, xa2, yr2, ho, X3, Y3⟩ := ih (A + 1) (F + b) b (s + nI b) xs1 xa yr1 (by omega) (by omega) ok.2 b120 R1 L1
            refine ⟨rx, ry, bk, xs2, xa2, yr2, ho, ?_, ?_⟩
            · intro xH fS pR xS xD xN xC xL xB wo be dr ho op ar le xk xc xl fu post hfu hp
              obtain ⟨f2, rfl⟩ : ∃ f2, fu = f2 + 1 := ⟨fu - 1, by omega⟩
              have e : (nI b - 128).toInt = (b : Int) - 128 := pk_sub_toInt (b := 128) (by omega) (by decide)
              have l0 : nI b - 128 ≤ 0 := by
                rw [Int32.le_iff_toInt_le, e, i32_0]
                omega
              have n1 : ¬ (1 : Int32) = 0 := by decide
              have e126 : ¬ (126 : Int32) < nI F + nI b := by
                rw [nI_add]
                exact nI_nlt (a := 126) ok.2 (by decide)
              have h215 : wX_scan_215 post (wX_scan_33 post (nI n) f2) (nI n) (nI F) (nI b) (s + nI b) (nI (A + 1)) (nI b) 1 xH fS pR xS xD xN xC xL xB (-1) wo be dr ho op ar le xk xc xl xb xs xa := br_f n1 (nm_r (nI_add F b) ⟨b + 1, x2 (X3 (by omega) hp)⟩)
              have h145 : wX_scan_145 post (wX_scan_33 post (nI n) f2) (nI n) (nI F) s (nI A) (nI b) (nI b - 128) 1 0 xH fS pR xS xD xN xC xL xB (-1) wo be dr ho op ar le xk xc xl xb xs xa := nm_r (nI_1 A) (nm_e (br_f n1 (br_t rfl h215)))
              have h87 : wX_scan_87 post (wX_scan_33 post (nI n) f2) (nI n) (nI F) s (nI A) (nI b) (nI b - 128) xH fS pR xS xD xN xC xL xB (-1) wo be dr ho op ar le xk xc xl xb xs xa := br_f e126 (br_t l0 (br_f n1 h145))
              refine inX (br_f n120 ⟨fun _ => h87, fun z => ⟨fun _ => h87, fun z2 => ?_⟩⟩)
              rcases ok.1 with r0 | r0
              · exact absurd (by rw [r0]; rfl) z
              · exact absurd (by rw [r0]; rfl) z2
            · intro fS pR yL yF yK yC yS dr ho op ar le yk yl fd pl di sh sc aw nx aO bO bu tu ow fu post hfu hp
              obtain ⟨f2, rfl⟩ : ∃ f2, fu = f2 + 1 := ⟨fu - 1, by omega⟩
              have n1 : ¬ (1 : Int32) = 0 := by decide
              have r120 : yru ru = 120 := by
                unfold yru
                rcases ok.1 with r0 | r0
                · rw [if_pos r0]
                · rw [if_neg (by omega)]; exact r0
              have eyb : yru b = b := by
                unfold yru
                rw [if_neg b0]
              have k3 := Y3 (fu := f2) (post := post) (by omega) hp
              rw [eyb] at k3
              have e126 : ¬ (126 : Int32) < nI F + nI b := by
                rw [nI_add]
                exact nI_nlt (a := 126) ok.2 (by decide)
              have h97 : wY_parse_97 post (wY_parse_11 post (nI n) fS pR yL yF yK yC yS f2) (nI n) (nI F) (nI A) s (nI b) 1 fS pR yL yF yK yC yS dr ho op ar le yk yl yf yr fd pl di sh sc aw nx aO bO bu tu ow := nm_e (nm_r (nI_1 A) (br_f n1 ⟨b + 1, y2 (by omega) ⟨fun z => absurd z n1, fun _ => by rw [Nat.zero_add]⟩ ⟨1, br_f (by decide) (br_f n1 k3)⟩⟩))
              refine inY (br_f n120 (br_f n1 (br_f ?_ (br_f e126 (br_f n1 h97)))))
              rw [r120]
              decide
          · refine ⟨-1, nI A, nI A, xs, xa, yr, Or.inl ⟨rfl, A, by omega, rfl, rfl⟩, ?_, ?_⟩
            · intro xH fS pR xS xD xN xC xL xB wo be dr ho op ar le xk xc xl fu post hfu hp
              obtain ⟨f2, rfl⟩ : ∃ f2, fu = f2 + 1 := ⟨fu - 1, by omega⟩
              have h100 : wX_scan_100 post (wX_scan_33 post (nI n) f2) (nI n) (nI F) s (nI A) (nI b) (nI b - 128) xH fS pR xS xD xN xC xL xB (-1) wo be dr ho op ar le xk xc xl xb xs xa := X_bad hF hb (Or.inl (by omega)) hp
              have h87 : (ru = 0 ∨ ru = 120) → wX_scan_87 post (wX_scan_33 post (nI n) f2) (nI n) (nI F) s (nI A) (nI b) (nI b - 128) xH fS pR xS xD xN xC xL xB (-1) wo be dr ho op ar le xk xc xl xb xs xa := fun r0 => br_t (by
                rw [nI_add]
                exact nI_lt (a := 126) (by
                  have : ¬ F + b ≤ 126 := fun z => ok ⟨r0, z⟩
                  omega) (by omega)) h100
              exact inX (br_f n120 ⟨fun z => h87 (Or.inl ((nI_eq (b := 0) (by omega) (by decide)).mp z)), fun _ => ⟨fun z => h87 (Or.inr ((nI_eq (b := 120) (by omega) (by decide)).mp z)), fun _ => h100⟩⟩)
            · intro fS pR yL yF yK yC yS dr ho op ar le yk yl fd pl di sh sc aw nx aO bO bu tu ow fu post hfu hp
              obtain ⟨f2, rfl⟩ : ∃ f2, fu = f2 + 1 := ⟨fu - 1, by omega⟩
              refine inY (br_f n120 (br_f (by decide) ⟨fun _ => hp, fun z => br_t ?_ hp⟩))
              have r0 : ru = 0 ∨ ru = 120 := by
                by_cases c : ru = 0
                · exact Or.inl c
                · right
                  by_cases c2 : ru = 120
                  · exact c2
                  · refine absurd (nI_lt (b := 120) ?_ (by decide)) z
                    unfold yru
                    rw [if_neg c]
                    omega
              rw [nI_add]
              exact nI_lt (a := 126) (by
                have : ¬ F + b ≤ 126 := fun z => ok ⟨r0, z⟩
                omega) (by omega)
        · have g120 : (120 : Int32) < nI b := nI_lt (a := 120) (by omega) (by omega)
          by_cases bad : b ≤ 128 ∨ 136 ≤ b ∨ F = 126
          · refine ⟨-1, nI A, nI A, xs, xa, yr, Or.inl ⟨rfl, A, by omega, rfl, rfl⟩, ?_, ?_⟩
            · intro xH fS pR xS xD xN xC xL xB wo be dr ho op ar le xk xc xl fu post hfu hp
              obtain ⟨f2, rfl⟩ : ∃ f2, fu = f2 + 1 := ⟨fu - 1, by omega⟩
              exact inX (br_t g120 (X_bad hF hb bad hp))
            · intro fS pR yL yF yK yC yS dr ho op ar le yk yl fd pl di sh sc aw nx aO bO bu tu ow fu post hfu hp
              obtain ⟨f2, rfl⟩ : ∃ f2, fu = f2 + 1 := ⟨fu - 1, by omega⟩
              refine inY (br_t g120 (br_t rfl (br_t rfl ⟨fun _ => hp, fun z1 => ⟨fun _ => hp, fun z2 => br_t ?_ hp⟩⟩)))
              have c1 : ¬ b ≤ 128 := fun y => z1 (nI_lt (b := 129) (by omega) (by decide))
              have c2 : ¬ 136 ≤ b := fun y => z2 (nI_lt (a := 135) (by omega) (by omega))
              rw [(bad.resolve_left c1).resolve_left c2]
              rfl
          · have c1 : ¬ b ≤ 128 := fun z => bad (Or.inl z)
            have c2 : ¬ 136 ≤ b := fun z => bad (Or.inr (Or.inl z))
            have c3 : ¬ F = 126 := fun z => bad (Or.inr (Or.inr z))
            obtain ⟨mm, emm⟩ : ∃ mm, b = 128 + mm := ⟨b - 128, by omega⟩
            subst emm
            have m8 : mm < 8 := by omega
            have em : nI (128 + mm) - 128 = nI mm := by
              rw [show (128 : Int32) = nI 128 from rfl, pk_sub (by omega)]
              exact congrArg nI (by omega)
            obtain ⟨yr1, y1, y2⟩ := Y_124 (yf := yf) 1 F 0 yr (by omega)
            have I1 : ∀ p, p < 3 → ∃ v, v < 16 ∧ xa p = nI v ∧ yr1 (127 * p + (F + 1)) = nI v := by
              intro p hp
              obtain ⟨v, hv, e1, e2⟩ := hLs p hp
              refine ⟨v, hv, e1, ?_⟩
              rw [y1 p (F + 1) hp (by omega), if_pos (by omega)]
              exact e2
            have I2 : ∀ p, p < 3 → 0 ≤ p → lst yr1 p F = xa p := by
              intro p hp _
              obtain ⟨v, hv, e1, e2⟩ := hLs p hp
              rw [e1, ← e2]
              unfold lst
              by_cases c : F = 0
              · rw [if_pos c, if_pos c]
              · rw [if_neg c, if_neg c, y1 p F hp (by omega), if_neg (by omega)]
            -- X's way to the changes, Y's way to them
            have toX : ∀ {xH fS pR xS xD xN xC xL xB : Int32} {wo be dr ho op ar le xk xc xl : Nat → Int32} {f2 : Nat} {post : Int32 → SX → Prop}, wX_scan_166 post (wX_scan_33 post (nI n) f2) (nI n) (nI F) (s + nI (128 + mm)) (nI (A + 1)) (nI (128 + mm)) (nI mm) 0 1 0 xH fS pR xS xD xN xC xL xB (-1) wo be dr ho op ar le xk xc xl xb xs xa → wX_scan_33 post (nI n) (f2 + 1) (nI F) (nI ru) s (nI A) xH fS pR xS xD xN xC xL xB (-1) wo be dr ho op ar le xk xc xl xb xs xa := by
              intro xH fS pR xS xD xN xC xL xB wo be dr ho op ar le xk xc xl f2 post hp
              refine inX (br_t g120 ?_)
              rw [em]
              have k145 : wX_scan_145 post (wX_scan_33 post (nI n) f2) (nI n) (nI F) s (nI A) (nI (128 + mm)) (nI mm) 0 1 xH fS pR xS xD xN xC xL xB (-1) wo be dr ho op ar le xk xc xl xb xs xa := nm_r (nI_1 A) (nm_e (br_t rfl hp))
              exact br_f (nI_nle (by omega) (by omega)) (br_f (nI_ge (b := 8) m8 (by decide)) (br_f (nI_ge (b := 126) (by omega) (by decide)) (br_t rfl (br_f (by decide) k145))))
            have toY : ∀ {fS pR yL yF yK yC yS : Int32} {dr ho op ar le yk yl fd pl di sh sc aw nx aO bO bu tu ow : Nat → Int32} {f2 : Nat} {post : Int32 → SY → Prop}, (∃ n1, wY_parse_188 post (wY_parse_11 post (nI n) fS pR yL yF yK yC yS f2) (nI n) (nI (F + 1)) 120 (nI (128 + mm)) 0 fS pR yL yF yK yC yS n1 (nI (A + 1)) (s + nI (128 + mm)) 0 dr ho op ar le yk yl yf yr1 fd pl di sh sc aw nx aO bO bu tu ow) → wY_parse_11 post (nI n) fS pR yL yF yK yC yS (f2 + 1) (nI F) (nI A) s (nI (yru ru)) dr ho op ar le yk yl yf yr fd pl di sh sc aw nx aO bO bu tu ow := by
              intro fS pR yL yF yK yC yS dr ho op ar le yk yl fd pl di sh sc aw nx aO bO bu tu ow f2 post hp
              have h97 : wY_parse_97 post (wY_parse_11 post (nI n) fS pR yL yF yK yC yS f2) (nI n) (nI F) (nI A) s (nI (128 + mm)) 0 fS pR yL yF yK yC yS dr ho op ar le yk yl yf yr fd pl di sh sc aw nx aO bO bu tu ow := nm_e (nm_r (nI_1 A) (br_t rfl ⟨2, y2 (by omega) ⟨fun _ => rfl, fun z => absurd rfl z⟩ hp⟩))
              exact inY (br_t g120 (br_t rfl (br_t rfl (br_f (nI_nlt (b := 129) (by omega) (by omega)) (br_f (nI_nlt (a := 135) (by omega) (by decide)) (br_f (fun z => c3 ((nI_eq (b := 126) (by omega) (by decide)).mp z)) h97))))))
            rcases chg_ex (F := F) (m := mm) hB (by omega) m8 3 0 (A + 1) (s + nI (128 + mm)) xa yr1 rfl (by omega) I1 I2 with ⟨w, xa1, yr2, hw, X1, Y1⟩ | ⟨d, xa1, yr2, q1, q2, q3, q4, X1, Y1⟩
            · refine ⟨-1, nI w, nI w, xs, xa1, yr2, Or.inl ⟨rfl, w, by omega, rfl, rfl⟩, ?_, ?_⟩
              · intro xH fS pR xS xD xN xC xL xB wo be dr ho op ar le xk xc xl fu post hfu hp
                obtain ⟨f2, rfl⟩ : ∃ f2, fu = f2 + 1 := ⟨fu - 1, by omega⟩
                exact toX (br_f (by decide) ⟨4, X1 (br_f (by decide) hp)⟩)
              · intro fS pR yL yF yK yC yS dr ho op ar le yk yl fd pl di sh sc aw nx aO bO bu tu ow fu post hfu hp
                obtain ⟨f2, rfl⟩ : ∃ f2, fu = f2 + 1 := ⟨fu - 1, by omega⟩
                exact toY ⟨4, Y1 hp⟩
            · obtain ⟨xs1, x1, x2⟩ := X_230 (xb := xb) (fun p hp => by
                obtain ⟨v, hv, e1, _⟩ := q3 p hp
                exact ⟨v, hv, e1⟩) 1 F xs (by omega)
              have R1 : rdR xs1 yr2 (F + 1) := by
                refine ⟨fun p g hp g0 hg => ?_, fun p g hp hg hz => ?_⟩
                · rw [x1 p g hp (by omega)]
                  by_cases c : g = F + 1
                  · subst c
                    rw [if_pos (by omega)]
                    exact q3 p hp
                  · rw [if_neg (by omega), q4 p g hp (by omega) c, y1 p g hp (by omega), if_neg (by omega)]
                    exact hR.1 p g hp g0 (by omega)
                · rw [q4 p g hp hg (by omega), y1 p g hp hg, if_neg (by omega)]
                  exact hR.2 p g hp hg (by omega)
              have L1 : rdL xa1 yr2 (F + 1) := by
                intro p hp
                obtain ⟨v, hv, e1, e2⟩ := q3 p hp
                refine ⟨v, hv, e1, ?_⟩
                unfold lst
                rw [if_neg (by omega)]
                exact e2
              obtain ⟨rx, ry, bk, xs2, xa2, yr3, ho, X3, Y3⟩ := ih (A + 1 + d) (F + 1) 0 (acc yf (s + nI (128 + mm)) (A + 1) d) xs1 xa1 yr2 (by omega) q1 (by omega) (by omega) R1 L1
              refine ⟨rx, ry, bk, xs2, xa2, yr3, ho, ?_, ?_⟩
              · intro xH fS pR xS xD xN xC xL xB wo be dr ho op ar le xk xc xl fu post hfu hp
                obtain ⟨f2, rfl⟩ : ∃ f2, fu = f2 + 1 := ⟨fu - 1, by omega⟩
                exact toX (br_f (by decide) ⟨4, X1 (br_t (nI_pos' (by omega)) ⟨d + 1, X_190 d _ _ q2 (by omega) (br_t rfl (nm_r (nI_1 F) ⟨2, x2 (X3 (by omega) hp)⟩))⟩)⟩)
              · intro fS pR yL yF yK yC yS dr ho op ar le yk yl fd pl di sh sc aw nx aO bO bu tu ow fu post hfu hp
                obtain ⟨f2, rfl⟩ : ∃ f2, fu = f2 + 1 := ⟨fu - 1, by omega⟩
                exact toY ⟨4, Y1 (Y3 (by omega) hp)⟩
end
section
/-! read -/
def cvf (xs : Nat → Int32) (F p : Nat) : Nat → Int32
  | 0 => 0
  | f + 1 => if f + 1 ≤ F then xs (128 * p + (f + 1)) else cvf xs F p f
theorem cvf_v {xs yr : Nat → Int32} {F p : Nat} (R : rdR xs yr F) (hp : p < 3) : ∀ f, ∃ v, v < 16 ∧ cvf xs F p f = nI v := by
  intro f
  induction f with
  | zero => exact ⟨0, by decide, rfl⟩
  | succ f ih =>
    rw [cvf]
    by_cases c : f + 1 ≤ F
    · rw [if_pos c]
      obtain ⟨v, hv, e, _⟩ := R.1 p (f + 1) hp (by omega) c
      exact ⟨v, hv, e⟩
    · rw [if_neg c]; exact ih
theorem gs_rd {xs yr yk : Nat → Int32} {F p : Nat} (R : rdR xs yr F) (hp : p < 3) (hy : ∀ j, j < 381 → yk j = yr j) : ∀ f, f < 127 → gs yk p f = cvf xs F p f := by
  intro f
  induction f with
  | zero => intro _; rfl
  | succ f ih =>
    intro hf
    rw [gs, cvf, hy _ (by omega)]
    by_cases c : f + 1 ≤ F
    · obtain ⟨v, hv, e1, e2⟩ := R.1 p (f + 1) hp (by omega) c
      rw [if_pos c, e1, e2, if_neg (nI_pos (by omega))]
    · rw [if_neg c, R.2 p (f + 1) hp hf (Or.inr (by omega)), if_pos ngm1]
      exact ih (by omega)
def rdK (xk xc xs : Nat → Int32) (F k : Nat) : Prop := ∀ p f, p < 3 → f < 128 → 128 * p + f < k → (xk (128 * p + f) = 0 ↔ ¬ (0 < f ∧ f ≤ F)) ∧ xc (128 * p + f) = cvf xs F p f
section
variable {xH fS pR xS xD xN xC xL xB xK : Int32} {wo be dr ho op ar le xk xc xl xb xs xa : Nat → Int32}
theorem X_r38 {post : Int32 → SX → Prop} {yr : Nat → Int32} {F : Nat} (R : rdR xs yr F) (hF : F ≤ 126) (hp : ∀ xk xc : Nat → Int32, rdK xk xc xs F 384 → post (nI F) (xH, fS, pR, nI F, 1, 0, xC, xL, xB, xK, wo, be, dr, ho, op, ar, le, xk, xc, xl, xb, xs, xa)) : ∀ (e k : Nat) (xk xc : Nat → Int32), k + e = 384 → rdK xk xc xs F k → wX_read_38 post (nI F) xH fS pR xS xD xN xC xL xB xK (e + 1) (nI k) wo be dr ho op ar le xk xc xl xb xs xa := by
  intro e
  induction e with
  | zero =>
    intro k xk xc hk hI
    obtain rfl : k = 384 := by omega
    exact br_t (by decide) (hp xk xc hI)
  | succ e ih =>
    intro k xk xc hk hI
    obtain ⟨p, f, hpk, hf, hp3⟩ : ∃ p f, k = 128 * p + f ∧ f < 128 ∧ p < 3 := ⟨k / 128, k % 128, by omega, by omega, by omega⟩
    have e127 : nI k &&& 127 = nI f := by
      rw [pk_andN (by omega) 7 (by decide)]
      exact congrArg nI (by omega)
    have ik : vp_in (nI k) 384 := vp_in_nI (by omega) (by decide)
    have vb0 : vp_nar .boolean 0 = 0 := rfl
    have vb1 : ¬ vp_nar .boolean 1 = 0 := by decide
    have vy0 : vp_nar .byte 0 = 0 := by rw [vp_nar_byte]; decide
    have nxt : ∀ (a b : Int32), (a = 0 ↔ ¬ (0 < f ∧ f ≤ F)) → b = cvf xs F p f → rdK (upd xk k a) (upd xc k b) xs F (k + 1) := by
      intro a b ha hb q g hq hg hlt
      by_cases c : 128 * q + g = k
      · obtain rfl : q = p := by omega
        obtain rfl : g = f := by omega
        rw [c, pk_us, pk_us]
        exact ⟨ha, hb⟩
      · rw [pk_un c, pk_un c]
        exact hI q g hq hg (by omega)
    refine br_f (nI_ge (b := 384) (by omega) (by decide)) (nm_r e127 ?_)
    by_cases f0 : f = 0
    · subst f0
      refine br_t (by decide) ?_
      unfold wX_read_71 wX_read_72
      rw [vb0, vy0]
      exact yw k rfl (by omega) (by decide) (br_t rfl (yw k rfl (by omega) (by decide) (nm_r (nI_1 k) (ih (k + 1) _ _ (by omega) (nxt 0 0 ⟨fun _ => by omega, fun _ => rfl⟩ rfl)))))
    · have fz : ¬ nI f = 0 := nI_ne0 (by omega) (by omega)
      obtain ⟨m, rfl⟩ : ∃ m, f = m + 1 := ⟨f - 1, by omega⟩
      have ek1 : nI k - 1 = nI (128 * p + m) := by
        rw [show (1 : Int32) = nI 1 from rfl, pk_sub (by omega)]
        exact congrArg nI (by omega)
      refine br_f (nI_nle (by omega) (by omega)) ?_
      by_cases c : m + 1 ≤ F
      · refine br_f (nI_nlt (by omega) (by omega)) ?_
        obtain ⟨v, hv, ev, _⟩ := R.1 p (m + 1) hp3 (by omega) c
        unfold wX_read_72
        refine yw k rfl (by omega) (by decide) (br_f fz ⟨ik, ?_⟩)
        rw [ye k rfl (by omega) pk_us]
        refine br_f vb1 ⟨ik, ?_⟩
        have es : xs k = nI v := by rw [hpk]; exact ev
        rw [ye (f := xs) k rfl (by omega) es, vp_nar_byte, i8s (by omega)]
        refine yw k rfl (by omega) (by decide) (nm_r (nI_1 k) (ih (k + 1) _ _ (by omega) (nxt _ _ ⟨fun z => absurd z vb1, fun z => absurd ⟨by omega, c⟩ z⟩ ?_)))
        rw [cvf, if_pos c]
        exact ev.symm
      · refine br_t (nI_lt (by omega) (by omega)) ?_
        obtain ⟨v, hv, ev⟩ := cvf_v R hp3 m
        unfold wX_read_71 wX_read_72
        rw [vb0]
        refine yw k rfl (by omega) (by decide) (br_f fz ⟨ik, ?_⟩)
        rw [ye k rfl (by omega) pk_us]
        refine br_t rfl ⟨by rw [ek1]; exact vp_in_nI (by omega) (by decide), ?_⟩
        have es : xc (128 * p + m) = nI v := (hI p m hp3 (by omega) (by omega)).2.trans ev
        rw [ye (f := xc) _ ek1 (by omega) es, vp_nar_byte, i8s (by omega)]
        refine yw k rfl (by omega) (by decide) (nm_r (nI_1 k) (ih (k + 1) _ _ (by omega) (nxt 0 _ ⟨fun _ z => c z.2, fun _ => rfl⟩ ?_)))
        rw [cvf, if_neg c]
        exact ev.symm
theorem X_scan {post : Int32 → SX → Prop} {x1 : Int32} (h : ∃ n, wX_scan_33 post x1 n 0 0 0 0 xH fS pR xS xD xN xC xL xB xK wo be dr ho op ar le xk xc xl xb xs (upd (upd (upd xa 0 0) 1 0) 2 0)) : wpX_scan post (xH, fS, pR, xS, xD, xN, xC, xL, xB, xK, wo, be, dr, ho, op, ar, le, xk, xc, xl, xb, xs, xa) x1 := by
  have vy0 : vp_nar .byte 0 = 0 := by rw [vp_nar_byte]; decide
  have st : ∀ {k n : Nat} {xa : Nat → Int32}, k < 3 → wX_scan_13 post x1 0 0 0 0 xH fS pR xS xD xN xC xL xB xK n (nI (k + 1)) wo be dr ho op ar le xk xc xl xb xs (upd xa k 0) → wX_scan_13 post x1 0 0 0 0 xH fS pR xS xD xN xC xL xB xK (n + 1) (nI k) wo be dr ho op ar le xk xc xl xb xs xa := by
    intro k n xa hk hp
    refine br_f (nI_ge (b := 3) hk (by decide)) ?_
    rw [vy0]
    exact yw k rfl hk (by decide) (nm_r (nI_1 k) hp)
  exact ⟨4, st (k := 0) (by decide) (st (k := 1) (by decide) (st (k := 2) (by decide) (br_t (by decide) h)))⟩
end
section
variable {fS pR yL yF yK yC yS : Int32} {dr ho op ar le yk yl yf yr fd pl di sh sc aw nx aO bO bu tu ow : Nat → Int32}
theorem Y_r26 {post : Int32 → SY → Prop} {x1 : Int32} {r0 : Nat → Int32} (hp : wpY_parse (fun r u => match u with | (fS, pR, yL, yF, yK, yC, yS, dr, ho, op, ar, le, yk, yl, yf, yr, fd, pl, di, sh, sc, aw, nx, aO, bO, bu, tu, ow) => (r < 0 → ∃ n, wY_read_65 post fS pR yL yF yK yC yS n 0 dr ho op ar le yk yl yf yr fd pl di sh sc aw nx aO bO bu tu ow) ∧ (¬ r < 0 → post (-1) (fS, pR, yL, yF, r, yC, yS, dr, ho, op, ar, le, yk, yl, yf, yr, fd, pl, di, sh, sc, aw, nx, aO, bO, bu, tu, ow))) (fS, pR, yL, yF, yK, yC, yS, dr, ho, op, ar, le, yk, yl, yf, pf (fun _ => -1) r0 381, fd, pl, di, sh, sc, aw, nx, aO, bO, bu, tu, ow) x1) : ∀ e k, k + e = 381 → wY_read_26 post x1 fS pR yL yF yK yC yS (e + 1) (nI k) dr ho op ar le yk yl yf (pf (fun _ => -1) r0 k) fd pl di sh sc aw nx aO bO bu tu ow := by
  intro e
  induction e with
  | zero =>
    intro k hk
    obtain rfl : k = 381 := by omega
    exact br_t (by decide) hp
  | succ e ih =>
    intro k hk
    refine br_f (nI_ge (b := 381) (by omega) (by decide)) (yw k rfl (by omega) (by decide) (nm_r (nI_1 k) ?_))
    have e1 := pf_s (fun _ => -1) r0 k
    rw [e1]
    exact ih (k + 1) (by omega)
theorem Y_r65 {post : Int32 → SY → Prop} {k0 : Nat → Int32} (hp : wpY_confirmed (fun r => post r (fS, pR, yL, yF, yK, yC, yS, dr, ho, op, ar, le, pf yr k0 381, yl, yf, yr, fd, pl, di, sh, sc, aw, nx, aO, bO, bu, tu, ow)) (fS, pR, yL, yF, yK, yC, yS, dr, ho, op, ar, le, pf yr k0 381, yl, yf, yr, fd, pl, di, sh, sc, aw, nx, aO, bO, bu, tu, ow)) : ∀ e k, k + e = 381 → wY_read_65 post fS pR yL yF yK yC yS (e + 1) (nI k) dr ho op ar le (pf yr k0 k) yl yf yr fd pl di sh sc aw nx aO bO bu tu ow := by
  intro e
  induction e with
  | zero =>
    intro k hk
    obtain rfl : k = 381 := by omega
    exact br_t (by decide) hp
  | succ e ih =>
    intro k hk
    refine br_f (nI_ge (b := 381) (by omega) (by decide)) ⟨vp_in_nI (by omega) (by decide), ?_⟩
    rw [ye (f := yr) k rfl (by omega) rfl]
    refine yw k rfl (by omega) (by decide) (nm_r (nI_1 k) ?_)
    rw [pf_s]
    exact ih (k + 1) (by omega)
end
theorem c_read {k : Nat} {P Su D N Ch Ln Bn : Nat} {xH fS bk yC yS : Int32} {wo be dr ho op ar le xk xc xl xb xs xa yk yl yf yr fd pl di sh sc aw nx aO bO bu tu ow : Nat → Int32} (H : RL dr ho op ar le fS yk xk xc wo xl yl xb yf P Su D N Ch Ln Bn) : wpX_read (fun r u' => wpY_read (fun r' v' => r' = r ∧ i_Rel (k + 4) u' v') (fS, nI P, nI Ln, nI Bn, bk, yC, yS, dr, ho, op, ar, le, yk, yl, yf, yr, fd, pl, di, sh, sc, aw, nx, aO, bO, bu, tu, ow)) (xH, fS, nI P, nI Su, nI D, nI N, nI Ch, nI Ln, nI Bn, bk, wo, be, dr, ho, op, ar, le, xk, xc, xl, xb, xs, xa) := by
  obtain ⟨C, V, hC, hS, R, hL, hB⟩ := H
  have cb0 : cB xb yf 0 := ⟨by omega, fun j hj => absurd hj (by omega)⟩
  unfold wpX_read
  by_cases hP : 0 < P
  · have hP2 : P < 2 ^ 31 := by have := R.1; omega
    refine br_f (nI_nle hP hP2) ?_
    unfold wpY_read
    exact br_f (nI_ne0 hP hP2) ⟨rfl, zz_in (Bn := 0) ⟨C, V, hC, hS, R, hL, cb0⟩⟩
  · obtain rfl : P = 0 := by omega
    obtain ⟨rfl, rfl, rfl, R0⟩ := rg0 R
    have a3 : ∀ p, p < 3 → upd (upd (upd xa 0 0) 1 0) 2 0 p = 0 := by
      intro p hp
      have : p = 0 ∨ p = 1 ∨ p = 2 := by omega
      rcases this with rfl | rfl | rfl <;> rfl
    obtain ⟨rx, ry, bk1, xs1, xa1, yr1, hO, X1, Y1⟩ := rd_ex hB Bn 0 0 0 0 xs (upd (upd (upd xa 0 0) 1 0) 2 0) (pf (fun _ => -1) yr 381) (by omega) (by omega) (by omega) (by omega)
      ⟨fun p g hp g0 hg => absurd hg (by omega), fun p g hp hg _ => if_pos (by omega)⟩ (fun p hp => ⟨0, by decide, a3 p hp, rfl⟩)
    have toY : ∀ {post : Int32 → SY → Prop}, ((ry < 0 → ∃ n, wY_read_65 post fS (nI 0) (nI Ln) 0 (-1) yC yS n 0 dr ho op ar le yk yl yf yr1 fd pl di sh sc aw nx aO bO bu tu ow) ∧ (¬ ry < 0 → post (-1) (fS, nI 0, nI Ln, 0, ry, yC, yS, dr, ho, op, ar, le, yk, yl, yf, yr1, fd, pl, di, sh, sc, aw, nx, aO, bO, bu, tu, ow))) → wpY_read post (fS, nI 0, nI Ln, nI Bn, bk, yC, yS, dr, ho, op, ar, le, yk, yl, yf, yr, fd, pl, di, sh, sc, aw, nx, aO, bO, bu, tu, ow) := by
      intro post hp
      unfold wpY_read
      have key := Y_r26 (post := post) (x1 := nI Bn) (r0 := yr) (fS := fS) (pR := nI 0) (yL := nI Ln) (yF := 0) (yK := -1) (yC := yC) (yS := yS) (dr := dr) (ho := ho) (op := op) (ar := ar) (le := le) (yk := yk) (yl := yl) (yf := yf) (fd := fd) (pl := pl) (di := di) (sh := sh) (sc := sc) (aw := aw) (nx := nx) (aO := aO) (bO := bO) (bu := bu) (tu := tu) (ow := ow) ⟨Bn + 1, Y1 (by omega) hp⟩ 381 0 rfl
      rw [pf_0] at key
      exact br_t rfl ⟨382, key⟩
    refine br_t (by decide) (X_scan ⟨Bn + 1, X1 (by omega) ?_⟩)
    rcases hO with ⟨rfl, w, hw, rfl, rfl⟩ | ⟨F, hF, rfl, rfl, rfl, RR⟩
    · exact br_f (by decide) (toY (br_f (nI_pos (by omega)) ⟨rfl, zz_in (Bn := 0) ⟨C, V, hC, hS, R, hL, cb0⟩⟩))
    · refine br_t (nI_pos' (by omega)) ⟨385, X_r38 RR hF (fun xk2 xc2 hK => ?_) 384 0 xk xc rfl (fun p f hp hf hlt => absurd hlt (by omega))⟩
      have hy : ∀ j, j < 381 → pf yr1 yk 381 j = yr1 j := fun j hj => if_pos hj
      have V2 : kV (pf yr1 yk 381) := by
        intro p f hp f0 hf
        rw [hy _ (by omega)]
        by_cases c : f ≤ F
        · obtain ⟨v, hv, _, e⟩ := RR.1 p f hp f0 c
          exact Or.inr ⟨v, hv, e⟩
        · rw [RR.2 p f hp hf (Or.inr (by omega))]
          exact Or.inl ngm1
      have C2 : cC (pf yr1 yk 381) xk2 xc2 := by
        intro p f hp f0 hf
        obtain ⟨k1, k2⟩ := hK p f hp (by omega) (by omega)
        refine ⟨k2.trans (gs_rd RR hp hy f hf).symm, ?_⟩
        rw [k1, hy _ (by omega)]
        by_cases c : f ≤ F
        · obtain ⟨v, hv, _, e⟩ := RR.1 p f hp f0 c
          rw [e]
          exact ⟨fun z => absurd ⟨f0, c⟩ z, fun z => absurd z (nI_pos (by omega))⟩
        · rw [RR.2 p f hp hf (Or.inr (by omega))]
          exact ⟨fun _ => ngm1, fun _ z => c z.2⟩
      have S2 : cS (pf yr1 yk 381) F := by
        refine ⟨hF, fun f f0 hf p hp => ?_, fun hlt => ⟨0, by decide, ?_⟩⟩
        · rw [hy _ (by omega)]
          obtain ⟨v, hv, _, e⟩ := RR.1 p f hp f0 hf
          rw [e]
          exact nI_pos (by omega)
        · rw [hy _ (by omega), RR.2 0 (F + 1) (by decide) (by omega) (Or.inr (by omega))]
          exact ngm1
      have R2 : rG dr ho op ar le fS (pf yr1 yk 381) wo 0 1 0 0 := by
        refine ⟨by omega, by omega, by omega, by omega, by omega, by omega, fun g h1 h2 => ?_, fun g h1 h2 => absurd h2 (by omega)⟩
        obtain rfl : g = 0 := by omega
        exact R0
      refine toY (br_t ngm1 ?_)
      have key := Y_r65 (post := fun r' v' => r' = nI F ∧ i_Rel (k + 4) (xH, fS, nI 0, nI F, 1, 0, nI 0, nI Ln, 0, -1, wo, be, dr, ho, op, ar, le, xk2, xc2, xl, xb, xs1, xa1) v') (k0 := yk) (fS := fS) (pR := nI 0) (yL := nI Ln) (yF := 0) (yK := -1) (yC := yC) (yS := yS) (dr := dr) (ho := ho) (op := op) (ar := ar) (le := le) (yl := yl) (yf := yf) (yr := yr1) (fd := fd) (pl := pl) (di := di) (sh := sh) (sc := sc) (aw := aw) (nx := nx) (aO := aO) (bO := bO) (bu := bu) (tu := tu) (ow := ow) (Y_conf S2 ⟨rfl, zz_in (Bn := 0) (D := 1) (N := 0) ⟨C, V2, C2, S2, R2, hL, cb0⟩⟩) 381 0 rfl
      rw [pf_0] at key
      exact ⟨382, key⟩
theorem i_vc_read {k : Nat} {u : SX} {v : SY} (I : i_Rel k u v) (hk : k + 4 ≤ 2049) : wpX_read (fun r u' => wpY_read (fun r' v' => r' = r ∧ i_Rel (k + 4) u' v') v) u := by
  refine zz_el (M := fun u v => wpX_read (fun r u' => wpY_read (fun r' v' => r' = r ∧ i_Rel (k + 4) u' v') v) u) I ?_
  intro P Su D N Ch Ln Bn xH fS bk yC yS wo be dr ho op ar le xk xc xl xb xs xa yk yl yf yr fd pl di sh sc aw nx aO bO bu tu ow H
  exact c_read H
end
