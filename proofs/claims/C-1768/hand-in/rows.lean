section
theorem pk_us {f : Nat → Int32} {k : Nat} {x : Int32} : upd f k x k = x := if_pos rfl
theorem pk_un {f : Nat → Int32} {k j : Nat} {x : Int32} (h : j ≠ k) : upd f k x j = f j := if_neg h
theorem pk_sub {a b : Nat} (h : b ≤ a) : nI a - nI b = nI (a - b) := by
  obtain ⟨c, rfl⟩ : ∃ c, a = c + b := ⟨a - b, by omega⟩
  rw [← nI_add, Int32.add_sub_cancel, Nat.add_sub_cancel]
theorem pk_m1 (n : Nat) : nI (n + 1) + (-1) = nI n := by
  rw [← nI_1, Int32.add_assoc, show (1 : Int32) + (-1) = 0 from rfl, Int32.add_zero]
theorem pk_mul (a b : Nat) : nI a * nI b = nI (a * b) := (Int32.ofNat_mul a b).symm
theorem pk_div {a d : Nat} (ha : a < 2 ^ 31) (h0 : 0 < d) (hd : d < 2 ^ 31) : nI a / nI d = nI (a / d) := by
  apply Int32.toInt_inj.mp
  rw [lg_idiv_nonneg (by rw [nI_toInt ha]; omega) (by rw [nI_toInt hd]; omega), nI_toInt ha, nI_toInt hd, nI_toInt (Nat.lt_of_le_of_lt (Nat.div_le_self a d) ha)]
  first | rfl | exact (Int.natCast_ediv _ _).symm
theorem pk_rem {a d : Nat} (ha : a < 2 ^ 31) (h0 : 0 < d) (hd : d < 2 ^ 31) : nI a - nI a / nI d * nI d = nI (a % d) := by
  rw [pk_div ha h0 hd, pk_mul, pk_sub (Nat.div_mul_le_self a d)]
  exact congrArg nI (by have := Nat.div_add_mod' a d; omega)
theorem pk_sub_toInt {a b : Nat} (ha : a < 2 ^ 30) (hb : b < 2 ^ 30) : (nI a - nI b).toInt = (a : Int) - b := by
  rw [Int32.toInt_sub, nI_toInt (by omega), nI_toInt (by omega)]
  exact Int.bmod_eq_of_le (by omega) (by omega)
theorem pk_sneg {a b : Nat} (hb : b < 2 ^ 30) (h : a < b) : nI a - nI b < 0 := by
  rw [Int32.lt_iff_toInt_lt, pk_sub_toInt (by omega) hb, show (0 : Int32).toInt = 0 from by decide]
  omega
theorem pk_le {x y : Int32} {A B : Prop} (a b : Nat) (f : a ≤ b → A) (g : b < a → B) (hx : x = nI a := by rfl) (hy : y = nI b := by rfl) (ha : a < 2 ^ 31 := by omega) (hb : b < 2 ^ 31 := by omega) : (x ≤ y → A) ∧ (¬ x ≤ y → B) := by
  subst hx hy
  rw [nI_leI ha hb]
  exact ⟨f, fun z => g (by omega)⟩
theorem pk_lt {x y : Int32} {A B : Prop} (a b : Nat) (f : a < b → A) (g : b ≤ a → B) (hx : x = nI a := by rfl) (hy : y = nI b := by rfl) (ha : a < 2 ^ 31 := by omega) (hb : b < 2 ^ 31 := by omega) : (x < y → A) ∧ (¬ x < y → B) := by
  subst hx hy
  rw [nI_ltI ha hb]
  exact ⟨f, fun z => g (by omega)⟩
theorem pk_eq {x y : Int32} {A B : Prop} (a b : Nat) (f : a = b → A) (g : a ≠ b → B) (hx : x = nI a := by rfl) (hy : y = nI b := by rfl) (ha : a < 2 ^ 31 := by omega) (hb : b < 2 ^ 31 := by omega) : (x = y → A) ∧ (¬ x = y → B) := by
  subst hx hy
  rw [nI_eq ha hb]
  exact ⟨f, g⟩
theorem pk_in {x : Int32} (n N : Nat) (h : n < N) (hx : x = nI n := by rfl) (hN : N < 2 ^ 31 := by omega) : vp_in x N := by
  subst hx
  exact vp_in_nI h hN
theorem pk_cl {x : Int32} (n : Nat) (hx : x = nI n := by rfl) (h : n < 2 ^ 31 := by omega) : x.toNatClampNeg = n := by
  subst hx
  exact nI_clamp h
theorem pk_tn {n : Nat} (h : n < 2 ^ 32) : (nI n).toBitVec.toNat = n := Nat.mod_eq_of_lt h
theorem pk_and (x : Int32) {m : Int32} (k : Nat) (hm : m.toBitVec.toNat = 2 ^ k - 1) : x &&& m = nI (x.toBitVec.toNat % 2 ^ k) := by
  apply Int32.toBitVec_inj.mp
  apply BitVec.eq_of_toNat_eq
  rw [Int32.toBitVec_and, BitVec.toNat_and, hm, Nat.and_two_pow_sub_one_eq_mod]
  show _ = (BitVec.ofNat 32 _).toNat
  rw [BitVec.toNat_ofNat]
  exact (Nat.mod_eq_of_lt (Nat.lt_of_le_of_lt (Nat.mod_le _ _) x.toBitVec.isLt)).symm
theorem pk_andN {n : Nat} (h : n < 2 ^ 32) {m : Int32} (k : Nat) (hm : m.toBitVec.toNat = 2 ^ k - 1) : nI n &&& m = nI (n % 2 ^ k) := by
  rw [pk_and _ k hm, pk_tn h]
theorem pk_andE (x : Int32) {m : Int32} (k : Nat) (hm : m.toBitVec.toNat = 2 ^ k - 1) : ∃ j : Nat, j < 2 ^ k ∧ x &&& m = nI j := ⟨_, Nat.mod_lt _ (Nat.two_pow_pos k), pk_and x k hm⟩
theorem pk_andIn (x : Int32) {m : Int32} (k : Nat) (hm : m.toBitVec.toNat = 2 ^ k - 1) (hk : k ≤ 30) : vp_in (x &&& m) (2 ^ k) := by
  obtain ⟨j, hj, e⟩ := pk_andE x k hm
  rw [e]
  exact vp_in_nI hj (Nat.lt_of_le_of_lt (Nat.pow_le_pow_right (by decide) hk) (by decide))
theorem pk_shl (a s : Int32) (k : Nat) (hs : (s.toBitVec.smod 32).toNat = k) : (a <<< s).toBitVec.toNat = a.toBitVec.toNat * 2 ^ k % 2 ^ 32 := by
  show (a.toBitVec <<< (s.toBitVec.smod 32).toNat).toNat = _
  rw [hs, BitVec.toNat_shiftLeft, Nat.shiftLeft_eq]
theorem pk_shlN {n : Nat} (s : Int32) (k : Nat) (hs : (s.toBitVec.smod 32).toNat = k) (h : n * 2 ^ k < 2 ^ 32) : nI n <<< s = nI (n * 2 ^ k) := by
  apply Int32.toBitVec_inj.mp
  apply BitVec.eq_of_toNat_eq
  have hn : n < 2 ^ 32 := Nat.lt_of_le_of_lt (Nat.le_mul_of_pos_right n (Nat.two_pow_pos k)) h
  rw [pk_shl _ _ k hs, pk_tn hn, pk_tn h, Nat.mod_eq_of_lt h]
theorem pk_shr (a s : Int32) (k : Nat) (hs : (s.toBitVec.smod 32).toNat = k) : (a >>> s).toInt = a.toInt >>> k := by
  show (a.toBitVec.sshiftRight (s.toBitVec.smod 32).toNat).toInt = _
  rw [hs, BitVec.toInt_sshiftRight]
  rfl
theorem pk_shrN {n : Nat} (h : n < 2 ^ 31) (s : Int32) (k : Nat) (hs : (s.toBitVec.smod 32).toNat = k) : nI n >>> s = nI (n / 2 ^ k) := by
  apply Int32.toInt_inj.mp
  have h2 : n / 2 ^ k ≤ n := Nat.div_le_self _ _
  rw [pk_shr _ _ k hs, nI_toInt h, nI_toInt (by omega), Int.shiftRight_eq_div_pow]
  rfl
theorem pk_ushr (x s : Int32) (k : Nat) (hs : ((s.toUInt32 &&& Int32.toUInt32 31).toBitVec % 32).toNat = k) : (x.toUInt32 >>> (s.toUInt32 &&& Int32.toUInt32 31)).toInt32.toBitVec.toNat = x.toBitVec.toNat / 2 ^ k := by
  have e : (x.toUInt32 >>> (s.toUInt32 &&& Int32.toUInt32 31)).toInt32.toBitVec = x.toBitVec >>> k := by
    rw [← hs]
    exact UInt32.toBitVec_shiftRight _ _
  rw [e, BitVec.toNat_ushiftRight, Nat.shiftRight_eq_div_pow]
theorem pk_ushrN {n : Nat} (hn : n < 2 ^ 32) (s : Int32) (k : Nat) (hs : ((s.toUInt32 &&& Int32.toUInt32 31).toBitVec % 32).toNat = k) : ((nI n).toUInt32 >>> (s.toUInt32 &&& Int32.toUInt32 31)).toInt32 = nI (n / 2 ^ k) := by
  apply Int32.toBitVec_inj.mp
  apply BitVec.eq_of_toNat_eq
  rw [pk_ushr _ s k hs, pk_tn hn, pk_tn (Nat.lt_of_le_of_lt (Nat.div_le_self _ _) hn)]
theorem pk_loop {σ : Type} (W : Nat → Nat → σ → Prop) (I : Nat → σ → Prop) (e i0 : Nat) (s : σ) (hi : i0 ≤ e) (h0 : I i0 s) (hx : ∀ n s, I e s → W (n + 1) e s)
    (hs : ∀ n i s, i < e → I i s → (∀ s', I (i + 1) s' → W n (i + 1) s') → W (n + 1) i s) : ∃ n, W n i0 s :=
  ⟨e + 1, loop_i W I e hx hs (e + 1) i0 s hi (by omega) h0⟩
theorem pk_loopD {σ : Type} (W : Nat → Nat → σ → Prop) (I : Nat → σ → Prop) (hx : ∀ n s, I 0 s → W (n + 1) 0 s)
    (hs : ∀ n i s, I (i + 1) s → (∀ s', I i s' → W n i s') → W (n + 1) (i + 1) s) : ∀ (e : Nat) (s : σ), I e s → W (e + 1) e s := by
  intro e
  induction e with
  | zero => exact fun s h => hx 0 s h
  | succ e ih => exact fun s h => hs (e + 1) e s h (fun s' h' => ih s' h')
theorem ek_if {c d A B : Prop} (e : c ↔ d) (f : d → A) (g : ¬ d → B) : (c → A) ∧ (¬ c → B) :=
  ⟨fun z => f (e.mp z), fun z => g (fun y => z (e.mpr y))⟩
theorem ek_v {α : Sort _} {P : α → Prop} {a b : α} (e : a = b) (h : P b) : P a := e ▸ h
theorem co_4 {P : Nat → Prop} (h0 : P 0) (h1 : P 1) (h2 : P 2) (h3 : P 3) {i : Nat} (hi : i < 4) : P i :=
  match i, hi with
  | 0, _ => h0
  | 1, _ => h1
  | 2, _ => h2
  | 3, _ => h3
theorem co_dec {N : Nat} {P : Nat → Prop} [DecidablePred P] (h : (List.range N).all (fun i => decide (P i)) = true) {i : Nat} (hi : i < N) : P i := by
  have := List.all_eq_true.mp h i (List.mem_range.mpr hi)
  exact of_decide_eq_true this
def bt (x : Int32) (i : Nat) : Bool := x.toBitVec.getLsbD i
theorem b_ext {x y : Int32} (h : ∀ i, i < 32 → bt x i = bt y i) : x = y := Int32.toBitVec_inj.mp (BitVec.eq_of_getLsbD_eq (fun i hi => h i hi))
theorem b_or (x y : Int32) (i : Nat) : bt (x ||| y) i = (bt x i || bt y i) := by unfold bt; rw [Int32.toBitVec_or, BitVec.getLsbD_or]
theorem b_and (x y : Int32) (i : Nat) : bt (x &&& y) i = (bt x i && bt y i) := by unfold bt; rw [Int32.toBitVec_and, BitVec.getLsbD_and]
theorem b_xor (x y : Int32) (i : Nat) : bt (x ^^^ y) i = (bt x i ^^ bt y i) := by unfold bt; rw [Int32.toBitVec_xor, BitVec.getLsbD_xor]
theorem b_big {x : Int32} {i : Nat} (h : 32 ≤ i) : bt x i = false := BitVec.getLsbD_of_ge _ _ h
theorem b_255 (i : Nat) : bt 255 i = decide (i < 8) := by
  rcases Nat.lt_or_ge i 32 with h | h
  · exact (by decide +kernel : ∀ i, i < 32 → bt 255 i = decide (i < 8)) i h
  · rw [b_big h, decide_eq_false (by omega)]
theorem b_65535 (i : Nat) : bt 65535 i = decide (i < 16) := by
  rcases Nat.lt_or_ge i 32 with h | h
  · exact (by decide +kernel : ∀ i, i < 32 → bt 65535 i = decide (i < 16)) i h
  · rw [b_big h, decide_eq_false (by omega)]
theorem b_m1 : ∀ i, i < 32 → bt (-1) i = true := by decide +kernel
theorem b_0 (i : Nat) : bt 0 i = false := BitVec.getLsbD_zero
theorem s_l : ∀ n, n < 32 → ((nI n &&& 31).toBitVec.smod 32).toNat = n := by decide +kernel
theorem s_u : ∀ n, n < 32 → (((nI n).toUInt32 &&& Int32.toUInt32 31).toBitVec % 32).toNat = n := by decide +kernel
theorem b_shl (n : Nat) (hn : n < 32) (x : Int32) {i : Nat} (hi : i < 32) : bt (x <<< (nI n &&& 31)) i = (decide (n ≤ i) && bt x (i - n)) := by
  unfold bt
  rw [Int32.toBitVec_shiftLeft]
  show (x.toBitVec <<< ((nI n &&& 31).toBitVec.smod 32).toNat).getLsbD i = _
  rw [s_l n hn, BitVec.getLsbD_shiftLeft]
  rcases Nat.lt_or_ge i n with h | h
  · simp [h, Nat.not_le.mpr h]
  · simp [hi, h, Nat.not_lt.mpr h]
theorem b_ushr (n : Nat) (hn : n < 32) (x : Int32) (i : Nat) : bt ((x.toUInt32 >>> ((nI n).toUInt32 &&& Int32.toUInt32 31)).toInt32) i = bt x (n + i) := by
  show (x.toUInt32 >>> ((nI n).toUInt32 &&& Int32.toUInt32 31)).toBitVec.getLsbD i = x.toUInt32.toBitVec.getLsbD (n + i)
  rw [UInt32.toBitVec_shiftRight]
  show (x.toUInt32.toBitVec >>> (((nI n).toUInt32 &&& Int32.toUInt32 31).toBitVec % 32).toNat).getLsbD i = _
  rw [s_u n hn, BitVec.getLsbD_ushiftRight]
theorem b_sshr (n : Nat) (hn : n < 32) (x : Int32) {i : Nat} (hi : i < 32) : bt (x >>> (nI n &&& 31)) i = if n + i < 32 then bt x (n + i) else bt x 31 := by
  unfold bt
  rw [Int32.toBitVec_shiftRight]
  show (x.toBitVec.sshiftRight ((nI n &&& 31).toBitVec.smod 32).toNat).getLsbD i = _
  rw [s_l n hn, BitVec.getLsbD_sshiftRight, BitVec.msb_eq_getLsbD_last]
  simp [hi]
theorem b_shl8 (x : Int32) {i : Nat} (hi : i < 32) : bt (x <<< ((8 : Int32) &&& 31)) i = (decide (8 ≤ i) && bt x (i - 8)) := b_shl 8 (by omega) x hi
theorem b_shl16 (x : Int32) {i : Nat} (hi : i < 32) : bt (x <<< ((16 : Int32) &&& 31)) i = (decide (16 ≤ i) && bt x (i - 16)) := b_shl 16 (by omega) x hi
theorem b_shl24 (x : Int32) {i : Nat} (hi : i < 32) : bt (x <<< ((24 : Int32) &&& 31)) i = (decide (24 ≤ i) && bt x (i - 24)) := b_shl 24 (by omega) x hi
theorem b_sshr8 (x : Int32) {i : Nat} (hi : i < 32) : bt (x >>> ((8 : Int32) &&& 31)) i = if 8 + i < 32 then bt x (8 + i) else bt x 31 := b_sshr 8 (by omega) x hi
theorem nx_and (a b : Nat) : nI a &&& nI b = nI (a &&& b) := by
  apply Int32.toBitVec_inj.1
  show BitVec.ofNat 32 a &&& BitVec.ofNat 32 b = BitVec.ofNat 32 (a &&& b)
  apply BitVec.eq_of_getLsbD_eq
  intro i hi
  simp [hi]
theorem nx_xor (a b : Nat) : nI a ^^^ nI b = nI (a ^^^ b) := by
  apply Int32.toBitVec_inj.1
  show BitVec.ofNat 32 a ^^^ BitVec.ofNat 32 b = BitVec.ofNat 32 (a ^^^ b)
  apply BitVec.eq_of_getLsbD_eq
  intro i hi
  simp [hi]
end
section
/-! helpers: the first e cells of an array by a function; loops by an index; words of four bytes -/
def hz_mp (e : Nat) (f a : Nat → Int32) : Nat → Int32 := fun j => if j < e then f j else a j
theorem hz_mp0 {f a : Nat → Int32} : hz_mp 0 f a = a := by funext j; simp [hz_mp]
theorem hz_mps {f a : Nat → Int32} (i : Nat) : upd (hz_mp i f a) i (f i) = hz_mp (i + 1) f a := by
  funext j
  unfold upd hz_mp
  by_cases h : j = i
  · subst h; rw [if_pos rfl, if_pos (Nat.lt_succ_self _)]
  · rw [if_neg h]
    by_cases h2 : j < i
    · rw [if_pos h2, if_pos (by omega)]
    · rw [if_neg h2, if_neg (by omega)]
theorem hz_lt {f a : Nat → Int32} {e j : Nat} (h : j < e) : hz_mp e f a j = f j := if_pos h
theorem hz_ge {f a : Nat → Int32} {e j : Nat} (h : e ≤ j) : hz_mp e f a j = a j := if_neg (by omega)
theorem hz_mpc {f g a : Nat → Int32} {e : Nat} (h : ∀ j, j < e → f j = g j) : hz_mp e f a = hz_mp e g a := by
  funext j
  unfold hz_mp
  by_cases h2 : j < e
  · rw [if_pos h2, if_pos h2, h j h2]
  · rw [if_neg h2, if_neg h2]
theorem hz_st {f a : Nat → Int32} {i : Nat} {k : Nat} {x : Int32} (hk : k = i) (hx : x = f i) : upd (hz_mp i f a) k x = hz_mp (i + 1) f a := by
  subst hk hx; exact hz_mps _
theorem hz_up (W : Nat → Nat → Prop) (e i0 : Nat) (h : i0 ≤ e) (hx : ∀ n, W (n + 1) e) (hs : ∀ n i, i0 ≤ i → i < e → W n (i + 1) → W (n + 1) i) : ∃ n, W n i0 := by
  have H : ∀ d i, i0 ≤ i → i + d = e → W (d + 1) i := by
    intro d
    induction d with
    | zero =>
      intro i _ hi
      have hi2 : i = e := by omega
      subst hi2
      exact hx 0
    | succ d ih =>
      intro i h1 h2
      exact hs (d + 1) i h1 (by omega) (ih (i + 1) (by omega) (by omega))
  exact ⟨_, H (e - i0) i0 (Nat.le_refl _) (by omega)⟩
theorem hz_dn (W : Nat → Nat → Prop) (e : Nat) (hx : ∀ n, W (n + 1) 0) (hs : ∀ n i, i < e → W n i → W (n + 1) (i + 1)) : ∃ n, W n e := by
  have H : ∀ i, i ≤ e → W (i + 1) i := by
    intro i
    induction i with
    | zero => intro _; exact hx 0
    | succ i ih => intro hi; exact hs (i + 1) i (by omega) (ih (by omega))
  exact ⟨_, H e (Nat.le_refl _)⟩
theorem hz_bn (n : Nat) {i : Nat} (hi : i < 32) : bt (nI n) i = n.testBit i := by
  show (BitVec.ofNat 32 n).getLsbD i = _
  rw [BitVec.getLsbD_ofNat]
  simp [hi]
theorem hz_tb {a i : Nat} (h : a < 256) (hi : 8 ≤ i) : a.testBit i = false :=
  Nat.testBit_lt_two_pow (Nat.lt_of_lt_of_le h (Nat.pow_le_pow_right (n := 2) (by decide) hi))
theorem hz_x8 {a b : Nat} (ha : a < 256) (hb : b < 256) : a ^^^ b < 256 := Nat.xor_lt_two_pow (n := 8) ha hb
/-- a word out of four bytes -/
def hz_wd (a b c d : Nat) : Int32 := (((nI a <<< ((24 : Int32) &&& 31)) ||| (nI b <<< ((16 : Int32) &&& 31))) ||| (nI c <<< ((8 : Int32) &&& 31))) ||| nI d
/-- byte i of a word, from above -/
def hz_by (w : Int32) (i : Nat) : Nat := w.toBitVec.toNat / 2 ^ (24 - 8 * i) % 256
theorem hz_byl (w : Int32) (i : Nat) : hz_by w i < 256 := Nat.mod_lt _ (by decide)
theorem hz_tby (w : Int32) (i j : Nat) : (hz_by w i).testBit j = (decide (j < 8) && bt w (24 - 8 * i + j)) := by
  unfold hz_by bt
  rw [show (256 : Nat) = 2 ^ 8 from rfl, Nat.testBit_mod_two_pow, Nat.testBit_div_two_pow, BitVec.testBit_toNat, Nat.add_comm j]
theorem hz_bw {a b c d : Nat} (ha : a < 256) (hb : b < 256) (hc : c < 256) (hd : d < 256) {i : Nat} (hi : i < 32) :
    bt (hz_wd a b c d) i = if i < 8 then d.testBit i else if i < 16 then c.testBit (i - 8) else if i < 24 then b.testBit (i - 16) else a.testBit (i - 24) := by
  unfold hz_wd
  rw [b_or, b_or, b_or, b_shl24 _ hi, b_shl16 _ hi, b_shl8 _ hi, hz_bn a (by omega), hz_bn b (by omega), hz_bn c (by omega), hz_bn d hi]
  by_cases h1 : i < 8
  · rw [if_pos h1, decide_eq_false (by omega), decide_eq_false (by omega), decide_eq_false (by omega)]
    simp
  · rw [if_neg h1, hz_tb hd (by omega)]
    by_cases h2 : i < 16
    · rw [if_pos h2, decide_eq_false (p := 24 ≤ i) (by omega), decide_eq_false (p := 16 ≤ i) (by omega), decide_eq_true (p := 8 ≤ i) (by omega)]
      simp
    · rw [if_neg h2, hz_tb hc (by omega)]
      by_cases h3 : i < 24
      · rw [if_pos h3, decide_eq_false (p := 24 ≤ i) (by omega), decide_eq_true (p := 16 ≤ i) (by omega)]
        simp
      · rw [if_neg h3, hz_tb hb (by omega), decide_eq_true (p := 24 ≤ i) (by omega)]
        simp
theorem hz_wx {a b c d a' b' c' d' : Nat} (ha : a < 256) (hb : b < 256) (hc : c < 256) (hd : d < 256) (ha' : a' < 256) (hb' : b' < 256) (hc' : c' < 256) (hd' : d' < 256) :
    hz_wd a b c d ^^^ hz_wd a' b' c' d' = hz_wd (a ^^^ a') (b ^^^ b') (c ^^^ c') (d ^^^ d') := by
  apply b_ext
  intro i hi
  rw [b_xor, hz_bw ha hb hc hd hi, hz_bw ha' hb' hc' hd' hi, hz_bw (hz_x8 ha ha') (hz_x8 hb hb') (hz_x8 hc hc') (hz_x8 hd hd') hi]
  by_cases h1 : i < 8
  · rw [if_pos h1, if_pos h1, if_pos h1, Nat.testBit_xor]
  · rw [if_neg h1, if_neg h1, if_neg h1]
    by_cases h2 : i < 16
    · rw [if_pos h2, if_pos h2, if_pos h2, Nat.testBit_xor]
    · rw [if_neg h2, if_neg h2, if_neg h2]
      by_cases h3 : i < 24
      · rw [if_pos h3, if_pos h3, if_pos h3, Nat.testBit_xor]
      · rw [if_neg h3, if_neg h3, if_neg h3, Nat.testBit_xor]
theorem hz_wb (w : Int32) : hz_wd (hz_by w 0) (hz_by w 1) (hz_by w 2) (hz_by w 3) = w := by
  apply b_ext
  intro i hi
  rw [hz_bw (hz_byl _ _) (hz_byl _ _) (hz_byl _ _) (hz_byl _ _) hi]
  by_cases h1 : i < 8
  · rw [if_pos h1, hz_tby, decide_eq_true h1, Bool.true_and]
    exact congrArg (bt w) (by omega)
  · rw [if_neg h1]
    by_cases h2 : i < 16
    · rw [if_pos h2, hz_tby, decide_eq_true (by omega), Bool.true_and]
      exact congrArg (bt w) (by omega)
    · rw [if_neg h2]
      by_cases h3 : i < 24
      · rw [if_pos h3, hz_tby, decide_eq_true (by omega), Bool.true_and]
        exact congrArg (bt w) (by omega)
      · rw [if_neg h3, hz_tby, decide_eq_true (by omega), Bool.true_and]
        exact congrArg (bt w) (by omega)
theorem hz_b0 {a b c d : Nat} (ha : a < 256) (hb : b < 256) (hc : c < 256) (hd : d < 256) : hz_by (hz_wd a b c d) 0 = a := by
  apply Nat.eq_of_testBit_eq
  intro j
  rw [hz_tby]
  by_cases h : j < 8
  · rw [decide_eq_true h, Bool.true_and, hz_bw ha hb hc hd (by omega), if_neg (by omega), if_neg (by omega), if_neg (by omega)]
    exact congrArg a.testBit (by omega)
  · rw [decide_eq_false h, hz_tb ha (by omega)]; rfl
theorem hz_b1 {a b c d : Nat} (ha : a < 256) (hb : b < 256) (hc : c < 256) (hd : d < 256) : hz_by (hz_wd a b c d) 1 = b := by
  apply Nat.eq_of_testBit_eq
  intro j
  rw [hz_tby]
  by_cases h : j < 8
  · rw [decide_eq_true h, Bool.true_and, hz_bw ha hb hc hd (by omega), if_neg (by omega), if_neg (by omega), if_pos (by omega)]
    exact congrArg b.testBit (by omega)
  · rw [decide_eq_false h, hz_tb hb (by omega)]; rfl
theorem hz_b2 {a b c d : Nat} (ha : a < 256) (hb : b < 256) (hc : c < 256) (hd : d < 256) : hz_by (hz_wd a b c d) 2 = c := by
  apply Nat.eq_of_testBit_eq
  intro j
  rw [hz_tby]
  by_cases h : j < 8
  · rw [decide_eq_true h, Bool.true_and, hz_bw ha hb hc hd (by omega), if_neg (by omega), if_pos (by omega)]
    exact congrArg c.testBit (by omega)
  · rw [decide_eq_false h, hz_tb hc (by omega)]; rfl
theorem hz_b3 {a b c d : Nat} (ha : a < 256) (hb : b < 256) (hc : c < 256) (hd : d < 256) : hz_by (hz_wd a b c d) 3 = d := by
  apply Nat.eq_of_testBit_eq
  intro j
  rw [hz_tby]
  by_cases h : j < 8
  · rw [decide_eq_true h, Bool.true_and, hz_bw ha hb hc hd (by omega), if_pos (by omega)]
    exact congrArg d.testBit (by omega)
  · rw [decide_eq_false h, hz_tb hd (by omega)]; rfl
/-- turning right, as it is printed -/
def hz_ro (w p : Int32) : Int32 := ((w.toUInt32 >>> (p.toUInt32 &&& Int32.toUInt32 31)).toInt32) ||| (w <<< ((32 - p) &&& 31))
theorem hz_rb (k l : Nat) (hk : k < 32) (hl : l < 32) (p : Int32) (hp : p = nI k) (hq : 32 - p = nI l) (w : Int32) {i : Nat} (hi : i < 32) :
    bt (hz_ro w p) i = (bt w (k + i) || (decide (l ≤ i) && bt w (i - l))) := by
  unfold hz_ro
  rw [hq, hp, b_or, b_ushr k hk, b_shl l hl _ hi]
theorem hz_r8 {a b c d : Nat} (ha : a < 256) (hb : b < 256) (hc : c < 256) (hd : d < 256) : hz_ro (hz_wd a b c d) 8 = hz_wd d a b c := by
  apply b_ext
  intro i hi
  rw [hz_rb 8 24 (by decide) (by decide) 8 rfl (by decide) _ hi, hz_bw hd ha hb hc hi]
  by_cases h : i < 24
  · rw [decide_eq_false (by omega), Bool.false_and, Bool.or_false, hz_bw ha hb hc hd (by omega), if_neg (by omega)]
    by_cases h1 : i < 8
    · rw [if_pos (by omega), if_pos h1]; exact congrArg c.testBit (by omega)
    · rw [if_neg (by omega), if_neg h1]
      by_cases h2 : i < 16
      · rw [if_pos (by omega), if_pos h2]; exact congrArg b.testBit (by omega)
      · rw [if_neg (by omega), if_neg h2, if_pos h]; exact congrArg a.testBit (by omega)
  · rw [decide_eq_true (by omega), Bool.true_and, b_big (by omega), Bool.false_or, hz_bw ha hb hc hd (by omega), if_pos (by omega), if_neg (by omega), if_neg (by omega), if_neg h]
theorem hz_r16 {a b c d : Nat} (ha : a < 256) (hb : b < 256) (hc : c < 256) (hd : d < 256) : hz_ro (hz_wd a b c d) 16 = hz_wd c d a b := by
  apply b_ext
  intro i hi
  rw [hz_rb 16 16 (by decide) (by decide) 16 rfl (by decide) _ hi, hz_bw hc hd ha hb hi]
  by_cases h : i < 16
  · rw [decide_eq_false (by omega), Bool.false_and, Bool.or_false, hz_bw ha hb hc hd (by omega), if_neg (by omega), if_neg (by omega)]
    by_cases h1 : i < 8
    · rw [if_pos (by omega), if_pos h1]; exact congrArg b.testBit (by omega)
    · rw [if_neg (by omega), if_neg h1, if_pos h]; exact congrArg a.testBit (by omega)
  · rw [decide_eq_true (by omega), Bool.true_and, b_big (by omega), Bool.false_or, hz_bw ha hb hc hd (by omega), if_neg (show ¬ i < 8 by omega), if_neg h]
    by_cases h1 : i < 24
    · rw [if_pos (by omega), if_pos h1]
    · rw [if_neg (by omega), if_pos (by omega), if_neg h1]; exact congrArg c.testBit (by omega)
theorem hz_r24 {a b c d : Nat} (ha : a < 256) (hb : b < 256) (hc : c < 256) (hd : d < 256) : hz_ro (hz_wd a b c d) 24 = hz_wd b c d a := by
  apply b_ext
  intro i hi
  rw [hz_rb 24 8 (by decide) (by decide) 24 rfl (by decide) _ hi, hz_bw hb hc hd ha hi]
  by_cases h : i < 8
  · rw [decide_eq_false (by omega), Bool.false_and, Bool.or_false, hz_bw ha hb hc hd (by omega), if_neg (by omega), if_neg (by omega), if_neg (by omega), if_pos h]
    exact congrArg a.testBit (by omega)
  · rw [decide_eq_true (by omega), Bool.true_and, b_big (by omega), Bool.false_or, hz_bw ha hb hc hd (by omega), if_neg h]
    by_cases h1 : i < 16
    · rw [if_pos (by omega), if_pos h1]
    · rw [if_neg (by omega), if_neg h1]
      by_cases h2 : i < 24
      · rw [if_pos (by omega), if_pos h2]; exact congrArg c.testBit (by omega)
      · rw [if_neg (by omega), if_pos (by omega), if_neg h2]; exact congrArg b.testBit (by omega)
theorem hz_xb0 (w : Int32) : (w.toUInt32 >>> ((24 : Int32).toUInt32 &&& Int32.toUInt32 31)).toInt32 = nI (hz_by w 0) := by
  apply b_ext
  intro i hi
  rw [hz_bn _ hi, hz_tby]
  refine (b_ushr 24 (by decide) w i).trans ?_
  by_cases h : i < 8
  · rw [decide_eq_true h]; rfl
  · rw [decide_eq_false h, b_big (by omega)]; rfl
theorem hz_xb1 (w : Int32) : (w.toUInt32 >>> ((16 : Int32).toUInt32 &&& Int32.toUInt32 31)).toInt32 &&& 255 = nI (hz_by w 1) := by
  apply b_ext
  intro i hi
  rw [hz_bn _ hi, hz_tby, b_and, b_255, Bool.and_comm]
  exact congrArg _ (b_ushr 16 (by decide) w i)
theorem hz_xb2 (w : Int32) : (w.toUInt32 >>> ((8 : Int32).toUInt32 &&& Int32.toUInt32 31)).toInt32 &&& 255 = nI (hz_by w 2) := by
  apply b_ext
  intro i hi
  rw [hz_bn _ hi, hz_tby, b_and, b_255, Bool.and_comm]
  exact congrArg _ (b_ushr 8 (by decide) w i)
theorem hz_xb3 (w : Int32) : w &&& 255 = nI (hz_by w 3) := by
  apply b_ext
  intro i hi
  rw [hz_bn _ hi, hz_tby, b_and, b_255, Bool.and_comm]
  exact congrArg (fun z => decide (i < 8) && bt w z) (by omega)
theorem hz_yb (w : Int32) {k : Nat} (hk : k < 4) : (w >>> ((24 - (8 * nI k)) &&& 31)) &&& 255 = nI (hz_by w k) := by
  have e : (24 : Int32) - 8 * nI k = nI (24 - 8 * k) := by
    rw [show (8 : Int32) = nI 8 from rfl, show (24 : Int32) = nI 24 from rfl, pk_mul, pk_sub (by omega)]
  apply b_ext
  intro i hi
  rw [e, hz_bn _ hi, hz_tby, b_and, b_255, Bool.and_comm, b_sshr (24 - 8 * k) (by omega) w hi]
  by_cases h : i < 8
  · rw [if_pos (by omega)]
  · rw [decide_eq_false h]; rfl
theorem hz_byx (x y : Int32) (i : Nat) : hz_by (x ^^^ y) i = hz_by x i ^^^ hz_by y i := by
  apply Nat.eq_of_testBit_eq
  intro j
  rw [Nat.testBit_xor, hz_tby, hz_tby, hz_tby, b_xor]
  cases decide (j < 8) <;> simp
theorem hz_by0 (i : Nat) : hz_by 0 i = 0 := by
  apply Nat.eq_of_testBit_eq
  intro j
  rw [hz_tby, b_0]
  simp
theorem hz_w2 (a b c d : Nat) : ((nI a <<< ((24 : Int32) &&& 31)) ||| (nI b <<< ((16 : Int32) &&& 31))) ||| ((nI c <<< ((8 : Int32) &&& 31)) ||| nI d) = hz_wd a b c d := by
  unfold hz_wd
  rw [Int32.or_assoc (nI a <<< ((24 : Int32) &&& 31) ||| nI b <<< ((16 : Int32) &&& 31))]
/-- a word put together from above, eight bits a step -/
theorem hz_w3 {a b c d : Nat} (ha : a < 256) (hb : b < 256) (hc : c < 256) (hd : d < 256) :
    ((((((0 <<< ((8 : Int32) &&& 31)) ||| nI a) <<< ((8 : Int32) &&& 31)) ||| nI b) <<< ((8 : Int32) &&& 31)) ||| nI c) <<< ((8 : Int32) &&& 31) ||| nI d = hz_wd a b c d := by
  apply b_ext
  intro i hi
  rw [hz_bw ha hb hc hd hi, b_or, hz_bn d hi, b_shl8 _ hi]
  by_cases h1 : i < 8
  · rw [if_pos h1, decide_eq_false (by omega), Bool.false_and, Bool.false_or]
  · rw [if_neg h1, decide_eq_true (by omega), Bool.true_and, hz_tb hd (by omega), Bool.or_false, b_or, hz_bn c (by omega), b_shl8 _ (by omega)]
    by_cases h2 : i < 16
    · rw [if_pos h2, decide_eq_false (by omega), Bool.false_and, Bool.false_or]
    · rw [if_neg h2, decide_eq_true (by omega), Bool.true_and, hz_tb hc (by omega), Bool.or_false, b_or, hz_bn b (by omega), b_shl8 _ (by omega)]
      by_cases h3 : i < 24
      · rw [if_pos h3, decide_eq_false (by omega), Bool.false_and, Bool.false_or]
        exact congrArg b.testBit (by omega)
      · rw [if_neg h3, decide_eq_true (by omega), Bool.true_and, hz_tb hb (by omega), Bool.or_false, b_or, hz_bn a (by omega), b_shl8 _ (by omega), b_0, Bool.and_false, Bool.false_or]
        exact congrArg a.testBit (by omega)
end
section
/-! the tables, as lists, and what is decided of them -/
def hs_ST : List Nat := [99, 124, 119, 123, 242, 107, 111, 197, 48, 1, 103, 43, 254, 215, 171, 118, 202, 130, 201, 125, 250, 89, 71, 240, 173, 212, 162, 175, 156, 164, 114, 192, 183, 253, 147, 38, 54, 63, 247, 204, 52, 165, 229, 241, 113, 216, 49, 21, 4, 199, 35, 195, 24, 150, 5, 154, 7, 18, 128, 226, 235, 39, 178, 117, 9, 131, 44, 26, 27, 110, 90, 160, 82, 59, 214, 179, 41, 227, 47, 132, 83, 209, 0, 237, 32, 252, 177, 91, 106, 203, 190, 57, 74, 76, 88, 207, 208, 239, 170, 251, 67, 77, 51, 133, 69, 249, 2, 127, 80, 60, 159, 168, 81, 163, 64, 143, 146, 157, 56, 245, 188, 182, 218, 33, 16, 255, 243, 210, 205, 12, 19, 236, 95, 151, 68, 23, 196, 167, 126, 61, 100, 93, 25, 115, 96, 129, 79, 220, 34, 42, 144, 136, 70, 238, 184, 20, 222, 94, 11, 219, 224, 50, 58, 10, 73, 6, 36, 92, 194, 211, 172, 98, 145, 149, 228, 121, 231, 200, 55, 109, 141, 213, 78, 169, 108, 86, 244, 234, 101, 122, 174, 8, 186, 120, 37, 46, 28, 166, 180, 198, 232, 221, 116, 31, 75, 189, 139, 138, 112, 62, 181, 102, 72, 3, 246, 14, 97, 53, 87, 185, 134, 193, 29, 158, 225, 248, 152, 17, 105, 217, 142, 148, 155, 30, 135, 233, 206, 85, 40, 223, 140, 161, 137, 13, 191, 230, 66, 104, 65, 153, 45, 15, 176, 84, 187, 22]
def hs_RT : List Nat := [82, 9, 106, 213, 48, 54, 165, 56, 191, 64, 163, 158, 129, 243, 215, 251, 124, 227, 57, 130, 155, 47, 255, 135, 52, 142, 67, 68, 196, 222, 233, 203, 84, 123, 148, 50, 166, 194, 35, 61, 238, 76, 149, 11, 66, 250, 195, 78, 8, 46, 161, 102, 40, 217, 36, 178, 118, 91, 162, 73, 109, 139, 209, 37, 114, 248, 246, 100, 134, 104, 152, 22, 212, 164, 92, 204, 93, 101, 182, 146, 108, 112, 72, 80, 253, 237, 185, 218, 94, 21, 70, 87, 167, 141, 157, 132, 144, 216, 171, 0, 140, 188, 211, 10, 247, 228, 88, 5, 184, 179, 69, 6, 208, 44, 30, 143, 202, 63, 15, 2, 193, 175, 189, 3, 1, 19, 138, 107, 58, 145, 17, 65, 79, 103, 220, 234, 151, 242, 207, 206, 240, 180, 230, 115, 150, 172, 116, 34, 231, 173, 53, 133, 226, 249, 55, 232, 28, 117, 223, 110, 71, 241, 26, 113, 29, 41, 197, 137, 111, 183, 98, 14, 170, 24, 190, 27, 252, 86, 62, 75, 198, 210, 121, 32, 154, 219, 192, 254, 120, 205, 90, 244, 31, 221, 168, 51, 136, 7, 199, 49, 177, 18, 16, 89, 39, 128, 236, 95, 96, 81, 127, 169, 25, 181, 74, 13, 45, 229, 122, 159, 147, 201, 156, 239, 160, 224, 59, 77, 174, 42, 245, 176, 200, 235, 187, 60, 131, 83, 153, 97, 23, 43, 4, 126, 186, 119, 214, 38, 225, 105, 20, 99, 85, 33, 12, 125]
def hs_IT : List Nat := [256, 1, 141, 246, 203, 82, 123, 209, 232, 79, 41, 192, 176, 225, 229, 199, 116, 180, 170, 75, 153, 43, 96, 95, 88, 63, 253, 204, 255, 64, 238, 178, 58, 110, 90, 241, 85, 77, 168, 201, 193, 10, 152, 21, 48, 68, 162, 194, 44, 69, 146, 108, 243, 57, 102, 66, 242, 53, 32, 111, 119, 187, 89, 25, 29, 254, 55, 103, 45, 49, 245, 105, 167, 100, 171, 19, 84, 37, 233, 9, 237, 92, 5, 202, 76, 36, 135, 191, 24, 62, 34, 240, 81, 236, 97, 23, 22, 94, 175, 211, 73, 166, 54, 67, 244, 71, 145, 223, 51, 147, 33, 59, 121, 183, 151, 133, 16, 181, 186, 60, 182, 112, 208, 6, 161, 250, 129, 130, 131, 126, 127, 128, 150, 115, 190, 86, 155, 158, 149, 217, 247, 2, 185, 164, 222, 106, 50, 109, 216, 138, 132, 114, 42, 20, 159, 136, 249, 220, 137, 154, 251, 124, 46, 195, 143, 184, 101, 72, 38, 200, 18, 74, 206, 231, 210, 98, 12, 224, 31, 239, 17, 117, 120, 113, 165, 142, 118, 61, 189, 188, 134, 87, 11, 40, 47, 163, 218, 212, 228, 15, 169, 39, 83, 4, 27, 252, 172, 230, 122, 7, 174, 99, 197, 219, 226, 234, 148, 139, 196, 213, 157, 248, 144, 107, 177, 13, 214, 235, 198, 14, 207, 173, 8, 78, 215, 227, 93, 80, 30, 179, 91, 35, 56, 52, 104, 70, 3, 140, 221, 156, 125, 160, 205, 26, 65, 28]
def hs_PT : List Nat := [1, 3, 5, 15, 17, 51, 85, 255, 26, 46, 114, 150, 161, 248, 19, 53, 95, 225, 56, 72, 216, 115, 149, 164, 247, 2, 6, 10, 30, 34, 102, 170, 229, 52, 92, 228, 55, 89, 235, 38, 106, 190, 217, 112, 144, 171, 230, 49, 83, 245, 4, 12, 20, 60, 68, 204, 79, 209, 104, 184, 211, 110, 178, 205, 76, 212, 103, 169, 224, 59, 77, 215, 98, 166, 241, 8, 24, 40, 120, 136, 131, 158, 185, 208, 107, 189, 220, 127, 129, 152, 179, 206, 73, 219, 118, 154, 181, 196, 87, 249, 16, 48, 80, 240, 11, 29, 39, 105, 187, 214, 97, 163, 254, 25, 43, 125, 135, 146, 173, 236, 47, 113, 147, 174, 233, 32, 96, 160, 251, 22, 58, 78, 210, 109, 183, 194, 93, 231, 50, 86, 250, 21, 63, 65, 195, 94, 226, 61, 71, 201, 64, 192, 91, 237, 44, 116, 156, 191, 218, 117, 159, 186, 213, 100, 172, 239, 42, 126, 130, 157, 188, 223, 122, 142, 137, 128, 155, 182, 193, 88, 232, 35, 101, 175, 234, 37, 111, 177, 200, 67, 197, 84, 252, 31, 33, 99, 165, 244, 7, 9, 27, 45, 119, 153, 176, 203, 70, 202, 69, 207, 74, 222, 121, 139, 134, 145, 168, 227, 62, 66, 198, 81, 243, 14, 18, 54, 90, 238, 41, 123, 141, 140, 143, 138, 133, 148, 167, 242, 13, 23, 57, 75, 221, 124, 132, 151, 162, 253, 28, 36, 108, 180, 199, 82, 246, 1]
def hs_QT : List Nat := [1, 246, 82, 199, 180, 108, 36, 28, 253, 162, 151, 132, 124, 221, 75, 57, 23, 13, 242, 167, 148, 133, 138, 143, 140, 141, 123, 41, 238, 90, 54, 18, 14, 243, 81, 198, 66, 62, 227, 168, 145, 134, 139, 121, 222, 74, 207, 69, 202, 70, 203, 176, 153, 119, 45, 27, 9, 7, 244, 165, 99, 33, 31, 252, 84, 197, 67, 200, 177, 111, 37, 234, 175, 101, 35, 232, 88, 193, 182, 155, 128, 137, 142, 122, 223, 188, 157, 130, 126, 42, 239, 172, 100, 213, 186, 159, 117, 218, 191, 156, 116, 44, 237, 91, 192, 64, 201, 71, 61, 226, 94, 195, 65, 63, 21, 250, 86, 50, 231, 93, 194, 183, 109, 210, 78, 58, 22, 251, 160, 96, 32, 233, 174, 147, 113, 47, 236, 173, 146, 135, 125, 43, 25, 254, 163, 97, 214, 187, 105, 39, 29, 11, 240, 80, 48, 16, 249, 87, 196, 181, 154, 118, 219, 73, 206, 179, 152, 129, 127, 220, 189, 107, 208, 185, 158, 131, 136, 120, 40, 24, 8, 241, 166, 98, 215, 77, 59, 224, 169, 103, 212, 76, 205, 178, 110, 211, 184, 104, 209, 79, 204, 68, 60, 20, 12, 4, 245, 83, 49, 230, 171, 144, 112, 217, 190, 106, 38, 235, 89, 55, 228, 92, 52, 229, 170, 102, 34, 30, 10, 6, 2, 247, 164, 149, 115, 216, 72, 56, 225, 95, 53, 19, 248, 161, 150, 114, 46, 26, 255, 85, 51, 17, 15, 5, 3, 1]
def hs_LT : List Nat := [0, 0, 25, 1, 50, 2, 26, 198, 75, 199, 27, 104, 51, 238, 223, 3, 100, 4, 224, 14, 52, 141, 129, 239, 76, 113, 8, 200, 248, 105, 28, 193, 125, 194, 29, 181, 249, 185, 39, 106, 77, 228, 166, 114, 154, 201, 9, 120, 101, 47, 138, 5, 33, 15, 225, 36, 18, 240, 130, 69, 53, 147, 218, 142, 150, 143, 219, 189, 54, 208, 206, 148, 19, 92, 210, 241, 64, 70, 131, 56, 102, 221, 253, 48, 191, 6, 139, 98, 179, 37, 226, 152, 34, 136, 145, 16, 126, 110, 72, 195, 163, 182, 30, 66, 58, 107, 40, 84, 250, 133, 61, 186, 43, 121, 10, 21, 155, 159, 94, 202, 78, 212, 172, 229, 243, 115, 167, 87, 175, 88, 168, 80, 244, 234, 214, 116, 79, 174, 233, 213, 231, 230, 173, 232, 44, 215, 117, 122, 235, 22, 11, 245, 89, 203, 95, 176, 156, 169, 81, 160, 127, 12, 246, 111, 23, 196, 73, 236, 216, 67, 31, 45, 164, 118, 123, 183, 204, 187, 62, 90, 251, 96, 177, 134, 59, 82, 161, 108, 170, 85, 41, 157, 151, 178, 135, 144, 97, 190, 220, 252, 188, 149, 207, 205, 55, 63, 91, 209, 83, 57, 132, 60, 65, 162, 109, 71, 20, 42, 158, 93, 86, 242, 211, 171, 68, 17, 146, 217, 35, 32, 46, 137, 180, 124, 184, 38, 119, 153, 227, 165, 103, 74, 237, 222, 197, 49, 254, 24, 13, 99, 140, 128, 192, 247, 112, 7]
def hs_S (x : Nat) : Nat := hs_ST.getD x 0
def hs_R (x : Nat) : Nat := hs_RT.getD x 0
def hs_I (x : Nat) : Nat := hs_IT.getD x 0
def hs_P (x : Nat) : Nat := hs_PT.getD x 0
def hs_Q (x : Nat) : Nat := hs_QT.getD x 0
def hs_L (x : Nat) : Nat := hs_LT.getD x 0
/-- twice a byte in the field -/
def hs_tw (x : Nat) : Nat := (2 * x) ^^^ (283 * (x / 128 % 2))
def hs_t3 (x : Nat) : Nat := ((((hs_tw x ^^^ hs_tw (hs_tw x)) ^^^ hs_tw (hs_tw (hs_tw (hs_tw x)))) ^^^ hs_tw (hs_tw (hs_tw (hs_tw (hs_tw x))))) ^^^ hs_tw (hs_tw (hs_tw (hs_tw (hs_tw (hs_tw x)))))) ^^^ hs_tw (hs_tw (hs_tw (hs_tw (hs_tw (hs_tw (hs_tw x))))))
/-- the affine map -/
def hs_af (v : Nat) : Nat := (v * 257 ^^^ v * 257 / 16 ^^^ v * 257 / 32 ^^^ v * 257 / 64 ^^^ v * 257 / 128 ^^^ 99) % 256
/-- a product bit by bit: m steps, the other factor, the sum so far, the multiple -/
def hs_tq : Nat → Nat → Nat → Nat → Nat
  | 0, _, r, _ => r
  | m + 1, y, r, d => hs_tq m (y / 2) (r ^^^ (d * (y % 2))) (hs_tw d)
def hs_no (x : Nat) : Nat → Bool
  | 0 => true
  | y + 1 => (!(Nat.beq (hs_tq 8 (y + 1) 0 x) 1)) && hs_no x y
theorem hs_twl : ∀ x, x < 256 → hs_tw x < 256 := by decide +kernel
theorem hs_Sl : ∀ x, x < 256 → hs_S x < 256 := by decide +kernel
theorem hs_Rl : ∀ x, x < 256 → hs_R x < 256 := by decide +kernel
theorem hs_RS : ∀ x, x < 256 → hs_R (hs_S x) = x := by decide +kernel
theorem hs_SR : ∀ x, x < 256 → hs_S (hs_R x) = x := by decide +kernel
theorem hs_m2 : ∀ x, x < 256 → hs_tq 8 x 0 2 = hs_tw x := by decide +kernel
theorem hs_m3 : ∀ x, x < 256 → hs_tq 8 x 0 3 = hs_tw x ^^^ x := by decide +kernel
theorem hs_Pl : ∀ k, k < 256 → hs_P k < 256 ∧ hs_Q k < 256 := by decide +kernel
theorem hs_Ps : ∀ k, k < 255 → hs_P (k + 1) = hs_P k ^^^ hs_tw (hs_P k) := by decide +kernel
theorem hs_Qs : ∀ k, k < 255 → hs_Q (k + 1) = hs_t3 (hs_Q k) := by decide +kernel
theorem hs_PQ : ∀ k, k < 255 → hs_af (hs_Q k) = hs_S (hs_P k) := by decide +kernel
theorem hs_PL : ∀ x, x < 256 → x ≠ 0 → hs_L x < 255 ∧ hs_P (hs_L x) = x := by decide +kernel
theorem hs_A0 : hs_af 0 = hs_S 0 := by decide +kernel
theorem hs_IS : ∀ x, x < 256 → hs_af (hs_I x % 256) = hs_S x ∧ hs_I x ≤ 256 ∧ 1 ≤ hs_I x := by decide +kernel
theorem hs_I1 : ∀ x, x < 256 → hs_I x ≠ 256 → hs_tq 8 (hs_I x) 0 x = 1 := by decide +kernel
theorem hs_n1 : ∀ x, x < 64 → hs_no x (hs_I x - 1) = true := by decide +kernel
theorem hs_n2 : ∀ x, x < 64 → hs_no (x + 64) (hs_I (x + 64) - 1) = true := by decide +kernel
theorem hs_n3 : ∀ x, x < 64 → hs_no (x + 128) (hs_I (x + 128) - 1) = true := by decide +kernel
theorem hs_n4 : ∀ x, x < 64 → hs_no (x + 192) (hs_I (x + 192) - 1) = true := by decide +kernel
theorem hs_nn {x : Nat} (hx : x < 256) : hs_no x (hs_I x - 1) = true := by
  by_cases h1 : x < 64
  · exact hs_n1 x h1
  · by_cases h2 : x < 128
    · have h := hs_n2 (x - 64) (by omega)
      rwa [show x - 64 + 64 = x by omega] at h
    · by_cases h3 : x < 192
      · have h := hs_n3 (x - 128) (by omega)
        rwa [show x - 128 + 128 = x by omega] at h
      · have h := hs_n4 (x - 192) (by omega)
        rwa [show x - 192 + 192 = x by omega] at h
theorem hs_nof {x : Nat} : ∀ m, hs_no x m = true → ∀ y, 1 ≤ y → y ≤ m → hs_tq 8 y 0 x ≠ 1 := by
  intro m
  induction m with
  | zero => intro _ y h1 h2; omega
  | succ m ih =>
    intro h y h1 h2
    unfold hs_no at h
    rw [Bool.and_eq_true] at h
    by_cases e : y = m + 1
    · subst e
      intro z
      rw [z] at h
      exact absurd h.1 (by decide)
    · exact ih h.2 y h1 (by omega)
theorem hs_Ino {x : Nat} (hx : x < 256) {y : Nat} (h1 : 1 ≤ y) (h2 : y < hs_I x) : hs_tq 8 y 0 x ≠ 1 :=
  hs_nof _ (hs_nn hx) y h1 (by omega)
theorem hs_xc (a b : Nat) : a ^^^ (a ^^^ b) = b := by rw [← Nat.xor_assoc, Nat.xor_self, Nat.zero_xor]
theorem hs_xl (a b c : Nat) : a ^^^ (b ^^^ c) = b ^^^ (a ^^^ c) := by rw [← Nat.xor_assoc, Nat.xor_comm a b, Nat.xor_assoc]
theorem hs_twx (a b : Nat) : hs_tw (a ^^^ b) = hs_tw a ^^^ hs_tw b := by
  have e : (a ^^^ b) / 128 % 2 = (a / 128 % 2) ^^^ (b / 128 % 2) := by
    have h1 : (a ^^^ b) / 2 ^ 7 = a / 2 ^ 7 ^^^ b / 2 ^ 7 := Nat.xor_div_two_pow
    have h2 : (a / 2 ^ 7 ^^^ b / 2 ^ 7) % 2 ^ 1 = a / 2 ^ 7 % 2 ^ 1 ^^^ b / 2 ^ 7 % 2 ^ 1 := Nat.xor_mod_two_pow
    rw [← h1] at h2
    exact h2
  have d : 2 * (a ^^^ b) = (2 * a) ^^^ (2 * b) := by
    apply Nat.eq_of_testBit_eq
    intro i
    rw [Nat.testBit_xor]
    cases i with
    | zero => simp
    | succ i => rw [Nat.testBit_succ, Nat.testBit_succ, Nat.testBit_succ, Nat.mul_div_cancel_left _ (by decide), Nat.mul_div_cancel_left _ (by decide), Nat.mul_div_cancel_left _ (by decide), Nat.testBit_xor]
  unfold hs_tw
  rw [e, d]
  rcases Nat.mod_two_eq_zero_or_one (a / 128) with h1 | h1 <;> rcases Nat.mod_two_eq_zero_or_one (b / 128) with h2 | h2 <;> rw [h1, h2]
  · simp
  · simp [Nat.xor_assoc]
  · simp [Nat.xor_assoc, Nat.xor_comm, hs_xl]
  · show 2 * a ^^^ 2 * b ^^^ 0 = (2 * a ^^^ 283) ^^^ (2 * b ^^^ 283)
    rw [Nat.xor_zero, Nat.xor_assoc (2 * a), hs_xl 283, Nat.xor_self, Nat.xor_zero]
end
section
/-! the rounds on sixteen bytes, and what the words of a column make of them -/
def ha_ak (rk : Nat → Int32) (q : Nat) (p : Nat → Nat) : Nat → Nat := fun j => p j ^^^ hz_by (rk (4 * q + j / 4)) (j % 4)
def ha_sb (p : Nat → Nat) : Nat → Nat := fun j => hs_S (p j)
def ha_rs (p : Nat → Nat) : Nat → Nat := fun j => hs_R (p j)
def ha_sh (p : Nat → Nat) : Nat → Nat := fun j => p ((j % 4 + 4 * (j / 4 + j % 4)) % 16)
def ha_mx (a b c d : Nat) : Nat := ((hs_tw a ^^^ (hs_tw b ^^^ b)) ^^^ c) ^^^ d
def ha_mc (p : Nat → Nat) : Nat → Nat := fun j => ha_mx (p j) (p (j / 4 * 4 + (j + 1) % 4)) (p (j / 4 * 4 + (j + 2) % 4)) (p (j / 4 * 4 + (j + 3) % 4))
def ha_B (p : Nat → Nat) : Prop := ∀ j, j < 16 → p j < 256
def ha_col (p : Nat → Nat) (c : Nat) : Int32 := hz_wd (p (4 * c)) (p (4 * c + 1)) (p (4 * c + 2)) (p (4 * c + 3))
/-- after the rounds up to q -/
def ha_en (rk : Nat → Int32) (p : Nat → Nat) : Nat → (Nat → Nat)
  | 0 => ha_ak rk 0 p
  | q + 1 => ha_ak rk (q + 1) (ha_mc (ha_sh (ha_sb (ha_en rk p q))))
def ha_ef (rk : Nat → Int32) (p : Nat → Nat) : Nat → Nat := ha_ak rk 10 (ha_sh (ha_sb (ha_en rk p 9)))
def ha_i3 (p : Nat → Nat) : Nat → Nat := ha_mc (ha_mc (ha_mc p))
def ha_s3 (p : Nat → Nat) : Nat → Nat := ha_sh (ha_sh (ha_sh p))
/-- on the way back, d rounds behind the first key -/
def ha_de (rk : Nat → Int32) (p : Nat → Nat) : Nat → (Nat → Nat)
  | 0 => ha_ak rk 10 p
  | d + 1 => ha_i3 (ha_ak rk (9 - d) (ha_rs (ha_s3 (ha_de rk p d))))
def ha_df (rk : Nat → Int32) (p : Nat → Nat) : Nat → Nat := ha_ak rk 0 (ha_rs (ha_s3 (ha_de rk p 9)))
theorem ha_Bak {rk : Nat → Int32} {q : Nat} {p : Nat → Nat} (h : ha_B p) : ha_B (ha_ak rk q p) := fun j hj => hz_x8 (h j hj) (hz_byl _ _)
theorem ha_Bsb {p : Nat → Nat} (h : ha_B p) : ha_B (ha_sb p) := fun j hj => hs_Sl _ (h j hj)
theorem ha_Brs {p : Nat → Nat} (h : ha_B p) : ha_B (ha_rs p) := fun j hj => hs_Rl _ (h j hj)
theorem ha_Bsh {p : Nat → Nat} (h : ha_B p) : ha_B (ha_sh p) := fun _ _ => h _ (Nat.mod_lt _ (by decide))
theorem ha_mxl {a b c d : Nat} (ha : a < 256) (hb : b < 256) (hc : c < 256) (hd : d < 256) : ha_mx a b c d < 256 :=
  hz_x8 (hz_x8 (hz_x8 (hs_twl _ ha) (hz_x8 (hs_twl _ hb) hb)) hc) hd
theorem ha_Bmc {p : Nat → Nat} (h : ha_B p) : ha_B (ha_mc p) := fun j hj => ha_mxl (h j hj) (h _ (by omega)) (h _ (by omega)) (h _ (by omega))
theorem ha_Bi3 {p : Nat → Nat} (h : ha_B p) : ha_B (ha_i3 p) := ha_Bmc (ha_Bmc (ha_Bmc h))
theorem ha_Bs3 {p : Nat → Nat} (h : ha_B p) : ha_B (ha_s3 p) := ha_Bsh (ha_Bsh (ha_Bsh h))
theorem ha_Ben {rk : Nat → Int32} {p : Nat → Nat} (h : ha_B p) : ∀ q, ha_B (ha_en rk p q)
  | 0 => ha_Bak h
  | q + 1 => ha_Bak (ha_Bmc (ha_Bsh (ha_Bsb (ha_Ben h q))))
theorem ha_Bef {rk : Nat → Int32} {p : Nat → Nat} (h : ha_B p) : ha_B (ha_ef rk p) := ha_Bak (ha_Bsh (ha_Bsb (ha_Ben h 9)))
theorem ha_Bde {rk : Nat → Int32} {p : Nat → Nat} (h : ha_B p) : ∀ d, ha_B (ha_de rk p d)
  | 0 => ha_Bak h
  | d + 1 => ha_Bi3 (ha_Bak (ha_Brs (ha_Bs3 (ha_Bde h d))))
theorem ha_Bdf {rk : Nat → Int32} {p : Nat → Nat} (h : ha_B p) : ha_B (ha_df rk p) := ha_Bak (ha_Brs (ha_Bs3 (ha_Bde h 9)))
theorem ha_wc {a b c d a' b' c' d' : Nat} (ha : a = a') (hb : b = b') (hc : c = c') (hd : d = d') : hz_wd a b c d = hz_wd a' b' c' d' := by rw [ha, hb, hc, hd]
theorem ha_cx {rk : Nat → Int32} {q : Nat} {p : Nat → Nat} (h : ha_B p) {c : Nat} (hc : c < 4) : ha_col p c ^^^ rk (4 * q + c) = ha_col (ha_ak rk q p) c := by
  unfold ha_col ha_ak
  rw [show 4 * c / 4 = c by omega, show (4 * c + 1) / 4 = c by omega, show (4 * c + 2) / 4 = c by omega, show (4 * c + 3) / 4 = c by omega,
    show 4 * c % 4 = 0 by omega, show (4 * c + 1) % 4 = 1 by omega, show (4 * c + 2) % 4 = 2 by omega, show (4 * c + 3) % 4 = 3 by omega,
    ← hz_wx (h _ (by omega)) (h _ (by omega)) (h _ (by omega)) (h _ (by omega)) (hz_byl _ _) (hz_byl _ _) (hz_byl _ _) (hz_byl _ _), hz_wb]
theorem ha_c0 {p : Nat → Nat} (h : ha_B p) {c : Nat} (hc : c < 4) : hz_by (ha_col p c) 0 = p (4 * c) := hz_b0 (h _ (by omega)) (h _ (by omega)) (h _ (by omega)) (h _ (by omega))
theorem ha_c1 {p : Nat → Nat} (h : ha_B p) {c : Nat} (hc : c < 4) : hz_by (ha_col p c) 1 = p (4 * c + 1) := hz_b1 (h _ (by omega)) (h _ (by omega)) (h _ (by omega)) (h _ (by omega))
theorem ha_c2 {p : Nat → Nat} (h : ha_B p) {c : Nat} (hc : c < 4) : hz_by (ha_col p c) 2 = p (4 * c + 2) := hz_b2 (h _ (by omega)) (h _ (by omega)) (h _ (by omega)) (h _ (by omega))
theorem ha_c3 {p : Nat → Nat} (h : ha_B p) {c : Nat} (hc : c < 4) : hz_by (ha_col p c) 3 = p (4 * c + 3) := hz_b3 (h _ (by omega)) (h _ (by omega)) (h _ (by omega)) (h _ (by omega))
/-- the word of a table forward, backward -/
def ha_F (s : Nat) : Int32 := hz_wd (hs_tw s) s s (hs_tw s ^^^ s)
def ha_m14 (r : Nat) : Nat := (hs_tw (hs_tw (hs_tw r)) ^^^ hs_tw (hs_tw r)) ^^^ hs_tw r
def ha_m9 (r : Nat) : Nat := hs_tw (hs_tw (hs_tw r)) ^^^ r
def ha_m13 (r : Nat) : Nat := (hs_tw (hs_tw (hs_tw r)) ^^^ hs_tw (hs_tw r)) ^^^ r
def ha_m11 (r : Nat) : Nat := (hs_tw (hs_tw (hs_tw r)) ^^^ hs_tw r) ^^^ r
def ha_G (r : Nat) : Int32 := hz_wd (ha_m14 r) (ha_m9 r) (ha_m13 r) (ha_m11 r)
def ha_im (a b c d : Nat) : Nat := ((ha_m14 a ^^^ ha_m11 b) ^^^ ha_m13 c) ^^^ ha_m9 d
theorem ha_l14 {r : Nat} (h : r < 256) : ha_m14 r < 256 := hz_x8 (hz_x8 (hs_twl _ (hs_twl _ (hs_twl _ h))) (hs_twl _ (hs_twl _ h))) (hs_twl _ h)
theorem ha_l9 {r : Nat} (h : r < 256) : ha_m9 r < 256 := hz_x8 (hs_twl _ (hs_twl _ (hs_twl _ h))) h
theorem ha_l13 {r : Nat} (h : r < 256) : ha_m13 r < 256 := hz_x8 (hz_x8 (hs_twl _ (hs_twl _ (hs_twl _ h))) (hs_twl _ (hs_twl _ h))) h
theorem ha_l11 {r : Nat} (h : r < 256) : ha_m11 r < 256 := hz_x8 (hz_x8 (hs_twl _ (hs_twl _ (hs_twl _ h))) (hs_twl _ h)) h
theorem ha_iml {a b c d : Nat} (ha : a < 256) (hb : b < 256) (hc : c < 256) (hd : d < 256) : ha_im a b c d < 256 := hz_x8 (hz_x8 (hz_x8 (ha_l14 ha) (ha_l11 hb)) (ha_l13 hc)) (ha_l9 hd)
theorem ha_fc {a b c d : Nat} (ha : a < 256) (hb : b < 256) (hc : c < 256) (hd : d < 256) :
    ((ha_F a ^^^ hz_ro (ha_F b) 8) ^^^ hz_ro (ha_F c) 16) ^^^ hz_ro (ha_F d) 24 = hz_wd (ha_mx a b c d) (ha_mx b c d a) (ha_mx c d a b) (ha_mx d a b c) := by
  have la := hs_twl _ ha
  have lb := hs_twl _ hb
  have lc := hs_twl _ hc
  have ld := hs_twl _ hd
  have ka := hz_x8 la ha
  have kb := hz_x8 lb hb
  have kc := hz_x8 lc hc
  have kd := hz_x8 ld hd
  unfold ha_F
  rw [hz_r8 lb hb hb kb, hz_r16 lc hc hc kc, hz_r24 ld hd hd kd, hz_wx la ha ha ka kb lb hb hb,
    hz_wx (hz_x8 la kb) (hz_x8 ha lb) (hz_x8 ha hb) (hz_x8 ka hb) hc kc lc hc,
    hz_wx (hz_x8 (hz_x8 la kb) hc) (hz_x8 (hz_x8 ha lb) kc) (hz_x8 (hz_x8 ha hb) lc) (hz_x8 (hz_x8 ka hb) hc) hd hd kd ld]
  unfold ha_mx
  apply ha_wc
  · rfl
  · simp only [Nat.xor_assoc, Nat.xor_comm, hs_xl]
  · simp only [Nat.xor_assoc, Nat.xor_comm, hs_xl]
  · simp only [Nat.xor_assoc, Nat.xor_comm, hs_xl]
theorem ha_gc {a b c d : Nat} (ha : a < 256) (hb : b < 256) (hc : c < 256) (hd : d < 256) :
    ((ha_G a ^^^ hz_ro (ha_G b) 8) ^^^ hz_ro (ha_G c) 16) ^^^ hz_ro (ha_G d) 24 = hz_wd (ha_im a b c d) (ha_im b c d a) (ha_im c d a b) (ha_im d a b c) := by
  unfold ha_G
  rw [hz_r8 (ha_l14 hb) (ha_l9 hb) (ha_l13 hb) (ha_l11 hb), hz_r16 (ha_l14 hc) (ha_l9 hc) (ha_l13 hc) (ha_l11 hc), hz_r24 (ha_l14 hd) (ha_l9 hd) (ha_l13 hd) (ha_l11 hd),
    hz_wx (ha_l14 ha) (ha_l9 ha) (ha_l13 ha) (ha_l11 ha) (ha_l11 hb) (ha_l14 hb) (ha_l9 hb) (ha_l13 hb),
    hz_wx (hz_x8 (ha_l14 ha) (ha_l11 hb)) (hz_x8 (ha_l9 ha) (ha_l14 hb)) (hz_x8 (ha_l13 ha) (ha_l9 hb)) (hz_x8 (ha_l11 ha) (ha_l13 hb)) (ha_l13 hc) (ha_l11 hc) (ha_l14 hc) (ha_l9 hc),
    hz_wx (hz_x8 (hz_x8 (ha_l14 ha) (ha_l11 hb)) (ha_l13 hc)) (hz_x8 (hz_x8 (ha_l9 ha) (ha_l14 hb)) (ha_l11 hc)) (hz_x8 (hz_x8 (ha_l13 ha) (ha_l9 hb)) (ha_l14 hc)) (hz_x8 (hz_x8 (ha_l11 ha) (ha_l13 hb)) (ha_l9 hc)) (ha_l9 hd) (ha_l13 hd) (ha_l11 hd) (ha_l14 hd)]
  unfold ha_im
  apply ha_wc
  · rfl
  · simp only [Nat.xor_assoc, Nat.xor_comm, hs_xl]
  · simp only [Nat.xor_assoc, Nat.xor_comm, hs_xl]
  · simp only [Nat.xor_assoc, Nat.xor_comm, hs_xl]
theorem ha_imx (a b c d a' b' c' d' : Nat) : ha_im (a ^^^ a') (b ^^^ b') (c ^^^ c') (d ^^^ d') = ha_im a b c d ^^^ ha_im a' b' c' d' := by
  unfold ha_im ha_m14 ha_m11 ha_m13 ha_m9
  simp only [hs_twx, Nat.xor_assoc, Nat.xor_comm, hs_xl]
def ha_m2 (a c : Nat) : Nat := (hs_tw (hs_tw a) ^^^ a) ^^^ hs_tw (hs_tw c)
theorem ha_mm (a b c d : Nat) : ha_mx (ha_mx a b c d) (ha_mx b c d a) (ha_mx c d a b) (ha_mx d a b c) = ha_m2 a c := by
  unfold ha_mx ha_m2
  simp only [hs_twx, Nat.xor_assoc, Nat.xor_comm, hs_xl, hs_xc, Nat.xor_self, Nat.xor_zero, Nat.zero_xor]
theorem ha_m3 (a b c d : Nat) : ha_m2 (ha_mx a b c d) (ha_mx c d a b) = ha_im a b c d := by
  unfold ha_mx ha_m2 ha_im ha_m14 ha_m11 ha_m13 ha_m9
  simp only [hs_twx, Nat.xor_assoc, Nat.xor_comm, hs_xl, hs_xc, Nat.xor_self, Nat.xor_zero, Nat.zero_xor]
theorem ha_mc0 (p : Nat → Nat) (c : Nat) : ha_mc p (4 * c) = ha_mx (p (4 * c)) (p (4 * c + 1)) (p (4 * c + 2)) (p (4 * c + 3)) := by
  unfold ha_mc
  rw [show 4 * c / 4 * 4 + (4 * c + 1) % 4 = 4 * c + 1 by omega, show 4 * c / 4 * 4 + (4 * c + 2) % 4 = 4 * c + 2 by omega, show 4 * c / 4 * 4 + (4 * c + 3) % 4 = 4 * c + 3 by omega]
theorem ha_mc1 (p : Nat → Nat) (c : Nat) : ha_mc p (4 * c + 1) = ha_mx (p (4 * c + 1)) (p (4 * c + 2)) (p (4 * c + 3)) (p (4 * c)) := by
  unfold ha_mc
  rw [show (4 * c + 1) / 4 * 4 + (4 * c + 1 + 1) % 4 = 4 * c + 2 by omega, show (4 * c + 1) / 4 * 4 + (4 * c + 1 + 2) % 4 = 4 * c + 3 by omega, show (4 * c + 1) / 4 * 4 + (4 * c + 1 + 3) % 4 = 4 * c by omega]
theorem ha_mc2 (p : Nat → Nat) (c : Nat) : ha_mc p (4 * c + 2) = ha_mx (p (4 * c + 2)) (p (4 * c + 3)) (p (4 * c)) (p (4 * c + 1)) := by
  unfold ha_mc
  rw [show (4 * c + 2) / 4 * 4 + (4 * c + 2 + 1) % 4 = 4 * c + 3 by omega, show (4 * c + 2) / 4 * 4 + (4 * c + 2 + 2) % 4 = 4 * c by omega, show (4 * c + 2) / 4 * 4 + (4 * c + 2 + 3) % 4 = 4 * c + 1 by omega]
theorem ha_mc3 (p : Nat → Nat) (c : Nat) : ha_mc p (4 * c + 3) = ha_mx (p (4 * c + 3)) (p (4 * c)) (p (4 * c + 1)) (p (4 * c + 2)) := by
  unfold ha_mc
  rw [show (4 * c + 3) / 4 * 4 + (4 * c + 3 + 1) % 4 = 4 * c by omega, show (4 * c + 3) / 4 * 4 + (4 * c + 3 + 2) % 4 = 4 * c + 1 by omega, show (4 * c + 3) / 4 * 4 + (4 * c + 3 + 3) % 4 = 4 * c + 2 by omega]
theorem ha_i30 (p : Nat → Nat) (c : Nat) : ha_i3 p (4 * c) = ha_im (p (4 * c)) (p (4 * c + 1)) (p (4 * c + 2)) (p (4 * c + 3)) := by
  unfold ha_i3
  simp only [ha_mc0, ha_mc1, ha_mc2, ha_mc3]
  rw [ha_mm, ha_m3]
theorem ha_i31 (p : Nat → Nat) (c : Nat) : ha_i3 p (4 * c + 1) = ha_im (p (4 * c + 1)) (p (4 * c + 2)) (p (4 * c + 3)) (p (4 * c)) := by
  unfold ha_i3
  simp only [ha_mc0, ha_mc1, ha_mc2, ha_mc3]
  rw [ha_mm, ha_m3]
theorem ha_i32 (p : Nat → Nat) (c : Nat) : ha_i3 p (4 * c + 2) = ha_im (p (4 * c + 2)) (p (4 * c + 3)) (p (4 * c)) (p (4 * c + 1)) := by
  unfold ha_i3
  simp only [ha_mc0, ha_mc1, ha_mc2, ha_mc3]
  rw [ha_mm, ha_m3]
theorem ha_i33 (p : Nat → Nat) (c : Nat) : ha_i3 p (4 * c + 3) = ha_im (p (4 * c + 3)) (p (4 * c)) (p (4 * c + 1)) (p (4 * c + 2)) := by
  unfold ha_i3
  simp only [ha_mc0, ha_mc1, ha_mc2, ha_mc3]
  rw [ha_mm, ha_m3]
theorem ha_sh0 (p : Nat → Nat) {c : Nat} (hc : c < 4) : ha_sh p (4 * c) = p (4 * c) := congrArg p (by omega)
theorem ha_sh1 (p : Nat → Nat) {c : Nat} (hc : c < 4) : ha_sh p (4 * c + 1) = p (4 * ((c + 1) % 4) + 1) := congrArg p (by omega)
theorem ha_sh2 (p : Nat → Nat) {c : Nat} (hc : c < 4) : ha_sh p (4 * c + 2) = p (4 * ((c + 2) % 4) + 2) := congrArg p (by omega)
theorem ha_sh3 (p : Nat → Nat) {c : Nat} (hc : c < 4) : ha_sh p (4 * c + 3) = p (4 * ((c + 3) % 4) + 3) := congrArg p (by omega)
theorem ha_s30 (p : Nat → Nat) {c : Nat} (hc : c < 4) : ha_s3 p (4 * c) = p (4 * c) := by
  unfold ha_s3
  rw [ha_sh0 _ hc, ha_sh0 _ hc, ha_sh0 _ hc]
theorem ha_s31 (p : Nat → Nat) {c : Nat} (hc : c < 4) : ha_s3 p (4 * c + 1) = p (4 * ((c + 3) % 4) + 1) := by
  unfold ha_s3
  rw [ha_sh1 _ hc, ha_sh1 _ (Nat.mod_lt _ (by decide)), ha_sh1 _ (Nat.mod_lt _ (by decide))]
  exact congrArg p (by omega)
theorem ha_s32 (p : Nat → Nat) {c : Nat} (hc : c < 4) : ha_s3 p (4 * c + 2) = p (4 * ((c + 2) % 4) + 2) := by
  unfold ha_s3
  rw [ha_sh2 _ hc, ha_sh2 _ (Nat.mod_lt _ (by decide)), ha_sh2 _ (Nat.mod_lt _ (by decide))]
  exact congrArg p (by omega)
theorem ha_s33 (p : Nat → Nat) {c : Nat} (hc : c < 4) : ha_s3 p (4 * c + 3) = p (4 * ((c + 1) % 4) + 3) := by
  unfold ha_s3
  rw [ha_sh3 _ hc, ha_sh3 _ (Nat.mod_lt _ (by decide)), ha_sh3 _ (Nat.mod_lt _ (by decide))]
  exact congrArg p (by omega)
/-- what the tables hold -/
def ha_TS (a : Nat → Int32) : Prop := ∀ x, x < 256 → a x = nI (hs_S x)
def ha_TR (a : Nat → Int32) : Prop := ∀ x, x < 256 → a x = nI (hs_R x)
def ha_TF (a : Nat → Int32) : Prop := ∀ x, x < 256 → a x = ha_F (hs_S x)
def ha_TB (a : Nat → Int32) : Prop := ∀ x, x < 256 → a x = ha_G (hs_R x)
/-- four words hold the sixteen bytes -/
def ha_W (st : Nat → Int32) (p : Nat → Nat) : Prop := ∀ c, c < 4 → st c = ha_col p c
theorem ha_f1 {st fw : Nat → Int32} {p : Nat → Nat} (T : ha_TF fw) (h : ha_B p) (w : ha_W st p) {c : Nat} (hc : c < 4) :
    ((fw (hz_by (st c) 0) ^^^ hz_ro (fw (hz_by (st ((c + 1) % 4)) 1)) 8) ^^^ hz_ro (fw (hz_by (st ((c + 2) % 4)) 2)) 16) ^^^ hz_ro (fw (hz_by (st ((c + 3) % 4)) 3)) 24
      = ha_col (ha_mc (ha_sh (ha_sb p))) c := by
  have e1 : (c + 1) % 4 < 4 := Nat.mod_lt _ (by decide)
  have e2 : (c + 2) % 4 < 4 := Nat.mod_lt _ (by decide)
  have e3 : (c + 3) % 4 < 4 := Nat.mod_lt _ (by decide)
  rw [w c hc, w _ e1, w _ e2, w _ e3, ha_c0 h hc, ha_c1 h e1, ha_c2 h e2, ha_c3 h e3,
    T _ (h _ (by omega)), T _ (h _ (by omega)), T _ (h _ (by omega)), T _ (h _ (by omega)),
    ha_fc (hs_Sl _ (h _ (by omega))) (hs_Sl _ (h _ (by omega))) (hs_Sl _ (h _ (by omega))) (hs_Sl _ (h _ (by omega)))]
  unfold ha_col
  rw [ha_mc0, ha_mc1, ha_mc2, ha_mc3, ha_sh0 _ hc, ha_sh1 _ hc, ha_sh2 _ hc, ha_sh3 _ hc]
  rfl
theorem ha_f2 {st : Nat → Int32} {p : Nat → Nat} (h : ha_B p) (w : ha_W st p) {c : Nat} (hc : c < 4) :
    hz_wd (hs_S (hz_by (st c) 0)) (hs_S (hz_by (st ((c + 1) % 4)) 1)) (hs_S (hz_by (st ((c + 2) % 4)) 2)) (hs_S (hz_by (st ((c + 3) % 4)) 3))
      = ha_col (ha_sh (ha_sb p)) c := by
  have e1 : (c + 1) % 4 < 4 := Nat.mod_lt _ (by decide)
  have e2 : (c + 2) % 4 < 4 := Nat.mod_lt _ (by decide)
  have e3 : (c + 3) % 4 < 4 := Nat.mod_lt _ (by decide)
  rw [w c hc, w _ e1, w _ e2, w _ e3, ha_c0 h hc, ha_c1 h e1, ha_c2 h e2, ha_c3 h e3]
  unfold ha_col
  rw [ha_sh0 _ hc, ha_sh1 _ hc, ha_sh2 _ hc, ha_sh3 _ hc]
  rfl
theorem ha_b1 {st bw : Nat → Int32} {p : Nat → Nat} (T : ha_TB bw) (h : ha_B p) (w : ha_W st p) {c : Nat} (hc : c < 4) :
    ((bw (hz_by (st c) 0) ^^^ hz_ro (bw (hz_by (st ((c + 3) % 4)) 1)) 8) ^^^ hz_ro (bw (hz_by (st ((c + 2) % 4)) 2)) 16) ^^^ hz_ro (bw (hz_by (st ((c + 1) % 4)) 3)) 24
      = ha_col (ha_i3 (ha_rs (ha_s3 p))) c := by
  have e1 : (c + 1) % 4 < 4 := Nat.mod_lt _ (by decide)
  have e2 : (c + 2) % 4 < 4 := Nat.mod_lt _ (by decide)
  have e3 : (c + 3) % 4 < 4 := Nat.mod_lt _ (by decide)
  rw [w c hc, w _ e1, w _ e2, w _ e3, ha_c0 h hc, ha_c1 h e3, ha_c2 h e2, ha_c3 h e1,
    T _ (h _ (by omega)), T _ (h _ (by omega)), T _ (h _ (by omega)), T _ (h _ (by omega)),
    ha_gc (hs_Rl _ (h _ (by omega))) (hs_Rl _ (h _ (by omega))) (hs_Rl _ (h _ (by omega))) (hs_Rl _ (h _ (by omega)))]
  unfold ha_col
  rw [ha_i30, ha_i31, ha_i32, ha_i33]
  unfold ha_rs
  rw [ha_s30 _ hc, ha_s31 _ hc, ha_s32 _ hc, ha_s33 _ hc]
theorem ha_b2 {st : Nat → Int32} {p : Nat → Nat} (h : ha_B p) (w : ha_W st p) {c : Nat} (hc : c < 4) :
    hz_wd (hs_R (hz_by (st c) 0)) (hs_R (hz_by (st ((c + 3) % 4)) 1)) (hs_R (hz_by (st ((c + 2) % 4)) 2)) (hs_R (hz_by (st ((c + 1) % 4)) 3))
      = ha_col (ha_rs (ha_s3 p)) c := by
  have e1 : (c + 1) % 4 < 4 := Nat.mod_lt _ (by decide)
  have e2 : (c + 2) % 4 < 4 := Nat.mod_lt _ (by decide)
  have e3 : (c + 3) % 4 < 4 := Nat.mod_lt _ (by decide)
  rw [w c hc, w _ e1, w _ e2, w _ e3, ha_c0 h hc, ha_c1 h e3, ha_c2 h e2, ha_c3 h e1]
  unfold ha_col ha_rs
  rw [ha_s30 _ hc, ha_s31 _ hc, ha_s32 _ hc, ha_s33 _ hc]
/-- the mixing back of a word -/
def ha_tm (w : Int32) : Int32 := hz_wd (ha_im (hz_by w 0) (hz_by w 1) (hz_by w 2) (hz_by w 3)) (ha_im (hz_by w 1) (hz_by w 2) (hz_by w 3) (hz_by w 0)) (ha_im (hz_by w 2) (hz_by w 3) (hz_by w 0) (hz_by w 1)) (ha_im (hz_by w 3) (hz_by w 0) (hz_by w 1) (hz_by w 2))
theorem ha_b3 {bw : Nat → Int32} (T : ha_TB bw) (w : Int32) :
    ((bw (hs_S (hz_by w 0)) ^^^ hz_ro (bw (hs_S (hz_by w 1))) 8) ^^^ hz_ro (bw (hs_S (hz_by w 2))) 16) ^^^ hz_ro (bw (hs_S (hz_by w 3))) 24 = ha_tm w := by
  rw [T _ (hs_Sl _ (hz_byl _ _)), T _ (hs_Sl _ (hz_byl _ _)), T _ (hs_Sl _ (hz_byl _ _)), T _ (hs_Sl _ (hz_byl _ _)),
    hs_RS _ (hz_byl _ _), hs_RS _ (hz_byl _ _), hs_RS _ (hz_byl _ _), hs_RS _ (hz_byl _ _), ha_gc (hz_byl _ _) (hz_byl _ _) (hz_byl _ _) (hz_byl _ _)]
  rfl
theorem ha_b4 {rk : Nat → Int32} {q : Nat} {y : Nat → Nat} (h : ha_B y) {c : Nat} (hc : c < 4) :
    ha_col (ha_i3 y) c ^^^ ha_tm (rk (4 * q + c)) = ha_col (ha_i3 (ha_ak rk q y)) c := by
  unfold ha_col ha_tm
  rw [ha_i30, ha_i31, ha_i32, ha_i33, ha_i30, ha_i31, ha_i32, ha_i33]
  have y0 := h (4 * c) (by omega)
  have y1 := h (4 * c + 1) (by omega)
  have y2 := h (4 * c + 2) (by omega)
  have y3 := h (4 * c + 3) (by omega)
  rw [hz_wx (ha_iml y0 y1 y2 y3) (ha_iml y1 y2 y3 y0) (ha_iml y2 y3 y0 y1) (ha_iml y3 y0 y1 y2)
    (ha_iml (hz_byl _ _) (hz_byl _ _) (hz_byl _ _) (hz_byl _ _)) (ha_iml (hz_byl _ _) (hz_byl _ _) (hz_byl _ _) (hz_byl _ _)) (ha_iml (hz_byl _ _) (hz_byl _ _) (hz_byl _ _) (hz_byl _ _)) (ha_iml (hz_byl _ _) (hz_byl _ _) (hz_byl _ _) (hz_byl _ _)),
    ← ha_imx, ← ha_imx, ← ha_imx, ← ha_imx]
  unfold ha_ak
  rw [show 4 * c / 4 = c by omega, show (4 * c + 1) / 4 = c by omega, show (4 * c + 2) / 4 = c by omega, show (4 * c + 3) / 4 = c by omega,
    show 4 * c % 4 = 0 by omega, show (4 * c + 1) % 4 = 1 by omega, show (4 * c + 2) % 4 = 2 by omega, show (4 * c + 3) % 4 = 3 by omega]
/-- the bytes of four words -/
def ha_lay (w : Nat → Int32) : Nat → Nat := fun j => hz_by (w (j / 4)) (j % 4)
theorem ha_Blay (w : Nat → Int32) : ha_B (ha_lay w) := fun _ _ => hz_byl _ _
theorem ha_clay (w : Nat → Int32) : ha_W w (ha_lay w) := by
  intro c hc
  unfold ha_col ha_lay
  rw [show 4 * c / 4 = c by omega, show (4 * c + 1) / 4 = c by omega, show (4 * c + 2) / 4 = c by omega, show (4 * c + 3) / 4 = c by omega,
    show 4 * c % 4 = 0 by omega, show (4 * c + 1) % 4 = 1 by omega, show (4 * c + 2) % 4 = 2 by omega, show (4 * c + 3) % 4 = 3 by omega, hz_wb]
end
section
/-! the hash: a block of four words, moved by one bit or by four -/
def hg_u (k : Nat) (x : Int32) : Int32 := (x.toUInt32 >>> ((nI k).toUInt32 &&& Int32.toUInt32 31)).toInt32
def hg_E : Int32 := -520093696
def hg_e (w : Int32) : Int32 := if w &&& 1 = 0 then 0 else hg_E
def hg_x (a b : Nat → Int32) : Nat → Int32 := fun c => a c ^^^ b c
def hg_M (v : Nat → Int32) : Nat → Int32 := fun c => if c = 0 then hg_u 1 (v 0) ^^^ hg_e (v 3) else hg_u 1 (v c) ||| (v (c - 1) <<< (nI 31 &&& 31))
def hg_fs (x : Int32) : Nat → Int32
  | 0 => 0
  | k + 1 => hg_u 1 (hg_fs x k) ^^^ hg_e (hg_u k x)
def hg_S4 (v : Nat → Int32) : Nat → Int32 := fun c => if c = 0 then hg_u 4 (v 0) ^^^ hg_fs (v 3 &&& 15) 4 else hg_u 4 (v c) ||| (v (c - 1) <<< (nI 28 &&& 31))
def hg_sel (b : Bool) (v : Nat → Int32) : Nat → Int32 := fun c => if b = true then v c else 0
def hg_0 : Nat → Int32 := fun _ => 0
theorem hg_ub {k : Nat} (hk : k < 32) (x : Int32) (i : Nat) : bt (hg_u k x) i = bt x (k + i) := b_ushr k hk x i
theorem hg_1b (i : Nat) : bt 1 i = decide (i = 0) := by
  rcases Nat.lt_or_ge i 32 with h | h
  · exact (by decide +kernel : ∀ i, i < 32 → bt 1 i = decide (i = 0)) i h
  · rw [b_big h, decide_eq_false (by omega)]
theorem hg_1 (w : Int32) : w &&& 1 = 0 ↔ bt w 0 = false := by
  constructor
  · intro h
    have h2 : bt (w &&& 1) 0 = bt 0 0 := by rw [h]
    rw [b_and, hg_1b, b_0] at h2
    simpa using h2
  · intro h
    apply b_ext
    intro i hi
    rw [b_and, hg_1b, b_0]
    by_cases e : i = 0
    · subst e; rw [h]; rfl
    · rw [decide_eq_false e, Bool.and_false]
theorem hg_1' (w : Int32) : w &&& 1 = 1 ↔ bt w 0 = true := by
  constructor
  · intro h
    have h2 : bt (w &&& 1) 0 = bt 1 0 := by rw [h]
    rw [b_and, hg_1b] at h2
    simpa using h2
  · intro h
    apply b_ext
    intro i hi
    rw [b_and, hg_1b]
    by_cases e : i = 0
    · subst e; rw [h]; rfl
    · rw [decide_eq_false e, Bool.and_false]
theorem hg_eb (w : Int32) (i : Nat) : bt (hg_e w) i = (bt w 0 && bt hg_E i) := by
  unfold hg_e
  by_cases h : w &&& 1 = 0
  · rw [if_pos h, (hg_1 w).mp h, b_0]; rfl
  · rw [if_neg h]
    have h2 : bt w 0 = true := by
      cases e : bt w 0
      · exact absurd ((hg_1 w).mpr e) h
      · rfl
    rw [h2]; rfl
theorem hg_Eb : ∀ i, i < 24 → bt hg_E i = false := by decide +kernel
theorem hg_b0 (v : Nat → Int32) (i : Nat) : bt (hg_M v 0) i = (bt (v 0) (i + 1) ^^ (bt (v 3) 0 && bt hg_E i)) := by
  show bt (hg_u 1 (v 0) ^^^ hg_e (v 3)) i = _
  rw [b_xor, hg_ub (by decide), hg_eb, Nat.add_comm 1 i]
theorem hg_bc (v : Nat → Int32) {c i : Nat} (hc : c ≠ 0) (hi : i < 32) : bt (hg_M v c) i = (bt (v c) (i + 1) || (decide (31 ≤ i) && bt (v (c - 1)) (i - 31))) := by
  unfold hg_M
  rw [if_neg hc, b_or, hg_ub (by decide), b_shl 31 (by decide) _ hi, Nat.add_comm 1 i]
theorem hg_bs (v : Nat → Int32) {c i : Nat} (hc : c ≠ 0) (hi : i < 31) : bt (hg_M v c) i = bt (v c) (i + 1) := by
  rw [hg_bc v hc (by omega), decide_eq_false (by omega), Bool.false_and, Bool.or_false]
theorem hg_bt (v : Nat → Int32) {c : Nat} (hc : c ≠ 0) : bt (hg_M v c) 31 = bt (v (c - 1)) 0 := by
  rw [hg_bc v hc (by omega), b_big (by omega)]
  simp
theorem hg_bl (v : Nat → Int32) {c i : Nat} (hi : i < 24) : bt (hg_M v c) i = bt (v c) (i + 1) := by
  by_cases hc : c = 0
  · subst hc
    rw [hg_b0, hg_Eb i hi, Bool.and_false, Bool.xor_false]
  · exact hg_bs v hc (by omega)
theorem hg_Mx (a b : Nat → Int32) : hg_M (hg_x a b) = hg_x (hg_M a) (hg_M b) := by
  funext c
  apply b_ext
  intro i hi
  show bt (hg_M (hg_x a b) c) i = bt (hg_M a c ^^^ hg_M b c) i
  rw [b_xor]
  by_cases hc : c = 0
  · subst hc
    rw [hg_b0, hg_b0, hg_b0]
    unfold hg_x
    rw [b_xor, b_xor]
    cases bt (a 0) (i + 1) <;> cases bt (b 0) (i + 1) <;> cases bt (a 3) 0 <;> cases bt (b 3) 0 <;> cases bt hg_E i <;> rfl
  · by_cases h : i < 31
    · rw [hg_bs _ hc h, hg_bs _ hc h, hg_bs _ hc h]
      unfold hg_x
      rw [b_xor]
    · have e : i = 31 := by omega
      subst e
      rw [hg_bt _ hc, hg_bt _ hc, hg_bt _ hc]
      unfold hg_x
      rw [b_xor]
theorem hg_M0 : hg_M hg_0 = hg_0 := by
  funext c
  apply b_ext
  intro i hi
  show bt (hg_M hg_0 c) i = bt 0 i
  by_cases hc : c = 0
  · subst hc
    rw [hg_b0]
    show (bt 0 (i + 1) ^^ (bt 0 0 && bt hg_E i)) = bt 0 i
    rw [b_0, b_0, b_0]; rfl
  · rw [hg_bc _ hc hi]
    show (bt 0 (i + 1) || (decide (31 ≤ i) && bt 0 (i - 31))) = bt 0 i
    rw [b_0, b_0, b_0]; simp
theorem hg_selt (v : Nat → Int32) : hg_sel true v = v := rfl
theorem hg_self (v : Nat → Int32) : hg_sel false v = hg_0 := rfl
theorem hg_Msel (b : Bool) (v : Nat → Int32) : hg_M (hg_sel b v) = hg_sel b (hg_M v) := by
  cases b
  · rw [hg_self, hg_self, hg_M0]
  · rw [hg_selt, hg_selt]
theorem hg_fb (x : Int32) (i : Nat) : bt (hg_fs x 4) i = (bt x 0 && bt hg_E (i + 3) ^^ (bt x 1 && bt hg_E (i + 2)) ^^ (bt x 2 && bt hg_E (i + 1)) ^^ (bt x 3 && bt hg_E i)) := by
  unfold hg_fs hg_fs hg_fs hg_fs hg_fs
  rw [b_xor, hg_ub (by decide), b_xor, hg_ub (by decide), b_xor, hg_ub (by decide), b_xor, hg_ub (by decide), b_0, hg_eb, hg_eb, hg_eb, hg_eb, hg_ub (by decide), hg_ub (by decide), hg_ub (by decide), hg_ub (by decide)]
  rw [show 1 + (1 + (1 + i)) = i + 3 by omega, show 1 + (1 + i) = i + 2 by omega, show 1 + i = i + 1 by omega, Bool.false_xor]
theorem hg_15 (i : Nat) : bt 15 i = decide (i < 4) := by
  rcases Nat.lt_or_ge i 32 with h | h
  · exact (by decide +kernel : ∀ i, i < 32 → bt 15 i = decide (i < 4)) i h
  · rw [b_big h, decide_eq_false (by omega)]
theorem hg_m4 (v : Nat → Int32) : hg_M (hg_M (hg_M (hg_M v))) = hg_S4 v := by
  funext c
  apply b_ext
  intro i hi
  unfold hg_S4
  by_cases hc : c = 0
  · subst hc
    rw [if_pos rfl, b_xor, hg_ub (by decide), hg_fb, b_and, b_and, b_and, b_and, hg_15, hg_15, hg_15, hg_15,
      hg_b0, hg_b0, hg_b0, hg_b0, hg_bl _ (by decide), hg_bl _ (by decide), hg_bl _ (by decide), hg_bl _ (by decide), hg_bl _ (by decide), hg_bl _ (by decide),
      show i + 1 + 1 + 1 + 1 = 4 + i by omega, show i + 1 + 1 + 1 = i + 3 by omega, show i + 1 + 1 = i + 2 by omega]
    simp only [Nat.zero_add, Nat.reduceAdd, Nat.reduceLT, decide_true, Bool.and_true]
    simp only [Bool.xor_assoc]
  · rw [if_neg hc, b_or, hg_ub (by decide), b_shl 28 (by decide) _ hi]
    by_cases h : i < 28
    · rw [hg_bs _ hc (by omega), hg_bs _ hc (by omega), hg_bs _ hc (by omega), hg_bs _ hc (by omega), decide_eq_false (by omega), Bool.false_and, Bool.or_false]
      exact congrArg _ (by omega)
    · rw [b_big (x := v c) (i := 4 + i) (by omega), decide_eq_true (by omega), Bool.true_and, Bool.false_or]
      by_cases h8 : i = 28
      · subst h8
        rw [hg_bs _ hc (by omega), hg_bs _ hc (by omega), hg_bs _ hc (by omega), hg_bt _ hc]
      · by_cases h9 : i = 29
        · subst h9
          rw [hg_bs _ hc (by omega), hg_bs _ hc (by omega), hg_bt _ hc, hg_bl _ (by omega)]
        · by_cases h10 : i = 30
          · subst h10
            rw [hg_bs _ hc (by omega), hg_bt _ hc, hg_bl _ (by omega), hg_bl _ (by omega)]
          · have h11 : i = 31 := by omega
            subst h11
            rw [hg_bt _ hc, hg_bl _ (by omega), hg_bl _ (by omega), hg_bl _ (by omega)]
/-- bit j of a block, from above -/
def hg_zb (z : Nat → Int32) (j : Nat) : Bool := bt (z (j / 32)) (31 - j % 32)
def hg_I : Nat → (Nat → Int32) → (Nat → Int32)
  | 0, v => v
  | k + 1, v => hg_M (hg_I k v)
/-- the reference's sum, and the sum of the last k bits from bit i on -/
def hg_G (z H : Nat → Int32) : Nat → (Nat → Int32)
  | 0 => hg_0
  | i + 1 => hg_x (hg_G z H i) (hg_sel (hg_zb z i) (hg_I i H))
def hg_T (z H : Nat → Int32) : Nat → Nat → (Nat → Int32)
  | 0, _ => hg_0
  | k + 1, i => hg_x (hg_sel (hg_zb z i) H) (hg_M (hg_T z H k (i + 1)))
theorem hg_xa (a b c : Nat → Int32) : hg_x (hg_x a b) c = hg_x a (hg_x b c) := by funext i; exact Int32.xor_assoc _ _ _
theorem hg_x0 (a : Nat → Int32) : hg_x a hg_0 = a := by funext i; exact Int32.xor_zero
theorem hg_0x (a : Nat → Int32) : hg_x hg_0 a = a := by funext i; exact Int32.zero_xor
theorem hg_Ix : ∀ (k : Nat) (a b : Nat → Int32), hg_I k (hg_x a b) = hg_x (hg_I k a) (hg_I k b)
  | 0, _, _ => rfl
  | k + 1, a, b => by
    show hg_M (hg_I k (hg_x a b)) = _
    rw [hg_Ix k, hg_Mx]; rfl
theorem hg_I0 : ∀ k : Nat, hg_I k hg_0 = hg_0
  | 0 => rfl
  | k + 1 => by
    show hg_M (hg_I k hg_0) = _
    rw [hg_I0 k, hg_M0]
theorem hg_Isel (k : Nat) (b : Bool) (v : Nat → Int32) : hg_I k (hg_sel b v) = hg_sel b (hg_I k v) := by
  cases b
  · rw [hg_self, hg_self, hg_I0]
  · rw [hg_selt, hg_selt]
theorem hg_IM : ∀ (k : Nat) (v : Nat → Int32), hg_I k (hg_M v) = hg_I (k + 1) v
  | 0, _ => rfl
  | k + 1, v => by
    show hg_M (hg_I k (hg_M v)) = hg_M (hg_I (k + 1) v)
    rw [hg_IM k]
theorem hg_GT (z H : Nat → Int32) : ∀ k i : Nat, hg_x (hg_G z H i) (hg_I i (hg_T z H k i)) = hg_G z H (i + k) := by
  intro k
  induction k with
  | zero =>
    intro i
    show hg_x (hg_G z H i) (hg_I i hg_0) = hg_G z H i
    rw [hg_I0, hg_x0]
  | succ k ih =>
    intro i
    show hg_x (hg_G z H i) (hg_I i (hg_x (hg_sel (hg_zb z i) H) (hg_M (hg_T z H k (i + 1))))) = _
    rw [hg_Ix, hg_Isel, hg_IM, ← hg_xa]
    have h := ih (i + 1)
    rw [show i + 1 + k = i + (k + 1) by omega] at h
    exact h
theorem hg_TG (z H : Nat → Int32) : hg_T z H 128 0 = hg_G z H 128 := by
  have h := hg_GT z H 128 0
  rw [Nat.zero_add] at h
  rw [← h]
  exact (hg_0x _).symm
/-- the multiple of the hash key by four bits -/
def hg_gm (H : Nat → Int32) (b : Nat) : Nat → Int32 := hg_x (hg_sel (b.testBit 3) H) (hg_x (hg_sel (b.testBit 2) (hg_M H)) (hg_x (hg_sel (b.testBit 1) (hg_M (hg_M H))) (hg_sel (b.testBit 0) (hg_M (hg_M (hg_M H))))))
def hg_nb (w : Int32) (k : Nat) : Nat := w.toBitVec.toNat / 2 ^ (28 - 4 * k) % 16
theorem hg_nbl (w : Int32) (k : Nat) : hg_nb w k < 16 := Nat.mod_lt _ (by decide)
theorem hg_nbt (w : Int32) (k j : Nat) : (hg_nb w k).testBit j = (decide (j < 4) && bt w (28 - 4 * k + j)) := by
  unfold hg_nb bt
  rw [show (16 : Nat) = 2 ^ 4 from rfl, Nat.testBit_mod_two_pow, Nat.testBit_div_two_pow, BitVec.testBit_toNat, Nat.add_comm j]
theorem hg_nz (z : Nat → Int32) {n t : Nat} (ht : t < 4) : (hg_nb (z (n / 8)) (n % 8)).testBit (3 - t) = hg_zb z (4 * n + t) := by
  unfold hg_zb
  rw [hg_nbt, decide_eq_true (by omega), Bool.true_and, show (4 * n + t) / 32 = n / 8 by omega, show 28 - 4 * (n % 8) + (3 - t) = 31 - (4 * n + t) % 32 by omega]
theorem hg_T4 (z H : Nat → Int32) (k n : Nat) : hg_T z H (k + 4) (4 * n) = hg_x (hg_S4 (hg_T z H k (4 * (n + 1)))) (hg_gm H (hg_nb (z (n / 8)) (n % 8))) := by
  show hg_x (hg_sel (hg_zb z (4 * n)) H) (hg_M (hg_x (hg_sel (hg_zb z (4 * n + 1)) H) (hg_M (hg_x (hg_sel (hg_zb z (4 * n + 2)) H) (hg_M (hg_x (hg_sel (hg_zb z (4 * n + 3)) H) (hg_M (hg_T z H k (4 * n + 4))))))))) = _
  have e0 := hg_nz z (n := n) (t := 0) (by decide)
  have e1 := hg_nz z (n := n) (t := 1) (by decide)
  have e2 := hg_nz z (n := n) (t := 2) (by decide)
  have e3 := hg_nz z (n := n) (t := 3) (by decide)
  unfold hg_gm
  rw [show (3 : Nat) - 0 = 3 from rfl, show 4 * n + 0 = 4 * n from rfl] at e0
  rw [show (3 : Nat) - 1 = 2 from rfl] at e1
  rw [show (3 : Nat) - 2 = 1 from rfl] at e2
  rw [show (3 : Nat) - 3 = 0 from rfl] at e3
  rw [e0, e1, e2, e3, hg_Mx, hg_Mx, hg_Mx, hg_Mx, hg_Mx, hg_Mx, hg_Msel, hg_Msel, hg_Msel, hg_Msel, hg_Msel, hg_Msel, hg_m4, show 4 * n + 4 = 4 * (n + 1) by omega]
  generalize hg_S4 _ = s
  funext c
  show _ ^^^ (_ ^^^ (_ ^^^ (_ ^^^ _))) = _ ^^^ (_ ^^^ (_ ^^^ (_ ^^^ _)))
  rw [Int32.xor_comm (s c)]
  simp only [Int32.xor_assoc]
theorem hg_g0 (H : Nat → Int32) : hg_gm H 0 = hg_0 := by
  show hg_x (hg_sel false H) (hg_x (hg_sel false (hg_M H)) (hg_x (hg_sel false (hg_M (hg_M H))) (hg_sel false (hg_M (hg_M (hg_M H)))))) = _
  rw [hg_self, hg_self, hg_self, hg_self, hg_x0, hg_x0, hg_x0]
theorem hg_g8 (H : Nat → Int32) : hg_gm H 8 = H := by
  show hg_x (hg_sel true H) (hg_x (hg_sel false (hg_M H)) (hg_x (hg_sel false (hg_M (hg_M H))) (hg_sel false (hg_M (hg_M (hg_M H)))))) = _
  rw [hg_self, hg_self, hg_self, hg_selt, hg_x0, hg_x0, hg_x0]
theorem hg_g4 (H : Nat → Int32) : hg_gm H 4 = hg_M H := by
  show hg_x (hg_sel false H) (hg_x (hg_sel true (hg_M H)) (hg_x (hg_sel false (hg_M (hg_M H))) (hg_sel false (hg_M (hg_M (hg_M H)))))) = _
  rw [hg_self, hg_self, hg_self, hg_selt, hg_x0, hg_x0, hg_0x]
theorem hg_g2 (H : Nat → Int32) : hg_gm H 2 = hg_M (hg_M H) := by
  show hg_x (hg_sel false H) (hg_x (hg_sel false (hg_M H)) (hg_x (hg_sel true (hg_M (hg_M H))) (hg_sel false (hg_M (hg_M (hg_M H)))))) = _
  rw [hg_self, hg_self, hg_self, hg_selt, hg_x0, hg_0x, hg_0x]
theorem hg_g1 (H : Nat → Int32) : hg_gm H 1 = hg_M (hg_M (hg_M H)) := by
  show hg_x (hg_sel false H) (hg_x (hg_sel false (hg_M H)) (hg_x (hg_sel false (hg_M (hg_M H))) (hg_sel true (hg_M (hg_M (hg_M H)))))) = _
  rw [hg_self, hg_self, hg_self, hg_selt, hg_0x, hg_0x, hg_0x]
theorem hg_sx (p q : Bool) (v : Nat → Int32) (c : Nat) : hg_sel (p ^^ q) v c = hg_sel p v c ^^^ hg_sel q v c := by
  cases p <;> cases q
  · exact Int32.xor_zero.symm
  · exact Int32.zero_xor.symm
  · exact Int32.xor_zero.symm
  · exact Int32.xor_self.symm
theorem hg_il (a b c : Int32) : a ^^^ (b ^^^ c) = b ^^^ (a ^^^ c) := by rw [← Int32.xor_assoc, Int32.xor_comm a b, Int32.xor_assoc]
theorem hg_gx (H : Nat → Int32) {b b1 b2 : Nat} (h : ∀ t, t < 4 → b.testBit t = (b1.testBit t ^^ b2.testBit t)) (c : Nat) : hg_gm H b1 c ^^^ hg_gm H b2 c = hg_gm H b c := by
  unfold hg_gm hg_x
  rw [h 3 (by decide), h 2 (by decide), h 1 (by decide), h 0 (by decide), hg_sx, hg_sx, hg_sx, hg_sx]
  simp only [Int32.xor_assoc, Int32.xor_comm, hg_il]
def hg_lo (b : Nat) : Nat := [0, 1, 2, 1, 4, 1, 2, 1, 8, 1, 2, 1, 4, 1, 2, 1].getD b 0
theorem hg_los : ∀ b, b < 16 → nI b &&& (-(nI b)) = nI (hg_lo b) := by decide +kernel
theorem hg_lot : ∀ b, b < 16 → hg_lo b ≤ b ∧ hg_lo b < 16 ∧ ∀ t, t < 4 → b.testBit t = ((hg_lo b).testBit t ^^ (b - hg_lo b).testBit t) := by decide +kernel
theorem hg_loc : ∀ b, b < 16 → 3 ≤ b → hg_lo b ≠ b → hg_lo b = 1 ∨ hg_lo b = 2 ∨ hg_lo b = 4 ∨ hg_lo b = 8 := by decide +kernel
theorem hg_lob : ∀ b, b < 16 → 3 ≤ b → hg_lo b = b → b = 4 ∨ b = 8 := by decide +kernel
def hg_MU (mu H : Nat → Int32) : Prop := ∀ b, b < 16 → ∀ c, c < 4 → mu (4 * b + c) = hg_gm H b c
theorem hg_Mc {v w : Nat → Int32} (h : ∀ c, c < 4 → v c = w c) : ∀ c, c < 4 → hg_M v c = hg_M w c := by
  intro c hc
  unfold hg_M
  by_cases e : c = 0
  · rw [if_pos e, if_pos e, h 0 (by decide), h 3 (by decide)]
  · rw [if_neg e, if_neg e, h c hc, h (c - 1) (by omega)]
theorem hg_S4c {v w : Nat → Int32} (h : ∀ c, c < 4 → v c = w c) : ∀ c, c < 4 → hg_S4 v c = hg_S4 w c := by
  intro c hc
  unfold hg_S4
  by_cases e : c = 0
  · rw [if_pos e, if_pos e, h 0 (by decide), h 3 (by decide)]
  · rw [if_neg e, if_neg e, h c hc, h (c - 1) (by omega)]
end
section
/-! the component: the building of its tables -/
theorem hx_tw {post : Int32 → Prop} {x : Nat} (hx : x < 256) (h : post (nI (hs_tw x))) : wpX_twice post (nI x) := by
  refine pk_le 128 x (fun h1 => ?_) (fun h1 => ?_)
  · have e : (2 * nI x) ^^^ 283 = nI (hs_tw x) := by
      rw [show (2 : Int32) = nI 2 from rfl, show (283 : Int32) = nI 283 from rfl, pk_mul, nx_xor]
      unfold hs_tw
      rw [show x / 128 % 2 = 1 by omega]
    rw [e]; exact h
  · have e : 2 * nI x = nI (hs_tw x) := by
      rw [show (2 : Int32) = nI 2 from rfl, pk_mul]
      unfold hs_tw
      rw [show x / 128 % 2 = 0 by omega, Nat.mul_zero, Nat.xor_zero]
    rw [e]; exact h
theorem hx_t3 {post : Int32 → Prop} {x : Nat} (hx : x < 256) (h : post (nI (hs_t3 x))) : wpX_timesInverseOfThree post (nI x) := by
  unfold wpX_timesInverseOfThree
  have h1 := hs_twl _ hx
  have h2 := hs_twl _ h1
  have h3 := hs_twl _ h2
  have h4 := hs_twl _ h3
  have h5 := hs_twl _ h4
  have h6 := hs_twl _ h5
  refine hx_tw hx (hx_tw h1 (hx_tw h2 (hx_tw h3 (hx_tw h4 (hx_tw h5 (hx_tw h6 ?_))))))
  rw [nx_xor, nx_xor, nx_xor, nx_xor, nx_xor]
  exact h
def hx_af (w : Int32) : Int32 := ((((((w * 257) ^^^ ((w * 257) >>> ((4 : Int32) &&& 31))) ^^^ ((w * 257) >>> ((5 : Int32) &&& 31))) ^^^ ((w * 257) >>> ((6 : Int32) &&& 31))) ^^^ ((w * 257) >>> ((7 : Int32) &&& 31))) ^^^ 99) &&& 255
theorem hx_afs : ∀ v, v < 256 → hx_af (nI v) = nI (hs_af v) := by decide +kernel
section
variable {post : SX → Prop} {sub res fw bw rk tk pr sm st fr mu fa : Nat → Int32}
theorem hx_set {p q s : Nat} (hp : p < 256) (hq : q < 256) (hs : hs_af q = s) (hl : s < 256)
    (h : post (upd sub p (nI s), upd res s (nI p), fw, bw, rk, tk, pr, sm, st, fr, mu, fa)) :
    wpX_setSubstitution post (sub, res, fw, bw, rk, tk, pr, sm, st, fr, mu, fa) (nI p) (nI q) := by
  intro x3 e3 x4 e4
  subst e3
  have e : x4 = nI s := e4.trans ((hx_afs q hq).trans (congrArg nI hs))
  subst e
  exact ⟨vp_in_nI hp (by decide), nm_r (e' := upd sub p (nI s)) (by rw [nI_clamp (by omega)]) ⟨vp_in_nI hl (by decide), nm_r (e' := upd res s (nI p)) (by rw [nI_clamp (by omega)]) h⟩⟩
def hx_inv (k : Nat) (sub res : Nat → Int32) : Prop := (∀ j, j < k → sub (hs_P j) = nI (hs_S (hs_P j))) ∧ (∀ j, j < k → res (hs_S (hs_P j)) = nI (hs_P j))
theorem hx_invs {k : Nat} {sub res : Nat → Int32} (hk : k < 255) (h : hx_inv k sub res) : hx_inv (k + 1) (upd sub (hs_P k) (nI (hs_S (hs_P k)))) (upd res (hs_S (hs_P k)) (nI (hs_P k))) := by
  constructor
  · intro j hj
    by_cases e : hs_P j = hs_P k
    · rw [e, pk_us]
    · rw [pk_un e]
      exact h.1 j (by
        rcases Nat.lt_or_ge j k with z | z
        · exact z
        · have z2 : j = k := by omega
          subst z2; exact absurd rfl e)
  · intro j hj
    by_cases e : hs_P j = hs_P k
    · rw [e, pk_us]
    · have e2 : hs_S (hs_P j) ≠ hs_S (hs_P k) := by
        intro z
        apply e
        rw [← hs_RS _ (hs_Pl j (by omega)).1, ← hs_RS _ (hs_Pl k (by omega)).1, z]
      rw [pk_un e2]
      exact h.2 j (by
        rcases Nat.lt_or_ge j k with z | z
        · exact z
        · have z2 : j = k := by omega
          subst z2; exact absurd rfl e)
theorem hx_fin {sub res : Nat → Int32} (h : hx_inv 255 sub res) : ha_TS (upd sub 0 (nI (hs_S 0))) ∧ ha_TR (upd res (hs_S 0) (nI 0)) := by
  constructor
  · intro x hx
    by_cases e : x = 0
    · subst e; rw [pk_us]
    · rw [pk_un e]
      obtain ⟨h1, h2⟩ := hs_PL x hx e
      have h3 := h.1 _ h1
      rw [h2] at h3
      exact h3
  · intro y hy
    by_cases e : y = hs_S 0
    · subst e; rw [pk_us, hs_RS 0 (by decide)]
    · rw [pk_un e]
      have hx := hs_Rl y hy
      have e2 : hs_R y ≠ 0 := by
        intro z
        apply e
        rw [← z, hs_SR y hy]
      obtain ⟨h1, h2⟩ := hs_PL _ hx e2
      have h3 := h.2 _ h1
      rw [h2, hs_SR y hy] at h3
      exact h3
theorem hx_bs (h : ∀ sub' res' : Nat → Int32, ha_TS sub' → ha_TR res' → post (sub', res', fw, bw, rk, tk, pr, sm, st, fr, mu, fa)) :
    wpX_buildSubstitution post (sub, res, fw, bw, rk, tk, pr, sm, st, fr, mu, fa) := by
  obtain ⟨n, hn⟩ := hz_up (fun n k => ∀ sub res : Nat → Int32, hx_inv k sub res → wX_buildSubstitution_6 post n (nI (hs_P k)) (nI (hs_Q k)) (nI k) sub res fw bw rk tk pr sm st fr mu fa) 255 0 (by omega)
    (by
      intro n sub res I
      refine br_t (nI_le (a := 255) (b := 255) (Nat.le_refl _) (by decide)) ?_
      refine hx_set (p := 0) (q := 0) (s := hs_S 0) (by decide) (by decide) hs_A0 (hs_Sl 0 (by decide)) ?_
      exact h _ _ (hx_fin I).1 (hx_fin I).2)
    (by
      intro n k _ hk ih sub res I
      refine br_f (nI_ge (b := 255) hk (by decide)) ?_
      obtain ⟨hp, hq⟩ := hs_Pl k (by omega)
      refine hx_set hp hq (hs_PQ k hk) (hs_Sl _ hp) ?_
      refine hx_tw hp ?_
      refine nm_r (e' := nI (hs_P (k + 1))) (by rw [nx_xor, hs_Ps k hk]) ?_
      refine hx_t3 hq ?_
      rw [← hs_Qs k hk]
      refine nm_r (nI_1 k) ?_
      exact ih _ _ (hx_invs hk I))
  have e1 : nI (hs_P 0) = 1 := by decide +kernel
  have e2 : nI (hs_Q 0) = 1 := by decide +kernel
  have h0 := hn sub res ⟨fun j hj => absurd hj (by omega), fun j hj => absurd hj (by omega)⟩
  rw [e1, e2] at h0
  exact ⟨n, h0⟩
theorem hx_Fv (s : Nat) : (((nI (hs_tw s) <<< ((24 : Int32) &&& 31)) ||| (nI s <<< ((16 : Int32) &&& 31))) ||| (nI s <<< ((8 : Int32) &&& 31))) ||| (nI (hs_tw s) ^^^ nI s) = ha_F s := by
  rw [nx_xor]; rfl
theorem hx_Gv (r : Nat) : (((((nI (hs_tw (hs_tw (hs_tw r))) ^^^ nI (hs_tw (hs_tw r))) ^^^ nI (hs_tw r)) <<< ((24 : Int32) &&& 31)) ||| ((nI (hs_tw (hs_tw (hs_tw r))) ^^^ nI r) <<< ((16 : Int32) &&& 31))) ||| (((nI (hs_tw (hs_tw (hs_tw r))) ^^^ nI (hs_tw (hs_tw r))) ^^^ nI r) <<< ((8 : Int32) &&& 31))) ||| ((nI (hs_tw (hs_tw (hs_tw r))) ^^^ nI (hs_tw r)) ^^^ nI r) = ha_G r := by
  rw [nx_xor, nx_xor, nx_xor, nx_xor, nx_xor, nx_xor]; rfl
theorem hx_bm (TS : ha_TS sub) (TR : ha_TR res) (h : ∀ fw' bw' : Nat → Int32, ha_TF fw' → ha_TB bw' → post (sub, res, fw', bw', rk, tk, pr, sm, st, fr, mu, fa)) :
    wpX_buildMixing post (sub, res, fw, bw, rk, tk, pr, sm, st, fr, mu, fa) := by
  obtain ⟨n, hn⟩ := hz_up (fun n i => wX_buildMixing_2 post n (nI i) sub res (hz_mp i (fun j => ha_F (hs_S j)) fw) (hz_mp i (fun j => ha_G (hs_R j)) bw) rk tk pr sm st fr mu fa) 256 0 (by omega)
    (by
      intro n
      refine br_t (nI_le (a := 256) (b := 256) (Nat.le_refl _) (by decide)) ?_
      exact h _ _ (fun x hx => hz_lt hx) (fun x hx => hz_lt hx))
    (by
      intro n i _ hi ih
      have vi : vp_in (nI i) 256 := vp_in_nI hi (by decide)
      have ci : (nI i).toNatClampNeg = i := nI_clamp (by omega)
      have hS := hs_Sl i hi
      have hR := hs_Rl i hi
      refine br_f (nI_ge (b := 256) hi (by decide)) ⟨vi, nm_r (e' := nI (hs_S i)) (by rw [ci, TS i hi]) ?_⟩
      refine hx_tw hS ⟨vi, nm_r (e' := hz_mp (i + 1) (fun j => ha_F (hs_S j)) fw) (hz_st ci (hx_Fv _)) ⟨vi, nm_r (e' := nI (hs_R i)) (by rw [ci, TR i hi]) ?_⟩⟩
      refine hx_tw hR (hx_tw (hs_twl _ hR) (hx_tw (hs_twl _ (hs_twl _ hR)) ⟨vi, nm_r (e' := hz_mp (i + 1) (fun j => ha_G (hs_R j)) bw) (hz_st ci (hx_Gv _)) ?_⟩))
      exact nm_r (nI_1 i) ih)
  rw [hz_mp0, hz_mp0] at hn
  exact ⟨n, hn⟩
def ha_TL (a : Nat → Int32) : Prop := ∀ b, b < 16 → a b = hg_fs (nI b) 4
theorem hx_bf (h : ∀ fa' : Nat → Int32, ha_TL fa' → post (sub, res, fw, bw, rk, tk, pr, sm, st, fr, mu, fa')) :
    wpX_buildFallen post (sub, res, fw, bw, rk, tk, pr, sm, st, fr, mu, fa) := by
  obtain ⟨n, hn⟩ := hz_up (fun n i => wX_buildFallen_2 post n (nI i) sub res fw bw rk tk pr sm st fr mu (hz_mp i (fun j => hg_fs (nI j) 4) fa)) 16 0 (by omega)
    (by
      intro n
      refine br_t (nI_le (a := 16) (b := 16) (Nat.le_refl _) (by decide)) ?_
      exact h _ (fun x hx => hz_lt hx))
    (by
      intro n i _ hi ih
      refine br_f (nI_ge (b := 16) hi (by decide)) ?_
      exact hz_up (fun m k => wX_buildFallen_12 post (wX_buildFallen_2 post n) (nI i) sub res fw bw rk tk pr sm st fr mu (hz_mp i (fun j => hg_fs (nI j) 4) fa) m (hg_fs (nI i) k) (nI k)) 4 0 (by omega)
        (by
          intro m
          refine br_t (nI_le (a := 4) (b := 4) (Nat.le_refl _) (by decide)) ⟨vp_in_nI hi (by decide), ?_⟩
          refine nm_r (e' := hz_mp (i + 1) (fun j => hg_fs (nI j) 4) fa) (hz_st (nI_clamp (by omega)) rfl) ?_
          exact nm_r (nI_1 i) ih)
        (by
          intro m k _ hk ih2
          refine br_f (nI_ge (b := 4) hk (by decide)) (br_c (fun hz => ?_) (fun hz => ?_))
          · refine nm_r (e' := hg_fs (nI i) (k + 1)) ?_ (nm_r (nI_1 k) ih2)
            show hg_u 1 (hg_fs (nI i) k) ^^^ 0 = hg_u 1 (hg_fs (nI i) k) ^^^ hg_e (hg_u k (nI i))
            have hz' : hg_u k (nI i) &&& 1 = 0 := hz
            unfold hg_e
            rw [if_pos hz']
          · refine nm_r (e' := hg_fs (nI i) (k + 1)) ?_ (nm_r (nI_1 k) ih2)
            show hg_u 1 (hg_fs (nI i) k) ^^^ hg_E = hg_u 1 (hg_fs (nI i) k) ^^^ hg_e (hg_u k (nI i))
            have hz' : ¬ hg_u k (nI i) &&& 1 = 0 := hz
            unfold hg_e
            rw [if_neg hz']))
  rw [hz_mp0] at hn
  exact ⟨n, hn⟩
end
end
section
/-! the component: rounds forward and backward -/
theorem hx_i0 (w : Int32) : vp_in ((w.toUInt32 >>> ((24 : Int32).toUInt32 &&& Int32.toUInt32 31)).toInt32) 256 := by rw [hz_xb0]; exact vp_in_nI (hz_byl _ _) (by decide)
theorem hx_i1 (w : Int32) : vp_in ((w.toUInt32 >>> ((16 : Int32).toUInt32 &&& Int32.toUInt32 31)).toInt32 &&& 255) 256 := by rw [hz_xb1]; exact vp_in_nI (hz_byl _ _) (by decide)
theorem hx_i2 (w : Int32) : vp_in ((w.toUInt32 >>> ((8 : Int32).toUInt32 &&& Int32.toUInt32 31)).toInt32 &&& 255) 256 := by rw [hz_xb2]; exact vp_in_nI (hz_byl _ _) (by decide)
theorem hx_i3 (w : Int32) : vp_in (w &&& 255) 256 := by rw [hz_xb3]; exact vp_in_nI (hz_byl _ _) (by decide)
theorem hx_k0 (w : Int32) : ((w.toUInt32 >>> ((24 : Int32).toUInt32 &&& Int32.toUInt32 31)).toInt32).toNatClampNeg = hz_by w 0 := by rw [hz_xb0]; exact nI_clamp (Nat.lt_trans (hz_byl _ _) (by decide))
theorem hx_k1 (w : Int32) : ((w.toUInt32 >>> ((16 : Int32).toUInt32 &&& Int32.toUInt32 31)).toInt32 &&& 255).toNatClampNeg = hz_by w 1 := by rw [hz_xb1]; exact nI_clamp (Nat.lt_trans (hz_byl _ _) (by decide))
theorem hx_k2 (w : Int32) : ((w.toUInt32 >>> ((8 : Int32).toUInt32 &&& Int32.toUInt32 31)).toInt32 &&& 255).toNatClampNeg = hz_by w 2 := by rw [hz_xb2]; exact nI_clamp (Nat.lt_trans (hz_byl _ _) (by decide))
theorem hx_k3 (w : Int32) : (w &&& 255).toNatClampNeg = hz_by w 3 := by rw [hz_xb3]; exact nI_clamp (Nat.lt_trans (hz_byl _ _) (by decide))
theorem hx_j {i k : Nat} (hi : i < 4) (hk : k < 4) : (nI i + nI k) &&& 3 = nI ((i + k) % 4) := by
  rw [nI_add]
  exact pk_andN (by omega) 2 (by decide)
theorem hx_jv {i k : Nat} (hi : i < 4) (hk : k < 4) : vp_in ((nI i + nI k) &&& 3) 4 := by rw [hx_j hi hk]; exact vp_in_nI (Nat.mod_lt _ (by decide)) (by decide)
theorem hx_jc {i k : Nat} (hi : i < 4) (hk : k < 4) : ((nI i + nI k) &&& 3).toNatClampNeg = (i + k) % 4 := by rw [hx_j hi hk]; exact nI_clamp (Nat.lt_trans (Nat.mod_lt _ (by decide)) (by decide))
theorem hx_j1 {i : Nat} (hi : i < 4) : ((nI i + 1) &&& 3).toNatClampNeg = (i + 1) % 4 := hx_jc (k := 1) hi (by decide)
theorem hx_j2 {i : Nat} (hi : i < 4) : ((nI i + 2) &&& 3).toNatClampNeg = (i + 2) % 4 := hx_jc (k := 2) hi (by decide)
theorem hx_j3 {i : Nat} (hi : i < 4) : ((nI i + 3) &&& 3).toNatClampNeg = (i + 3) % 4 := hx_jc (k := 3) hi (by decide)
theorem hx_q (q i : Nat) : 4 * nI q + nI i = nI (4 * q + i) := by rw [show (4 : Int32) = nI 4 from rfl, pk_mul, nI_add]
theorem hx_40 (i : Nat) : 40 + nI i = nI (40 + i) := by rw [show (40 : Int32) = nI 40 from rfl, nI_add]
section
variable {post : SX → Prop} {sub res fw bw rk tk pr sm st fr mu fa : Nat → Int32} {p : Nat → Nat}
theorem hx_kf (h : post (sub, res, fw, bw, rk, tk, pr, sm, hz_mp 4 fr st, fr, mu, fa)) : wpX_keepFresh post (sub, res, fw, bw, rk, tk, pr, sm, st, fr, mu, fa) := by
  obtain ⟨n, hn⟩ := hz_up (fun n i => wX_keepFresh_2 post n (nI i) sub res fw bw rk tk pr sm (hz_mp i fr st) fr mu fa) 4 0 (by omega)
    (fun n => br_t (nI_le (a := 4) (b := 4) (Nat.le_refl _) (by decide)) h)
    (fun n i _ hi ih => br_f (nI_ge (b := 4) hi (by decide)) ⟨vp_in_nI hi (by decide), vp_in_nI hi (by decide),
      nm_r (e' := hz_mp (i + 1) fr st) (hz_st (nI_clamp (by omega)) (by rw [nI_clamp (by omega)])) (nm_r (nI_1 i) ih)⟩)
  rw [hz_mp0] at hn
  exact ⟨n, hn⟩
theorem hx_tp (h : post (sub, res, fw, bw, rk, tk, pr, sm, hz_mp 4 pr st, fr, mu, fa)) : wpX_takePresent post (sub, res, fw, bw, rk, tk, pr, sm, st, fr, mu, fa) := by
  obtain ⟨n, hn⟩ := hz_up (fun n i => wX_takePresent_2 post n (nI i) sub res fw bw rk tk pr sm (hz_mp i pr st) fr mu fa) 4 0 (by omega)
    (fun n => br_t (nI_le (a := 4) (b := 4) (Nat.le_refl _) (by decide)) h)
    (fun n i _ hi ih => br_f (nI_ge (b := 4) hi (by decide)) ⟨vp_in_nI hi (by decide), vp_in_nI hi (by decide),
      nm_r (e' := hz_mp (i + 1) pr st) (hz_st (nI_clamp (by omega)) (by rw [nI_clamp (by omega)])) (nm_r (nI_1 i) ih)⟩)
  rw [hz_mp0] at hn
  exact ⟨n, hn⟩
theorem hx_gp (h : post (sub, res, fw, bw, rk, tk, hz_mp 4 st pr, sm, st, fr, mu, fa)) : wpX_givePresent post (sub, res, fw, bw, rk, tk, pr, sm, st, fr, mu, fa) := by
  obtain ⟨n, hn⟩ := hz_up (fun n i => wX_givePresent_2 post n (nI i) sub res fw bw rk tk (hz_mp i st pr) sm st fr mu fa) 4 0 (by omega)
    (fun n => br_t (nI_le (a := 4) (b := 4) (Nat.le_refl _) (by decide)) h)
    (fun n i _ hi ih => br_f (nI_ge (b := 4) hi (by decide)) ⟨vp_in_nI hi (by decide), vp_in_nI hi (by decide),
      nm_r (e' := hz_mp (i + 1) st pr) (hz_st (nI_clamp (by omega)) (by rw [nI_clamp (by omega)])) (nm_r (nI_1 i) ih)⟩)
  rw [hz_mp0] at hn
  exact ⟨n, hn⟩
theorem hx_fc {q : Int32 → Prop} (T : ha_TF fw) (hB : ha_B p) (hW : ha_W st p) {i : Nat} (hi : i < 4) (h : q (ha_col (ha_mc (ha_sh (ha_sb p))) i)) :
    wpX_forwardColumn q (sub, res, fw, bw, rk, tk, pr, sm, st, fr, mu, fa) (nI i) := by
  have ci : (nI i).toNatClampNeg = i := nI_clamp (by omega)
  rw [← ha_f1 T hB hW hi] at h
  refine ⟨vp_in_nI hi (by decide), hx_i0 _, nm_r (e' := fw (hz_by (st i) 0)) (by rw [hx_k0, ci]) ?_⟩
  refine ⟨hx_jv (k := 1) hi (by decide), hx_i1 _, nm_r (e' := fw (hz_by (st ((i + 1) % 4)) 1)) (by rw [hx_k1, hx_j1 hi]) ?_⟩
  refine ⟨hx_jv (k := 2) hi (by decide), hx_i2 _, nm_r (e' := fw (hz_by (st ((i + 2) % 4)) 2)) (by rw [hx_k2, hx_j2 hi]) ?_⟩
  refine ⟨hx_jv (k := 3) hi (by decide), hx_i3 _, nm_r (e' := fw (hz_by (st ((i + 3) % 4)) 3)) (by rw [hx_k3, hx_j3 hi]) ?_⟩
  exact h
theorem hx_bc {q : Int32 → Prop} (T : ha_TB bw) (hB : ha_B p) (hW : ha_W st p) {i : Nat} (hi : i < 4) (h : q (ha_col (ha_i3 (ha_rs (ha_s3 p))) i)) :
    wpX_backwardColumn q (sub, res, fw, bw, rk, tk, pr, sm, st, fr, mu, fa) (nI i) := by
  have ci : (nI i).toNatClampNeg = i := nI_clamp (by omega)
  rw [← ha_b1 T hB hW hi] at h
  refine ⟨vp_in_nI hi (by decide), hx_i0 _, nm_r (e' := bw (hz_by (st i) 0)) (by rw [hx_k0, ci]) ?_⟩
  refine ⟨hx_jv (k := 3) hi (by decide), hx_i1 _, nm_r (e' := bw (hz_by (st ((i + 3) % 4)) 1)) (by rw [hx_k1, hx_j3 hi]) ?_⟩
  refine ⟨hx_jv (k := 2) hi (by decide), hx_i2 _, nm_r (e' := bw (hz_by (st ((i + 2) % 4)) 2)) (by rw [hx_k2, hx_j2 hi]) ?_⟩
  refine ⟨hx_jv (k := 1) hi (by decide), hx_i3 _, nm_r (e' := bw (hz_by (st ((i + 1) % 4)) 3)) (by rw [hx_k3, hx_j1 hi]) ?_⟩
  exact h
theorem hx_Wk {f fr st : Nat → Int32} {y : Nat → Nat} (h : ∀ c, c < 4 → f c = ha_col y c) : ha_W (hz_mp 4 (hz_mp 4 f fr) st) y := by
  intro c hc
  rw [hz_lt hc, hz_lt hc, h c hc]
/-- the last round forward -/
theorem hx_rf83 (TS : ha_TS sub) (hB : ha_B p) (hW : ha_W st p)
    (h : ∀ st' fr' : Nat → Int32, ha_W st' (ha_ak rk 10 (ha_sh (ha_sb p))) → post (sub, res, fw, bw, rk, tk, pr, sm, st', fr', mu, fa)) :
    ∃ n, wX_runForward_83 post n 0 sub res fw bw rk tk pr sm st fr mu fa := by
  obtain ⟨n, hn⟩ := hz_up (fun n i => wX_runForward_83 post n (nI i) sub res fw bw rk tk pr sm st (hz_mp i (ha_col (ha_ak rk 10 (ha_sh (ha_sb p)))) fr) mu fa) 4 0 (by omega)
    (by
      intro n
      refine br_t (nI_le (a := 4) (b := 4) (Nat.le_refl _) (by decide)) (hx_kf ?_)
      exact h _ _ (hx_Wk fun _ _ => rfl))
    (by
      intro n i _ hi ih
      have ci : (nI i).toNatClampNeg = i := nI_clamp (by omega)
      have vi : vp_in (nI i) 4 := vp_in_nI hi (by decide)
      refine br_f (nI_ge (b := 4) hi (by decide)) ⟨vi, hx_i0 _, hx_jv (k := 1) hi (by decide), hx_i1 _, ?_⟩
      refine nm_r (e' := (nI (hs_S (hz_by (st i) 0)) <<< ((24 : Int32) &&& 31)) ||| (nI (hs_S (hz_by (st ((i + 1) % 4)) 1)) <<< ((16 : Int32) &&& 31)))
        (by rw [hx_k0, hx_k1, ci, hx_j1 hi, TS _ (hz_byl _ _), TS _ (hz_byl _ _)]) ?_
      refine ⟨hx_jv (k := 2) hi (by decide), hx_i2 _, hx_jv (k := 3) hi (by decide), hx_i3 _, ?_⟩
      refine nm_r (e' := (nI (hs_S (hz_by (st ((i + 2) % 4)) 2)) <<< ((8 : Int32) &&& 31)) ||| nI (hs_S (hz_by (st ((i + 3) % 4)) 3)))
        (by rw [hx_k2, hx_k3, hx_j2 hi, hx_j3 hi, TS _ (hz_byl _ _), TS _ (hz_byl _ _)]) ?_
      refine ⟨by rw [hx_40]; exact vp_in_nI (by omega) (by decide), vi, ?_⟩
      refine nm_r (e' := hz_mp (i + 1) (ha_col (ha_ak rk 10 (ha_sh (ha_sb p)))) fr) (hz_st ci ?_) (nm_r (nI_1 i) ih)
      rw [hx_40, nI_clamp (by omega), hz_w2, ha_f2 hB hW hi]
      exact ha_cx (q := 10) (ha_Bsh (ha_Bsb hB)) hi)
  rw [hz_mp0] at hn
  exact ⟨n, hn⟩
theorem hx_rf30 (TS : ha_TS sub) (TF : ha_TF fw) (hB : ha_B p) (hW : ha_W st (ha_en rk p 0))
    (h : ∀ st' fr' : Nat → Int32, ha_W st' (ha_ef rk p) → post (sub, res, fw, bw, rk, tk, pr, sm, st', fr', mu, fa)) :
    ∃ n, wX_runForward_30 post n 1 sub res fw bw rk tk pr sm st fr mu fa := by
  obtain ⟨n, hn⟩ := hz_up (fun n r => ∀ st fr : Nat → Int32, ha_W st (ha_en rk p r) → wX_runForward_30 post n (nI (r + 1)) sub res fw bw rk tk pr sm st fr mu fa) 9 0 (by omega)
    (by
      intro n st fr hW
      refine br_t (nI_le (a := 10) (b := 10) (Nat.le_refl _) (by decide)) ?_
      exact hx_rf83 TS (ha_Ben hB 9) hW h)
    (by
      intro n r _ hr ih st fr hW
      refine br_f (nI_ge (b := 10) (by omega) (by decide)) ?_
      have h2 := hz_up (fun m i => wX_runForward_38 post (wX_runForward_30 post n) (nI (r + 1)) m (nI i) sub res fw bw rk tk pr sm st (hz_mp i (ha_col (ha_en rk p (r + 1))) fr) mu fa) 4 0 (by omega)
        (by
          intro m
          refine br_t (nI_le (a := 4) (b := 4) (Nat.le_refl _) (by decide)) (hx_kf ?_)
          exact nm_r (nI_1 (r + 1)) (ih _ _ (hx_Wk fun _ _ => rfl)))
        (by
          intro m i _ hi ih2
          refine br_f (nI_ge (b := 4) hi (by decide)) (hx_fc TF (ha_Ben hB r) hW hi ?_)
          refine ⟨by rw [hx_q]; exact vp_in_nI (by omega) (by decide), vp_in_nI hi (by decide), ?_⟩
          refine nm_r (e' := hz_mp (i + 1) (ha_col (ha_en rk p (r + 1))) fr) (hz_st (nI_clamp (by omega)) ?_) (nm_r (nI_1 i) ih2)
          rw [hx_q, nI_clamp (by omega)]
          exact ha_cx (q := r + 1) (ha_Bmc (ha_Bsh (ha_Bsb (ha_Ben hB r)))) hi)
      rw [hz_mp0] at h2
      exact h2)
  exact ⟨n, hn st fr hW⟩
theorem hx_rf (TS : ha_TS sub) (TF : ha_TF fw) (hB : ha_B p) (hW : ha_W st p)
    (h : ∀ st' fr' : Nat → Int32, ha_W st' (ha_ef rk p) → post (sub, res, fw, bw, rk, tk, pr, sm, st', fr', mu, fa)) :
    wpX_runForward post (sub, res, fw, bw, rk, tk, pr, sm, st, fr, mu, fa) := by
  obtain ⟨n, hn⟩ := hz_up (fun n i => wX_runForward_2 post n (nI i) sub res fw bw rk tk pr sm (hz_mp i (fun c => st c ^^^ rk c) st) fr mu fa) 4 0 (by omega)
    (by
      intro n
      refine br_t (nI_le (a := 4) (b := 4) (Nat.le_refl _) (by decide)) ?_
      refine hx_rf30 TS TF hB ?_ h
      intro c hc
      rw [hz_lt hc, hW c hc]
      have e := ha_cx (rk := rk) (q := 0) hB hc
      rw [show 4 * 0 + c = c by omega] at e
      exact e)
    (by
      intro n i _ hi ih
      have vi : vp_in (nI i) 4 := vp_in_nI hi (by decide)
      refine br_f (nI_ge (b := 4) hi (by decide)) ⟨vi, vp_in_nI (by omega) (by decide), vi, ?_⟩
      refine nm_r (e' := hz_mp (i + 1) (fun c => st c ^^^ rk c) st) (hz_st (nI_clamp (by omega)) ?_) (nm_r (nI_1 i) ih)
      rw [nI_clamp (by omega), hz_ge (Nat.le_refl _)])
  rw [hz_mp0] at hn
  exact ⟨n, hn⟩
/-- the keys for the way back -/
def ha_TK (rk tk : Nat → Int32) : Prop := ∀ i, i < 44 → tk i = if i < 4 ∨ 40 ≤ i then rk i else ha_tm (rk i)
theorem hx_rb85 (TR : ha_TR res) (TK : ha_TK rk tk) (hB : ha_B p) (hW : ha_W st p)
    (h : ∀ st' fr' : Nat → Int32, ha_W st' (ha_ak rk 0 (ha_rs (ha_s3 p))) → post (sub, res, fw, bw, rk, tk, pr, sm, st', fr', mu, fa)) :
    ∃ n, wX_runBackward_85 post n 0 sub res fw bw rk tk pr sm st fr mu fa := by
  obtain ⟨n, hn⟩ := hz_up (fun n i => wX_runBackward_85 post n (nI i) sub res fw bw rk tk pr sm st (hz_mp i (ha_col (ha_ak rk 0 (ha_rs (ha_s3 p)))) fr) mu fa) 4 0 (by omega)
    (by
      intro n
      refine br_t (nI_le (a := 4) (b := 4) (Nat.le_refl _) (by decide)) (hx_kf ?_)
      exact h _ _ (hx_Wk fun _ _ => rfl))
    (by
      intro n i _ hi ih
      have ci : (nI i).toNatClampNeg = i := nI_clamp (by omega)
      have vi : vp_in (nI i) 4 := vp_in_nI hi (by decide)
      refine br_f (nI_ge (b := 4) hi (by decide)) ⟨vi, hx_i0 _, hx_jv (k := 3) hi (by decide), hx_i1 _, ?_⟩
      refine nm_r (e' := (nI (hs_R (hz_by (st i) 0)) <<< ((24 : Int32) &&& 31)) ||| (nI (hs_R (hz_by (st ((i + 3) % 4)) 1)) <<< ((16 : Int32) &&& 31)))
        (by rw [hx_k0, hx_k1, ci, hx_j3 hi, TR _ (hz_byl _ _), TR _ (hz_byl _ _)]) ?_
      refine ⟨hx_jv (k := 2) hi (by decide), hx_i2 _, hx_jv (k := 1) hi (by decide), hx_i3 _, ?_⟩
      refine nm_r (e' := (nI (hs_R (hz_by (st ((i + 2) % 4)) 2)) <<< ((8 : Int32) &&& 31)) ||| nI (hs_R (hz_by (st ((i + 1) % 4)) 3)))
        (by rw [hx_k2, hx_k3, hx_j2 hi, hx_j1 hi, TR _ (hz_byl _ _), TR _ (hz_byl _ _)]) ?_
      refine ⟨vp_in_nI (by omega) (by decide), vi, ?_⟩
      refine nm_r (e' := hz_mp (i + 1) (ha_col (ha_ak rk 0 (ha_rs (ha_s3 p)))) fr) (hz_st ci ?_) (nm_r (nI_1 i) ih)
      rw [ci, hz_w2, ha_b2 hB hW hi, TK i (by omega), if_pos (Or.inl hi)]
      have e := ha_cx (rk := rk) (q := 0) (ha_Brs (ha_Bs3 hB)) hi
      rw [show 4 * 0 + i = i by omega] at e
      exact e)
  rw [hz_mp0] at hn
  exact ⟨n, hn⟩
theorem hx_rb34 (TR : ha_TR res) (TB : ha_TB bw) (TK : ha_TK rk tk) (hB : ha_B p) (hW : ha_W st (ha_de rk p 0))
    (h : ∀ st' fr' : Nat → Int32, ha_W st' (ha_df rk p) → post (sub, res, fw, bw, rk, tk, pr, sm, st', fr', mu, fa)) :
    ∃ n, wX_runBackward_34 post n 9 sub res fw bw rk tk pr sm st fr mu fa := by
  obtain ⟨n, hn⟩ := hz_dn (fun n r => ∀ st fr : Nat → Int32, ha_W st (ha_de rk p (9 - r)) → wX_runBackward_34 post n (nI r) sub res fw bw rk tk pr sm st fr mu fa) 9
    (by
      intro n st fr hW
      refine br_t (nI_le (a := 0) (b := 0) (Nat.le_refl _) (by decide)) ?_
      exact hx_rb85 TR TK (ha_Bde hB 9) hW h)
    (by
      intro n r hr ih st fr hW
      refine br_f (nI_ge (b := r + 1) (a := 0) (by omega) (by omega)) ?_
      have e9 : 9 - r = (9 - (r + 1)) + 1 := by omega
      rw [e9] at ih
      have eq : 9 - (9 - (r + 1)) = r + 1 := by omega
      have h2 := hz_up (fun m i => wX_runBackward_40 post (wX_runBackward_34 post n) (nI (r + 1)) m (nI i) sub res fw bw rk tk pr sm st (hz_mp i (ha_col (ha_de rk p (9 - (r + 1) + 1))) fr) mu fa) 4 0 (by omega)
        (by
          intro m
          refine br_t (nI_le (a := 4) (b := 4) (Nat.le_refl _) (by decide)) (hx_kf ?_)
          exact nm_r (pk_m1 r) (ih _ _ (hx_Wk fun _ _ => rfl)))
        (by
          intro m i _ hi ih2
          refine br_f (nI_ge (b := 4) hi (by decide)) (hx_bc TB (ha_Bde hB _) hW hi ?_)
          refine ⟨by rw [hx_q]; exact vp_in_nI (by omega) (by decide), vp_in_nI hi (by decide), ?_⟩
          refine nm_r (e' := hz_mp (i + 1) (ha_col (ha_de rk p (9 - (r + 1) + 1))) fr) (hz_st (nI_clamp (by omega)) ?_) (nm_r (nI_1 i) ih2)
          rw [hx_q, nI_clamp (by omega), TK _ (by omega), if_neg (by omega), ha_b4 (ha_Brs (ha_Bs3 (ha_Bde hB _))) hi]
          show _ = ha_col (ha_i3 (ha_ak rk (9 - (9 - (r + 1))) (ha_rs (ha_s3 (ha_de rk p (9 - (r + 1))))))) i
          rw [eq])
      rw [hz_mp0] at h2
      exact h2)
  exact ⟨n, hn st fr hW⟩
theorem hx_rb (TR : ha_TR res) (TB : ha_TB bw) (TK : ha_TK rk tk) (hB : ha_B p) (hW : ha_W st p)
    (h : ∀ st' fr' : Nat → Int32, ha_W st' (ha_df rk p) → post (sub, res, fw, bw, rk, tk, pr, sm, st', fr', mu, fa)) :
    wpX_runBackward post (sub, res, fw, bw, rk, tk, pr, sm, st, fr, mu, fa) := by
  obtain ⟨n, hn⟩ := hz_up (fun n i => wX_runBackward_2 post n (nI i) sub res fw bw rk tk pr sm (hz_mp i (fun c => st c ^^^ rk (40 + c)) st) fr mu fa) 4 0 (by omega)
    (by
      intro n
      refine br_t (nI_le (a := 4) (b := 4) (Nat.le_refl _) (by decide)) ?_
      refine hx_rb34 TR TB TK hB ?_ h
      intro c hc
      rw [hz_lt hc, hW c hc]
      exact ha_cx (rk := rk) (q := 10) hB hc)
    (by
      intro n i _ hi ih
      have vi : vp_in (nI i) 4 := vp_in_nI hi (by decide)
      refine br_f (nI_ge (b := 4) hi (by decide)) ⟨vi, by rw [hx_40]; exact vp_in_nI (by omega) (by decide), vi, ?_⟩
      refine nm_r (e' := hz_mp (i + 1) (fun c => st c ^^^ rk (40 + c)) st) (hz_st (nI_clamp (by omega)) ?_) (nm_r (nI_1 i) ih)
      rw [hx_40, nI_clamp (by omega), nI_clamp (by omega), hz_ge (Nat.le_refl _), TK _ (by omega), if_pos (Or.inr (by omega))])
  rw [hz_mp0] at hn
  exact ⟨n, hn⟩
end
end
section
/-! the component: keys, multiples, hash -/
def hz_ms (o e : Nat) (f a : Nat → Int32) : Nat → Int32 := fun j => if o ≤ j ∧ j < o + e then f (j - o) else a j
theorem hz_ms0 {o : Nat} {f a : Nat → Int32} : hz_ms o 0 f a = a := by
  funext j
  exact if_neg (by omega)
theorem hz_mss {o i k : Nat} {f a : Nat → Int32} {x : Int32} (hk : k = o + i) (hx : x = f i) : upd (hz_ms o i f a) k x = hz_ms o (i + 1) f a := by
  subst hk hx
  funext j
  unfold upd hz_ms
  by_cases h : j = o + i
  · subst h
    rw [if_pos rfl, if_pos (by omega), Nat.add_sub_cancel_left]
  · rw [if_neg h]
    by_cases h2 : o ≤ j ∧ j < o + i
    · rw [if_pos h2, if_pos (by omega)]
    · rw [if_neg h2, if_neg (by omega)]
theorem hz_min {o e c : Nat} {f a : Nat → Int32} (h : c < e) : hz_ms o e f a (o + c) = f c := by
  unfold hz_ms
  rw [if_pos (by omega), Nat.add_sub_cancel_left]
theorem hz_mout {o e j : Nat} {f a : Nat → Int32} (h : j < o ∨ o + e ≤ j) : hz_ms o e f a j = a j := if_neg (by omega)
/-- a word through the substitution, and the round keys -/
def hk_sw (w : Int32) : Int32 := hz_wd (hs_S (hz_by w 0)) (hs_S (hz_by w 1)) (hs_S (hz_by w 2)) (hs_S (hz_by w 3))
def hk_t (a : Nat → Int32) (c m : Nat) : Int32 := if m % 4 = 0 then hk_sw ((a (m + 3) <<< ((8 : Int32) &&& 31)) ||| ((a (m + 3)).toUInt32 >>> ((24 : Int32).toUInt32 &&& Int32.toUInt32 31)).toInt32) ^^^ (nI c <<< ((24 : Int32) &&& 31)) else a (m + 3)
def hk_c (c m : Nat) : Nat := if m % 4 = 0 then hs_tw c else c
def hk_s (a : Nat → Int32) : Nat → Nat × (Nat → Int32)
  | 0 => (1, a)
  | m + 1 => (hk_c (hk_s a m).1 m, upd (hk_s a m).2 (m + 4) ((hk_s a m).2 m ^^^ hk_t (hk_s a m).2 (hk_s a m).1 m))
def hk_key (a : Nat → Int32) (v1 v2 v3 v4 : Int32) : Nat → Int32 := (hk_s (upd (upd (upd (upd a 0 v1) 1 v2) 2 v3) 3 v4) 40).2
theorem hk_l (a : Nat → Int32) : ∀ m, (hk_s a m).1 < 256
  | 0 => by show 1 < 256; decide
  | m + 1 => by
    show hk_c (hk_s a m).1 m < 256
    unfold hk_c
    by_cases h : m % 4 = 0
    · rw [if_pos h]; exact hs_twl _ (hk_l a m)
    · rw [if_neg h]; exact hk_l a m
/-- the hash key -/
def hg_H (rk : Nat → Int32) : Nat → Int32 := ha_col (ha_ef rk (fun _ => 0))
theorem hx_s0 {sub : Nat → Int32} (TS : ha_TS sub) {k b : Nat} (hk : k = b) (hb : b < 256) : vp_in (sub k) 256 := by
  subst hk
  rw [TS _ hb]
  exact vp_in_nI (hs_Sl _ hb) (by decide)
theorem hx_sc {sub : Nat → Int32} (TS : ha_TS sub) {k b : Nat} (hk : k = b) (hb : b < 256) : (sub k).toNatClampNeg = hs_S b := by
  subst hk
  rw [TS _ hb]
  exact nI_clamp (Nat.lt_trans (hs_Sl _ hb) (by decide))
section
variable {post : SX → Prop} {sub res fw bw rk tk pr sm st fr mu fa : Nat → Int32}
theorem hx_sw {q : Int32 → Prop} (TS : ha_TS sub) {w : Int32} (h : q (hk_sw w)) : wpX_substituteWord q (sub, res, fw, bw, rk, tk, pr, sm, st, fr, mu, fa) w := by
  refine ⟨hx_i0 _, hx_i1 _, nm_r (e' := (nI (hs_S (hz_by w 0)) <<< ((24 : Int32) &&& 31)) ||| (nI (hs_S (hz_by w 1)) <<< ((16 : Int32) &&& 31))) (by rw [hx_k0, hx_k1, TS _ (hz_byl _ _), TS _ (hz_byl _ _)]) ⟨hx_i2 _, hx_i3 _, ?_⟩⟩
  rw [hx_k2, hx_k3, TS _ (hz_byl _ _), TS _ (hz_byl _ _)]
  exact h
theorem hx_tm {q : Int32 → Prop} (TS : ha_TS sub) (TB : ha_TB bw) {w : Int32} (h : q (ha_tm w)) : wpX_turnMixing q (sub, res, fw, bw, rk, tk, pr, sm, st, fr, mu, fa) w := by
  rw [← ha_b3 TB w] at h
  refine ⟨hx_i0 _, hx_s0 TS (hx_k0 w) (hz_byl _ _), nm_r (e' := bw (hs_S (hz_by w 0))) (by rw [hx_sc TS (hx_k0 w) (hz_byl _ _)]) ?_⟩
  refine ⟨hx_i1 _, hx_s0 TS (hx_k1 w) (hz_byl _ _), nm_r (e' := bw (hs_S (hz_by w 1))) (by rw [hx_sc TS (hx_k1 w) (hz_byl _ _)]) ?_⟩
  refine ⟨hx_i2 _, hx_s0 TS (hx_k2 w) (hz_byl _ _), nm_r (e' := bw (hs_S (hz_by w 2))) (by rw [hx_sc TS (hx_k2 w) (hz_byl _ _)]) ?_⟩
  refine ⟨hx_i3 _, hx_s0 TS (hx_k3 w) (hz_byl _ _), nm_r (e' := bw (hs_S (hz_by w 3))) (by rw [hx_sc TS (hx_k3 w) (hz_byl _ _)]) ?_⟩
  exact h
theorem hx_mo (h : ∀ st' : Nat → Int32, (∀ c, c < 4 → st' c = hg_M st c) → post (sub, res, fw, bw, rk, tk, pr, sm, st', fr, mu, fa)) :
    wpX_moveOne post (sub, res, fw, bw, rk, tk, pr, sm, st, fr, mu, fa) := by
  refine nm_e ?_
  obtain ⟨n, hn⟩ := hz_dn (fun n c => ∀ st' : Nat → Int32, (∀ j, j < 4 → st' j = if c < j then hg_M st j else st j) → wX_moveOne_11 post (st 3 &&& 1) n (nI c) sub res fw bw rk tk pr sm st' fr mu fa) 3
    (by
      intro n st' I
      have I0 : st' 0 = st 0 := (I 0 (by decide)).trans (if_neg (by omega))
      refine br_t (nI_le (a := 0) (b := 0) (Nat.le_refl _) (by decide)) (br_c (fun hz => nm_e (h _ ?_)) (fun hz => nm_e (h _ ?_)))
      · intro c hc
        by_cases e : c = 0
        · subst e
          rw [pk_us, I0]
          show hg_u 1 (st 0) ^^^ 0 = hg_u 1 (st 0) ^^^ hg_e (st 3)
          unfold hg_e
          rw [if_pos hz]
        · rw [pk_un e, I c hc, if_pos (by omega)]
      · intro c hc
        by_cases e : c = 0
        · subst e
          rw [pk_us, I0]
          show hg_u 1 (st 0) ^^^ hg_E = hg_u 1 (st 0) ^^^ hg_e (st 3)
          unfold hg_e
          rw [if_neg hz]
        · rw [pk_un e, I c hc, if_pos (by omega)])
    (by
      intro n c hc ih st' I
      refine br_f (nI_nle (by omega) (by omega)) ⟨vp_in_nI (by omega) (by decide), by rw [nI_pred]; exact vp_in_nI (by omega) (by decide), vp_in_nI (by omega) (by decide), nm_e (nm_r (pk_m1 c) (ih _ ?_))⟩
      intro j hj
      rw [nI_pred, nI_clamp (by omega), nI_clamp (by omega)]
      by_cases e : j = c + 1
      · subst e
        rw [pk_us, I (c + 1) hj, if_neg (by omega), I c (by omega), if_neg (by omega), if_pos (by omega)]
        show _ = if c + 1 = 0 then _ else _
        rw [if_neg (by omega)]
        rfl
      · rw [pk_un e, I j hj]
        by_cases e2 : c < j
        · rw [if_pos e2, if_pos (by omega)]
        · rw [if_neg e2, if_neg (by omega)])
  exact ⟨n, hn st (fun j hj => (if_neg (by omega)).symm)⟩
theorem hx_b34 {b n : Nat} (h0 : 0 < b) (hb : b < 16)
    (h : ∀ st' : Nat → Int32, (∀ c, c < 4 → st' c = hg_M st c) → wX_buildMultiples_34 post n (nI (b / 2)) sub res fw bw rk tk pr sm st' fr (hz_ms (4 * b) 4 st mu) fa) :
    wX_buildMultiples_34 post (n + 1) (nI b) sub res fw bw rk tk pr sm st fr mu fa := by
  refine br_f (nI_nle h0 (by omega)) ?_
  have h2 := hz_up (fun m i => wX_buildMultiples_40 post (wX_buildMultiples_34 post n) (nI b) m (nI i) sub res fw bw rk tk pr sm st fr (hz_ms (4 * b) i st mu) fa) 4 0 (by omega)
    (by
      intro m
      refine br_t (nI_le (a := 4) (b := 4) (Nat.le_refl _) (by decide)) (hx_mo (fun st' e => ⟨by decide, ?_⟩))
      exact nm_r (e' := nI (b / 2)) (pk_div (d := 2) (by omega) (by decide) (by decide)) (h st' e))
    (by
      intro m i _ hi ih
      refine br_f (nI_ge (b := 4) hi (by decide)) ⟨vp_in_nI hi (by decide), by rw [hx_q]; exact vp_in_nI (by omega) (by decide), ?_⟩
      exact nm_r (e' := hz_ms (4 * b) (i + 1) st mu) (hz_mss (by rw [hx_q]; exact nI_clamp (by omega)) (by rw [nI_clamp (by omega)])) (nm_r (nI_1 i) ih))
  rw [hz_ms0] at h2
  exact h2
def hx_PM (H mu : Nat → Int32) (i : Nat) : Prop := ∀ b, b < 16 → (b < i ∨ b = 4 ∨ b = 8) → ∀ c, c < 4 → mu (4 * b + c) = hg_gm H b c
theorem hx_b80 {H : Nat → Int32} (I : hx_PM H mu 3) (h : ∀ mu' : Nat → Int32, hg_MU mu' H → post (sub, res, fw, bw, rk, tk, pr, sm, st, fr, mu', fa)) :
    ∃ n, wX_buildMultiples_80 post n 3 sub res fw bw rk tk pr sm st fr mu fa := by
  obtain ⟨n, hn⟩ := hz_up (fun n i => ∀ mu : Nat → Int32, hx_PM H mu i → wX_buildMultiples_80 post n (nI i) sub res fw bw rk tk pr sm st fr mu fa) 16 3 (by omega)
    (by
      intro n mu I
      refine br_t (nI_le (a := 16) (b := 16) (Nat.le_refl _) (by decide)) (h mu ?_)
      exact fun b hb c hc => I b hb (Or.inl hb) c hc)
    (by
      intro n i h3 hi ih mu I
      refine br_f (nI_ge (b := 16) hi (by decide)) (nm_r (e' := nI (hg_lo i)) (hg_los i hi) ?_)
      obtain ⟨l1, l2, l3⟩ := hg_lot i hi
      refine pk_eq (hg_lo i) i (fun e => ?_) (fun e => ?_)
      · refine nm_r (nI_1 i) (ih mu ?_)
        intro b hb hh c hc
        refine I b hb ?_ c hc
        have := hg_lob i hi h3 e
        omega
      · have hl := hg_loc i hi h3 e
        have h2 := hz_up (fun m c => wX_buildMultiples_98 post (wX_buildMultiples_80 post n) (nI i) (nI (hg_lo i)) m (nI c) sub res fw bw rk tk pr sm st fr (hz_ms (4 * i) c (hg_gm H i) mu) fa) 4 0 (by omega)
          (by
            intro m
            refine br_t (nI_le (a := 4) (b := 4) (Nat.le_refl _) (by decide)) (nm_r (nI_1 i) (ih _ ?_))
            intro b hb hh c hc
            by_cases e2 : b = i
            · subst e2
              exact hz_min hc
            · rw [hz_mout (by omega)]
              exact I b hb (by omega) c hc)
          (by
            intro m c _ hc ih2
            have e1 : 4 * nI (hg_lo i) + nI c = nI (4 * hg_lo i + c) := hx_q _ _
            have e2 : 4 * (nI i - nI (hg_lo i)) + nI c = nI (4 * (i - hg_lo i) + c) := by rw [pk_sub l1]; exact hx_q _ _
            have e3 : 4 * nI i + nI c = nI (4 * i + c) := hx_q _ _
            refine br_f (nI_ge (b := 4) hc (by decide)) ⟨by rw [e1]; exact vp_in_nI (by omega) (by decide), by rw [e2]; exact vp_in_nI (by omega) (by decide), by rw [e3]; exact vp_in_nI (by omega) (by decide), ?_⟩
            refine nm_r (e' := hz_ms (4 * i) (c + 1) (hg_gm H i) mu) (hz_mss (by rw [e3]; exact nI_clamp (by omega)) ?_) (nm_r (nI_1 c) ih2)
            rw [e1, e2, nI_clamp (by omega), nI_clamp (by omega), hz_mout (by omega), hz_mout (by omega), I _ l2 (by omega) c hc, I (i - hg_lo i) (by omega) (by omega) c hc]
            exact hg_gx H l3 c)
        rw [hz_ms0] at h2
        exact h2)
  exact ⟨n, hn mu I⟩
theorem hx_zc {st : Nat → Int32} : ha_W (hz_mp 4 (fun _ => 0) st) (fun _ => 0) := by
  intro c hc
  rw [hz_lt hc]
  show (0 : Int32) = hz_wd 0 0 0 0
  decide
theorem hx_bmu (TS : ha_TS sub) (TF : ha_TF fw)
    (h : ∀ st' fr' mu' : Nat → Int32, hg_MU mu' (hg_H rk) → post (sub, res, fw, bw, rk, tk, pr, sm, st', fr', mu', fa)) :
    wpX_buildMultiples post (sub, res, fw, bw, rk, tk, pr, sm, st, fr, mu, fa) := by
  obtain ⟨n, hn⟩ := hz_up (fun n i => wX_buildMultiples_2 post n (nI i) sub res fw bw rk tk pr sm (hz_mp i (fun _ => 0) st) fr (hz_mp i (fun _ => 0) mu) fa) 4 0 (by omega)
    (by
      intro n
      refine br_t (nI_le (a := 4) (b := 4) (Nat.le_refl _) (by decide)) ?_
      refine hx_rf TS TF (p := fun _ => 0) (fun _ _ => Nat.zero_lt_succ 255) hx_zc ?_
      intro st0 fr' W0
      refine ⟨5, ?_⟩
      refine hx_b34 (b := 8) (by decide) (by decide) ?_
      intro st1 W1
      refine hx_b34 (b := 4) (by decide) (by decide) ?_
      intro st2 W2
      refine hx_b34 (b := 2) (by decide) (by decide) ?_
      intro st3 W3
      refine hx_b34 (b := 1) (by decide) (by decide) ?_
      intro st4 _
      refine br_t (nI_le (a := 0) (b := 0) (Nat.le_refl _) (by decide)) ?_
      refine hx_b80 (H := hg_H rk) ?_ (fun mu' M => h st4 fr' mu' M)
      have V0 : ∀ c, c < 4 → st0 c = hg_H rk c := W0
      have V1 : ∀ c, c < 4 → st1 c = hg_M (hg_H rk) c := fun c hc => (W1 c hc).trans (hg_Mc V0 c hc)
      have V2 : ∀ c, c < 4 → st2 c = hg_M (hg_M (hg_H rk)) c := fun c hc => (W2 c hc).trans (hg_Mc V1 c hc)
      have V3 : ∀ c, c < 4 → st3 c = hg_M (hg_M (hg_M (hg_H rk))) c := fun c hc => (W3 c hc).trans (hg_Mc V2 c hc)
      intro b hb hh c hc
      have hcase : b = 0 ∨ b = 1 ∨ b = 2 ∨ b = 4 ∨ b = 8 := by omega
      rcases hcase with e | e | e | e | e <;> subst e
      · rw [hz_mout (by omega), hz_mout (by omega), hz_mout (by omega), hz_mout (by omega), hz_lt (by omega), hg_g0]
        rfl
      · rw [hz_min hc, hg_g1, V3 c hc]
      · rw [hz_mout (by omega), hz_min hc, hg_g2, V2 c hc]
      · rw [hz_mout (by omega), hz_mout (by omega), hz_min hc, hg_g4, V1 c hc]
      · rw [hz_mout (by omega), hz_mout (by omega), hz_mout (by omega), hz_min hc, hg_g8, V0 c hc])
    (by
      intro n i _ hi ih
      refine br_f (nI_ge (b := 4) hi (by decide)) ⟨vp_in_nI hi (by decide), ?_⟩
      refine nm_r (e' := hz_mp (i + 1) (fun _ => 0) st) (hz_st (nI_clamp (by omega)) rfl) ⟨vp_in_nI (by omega) (by decide), ?_⟩
      exact nm_r (e' := hz_mp (i + 1) (fun _ => 0) mu) (hz_st (nI_clamp (by omega)) rfl) (nm_r (nI_1 i) ih))
  rw [hz_mp0, hz_mp0] at hn
  exact ⟨n, hn⟩
theorem hx_k122 (TS : ha_TS sub) (TF : ha_TF fw) (TB : ha_TB bw)
    (h : ∀ tk' st' fr' mu' : Nat → Int32, ha_TK rk tk' → hg_MU mu' (hg_H rk) → post (sub, res, fw, bw, rk, tk', pr, sm, st', fr', mu', fa)) :
    ∃ n, wX_key_122 post n 0 sub res fw bw rk tk pr sm st fr mu fa := by
  obtain ⟨n, hn⟩ := hz_up (fun n i => wX_key_122 post n (nI i) sub res fw bw rk (hz_mp i (fun j => if j < 4 ∨ 40 ≤ j then rk j else ha_tm (rk j)) tk) pr sm st fr mu fa) 44 0 (by omega)
    (by
      intro n
      refine br_t (nI_le (a := 44) (b := 44) (Nat.le_refl _) (by decide)) (hx_bmu TS TF ?_)
      exact fun st' fr' mu' M => h _ st' fr' mu' (fun i hi => hz_lt hi) M)
    (by
      intro n i _ hi ih
      have ci : (nI i).toNatClampNeg = i := nI_clamp (by omega)
      have vi : vp_in (nI i) 44 := vp_in_nI hi (by decide)
      refine br_f (nI_ge (b := 44) hi (by decide)) (pk_lt i 4 (fun h4 => ?_) (fun h4 => pk_lt i 40 (fun h40 => ?_) (fun h40 => ?_)))
      · refine ⟨vi, vi, nm_r (e' := hz_mp (i + 1) (fun j => if j < 4 ∨ 40 ≤ j then rk j else ha_tm (rk j)) tk) (hz_st ci ?_) (nm_r (nI_1 i) ih)⟩
        rw [ci, if_pos (Or.inl h4)]
      · refine ⟨vi, hx_tm TS TB ⟨vi, nm_r (e' := hz_mp (i + 1) (fun j => if j < 4 ∨ 40 ≤ j then rk j else ha_tm (rk j)) tk) (hz_st ci ?_) (nm_r (nI_1 i) ih)⟩⟩
        rw [ci, if_neg (by omega)]
      · refine ⟨vi, vi, nm_r (e' := hz_mp (i + 1) (fun j => if j < 4 ∨ 40 ≤ j then rk j else ha_tm (rk j)) tk) (hz_st ci ?_) (nm_r (nI_1 i) ih)⟩
        rw [ci, if_pos (Or.inr h40)])
  rw [hz_mp0] at hn
  exact ⟨n, hn⟩
theorem hx_key (TS : ha_TS sub) (TF : ha_TF fw) (TB : ha_TB bw) {v1 v2 v3 v4 : Int32}
    (h : ∀ tk' st' fr' mu' : Nat → Int32, ha_TK (hk_key rk v1 v2 v3 v4) tk' → hg_MU mu' (hg_H (hk_key rk v1 v2 v3 v4)) → post (sub, res, fw, bw, hk_key rk v1 v2 v3 v4, tk', pr, sm, st', fr', mu', fa)) :
    wpX_key post (sub, res, fw, bw, rk, tk, pr, sm, st, fr, mu, fa) v1 v2 v3 v4 := by
  refine nm_e (nm_e (nm_e (nm_e ?_)))
  unfold hk_key at h
  generalize upd (upd (upd (upd rk 0 v1) 1 v2) 2 v3) 3 v4 = a at h ⊢
  obtain ⟨n, hn⟩ := hz_up (fun n m => wX_key_35 post n (nI (hk_s a m).1) (nI (m + 4)) sub res fw bw (hk_s a m).2 tk pr sm st fr mu fa) 40 0 (by omega)
    (by
      intro n
      refine br_t (nI_le (a := 44) (b := 44) (Nat.le_refl _) (by decide)) ?_
      exact hx_k122 TS TF TB h)
    (by
      intro n m _ hm ih
      have cm : (nI (m + 4)).toNatClampNeg = m + 4 := nI_clamp (by omega)
      have e1 : nI (m + 4) - 1 = nI (m + 3) := nI_pred (m + 3)
      have e4 : nI (m + 4) - 4 = nI m := (pk_sub (a := m + 4) (b := 4) (by omega)).trans (congrArg nI (by omega))
      have vm : vp_in (nI (m + 4)) 44 := vp_in_nI (by omega) (by decide)
      have v4 : vp_in (nI (m + 4) - 4) 44 := by rw [e4]; exact vp_in_nI (by omega) (by decide)
      refine br_f (nI_ge (b := 44) (by omega) (by decide)) ⟨by rw [e1]; exact vp_in_nI (by omega) (by decide), ?_⟩
      refine nm_r (e' := (hk_s a m).2 (m + 3)) (by rw [e1, nI_clamp (by omega)]) ?_
      refine pk_eq ((m + 4) % 4) 0 (fun hz => ?_) (fun hz => ?_) (pk_andN (by omega) 2 (by decide)) rfl
      · refine nm_e (hx_sw TS (nm_e (hx_tw (hk_l a m) ?_)))
        have hz2 : m % 4 = 0 := by omega
        have ec : (hk_s a (m + 1)).1 = hs_tw (hk_s a m).1 := if_pos hz2
        rw [ec] at ih
        refine ⟨v4, vm, nm_r (e' := (hk_s a (m + 1)).2) ?_ (nm_r (nI_1 (m + 4)) ih)⟩
        rw [cm, e4, nI_clamp (by omega)]
        show _ = upd (hk_s a m).2 (m + 4) ((hk_s a m).2 m ^^^ hk_t (hk_s a m).2 (hk_s a m).1 m)
        unfold hk_t
        rw [if_pos hz2]
      · have hz2 : ¬ m % 4 = 0 := by omega
        have ec : (hk_s a (m + 1)).1 = (hk_s a m).1 := if_neg hz2
        rw [ec] at ih
        refine ⟨v4, vm, nm_r (e' := (hk_s a (m + 1)).2) ?_ (nm_r (nI_1 (m + 4)) ih)⟩
        rw [cm, e4, nI_clamp (by omega)]
        show _ = upd (hk_s a m).2 (m + 4) ((hk_s a m).2 m ^^^ hk_t (hk_s a m).2 (hk_s a m).1 m)
        unfold hk_t
        rw [if_neg hz2])
  exact ⟨n, hn⟩
end
end
section
/-! the component: the hash, and the small calls -/
theorem hx_nib (w : Int32) {k : Nat} (hk : k < 8) : ((w.toUInt32 >>> ((nI (28 - 4 * k)).toUInt32 &&& Int32.toUInt32 31)).toInt32) &&& 15 = nI (hg_nb w k) := by
  apply b_ext
  intro i hi
  rw [hz_bn _ hi, hg_nbt, b_and, hg_15, b_ushr (28 - 4 * k) (by omega), Bool.and_comm]
theorem hx_sft {k : Nat} (hk : k < 32) : (28 : Int32) - (4 * (nI k &&& 7)) = nI (28 - 4 * (k % 8)) := by
  have e : nI k &&& 7 = nI (k % 8) := pk_andN (by omega) 3 (by decide)
  rw [e, show (4 : Int32) = nI 4 from rfl, show (28 : Int32) = nI 28 from rfl, pk_mul, pk_sub (by omega)]
section
variable {post : SX → Prop} {sub res fw bw rk tk pr sm st fr mu fa : Nat → Int32}
theorem hx_ms (TL : ha_TL fa) (h : ∀ sm' : Nat → Int32, (∀ c, c < 4 → sm' c = hg_S4 sm c) → post (sub, res, fw, bw, rk, tk, pr, sm', st, fr, mu, fa)) :
    wpX_moveSum post (sub, res, fw, bw, rk, tk, pr, sm, st, fr, mu, fa) := by
  refine nm_e ?_
  obtain ⟨b, hb, eb⟩ := pk_andE (sm 3) (m := 15) 4 (by decide)
  obtain ⟨n, hn⟩ := hz_dn (fun n c => ∀ sm' : Nat → Int32, (∀ j, j < 4 → sm' j = if c < j then hg_S4 sm j else sm j) → wX_moveSum_12 post (sm 3 &&& 15) n (nI c) sub res fw bw rk tk pr sm' st fr mu fa) 3
    (by
      intro n sm' I
      have I0 : sm' 0 = sm 0 := (I 0 (by decide)).trans (if_neg (by omega))
      refine br_t (nI_le (a := 0) (b := 0) (Nat.le_refl _) (by decide)) ⟨by rw [eb]; exact vp_in_nI hb (by decide), nm_e (h _ ?_)⟩
      intro c hc
      by_cases e : c = 0
      · subst e
        rw [pk_us, I0]
        show hg_u 4 (sm 0) ^^^ fa (sm 3 &&& 15).toNatClampNeg = hg_u 4 (sm 0) ^^^ hg_fs (sm 3 &&& 15) 4
        rw [eb, nI_clamp (Nat.lt_trans hb (by decide)), TL b hb]
      · rw [pk_un e, I c hc, if_pos (by omega)])
    (by
      intro n c hc ih sm' I
      refine br_f (nI_nle (by omega) (by omega)) ⟨vp_in_nI (by omega) (by decide), by rw [nI_pred]; exact vp_in_nI (by omega) (by decide), vp_in_nI (by omega) (by decide), nm_e (nm_r (pk_m1 c) (ih _ ?_))⟩
      intro j hj
      rw [nI_pred, nI_clamp (by omega), nI_clamp (by omega)]
      by_cases e : j = c + 1
      · subst e
        rw [pk_us, I (c + 1) hj, if_neg (by omega), I c (by omega), if_neg (by omega), if_pos (by omega)]
        show _ = if c + 1 = 0 then _ else _
        rw [if_neg (by omega)]
        rfl
      · rw [pk_un e, I j hj]
        by_cases e2 : c < j
        · rw [if_pos e2, if_pos (by omega)]
        · rw [if_neg e2, if_neg (by omega)])
  exact ⟨n, hn sm (fun j hj => (if_neg (by omega)).symm)⟩
theorem hx_a42 {z H : Nat → Int32} (TL : ha_TL fa) (MU : hg_MU mu H) (Z : ∀ c, c < 4 → st c = z c) (S0 : ∀ c, c < 4 → sm c = 0)
    (h : ∀ sm' : Nat → Int32, (∀ c, c < 4 → sm' c = hg_G z H 128 c) → post (sub, res, fw, bw, rk, tk, pr, sm', st, fr, mu, fa)) :
    ∃ n, wX_absorb_42 post n 31 sub res fw bw rk tk pr sm st fr mu fa := by
  obtain ⟨n, hn⟩ := hz_dn (fun n k => ∀ sm' : Nat → Int32, (∀ c, c < 4 → sm' c = hg_T z H (128 - 4 * k) (4 * k) c) → wX_absorb_42 post n (nI k + (-1)) sub res fw bw rk tk pr sm' st fr mu fa) 32
    (by
      intro n sm' I
      refine br_t (by decide) (h sm' ?_)
      intro c hc
      rw [← hg_TG]
      exact I c hc)
    (by
      intro n k hk ih sm' I
      show wX_absorb_42 post (n + 1) (nI (k + 1) + (-1)) sub res fw bw rk tk pr sm' st fr mu fa
      rw [pk_m1]
      have e3 : nI k >>> ((3 : Int32) &&& 31) = nI (k / 8) := pk_shrN (by omega) _ 3 (by decide)
      refine br_f (nI_pos (by omega)) (hx_ms TL ?_)
      intro sm2 e2
      refine ⟨by rw [e3]; exact vp_in_nI (by omega) (by decide), ?_⟩
      refine nm_r (e' := nI (hg_nb (z (k / 8)) (k % 8))) ?_ ?_
      · rw [e3, nI_clamp (by omega), hx_sft hk, hx_nib _ (Nat.mod_lt _ (by decide)), Z _ (by omega)]
      · have hb := hg_nbl (z (k / 8)) (k % 8)
        have eT := hg_T4 z H (128 - 4 * (k + 1)) k
        rw [show 128 - 4 * (k + 1) + 4 = 128 - 4 * k by omega] at eT
        generalize hg_nb (z (k / 8)) (k % 8) = b at hb eT ⊢
        have h2 := hz_up (fun m i => wX_absorb_74 post (wX_absorb_42 post n) (nI k) (nI b) m (nI i) sub res fw bw rk tk pr (hz_mp i (fun c => sm2 c ^^^ mu (4 * b + c)) sm2) st fr mu fa) 4 0 (by omega)
          (by
            intro m
            refine br_t (nI_le (a := 4) (b := 4) (Nat.le_refl _) (by decide)) (nm_e (ih _ ?_))
            intro c hc
            rw [hz_lt hc, eT, MU b hb c hc, e2 c hc, hg_S4c I c hc]
            rfl)
          (by
            intro m i _ hi ih2
            refine br_f (nI_ge (b := 4) hi (by decide)) ⟨vp_in_nI hi (by decide), by rw [hx_q]; exact vp_in_nI (by omega) (by decide), vp_in_nI hi (by decide), ?_⟩
            refine nm_r (e' := hz_mp (i + 1) (fun c => sm2 c ^^^ mu (4 * b + c)) sm2) (hz_st (nI_clamp (by omega)) ?_) (nm_r (nI_1 i) ih2)
            rw [hx_q, nI_clamp (by omega), nI_clamp (by omega), hz_ge (Nat.le_refl _)])
        rw [hz_mp0] at h2
        exact h2)
  exact ⟨n, hn sm (fun c hc => (S0 c hc).trans rfl)⟩
theorem hx_ab {H : Nat → Int32} (TL : ha_TL fa) (MU : hg_MU mu H)
    (h : ∀ sm' st' : Nat → Int32, (∀ c, c < 4 → sm' c = hg_G (fun c => sm c ^^^ pr c) H 128 c) → post (sub, res, fw, bw, rk, tk, pr, sm', st', fr, mu, fa)) :
    wpX_absorb post (sub, res, fw, bw, rk, tk, pr, sm, st, fr, mu, fa) := by
  obtain ⟨n, hn⟩ := hz_up (fun n i => wX_absorb_2 post n (nI i) sub res fw bw rk tk pr (hz_mp i (fun _ => 0) sm) (hz_mp i (fun c => sm c ^^^ pr c) st) fr mu fa) 4 0 (by omega)
    (by
      intro n
      refine br_t (nI_le (a := 4) (b := 4) (Nat.le_refl _) (by decide)) ?_
      exact hx_a42 TL MU (fun c hc => hz_lt hc) (fun c hc => hz_lt hc) (fun sm' e => h sm' _ e))
    (by
      intro n i _ hi ih
      have vi : vp_in (nI i) 4 := vp_in_nI hi (by decide)
      refine br_f (nI_ge (b := 4) hi (by decide)) ⟨vi, vi, vi, ?_⟩
      refine nm_r (e' := hz_mp (i + 1) (fun c => sm c ^^^ pr c) st) (hz_st (nI_clamp (by omega)) ?_) ⟨vi, ?_⟩
      · rw [nI_clamp (by omega), hz_ge (Nat.le_refl _)]
      · exact nm_r (e' := hz_mp (i + 1) (fun _ => 0) sm) (hz_st (nI_clamp (by omega)) rfl) (nm_r (nI_1 i) ih))
  rw [hz_mp0, hz_mp0] at hn
  exact ⟨n, hn⟩
theorem hx_re (h : post (sub, res, fw, bw, rk, tk, pr, hz_mp 4 (fun _ => 0) sm, st, fr, mu, fa)) : wpX_restart post (sub, res, fw, bw, rk, tk, pr, sm, st, fr, mu, fa) := by
  obtain ⟨n, hn⟩ := hz_up (fun n i => wX_restart_2 post n (nI i) sub res fw bw rk tk pr (hz_mp i (fun _ => 0) sm) st fr mu fa) 4 0 (by omega)
    (fun n => br_t (nI_le (a := 4) (b := 4) (Nat.le_refl _) (by decide)) h)
    (fun n i _ hi ih => br_f (nI_ge (b := 4) hi (by decide)) ⟨vp_in_nI hi (by decide),
      nm_r (e' := hz_mp (i + 1) (fun _ => 0) sm) (hz_st (nI_clamp (by omega)) rfl) (nm_r (nI_1 i) ih)⟩)
  rw [hz_mp0] at hn
  exact ⟨n, hn⟩
end
end
section
/-! the reference: its table, words, keys -/
theorem hy_tw {post : Int32 → Prop} {x : Nat} (hx : x < 256) (h : post (nI (hs_tw x))) : wpY_twice post (nI x) := by
  have e2 : 2 * nI x = nI (2 * x) := pk_mul 2 x
  refine pk_le (2 * x) 255 (fun h1 => ?_) (fun h1 => ?_) e2 rfl
  · have e : 2 * nI x = nI (hs_tw x) := by
      rw [e2]
      unfold hs_tw
      rw [show x / 128 % 2 = 0 by omega, Nat.mul_zero, Nat.xor_zero]
    rw [e]; exact h
  · have e : (2 * nI x) ^^^ 283 = nI (hs_tw x) := by
      rw [e2, show (283 : Int32) = nI 283 from rfl, nx_xor]
      unfold hs_tw
      rw [show x / 128 % 2 = 1 by omega]
    rw [e]; exact h
theorem hs_tql : ∀ (m y r d : Nat), r < 256 → d < 256 → hs_tq m y r d < 256
  | 0, _, _, _, hr, _ => hr
  | m + 1, y, r, d, hr, hd => by
    refine hs_tql m _ _ _ (hz_x8 hr ?_) (hs_twl d hd)
    rcases Nat.mod_two_eq_zero_or_one y with e | e <;> rw [e]
    · rw [Nat.mul_zero]; decide
    · rw [Nat.mul_one]; exact hd
theorem hy_tq {post : Int32 → Prop} {y : Nat} (hy : y < 256) : ∀ (m k r d : Nat), k + m = 8 → d < 256 → post (nI (hs_tq m (y / 2 ^ k) r d)) → wY_times_7 post (nI y) (m + 1) (nI r) (nI d) (nI k) := by
  intro m
  induction m with
  | zero =>
    intro k r d hk hd h
    have e : k = 8 := by omega
    subst e
    exact br_t (nI_le (a := 8) (b := 8) (Nat.le_refl _) (by decide)) h
  | succ m ih =>
    intro k r d hk hd h
    have e1 : nI y >>> (nI k &&& 31) = nI (y / 2 ^ k) := pk_shrN (by omega) _ k (s_l k (by omega))
    have hl : y / 2 ^ k < 256 := Nat.lt_of_le_of_lt (Nat.div_le_self _ _) hy
    have e2 : (nI y >>> (nI k &&& 31)) &&& 1 = nI (y / 2 ^ k % 2) := by
      rw [e1]
      exact pk_andN (by omega) 1 (by decide)
    have e3 : y / 2 ^ (k + 1) = y / 2 ^ k / 2 := by rw [Nat.div_div_eq_div_mul, Nat.pow_succ]
    have h' : post (nI (hs_tq m (y / 2 ^ k / 2) (r ^^^ (d * (y / 2 ^ k % 2))) (hs_tw d))) := h
    rw [← e3] at h'
    refine br_f (nI_ge (b := 8) (by omega) (by decide)) (pk_eq (y / 2 ^ k % 2) 1 (fun e => ?_) (fun e => ?_) e2 rfl)
    · refine nm_r (e' := nI (r ^^^ d)) (nx_xor r d) (hy_tw hd (nm_r (nI_1 k) (ih (k + 1) _ _ (by omega) (hs_twl d hd) ?_)))
      rw [e, Nat.mul_one] at h'
      exact h'
    · have e0 : y / 2 ^ k % 2 = 0 := by omega
      refine hy_tw hd (nm_r (nI_1 k) (ih (k + 1) _ _ (by omega) (hs_twl d hd) ?_))
      rw [e0, Nat.mul_zero, Nat.xor_zero] at h'
      exact h'
theorem hy_tm {post : Int32 → Prop} {x y : Nat} (hx : x < 256) (hy : y < 256) (h : post (nI (hs_tq 8 y 0 x))) : wpY_times post (nI x) (nI y) := by
  refine ⟨9, hy_tq hy 8 0 0 x rfl hx ?_⟩
  rw [Nat.pow_zero, Nat.div_one]
  exact h
theorem hy_inv {post : Int32 → Prop} {x : Nat} (hx : x < 256) (h : post (nI (hs_I x % 256))) : wpY_inverse post (nI x) := by
  obtain ⟨_, i2, i1⟩ := hs_IS x hx
  refine hz_up (fun n y => wY_inverse_2 post (nI x) n (nI y)) (hs_I x) 1 i1 (fun n => ?_) (fun n y y1 hy ih => ?_)
  · by_cases e : hs_I x = 256
    · rw [e] at h ⊢
      exact br_t (nI_le (a := 256) (b := 256) (Nat.le_refl _) (by decide)) h
    · refine br_f (nI_ge (b := 256) (by omega) (by decide)) (hy_tm hx (by omega) (br_t ?_ ?_))
      · rw [hs_I1 x hx e]; rfl
      · rw [Nat.mod_eq_of_lt (by omega)] at h
        exact h
  · refine br_f (nI_ge (b := 256) (by omega) (by decide)) (hy_tm hx (by omega) (br_f ?_ (nm_r (nI_1 y) ih)))
    intro z
    have z2 : nI (hs_tq 8 y 0 x) = nI 1 := z
    rw [nI_eq (Nat.lt_trans (hs_tql _ _ _ _ (by decide) hx) (by decide)) (by decide)] at z2
    exact hs_Ino hx y1 hy z2
def hy_sp (x0 : Int32) : Nat → Int32 → Int32 → Int32
  | 0, x1, _ => x1
  | m + 1, x1, x2 => hy_sp x0 m (x1 ||| ((((((((x0 >>> (x2 &&& 31)) ^^^ (x0 >>> (((x2 + 4) - (x2 + 4) / 8 * 8) &&& 31))) ^^^ (x0 >>> (((x2 + 5) - (x2 + 5) / 8 * 8) &&& 31))) ^^^ (x0 >>> (((x2 + 6) - (x2 + 6) / 8 * 8) &&& 31))) ^^^ (x0 >>> (((x2 + 7) - (x2 + 7) / 8 * 8) &&& 31))) ^^^ ((99 : Int32) >>> (x2 &&& 31))) &&& 1) <<< (x2 &&& 31))) (x2 + 1)
theorem hy_sps : ∀ v, v < 256 → hy_sp (nI v) 8 0 0 = nI (hs_af v) := by decide +kernel
theorem hy_spl {post : Int32 → Prop} {x0 : Int32} : ∀ (m k : Nat) (x1 : Int32), k + m = 8 → post (hy_sp x0 m x1 (nI k)) → wY_spread_4 post x0 (m + 1) x1 (nI k) := by
  intro m
  induction m with
  | zero =>
    intro k x1 hk h
    have e : k = 8 := by omega
    subst e
    exact br_t (nI_le (a := 8) (b := 8) (Nat.le_refl _) (by decide)) h
  | succ m ih =>
    intro k x1 hk h
    refine br_f (nI_ge (b := 8) (by omega) (by decide)) ⟨by decide, by decide, by decide, by decide, nm_e (nm_e (nm_r (nI_1 k) (ih (k + 1) _ (by omega) ?_)))⟩
    rw [← nI_1 k]
    exact h
theorem hy_sd {post : Int32 → Prop} {v : Nat} (hv : v < 256) (h : post (nI (hs_af v))) : wpY_spread post (nI v) := by
  refine ⟨9, hy_spl 8 0 0 rfl ?_⟩
  rw [← hy_sps v hv] at h
  exact h
theorem hy_by {post : Int32 → Prop} {w : Int32} {k : Nat} (hk : k < 4) (h : post (nI (hz_by w k))) : wpY_byteOf post w (nI k) := by
  unfold wpY_byteOf
  rw [hz_yb w hk]
  exact h
def hk_sr (w : Int32) : Nat → Int32
  | 0 => 0
  | i + 1 => (hk_sr w i <<< ((8 : Int32) &&& 31)) ||| nI (hs_S (hz_by w i))
theorem hk_sr4 (w : Int32) : hk_sr w 4 = hk_sw w :=
  hz_w3 (hs_Sl _ (hz_byl _ _)) (hs_Sl _ (hz_byl _ _)) (hs_Sl _ (hz_byl _ _)) (hs_Sl _ (hz_byl _ _))
section
variable {post : SY → Prop} {sub ks pr hs sq sf se mo pd : Nat → Int32}
theorem hy_sw {q : Int32 → Prop} (TS : ha_TS sub) {w : Int32} (h : q (hk_sw w)) : wpY_substituted q (sub, ks, pr, hs, sq, sf, se, mo, pd) w := by
  rw [← hk_sr4] at h
  refine hz_up (fun n i => wY_substituted_4 q w sub ks pr hs sq sf se mo pd n (hk_sr w i) (nI i)) 4 0 (by omega) (fun n => ?_) (fun n i _ hi ih => ?_)
  · exact br_t (nI_le (a := 4) (b := 4) (Nat.le_refl _) (by decide)) h
  · refine br_f (nI_ge (b := 4) hi (by decide)) (hy_by hi ⟨vp_in_nI (hz_byl _ _) (by decide), nm_r (e' := hk_sr w (i + 1)) ?_ (nm_r (nI_1 i) ih)⟩)
    rw [nI_clamp (Nat.lt_trans (hz_byl _ _) (by decide)), TS _ (hz_byl _ _)]
    rfl
theorem hy_key (TS : ha_TS sub) {v1 v2 v3 v4 : Int32} (h : post (sub, hk_key ks v1 v2 v3 v4, pr, hs, sq, sf, se, mo, pd)) :
    wpY_key post (sub, ks, pr, hs, sq, sf, se, mo, pd) v1 v2 v3 v4 := by
  refine nm_e (nm_e (nm_e (nm_e ?_)))
  unfold hk_key at h
  generalize upd (upd (upd (upd ks 0 v1) 1 v2) 2 v3) 3 v4 = a at h ⊢
  obtain ⟨n, hn⟩ := hz_up (fun n m => wY_key_35 post n (nI (hk_s a m).1) (nI (m + 4)) sub (hk_s a m).2 pr hs sq sf se mo pd) 40 0 (by omega)
    (fun n => br_t (nI_le (a := 44) (b := 44) (Nat.le_refl _) (by decide)) h)
    (by
      intro n m _ hm ih
      have cm : (nI (m + 4)).toNatClampNeg = m + 4 := nI_clamp (by omega)
      have e1 : nI (m + 4) - 1 = nI (m + 3) := nI_pred (m + 3)
      have e4 : nI (m + 4) - 4 = nI m := (pk_sub (a := m + 4) (b := 4) (by omega)).trans (congrArg nI (by omega))
      have vm : vp_in (nI (m + 4)) 44 := vp_in_nI (by omega) (by decide)
      have v4 : vp_in (nI (m + 4) - 4) 44 := by rw [e4]; exact vp_in_nI (by omega) (by decide)
      have er : nI (m + 4) - nI (m + 4) / 4 * 4 = nI ((m + 4) % 4) := pk_rem (a := m + 4) (d := 4) (by omega) (by decide) (by decide)
      refine br_f (nI_ge (b := 44) (by omega) (by decide)) ⟨by rw [e1]; exact vp_in_nI (by omega) (by decide), ?_⟩
      refine nm_r (e' := (hk_s a m).2 (m + 3)) (by rw [e1, nI_clamp (by omega)]) ⟨by decide, ?_⟩
      refine pk_eq ((m + 4) % 4) 0 (fun hz => ?_) (fun hz => ?_) er rfl
      · refine nm_e (hy_sw TS (nm_e (hy_tw (hk_l a m) ?_)))
        have hz2 : m % 4 = 0 := by omega
        have ec : (hk_s a (m + 1)).1 = hs_tw (hk_s a m).1 := if_pos hz2
        rw [ec] at ih
        refine ⟨v4, vm, nm_r (e' := (hk_s a (m + 1)).2) ?_ (nm_r (nI_1 (m + 4)) ih)⟩
        rw [cm, e4, nI_clamp (by omega)]
        show _ = upd (hk_s a m).2 (m + 4) ((hk_s a m).2 m ^^^ hk_t (hk_s a m).2 (hk_s a m).1 m)
        unfold hk_t
        rw [if_pos hz2]
      · have hz2 : ¬ m % 4 = 0 := by omega
        have ec : (hk_s a (m + 1)).1 = (hk_s a m).1 := if_neg hz2
        rw [ec] at ih
        refine ⟨v4, vm, nm_r (e' := (hk_s a (m + 1)).2) ?_ (nm_r (nI_1 (m + 4)) ih)⟩
        rw [cm, e4, nI_clamp (by omega)]
        show _ = upd (hk_s a m).2 (m + 4) ((hk_s a m).2 m ^^^ hk_t (hk_s a m).2 (hk_s a m).1 m)
        unfold hk_t
        rw [if_neg hz2])
  exact ⟨n, hn⟩
theorem hy_init (h : ∀ sub' : Nat → Int32, ha_TS sub' → post (sub', hk_key (fun _ => 0) 0 0 0 0, (fun _ => 0), (fun _ => 0), (fun _ => 0), (fun _ => 0), (fun _ => 0), (fun _ => 0), (fun _ => 0))) : wpY_init post := by
  obtain ⟨n, hn⟩ := hz_up (fun n i => wY_init_74 post n (nI i) (hz_mp i (fun j => nI (hs_S j)) (fun _ => 0)) (fun _ => 0) (fun _ => 0) (fun _ => 0) (fun _ => 0) (fun _ => 0) (fun _ => 0) (fun _ => 0) (fun _ => 0)) 256 0 (by omega)
    (by
      intro n
      have T : ha_TS (hz_mp 256 (fun j => nI (hs_S j)) (fun _ => 0)) := fun x hx => hz_lt hx
      exact br_t (nI_le (a := 256) (b := 256) (Nat.le_refl _) (by decide)) (hy_key T (h _ T)))
    (by
      intro n i _ hi ih
      obtain ⟨i3, _, _⟩ := hs_IS i hi
      refine br_f (nI_ge (b := 256) hi (by decide)) (hy_inv hi (hy_sd (Nat.mod_lt _ (by decide)) ⟨vp_in_nI hi (by decide), ?_⟩))
      exact nm_r (e' := hz_mp (i + 1) (fun j => nI (hs_S j)) (fun _ => 0)) (hz_st (nI_clamp (by omega)) (by rw [i3])) (nm_r (nI_1 i) ih))
  rw [hz_mp0] at hn
  exact ⟨n, hn⟩
end
end
section
/-! the reference: the square's passes -/
def hy_Q (sq : Nat → Int32) (p : Nat → Nat) : Prop := ∀ j, j < 16 → sq j = nI (p j)
theorem hy_r4 {j : Nat} (hj : j < 64) : nI j - nI j / 4 * 4 = nI (j % 4) := pk_rem (a := j) (d := 4) (by omega) (by decide) (by decide)
theorem hy_d4 {j : Nat} (hj : j < 64) : nI j / 4 = nI (j / 4) := pk_div (a := j) (d := 4) (by omega) (by decide) (by decide)
theorem hy_kx {q j : Nat} (hj : j < 16) : 4 * nI q + nI j / 4 = nI (4 * q + j / 4) := by rw [hy_d4 (by omega), hx_q]
theorem hy_ix {j : Nat} (hj : j < 16) : ((nI j - nI j / 4 * 4) + (4 * ((nI j / 4) + (nI j - nI j / 4 * 4)))) - ((nI j - nI j / 4 * 4) + (4 * ((nI j / 4) + (nI j - nI j / 4 * 4)))) / 16 * 16 = nI ((j % 4 + 4 * (j / 4 + j % 4)) % 16) := by
  rw [hy_r4 (by omega), hy_d4 (by omega), nI_add, show (4 : Int32) = nI 4 from rfl, pk_mul, nI_add]
  exact pk_rem (a := j % 4 + 4 * (j / 4 + j % 4)) (d := 16) (by omega) (by decide) (by decide)
theorem hy_mi {j k : Nat} (hj : j < 16) (hk : k < 4) : (nI j / 4) * 4 + ((nI j + nI k) - (nI j + nI k) / 4 * 4) = nI (j / 4 * 4 + (j + k) % 4) := by
  rw [nI_add, hy_r4 (by omega), hy_d4 (by omega), show (4 : Int32) = nI 4 from rfl, pk_mul, nI_add]
theorem hz_mk {f a : Nat → Int32} {i : Nat} (h : f i = a i) : hz_mp i f a = hz_mp (i + 1) f a := by
  rw [← hz_mps, h]
  funext j
  unfold upd
  by_cases e : j = i
  · subst e; rw [if_pos rfl, hz_ge (Nat.le_refl _)]
  · rw [if_neg e]
section
variable {post : SY → Prop} {sub ks pr hs sq sf se mo pd : Nat → Int32} {p : Nat → Nat}
theorem hy_ak {q : Nat} (hq : q ≤ 10) (Q : hy_Q sq p) (h : ∀ sq' : Nat → Int32, hy_Q sq' (ha_ak ks q p) → post (sub, ks, pr, hs, sq', sf, se, mo, pd)) :
    wpY_addKey post (sub, ks, pr, hs, sq, sf, se, mo, pd) (nI q) := by
  obtain ⟨n, hn⟩ := hz_up (fun n j => wY_addKey_2 post (nI q) n (nI j) sub ks pr hs (hz_mp j (fun j => nI (ha_ak ks q p j)) sq) sf se mo pd) 16 0 (by omega)
    (fun n => br_t (nI_le (a := 16) (b := 16) (Nat.le_refl _) (by decide)) (h _ (fun j hj => hz_lt hj)))
    (by
      intro n j _ hj ih
      have vj : vp_in (nI j) 16 := vp_in_nI hj (by decide)
      refine br_f (nI_ge (b := 16) hj (by decide)) ⟨vj, by decide, by rw [hy_kx hj]; exact vp_in_nI (by omega) (by decide), by decide, ?_⟩
      rw [hy_r4 (by omega), hy_kx hj, nI_clamp (n := 4 * q + j / 4) (by omega)]
      refine hy_by (Nat.mod_lt _ (by decide)) ⟨vj, ?_⟩
      refine nm_r (e' := hz_mp (j + 1) (fun j => nI (ha_ak ks q p j)) sq) (hz_st (nI_clamp (by omega)) ?_) (nm_r (nI_1 j) ih)
      rw [nI_clamp (by omega), hz_ge (Nat.le_refl _), Q j hj, nx_xor]
      rfl)
  rw [hz_mp0] at hn
  exact ⟨n, hn⟩
theorem hy_ra (TS : ha_TS sub) (hB : ha_B p) (Q : hy_Q sq p) (h : ∀ sq' : Nat → Int32, hy_Q sq' (ha_sb p) → post (sub, ks, pr, hs, sq', sf, se, mo, pd)) :
    wpY_replaceAll post (sub, ks, pr, hs, sq, sf, se, mo, pd) := by
  obtain ⟨n, hn⟩ := hz_up (fun n j => wY_replaceAll_2 post n (nI j) sub ks pr hs (hz_mp j (fun j => nI (ha_sb p j)) sq) sf se mo pd) 16 0 (by omega)
    (fun n => br_t (nI_le (a := 16) (b := 16) (Nat.le_refl _) (by decide)) (h _ (fun j hj => hz_lt hj)))
    (by
      intro n j _ hj ih
      have vj : vp_in (nI j) 16 := vp_in_nI hj (by decide)
      have e : hz_mp j (fun j => nI (ha_sb p j)) sq (nI j).toNatClampNeg = nI (p j) := by rw [nI_clamp (by omega), hz_ge (Nat.le_refl _), Q j hj]
      refine br_f (nI_ge (b := 16) hj (by decide)) ⟨vj, by rw [e]; exact vp_in_nI (hB j hj) (by decide), vj, ?_⟩
      refine nm_r (e' := hz_mp (j + 1) (fun j => nI (ha_sb p j)) sq) (hz_st (nI_clamp (by omega)) ?_) (nm_r (nI_1 j) ih)
      rw [e, nI_clamp (Nat.lt_trans (hB j hj) (by decide)), TS _ (hB j hj)]
      rfl)
  rw [hz_mp0] at hn
  exact ⟨n, hn⟩
theorem hy_or {q : Int32 → Prop} (TS : ha_TS sub) {s : Nat} (hs' : s < 256) (h : q (nI (hs_R s))) : wpY_origin q (sub, ks, pr, hs, sq, sf, se, mo, pd) (nI s) := by
  have hR := hs_Rl s hs'
  refine hz_up (fun n x => wY_origin_2 q (nI s) sub ks pr hs sq sf se mo pd n (nI x)) (hs_R s) 0 (by omega) (fun n => ?_) (fun n x _ hx ih => ?_)
  · refine br_f (nI_ge (b := 256) hR (by decide)) ⟨vp_in_nI hR (by decide), br_t ?_ h⟩
    rw [nI_clamp (by omega), TS _ hR, hs_SR s hs']
  · refine br_f (nI_ge (b := 256) (by omega) (by decide)) ⟨vp_in_nI (by omega) (by decide), br_f ?_ (nm_r (nI_1 x) ih)⟩
    have hx2 : x < 256 := by omega
    have hS := hs_Sl x hx2
    rw [nI_clamp (by omega), TS _ hx2, nI_eq (by omega) (by omega)]
    intro z
    rw [← z, hs_RS x hx2] at hx
    omega
theorem hy_rs (TS : ha_TS sub) (hB : ha_B p) (Q : hy_Q sq p) (h : ∀ sq' : Nat → Int32, hy_Q sq' (ha_rs p) → post (sub, ks, pr, hs, sq', sf, se, mo, pd)) :
    wpY_restoreAll post (sub, ks, pr, hs, sq, sf, se, mo, pd) := by
  obtain ⟨n, hn⟩ := hz_up (fun n j => wY_restoreAll_2 post n (nI j) sub ks pr hs (hz_mp j (fun j => nI (ha_rs p j)) sq) sf se mo pd) 16 0 (by omega)
    (fun n => br_t (nI_le (a := 16) (b := 16) (Nat.le_refl _) (by decide)) (h _ (fun j hj => hz_lt hj)))
    (by
      intro n j _ hj ih
      have vj : vp_in (nI j) 16 := vp_in_nI hj (by decide)
      have e : hz_mp j (fun j => nI (ha_rs p j)) sq (nI j).toNatClampNeg = nI (p j) := by rw [nI_clamp (by omega), hz_ge (Nat.le_refl _), Q j hj]
      refine br_f (nI_ge (b := 16) hj (by decide)) ⟨vj, ?_⟩
      rw [e]
      refine hy_or TS (hB j hj) ⟨vj, ?_⟩
      exact nm_r (e' := hz_mp (j + 1) (fun j => nI (ha_rs p j)) sq) (hz_st (nI_clamp (by omega)) rfl) (nm_r (nI_1 j) ih))
  rw [hz_mp0] at hn
  exact ⟨n, hn⟩
theorem hy_sh (Q : hy_Q sq p) (h : ∀ sq' sf' : Nat → Int32, hy_Q sq' (ha_sh p) → post (sub, ks, pr, hs, sq', sf', se, mo, pd)) :
    wpY_shift post (sub, ks, pr, hs, sq, sf, se, mo, pd) := by
  obtain ⟨n, hn⟩ := hz_up (fun n j => wY_shift_2 post n (nI j) sub ks pr hs sq (hz_mp j (fun j => nI (ha_sh p j)) sf) se mo pd) 16 0 (by omega)
    (by
      intro n
      refine br_t (nI_le (a := 16) (b := 16) (Nat.le_refl _) (by decide)) ?_
      have hf : ∀ j, j < 16 → hz_mp 16 (fun j => nI (ha_sh p j)) sf j = nI (ha_sh p j) := fun j hj => hz_lt hj
      have h' : ∀ sq' : Nat → Int32, hy_Q sq' (ha_sh p) → post (sub, ks, pr, hs, sq', hz_mp 16 (fun j => nI (ha_sh p j)) sf, se, mo, pd) := fun sq' => h sq' _
      generalize hz_mp 16 (fun j => nI (ha_sh p j)) sf = sf' at hf h' ⊢
      have h2 := hz_up (fun n j => wY_shift_43 post n (nI j) sub ks pr hs (hz_mp j sf' sq) sf' se mo pd) 16 0 (by omega)
        (fun n => br_t (nI_le (a := 16) (b := 16) (Nat.le_refl _) (by decide)) (h' _ (fun j hj => (hz_lt hj).trans (hf j hj))))
        (fun n j _ hj ih => br_f (nI_ge (b := 16) hj (by decide)) ⟨vp_in_nI hj (by decide), vp_in_nI hj (by decide),
          nm_r (e' := hz_mp (j + 1) sf' sq) (hz_st (nI_clamp (by omega)) (by rw [nI_clamp (by omega)])) (nm_r (nI_1 j) ih)⟩)
      rw [hz_mp0] at h2
      exact h2)
    (by
      intro n j _ hj ih
      have vj : vp_in (nI j) 16 := vp_in_nI hj (by decide)
      have e := hy_ix hj
      refine br_f (nI_ge (b := 16) hj (by decide)) ⟨by decide, by decide, by decide, by decide, by rw [e]; exact vp_in_nI (Nat.mod_lt _ (by decide)) (by decide), vj, ?_⟩
      refine nm_r (e' := hz_mp (j + 1) (fun j => nI (ha_sh p j)) sf) (hz_st (nI_clamp (by omega)) ?_) (nm_r (nI_1 j) ih)
      rw [e, nI_clamp (by omega), Q _ (Nat.mod_lt _ (by decide))]
      rfl)
  rw [hz_mp0] at hn
  exact ⟨n, hn⟩
theorem hy_mx {q : Int32 → Prop} (hB : ha_B p) (Q : hy_Q sf p) {j : Nat} (hj : j < 16) (h : q (nI (ha_mc p j))) : wpY_mixed q (sub, ks, pr, hs, sq, sf, se, mo, pd) (nI j) := by
  have e1 : (nI j / 4) * 4 + ((nI j + 1) - (nI j + 1) / 4 * 4) = nI (j / 4 * 4 + (j + 1) % 4) := hy_mi (k := 1) hj (by decide)
  have e2 : (nI j / 4) * 4 + ((nI j + 2) - (nI j + 2) / 4 * 4) = nI (j / 4 * 4 + (j + 2) % 4) := hy_mi (k := 2) hj (by decide)
  have e3 : (nI j / 4) * 4 + ((nI j + 3) - (nI j + 3) / 4 * 4) = nI (j / 4 * 4 + (j + 3) % 4) := hy_mi (k := 3) hj (by decide)
  have b0 := hB j hj
  have b1 := hB (j / 4 * 4 + (j + 1) % 4) (by omega)
  refine ⟨by decide, nm_e ⟨by decide, by rw [e1]; exact vp_in_nI (by omega) (by decide), ?_⟩⟩
  refine nm_r (e' := nI (p (j / 4 * 4 + (j + 1) % 4))) (by rw [e1, nI_clamp (by omega), Q _ (by omega)]) ⟨by decide, by rw [e2]; exact vp_in_nI (by omega) (by decide), ?_⟩
  refine nm_r (e' := nI (p (j / 4 * 4 + (j + 2) % 4))) (by rw [e2, nI_clamp (by omega), Q _ (by omega)]) ⟨by decide, by rw [e3]; exact vp_in_nI (by omega) (by decide), ?_⟩
  refine nm_r (e' := nI (p (j / 4 * 4 + (j + 3) % 4))) (by rw [e3, nI_clamp (by omega), Q _ (by omega)]) ⟨vp_in_nI hj (by decide), ?_⟩
  rw [nI_clamp (by omega), Q j hj]
  refine hy_tm (x := 2) (by decide) b0 (hy_tm (x := 3) (by decide) b1 ?_)
  rw [hs_m2 _ b0, hs_m3 _ b1, nx_xor, nx_xor, nx_xor]
  exact h
theorem hy_mc (hB : ha_B p) (Q : hy_Q sq p) (h : ∀ sq' sf' : Nat → Int32, hy_Q sq' (ha_mc p) → post (sub, ks, pr, hs, sq', sf', se, mo, pd)) :
    wpY_mixColumns post (sub, ks, pr, hs, sq, sf, se, mo, pd) := by
  obtain ⟨n, hn⟩ := hz_up (fun n j => wY_mixColumns_2 post n (nI j) sub ks pr hs sq (hz_mp j sq sf) se mo pd) 16 0 (by omega)
    (by
      intro n
      refine br_t (nI_le (a := 16) (b := 16) (Nat.le_refl _) (by decide)) ?_
      have hf : hy_Q (hz_mp 16 sq sf) p := fun j hj => (hz_lt hj).trans (Q j hj)
      have h' : ∀ sq' : Nat → Int32, hy_Q sq' (ha_mc p) → post (sub, ks, pr, hs, sq', hz_mp 16 sq sf, se, mo, pd) := fun sq' => h sq' _
      generalize hz_mp 16 sq sf = sf' at hf h' ⊢
      have h2 := hz_up (fun n j => wY_mixColumns_28 post n (nI j) sub ks pr hs (hz_mp j (fun j => nI (ha_mc p j)) sq) sf' se mo pd) 16 0 (by omega)
        (fun n => br_t (nI_le (a := 16) (b := 16) (Nat.le_refl _) (by decide)) (h' _ (fun j hj => hz_lt hj)))
        (fun n j _ hj ih => br_f (nI_ge (b := 16) hj (by decide)) (hy_mx hB hf hj ⟨vp_in_nI hj (by decide),
          nm_r (e' := hz_mp (j + 1) (fun j => nI (ha_mc p j)) sq) (hz_st (nI_clamp (by omega)) rfl) (nm_r (nI_1 j) ih)⟩))
      rw [hz_mp0] at h2
      exact h2)
    (fun n j _ hj ih => br_f (nI_ge (b := 16) hj (by decide)) ⟨vp_in_nI hj (by decide), vp_in_nI hj (by decide),
      nm_r (e' := hz_mp (j + 1) sq sf) (hz_st (nI_clamp (by omega)) (by rw [nI_clamp (by omega)])) (nm_r (nI_1 j) ih)⟩)
  rw [hz_mp0] at hn
  exact ⟨n, hn⟩
def hy_LI (w sq : Nat → Int32) (j : Nat) : Prop := ∀ i, i < j → sq i = nI (hz_by (w 0) i) ∧ sq (4 + i) = nI (hz_by (w 1) i) ∧ sq (8 + i) = nI (hz_by (w 2) i) ∧ sq (12 + i) = nI (hz_by (w 3) i)
theorem hy_LQ {w sq : Nat → Int32} (h : hy_LI w sq 4) : hy_Q sq (ha_lay w) := by
  intro j hj
  obtain ⟨h0, h1, h2, h3⟩ := h (j % 4) (Nat.mod_lt _ (by decide))
  unfold ha_lay
  have hc : j / 4 = 0 ∨ j / 4 = 1 ∨ j / 4 = 2 ∨ j / 4 = 3 := by omega
  rcases hc with e | e | e | e
  · rw [e, ← h0]; exact congrArg sq (by omega)
  · rw [e, ← h1]; exact congrArg sq (by omega)
  · rw [e, ← h2]; exact congrArg sq (by omega)
  · rw [e, ← h3]; exact congrArg sq (by omega)
theorem hy_Ls {w sq : Nat → Int32} {j : Nat} (hj : j < 4) (h : hy_LI w sq j) :
    hy_LI w (upd (upd (upd (upd sq j (nI (hz_by (w 0) j))) (4 + j) (nI (hz_by (w 1) j))) (8 + j) (nI (hz_by (w 2) j))) (12 + j) (nI (hz_by (w 3) j))) (j + 1) := by
  intro i hi
  by_cases e : i = j
  · subst e
    refine ⟨?_, ?_, ?_, ?_⟩
    · rw [pk_un (by omega), pk_un (by omega), pk_un (by omega), pk_us]
    · rw [pk_un (by omega), pk_un (by omega), pk_us]
    · rw [pk_un (by omega), pk_us]
    · rw [pk_us]
  · obtain ⟨h0, h1, h2, h3⟩ := h i (by omega)
    refine ⟨?_, ?_, ?_, ?_⟩
    · rw [pk_un (by omega), pk_un (by omega), pk_un (by omega), pk_un (by omega), h0]
    · rw [pk_un (by omega), pk_un (by omega), pk_un (by omega), pk_un (by omega), h1]
    · rw [pk_un (by omega), pk_un (by omega), pk_un (by omega), pk_un (by omega), h2]
    · rw [pk_un (by omega), pk_un (by omega), pk_un (by omega), pk_un (by omega), h3]
theorem hy_lay {w : Nat → Int32} (h : ∀ sq' : Nat → Int32, hy_Q sq' (ha_lay w) → post (sub, ks, pr, hs, sq', sf, se, mo, pd)) :
    wpY_lay post (sub, ks, pr, hs, sq, sf, se, mo, pd) (w 0) (w 1) (w 2) (w 3) := by
  obtain ⟨n, hn⟩ := hz_up (fun n j => ∀ sq : Nat → Int32, hy_LI w sq j → wY_lay_3 post (w 0) (w 1) (w 2) (w 3) n (nI j) sub ks pr hs sq sf se mo pd) 4 0 (by omega)
    (fun n sq I => br_t (nI_le (a := 4) (b := 4) (Nat.le_refl _) (by decide)) (h _ (hy_LQ I)))
    (by
      intro n j _ hj ih sq I
      have e4 : 4 + nI j = nI (4 + j) := nI_add 4 j
      have e8 : 8 + nI j = nI (8 + j) := nI_add 8 j
      have e12 : 12 + nI j = nI (12 + j) := nI_add 12 j
      refine br_f (nI_ge (b := 4) hj (by decide)) (hy_by hj ⟨vp_in_nI (by omega) (by decide), ?_⟩)
      refine nm_r (e' := upd sq j (nI (hz_by (w 0) j))) (by rw [nI_clamp (by omega)]) (hy_by hj ⟨by rw [e4]; exact vp_in_nI (by omega) (by decide), ?_⟩)
      refine nm_r (e' := upd (upd sq j (nI (hz_by (w 0) j))) (4 + j) (nI (hz_by (w 1) j))) (by rw [e4, nI_clamp (by omega)]) (hy_by hj ⟨by rw [e8]; exact vp_in_nI (by omega) (by decide), ?_⟩)
      refine nm_r (e' := upd (upd (upd sq j (nI (hz_by (w 0) j))) (4 + j) (nI (hz_by (w 1) j))) (8 + j) (nI (hz_by (w 2) j))) (by rw [e8, nI_clamp (by omega)]) (hy_by hj ⟨by rw [e12]; exact vp_in_nI (by omega) (by decide), ?_⟩)
      refine nm_r (e' := upd (upd (upd (upd sq j (nI (hz_by (w 0) j))) (4 + j) (nI (hz_by (w 1) j))) (8 + j) (nI (hz_by (w 2) j))) (12 + j) (nI (hz_by (w 3) j))) (by rw [e12, nI_clamp (by omega)]) (nm_r (nI_1 j) ?_)
      exact ih _ (hy_Ls hj I))
  exact ⟨n, hn sq (fun i hi => absurd hi (by omega))⟩
theorem hy_jo {q : Int32 → Prop} (Q : hy_Q sq p) {c : Nat} (hc : c < 4) (h : q (ha_col p c)) : wpY_joined q (sub, ks, pr, hs, sq, sf, se, mo, pd) (nI c) := by
  have e0 : 4 * nI c = nI (4 * c) := pk_mul 4 c
  have e1 : 4 * nI c + 1 = nI (4 * c + 1) := by rw [e0, nI_1]
  have e2 : 4 * nI c + 2 = nI (4 * c + 2) := by rw [e0]; exact nI_add _ 2
  have e3 : 4 * nI c + 3 = nI (4 * c + 3) := by rw [e0]; exact nI_add _ 3
  refine ⟨by rw [e0]; exact vp_in_nI (by omega) (by decide), by rw [e1]; exact vp_in_nI (by omega) (by decide), by rw [e2]; exact vp_in_nI (by omega) (by decide), by rw [e3]; exact vp_in_nI (by omega) (by decide), ?_⟩
  rw [e1, e2, e3, e0, nI_clamp (by omega), nI_clamp (by omega), nI_clamp (by omega), nI_clamp (by omega), Q _ (by omega), Q _ (by omega), Q _ (by omega), Q _ (by omega)]
  exact h
/-- the square ahead of round r + 1 -/
def ha_ev (rk : Nat → Int32) (p : Nat → Nat) (r : Nat) : Nat → Nat := if r = 10 then ha_ef rk p else ha_en rk p r
theorem hy_ro (TS : ha_TS sub) (hB : ha_B p) (Q : hy_Q sq p) (h : ∀ sq' sf' : Nat → Int32, hy_Q sq' (ha_ef ks p) → post (sub, ks, pr, hs, sq', sf', se, mo, pd)) :
    wpY_rounds post (sub, ks, pr, hs, sq, sf, se, mo, pd) := by
  refine hy_ak (q := 0) (by decide) Q ?_
  intro sq0 Q0
  obtain ⟨n, hn⟩ := hz_up (fun n r => ∀ sq sf : Nat → Int32, hy_Q sq (ha_ev ks p r) → wY_rounds_7 post n (nI (r + 1)) sub ks pr hs sq sf se mo pd) 10 0 (by omega)
    (fun n sq sf Q => br_t (nI_lt (a := 10) (b := 11) (by decide) (by decide)) (h _ _ Q))
    (by
      intro n r _ hr ih sq sf Q
      have Q1 : hy_Q sq (ha_en ks p r) := by
        unfold ha_ev at Q
        rw [if_neg (by omega)] at Q
        exact Q
      have B1 := ha_Ben (rk := ks) hB r
      refine br_f (nI_nlt (a := 10) (b := r + 1) (by omega) (by decide)) (hy_ra TS B1 Q1 ?_)
      intro sq2 Q2
      refine hy_sh Q2 ?_
      intro sq3 sf3 Q3
      refine pk_le 10 (r + 1) (fun h10 => ?_) (fun h10 => ?_)
      · have e9 : r = 9 := by omega
        subst e9
        refine hy_ak (q := 10) (by decide) Q3 ?_
        intro sq4 Q4
        exact nm_r (nI_1 10) (ih _ _ Q4)
      · refine hy_mc (ha_Bsh (ha_Bsb B1)) Q3 ?_
        intro sq4 sf4 Q4
        refine hy_ak (q := r + 1) (by omega) Q4 ?_
        intro sq5 Q5
        refine nm_r (nI_1 (r + 1)) (ih _ _ ?_)
        unfold ha_ev
        rw [if_neg (by omega)]
        exact Q5)
  exact ⟨n, hn _ _ Q0⟩
/-- the square ahead of key r on the way back -/
def ha_yv (rk : Nat → Int32) (p : Nat → Nat) (r : Nat) : Nat → Nat := if r = 10 then p else ha_rs (ha_s3 (ha_de rk p (9 - r)))
theorem hy_b38 {J : Int32 → (Nat → Int32) → (Nat → Int32) → (Nat → Int32) → (Nat → Int32) → (Nat → Int32) → (Nat → Int32) → (Nat → Int32) → (Nat → Int32) → (Nat → Int32) → Prop} {r : Nat}
    (TS : ha_TS sub) (hB : ha_B p) (Q : hy_Q sq p) (h : ∀ sq' sf' : Nat → Int32, hy_Q sq' (ha_rs (ha_s3 p)) → J (nI r) sub ks pr hs sq' sf' se mo pd) :
    ∃ n, wY_roundsBack_38 post J (nI (r + 1)) n 0 sub ks pr hs sq sf se mo pd := by
  refine ⟨4, br_f (nI_ge (a := 0) (b := 3) (by decide) (by decide)) (hy_sh Q (fun sq1 sf1 Q1 => nm_r (e' := nI 1) (nI_1 0) ?_))⟩
  refine br_f (nI_ge (a := 1) (b := 3) (by decide) (by decide)) (hy_sh Q1 (fun sq2 sf2 Q2 => nm_r (nI_1 1) ?_))
  refine br_f (nI_ge (a := 2) (b := 3) (by decide) (by decide)) (hy_sh Q2 (fun sq3 sf3 Q3 => nm_r (nI_1 2) ?_))
  refine br_t (nI_le (a := 3) (b := 3) (Nat.le_refl _) (by decide)) (hy_rs TS (ha_Bs3 hB) Q3 (fun sq4 Q4 => nm_r (pk_m1 r) (h _ _ Q4)))
theorem hy_rb (TS : ha_TS sub) (hB : ha_B p) (Q : hy_Q sq p) (h : ∀ sq' sf' : Nat → Int32, hy_Q sq' (ha_df ks p) → post (sub, ks, pr, hs, sq', sf', se, mo, pd)) :
    wpY_roundsBack post (sub, ks, pr, hs, sq, sf, se, mo, pd) := by
  obtain ⟨n, hn⟩ := hz_dn (fun n r => ∀ sq sf : Nat → Int32, hy_Q sq (ha_yv ks p r) → wY_roundsBack_3 post n (nI r) sub ks pr hs sq sf se mo pd) 10
    (by
      intro n sq sf Q
      refine br_t (nI_lt (a := 0) (b := 1) (by decide) (by decide)) (hy_ak (q := 0) (by decide) Q ?_)
      exact fun sq' Q' => h sq' sf Q')
    (by
      intro n r hr ih sq sf Q
      refine br_f (nI_nlt (a := r + 1) (b := 1) (by omega) (by omega)) (hy_ak (q := r + 1) (by omega) Q ?_)
      intro sq1 Q1
      have ih' : ∀ sq sf : Nat → Int32, hy_Q sq (ha_rs (ha_s3 (ha_de ks p (9 - r)))) → wY_roundsBack_3 post n (nI r) sub ks pr hs sq sf se mo pd := by
        intro sq sf Q
        refine ih sq sf ?_
        unfold ha_yv
        rw [if_neg (by omega)]
        exact Q
      by_cases e : r = 9
      · subst e
        refine ⟨1, br_f (nI_ge (a := 0) (b := 3) (by decide) (by decide)) (br_t (nI_le (a := 10) (b := 10) (Nat.le_refl _) (by decide)) ?_)⟩
        exact hy_b38 TS (ha_Bak hB) Q1 (fun sq' sf' Q' => ih' sq' sf' Q')
      · have e9 : 9 - r = 9 - (r + 1) + 1 := by omega
        have eq : 9 - (9 - (r + 1)) = r + 1 := by omega
        have Q2 : hy_Q sq1 (ha_ak ks (9 - (9 - (r + 1))) (ha_rs (ha_s3 (ha_de ks p (9 - (r + 1)))))) := by
          unfold ha_yv at Q1
          rw [if_neg (by omega)] at Q1
          rw [eq]
          exact Q1
        have B2 : ha_B (ha_ak ks (9 - (9 - (r + 1))) (ha_rs (ha_s3 (ha_de ks p (9 - (r + 1)))))) := ha_Bak (ha_Brs (ha_Bs3 (ha_Bde hB _)))
        rw [e9] at ih'
        have hn10 : ¬ (10 : Int32) ≤ nI (r + 1) := nI_ge (b := 10) (by omega) (by decide)
        refine ⟨4, br_f (nI_ge (a := 0) (b := 3) (by decide) (by decide)) (br_f hn10 (hy_mc B2 Q2 (fun sq2 sf2 Q3 => nm_r (e' := nI 1) (nI_1 0) ?_)))⟩
        refine br_f (nI_ge (a := 1) (b := 3) (by decide) (by decide)) (br_f hn10 (hy_mc (ha_Bmc B2) Q3 (fun sq3 sf3 Q4 => nm_r (nI_1 1) ?_)))
        refine br_f (nI_ge (a := 2) (b := 3) (by decide) (by decide)) (br_f hn10 (hy_mc (ha_Bmc (ha_Bmc B2)) Q4 (fun sq4 sf4 Q5 => nm_r (nI_1 2) ?_)))
        refine br_t (nI_le (a := 3) (b := 3) (Nat.le_refl _) (by decide)) ?_
        exact hy_b38 TS (ha_Bi3 B2) Q5 (fun sq' sf' Q' => ih' sq' sf' Q'))
  refine ⟨n, hn sq sf ?_⟩
  exact Q
theorem hy_enc (TS : ha_TS sub) (h : ∀ sq' sf' : Nat → Int32, post (sub, ks, hz_mp 4 (ha_col (ha_ef ks (ha_lay pr))) pr, hs, sq', sf', se, mo, pd)) :
    wpY_encrypt post (sub, ks, pr, hs, sq, sf, se, mo, pd) := by
  refine hy_lay (w := pr) (fun sq1 Q1 => hy_ro TS (ha_Blay pr) Q1 (fun sq2 sf2 Q2 => ?_))
  have h2 := hz_up (fun n c => wY_encrypt_34 post n (nI c) sub ks (hz_mp c (ha_col (ha_ef ks (ha_lay pr))) pr) hs sq2 sf2 se mo pd) 4 0 (by omega)
    (fun n => br_t (nI_le (a := 4) (b := 4) (Nat.le_refl _) (by decide)) (h _ _))
    (fun n c _ hc ih => br_f (nI_ge (b := 4) hc (by decide)) (hy_jo Q2 hc ⟨vp_in_nI hc (by decide),
      nm_r (e' := hz_mp (c + 1) (ha_col (ha_ef ks (ha_lay pr))) pr) (hz_st (nI_clamp (by omega)) rfl) (nm_r (nI_1 c) ih)⟩))
  rw [hz_mp0] at h2
  exact h2
theorem hy_dec (TS : ha_TS sub) (h : ∀ sq' sf' : Nat → Int32, post (sub, ks, hz_mp 4 (ha_col (ha_df ks (ha_lay pr))) pr, hs, sq', sf', se, mo, pd)) :
    wpY_decrypt post (sub, ks, pr, hs, sq, sf, se, mo, pd) := by
  refine hy_lay (w := pr) (fun sq1 Q1 => hy_rb TS (ha_Blay pr) Q1 (fun sq2 sf2 Q2 => ?_))
  have h2 := hz_up (fun n c => wY_decrypt_34 post n (nI c) sub ks (hz_mp c (ha_col (ha_df ks (ha_lay pr))) pr) hs sq2 sf2 se mo pd) 4 0 (by omega)
    (fun n => br_t (nI_le (a := 4) (b := 4) (Nat.le_refl _) (by decide)) (h _ _))
    (fun n c _ hc ih => br_f (nI_ge (b := 4) hc (by decide)) (hy_jo Q2 hc ⟨vp_in_nI hc (by decide),
      nm_r (e' := hz_mp (c + 1) (ha_col (ha_df ks (ha_lay pr))) pr) (hz_st (nI_clamp (by omega)) rfl) (nm_r (nI_1 c) ih)⟩))
  rw [hz_mp0] at h2
  exact h2
end
end
section
/-! the reference: the hash -/
theorem hy_zb (w : Int32) {k : Nat} (hk : k < 32) : (w >>> (nI k &&& 31)) &&& 1 = 1 ↔ bt w k = true := by
  rw [hg_1', b_sshr k hk w (by decide), if_pos (by omega), Nat.add_zero]
theorem hy_zs {i : Nat} (hi : i < 128) : (31 : Int32) - (nI i - nI i / 32 * 32) = nI (31 - i % 32) := by
  have e : nI i - nI i / 32 * 32 = nI (i % 32) := pk_rem (a := i) (d := 32) (by omega) (by decide) (by decide)
  rw [e]
  exact pk_sub (a := 31) (by omega)
theorem hy_zd {i : Nat} (hi : i < 128) : nI i / 32 = nI (i / 32) := pk_div (a := i) (d := 32) (by omega) (by decide) (by decide)
theorem hy_lay0 : ha_lay (fun _ => 0) = fun _ => 0 := by
  funext j
  exact hz_by0 _
section
variable {post : SY → Prop} {sub ks pr hs sq sf se mo pd : Nat → Int32}
theorem hy_m20 {xb : Int32} (hb : xb = 0 ↔ mo 3 &&& 1 = 0) (h : ∀ mo' : Nat → Int32, (∀ c, c < 4 → mo' c = hg_M mo c) → post (sub, ks, pr, hs, sq, sf, se, mo', pd)) :
    ∃ n, wY_moveBit_20 post xb n 3 sub ks pr hs sq sf se mo pd := by
  obtain ⟨n, hn⟩ := hz_dn (fun n c => ∀ mo' : Nat → Int32, (∀ j, j < 4 → mo' j = if c < j then hg_M mo j else mo j) → wY_moveBit_20 post xb n (nI c) sub ks pr hs sq sf se mo' pd) 3
    (by
      intro n mo' I
      have I0 : mo' 0 = mo 0 := (I 0 (by decide)).trans (if_neg (by omega))
      refine br_t (nI_le (a := 0) (b := 0) (Nat.le_refl _) (by decide)) (nm_e (br_c (fun hz => h _ ?_) (fun hz => nm_e (h _ ?_))))
      · intro c hc
        by_cases e : c = 0
        · subst e
          rw [pk_us, I0]
          show hg_u 1 (mo 0) = hg_u 1 (mo 0) ^^^ hg_e (mo 3)
          unfold hg_e
          rw [if_pos (hb.mp hz), Int32.xor_zero]
        · rw [pk_un e, I c hc, if_pos (by omega)]
      · intro c hc
        by_cases e : c = 0
        · subst e
          rw [pk_us, pk_us, I0]
          show hg_u 1 (mo 0) ^^^ hg_E = hg_u 1 (mo 0) ^^^ hg_e (mo 3)
          unfold hg_e
          rw [if_neg (fun z => hz (hb.mpr z))]
        · rw [pk_un e, pk_un e, I c hc, if_pos (by omega)])
    (by
      intro n c hc ih mo' I
      refine br_f (nI_nle (by omega) (by omega)) ⟨vp_in_nI (by omega) (by decide), by rw [nI_pred]; exact vp_in_nI (by omega) (by decide), vp_in_nI (by omega) (by decide), nm_e (nm_r (pk_m1 c) (ih _ ?_))⟩
      intro j hj
      rw [nI_pred, nI_clamp (by omega), nI_clamp (by omega)]
      by_cases e : j = c + 1
      · subst e
        rw [pk_us, I (c + 1) hj, if_neg (by omega), I c (by omega), if_neg (by omega), if_pos (by omega)]
        show _ = if c + 1 = 0 then _ else _
        rw [if_neg (by omega)]
        rfl
      · rw [pk_un e, I j hj]
        by_cases e2 : c < j
        · rw [if_pos e2, if_pos (by omega)]
        · rw [if_neg e2, if_neg (by omega)])
  exact ⟨n, hn mo (fun j hj => (if_neg (by omega)).symm)⟩
theorem hy_mb (h : ∀ mo' : Nat → Int32, (∀ c, c < 4 → mo' c = hg_M mo c) → post (sub, ks, pr, hs, sq, sf, se, mo', pd)) :
    wpY_moveBit post (sub, ks, pr, hs, sq, sf, se, mo, pd) := by
  refine br_c (fun e => hy_m20 ?_ h) (fun e => hy_m20 ?_ h)
  · rw [e]
  · refine ⟨fun _ => ?_, fun _ => rfl⟩
    rw [hg_1]
    rw [hg_1'] at e
    exact Bool.eq_false_iff.mpr e
theorem hy_134 {g : Nat → Int32} (G : ∀ c, c < 4 → pd c = g c) (h : ∀ hs' : Nat → Int32, (∀ c, c < 4 → hs' c = g c) → post (sub, ks, pr, hs', sq, sf, se, mo, pd)) :
    ∃ n, wY_absorb_134 post n 0 sub ks pr hs sq sf se mo pd := by
  obtain ⟨n, hn⟩ := hz_up (fun n c => wY_absorb_134 post n (nI c) sub ks pr (hz_mp c pd hs) sq sf se mo pd) 4 0 (by omega)
    (fun n => br_t (nI_le (a := 4) (b := 4) (Nat.le_refl _) (by decide)) (h _ (fun c hc => (hz_lt hc).trans (G c hc))))
    (fun n c _ hc ih => br_f (nI_ge (b := 4) hc (by decide)) ⟨vp_in_nI hc (by decide), vp_in_nI hc (by decide),
      nm_r (e' := hz_mp (c + 1) pd hs) (hz_st (nI_clamp (by omega)) (by rw [nI_clamp (by omega)])) (nm_r (nI_1 c) ih)⟩)
  rw [hz_mp0] at hn
  exact ⟨n, hn⟩
theorem hy_64 {z H : Nat → Int32} (Z : ∀ c, c < 4 → se c = z c) (M : ∀ c, c < 4 → mo c = H c) (P : ∀ c, c < 4 → pd c = 0)
    (h : ∀ hs' mo' pd' : Nat → Int32, (∀ c, c < 4 → hs' c = hg_G z H 128 c) → post (sub, ks, pr, hs', sq, sf, se, mo', pd')) :
    ∃ n, wY_absorb_64 post n 0 sub ks pr hs sq sf se mo pd := by
  obtain ⟨n, hn⟩ := hz_up (fun n i => ∀ mo pd : Nat → Int32, (∀ c, c < 4 → mo c = hg_I i H c) → (∀ c, c < 4 → pd c = hg_G z H i c) → wY_absorb_64 post n (nI i) sub ks pr hs sq sf se mo pd) 128 0 (by omega)
    (by
      intro n mo pd _ P
      refine br_t (nI_le (a := 128) (b := 128) (Nat.le_refl _) (by decide)) ?_
      exact hy_134 P (fun hs' e => h hs' mo pd e))
    (by
      intro n i _ hi ih mo pd M P
      refine br_f (nI_ge (b := 128) hi (by decide)) ?_
      have h2 := hz_up (fun m c => wY_absorb_73 post (wY_absorb_64 post n) (nI i) m (nI c) sub ks pr hs sq sf se mo (hz_mp c (fun c => pd c ^^^ hg_sel (hg_zb z i) mo c) pd)) 4 0 (by omega)
        (by
          intro m
          refine br_t (nI_le (a := 4) (b := 4) (Nat.le_refl _) (by decide)) (hy_mb ?_)
          intro mo' M'
          refine nm_r (nI_1 i) (ih _ _ ?_ ?_)
          · intro c hc
            rw [M' c hc]
            exact hg_Mc M c hc
          · intro c hc
            rw [hz_lt hc, P c hc]
            show hg_G z H i c ^^^ hg_sel (hg_zb z i) mo c = hg_G z H i c ^^^ hg_sel (hg_zb z i) (hg_I i H) c
            unfold hg_sel
            rw [M c hc])
        (by
          intro m c _ hc ih2
          have vc : vp_in (nI c) 4 := vp_in_nI hc (by decide)
          refine br_f (nI_ge (b := 4) hc (by decide)) ⟨by decide, by rw [hy_zd hi]; exact vp_in_nI (by omega) (by decide), by decide, ?_⟩
          rw [hy_zs hi, hy_zd hi, nI_clamp (n := i / 32) (by omega), Z _ (by omega)]
          refine ek_if (hy_zb _ (by omega)) (fun e => ⟨vc, vc, vc, ?_⟩) (fun e => ?_)
          · have e' : hg_zb z i = true := e
            refine nm_r (e' := hz_mp (c + 1) (fun c => pd c ^^^ hg_sel (hg_zb z i) mo c) pd) (hz_st (nI_clamp (by omega)) ?_) (nm_r (nI_1 c) ih2)
            rw [nI_clamp (by omega), hz_ge (Nat.le_refl _), e', hg_selt]
          · have e' : hg_zb z i = false := Bool.eq_false_iff.mpr e
            refine nm_r (nI_1 c) ?_
            rw [hz_mk (f := fun c => pd c ^^^ hg_sel (hg_zb z i) mo c) (by rw [e']; exact Int32.xor_zero)]
            exact ih2)
      rw [hz_mp0] at h2
      exact h2)
  exact ⟨n, hn mo pd M P⟩
theorem hy_ab (TS : ha_TS sub) {z : Nat → Int32} (Z : ∀ c, c < 4 → hs c ^^^ pr c = z c)
    (h : ∀ hs' sq' sf' se' mo' pd' : Nat → Int32, (∀ c, c < 4 → hs' c = hg_G z (hg_H ks) 128 c) → post (sub, ks, pr, hs', sq', sf', se', mo', pd')) :
    wpY_absorb post (sub, ks, pr, hs, sq, sf, se, mo, pd) := by
  refine hy_lay (w := fun _ => 0) ?_
  intro sq1 Q1
  rw [hy_lay0] at Q1
  refine hy_ro TS (p := fun _ => 0) (fun _ _ => Nat.zero_lt_succ 255) Q1 ?_
  intro sq2 sf2 Q2
  have h2 := hz_up (fun n c => wY_absorb_14 post n (nI c) sub ks pr hs sq2 sf2 (hz_mp c (fun c => hs c ^^^ pr c) se) (hz_mp c (hg_H ks) mo) (hz_mp c (fun _ => 0) pd)) 4 0 (by omega)
    (by
      intro n
      refine br_t (nI_le (a := 4) (b := 4) (Nat.le_refl _) (by decide)) ?_
      exact hy_64 (z := z) (H := hg_H ks) (fun c hc => (hz_lt hc).trans (Z c hc)) (fun c hc => hz_lt hc) (fun c hc => hz_lt hc) (fun hs' mo' pd' e => h hs' _ _ _ mo' pd' e))
    (by
      intro n c _ hc ih
      have vc : vp_in (nI c) 4 := vp_in_nI hc (by decide)
      refine br_f (nI_ge (b := 4) hc (by decide)) (hy_jo Q2 hc ⟨vc, ?_⟩)
      refine nm_r (e' := hz_mp (c + 1) (hg_H ks) mo) (hz_st (nI_clamp (by omega)) rfl) ⟨vc, vc, vc, ?_⟩
      refine nm_r (e' := hz_mp (c + 1) (fun c => hs c ^^^ pr c) se) (hz_st (nI_clamp (by omega)) (by rw [nI_clamp (by omega)])) ⟨vc, ?_⟩
      exact nm_r (e' := hz_mp (c + 1) (fun _ => 0) pd) (hz_st (nI_clamp (by omega)) rfl) (nm_r (nI_1 c) ih))
  rw [hz_mp0, hz_mp0, hz_mp0] at h2
  exact h2
theorem hy_re (h : post (sub, ks, pr, hz_mp 4 (fun _ => 0) hs, sq, sf, se, mo, pd)) : wpY_restart post (sub, ks, pr, hs, sq, sf, se, mo, pd) := by
  obtain ⟨n, hn⟩ := hz_up (fun n i => wY_restart_2 post n (nI i) sub ks pr (hz_mp i (fun _ => 0) hs) sq sf se mo pd) 4 0 (by omega)
    (fun n => br_t (nI_le (a := 4) (b := 4) (Nat.le_refl _) (by decide)) h)
    (fun n i _ hi ih => br_f (nI_ge (b := 4) hi (by decide)) ⟨vp_in_nI hi (by decide),
      nm_r (e' := hz_mp (i + 1) (fun _ => 0) hs) (hz_st (nI_clamp (by omega)) rfl) (nm_r (nI_1 i) ih)⟩)
  rw [hz_mp0] at hn
  exact ⟨n, hn⟩
end
end
section
/-! the relation, and what is owed -/
def i_Rel (_ : Nat) (u : SX) (v : SY) : Prop := match u, v with
  | (sub, res, fw, bw, rk, tk, pr, sm, _, _, mu, fa), (sub2, ks, pr2, hs, _, _, _, _, _) =>
    (ha_TS sub ∧ ha_TR res ∧ ha_TF fw ∧ ha_TB bw ∧ ha_TL fa) ∧ ha_TS sub2 ∧ (ha_TK rk tk ∧ hg_MU mu (hg_H rk)) ∧ ks = rk ∧ pr2 = pr ∧ (∀ c, c < 4 → hs c = sm c)
theorem i_up {k : Nat} {u : SX} {v : SY} (h : i_Rel k u v) : i_Rel (k + 5) u v := h
theorem i_vc0 : wpX_init (fun u => wpY_init (fun v => i_Rel 0 u v)) := by
  unfold wpX_init
  refine hx_bs (fun sub res TS TR => ?_)
  refine hx_bm TS TR (fun fw bw TF TB => ?_)
  refine hx_bf (fun fa TL => ?_)
  refine hx_key TS TF TB (fun tk st fr mu TK MU => ?_)
  refine hy_init (fun sub2 TS2 => ?_)
  exact ⟨⟨TS, TR, TF, TB, TL⟩, TS2, ⟨TK, MU⟩, rfl, rfl, fun _ _ => rfl⟩
theorem i_vc_key {k : Nat} {u : SX} {v : SY} (I : i_Rel k u v) (hk : k + 5 ≤ 2560) (v1 : Int32) (v2 : Int32) (v3 : Int32) (v4 : Int32) : wpX_key (fun u' => wpY_key (fun v' => i_Rel (k + 5) u' v') v v1 v2 v3 v4) u v1 v2 v3 v4 := by
  obtain ⟨sub, res, fw, bw, rk, tk, pr, sm, st, fr, mu, fa⟩ := u
  obtain ⟨sub2, ks, pr2, hs, sq, sf, se, mo, pd⟩ := v
  obtain ⟨⟨TS, TR, TF, TB, TL⟩, TS2, _, rfl, rfl, E⟩ := I
  refine hx_key TS TF TB (fun tk st fr mu TK MU => ?_)
  refine hy_key TS2 ?_
  exact ⟨⟨TS, TR, TF, TB, TL⟩, TS2, ⟨TK, MU⟩, rfl, rfl, E⟩
theorem i_vc_block {k : Nat} {u : SX} {v : SY} (I : i_Rel k u v) (hk : k + 5 ≤ 2560) (v1 : Int32) (v2 : Int32) (v3 : Int32) (v4 : Int32) : wpX_block (fun u' => wpY_block (fun v' => i_Rel (k + 5) u' v') v v1 v2 v3 v4) u v1 v2 v3 v4 := by
  obtain ⟨sub, res, fw, bw, rk, tk, pr, sm, st, fr, mu, fa⟩ := u
  obtain ⟨sub2, ks, pr2, hs, sq, sf, se, mo, pd⟩ := v
  obtain ⟨T, TS2, K, rfl, rfl, E⟩ := I
  refine nm_e (nm_e (nm_e (nm_e ?_)))
  refine nm_e (nm_e (nm_e (nm_e ?_)))
  exact ⟨T, TS2, K, rfl, rfl, E⟩
theorem ho_m4 (a : Nat → Int32) (v1 v2 v3 v4 : Int32) :
    upd (upd (upd (upd a 0 (a 0 ^^^ v1)) 1 (upd a 0 (a 0 ^^^ v1) 1 ^^^ v2)) 2 (upd (upd a 0 (a 0 ^^^ v1)) 1 (upd a 0 (a 0 ^^^ v1) 1 ^^^ v2) 2 ^^^ v3)) 3 (upd (upd (upd a 0 (a 0 ^^^ v1)) 1 (upd a 0 (a 0 ^^^ v1) 1 ^^^ v2)) 2 (upd (upd a 0 (a 0 ^^^ v1)) 1 (upd a 0 (a 0 ^^^ v1) 1 ^^^ v2) 2 ^^^ v3) 3 ^^^ v4)
      = upd (upd (upd (upd a 0 (a 0 ^^^ v1)) 1 (a 1 ^^^ v2)) 2 (a 2 ^^^ v3)) 3 (a 3 ^^^ v4) := by
  rw [pk_un (j := 1) (k := 0) (by decide), pk_un (j := 2) (k := 1) (by decide), pk_un (j := 2) (k := 0) (by decide), pk_un (j := 3) (k := 2) (by decide), pk_un (j := 3) (k := 1) (by decide), pk_un (j := 3) (k := 0) (by decide)]
theorem i_vc_mix {k : Nat} {u : SX} {v : SY} (I : i_Rel k u v) (hk : k + 5 ≤ 2560) (v1 : Int32) (v2 : Int32) (v3 : Int32) (v4 : Int32) : wpX_mix (fun u' => wpY_mix (fun v' => i_Rel (k + 5) u' v') v v1 v2 v3 v4) u v1 v2 v3 v4 := by
  obtain ⟨sub, res, fw, bw, rk, tk, pr, sm, st, fr, mu, fa⟩ := u
  obtain ⟨sub2, ks, pr2, hs, sq, sf, se, mo, pd⟩ := v
  obtain ⟨T, TS2, K, rfl, rfl, E⟩ := I
  refine nm_e (nm_e (nm_e (nm_e ?_)))
  refine nm_e (nm_e (nm_e (nm_e ?_)))
  exact ⟨T, TS2, K, rfl, (ho_m4 _ v1 v2 v3 v4).symm, E⟩
theorem i_vc_encrypt {k : Nat} {u : SX} {v : SY} (I : i_Rel k u v) (hk : k + 5 ≤ 2560) : wpX_encrypt (fun u' => wpY_encrypt (fun v' => i_Rel (k + 5) u' v') v) u := by
  obtain ⟨sub, res, fw, bw, rk, tk, pr, sm, st, fr, mu, fa⟩ := u
  obtain ⟨sub2, ks, pr2, hs, sq, sf, se, mo, pd⟩ := v
  obtain ⟨⟨TS, TR, TF, TB, TL⟩, TS2, K, rfl, rfl, E⟩ := I
  refine hx_tp (hx_rf (p := ha_lay pr2) TS TF (ha_Blay pr2) (fun c hc => (hz_lt hc).trans (ha_clay pr2 c hc)) (fun st' fr' W => hx_gp ?_))
  refine hy_enc TS2 (fun sq' sf' => ?_)
  exact ⟨⟨TS, TR, TF, TB, TL⟩, TS2, K, rfl, hz_mpc (fun c hc => (W c hc).symm), E⟩
theorem i_vc_decrypt {k : Nat} {u : SX} {v : SY} (I : i_Rel k u v) (hk : k + 5 ≤ 2560) : wpX_decrypt (fun u' => wpY_decrypt (fun v' => i_Rel (k + 5) u' v') v) u := by
  obtain ⟨sub, res, fw, bw, rk, tk, pr, sm, st, fr, mu, fa⟩ := u
  obtain ⟨sub2, ks, pr2, hs, sq, sf, se, mo, pd⟩ := v
  obtain ⟨⟨TS, TR, TF, TB, TL⟩, TS2, K, rfl, rfl, E⟩ := I
  refine hx_tp (hx_rb (p := ha_lay pr2) TR TB K.1 (ha_Blay pr2) (fun c hc => (hz_lt hc).trans (ha_clay pr2 c hc)) (fun st' fr' W => hx_gp ?_))
  refine hy_dec TS2 (fun sq' sf' => ?_)
  exact ⟨⟨TS, TR, TF, TB, TL⟩, TS2, K, rfl, hz_mpc (fun c hc => (W c hc).symm), E⟩
theorem i_vc_next {k : Nat} {u : SX} {v : SY} (I : i_Rel k u v) (hk : k + 5 ≤ 2560) : wpX_next (fun u' => wpY_next (fun v' => i_Rel (k + 5) u' v') v) u := by
  obtain ⟨sub, res, fw, bw, rk, tk, pr, sm, st, fr, mu, fa⟩ := u
  obtain ⟨sub2, ks, pr2, hs, sq, sf, se, mo, pd⟩ := v
  obtain ⟨T, TS2, K, rfl, rfl, E⟩ := I
  refine nm_e (nm_e ?_)
  exact ⟨T, TS2, K, rfl, rfl, E⟩
theorem i_vc_word {k : Nat} {u : SX} {v : SY} (I : i_Rel k u v) (hk : k + 5 ≤ 2560) (v1 : Int32) : wpX_word (fun r => wpY_word (fun r' => r' = r ∧ i_Rel (k + 5) u v) v v1) u v1 := by
  obtain ⟨sub, res, fw, bw, rk, tk, pr, sm, st, fr, mu, fa⟩ := u
  obtain ⟨sub2, ks, pr2, hs, sq, sf, se, mo, pd⟩ := v
  obtain ⟨T, TS2, K, rfl, rfl, E⟩ := I
  have hv : vp_in (v1 &&& 3) 4 := pk_andIn v1 2 (by decide) (by decide)
  exact ⟨hv, hv, rfl, T, TS2, K, rfl, rfl, E⟩
theorem i_vc_absorb {k : Nat} {u : SX} {v : SY} (I : i_Rel k u v) (hk : k + 5 ≤ 2560) : wpX_absorb (fun u' => wpY_absorb (fun v' => i_Rel (k + 5) u' v') v) u := by
  obtain ⟨sub, res, fw, bw, rk, tk, pr, sm, st, fr, mu, fa⟩ := u
  obtain ⟨sub2, ks, pr2, hs, sq, sf, se, mo, pd⟩ := v
  obtain ⟨⟨TS, TR, TF, TB, TL⟩, TS2, K, rfl, rfl, E⟩ := I
  refine hx_ab TL K.2 (fun sm' st' S => ?_)
  refine hy_ab TS2 (z := fun c => sm c ^^^ pr2 c) (fun c hc => by rw [E c hc]) (fun hs' sq' sf' se' mo' pd' S2 => ?_)
  exact ⟨⟨TS, TR, TF, TB, TL⟩, TS2, K, rfl, rfl, fun c hc => (S2 c hc).trans (S c hc).symm⟩
theorem i_vc_restart {k : Nat} {u : SX} {v : SY} (I : i_Rel k u v) (hk : k + 5 ≤ 2560) : wpX_restart (fun u' => wpY_restart (fun v' => i_Rel (k + 5) u' v') v) u := by
  obtain ⟨sub, res, fw, bw, rk, tk, pr, sm, st, fr, mu, fa⟩ := u
  obtain ⟨sub2, ks, pr2, hs, sq, sf, se, mo, pd⟩ := v
  obtain ⟨T, TS2, K, rfl, rfl, E⟩ := I
  refine hx_re (hy_re ?_)
  exact ⟨T, TS2, K, rfl, rfl, fun c hc => (hz_lt (f := fun _ => 0) hc).trans (hz_lt (f := fun _ => 0) hc).symm⟩
theorem i_vc_hash {k : Nat} {u : SX} {v : SY} (I : i_Rel k u v) (hk : k + 5 ≤ 2560) (v1 : Int32) : wpX_hash (fun r => wpY_hash (fun r' => r' = r ∧ i_Rel (k + 5) u v) v v1) u v1 := by
  obtain ⟨sub, res, fw, bw, rk, tk, pr, sm, st, fr, mu, fa⟩ := u
  obtain ⟨sub2, ks, pr2, hs, sq, sf, se, mo, pd⟩ := v
  obtain ⟨T, TS2, K, rfl, rfl, E⟩ := I
  obtain ⟨j, hj, e⟩ := pk_andE v1 (m := 3) 2 (by decide)
  have hv : vp_in (v1 &&& 3) 4 := by rw [e]; exact vp_in_nI hj (by decide)
  refine ⟨hv, hv, ?_, T, TS2, K, rfl, rfl, E⟩
  rw [e, nI_clamp (Nat.lt_trans hj (by decide))]
  exact E j hj
theorem ho_in (x c : Int32) (r : Nat) (hr : r < 11) (hx : x = nI r) : vp_in (4 * x + (c &&& 3)) 44 := by
  obtain ⟨j, hj, e⟩ := pk_andE c (m := 3) 2 (by decide)
  rw [e, hx, hx_q]
  have hj4 : j < 4 := hj
  exact vp_in_nI (by omega) (by decide)
theorem ho_11 (x : Int32) : (0 ≤ x - x / 11 * 11 → ∃ r, r < 11 ∧ x - x / 11 * 11 = nI r) ∧ (¬ 0 ≤ x - x / 11 * 11 → ∃ r, r < 11 ∧ x - x / 11 * 11 + 11 = nI r) := by
  have t1 : (x - x / 11 * 11).toInt = x.toInt.tmod 11 := rem_toInt x 11
  have t2 := tmod_bounds (a := x.toInt) (M := 11) (by decide)
  rw [← t1] at t2
  have e11 : (11 : Int32).toInt = 11 := by decide
  generalize x - x / 11 * 11 = t at t2 ⊢
  constructor
  · intro h
    obtain ⟨j, hj, rfl⟩ := nI_of (x := t) (Int32.not_lt.mpr h)
    rw [nI_toInt hj] at t2
    exact ⟨j, by omega, rfl⟩
  · intro h
    have h0 : t.toInt < 0 := by
      rw [Int32.le_iff_toInt_le, show (0 : Int32).toInt = 0 from by decide] at h
      omega
    have e : (t + 11).toInt = t.toInt + 11 := by rw [Jvm.Kit.i32_add (by omega) (by omega), e11]
    obtain ⟨j, hj, e2⟩ := nI_of (x := t + 11) (by
      rw [Int32.lt_iff_toInt_lt, show (0 : Int32).toInt = 0 from by decide, e]
      omega)
    rw [e2, nI_toInt hj] at e
    exact ⟨j, by omega, e2⟩
theorem i_vc_roundKey {k : Nat} {u : SX} {v : SY} (I : i_Rel k u v) (hk : k + 5 ≤ 2560) (v1 : Int32) (v2 : Int32) : wpX_roundKey (fun r => wpY_roundKey (fun r' => r' = r ∧ i_Rel (k + 5) u v) v v1 v2) u v1 v2 := by
  obtain ⟨sub, res, fw, bw, rk, tk, pr, sm, st, fr, mu, fa⟩ := u
  obtain ⟨sub2, ks, pr2, hs, sq, sf, se, mo, pd⟩ := v
  obtain ⟨T, TS2, K, rfl, rfl, E⟩ := I
  obtain ⟨hp, hn⟩ := ho_11 v1
  refine ⟨by decide, nm_e (br_c (fun h0 => ?_) (fun h0 => nm_e ?_))⟩
  · obtain ⟨r, hr, e⟩ := hp h0
    have hv := ho_in _ v2 r hr e
    refine ⟨hv, ?_⟩
    refine ⟨by decide, nm_e (br_t h0 ⟨hv, rfl, T, TS2, K, rfl, rfl, E⟩)⟩
  · obtain ⟨r, hr, e⟩ := hn h0
    have hv := ho_in _ v2 r hr e
    refine ⟨hv, ?_⟩
    refine ⟨by decide, nm_e (br_f h0 (nm_e ⟨hv, rfl, T, TS2, K, rfl, rfl, E⟩))⟩
end
